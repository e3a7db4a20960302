section
-- ===== PART A: goes FIRST, ahead of the names: the tables' words, and 'selects' of the private methods out of them =====
/-- a private method of a class that the tables say can be made, by its rows of tables_1 -/
def lw_okq (q : MethodName × Nat) : Prop := (q.1.cls ≠ "java/lang/invoke/MethodHandle" ∧ q.1.cls ≠ "java/lang/invoke/VarHandle") ∧ Cond.instantiable q.1.cls q.2 ∈ tables_1 ∧ Cond.privateMethod q.1 ∈ tables_1 ∧ Cond.instanceMethod q.1 ∈ tables_1
theorem lw_p0 : lw_okq (⟨"VoucherOffice", "made", "(II)LVoucherOffice$Paper;"⟩, 7) := ⟨⟨by decide +kernel, by decide +kernel⟩, List.mem_of_getElem? (i := 12) (by decide +kernel), List.mem_of_getElem? (i := 52) (by decide +kernel), List.mem_of_getElem? (i := 53) (by decide +kernel)⟩
theorem lw_p1 : lw_okq (⟨"VoucherOffice", "at", "(I)LVoucherOffice$Paper;"⟩, 7) := ⟨⟨by decide +kernel, by decide +kernel⟩, List.mem_of_getElem? (i := 12) (by decide +kernel), List.mem_of_getElem? (i := 174) (by decide +kernel), List.mem_of_getElem? (i := 175) (by decide +kernel)⟩
theorem lw_p2 : lw_okq (⟨"VoucherOffice", "leftOfAll", "()I"⟩, 7) := ⟨⟨by decide +kernel, by decide +kernel⟩, List.mem_of_getElem? (i := 12) (by decide +kernel), List.mem_of_getElem? (i := 417) (by decide +kernel), List.mem_of_getElem? (i := 418) (by decide +kernel)⟩
theorem lw_p3 : lw_okq (⟨"VoucherOfficeModel", "isThere", "(I)Z"⟩, 13) := ⟨⟨by decide +kernel, by decide +kernel⟩, List.mem_of_getElem? (i := 421) (by decide +kernel), List.mem_of_getElem? (i := 485) (by decide +kernel), List.mem_of_getElem? (i := 486) (by decide +kernel)⟩
theorem lw_p4 : lw_okq (⟨"VoucherOfficeModel", "valueOf", "(II)I"⟩, 13) := ⟨⟨by decide +kernel, by decide +kernel⟩, List.mem_of_getElem? (i := 421) (by decide +kernel), List.mem_of_getElem? (i := 489) (by decide +kernel), List.mem_of_getElem? (i := 490) (by decide +kernel)⟩
theorem lw_p5 : lw_okq (⟨"VoucherOfficeModel", "isDated", "(I)Z"⟩, 13) := ⟨⟨by decide +kernel, by decide +kernel⟩, List.mem_of_getElem? (i := 421) (by decide +kernel), List.mem_of_getElem? (i := 493) (by decide +kernel), List.mem_of_getElem? (i := 494) (by decide +kernel)⟩
theorem lw_p6 : lw_okq (⟨"VoucherOfficeModel", "lastDay", "(I)I"⟩, 13) := ⟨⟨by decide +kernel, by decide +kernel⟩, List.mem_of_getElem? (i := 421) (by decide +kernel), List.mem_of_getElem? (i := 497) (by decide +kernel), List.mem_of_getElem? (i := 498) (by decide +kernel)⟩
theorem lw_p7 : lw_okq (⟨"VoucherOfficeModel", "hasPoints", "(I)Z"⟩, 13) := ⟨⟨by decide +kernel, by decide +kernel⟩, List.mem_of_getElem? (i := 421) (by decide +kernel), List.mem_of_getElem? (i := 501) (by decide +kernel), List.mem_of_getElem? (i := 502) (by decide +kernel)⟩
theorem lw_p8 : lw_okq (⟨"VoucherOfficeModel", "feeOf", "(II)I"⟩, 13) := ⟨⟨by decide +kernel, by decide +kernel⟩, List.mem_of_getElem? (i := 421) (by decide +kernel), List.mem_of_getElem? (i := 509) (by decide +kernel), List.mem_of_getElem? (i := 510) (by decide +kernel)⟩
theorem lw_p9 : lw_okq (⟨"VoucherOfficeModel", "sealOf", "(I)I"⟩, 13) := ⟨⟨by decide +kernel, by decide +kernel⟩, List.mem_of_getElem? (i := 421) (by decide +kernel), List.mem_of_getElem? (i := 521) (by decide +kernel), List.mem_of_getElem? (i := 522) (by decide +kernel)⟩
theorem lw_p10 : lw_okq (⟨"VoucherOfficeModel", "leftOfAll", "()I"⟩, 13) := ⟨⟨by decide +kernel, by decide +kernel⟩, List.mem_of_getElem? (i := 421) (by decide +kernel), List.mem_of_getElem? (i := 553) (by decide +kernel), List.mem_of_getElem? (i := 554) (by decide +kernel)⟩
def lw_privs_1 : List (MethodName × Nat) := [(⟨"VoucherOffice", "made", "(II)LVoucherOffice$Paper;"⟩, 7), (⟨"VoucherOffice", "at", "(I)LVoucherOffice$Paper;"⟩, 7), (⟨"VoucherOffice", "leftOfAll", "()I"⟩, 7), (⟨"VoucherOfficeModel", "isThere", "(I)Z"⟩, 13), (⟨"VoucherOfficeModel", "valueOf", "(II)I"⟩, 13), (⟨"VoucherOfficeModel", "isDated", "(I)Z"⟩, 13), (⟨"VoucherOfficeModel", "lastDay", "(I)I"⟩, 13), (⟨"VoucherOfficeModel", "hasPoints", "(I)Z"⟩, 13), (⟨"VoucherOfficeModel", "feeOf", "(II)I"⟩, 13), (⟨"VoucherOfficeModel", "sealOf", "(I)I"⟩, 13), (⟨"VoucherOfficeModel", "leftOfAll", "()I"⟩, 13)]
theorem lw_r1 : ∀ q ∈ lw_privs_1, lw_okq q := List.forall_mem_cons.mpr ⟨lw_p0, List.forall_mem_cons.mpr ⟨lw_p1, List.forall_mem_cons.mpr ⟨lw_p2, List.forall_mem_cons.mpr ⟨lw_p3, List.forall_mem_cons.mpr ⟨lw_p4, List.forall_mem_cons.mpr ⟨lw_p5, List.forall_mem_cons.mpr ⟨lw_p6, List.forall_mem_cons.mpr ⟨lw_p7, List.forall_mem_cons.mpr ⟨lw_p8, List.forall_mem_cons.mpr ⟨lw_p9, List.forall_mem_cons.mpr ⟨lw_p10, fun _ h => absurd h List.not_mem_nil⟩⟩⟩⟩⟩⟩⟩⟩⟩⟩⟩
def lw_privs : List (MethodName × Nat) := lw_privs_1
def lw_tbl : List Cond := k2_sels lw_privs ++ tables_1
theorem lw_privs_ok : ∀ q ∈ lw_privs, lw_okq q := lw_r1
def gw : List Cond := lw_tbl.filter goodWord
theorem gw_good {w : Cond} (h : w ∈ gw) : goodWord w = true := (List.mem_filter.mp h).2
theorem gw_tbl {w : Cond} (h : w ∈ gw) : w ∈ lw_tbl := (List.mem_filter.mp h).1
theorem gw_in {w : Cond} (h : w ∈ lw_tbl) (hg : goodWord w = true) : w ∈ gw := List.mem_filter.mpr ⟨h, hg⟩
theorem tb_in {w : Cond} (h : w ∈ tables_1) : w ∈ lw_tbl := List.mem_append_right _ h
theorem tb_1 {w : Cond} (h : w ∈ tables_1_1) : w ∈ lw_tbl := tb_in (List.mem_append_left _ h)
theorem tb_2 {w : Cond} (h : w ∈ tables_1_2) : w ∈ lw_tbl := tb_in (List.mem_append_right _ (List.mem_append_left _ h))
theorem tb_3 {w : Cond} (h : w ∈ tables_1_3) : w ∈ lw_tbl := tb_in (List.mem_append_right _ (List.mem_append_right _ h))
-- methods: names and bytes
abbrev y_Of_init : MethodName := ⟨"VoucherOffice", "<init>", "()V"⟩
abbrev b_Of_init : ByteArray := prog_1_method_1_code
abbrev y_Obj_init : MethodName := ⟨"java/lang/Object", "<init>", "()V"⟩
abbrev b_Obj_init : ByteArray := object_method_1_code
abbrev y_Of_issue : MethodName := ⟨"VoucherOffice", "issue", "(II)I"⟩
abbrev b_Of_issue : ByteArray := prog_1_method_5_code
abbrev y_Of_isIn : MethodName := ⟨"VoucherOffice", "isIn", "(III)Z"⟩
abbrev b_Of_isIn : ByteArray := prog_1_method_2_code
abbrev y_Of_made : MethodName := ⟨"VoucherOffice", "made", "(II)LVoucherOffice$Paper;"⟩
abbrev b_Of_made : ByteArray := prog_1_method_4_code
abbrev y_Pa_init : MethodName := ⟨"VoucherOffice$Paper", "<init>", "(III)V"⟩
abbrev b_Pa_init : ByteArray := prog_7_method_1_code
abbrev y_Gi_init : MethodName := ⟨"VoucherOffice$Gift", "<init>", "(III)V"⟩
abbrev b_Gi_init : ByteArray := prog_5_method_1_code
abbrev y_Se_init : MethodName := ⟨"VoucherOffice$Season", "<init>", "(III)V"⟩
abbrev b_Se_init : ByteArray := prog_10_method_1_code
abbrev y_St_init : MethodName := ⟨"VoucherOffice$Staff", "<init>", "(III)V"⟩
abbrev b_St_init : ByteArray := prog_11_method_1_code
abbrev y_Ro_init : MethodName := ⟨"VoucherOffice$Rounded", "<init>", "(III)V"⟩
abbrev b_Ro_init : ByteArray := prog_8_method_1_code
abbrev y_Cl_init : MethodName := ⟨"VoucherOffice$Club", "<init>", "(III)V"⟩
abbrev b_Cl_init : ByteArray := prog_2_method_1_code
abbrev y_Ho_init : MethodName := ⟨"VoucherOffice$House", "<init>", "(III)V"⟩
abbrev b_Ho_init : ByteArray := prog_6_method_1_code
abbrev y_Cr_init : MethodName := ⟨"VoucherOffice$Crest", "<init>", "(III)V"⟩
abbrev b_Cr_init : ByteArray := prog_3_method_1_code
abbrev y_Of_pass : MethodName := ⟨"VoucherOffice", "pass", "(I)I"⟩
abbrev b_Of_pass : ByteArray := prog_1_method_6_code
abbrev y_Of_value : MethodName := ⟨"VoucherOffice", "value", "(II)I"⟩
abbrev b_Of_value : ByteArray := prog_1_method_7_code
abbrev y_Of_at : MethodName := ⟨"VoucherOffice", "at", "(I)LVoucherOffice$Paper;"⟩
abbrev b_Of_at : ByteArray := prog_1_method_3_code
abbrev y_Ro_worth : MethodName := ⟨"VoucherOffice$Rounded", "worth", "(I)I"⟩
abbrev b_Ro_worth : ByteArray := prog_8_method_2_code
abbrev y_Cr_worth : MethodName := ⟨"VoucherOffice$Crest", "worth", "(I)I"⟩
abbrev b_Cr_worth : ByteArray := prog_3_method_2_code
abbrev y_Ho_worth : MethodName := ⟨"VoucherOffice$House", "worth", "(I)I"⟩
abbrev b_Ho_worth : ByteArray := prog_6_method_3_code
abbrev y_Se_worth : MethodName := ⟨"VoucherOffice$Season", "worth", "(I)I"⟩
abbrev b_Se_worth : ByteArray := prog_10_method_3_code
abbrev y_Da_isOver : MethodName := ⟨"VoucherOffice$Dated", "isOver", "(I)Z"⟩
abbrev b_Da_isOver : ByteArray := prog_4_method_2_code
abbrev y_Se_lastDay : MethodName := ⟨"VoucherOffice$Season", "lastDay", "()I"⟩
abbrev b_Se_lastDay : ByteArray := prog_10_method_2_code
abbrev y_St_lastDay : MethodName := ⟨"VoucherOffice$Staff", "lastDay", "()I"⟩
abbrev b_St_lastDay : ByteArray := prog_11_method_2_code
abbrev y_St_worth : MethodName := ⟨"VoucherOffice$Staff", "worth", "(I)I"⟩
abbrev b_St_worth : ByteArray := prog_11_method_3_code
abbrev y_Pa_worth : MethodName := ⟨"VoucherOffice$Paper", "worth", "(I)I"⟩
abbrev b_Pa_worth : ByteArray := prog_7_method_2_code
abbrev y_Of_fee : MethodName := ⟨"VoucherOffice", "fee", "(II)I"⟩
abbrev b_Of_fee : ByteArray := prog_1_method_8_code
abbrev y_Cr_fee : MethodName := ⟨"VoucherOffice$Crest", "fee", "(I)I"⟩
abbrev b_Cr_fee : ByteArray := prog_3_method_3_code
abbrev y_Ho_points : MethodName := ⟨"VoucherOffice$House", "points", "()I"⟩
abbrev b_Ho_points : ByteArray := prog_6_method_2_code
abbrev y_Pa_points : MethodName := ⟨"VoucherOffice$Paper", "points", "()I"⟩
abbrev b_Pa_points : ByteArray := prog_7_method_7_code
abbrev y_St_fee : MethodName := ⟨"VoucherOffice$Staff", "fee", "(I)I"⟩
abbrev b_St_fee : ByteArray := prog_11_method_4_code
abbrev y_Pa_fee : MethodName := ⟨"VoucherOffice$Paper", "fee", "(I)I"⟩
abbrev b_Pa_fee : ByteArray := prog_7_method_3_code
abbrev y_Of_spend : MethodName := ⟨"VoucherOffice", "spend", "(II)I"⟩
abbrev b_Of_spend : ByteArray := prog_1_method_9_code
abbrev y_Ho_spend : MethodName := ⟨"VoucherOffice$House", "spend", "(II)I"⟩
abbrev b_Ho_spend : ByteArray := prog_6_method_4_code
abbrev y_St_spend : MethodName := ⟨"VoucherOffice$Staff", "spend", "(II)I"⟩
abbrev b_St_spend : ByteArray := prog_11_method_5_code
abbrev y_Pa_spend : MethodName := ⟨"VoucherOffice$Paper", "spend", "(II)I"⟩
abbrev b_Pa_spend : ByteArray := prog_7_method_4_code
abbrev y_Of_seal : MethodName := ⟨"VoucherOffice", "seal", "(I)I"⟩
abbrev b_Of_seal : ByteArray := prog_1_method_10_code
abbrev y_Cr_seal : MethodName := ⟨"VoucherOffice$Crest", "seal", "()I"⟩
abbrev b_Cr_seal : ByteArray := prog_3_method_4_code
abbrev y_Se_seal : MethodName := ⟨"VoucherOffice$Season", "seal", "()I"⟩
abbrev b_Se_seal : ByteArray := prog_10_method_4_code
abbrev y_Pa_seal : MethodName := ⟨"VoucherOffice$Paper", "seal", "()I"⟩
abbrev b_Pa_seal : ByteArray := prog_7_method_5_code
abbrev y_Of_mark : MethodName := ⟨"VoucherOffice", "mark", "(II)I"⟩
abbrev b_Of_mark : ByteArray := prog_1_method_11_code
abbrev y_Sl_mark : MethodName := ⟨"VoucherOffice$Sealed", "mark", "(I)I"⟩
abbrev b_Sl_mark : ByteArray := prog_9_method_2_code
abbrev y_Of_daysLeft : MethodName := ⟨"VoucherOffice", "daysLeft", "(II)I"⟩
abbrev b_Of_daysLeft : ByteArray := prog_1_method_12_code
abbrev y_Da_daysLeft : MethodName := ⟨"VoucherOffice$Dated", "daysLeft", "(I)I"⟩
abbrev b_Da_daysLeft : ByteArray := prog_4_method_3_code
abbrev y_Of_lapse : MethodName := ⟨"VoucherOffice", "lapse", "()I"⟩
abbrev b_Of_lapse : ByteArray := prog_1_method_13_code
abbrev y_Of_merge : MethodName := ⟨"VoucherOffice", "merge", "(II)I"⟩
abbrev b_Of_merge : ByteArray := prog_1_method_14_code
abbrev y_Ho_take : MethodName := ⟨"VoucherOffice$House", "take", "(LVoucherOffice$Paper;)V"⟩
abbrev b_Ho_take : ByteArray := prog_6_method_5_code
abbrev y_St_take : MethodName := ⟨"VoucherOffice$Staff", "take", "(LVoucherOffice$Paper;)V"⟩
abbrev b_St_take : ByteArray := prog_11_method_6_code
abbrev y_Pa_take : MethodName := ⟨"VoucherOffice$Paper", "take", "(LVoucherOffice$Paper;)V"⟩
abbrev b_Pa_take : ByteArray := prog_7_method_6_code
abbrev y_Of_total : MethodName := ⟨"VoucherOffice", "total", "(I)I"⟩
abbrev b_Of_total : ByteArray := prog_1_method_15_code
abbrev y_Of_paper : MethodName := ⟨"VoucherOffice", "paper", "(II)I"⟩
abbrev b_Of_paper : ByteArray := prog_1_method_16_code
abbrev y_Of_count : MethodName := ⟨"VoucherOffice", "count", "(I)I"⟩
abbrev b_Of_count : ByteArray := prog_1_method_18_code
abbrev y_Of_leftOfAll : MethodName := ⟨"VoucherOffice", "leftOfAll", "()I"⟩
abbrev b_Of_leftOfAll : ByteArray := prog_1_method_17_code
abbrev y_Mo_init : MethodName := ⟨"VoucherOfficeModel", "<init>", "()V"⟩
abbrev b_Mo_init : ByteArray := prog_13_method_1_code
abbrev y_Mo_issue : MethodName := ⟨"VoucherOfficeModel", "issue", "(II)I"⟩
abbrev b_Mo_issue : ByteArray := prog_13_method_10_code
abbrev y_Mo_within : MethodName := ⟨"VoucherOfficeModel", "within", "(III)Z"⟩
abbrev b_Mo_within : ByteArray := prog_13_method_2_code
abbrev y_Mo_pass : MethodName := ⟨"VoucherOfficeModel", "pass", "(I)I"⟩
abbrev b_Mo_pass : ByteArray := prog_13_method_11_code
abbrev y_Mo_value : MethodName := ⟨"VoucherOfficeModel", "value", "(II)I"⟩
abbrev b_Mo_value : ByteArray := prog_13_method_12_code
abbrev y_Mo_isThere : MethodName := ⟨"VoucherOfficeModel", "isThere", "(I)Z"⟩
abbrev b_Mo_isThere : ByteArray := prog_13_method_3_code
abbrev y_Mo_valueOf : MethodName := ⟨"VoucherOfficeModel", "valueOf", "(II)I"⟩
abbrev b_Mo_valueOf : ByteArray := prog_13_method_7_code
abbrev y_Mo_isDated : MethodName := ⟨"VoucherOfficeModel", "isDated", "(I)Z"⟩
abbrev b_Mo_isDated : ByteArray := prog_13_method_4_code
abbrev y_Mo_lastDay : MethodName := ⟨"VoucherOfficeModel", "lastDay", "(I)I"⟩
abbrev b_Mo_lastDay : ByteArray := prog_13_method_6_code
abbrev y_Mo_hasPoints : MethodName := ⟨"VoucherOfficeModel", "hasPoints", "(I)Z"⟩
abbrev b_Mo_hasPoints : ByteArray := prog_13_method_5_code
abbrev y_Mo_fee : MethodName := ⟨"VoucherOfficeModel", "fee", "(II)I"⟩
abbrev b_Mo_fee : ByteArray := prog_13_method_13_code
abbrev y_Mo_feeOf : MethodName := ⟨"VoucherOfficeModel", "feeOf", "(II)I"⟩
abbrev b_Mo_feeOf : ByteArray := prog_13_method_8_code
abbrev y_Mo_spend : MethodName := ⟨"VoucherOfficeModel", "spend", "(II)I"⟩
abbrev b_Mo_spend : ByteArray := prog_13_method_14_code
abbrev y_Mo_seal : MethodName := ⟨"VoucherOfficeModel", "seal", "(I)I"⟩
abbrev b_Mo_seal : ByteArray := prog_13_method_15_code
abbrev y_Mo_sealOf : MethodName := ⟨"VoucherOfficeModel", "sealOf", "(I)I"⟩
abbrev b_Mo_sealOf : ByteArray := prog_13_method_9_code
abbrev y_Mo_mark : MethodName := ⟨"VoucherOfficeModel", "mark", "(II)I"⟩
abbrev b_Mo_mark : ByteArray := prog_13_method_16_code
abbrev y_Mo_daysLeft : MethodName := ⟨"VoucherOfficeModel", "daysLeft", "(II)I"⟩
abbrev b_Mo_daysLeft : ByteArray := prog_13_method_17_code
abbrev y_Mo_lapse : MethodName := ⟨"VoucherOfficeModel", "lapse", "()I"⟩
abbrev b_Mo_lapse : ByteArray := prog_13_method_18_code
abbrev y_Mo_merge : MethodName := ⟨"VoucherOfficeModel", "merge", "(II)I"⟩
abbrev b_Mo_merge : ByteArray := prog_13_method_19_code
abbrev y_Mo_total : MethodName := ⟨"VoucherOfficeModel", "total", "(I)I"⟩
abbrev b_Mo_total : ByteArray := prog_13_method_20_code
abbrev y_Mo_paper : MethodName := ⟨"VoucherOfficeModel", "paper", "(II)I"⟩
abbrev b_Mo_paper : ByteArray := prog_13_method_21_code
abbrev y_Mo_count : MethodName := ⟨"VoucherOfficeModel", "count", "(I)I"⟩
abbrev b_Mo_count : ByteArray := prog_13_method_23_code
abbrev y_Mo_leftOfAll : MethodName := ⟨"VoucherOfficeModel", "leftOfAll", "()I"⟩
abbrev b_Mo_leftOfAll : ByteArray := prog_13_method_22_code
-- the words of the tables, a row each: kg_ (steady words), kf_ (an interface's words)
theorem kg_0 : Cond.initialized "VoucherOfficeLaw" ∈ gw := gw_in (tb_1 (List.mem_of_getElem? (i := 0) rfl)) rfl
theorem kg_1 : Cond.initialized "VoucherOffice" ∈ gw := gw_in (tb_1 (List.mem_of_getElem? (i := 1) rfl)) rfl
theorem kg_2 : Cond.initialized "VoucherOfficeModel" ∈ gw := gw_in (tb_1 (List.mem_of_getElem? (i := 2) rfl)) rfl
theorem kg_3 : Cond.initialized "VoucherOffice$Paper" ∈ gw := gw_in (tb_1 (List.mem_of_getElem? (i := 3) rfl)) rfl
theorem kg_4 : Cond.initialized "VoucherOffice$Gift" ∈ gw := gw_in (tb_1 (List.mem_of_getElem? (i := 4) rfl)) rfl
theorem kg_5 : Cond.initialized "VoucherOffice$Season" ∈ gw := gw_in (tb_1 (List.mem_of_getElem? (i := 5) rfl)) rfl
theorem kg_6 : Cond.initialized "VoucherOffice$Staff" ∈ gw := gw_in (tb_1 (List.mem_of_getElem? (i := 6) rfl)) rfl
theorem kg_7 : Cond.initialized "VoucherOffice$Rounded" ∈ gw := gw_in (tb_1 (List.mem_of_getElem? (i := 7) rfl)) rfl
theorem kg_8 : Cond.initialized "VoucherOffice$Club" ∈ gw := gw_in (tb_1 (List.mem_of_getElem? (i := 8) rfl)) rfl
theorem kg_9 : Cond.initialized "VoucherOffice$House" ∈ gw := gw_in (tb_1 (List.mem_of_getElem? (i := 9) rfl)) rfl
theorem kg_10 : Cond.initialized "VoucherOffice$Crest" ∈ gw := gw_in (tb_1 (List.mem_of_getElem? (i := 10) rfl)) rfl
theorem kg_11 : Cond.classLink "VoucherOfficeLaw" 7 "VoucherOffice" ∈ gw := gw_in (tb_1 (List.mem_of_getElem? (i := 11) rfl)) rfl
theorem kg_12 : Cond.instantiable "VoucherOffice" 7 ∈ gw := gw_in (tb_1 (List.mem_of_getElem? (i := 12) rfl)) rfl
theorem kg_13 : Cond.methodLink "VoucherOfficeLaw" 9 y_Of_init ∈ gw := gw_in (tb_1 (List.mem_of_getElem? (i := 13) rfl)) rfl
theorem kg_14 : Cond.instanceMethod y_Of_init ∈ gw := gw_in (tb_1 (List.mem_of_getElem? (i := 14) rfl)) rfl
theorem kg_15 : Cond.code y_Of_init prog_1_method_1_code 1 none ∈ gw := gw_in (tb_1 (List.mem_of_getElem? (i := 15) rfl)) rfl
theorem kg_16 : Cond.methodLink "VoucherOffice" 1 y_Obj_init ∈ gw := gw_in (tb_1 (List.mem_of_getElem? (i := 16) rfl)) rfl
theorem kg_17 : Cond.instanceMethod y_Obj_init ∈ gw := gw_in (tb_1 (List.mem_of_getElem? (i := 17) rfl)) rfl
theorem kg_18 : Cond.code y_Obj_init object_method_1_code 1 none ∈ gw := gw_in (tb_1 (List.mem_of_getElem? (i := 18) rfl)) rfl
theorem kg_19 : Cond.classLink "VoucherOffice" 9 "VoucherOffice$Paper" ∈ gw := gw_in (tb_1 (List.mem_of_getElem? (i := 19) rfl)) rfl
theorem kg_21 : Cond.fieldLink "VoucherOffice" 11 "VoucherOffice" "papers" "[LVoucherOffice$Paper;" ∈ gw := gw_in (tb_1 (List.mem_of_getElem? (i := 21) rfl)) rfl
theorem kg_22 : Cond.fieldLink "VoucherOffice" 15 "VoucherOffice" "many" "I" ∈ gw := gw_in (tb_1 (List.mem_of_getElem? (i := 22) rfl)) rfl
theorem kg_23 : Cond.fieldLink "VoucherOffice" 23 "VoucherOffice" "today" "I" ∈ gw := gw_in (tb_1 (List.mem_of_getElem? (i := 23) rfl)) rfl
theorem kg_24 : Cond.fieldLink "VoucherOffice" 55 "VoucherOffice" "issued" "I" ∈ gw := gw_in (tb_1 (List.mem_of_getElem? (i := 24) rfl)) rfl
theorem kg_25 : Cond.fieldLink "VoucherOffice" 76 "VoucherOffice" "spent" "I" ∈ gw := gw_in (tb_1 (List.mem_of_getElem? (i := 25) rfl)) rfl
theorem kg_26 : Cond.fieldLink "VoucherOffice" 79 "VoucherOffice" "fees" "I" ∈ gw := gw_in (tb_1 (List.mem_of_getElem? (i := 26) rfl)) rfl
theorem kg_27 : Cond.fieldLink "VoucherOffice" 100 "VoucherOffice" "lapsed" "I" ∈ gw := gw_in (tb_1 (List.mem_of_getElem? (i := 27) rfl)) rfl
theorem kg_28 : Cond.laysFinal "VoucherOffice" "VoucherOffice" "papers" "[LVoucherOffice$Paper;" ∈ gw := gw_in (tb_1 (List.mem_of_getElem? (i := 28) rfl)) rfl
theorem kg_30 : Cond.lays "VoucherOffice" "VoucherOffice" "many" "I" ∈ gw := gw_in (tb_1 (List.mem_of_getElem? (i := 30) rfl)) rfl
theorem kg_32 : Cond.lays "VoucherOffice" "VoucherOffice" "today" "I" ∈ gw := gw_in (tb_1 (List.mem_of_getElem? (i := 32) rfl)) rfl
theorem kg_34 : Cond.lays "VoucherOffice" "VoucherOffice" "issued" "I" ∈ gw := gw_in (tb_1 (List.mem_of_getElem? (i := 34) rfl)) rfl
theorem kg_36 : Cond.lays "VoucherOffice" "VoucherOffice" "spent" "I" ∈ gw := gw_in (tb_1 (List.mem_of_getElem? (i := 36) rfl)) rfl
theorem kg_38 : Cond.lays "VoucherOffice" "VoucherOffice" "fees" "I" ∈ gw := gw_in (tb_1 (List.mem_of_getElem? (i := 38) rfl)) rfl
theorem kg_40 : Cond.lays "VoucherOffice" "VoucherOffice" "lapsed" "I" ∈ gw := gw_in (tb_1 (List.mem_of_getElem? (i := 40) rfl)) rfl
theorem kg_42 : Cond.superclass "VoucherOffice" "java/lang/Object" ∈ gw := gw_in (tb_1 (List.mem_of_getElem? (i := 42) rfl)) rfl
theorem kg_43 : Cond.methodLink "VoucherOfficeLaw" 13 y_Of_issue ∈ gw := gw_in (tb_1 (List.mem_of_getElem? (i := 43) rfl)) rfl
theorem kg_44 : Cond.instanceMethod y_Of_issue ∈ gw := gw_in (tb_1 (List.mem_of_getElem? (i := 44) rfl)) rfl
theorem kg_45 : Cond.selects "VoucherOffice" y_Of_issue y_Of_issue ∈ gw := gw_in (tb_1 (List.mem_of_getElem? (i := 45) rfl)) rfl
theorem kg_46 : Cond.code y_Of_issue prog_1_method_5_code 3 (some FieldType.int) ∈ gw := gw_in (tb_1 (List.mem_of_getElem? (i := 46) rfl)) rfl
theorem kg_47 : Cond.methodLink "VoucherOffice" 19 y_Of_isIn ∈ gw := gw_in (tb_1 (List.mem_of_getElem? (i := 47) rfl)) rfl
theorem kg_48 : Cond.static y_Of_isIn ∈ gw := gw_in (tb_1 (List.mem_of_getElem? (i := 48) rfl)) rfl
theorem kg_49 : Cond.code y_Of_isIn prog_1_method_2_code 3 (some FieldType.boolean) ∈ gw := gw_in (tb_1 (List.mem_of_getElem? (i := 49) rfl)) rfl
theorem kg_50 : Cond.constant "VoucherOffice" 50 100000 ∈ gw := gw_in (tb_1 (List.mem_of_getElem? (i := 50) rfl)) rfl
theorem kg_51 : Cond.methodLink "VoucherOffice" 51 y_Of_made ∈ gw := gw_in (tb_1 (List.mem_of_getElem? (i := 51) rfl)) rfl
theorem kf_52 : Cond.privateMethod y_Of_made ∈ lw_tbl := tb_1 (List.mem_of_getElem? (i := 52) rfl)
theorem kg_53 : Cond.instanceMethod y_Of_made ∈ gw := gw_in (tb_1 (List.mem_of_getElem? (i := 53) rfl)) rfl
theorem kg_54 : Cond.code y_Of_made prog_1_method_4_code 3 (some (FieldType.object "VoucherOffice$Paper")) ∈ gw := gw_in (tb_1 (List.mem_of_getElem? (i := 54) rfl)) rfl
theorem kg_55 : Cond.instantiable "VoucherOffice$Paper" 4 ∈ gw := gw_in (tb_1 (List.mem_of_getElem? (i := 55) rfl)) rfl
theorem kg_56 : Cond.methodLink "VoucherOffice" 26 y_Pa_init ∈ gw := gw_in (tb_1 (List.mem_of_getElem? (i := 56) rfl)) rfl
theorem kg_57 : Cond.instanceMethod y_Pa_init ∈ gw := gw_in (tb_1 (List.mem_of_getElem? (i := 57) rfl)) rfl
theorem kg_58 : Cond.code y_Pa_init prog_7_method_1_code 4 none ∈ gw := gw_in (tb_1 (List.mem_of_getElem? (i := 58) rfl)) rfl
theorem kg_59 : Cond.methodLink "VoucherOffice$Paper" 3 y_Obj_init ∈ gw := gw_in (tb_1 (List.mem_of_getElem? (i := 59) rfl)) rfl
theorem kg_60 : Cond.fieldLink "VoucherOffice$Paper" 9 "VoucherOffice$Paper" "kind" "I" ∈ gw := gw_in (tb_1 (List.mem_of_getElem? (i := 60) rfl)) rfl
theorem kg_61 : Cond.fieldLink "VoucherOffice" 103 "VoucherOffice$Paper" "kind" "I" ∈ gw := gw_in (tb_1 (List.mem_of_getElem? (i := 61) rfl)) rfl
theorem kg_62 : Cond.fieldLink "VoucherOffice$Paper" 15 "VoucherOffice$Paper" "from" "I" ∈ gw := gw_in (tb_1 (List.mem_of_getElem? (i := 62) rfl)) rfl
theorem kg_63 : Cond.fieldLink "VoucherOffice$Season" 7 "VoucherOffice$Season" "from" "I" ∈ gw := gw_in (tb_1 (List.mem_of_getElem? (i := 63) rfl)) rfl
theorem kg_64 : Cond.sameField "VoucherOffice$Season" "VoucherOffice$Paper" "from" "I" ∈ gw := gw_in (tb_1 (List.mem_of_getElem? (i := 64) rfl)) rfl
theorem kg_65 : Cond.fieldLink "VoucherOffice$Staff" 15 "VoucherOffice$Staff" "from" "I" ∈ gw := gw_in (tb_1 (List.mem_of_getElem? (i := 65) rfl)) rfl
theorem kg_66 : Cond.sameField "VoucherOffice$Staff" "VoucherOffice$Paper" "from" "I" ∈ gw := gw_in (tb_1 (List.mem_of_getElem? (i := 66) rfl)) rfl
theorem kg_67 : Cond.fieldLink "VoucherOffice" 113 "VoucherOffice$Paper" "from" "I" ∈ gw := gw_in (tb_1 (List.mem_of_getElem? (i := 67) rfl)) rfl
theorem kg_68 : Cond.fieldLink "VoucherOffice$Paper" 18 "VoucherOffice$Paper" "amount" "I" ∈ gw := gw_in (tb_1 (List.mem_of_getElem? (i := 68) rfl)) rfl
theorem kg_69 : Cond.fieldLink "VoucherOffice" 106 "VoucherOffice$Paper" "amount" "I" ∈ gw := gw_in (tb_1 (List.mem_of_getElem? (i := 69) rfl)) rfl
theorem kg_70 : Cond.fieldLink "VoucherOffice$Paper" 21 "VoucherOffice$Paper" "left" "I" ∈ gw := gw_in (tb_1 (List.mem_of_getElem? (i := 70) rfl)) rfl
theorem kg_71 : Cond.fieldLink "VoucherOffice" 69 "VoucherOffice$Paper" "left" "I" ∈ gw := gw_in (tb_1 (List.mem_of_getElem? (i := 71) rfl)) rfl
theorem kg_72 : Cond.laysFinal "VoucherOffice$Paper" "VoucherOffice$Paper" "kind" "I" ∈ gw := gw_in (tb_1 (List.mem_of_getElem? (i := 72) rfl)) rfl
theorem kg_74 : Cond.laysFinal "VoucherOffice$Paper" "VoucherOffice$Paper" "from" "I" ∈ gw := gw_in (tb_1 (List.mem_of_getElem? (i := 74) rfl)) rfl
theorem kg_76 : Cond.lays "VoucherOffice$Paper" "VoucherOffice$Paper" "amount" "I" ∈ gw := gw_in (tb_1 (List.mem_of_getElem? (i := 76) rfl)) rfl
theorem kg_78 : Cond.lays "VoucherOffice$Paper" "VoucherOffice$Paper" "left" "I" ∈ gw := gw_in (tb_1 (List.mem_of_getElem? (i := 78) rfl)) rfl
theorem kg_80 : Cond.superclass "VoucherOffice$Paper" "java/lang/Object" ∈ gw := gw_in (tb_1 (List.mem_of_getElem? (i := 80) rfl)) rfl
theorem kg_81 : Cond.classLink "VoucherOffice" 29 "VoucherOffice$Gift" ∈ gw := gw_in (tb_1 (List.mem_of_getElem? (i := 81) rfl)) rfl
theorem kg_82 : Cond.instantiable "VoucherOffice$Gift" 4 ∈ gw := gw_in (tb_1 (List.mem_of_getElem? (i := 82) rfl)) rfl
theorem kg_83 : Cond.methodLink "VoucherOffice" 31 y_Gi_init ∈ gw := gw_in (tb_1 (List.mem_of_getElem? (i := 83) rfl)) rfl
theorem kg_84 : Cond.instanceMethod y_Gi_init ∈ gw := gw_in (tb_1 (List.mem_of_getElem? (i := 84) rfl)) rfl
theorem kg_85 : Cond.code y_Gi_init prog_5_method_1_code 4 none ∈ gw := gw_in (tb_1 (List.mem_of_getElem? (i := 85) rfl)) rfl
theorem kg_86 : Cond.methodLink "VoucherOffice$Gift" 1 y_Pa_init ∈ gw := gw_in (tb_1 (List.mem_of_getElem? (i := 86) rfl)) rfl
theorem kg_87 : Cond.laysFinal "VoucherOffice$Gift" "VoucherOffice$Paper" "kind" "I" ∈ gw := gw_in (tb_1 (List.mem_of_getElem? (i := 87) rfl)) rfl
theorem kg_88 : Cond.laysFinal "VoucherOffice$Gift" "VoucherOffice$Paper" "from" "I" ∈ gw := gw_in (tb_1 (List.mem_of_getElem? (i := 88) rfl)) rfl
theorem kg_89 : Cond.lays "VoucherOffice$Gift" "VoucherOffice$Paper" "amount" "I" ∈ gw := gw_in (tb_1 (List.mem_of_getElem? (i := 89) rfl)) rfl
theorem kg_90 : Cond.lays "VoucherOffice$Gift" "VoucherOffice$Paper" "left" "I" ∈ gw := gw_in (tb_1 (List.mem_of_getElem? (i := 90) rfl)) rfl
theorem kg_91 : Cond.superclass "VoucherOffice$Gift" "VoucherOffice$Paper" ∈ gw := gw_in (tb_1 (List.mem_of_getElem? (i := 91) rfl)) rfl
theorem kg_92 : Cond.classLink "VoucherOffice" 32 "VoucherOffice$Season" ∈ gw := gw_in (tb_1 (List.mem_of_getElem? (i := 92) rfl)) rfl
theorem kg_93 : Cond.instantiable "VoucherOffice$Season" 4 ∈ gw := gw_in (tb_1 (List.mem_of_getElem? (i := 93) rfl)) rfl
theorem kg_94 : Cond.methodLink "VoucherOffice" 34 y_Se_init ∈ gw := gw_in (tb_1 (List.mem_of_getElem? (i := 94) rfl)) rfl
theorem kg_95 : Cond.instanceMethod y_Se_init ∈ gw := gw_in (tb_1 (List.mem_of_getElem? (i := 95) rfl)) rfl
theorem kg_96 : Cond.code y_Se_init prog_10_method_1_code 4 none ∈ gw := gw_in (tb_1 (List.mem_of_getElem? (i := 96) rfl)) rfl
theorem kg_97 : Cond.methodLink "VoucherOffice$Season" 1 y_Gi_init ∈ gw := gw_in (tb_1 (List.mem_of_getElem? (i := 97) rfl)) rfl
theorem kg_98 : Cond.laysFinal "VoucherOffice$Season" "VoucherOffice$Paper" "kind" "I" ∈ gw := gw_in (tb_1 (List.mem_of_getElem? (i := 98) rfl)) rfl
theorem kg_99 : Cond.laysFinal "VoucherOffice$Season" "VoucherOffice$Paper" "from" "I" ∈ gw := gw_in (tb_1 (List.mem_of_getElem? (i := 99) rfl)) rfl
theorem kg_100 : Cond.lays "VoucherOffice$Season" "VoucherOffice$Paper" "amount" "I" ∈ gw := gw_in (tb_1 (List.mem_of_getElem? (i := 100) rfl)) rfl
theorem kg_101 : Cond.lays "VoucherOffice$Season" "VoucherOffice$Paper" "left" "I" ∈ gw := gw_in (tb_1 (List.mem_of_getElem? (i := 101) rfl)) rfl
theorem kg_102 : Cond.superclass "VoucherOffice$Season" "VoucherOffice$Gift" ∈ gw := gw_in (tb_1 (List.mem_of_getElem? (i := 102) rfl)) rfl
theorem kg_103 : Cond.classLink "VoucherOffice" 35 "VoucherOffice$Staff" ∈ gw := gw_in (tb_1 (List.mem_of_getElem? (i := 103) rfl)) rfl
theorem kg_104 : Cond.instantiable "VoucherOffice$Staff" 5 ∈ gw := gw_in (tb_1 (List.mem_of_getElem? (i := 104) rfl)) rfl
theorem kg_105 : Cond.methodLink "VoucherOffice" 37 y_St_init ∈ gw := gw_in (tb_1 (List.mem_of_getElem? (i := 105) rfl)) rfl
theorem kg_106 : Cond.instanceMethod y_St_init ∈ gw := gw_in (tb_1 (List.mem_of_getElem? (i := 106) rfl)) rfl
theorem kg_107 : Cond.code y_St_init prog_11_method_1_code 4 none ∈ gw := gw_in (tb_1 (List.mem_of_getElem? (i := 107) rfl)) rfl
theorem kg_108 : Cond.methodLink "VoucherOffice$Staff" 3 y_Se_init ∈ gw := gw_in (tb_1 (List.mem_of_getElem? (i := 108) rfl)) rfl
theorem kg_109 : Cond.fieldLink "VoucherOffice$Staff" 9 "VoucherOffice$Staff" "spentOn" "I" ∈ gw := gw_in (tb_1 (List.mem_of_getElem? (i := 109) rfl)) rfl
theorem kg_110 : Cond.lays "VoucherOffice$Staff" "VoucherOffice$Staff" "spentOn" "I" ∈ gw := gw_in (tb_1 (List.mem_of_getElem? (i := 110) rfl)) rfl
theorem kg_112 : Cond.laysFinal "VoucherOffice$Staff" "VoucherOffice$Paper" "kind" "I" ∈ gw := gw_in (tb_1 (List.mem_of_getElem? (i := 112) rfl)) rfl
theorem kg_113 : Cond.laysFinal "VoucherOffice$Staff" "VoucherOffice$Paper" "from" "I" ∈ gw := gw_in (tb_1 (List.mem_of_getElem? (i := 113) rfl)) rfl
theorem kg_114 : Cond.lays "VoucherOffice$Staff" "VoucherOffice$Paper" "amount" "I" ∈ gw := gw_in (tb_1 (List.mem_of_getElem? (i := 114) rfl)) rfl
theorem kg_115 : Cond.lays "VoucherOffice$Staff" "VoucherOffice$Paper" "left" "I" ∈ gw := gw_in (tb_1 (List.mem_of_getElem? (i := 115) rfl)) rfl
theorem kg_116 : Cond.superclass "VoucherOffice$Staff" "VoucherOffice$Season" ∈ gw := gw_in (tb_1 (List.mem_of_getElem? (i := 116) rfl)) rfl
theorem kg_117 : Cond.classLink "VoucherOffice" 38 "VoucherOffice$Rounded" ∈ gw := gw_in (tb_1 (List.mem_of_getElem? (i := 117) rfl)) rfl
theorem kg_118 : Cond.instantiable "VoucherOffice$Rounded" 4 ∈ gw := gw_in (tb_1 (List.mem_of_getElem? (i := 118) rfl)) rfl
theorem kg_119 : Cond.methodLink "VoucherOffice" 40 y_Ro_init ∈ gw := gw_in (tb_1 (List.mem_of_getElem? (i := 119) rfl)) rfl
theorem kg_120 : Cond.instanceMethod y_Ro_init ∈ gw := gw_in (tb_1 (List.mem_of_getElem? (i := 120) rfl)) rfl
theorem kg_121 : Cond.code y_Ro_init prog_8_method_1_code 4 none ∈ gw := gw_in (tb_1 (List.mem_of_getElem? (i := 121) rfl)) rfl
theorem kg_122 : Cond.methodLink "VoucherOffice$Rounded" 1 y_Pa_init ∈ gw := gw_in (tb_1 (List.mem_of_getElem? (i := 122) rfl)) rfl
theorem kg_123 : Cond.laysFinal "VoucherOffice$Rounded" "VoucherOffice$Paper" "kind" "I" ∈ gw := gw_in (tb_1 (List.mem_of_getElem? (i := 123) rfl)) rfl
theorem kg_124 : Cond.laysFinal "VoucherOffice$Rounded" "VoucherOffice$Paper" "from" "I" ∈ gw := gw_in (tb_1 (List.mem_of_getElem? (i := 124) rfl)) rfl
theorem kg_125 : Cond.lays "VoucherOffice$Rounded" "VoucherOffice$Paper" "amount" "I" ∈ gw := gw_in (tb_1 (List.mem_of_getElem? (i := 125) rfl)) rfl
theorem kg_126 : Cond.lays "VoucherOffice$Rounded" "VoucherOffice$Paper" "left" "I" ∈ gw := gw_in (tb_1 (List.mem_of_getElem? (i := 126) rfl)) rfl
theorem kg_127 : Cond.superclass "VoucherOffice$Rounded" "VoucherOffice$Paper" ∈ gw := gw_in (tb_1 (List.mem_of_getElem? (i := 127) rfl)) rfl
theorem kg_128 : Cond.classLink "VoucherOffice" 41 "VoucherOffice$Club" ∈ gw := gw_in (tb_1 (List.mem_of_getElem? (i := 128) rfl)) rfl
theorem kg_129 : Cond.instantiable "VoucherOffice$Club" 4 ∈ gw := gw_in (tb_1 (List.mem_of_getElem? (i := 129) rfl)) rfl
theorem kg_130 : Cond.methodLink "VoucherOffice" 43 y_Cl_init ∈ gw := gw_in (tb_1 (List.mem_of_getElem? (i := 130) rfl)) rfl
theorem kg_131 : Cond.instanceMethod y_Cl_init ∈ gw := gw_in (tb_1 (List.mem_of_getElem? (i := 131) rfl)) rfl
theorem kg_132 : Cond.code y_Cl_init prog_2_method_1_code 4 none ∈ gw := gw_in (tb_1 (List.mem_of_getElem? (i := 132) rfl)) rfl
theorem kg_133 : Cond.methodLink "VoucherOffice$Club" 1 y_Ro_init ∈ gw := gw_in (tb_1 (List.mem_of_getElem? (i := 133) rfl)) rfl
theorem kg_134 : Cond.laysFinal "VoucherOffice$Club" "VoucherOffice$Paper" "kind" "I" ∈ gw := gw_in (tb_1 (List.mem_of_getElem? (i := 134) rfl)) rfl
theorem kg_135 : Cond.laysFinal "VoucherOffice$Club" "VoucherOffice$Paper" "from" "I" ∈ gw := gw_in (tb_1 (List.mem_of_getElem? (i := 135) rfl)) rfl
theorem kg_136 : Cond.lays "VoucherOffice$Club" "VoucherOffice$Paper" "amount" "I" ∈ gw := gw_in (tb_1 (List.mem_of_getElem? (i := 136) rfl)) rfl
theorem kg_137 : Cond.lays "VoucherOffice$Club" "VoucherOffice$Paper" "left" "I" ∈ gw := gw_in (tb_1 (List.mem_of_getElem? (i := 137) rfl)) rfl
theorem kg_138 : Cond.superclass "VoucherOffice$Club" "VoucherOffice$Rounded" ∈ gw := gw_in (tb_1 (List.mem_of_getElem? (i := 138) rfl)) rfl
theorem kg_139 : Cond.classLink "VoucherOffice" 44 "VoucherOffice$House" ∈ gw := gw_in (tb_1 (List.mem_of_getElem? (i := 139) rfl)) rfl
theorem kg_140 : Cond.instantiable "VoucherOffice$House" 5 ∈ gw := gw_in (tb_1 (List.mem_of_getElem? (i := 140) rfl)) rfl
theorem kg_141 : Cond.methodLink "VoucherOffice" 46 y_Ho_init ∈ gw := gw_in (tb_1 (List.mem_of_getElem? (i := 141) rfl)) rfl
theorem kg_142 : Cond.instanceMethod y_Ho_init ∈ gw := gw_in (tb_1 (List.mem_of_getElem? (i := 142) rfl)) rfl
theorem kg_143 : Cond.code y_Ho_init prog_6_method_1_code 4 none ∈ gw := gw_in (tb_1 (List.mem_of_getElem? (i := 143) rfl)) rfl
theorem kg_144 : Cond.methodLink "VoucherOffice$House" 1 y_Cl_init ∈ gw := gw_in (tb_1 (List.mem_of_getElem? (i := 144) rfl)) rfl
theorem kg_145 : Cond.fieldLink "VoucherOffice$House" 11 "VoucherOffice$House" "points" "I" ∈ gw := gw_in (tb_1 (List.mem_of_getElem? (i := 145) rfl)) rfl
theorem kg_146 : Cond.lays "VoucherOffice$House" "VoucherOffice$House" "points" "I" ∈ gw := gw_in (tb_1 (List.mem_of_getElem? (i := 146) rfl)) rfl
theorem kg_148 : Cond.laysFinal "VoucherOffice$House" "VoucherOffice$Paper" "kind" "I" ∈ gw := gw_in (tb_1 (List.mem_of_getElem? (i := 148) rfl)) rfl
theorem kg_149 : Cond.laysFinal "VoucherOffice$House" "VoucherOffice$Paper" "from" "I" ∈ gw := gw_in (tb_1 (List.mem_of_getElem? (i := 149) rfl)) rfl
theorem kg_150 : Cond.lays "VoucherOffice$House" "VoucherOffice$Paper" "amount" "I" ∈ gw := gw_in (tb_1 (List.mem_of_getElem? (i := 150) rfl)) rfl
theorem kg_151 : Cond.lays "VoucherOffice$House" "VoucherOffice$Paper" "left" "I" ∈ gw := gw_in (tb_1 (List.mem_of_getElem? (i := 151) rfl)) rfl
theorem kg_152 : Cond.superclass "VoucherOffice$House" "VoucherOffice$Club" ∈ gw := gw_in (tb_1 (List.mem_of_getElem? (i := 152) rfl)) rfl
theorem kg_153 : Cond.classLink "VoucherOffice" 47 "VoucherOffice$Crest" ∈ gw := gw_in (tb_1 (List.mem_of_getElem? (i := 153) rfl)) rfl
theorem kg_154 : Cond.instantiable "VoucherOffice$Crest" 5 ∈ gw := gw_in (tb_1 (List.mem_of_getElem? (i := 154) rfl)) rfl
theorem kg_155 : Cond.methodLink "VoucherOffice" 49 y_Cr_init ∈ gw := gw_in (tb_1 (List.mem_of_getElem? (i := 155) rfl)) rfl
theorem kg_156 : Cond.instanceMethod y_Cr_init ∈ gw := gw_in (tb_1 (List.mem_of_getElem? (i := 156) rfl)) rfl
theorem kg_157 : Cond.code y_Cr_init prog_3_method_1_code 4 none ∈ gw := gw_in (tb_1 (List.mem_of_getElem? (i := 157) rfl)) rfl
theorem kg_158 : Cond.methodLink "VoucherOffice$Crest" 1 y_Ho_init ∈ gw := gw_in (tb_1 (List.mem_of_getElem? (i := 158) rfl)) rfl
theorem kg_159 : Cond.lays "VoucherOffice$Crest" "VoucherOffice$House" "points" "I" ∈ gw := gw_in (tb_1 (List.mem_of_getElem? (i := 159) rfl)) rfl
theorem kg_160 : Cond.laysFinal "VoucherOffice$Crest" "VoucherOffice$Paper" "kind" "I" ∈ gw := gw_in (tb_1 (List.mem_of_getElem? (i := 160) rfl)) rfl
theorem kg_161 : Cond.laysFinal "VoucherOffice$Crest" "VoucherOffice$Paper" "from" "I" ∈ gw := gw_in (tb_1 (List.mem_of_getElem? (i := 161) rfl)) rfl
theorem kg_162 : Cond.lays "VoucherOffice$Crest" "VoucherOffice$Paper" "amount" "I" ∈ gw := gw_in (tb_1 (List.mem_of_getElem? (i := 162) rfl)) rfl
theorem kg_163 : Cond.lays "VoucherOffice$Crest" "VoucherOffice$Paper" "left" "I" ∈ gw := gw_in (tb_1 (List.mem_of_getElem? (i := 163) rfl)) rfl
theorem kg_164 : Cond.superclass "VoucherOffice$Crest" "VoucherOffice$House" ∈ gw := gw_in (tb_1 (List.mem_of_getElem? (i := 164) rfl)) rfl
theorem kg_165 : Cond.methodLink "VoucherOfficeLaw" 18 y_Of_pass ∈ gw := gw_in (tb_1 (List.mem_of_getElem? (i := 165) rfl)) rfl
theorem kg_166 : Cond.instanceMethod y_Of_pass ∈ gw := gw_in (tb_1 (List.mem_of_getElem? (i := 166) rfl)) rfl
theorem kg_167 : Cond.selects "VoucherOffice" y_Of_pass y_Of_pass ∈ gw := gw_in (tb_1 (List.mem_of_getElem? (i := 167) rfl)) rfl
theorem kg_168 : Cond.code y_Of_pass prog_1_method_6_code 2 (some FieldType.int) ∈ gw := gw_in (tb_1 (List.mem_of_getElem? (i := 168) rfl)) rfl
theorem kg_169 : Cond.methodLink "VoucherOfficeLaw" 23 y_Of_value ∈ gw := gw_in (tb_1 (List.mem_of_getElem? (i := 169) rfl)) rfl
theorem kg_170 : Cond.instanceMethod y_Of_value ∈ gw := gw_in (tb_1 (List.mem_of_getElem? (i := 170) rfl)) rfl
theorem kg_171 : Cond.selects "VoucherOffice" y_Of_value y_Of_value ∈ gw := gw_in (tb_1 (List.mem_of_getElem? (i := 171) rfl)) rfl
theorem kg_172 : Cond.code y_Of_value prog_1_method_7_code 4 (some FieldType.int) ∈ gw := gw_in (tb_1 (List.mem_of_getElem? (i := 172) rfl)) rfl
theorem kg_173 : Cond.methodLink "VoucherOffice" 58 y_Of_at ∈ gw := gw_in (tb_1 (List.mem_of_getElem? (i := 173) rfl)) rfl
theorem kf_174 : Cond.privateMethod y_Of_at ∈ lw_tbl := tb_1 (List.mem_of_getElem? (i := 174) rfl)
theorem kg_175 : Cond.instanceMethod y_Of_at ∈ gw := gw_in (tb_1 (List.mem_of_getElem? (i := 175) rfl)) rfl
theorem kg_176 : Cond.code y_Of_at prog_1_method_3_code 2 (some (FieldType.object "VoucherOffice$Paper")) ∈ gw := gw_in (tb_1 (List.mem_of_getElem? (i := 176) rfl)) rfl
theorem kg_177 : Cond.methodLink "VoucherOffice" 62 y_Pa_worth ∈ gw := gw_in (tb_1 (List.mem_of_getElem? (i := 177) rfl)) rfl
theorem kg_178 : Cond.instanceMethod y_Pa_worth ∈ gw := gw_in (tb_1 (List.mem_of_getElem? (i := 178) rfl)) rfl
theorem kg_179 : Cond.selects "VoucherOffice$Paper" y_Pa_worth y_Pa_worth ∈ gw := gw_in (tb_1 (List.mem_of_getElem? (i := 179) rfl)) rfl
theorem kg_180 : Cond.sameMethod "VoucherOffice$Paper" "VoucherOffice$Paper" "worth" "(I)I" ∈ gw := gw_in (tb_1 (List.mem_of_getElem? (i := 180) rfl)) rfl
theorem kg_181 : Cond.selects "VoucherOffice$Club" y_Pa_worth y_Ro_worth ∈ gw := gw_in (tb_1 (List.mem_of_getElem? (i := 181) rfl)) rfl
theorem kg_182 : Cond.instanceMethod y_Ro_worth ∈ gw := gw_in (tb_1 (List.mem_of_getElem? (i := 182) rfl)) rfl
theorem kg_183 : Cond.code y_Ro_worth prog_8_method_2_code 3 (some FieldType.int) ∈ gw := gw_in (tb_1 (List.mem_of_getElem? (i := 183) rfl)) rfl
theorem kg_184 : Cond.methodLink "VoucherOffice$Rounded" 7 y_Pa_worth ∈ gw := gw_in (tb_1 (List.mem_of_getElem? (i := 184) rfl)) rfl
theorem kg_185 : Cond.selects "VoucherOffice$Crest" y_Pa_worth y_Cr_worth ∈ gw := gw_in (tb_1 (List.mem_of_getElem? (i := 185) rfl)) rfl
theorem kg_186 : Cond.instanceMethod y_Cr_worth ∈ gw := gw_in (tb_1 (List.mem_of_getElem? (i := 186) rfl)) rfl
theorem kg_187 : Cond.code y_Cr_worth prog_3_method_2_code 3 (some FieldType.int) ∈ gw := gw_in (tb_1 (List.mem_of_getElem? (i := 187) rfl)) rfl
theorem kg_188 : Cond.methodLink "VoucherOffice$Crest" 7 y_Ho_worth ∈ gw := gw_in (tb_1 (List.mem_of_getElem? (i := 188) rfl)) rfl
theorem kg_189 : Cond.instanceMethod y_Ho_worth ∈ gw := gw_in (tb_1 (List.mem_of_getElem? (i := 189) rfl)) rfl
theorem kg_190 : Cond.code y_Ho_worth prog_6_method_3_code 2 (some FieldType.int) ∈ gw := gw_in (tb_1 (List.mem_of_getElem? (i := 190) rfl)) rfl
theorem kg_191 : Cond.methodLink "VoucherOffice$House" 16 ⟨"VoucherOffice$Club", "worth", "(I)I"⟩ ∈ gw := gw_in (tb_1 (List.mem_of_getElem? (i := 191) rfl)) rfl
theorem kg_192 : Cond.sameMethod "VoucherOffice$Club" "VoucherOffice$Rounded" "worth" "(I)I" ∈ gw := gw_in (tb_1 (List.mem_of_getElem? (i := 192) rfl)) rfl
theorem kf_193 : Cond.declares y_Ro_worth ∈ lw_tbl := tb_1 (List.mem_of_getElem? (i := 193) rfl)
theorem kg_194 : Cond.selects "VoucherOffice$Gift" y_Pa_worth y_Pa_worth ∈ gw := gw_in (tb_1 (List.mem_of_getElem? (i := 194) rfl)) rfl
theorem kg_195 : Cond.selects "VoucherOffice$House" y_Pa_worth y_Ho_worth ∈ gw := gw_in (tb_1 (List.mem_of_getElem? (i := 195) rfl)) rfl
theorem kg_196 : Cond.selects "VoucherOffice$Rounded" y_Pa_worth y_Ro_worth ∈ gw := gw_in (tb_1 (List.mem_of_getElem? (i := 196) rfl)) rfl
theorem kg_197 : Cond.selects "VoucherOffice$Season" y_Pa_worth y_Se_worth ∈ gw := gw_in (tb_1 (List.mem_of_getElem? (i := 197) rfl)) rfl
theorem kg_198 : Cond.instanceMethod y_Se_worth ∈ gw := gw_in (tb_1 (List.mem_of_getElem? (i := 198) rfl)) rfl
theorem kg_199 : Cond.code y_Se_worth prog_10_method_3_code 3 (some FieldType.int) ∈ gw := gw_in (tb_1 (List.mem_of_getElem? (i := 199) rfl)) rfl
theorem kg_201 : Cond.methodLink "VoucherOffice$Season" 13 y_Da_isOver ∈ gw := gw_in (tb_1 (List.mem_of_getElem? (i := 201) rfl)) rfl
theorem kf_202 : Cond.interfaceMethod "VoucherOffice$Dated" "VoucherOffice$Dated" "isOver" "(I)Z" ∈ lw_tbl := tb_1 (List.mem_of_getElem? (i := 202) rfl)
theorem kf_203 : Cond.declares y_Da_isOver ∈ lw_tbl := tb_1 (List.mem_of_getElem? (i := 203) rfl)
theorem kf_204 : Cond.castable "VoucherOffice$Season" "VoucherOffice$Dated" ∈ lw_tbl := tb_1 (List.mem_of_getElem? (i := 204) rfl)
theorem kf_205 : Cond.unhidden "VoucherOffice$Season" "isOver" "(I)Z" ∈ lw_tbl := tb_1 (List.mem_of_getElem? (i := 205) rfl)
theorem kg_206 : Cond.instanceMethod y_Da_isOver ∈ gw := gw_in (tb_1 (List.mem_of_getElem? (i := 206) rfl)) rfl
theorem kf_207 : Cond.publicMethod y_Da_isOver ∈ lw_tbl := tb_1 (List.mem_of_getElem? (i := 207) rfl)
theorem kg_208 : Cond.code y_Da_isOver prog_4_method_2_code 2 (some FieldType.boolean) ∈ gw := gw_in (tb_1 (List.mem_of_getElem? (i := 208) rfl)) rfl
theorem kg_210 : Cond.methodLink "VoucherOffice$Dated" 1 ⟨"VoucherOffice$Dated", "lastDay", "()I"⟩ ∈ gw := gw_in (tb_1 (List.mem_of_getElem? (i := 210) rfl)) rfl
theorem kf_211 : Cond.interfaceMethod "VoucherOffice$Dated" "VoucherOffice$Dated" "lastDay" "()I" ∈ lw_tbl := tb_1 (List.mem_of_getElem? (i := 211) rfl)
theorem kf_212 : Cond.declares ⟨"VoucherOffice$Dated", "lastDay", "()I"⟩ ∈ lw_tbl := tb_1 (List.mem_of_getElem? (i := 212) rfl)
theorem kg_213 : Cond.selects "VoucherOffice$Season" ⟨"VoucherOffice$Dated", "lastDay", "()I"⟩ y_Se_lastDay ∈ gw := gw_in (tb_1 (List.mem_of_getElem? (i := 213) rfl)) rfl
theorem kf_214 : Cond.unhidden "VoucherOffice$Season" "lastDay" "()I" ∈ lw_tbl := tb_1 (List.mem_of_getElem? (i := 214) rfl)
theorem kg_215 : Cond.instanceMethod y_Se_lastDay ∈ gw := gw_in (tb_1 (List.mem_of_getElem? (i := 215) rfl)) rfl
theorem kf_216 : Cond.publicMethod y_Se_lastDay ∈ lw_tbl := tb_1 (List.mem_of_getElem? (i := 216) rfl)
theorem kg_217 : Cond.code y_Se_lastDay prog_10_method_2_code 1 (some FieldType.int) ∈ gw := gw_in (tb_1 (List.mem_of_getElem? (i := 217) rfl)) rfl
theorem kf_218 : Cond.castable "VoucherOffice$Staff" "VoucherOffice$Dated" ∈ lw_tbl := tb_1 (List.mem_of_getElem? (i := 218) rfl)
theorem kg_219 : Cond.selects "VoucherOffice$Staff" ⟨"VoucherOffice$Dated", "lastDay", "()I"⟩ y_St_lastDay ∈ gw := gw_in (tb_1 (List.mem_of_getElem? (i := 219) rfl)) rfl
theorem kf_220 : Cond.unhidden "VoucherOffice$Staff" "lastDay" "()I" ∈ lw_tbl := tb_1 (List.mem_of_getElem? (i := 220) rfl)
theorem kg_221 : Cond.instanceMethod y_St_lastDay ∈ gw := gw_in (tb_1 (List.mem_of_getElem? (i := 221) rfl)) rfl
theorem kf_222 : Cond.publicMethod y_St_lastDay ∈ lw_tbl := tb_1 (List.mem_of_getElem? (i := 222) rfl)
theorem kg_223 : Cond.code y_St_lastDay prog_11_method_2_code 1 (some FieldType.int) ∈ gw := gw_in (tb_1 (List.mem_of_getElem? (i := 223) rfl)) rfl
theorem kf_224 : Cond.unhidden "VoucherOffice$Staff" "isOver" "(I)Z" ∈ lw_tbl := tb_1 (List.mem_of_getElem? (i := 224) rfl)
theorem kg_225 : Cond.methodLink "VoucherOffice$Season" 19 ⟨"VoucherOffice$Gift", "worth", "(I)I"⟩ ∈ gw := gw_in (tb_1 (List.mem_of_getElem? (i := 225) rfl)) rfl
theorem kg_226 : Cond.sameMethod "VoucherOffice$Gift" "VoucherOffice$Paper" "worth" "(I)I" ∈ gw := gw_in (tb_1 (List.mem_of_getElem? (i := 226) rfl)) rfl
theorem kf_227 : Cond.declares y_Pa_worth ∈ lw_tbl := tb_1 (List.mem_of_getElem? (i := 227) rfl)
theorem kg_228 : Cond.selects "VoucherOffice$Staff" y_Pa_worth y_St_worth ∈ gw := gw_in (tb_1 (List.mem_of_getElem? (i := 228) rfl)) rfl
theorem kg_229 : Cond.instanceMethod y_St_worth ∈ gw := gw_in (tb_1 (List.mem_of_getElem? (i := 229) rfl)) rfl
theorem kg_230 : Cond.code y_St_worth prog_11_method_3_code 3 (some FieldType.int) ∈ gw := gw_in (tb_1 (List.mem_of_getElem? (i := 230) rfl)) rfl
theorem kg_231 : Cond.methodLink "VoucherOffice$Staff" 18 y_Se_worth ∈ gw := gw_in (tb_1 (List.mem_of_getElem? (i := 231) rfl)) rfl
theorem kg_232 : Cond.code y_Pa_worth prog_7_method_2_code 2 (some FieldType.int) ∈ gw := gw_in (tb_1 (List.mem_of_getElem? (i := 232) rfl)) rfl
theorem kg_233 : Cond.methodLink "VoucherOfficeLaw" 27 y_Of_fee ∈ gw := gw_in (tb_1 (List.mem_of_getElem? (i := 233) rfl)) rfl
theorem kg_234 : Cond.instanceMethod y_Of_fee ∈ gw := gw_in (tb_1 (List.mem_of_getElem? (i := 234) rfl)) rfl
theorem kg_235 : Cond.selects "VoucherOffice" y_Of_fee y_Of_fee ∈ gw := gw_in (tb_1 (List.mem_of_getElem? (i := 235) rfl)) rfl
theorem kg_236 : Cond.code y_Of_fee prog_1_method_8_code 4 (some FieldType.int) ∈ gw := gw_in (tb_1 (List.mem_of_getElem? (i := 236) rfl)) rfl
theorem kg_237 : Cond.methodLink "VoucherOffice" 66 y_Pa_fee ∈ gw := gw_in (tb_1 (List.mem_of_getElem? (i := 237) rfl)) rfl
theorem kg_238 : Cond.instanceMethod y_Pa_fee ∈ gw := gw_in (tb_1 (List.mem_of_getElem? (i := 238) rfl)) rfl
theorem kg_239 : Cond.selects "VoucherOffice$Paper" y_Pa_fee y_Pa_fee ∈ gw := gw_in (tb_1 (List.mem_of_getElem? (i := 239) rfl)) rfl
theorem kg_240 : Cond.sameMethod "VoucherOffice$Paper" "VoucherOffice$Paper" "fee" "(I)I" ∈ gw := gw_in (tb_2 (List.mem_of_getElem? (i := 0) rfl)) rfl
theorem kg_241 : Cond.selects "VoucherOffice$Club" y_Pa_fee y_Pa_fee ∈ gw := gw_in (tb_2 (List.mem_of_getElem? (i := 1) rfl)) rfl
theorem kg_242 : Cond.selects "VoucherOffice$Crest" y_Pa_fee y_Cr_fee ∈ gw := gw_in (tb_2 (List.mem_of_getElem? (i := 2) rfl)) rfl
theorem kg_243 : Cond.instanceMethod y_Cr_fee ∈ gw := gw_in (tb_2 (List.mem_of_getElem? (i := 3) rfl)) rfl
theorem kg_244 : Cond.code y_Cr_fee prog_3_method_3_code 3 (some FieldType.int) ∈ gw := gw_in (tb_2 (List.mem_of_getElem? (i := 4) rfl)) rfl
theorem kg_245 : Cond.methodLink "VoucherOffice$Crest" 11 ⟨"VoucherOffice$House", "fee", "(I)I"⟩ ∈ gw := gw_in (tb_2 (List.mem_of_getElem? (i := 5) rfl)) rfl
theorem kg_246 : Cond.sameMethod "VoucherOffice$House" "VoucherOffice$Paper" "fee" "(I)I" ∈ gw := gw_in (tb_2 (List.mem_of_getElem? (i := 6) rfl)) rfl
theorem kf_247 : Cond.declares y_Pa_fee ∈ lw_tbl := tb_2 (List.mem_of_getElem? (i := 7) rfl)
theorem kg_248 : Cond.methodLink "VoucherOffice$Crest" 14 ⟨"VoucherOffice$Crest", "points", "()I"⟩ ∈ gw := gw_in (tb_2 (List.mem_of_getElem? (i := 8) rfl)) rfl
theorem kg_249 : Cond.sameMethod "VoucherOffice$Crest" "VoucherOffice$House" "points" "()I" ∈ gw := gw_in (tb_2 (List.mem_of_getElem? (i := 9) rfl)) rfl
theorem kf_250 : Cond.declares y_Ho_points ∈ lw_tbl := tb_2 (List.mem_of_getElem? (i := 10) rfl)
theorem kg_251 : Cond.selects "VoucherOffice$Crest" ⟨"VoucherOffice$Crest", "points", "()I"⟩ y_Ho_points ∈ gw := gw_in (tb_2 (List.mem_of_getElem? (i := 11) rfl)) rfl
theorem kg_252 : Cond.instanceMethod y_Ho_points ∈ gw := gw_in (tb_2 (List.mem_of_getElem? (i := 12) rfl)) rfl
theorem kg_253 : Cond.code y_Ho_points prog_6_method_2_code 1 (some FieldType.int) ∈ gw := gw_in (tb_2 (List.mem_of_getElem? (i := 13) rfl)) rfl
theorem kg_254 : Cond.methodLink "VoucherOffice$House" 7 ⟨"VoucherOffice$Club", "points", "()I"⟩ ∈ gw := gw_in (tb_2 (List.mem_of_getElem? (i := 14) rfl)) rfl
theorem kg_255 : Cond.sameMethod "VoucherOffice$Club" "VoucherOffice$Paper" "points" "()I" ∈ gw := gw_in (tb_2 (List.mem_of_getElem? (i := 15) rfl)) rfl
theorem kf_256 : Cond.declares y_Pa_points ∈ lw_tbl := tb_2 (List.mem_of_getElem? (i := 16) rfl)
theorem kg_257 : Cond.instanceMethod y_Pa_points ∈ gw := gw_in (tb_2 (List.mem_of_getElem? (i := 17) rfl)) rfl
theorem kg_258 : Cond.code y_Pa_points prog_7_method_7_code 1 (some FieldType.int) ∈ gw := gw_in (tb_2 (List.mem_of_getElem? (i := 18) rfl)) rfl
theorem kg_259 : Cond.selects "VoucherOffice$Gift" y_Pa_fee y_Pa_fee ∈ gw := gw_in (tb_2 (List.mem_of_getElem? (i := 19) rfl)) rfl
theorem kg_260 : Cond.selects "VoucherOffice$House" y_Pa_fee y_Pa_fee ∈ gw := gw_in (tb_2 (List.mem_of_getElem? (i := 20) rfl)) rfl
theorem kg_261 : Cond.selects "VoucherOffice$Rounded" y_Pa_fee y_Pa_fee ∈ gw := gw_in (tb_2 (List.mem_of_getElem? (i := 21) rfl)) rfl
theorem kg_262 : Cond.selects "VoucherOffice$Season" y_Pa_fee y_Pa_fee ∈ gw := gw_in (tb_2 (List.mem_of_getElem? (i := 22) rfl)) rfl
theorem kg_263 : Cond.selects "VoucherOffice$Staff" y_Pa_fee y_St_fee ∈ gw := gw_in (tb_2 (List.mem_of_getElem? (i := 23) rfl)) rfl
theorem kg_264 : Cond.instanceMethod y_St_fee ∈ gw := gw_in (tb_2 (List.mem_of_getElem? (i := 24) rfl)) rfl
theorem kg_265 : Cond.code y_St_fee prog_11_method_4_code 2 (some FieldType.int) ∈ gw := gw_in (tb_2 (List.mem_of_getElem? (i := 25) rfl)) rfl
theorem kg_266 : Cond.methodLink "VoucherOffice$Staff" 22 ⟨"VoucherOffice$Season", "fee", "(I)I"⟩ ∈ gw := gw_in (tb_2 (List.mem_of_getElem? (i := 26) rfl)) rfl
theorem kg_267 : Cond.sameMethod "VoucherOffice$Season" "VoucherOffice$Paper" "fee" "(I)I" ∈ gw := gw_in (tb_2 (List.mem_of_getElem? (i := 27) rfl)) rfl
theorem kg_268 : Cond.code y_Pa_fee prog_7_method_3_code 2 (some FieldType.int) ∈ gw := gw_in (tb_2 (List.mem_of_getElem? (i := 28) rfl)) rfl
theorem kg_269 : Cond.methodLink "VoucherOfficeLaw" 31 y_Of_spend ∈ gw := gw_in (tb_2 (List.mem_of_getElem? (i := 29) rfl)) rfl
theorem kg_270 : Cond.instanceMethod y_Of_spend ∈ gw := gw_in (tb_2 (List.mem_of_getElem? (i := 30) rfl)) rfl
theorem kg_271 : Cond.selects "VoucherOffice" y_Of_spend y_Of_spend ∈ gw := gw_in (tb_2 (List.mem_of_getElem? (i := 31) rfl)) rfl
theorem kg_272 : Cond.code y_Of_spend prog_1_method_9_code 6 (some FieldType.int) ∈ gw := gw_in (tb_2 (List.mem_of_getElem? (i := 32) rfl)) rfl
theorem kg_273 : Cond.methodLink "VoucherOffice" 72 y_Pa_spend ∈ gw := gw_in (tb_2 (List.mem_of_getElem? (i := 33) rfl)) rfl
theorem kg_274 : Cond.instanceMethod y_Pa_spend ∈ gw := gw_in (tb_2 (List.mem_of_getElem? (i := 34) rfl)) rfl
theorem kg_275 : Cond.selects "VoucherOffice$Paper" y_Pa_spend y_Pa_spend ∈ gw := gw_in (tb_2 (List.mem_of_getElem? (i := 35) rfl)) rfl
theorem kg_276 : Cond.sameMethod "VoucherOffice$Paper" "VoucherOffice$Paper" "spend" "(II)I" ∈ gw := gw_in (tb_2 (List.mem_of_getElem? (i := 36) rfl)) rfl
theorem kg_277 : Cond.selects "VoucherOffice$Club" y_Pa_spend y_Pa_spend ∈ gw := gw_in (tb_2 (List.mem_of_getElem? (i := 37) rfl)) rfl
theorem kg_278 : Cond.selects "VoucherOffice$Crest" y_Pa_spend y_Ho_spend ∈ gw := gw_in (tb_2 (List.mem_of_getElem? (i := 38) rfl)) rfl
theorem kg_279 : Cond.instanceMethod y_Ho_spend ∈ gw := gw_in (tb_2 (List.mem_of_getElem? (i := 39) rfl)) rfl
theorem kg_280 : Cond.code y_Ho_spend prog_6_method_4_code 4 (some FieldType.int) ∈ gw := gw_in (tb_2 (List.mem_of_getElem? (i := 40) rfl)) rfl
theorem kg_281 : Cond.methodLink "VoucherOffice$House" 20 ⟨"VoucherOffice$Club", "spend", "(II)I"⟩ ∈ gw := gw_in (tb_2 (List.mem_of_getElem? (i := 41) rfl)) rfl
theorem kg_282 : Cond.sameMethod "VoucherOffice$Club" "VoucherOffice$Paper" "spend" "(II)I" ∈ gw := gw_in (tb_2 (List.mem_of_getElem? (i := 42) rfl)) rfl
theorem kf_283 : Cond.declares y_Pa_spend ∈ lw_tbl := tb_2 (List.mem_of_getElem? (i := 43) rfl)
theorem kg_284 : Cond.selects "VoucherOffice$Gift" y_Pa_spend y_Pa_spend ∈ gw := gw_in (tb_2 (List.mem_of_getElem? (i := 44) rfl)) rfl
theorem kg_285 : Cond.selects "VoucherOffice$House" y_Pa_spend y_Ho_spend ∈ gw := gw_in (tb_2 (List.mem_of_getElem? (i := 45) rfl)) rfl
theorem kg_286 : Cond.selects "VoucherOffice$Rounded" y_Pa_spend y_Pa_spend ∈ gw := gw_in (tb_2 (List.mem_of_getElem? (i := 46) rfl)) rfl
theorem kg_287 : Cond.selects "VoucherOffice$Season" y_Pa_spend y_Pa_spend ∈ gw := gw_in (tb_2 (List.mem_of_getElem? (i := 47) rfl)) rfl
theorem kg_288 : Cond.selects "VoucherOffice$Staff" y_Pa_spend y_St_spend ∈ gw := gw_in (tb_2 (List.mem_of_getElem? (i := 48) rfl)) rfl
theorem kg_289 : Cond.instanceMethod y_St_spend ∈ gw := gw_in (tb_2 (List.mem_of_getElem? (i := 49) rfl)) rfl
theorem kg_290 : Cond.code y_St_spend prog_11_method_5_code 4 (some FieldType.int) ∈ gw := gw_in (tb_2 (List.mem_of_getElem? (i := 50) rfl)) rfl
theorem kg_291 : Cond.methodLink "VoucherOffice$Staff" 25 ⟨"VoucherOffice$Season", "spend", "(II)I"⟩ ∈ gw := gw_in (tb_2 (List.mem_of_getElem? (i := 51) rfl)) rfl
theorem kg_292 : Cond.sameMethod "VoucherOffice$Season" "VoucherOffice$Paper" "spend" "(II)I" ∈ gw := gw_in (tb_2 (List.mem_of_getElem? (i := 52) rfl)) rfl
theorem kg_293 : Cond.code y_Pa_spend prog_7_method_4_code 4 (some FieldType.int) ∈ gw := gw_in (tb_2 (List.mem_of_getElem? (i := 53) rfl)) rfl
theorem kg_294 : Cond.methodLink "VoucherOffice$Paper" 24 y_Pa_fee ∈ gw := gw_in (tb_2 (List.mem_of_getElem? (i := 54) rfl)) rfl
theorem kg_295 : Cond.methodLink "VoucherOffice$Paper" 28 y_Pa_worth ∈ gw := gw_in (tb_2 (List.mem_of_getElem? (i := 55) rfl)) rfl
theorem kg_296 : Cond.methodLink "VoucherOfficeLaw" 35 y_Of_seal ∈ gw := gw_in (tb_2 (List.mem_of_getElem? (i := 56) rfl)) rfl
theorem kg_297 : Cond.instanceMethod y_Of_seal ∈ gw := gw_in (tb_2 (List.mem_of_getElem? (i := 57) rfl)) rfl
theorem kg_298 : Cond.selects "VoucherOffice" y_Of_seal y_Of_seal ∈ gw := gw_in (tb_2 (List.mem_of_getElem? (i := 58) rfl)) rfl
theorem kg_299 : Cond.code y_Of_seal prog_1_method_10_code 3 (some FieldType.int) ∈ gw := gw_in (tb_2 (List.mem_of_getElem? (i := 59) rfl)) rfl
theorem kg_300 : Cond.methodLink "VoucherOffice" 82 y_Pa_seal ∈ gw := gw_in (tb_2 (List.mem_of_getElem? (i := 60) rfl)) rfl
theorem kg_301 : Cond.instanceMethod y_Pa_seal ∈ gw := gw_in (tb_2 (List.mem_of_getElem? (i := 61) rfl)) rfl
theorem kg_302 : Cond.selects "VoucherOffice$Paper" y_Pa_seal y_Pa_seal ∈ gw := gw_in (tb_2 (List.mem_of_getElem? (i := 62) rfl)) rfl
theorem kg_303 : Cond.sameMethod "VoucherOffice$Paper" "VoucherOffice$Paper" "seal" "()I" ∈ gw := gw_in (tb_2 (List.mem_of_getElem? (i := 63) rfl)) rfl
theorem kg_304 : Cond.selects "VoucherOffice$Club" y_Pa_seal y_Pa_seal ∈ gw := gw_in (tb_2 (List.mem_of_getElem? (i := 64) rfl)) rfl
theorem kg_305 : Cond.selects "VoucherOffice$Crest" y_Pa_seal y_Cr_seal ∈ gw := gw_in (tb_2 (List.mem_of_getElem? (i := 65) rfl)) rfl
theorem kg_306 : Cond.instanceMethod y_Cr_seal ∈ gw := gw_in (tb_2 (List.mem_of_getElem? (i := 66) rfl)) rfl
theorem kg_307 : Cond.code y_Cr_seal prog_3_method_4_code 1 (some FieldType.int) ∈ gw := gw_in (tb_2 (List.mem_of_getElem? (i := 67) rfl)) rfl
theorem kg_308 : Cond.methodLink "VoucherOffice$Crest" 20 ⟨"VoucherOffice$House", "seal", "()I"⟩ ∈ gw := gw_in (tb_2 (List.mem_of_getElem? (i := 68) rfl)) rfl
theorem kg_309 : Cond.sameMethod "VoucherOffice$House" "VoucherOffice$Paper" "seal" "()I" ∈ gw := gw_in (tb_2 (List.mem_of_getElem? (i := 69) rfl)) rfl
theorem kf_310 : Cond.declares y_Pa_seal ∈ lw_tbl := tb_2 (List.mem_of_getElem? (i := 70) rfl)
theorem kg_311 : Cond.selects "VoucherOffice$Gift" y_Pa_seal y_Pa_seal ∈ gw := gw_in (tb_2 (List.mem_of_getElem? (i := 71) rfl)) rfl
theorem kg_312 : Cond.selects "VoucherOffice$House" y_Pa_seal y_Pa_seal ∈ gw := gw_in (tb_2 (List.mem_of_getElem? (i := 72) rfl)) rfl
theorem kg_313 : Cond.selects "VoucherOffice$Rounded" y_Pa_seal y_Pa_seal ∈ gw := gw_in (tb_2 (List.mem_of_getElem? (i := 73) rfl)) rfl
theorem kg_314 : Cond.selects "VoucherOffice$Season" y_Pa_seal y_Se_seal ∈ gw := gw_in (tb_2 (List.mem_of_getElem? (i := 74) rfl)) rfl
theorem kg_315 : Cond.instanceMethod y_Se_seal ∈ gw := gw_in (tb_2 (List.mem_of_getElem? (i := 75) rfl)) rfl
theorem kg_316 : Cond.code y_Se_seal prog_10_method_4_code 1 (some FieldType.int) ∈ gw := gw_in (tb_2 (List.mem_of_getElem? (i := 76) rfl)) rfl
theorem kg_317 : Cond.methodLink "VoucherOffice$Season" 23 ⟨"VoucherOffice$Gift", "seal", "()I"⟩ ∈ gw := gw_in (tb_2 (List.mem_of_getElem? (i := 77) rfl)) rfl
theorem kg_318 : Cond.sameMethod "VoucherOffice$Gift" "VoucherOffice$Paper" "seal" "()I" ∈ gw := gw_in (tb_2 (List.mem_of_getElem? (i := 78) rfl)) rfl
theorem kg_319 : Cond.methodLink "VoucherOffice$Season" 27 y_Se_lastDay ∈ gw := gw_in (tb_2 (List.mem_of_getElem? (i := 79) rfl)) rfl
theorem kg_320 : Cond.selects "VoucherOffice$Staff" y_Pa_seal y_Se_seal ∈ gw := gw_in (tb_2 (List.mem_of_getElem? (i := 80) rfl)) rfl
theorem kg_321 : Cond.code y_Pa_seal prog_7_method_5_code 1 (some FieldType.int) ∈ gw := gw_in (tb_2 (List.mem_of_getElem? (i := 81) rfl)) rfl
theorem kg_322 : Cond.methodLink "VoucherOfficeLaw" 39 y_Of_mark ∈ gw := gw_in (tb_2 (List.mem_of_getElem? (i := 82) rfl)) rfl
theorem kg_323 : Cond.instanceMethod y_Of_mark ∈ gw := gw_in (tb_2 (List.mem_of_getElem? (i := 83) rfl)) rfl
theorem kg_324 : Cond.selects "VoucherOffice" y_Of_mark y_Of_mark ∈ gw := gw_in (tb_2 (List.mem_of_getElem? (i := 84) rfl)) rfl
theorem kg_325 : Cond.code y_Of_mark prog_1_method_11_code 5 (some FieldType.int) ∈ gw := gw_in (tb_2 (List.mem_of_getElem? (i := 85) rfl)) rfl
theorem kg_326 : Cond.classLink "VoucherOffice" 86 "VoucherOffice$Sealed" ∈ gw := gw_in (tb_2 (List.mem_of_getElem? (i := 86) rfl)) rfl
theorem kg_328 : Cond.methodLink "VoucherOffice" 88 y_Sl_mark ∈ gw := gw_in (tb_2 (List.mem_of_getElem? (i := 88) rfl)) rfl
theorem kf_329 : Cond.interfaceMethod "VoucherOffice$Sealed" "VoucherOffice$Sealed" "mark" "(I)I" ∈ lw_tbl := tb_2 (List.mem_of_getElem? (i := 89) rfl)
theorem kf_330 : Cond.declares y_Sl_mark ∈ lw_tbl := tb_2 (List.mem_of_getElem? (i := 90) rfl)
theorem kf_331 : Cond.castable "VoucherOffice$Club" "VoucherOffice$Sealed" ∈ lw_tbl := tb_2 (List.mem_of_getElem? (i := 91) rfl)
theorem kf_332 : Cond.unhidden "VoucherOffice$Club" "mark" "(I)I" ∈ lw_tbl := tb_2 (List.mem_of_getElem? (i := 92) rfl)
theorem kg_333 : Cond.instanceMethod y_Sl_mark ∈ gw := gw_in (tb_2 (List.mem_of_getElem? (i := 93) rfl)) rfl
theorem kf_334 : Cond.publicMethod y_Sl_mark ∈ lw_tbl := tb_2 (List.mem_of_getElem? (i := 94) rfl)
theorem kg_335 : Cond.code y_Sl_mark prog_9_method_2_code 2 (some FieldType.int) ∈ gw := gw_in (tb_2 (List.mem_of_getElem? (i := 95) rfl)) rfl
theorem kg_337 : Cond.methodLink "VoucherOffice$Sealed" 1 ⟨"VoucherOffice$Sealed", "seal", "()I"⟩ ∈ gw := gw_in (tb_2 (List.mem_of_getElem? (i := 97) rfl)) rfl
theorem kf_338 : Cond.interfaceMethod "VoucherOffice$Sealed" "VoucherOffice$Sealed" "seal" "()I" ∈ lw_tbl := tb_2 (List.mem_of_getElem? (i := 98) rfl)
theorem kf_339 : Cond.declares ⟨"VoucherOffice$Sealed", "seal", "()I"⟩ ∈ lw_tbl := tb_2 (List.mem_of_getElem? (i := 99) rfl)
theorem kg_340 : Cond.selects "VoucherOffice$Club" ⟨"VoucherOffice$Sealed", "seal", "()I"⟩ y_Pa_seal ∈ gw := gw_in (tb_2 (List.mem_of_getElem? (i := 100) rfl)) rfl
theorem kf_341 : Cond.unhidden "VoucherOffice$Club" "seal" "()I" ∈ lw_tbl := tb_2 (List.mem_of_getElem? (i := 101) rfl)
theorem kf_342 : Cond.publicMethod y_Pa_seal ∈ lw_tbl := tb_2 (List.mem_of_getElem? (i := 102) rfl)
theorem kf_343 : Cond.castable "VoucherOffice$Crest" "VoucherOffice$Sealed" ∈ lw_tbl := tb_2 (List.mem_of_getElem? (i := 103) rfl)
theorem kg_344 : Cond.selects "VoucherOffice$Crest" ⟨"VoucherOffice$Sealed", "seal", "()I"⟩ y_Cr_seal ∈ gw := gw_in (tb_2 (List.mem_of_getElem? (i := 104) rfl)) rfl
theorem kf_345 : Cond.unhidden "VoucherOffice$Crest" "seal" "()I" ∈ lw_tbl := tb_2 (List.mem_of_getElem? (i := 105) rfl)
theorem kf_346 : Cond.publicMethod y_Cr_seal ∈ lw_tbl := tb_2 (List.mem_of_getElem? (i := 106) rfl)
theorem kf_347 : Cond.castable "VoucherOffice$House" "VoucherOffice$Sealed" ∈ lw_tbl := tb_2 (List.mem_of_getElem? (i := 107) rfl)
theorem kg_348 : Cond.selects "VoucherOffice$House" ⟨"VoucherOffice$Sealed", "seal", "()I"⟩ y_Pa_seal ∈ gw := gw_in (tb_2 (List.mem_of_getElem? (i := 108) rfl)) rfl
theorem kf_349 : Cond.unhidden "VoucherOffice$House" "seal" "()I" ∈ lw_tbl := tb_2 (List.mem_of_getElem? (i := 109) rfl)
theorem kf_350 : Cond.unhidden "VoucherOffice$Crest" "mark" "(I)I" ∈ lw_tbl := tb_2 (List.mem_of_getElem? (i := 110) rfl)
theorem kf_351 : Cond.unhidden "VoucherOffice$House" "mark" "(I)I" ∈ lw_tbl := tb_2 (List.mem_of_getElem? (i := 111) rfl)
theorem kg_352 : Cond.methodLink "VoucherOfficeLaw" 43 y_Of_daysLeft ∈ gw := gw_in (tb_2 (List.mem_of_getElem? (i := 112) rfl)) rfl
theorem kg_353 : Cond.instanceMethod y_Of_daysLeft ∈ gw := gw_in (tb_2 (List.mem_of_getElem? (i := 113) rfl)) rfl
theorem kg_354 : Cond.selects "VoucherOffice" y_Of_daysLeft y_Of_daysLeft ∈ gw := gw_in (tb_2 (List.mem_of_getElem? (i := 114) rfl)) rfl
theorem kg_355 : Cond.code y_Of_daysLeft prog_1_method_12_code 5 (some FieldType.int) ∈ gw := gw_in (tb_2 (List.mem_of_getElem? (i := 115) rfl)) rfl
theorem kg_356 : Cond.classLink "VoucherOffice" 91 "VoucherOffice$Dated" ∈ gw := gw_in (tb_2 (List.mem_of_getElem? (i := 116) rfl)) rfl
theorem kg_358 : Cond.methodLink "VoucherOffice" 93 y_Da_daysLeft ∈ gw := gw_in (tb_2 (List.mem_of_getElem? (i := 118) rfl)) rfl
theorem kf_359 : Cond.interfaceMethod "VoucherOffice$Dated" "VoucherOffice$Dated" "daysLeft" "(I)I" ∈ lw_tbl := tb_2 (List.mem_of_getElem? (i := 119) rfl)
theorem kf_360 : Cond.declares y_Da_daysLeft ∈ lw_tbl := tb_2 (List.mem_of_getElem? (i := 120) rfl)
theorem kf_361 : Cond.unhidden "VoucherOffice$Season" "daysLeft" "(I)I" ∈ lw_tbl := tb_2 (List.mem_of_getElem? (i := 121) rfl)
theorem kg_362 : Cond.instanceMethod y_Da_daysLeft ∈ gw := gw_in (tb_2 (List.mem_of_getElem? (i := 122) rfl)) rfl
theorem kf_363 : Cond.publicMethod y_Da_daysLeft ∈ lw_tbl := tb_2 (List.mem_of_getElem? (i := 123) rfl)
theorem kg_364 : Cond.code y_Da_daysLeft prog_4_method_3_code 2 (some FieldType.int) ∈ gw := gw_in (tb_2 (List.mem_of_getElem? (i := 124) rfl)) rfl
theorem kg_366 : Cond.methodLink "VoucherOffice$Dated" 7 y_Da_isOver ∈ gw := gw_in (tb_2 (List.mem_of_getElem? (i := 126) rfl)) rfl
theorem kf_367 : Cond.unhidden "VoucherOffice$Staff" "daysLeft" "(I)I" ∈ lw_tbl := tb_2 (List.mem_of_getElem? (i := 127) rfl)
theorem kg_368 : Cond.methodLink "VoucherOfficeLaw" 47 y_Of_lapse ∈ gw := gw_in (tb_2 (List.mem_of_getElem? (i := 128) rfl)) rfl
theorem kg_369 : Cond.instanceMethod y_Of_lapse ∈ gw := gw_in (tb_2 (List.mem_of_getElem? (i := 129) rfl)) rfl
theorem kg_370 : Cond.selects "VoucherOffice" y_Of_lapse y_Of_lapse ∈ gw := gw_in (tb_2 (List.mem_of_getElem? (i := 130) rfl)) rfl
theorem kg_371 : Cond.code y_Of_lapse prog_1_method_13_code 5 (some FieldType.int) ∈ gw := gw_in (tb_2 (List.mem_of_getElem? (i := 131) rfl)) rfl
theorem kg_373 : Cond.methodLink "VoucherOffice" 96 y_Da_isOver ∈ gw := gw_in (tb_2 (List.mem_of_getElem? (i := 133) rfl)) rfl
theorem kg_374 : Cond.methodLink "VoucherOfficeLaw" 52 y_Of_merge ∈ gw := gw_in (tb_2 (List.mem_of_getElem? (i := 134) rfl)) rfl
theorem kg_375 : Cond.instanceMethod y_Of_merge ∈ gw := gw_in (tb_2 (List.mem_of_getElem? (i := 135) rfl)) rfl
theorem kg_376 : Cond.selects "VoucherOffice" y_Of_merge y_Of_merge ∈ gw := gw_in (tb_2 (List.mem_of_getElem? (i := 136) rfl)) rfl
theorem kg_377 : Cond.code y_Of_merge prog_1_method_14_code 5 (some FieldType.int) ∈ gw := gw_in (tb_2 (List.mem_of_getElem? (i := 137) rfl)) rfl
theorem kg_378 : Cond.methodLink "VoucherOffice" 109 y_Pa_take ∈ gw := gw_in (tb_2 (List.mem_of_getElem? (i := 138) rfl)) rfl
theorem kg_379 : Cond.instanceMethod y_Pa_take ∈ gw := gw_in (tb_2 (List.mem_of_getElem? (i := 139) rfl)) rfl
theorem kg_380 : Cond.selects "VoucherOffice$Paper" y_Pa_take y_Pa_take ∈ gw := gw_in (tb_2 (List.mem_of_getElem? (i := 140) rfl)) rfl
theorem kg_381 : Cond.sameMethod "VoucherOffice$Paper" "VoucherOffice$Paper" "take" "(LVoucherOffice$Paper;)V" ∈ gw := gw_in (tb_2 (List.mem_of_getElem? (i := 141) rfl)) rfl
theorem kg_382 : Cond.selects "VoucherOffice$Club" y_Pa_take y_Pa_take ∈ gw := gw_in (tb_2 (List.mem_of_getElem? (i := 142) rfl)) rfl
theorem kg_383 : Cond.selects "VoucherOffice$Crest" y_Pa_take y_Ho_take ∈ gw := gw_in (tb_2 (List.mem_of_getElem? (i := 143) rfl)) rfl
theorem kg_384 : Cond.instanceMethod y_Ho_take ∈ gw := gw_in (tb_2 (List.mem_of_getElem? (i := 144) rfl)) rfl
theorem kg_385 : Cond.code y_Ho_take prog_6_method_5_code 2 none ∈ gw := gw_in (tb_2 (List.mem_of_getElem? (i := 145) rfl)) rfl
theorem kg_386 : Cond.methodLink "VoucherOffice$House" 24 ⟨"VoucherOffice$Club", "take", "(LVoucherOffice$Paper;)V"⟩ ∈ gw := gw_in (tb_2 (List.mem_of_getElem? (i := 146) rfl)) rfl
theorem kg_387 : Cond.sameMethod "VoucherOffice$Club" "VoucherOffice$Paper" "take" "(LVoucherOffice$Paper;)V" ∈ gw := gw_in (tb_2 (List.mem_of_getElem? (i := 147) rfl)) rfl
theorem kf_388 : Cond.declares y_Pa_take ∈ lw_tbl := tb_2 (List.mem_of_getElem? (i := 148) rfl)
theorem kg_389 : Cond.methodLink "VoucherOffice$House" 28 y_Pa_points ∈ gw := gw_in (tb_2 (List.mem_of_getElem? (i := 149) rfl)) rfl
theorem kg_390 : Cond.selects "VoucherOffice$Gift" y_Pa_take y_Pa_take ∈ gw := gw_in (tb_2 (List.mem_of_getElem? (i := 150) rfl)) rfl
theorem kg_391 : Cond.selects "VoucherOffice$House" y_Pa_take y_Ho_take ∈ gw := gw_in (tb_2 (List.mem_of_getElem? (i := 151) rfl)) rfl
theorem kg_392 : Cond.selects "VoucherOffice$Rounded" y_Pa_take y_Pa_take ∈ gw := gw_in (tb_2 (List.mem_of_getElem? (i := 152) rfl)) rfl
theorem kg_393 : Cond.selects "VoucherOffice$Season" y_Pa_take y_Pa_take ∈ gw := gw_in (tb_2 (List.mem_of_getElem? (i := 153) rfl)) rfl
theorem kg_394 : Cond.selects "VoucherOffice$Staff" y_Pa_take y_St_take ∈ gw := gw_in (tb_2 (List.mem_of_getElem? (i := 154) rfl)) rfl
theorem kg_395 : Cond.instanceMethod y_St_take ∈ gw := gw_in (tb_2 (List.mem_of_getElem? (i := 155) rfl)) rfl
theorem kg_396 : Cond.code y_St_take prog_11_method_6_code 3 none ∈ gw := gw_in (tb_2 (List.mem_of_getElem? (i := 156) rfl)) rfl
theorem kg_397 : Cond.methodLink "VoucherOffice$Staff" 29 ⟨"VoucherOffice$Season", "take", "(LVoucherOffice$Paper;)V"⟩ ∈ gw := gw_in (tb_2 (List.mem_of_getElem? (i := 157) rfl)) rfl
theorem kg_398 : Cond.sameMethod "VoucherOffice$Season" "VoucherOffice$Paper" "take" "(LVoucherOffice$Paper;)V" ∈ gw := gw_in (tb_2 (List.mem_of_getElem? (i := 158) rfl)) rfl
theorem kg_399 : Cond.classLink "VoucherOffice$Staff" 10 "VoucherOffice$Staff" ∈ gw := gw_in (tb_2 (List.mem_of_getElem? (i := 159) rfl)) rfl
theorem kg_400 : Cond.code y_Pa_take prog_7_method_6_code 2 none ∈ gw := gw_in (tb_2 (List.mem_of_getElem? (i := 160) rfl)) rfl
theorem kg_401 : Cond.methodLink "VoucherOfficeLaw" 56 y_Of_total ∈ gw := gw_in (tb_2 (List.mem_of_getElem? (i := 161) rfl)) rfl
theorem kg_402 : Cond.instanceMethod y_Of_total ∈ gw := gw_in (tb_2 (List.mem_of_getElem? (i := 162) rfl)) rfl
theorem kg_403 : Cond.selects "VoucherOffice" y_Of_total y_Of_total ∈ gw := gw_in (tb_2 (List.mem_of_getElem? (i := 163) rfl)) rfl
theorem kg_404 : Cond.code y_Of_total prog_1_method_15_code 4 (some FieldType.int) ∈ gw := gw_in (tb_2 (List.mem_of_getElem? (i := 164) rfl)) rfl
theorem kg_405 : Cond.methodLink "VoucherOfficeLaw" 60 y_Of_paper ∈ gw := gw_in (tb_2 (List.mem_of_getElem? (i := 165) rfl)) rfl
theorem kg_406 : Cond.instanceMethod y_Of_paper ∈ gw := gw_in (tb_2 (List.mem_of_getElem? (i := 166) rfl)) rfl
theorem kg_407 : Cond.selects "VoucherOffice" y_Of_paper y_Of_paper ∈ gw := gw_in (tb_2 (List.mem_of_getElem? (i := 167) rfl)) rfl
theorem kg_408 : Cond.code y_Of_paper prog_1_method_16_code 5 (some FieldType.int) ∈ gw := gw_in (tb_2 (List.mem_of_getElem? (i := 168) rfl)) rfl
theorem kg_409 : Cond.methodLink "VoucherOffice" 116 y_Pa_points ∈ gw := gw_in (tb_2 (List.mem_of_getElem? (i := 169) rfl)) rfl
theorem kg_411 : Cond.methodLink "VoucherOffice" 119 ⟨"VoucherOffice$Dated", "lastDay", "()I"⟩ ∈ gw := gw_in (tb_2 (List.mem_of_getElem? (i := 171) rfl)) rfl
theorem kg_412 : Cond.methodLink "VoucherOfficeLaw" 64 y_Of_count ∈ gw := gw_in (tb_2 (List.mem_of_getElem? (i := 172) rfl)) rfl
theorem kg_413 : Cond.instanceMethod y_Of_count ∈ gw := gw_in (tb_2 (List.mem_of_getElem? (i := 173) rfl)) rfl
theorem kg_414 : Cond.selects "VoucherOffice" y_Of_count y_Of_count ∈ gw := gw_in (tb_2 (List.mem_of_getElem? (i := 174) rfl)) rfl
theorem kg_415 : Cond.code y_Of_count prog_1_method_18_code 2 (some FieldType.int) ∈ gw := gw_in (tb_2 (List.mem_of_getElem? (i := 175) rfl)) rfl
theorem kg_416 : Cond.methodLink "VoucherOffice" 122 y_Of_leftOfAll ∈ gw := gw_in (tb_2 (List.mem_of_getElem? (i := 176) rfl)) rfl
theorem kf_417 : Cond.privateMethod y_Of_leftOfAll ∈ lw_tbl := tb_2 (List.mem_of_getElem? (i := 177) rfl)
theorem kg_418 : Cond.instanceMethod y_Of_leftOfAll ∈ gw := gw_in (tb_2 (List.mem_of_getElem? (i := 178) rfl)) rfl
theorem kg_419 : Cond.code y_Of_leftOfAll prog_1_method_17_code 3 (some FieldType.int) ∈ gw := gw_in (tb_2 (List.mem_of_getElem? (i := 179) rfl)) rfl
theorem kg_420 : Cond.classLink "VoucherOfficeLaw" 10 "VoucherOfficeModel" ∈ gw := gw_in (tb_2 (List.mem_of_getElem? (i := 180) rfl)) rfl
theorem kg_421 : Cond.instantiable "VoucherOfficeModel" 13 ∈ gw := gw_in (tb_2 (List.mem_of_getElem? (i := 181) rfl)) rfl
theorem kg_422 : Cond.methodLink "VoucherOfficeLaw" 12 y_Mo_init ∈ gw := gw_in (tb_2 (List.mem_of_getElem? (i := 182) rfl)) rfl
theorem kg_423 : Cond.instanceMethod y_Mo_init ∈ gw := gw_in (tb_2 (List.mem_of_getElem? (i := 183) rfl)) rfl
theorem kg_424 : Cond.code y_Mo_init prog_13_method_1_code 1 none ∈ gw := gw_in (tb_2 (List.mem_of_getElem? (i := 184) rfl)) rfl
theorem kg_425 : Cond.methodLink "VoucherOfficeModel" 1 y_Obj_init ∈ gw := gw_in (tb_2 (List.mem_of_getElem? (i := 185) rfl)) rfl
theorem kg_426 : Cond.fieldLink "VoucherOfficeModel" 52 "VoucherOfficeModel" "day" "I" ∈ gw := gw_in (tb_2 (List.mem_of_getElem? (i := 186) rfl)) rfl
theorem kg_427 : Cond.fieldLink "VoucherOfficeModel" 32 "VoucherOfficeModel" "issued" "I" ∈ gw := gw_in (tb_2 (List.mem_of_getElem? (i := 187) rfl)) rfl
theorem kg_428 : Cond.fieldLink "VoucherOfficeModel" 55 "VoucherOfficeModel" "amounts" "I" ∈ gw := gw_in (tb_2 (List.mem_of_getElem? (i := 188) rfl)) rfl
theorem kg_429 : Cond.fieldLink "VoucherOfficeModel" 68 "VoucherOfficeModel" "spent" "I" ∈ gw := gw_in (tb_2 (List.mem_of_getElem? (i := 189) rfl)) rfl
theorem kg_430 : Cond.fieldLink "VoucherOfficeModel" 71 "VoucherOfficeModel" "fees" "I" ∈ gw := gw_in (tb_2 (List.mem_of_getElem? (i := 190) rfl)) rfl
theorem kg_431 : Cond.fieldLink "VoucherOfficeModel" 77 "VoucherOfficeModel" "lapsed" "I" ∈ gw := gw_in (tb_2 (List.mem_of_getElem? (i := 191) rfl)) rfl
theorem kg_432 : Cond.fieldLink "VoucherOfficeModel" 7 "VoucherOfficeModel" "kindOf" "[I" ∈ gw := gw_in (tb_2 (List.mem_of_getElem? (i := 192) rfl)) rfl
theorem kg_433 : Cond.fieldLink "VoucherOfficeModel" 13 "VoucherOfficeModel" "amountOf" "[I" ∈ gw := gw_in (tb_2 (List.mem_of_getElem? (i := 193) rfl)) rfl
theorem kg_434 : Cond.fieldLink "VoucherOfficeModel" 16 "VoucherOfficeModel" "leftOf" "[I" ∈ gw := gw_in (tb_2 (List.mem_of_getElem? (i := 194) rfl)) rfl
theorem kg_435 : Cond.fieldLink "VoucherOfficeModel" 19 "VoucherOfficeModel" "fromOf" "[I" ∈ gw := gw_in (tb_2 (List.mem_of_getElem? (i := 195) rfl)) rfl
theorem kg_436 : Cond.fieldLink "VoucherOfficeModel" 22 "VoucherOfficeModel" "pointsOf" "[I" ∈ gw := gw_in (tb_2 (List.mem_of_getElem? (i := 196) rfl)) rfl
theorem kg_437 : Cond.fieldLink "VoucherOfficeModel" 25 "VoucherOfficeModel" "spentOn" "[I" ∈ gw := gw_in (tb_2 (List.mem_of_getElem? (i := 197) rfl)) rfl
theorem kg_438 : Cond.fieldLink "VoucherOfficeModel" 28 "VoucherOfficeModel" "gone" "[Z" ∈ gw := gw_in (tb_2 (List.mem_of_getElem? (i := 198) rfl)) rfl
theorem kg_439 : Cond.lays "VoucherOfficeModel" "VoucherOfficeModel" "day" "I" ∈ gw := gw_in (tb_2 (List.mem_of_getElem? (i := 199) rfl)) rfl
theorem kg_441 : Cond.lays "VoucherOfficeModel" "VoucherOfficeModel" "issued" "I" ∈ gw := gw_in (tb_2 (List.mem_of_getElem? (i := 201) rfl)) rfl
theorem kg_443 : Cond.lays "VoucherOfficeModel" "VoucherOfficeModel" "amounts" "I" ∈ gw := gw_in (tb_2 (List.mem_of_getElem? (i := 203) rfl)) rfl
theorem kg_445 : Cond.lays "VoucherOfficeModel" "VoucherOfficeModel" "spent" "I" ∈ gw := gw_in (tb_2 (List.mem_of_getElem? (i := 205) rfl)) rfl
theorem kg_447 : Cond.lays "VoucherOfficeModel" "VoucherOfficeModel" "fees" "I" ∈ gw := gw_in (tb_2 (List.mem_of_getElem? (i := 207) rfl)) rfl
theorem kg_449 : Cond.lays "VoucherOfficeModel" "VoucherOfficeModel" "lapsed" "I" ∈ gw := gw_in (tb_2 (List.mem_of_getElem? (i := 209) rfl)) rfl
theorem kg_451 : Cond.laysFinal "VoucherOfficeModel" "VoucherOfficeModel" "kindOf" "[I" ∈ gw := gw_in (tb_2 (List.mem_of_getElem? (i := 211) rfl)) rfl
theorem kg_453 : Cond.laysFinal "VoucherOfficeModel" "VoucherOfficeModel" "amountOf" "[I" ∈ gw := gw_in (tb_2 (List.mem_of_getElem? (i := 213) rfl)) rfl
theorem kg_455 : Cond.laysFinal "VoucherOfficeModel" "VoucherOfficeModel" "leftOf" "[I" ∈ gw := gw_in (tb_2 (List.mem_of_getElem? (i := 215) rfl)) rfl
theorem kg_457 : Cond.laysFinal "VoucherOfficeModel" "VoucherOfficeModel" "fromOf" "[I" ∈ gw := gw_in (tb_2 (List.mem_of_getElem? (i := 217) rfl)) rfl
theorem kg_459 : Cond.laysFinal "VoucherOfficeModel" "VoucherOfficeModel" "pointsOf" "[I" ∈ gw := gw_in (tb_2 (List.mem_of_getElem? (i := 219) rfl)) rfl
theorem kg_461 : Cond.laysFinal "VoucherOfficeModel" "VoucherOfficeModel" "spentOn" "[I" ∈ gw := gw_in (tb_2 (List.mem_of_getElem? (i := 221) rfl)) rfl
theorem kg_463 : Cond.laysFinal "VoucherOfficeModel" "VoucherOfficeModel" "gone" "[Z" ∈ gw := gw_in (tb_2 (List.mem_of_getElem? (i := 223) rfl)) rfl
theorem kg_465 : Cond.superclass "VoucherOfficeModel" "java/lang/Object" ∈ gw := gw_in (tb_2 (List.mem_of_getElem? (i := 225) rfl)) rfl
theorem kg_466 : Cond.arrayClass FieldType.int ∈ gw := gw_in (tb_2 (List.mem_of_getElem? (i := 226) rfl)) rfl
theorem kg_467 : Cond.arrayClass FieldType.boolean ∈ gw := gw_in (tb_2 (List.mem_of_getElem? (i := 227) rfl)) rfl
theorem kg_468 : Cond.methodLink "VoucherOfficeLaw" 17 y_Mo_issue ∈ gw := gw_in (tb_2 (List.mem_of_getElem? (i := 228) rfl)) rfl
theorem kg_469 : Cond.instanceMethod y_Mo_issue ∈ gw := gw_in (tb_2 (List.mem_of_getElem? (i := 229) rfl)) rfl
theorem kg_470 : Cond.selects "VoucherOfficeModel" y_Mo_issue y_Mo_issue ∈ gw := gw_in (tb_2 (List.mem_of_getElem? (i := 230) rfl)) rfl
theorem kg_471 : Cond.code y_Mo_issue prog_13_method_10_code 4 (some FieldType.int) ∈ gw := gw_in (tb_2 (List.mem_of_getElem? (i := 231) rfl)) rfl
theorem kg_472 : Cond.methodLink "VoucherOfficeModel" 36 y_Mo_within ∈ gw := gw_in (tb_2 (List.mem_of_getElem? (i := 232) rfl)) rfl
theorem kg_473 : Cond.static y_Mo_within ∈ gw := gw_in (tb_2 (List.mem_of_getElem? (i := 233) rfl)) rfl
theorem kg_474 : Cond.code y_Mo_within prog_13_method_2_code 3 (some FieldType.boolean) ∈ gw := gw_in (tb_2 (List.mem_of_getElem? (i := 234) rfl)) rfl
theorem kg_475 : Cond.constant "VoucherOfficeModel" 51 100000 ∈ gw := gw_in (tb_2 (List.mem_of_getElem? (i := 235) rfl)) rfl
theorem kg_476 : Cond.methodLink "VoucherOfficeLaw" 22 y_Mo_pass ∈ gw := gw_in (tb_2 (List.mem_of_getElem? (i := 236) rfl)) rfl
theorem kg_477 : Cond.instanceMethod y_Mo_pass ∈ gw := gw_in (tb_2 (List.mem_of_getElem? (i := 237) rfl)) rfl
theorem kg_478 : Cond.selects "VoucherOfficeModel" y_Mo_pass y_Mo_pass ∈ gw := gw_in (tb_2 (List.mem_of_getElem? (i := 238) rfl)) rfl
theorem kg_479 : Cond.code y_Mo_pass prog_13_method_11_code 2 (some FieldType.int) ∈ gw := gw_in (tb_2 (List.mem_of_getElem? (i := 239) rfl)) rfl
theorem kg_480 : Cond.methodLink "VoucherOfficeLaw" 26 y_Mo_value ∈ gw := gw_in (tb_3 (List.mem_of_getElem? (i := 0) rfl)) rfl
theorem kg_481 : Cond.instanceMethod y_Mo_value ∈ gw := gw_in (tb_3 (List.mem_of_getElem? (i := 1) rfl)) rfl
theorem kg_482 : Cond.selects "VoucherOfficeModel" y_Mo_value y_Mo_value ∈ gw := gw_in (tb_3 (List.mem_of_getElem? (i := 2) rfl)) rfl
theorem kg_483 : Cond.code y_Mo_value prog_13_method_12_code 3 (some FieldType.int) ∈ gw := gw_in (tb_3 (List.mem_of_getElem? (i := 3) rfl)) rfl
theorem kg_484 : Cond.methodLink "VoucherOfficeModel" 58 y_Mo_isThere ∈ gw := gw_in (tb_3 (List.mem_of_getElem? (i := 4) rfl)) rfl
theorem kf_485 : Cond.privateMethod y_Mo_isThere ∈ lw_tbl := tb_3 (List.mem_of_getElem? (i := 5) rfl)
theorem kg_486 : Cond.instanceMethod y_Mo_isThere ∈ gw := gw_in (tb_3 (List.mem_of_getElem? (i := 6) rfl)) rfl
theorem kg_487 : Cond.code y_Mo_isThere prog_13_method_3_code 2 (some FieldType.boolean) ∈ gw := gw_in (tb_3 (List.mem_of_getElem? (i := 7) rfl)) rfl
theorem kg_488 : Cond.methodLink "VoucherOfficeModel" 61 y_Mo_valueOf ∈ gw := gw_in (tb_3 (List.mem_of_getElem? (i := 8) rfl)) rfl
theorem kf_489 : Cond.privateMethod y_Mo_valueOf ∈ lw_tbl := tb_3 (List.mem_of_getElem? (i := 9) rfl)
theorem kg_490 : Cond.instanceMethod y_Mo_valueOf ∈ gw := gw_in (tb_3 (List.mem_of_getElem? (i := 10) rfl)) rfl
theorem kg_491 : Cond.code y_Mo_valueOf prog_13_method_7_code 4 (some FieldType.int) ∈ gw := gw_in (tb_3 (List.mem_of_getElem? (i := 11) rfl)) rfl
theorem kg_492 : Cond.methodLink "VoucherOfficeModel" 40 y_Mo_isDated ∈ gw := gw_in (tb_3 (List.mem_of_getElem? (i := 12) rfl)) rfl
theorem kf_493 : Cond.privateMethod y_Mo_isDated ∈ lw_tbl := tb_3 (List.mem_of_getElem? (i := 13) rfl)
theorem kg_494 : Cond.instanceMethod y_Mo_isDated ∈ gw := gw_in (tb_3 (List.mem_of_getElem? (i := 14) rfl)) rfl
theorem kg_495 : Cond.code y_Mo_isDated prog_13_method_4_code 2 (some FieldType.boolean) ∈ gw := gw_in (tb_3 (List.mem_of_getElem? (i := 15) rfl)) rfl
theorem kg_496 : Cond.methodLink "VoucherOfficeModel" 44 y_Mo_lastDay ∈ gw := gw_in (tb_3 (List.mem_of_getElem? (i := 16) rfl)) rfl
theorem kf_497 : Cond.privateMethod y_Mo_lastDay ∈ lw_tbl := tb_3 (List.mem_of_getElem? (i := 17) rfl)
theorem kg_498 : Cond.instanceMethod y_Mo_lastDay ∈ gw := gw_in (tb_3 (List.mem_of_getElem? (i := 18) rfl)) rfl
theorem kg_499 : Cond.code y_Mo_lastDay prog_13_method_6_code 2 (some FieldType.int) ∈ gw := gw_in (tb_3 (List.mem_of_getElem? (i := 19) rfl)) rfl
theorem kg_500 : Cond.methodLink "VoucherOfficeModel" 48 y_Mo_hasPoints ∈ gw := gw_in (tb_3 (List.mem_of_getElem? (i := 20) rfl)) rfl
theorem kf_501 : Cond.privateMethod y_Mo_hasPoints ∈ lw_tbl := tb_3 (List.mem_of_getElem? (i := 21) rfl)
theorem kg_502 : Cond.instanceMethod y_Mo_hasPoints ∈ gw := gw_in (tb_3 (List.mem_of_getElem? (i := 22) rfl)) rfl
theorem kg_503 : Cond.code y_Mo_hasPoints prog_13_method_5_code 2 (some FieldType.boolean) ∈ gw := gw_in (tb_3 (List.mem_of_getElem? (i := 23) rfl)) rfl
theorem kg_504 : Cond.methodLink "VoucherOfficeLaw" 30 y_Mo_fee ∈ gw := gw_in (tb_3 (List.mem_of_getElem? (i := 24) rfl)) rfl
theorem kg_505 : Cond.instanceMethod y_Mo_fee ∈ gw := gw_in (tb_3 (List.mem_of_getElem? (i := 25) rfl)) rfl
theorem kg_506 : Cond.selects "VoucherOfficeModel" y_Mo_fee y_Mo_fee ∈ gw := gw_in (tb_3 (List.mem_of_getElem? (i := 26) rfl)) rfl
theorem kg_507 : Cond.code y_Mo_fee prog_13_method_13_code 3 (some FieldType.int) ∈ gw := gw_in (tb_3 (List.mem_of_getElem? (i := 27) rfl)) rfl
theorem kg_508 : Cond.methodLink "VoucherOfficeModel" 65 y_Mo_feeOf ∈ gw := gw_in (tb_3 (List.mem_of_getElem? (i := 28) rfl)) rfl
theorem kf_509 : Cond.privateMethod y_Mo_feeOf ∈ lw_tbl := tb_3 (List.mem_of_getElem? (i := 29) rfl)
theorem kg_510 : Cond.instanceMethod y_Mo_feeOf ∈ gw := gw_in (tb_3 (List.mem_of_getElem? (i := 30) rfl)) rfl
theorem kg_511 : Cond.code y_Mo_feeOf prog_13_method_8_code 4 (some FieldType.int) ∈ gw := gw_in (tb_3 (List.mem_of_getElem? (i := 31) rfl)) rfl
theorem kg_512 : Cond.methodLink "VoucherOfficeLaw" 34 y_Mo_spend ∈ gw := gw_in (tb_3 (List.mem_of_getElem? (i := 32) rfl)) rfl
theorem kg_513 : Cond.instanceMethod y_Mo_spend ∈ gw := gw_in (tb_3 (List.mem_of_getElem? (i := 33) rfl)) rfl
theorem kg_514 : Cond.selects "VoucherOfficeModel" y_Mo_spend y_Mo_spend ∈ gw := gw_in (tb_3 (List.mem_of_getElem? (i := 34) rfl)) rfl
theorem kg_515 : Cond.code y_Mo_spend prog_13_method_14_code 4 (some FieldType.int) ∈ gw := gw_in (tb_3 (List.mem_of_getElem? (i := 35) rfl)) rfl
theorem kg_516 : Cond.methodLink "VoucherOfficeLaw" 38 y_Mo_seal ∈ gw := gw_in (tb_3 (List.mem_of_getElem? (i := 36) rfl)) rfl
theorem kg_517 : Cond.instanceMethod y_Mo_seal ∈ gw := gw_in (tb_3 (List.mem_of_getElem? (i := 37) rfl)) rfl
theorem kg_518 : Cond.selects "VoucherOfficeModel" y_Mo_seal y_Mo_seal ∈ gw := gw_in (tb_3 (List.mem_of_getElem? (i := 38) rfl)) rfl
theorem kg_519 : Cond.code y_Mo_seal prog_13_method_15_code 2 (some FieldType.int) ∈ gw := gw_in (tb_3 (List.mem_of_getElem? (i := 39) rfl)) rfl
theorem kg_520 : Cond.methodLink "VoucherOfficeModel" 74 y_Mo_sealOf ∈ gw := gw_in (tb_3 (List.mem_of_getElem? (i := 40) rfl)) rfl
theorem kf_521 : Cond.privateMethod y_Mo_sealOf ∈ lw_tbl := tb_3 (List.mem_of_getElem? (i := 41) rfl)
theorem kg_522 : Cond.instanceMethod y_Mo_sealOf ∈ gw := gw_in (tb_3 (List.mem_of_getElem? (i := 42) rfl)) rfl
theorem kg_523 : Cond.code y_Mo_sealOf prog_13_method_9_code 3 (some FieldType.int) ∈ gw := gw_in (tb_3 (List.mem_of_getElem? (i := 43) rfl)) rfl
theorem kg_524 : Cond.methodLink "VoucherOfficeLaw" 42 y_Mo_mark ∈ gw := gw_in (tb_3 (List.mem_of_getElem? (i := 44) rfl)) rfl
theorem kg_525 : Cond.instanceMethod y_Mo_mark ∈ gw := gw_in (tb_3 (List.mem_of_getElem? (i := 45) rfl)) rfl
theorem kg_526 : Cond.selects "VoucherOfficeModel" y_Mo_mark y_Mo_mark ∈ gw := gw_in (tb_3 (List.mem_of_getElem? (i := 46) rfl)) rfl
theorem kg_527 : Cond.code y_Mo_mark prog_13_method_16_code 3 (some FieldType.int) ∈ gw := gw_in (tb_3 (List.mem_of_getElem? (i := 47) rfl)) rfl
theorem kg_528 : Cond.methodLink "VoucherOfficeLaw" 46 y_Mo_daysLeft ∈ gw := gw_in (tb_3 (List.mem_of_getElem? (i := 48) rfl)) rfl
theorem kg_529 : Cond.instanceMethod y_Mo_daysLeft ∈ gw := gw_in (tb_3 (List.mem_of_getElem? (i := 49) rfl)) rfl
theorem kg_530 : Cond.selects "VoucherOfficeModel" y_Mo_daysLeft y_Mo_daysLeft ∈ gw := gw_in (tb_3 (List.mem_of_getElem? (i := 50) rfl)) rfl
theorem kg_531 : Cond.code y_Mo_daysLeft prog_13_method_17_code 4 (some FieldType.int) ∈ gw := gw_in (tb_3 (List.mem_of_getElem? (i := 51) rfl)) rfl
theorem kg_532 : Cond.methodLink "VoucherOfficeLaw" 51 y_Mo_lapse ∈ gw := gw_in (tb_3 (List.mem_of_getElem? (i := 52) rfl)) rfl
theorem kg_533 : Cond.instanceMethod y_Mo_lapse ∈ gw := gw_in (tb_3 (List.mem_of_getElem? (i := 53) rfl)) rfl
theorem kg_534 : Cond.selects "VoucherOfficeModel" y_Mo_lapse y_Mo_lapse ∈ gw := gw_in (tb_3 (List.mem_of_getElem? (i := 54) rfl)) rfl
theorem kg_535 : Cond.code y_Mo_lapse prog_13_method_18_code 3 (some FieldType.int) ∈ gw := gw_in (tb_3 (List.mem_of_getElem? (i := 55) rfl)) rfl
theorem kg_536 : Cond.methodLink "VoucherOfficeLaw" 55 y_Mo_merge ∈ gw := gw_in (tb_3 (List.mem_of_getElem? (i := 56) rfl)) rfl
theorem kg_537 : Cond.instanceMethod y_Mo_merge ∈ gw := gw_in (tb_3 (List.mem_of_getElem? (i := 57) rfl)) rfl
theorem kg_538 : Cond.selects "VoucherOfficeModel" y_Mo_merge y_Mo_merge ∈ gw := gw_in (tb_3 (List.mem_of_getElem? (i := 58) rfl)) rfl
theorem kg_539 : Cond.code y_Mo_merge prog_13_method_19_code 3 (some FieldType.int) ∈ gw := gw_in (tb_3 (List.mem_of_getElem? (i := 59) rfl)) rfl
theorem kg_540 : Cond.methodLink "VoucherOfficeLaw" 59 y_Mo_total ∈ gw := gw_in (tb_3 (List.mem_of_getElem? (i := 60) rfl)) rfl
theorem kg_541 : Cond.instanceMethod y_Mo_total ∈ gw := gw_in (tb_3 (List.mem_of_getElem? (i := 61) rfl)) rfl
theorem kg_542 : Cond.selects "VoucherOfficeModel" y_Mo_total y_Mo_total ∈ gw := gw_in (tb_3 (List.mem_of_getElem? (i := 62) rfl)) rfl
theorem kg_543 : Cond.code y_Mo_total prog_13_method_20_code 4 (some FieldType.int) ∈ gw := gw_in (tb_3 (List.mem_of_getElem? (i := 63) rfl)) rfl
theorem kg_544 : Cond.methodLink "VoucherOfficeLaw" 63 y_Mo_paper ∈ gw := gw_in (tb_3 (List.mem_of_getElem? (i := 64) rfl)) rfl
theorem kg_545 : Cond.instanceMethod y_Mo_paper ∈ gw := gw_in (tb_3 (List.mem_of_getElem? (i := 65) rfl)) rfl
theorem kg_546 : Cond.selects "VoucherOfficeModel" y_Mo_paper y_Mo_paper ∈ gw := gw_in (tb_3 (List.mem_of_getElem? (i := 66) rfl)) rfl
theorem kg_547 : Cond.code y_Mo_paper prog_13_method_21_code 3 (some FieldType.int) ∈ gw := gw_in (tb_3 (List.mem_of_getElem? (i := 67) rfl)) rfl
theorem kg_548 : Cond.methodLink "VoucherOfficeLaw" 67 y_Mo_count ∈ gw := gw_in (tb_3 (List.mem_of_getElem? (i := 68) rfl)) rfl
theorem kg_549 : Cond.instanceMethod y_Mo_count ∈ gw := gw_in (tb_3 (List.mem_of_getElem? (i := 69) rfl)) rfl
theorem kg_550 : Cond.selects "VoucherOfficeModel" y_Mo_count y_Mo_count ∈ gw := gw_in (tb_3 (List.mem_of_getElem? (i := 70) rfl)) rfl
theorem kg_551 : Cond.code y_Mo_count prog_13_method_23_code 2 (some FieldType.int) ∈ gw := gw_in (tb_3 (List.mem_of_getElem? (i := 71) rfl)) rfl
theorem kg_552 : Cond.methodLink "VoucherOfficeModel" 80 y_Mo_leftOfAll ∈ gw := gw_in (tb_3 (List.mem_of_getElem? (i := 72) rfl)) rfl
theorem kf_553 : Cond.privateMethod y_Mo_leftOfAll ∈ lw_tbl := tb_3 (List.mem_of_getElem? (i := 73) rfl)
theorem kg_554 : Cond.instanceMethod y_Mo_leftOfAll ∈ gw := gw_in (tb_3 (List.mem_of_getElem? (i := 74) rfl)) rfl
theorem kg_555 : Cond.code y_Mo_leftOfAll prog_13_method_22_code 3 (some FieldType.int) ∈ gw := gw_in (tb_3 (List.mem_of_getElem? (i := 75) rfl)) rfl
theorem kg_556 : Cond.sameMethod "VoucherOffice$House" "VoucherOffice$House" "worth" "(I)I" ∈ gw := gw_in (tb_3 (List.mem_of_getElem? (i := 76) rfl)) rfl
theorem kg_557 : Cond.sameMethod "VoucherOffice$Season" "VoucherOffice$Season" "worth" "(I)I" ∈ gw := gw_in (tb_3 (List.mem_of_getElem? (i := 77) rfl)) rfl
theorem kg_558 : Cond.sameMethod "VoucherOffice$Season" "VoucherOffice$Season" "lastDay" "()I" ∈ gw := gw_in (tb_3 (List.mem_of_getElem? (i := 78) rfl)) rfl
theorem kg_559 : Cond.selects "VoucherOffice$Season" y_Se_lastDay y_Se_lastDay ∈ gw := gw_in (tb_3 (List.mem_of_getElem? (i := 79) rfl)) rfl
theorem kg_560 : Cond.selects "VoucherOffice$Staff" y_Se_lastDay y_St_lastDay ∈ gw := gw_in (tb_3 (List.mem_of_getElem? (i := 80) rfl)) rfl
theorem kg_561 : Cond.sameMethod "VoucherOffice$Paper" "VoucherOffice$Paper" "points" "()I" ∈ gw := gw_in (tb_3 (List.mem_of_getElem? (i := 81) rfl)) rfl
theorem kg_562 : Cond.selects "VoucherOffice$Club" y_Pa_points y_Pa_points ∈ gw := gw_in (tb_3 (List.mem_of_getElem? (i := 82) rfl)) rfl
theorem kg_563 : Cond.selects "VoucherOffice$Crest" y_Pa_points y_Ho_points ∈ gw := gw_in (tb_3 (List.mem_of_getElem? (i := 83) rfl)) rfl
theorem kg_564 : Cond.selects "VoucherOffice$Gift" y_Pa_points y_Pa_points ∈ gw := gw_in (tb_3 (List.mem_of_getElem? (i := 84) rfl)) rfl
theorem kg_565 : Cond.selects "VoucherOffice$House" y_Pa_points y_Ho_points ∈ gw := gw_in (tb_3 (List.mem_of_getElem? (i := 85) rfl)) rfl
theorem kg_566 : Cond.selects "VoucherOffice$Paper" y_Pa_points y_Pa_points ∈ gw := gw_in (tb_3 (List.mem_of_getElem? (i := 86) rfl)) rfl
theorem kg_567 : Cond.selects "VoucherOffice$Rounded" y_Pa_points y_Pa_points ∈ gw := gw_in (tb_3 (List.mem_of_getElem? (i := 87) rfl)) rfl
theorem kg_568 : Cond.selects "VoucherOffice$Season" y_Pa_points y_Pa_points ∈ gw := gw_in (tb_3 (List.mem_of_getElem? (i := 88) rfl)) rfl
theorem kg_569 : Cond.selects "VoucherOffice$Staff" y_Pa_points y_Pa_points ∈ gw := gw_in (tb_3 (List.mem_of_getElem? (i := 89) rfl)) rfl
theorem kf_570 : Cond.castable "VoucherOffice$Staff" "VoucherOffice$Staff" ∈ lw_tbl := tb_3 (List.mem_of_getElem? (i := 90) rfl)
theorem kf_571 : Cond.castable "VoucherOffice$Club" "VoucherOffice$Paper" ∈ lw_tbl := tb_3 (List.mem_of_getElem? (i := 91) rfl)
theorem kf_572 : Cond.castable "VoucherOffice$Crest" "VoucherOffice$Paper" ∈ lw_tbl := tb_3 (List.mem_of_getElem? (i := 92) rfl)
theorem kf_573 : Cond.castable "VoucherOffice$Gift" "VoucherOffice$Paper" ∈ lw_tbl := tb_3 (List.mem_of_getElem? (i := 93) rfl)
theorem kf_574 : Cond.castable "VoucherOffice$House" "VoucherOffice$Paper" ∈ lw_tbl := tb_3 (List.mem_of_getElem? (i := 94) rfl)
theorem kf_575 : Cond.castable "VoucherOffice$Rounded" "VoucherOffice$Paper" ∈ lw_tbl := tb_3 (List.mem_of_getElem? (i := 95) rfl)
theorem kf_576 : Cond.castable "VoucherOffice$Season" "VoucherOffice$Paper" ∈ lw_tbl := tb_3 (List.mem_of_getElem? (i := 96) rfl)
theorem kf_577 : Cond.castable "VoucherOffice$Staff" "VoucherOffice$Paper" ∈ lw_tbl := tb_3 (List.mem_of_getElem? (i := 97) rfl)
theorem kp_Of_made : Cond.selects "VoucherOffice" y_Of_made y_Of_made ∈ gw := gw_in (List.mem_append_left _ (List.mem_of_getElem? (i := 0) rfl)) rfl
theorem kp_Of_at : Cond.selects "VoucherOffice" y_Of_at y_Of_at ∈ gw := gw_in (List.mem_append_left _ (List.mem_of_getElem? (i := 1) rfl)) rfl
theorem kp_Of_leftOfAll : Cond.selects "VoucherOffice" y_Of_leftOfAll y_Of_leftOfAll ∈ gw := gw_in (List.mem_append_left _ (List.mem_of_getElem? (i := 2) rfl)) rfl
theorem kp_Mo_isThere : Cond.selects "VoucherOfficeModel" y_Mo_isThere y_Mo_isThere ∈ gw := gw_in (List.mem_append_left _ (List.mem_of_getElem? (i := 3) rfl)) rfl
theorem kp_Mo_valueOf : Cond.selects "VoucherOfficeModel" y_Mo_valueOf y_Mo_valueOf ∈ gw := gw_in (List.mem_append_left _ (List.mem_of_getElem? (i := 4) rfl)) rfl
theorem kp_Mo_isDated : Cond.selects "VoucherOfficeModel" y_Mo_isDated y_Mo_isDated ∈ gw := gw_in (List.mem_append_left _ (List.mem_of_getElem? (i := 5) rfl)) rfl
theorem kp_Mo_lastDay : Cond.selects "VoucherOfficeModel" y_Mo_lastDay y_Mo_lastDay ∈ gw := gw_in (List.mem_append_left _ (List.mem_of_getElem? (i := 6) rfl)) rfl
theorem kp_Mo_hasPoints : Cond.selects "VoucherOfficeModel" y_Mo_hasPoints y_Mo_hasPoints ∈ gw := gw_in (List.mem_append_left _ (List.mem_of_getElem? (i := 7) rfl)) rfl
theorem kp_Mo_feeOf : Cond.selects "VoucherOfficeModel" y_Mo_feeOf y_Mo_feeOf ∈ gw := gw_in (List.mem_append_left _ (List.mem_of_getElem? (i := 8) rfl)) rfl
theorem kp_Mo_sealOf : Cond.selects "VoucherOfficeModel" y_Mo_sealOf y_Mo_sealOf ∈ gw := gw_in (List.mem_append_left _ (List.mem_of_getElem? (i := 9) rfl)) rfl
theorem kp_Mo_leftOfAll : Cond.selects "VoucherOfficeModel" y_Mo_leftOfAll y_Mo_leftOfAll ∈ gw := gw_in (List.mem_append_left _ (List.mem_of_getElem? (i := 10) rfl)) rfl
end
section
-- the classes whose objects the worlds hold: the papers by kind (0..7), the office (8), the reference (9)
def Rk : Nat → String := fun k => match k with
  | 0 => "VoucherOffice$Paper"
  | 1 => "VoucherOffice$Gift"
  | 2 => "VoucherOffice$Season"
  | 3 => "VoucherOffice$Staff"
  | 4 => "VoucherOffice$Rounded"
  | 5 => "VoucherOffice$Club"
  | 6 => "VoucherOffice$House"
  | _ => "VoucherOffice$Crest"
def Fk (k : Nat) : u_T := fun j => match j with
  | 0 => ("VoucherOffice$Paper", "kind", "I", true)
  | 1 => ("VoucherOffice$Paper", "from", "I", true)
  | 2 => ("VoucherOffice$Paper", "amount", "I", false)
  | 3 => ("VoucherOffice$Paper", "left", "I", false)
  | _ => (if k = 3 then "VoucherOffice$Staff" else "VoucherOffice$House", if k = 3 then "spentOn" else "points", "I", false)
def Nk : Nat → Nat := fun k => match k with
  | 3 => 5
  | 6 => 5
  | 7 => 5
  | _ => 4
def t_int : Nat → FieldType := fun _ => .int
def F_Of : u_T := fun j => match j with
  | 0 => ("VoucherOffice", "papers", "[LVoucherOffice$Paper;", true)
  | 1 => ("VoucherOffice", "many", "I", false)
  | 2 => ("VoucherOffice", "today", "I", false)
  | 3 => ("VoucherOffice", "issued", "I", false)
  | 4 => ("VoucherOffice", "spent", "I", false)
  | 5 => ("VoucherOffice", "fees", "I", false)
  | _ => ("VoucherOffice", "lapsed", "I", false)
def t_Of : Nat → FieldType := fun j => match j with
  | 0 => .array (.object "VoucherOffice$Paper")
  | _ => .int
def F_Mo : u_T := fun j => match j with
  | 0 => ("VoucherOfficeModel", "day", "I", false)
  | 1 => ("VoucherOfficeModel", "issued", "I", false)
  | 2 => ("VoucherOfficeModel", "amounts", "I", false)
  | 3 => ("VoucherOfficeModel", "spent", "I", false)
  | 4 => ("VoucherOfficeModel", "fees", "I", false)
  | 5 => ("VoucherOfficeModel", "lapsed", "I", false)
  | 6 => ("VoucherOfficeModel", "kindOf", "[I", true)
  | 7 => ("VoucherOfficeModel", "amountOf", "[I", true)
  | 8 => ("VoucherOfficeModel", "leftOf", "[I", true)
  | 9 => ("VoucherOfficeModel", "fromOf", "[I", true)
  | 10 => ("VoucherOfficeModel", "pointsOf", "[I", true)
  | 11 => ("VoucherOfficeModel", "spentOn", "[I", true)
  | _ => ("VoucherOfficeModel", "gone", "[Z", true)
def t_Mo : Nat → FieldType := fun j => match j with
  | 6 => .array .int
  | 7 => .array .int
  | 8 => .array .int
  | 9 => .array .int
  | 10 => .array .int
  | 11 => .array .int
  | 12 => .array .boolean
  | _ => .int
abbrev classes : List vw_C := [(Rk 0, Fk 0, Nk 0), (Rk 1, Fk 1, Nk 1), (Rk 2, Fk 2, Nk 2), (Rk 3, Fk 3, Nk 3), (Rk 4, Fk 4, Nk 4), (Rk 5, Fk 5, Nk 5), (Rk 6, Fk 6, Nk 6), (Rk 7, Fk 7, Nk 7), ("VoucherOffice", F_Of, 7), ("VoucherOfficeModel", F_Mo, 13)]
theorem zk_all {P : Nat → Prop} (h0 : P 0) (h1 : P 1) (h2 : P 2) (h3 : P 3) (h4 : P 4) (h5 : P 5) (h6 : P 6) (h7 : P 7) : ∀ {k : Nat}, k < 8 → P k := by
  intro k hk
  match k, hk with
  | 0, _ => exact h0
  | 1, _ => exact h1
  | 2, _ => exact h2
  | 3, _ => exact h3
  | 4, _ => exact h4
  | 5, _ => exact h5
  | 6, _ => exact h6
  | 7, _ => exact h7
theorem zk_cls {k : Nat} (hk : k < 8) : classes[k]? = some (Rk k, Fk k, Nk k) := zk_all (P := fun k => classes[k]? = some (Rk k, Fk k, Nk k)) rfl rfl rfl rfl rfl rfl rfl rfl hk
theorem gw_list (l : List Cond) (h : l.all (fun w => decide (w ∈ lw_tbl) && goodWord w) = true) : ∀ w ∈ l, w ∈ gw := by
  intro w hw
  have h1 := List.all_eq_true.mp h w hw
  simp only [Bool.and_eq_true, decide_eq_true_eq] at h1
  exact gw_in h1.1 h1.2
set_option maxRecDepth 100000 in
theorem zk_in0 : ∀ w ∈ u_ws (Rk 0) (Fk 0) (Nk 0), w ∈ gw := gw_list _ (by decide +kernel)
set_option maxRecDepth 100000 in
theorem zk_in1 : ∀ w ∈ u_ws (Rk 1) (Fk 1) (Nk 1), w ∈ gw := gw_list _ (by decide +kernel)
set_option maxRecDepth 100000 in
theorem zk_in2 : ∀ w ∈ u_ws (Rk 2) (Fk 2) (Nk 2), w ∈ gw := gw_list _ (by decide +kernel)
set_option maxRecDepth 100000 in
theorem zk_in3 : ∀ w ∈ u_ws (Rk 3) (Fk 3) (Nk 3), w ∈ gw := gw_list _ (by decide +kernel)
set_option maxRecDepth 100000 in
theorem zk_in4 : ∀ w ∈ u_ws (Rk 4) (Fk 4) (Nk 4), w ∈ gw := gw_list _ (by decide +kernel)
set_option maxRecDepth 100000 in
theorem zk_in5 : ∀ w ∈ u_ws (Rk 5) (Fk 5) (Nk 5), w ∈ gw := gw_list _ (by decide +kernel)
set_option maxRecDepth 100000 in
theorem zk_in6 : ∀ w ∈ u_ws (Rk 6) (Fk 6) (Nk 6), w ∈ gw := gw_list _ (by decide +kernel)
set_option maxRecDepth 100000 in
theorem zk_in7 : ∀ w ∈ u_ws (Rk 7) (Fk 7) (Nk 7), w ∈ gw := gw_list _ (by decide +kernel)
set_option maxRecDepth 100000 in
theorem zo_in : ∀ w ∈ u_ws "VoucherOffice" F_Of 7, w ∈ gw := gw_list _ (by decide +kernel)
set_option maxRecDepth 100000 in
theorem zm_in : ∀ w ∈ u_ws "VoucherOfficeModel" F_Mo 13, w ∈ gw := gw_list _ (by decide +kernel)
theorem zk_in {k : Nat} (hk : k < 8) : ∀ w ∈ u_ws (Rk k) (Fk k) (Nk k), w ∈ gw := zk_all (P := fun k => ∀ w ∈ u_ws (Rk k) (Fk k) (Nk k), w ∈ gw) zk_in0 zk_in1 zk_in2 zk_in3 zk_in4 zk_in5 zk_in6 zk_in7 hk
theorem zk_ty {k : Nat} (hk : k < 8) : ∀ j, j < Nk k → parseFieldDescriptor (Fk k j).2.2.1 = some (t_int j) := zk_all (P := fun k => ∀ j, j < Nk k → parseFieldDescriptor (Fk k j).2.2.1 = some (t_int j)) (by decide +kernel) (by decide +kernel) (by decide +kernel) (by decide +kernel) (by decide +kernel) (by decide +kernel) (by decide +kernel) (by decide +kernel) hk
theorem zk_nm {k : Nat} (hk : k < 8) : ∀ a, a < Nk k → ∀ b, b < Nk k → a ≠ b → (Fk k a).2.1 ≠ (Fk k b).2.1 := zk_all (P := fun k => ∀ a, a < Nk k → ∀ b, b < Nk k → a ≠ b → (Fk k a).2.1 ≠ (Fk k b).2.1) (by decide +kernel) (by decide +kernel) (by decide +kernel) (by decide +kernel) (by decide +kernel) (by decide +kernel) (by decide +kernel) (by decide +kernel) hk
theorem zk_N {k : Nat} (hk : k < 8) : 4 ≤ Nk k ∧ Nk k ≤ 5 := zk_all (P := fun k => 4 ≤ Nk k ∧ Nk k ≤ 5) (by decide) (by decide) (by decide) (by decide) (by decide) (by decide) (by decide) (by decide) hk
theorem zo_ty : ∀ j, j < 7 → parseFieldDescriptor (F_Of j).2.2.1 = some (t_Of j) := by decide +kernel
theorem zo_nm : ∀ a, a < 7 → ∀ b, b < 7 → a ≠ b → (F_Of a).2.1 ≠ (F_Of b).2.1 := by decide +kernel
theorem zm_ty : ∀ j, j < 13 → parseFieldDescriptor (F_Mo j).2.2.1 = some (t_Mo j) := by decide +kernel
theorem zm_nm : ∀ a, a < 13 → ∀ b, b < 13 → a ≠ b → (F_Mo a).2.1 ≠ (F_Mo b).2.1 := by decide +kernel
-- what is known of the tables: the classes' numbers and slots, the array classes (int, boolean, Paper), the interfaces' words, what isn't castable, where default methods are found
abbrev ZG : Type := va_G × ClassId × ClassId × ClassId
abbrev tz (G : ZG) : List (ClassId × FieldType) := [(G.2.1, .int), (G.2.2.1, .boolean), (G.2.2.2, .object "VoucherOffice$Paper")]
def nz : List (String × String) := [("VoucherOffice$Paper", "VoucherOffice$Sealed"), ("VoucherOffice$Gift", "VoucherOffice$Sealed"), ("VoucherOffice$Season", "VoucherOffice$Sealed"), ("VoucherOffice$Staff", "VoucherOffice$Sealed"), ("VoucherOffice$Rounded", "VoucherOffice$Sealed"), ("VoucherOffice$Paper", "VoucherOffice$Dated"), ("VoucherOffice$Gift", "VoucherOffice$Dated"), ("VoucherOffice$Rounded", "VoucherOffice$Dated"), ("VoucherOffice$Club", "VoucherOffice$Dated"), ("VoucherOffice$House", "VoucherOffice$Dated"), ("VoucherOffice$Crest", "VoucherOffice$Dated")]
def Ld (C : String) (x : MethodName) (U : State) : Prop := ∃ (cc : ClassId) (r : MethodId), U.vm.findClass C = some cc ∧ U.methodNamed? x = some r ∧ selectMethod {} U.vm cc r = .method r
def dz : List (String × MethodName) := [("VoucherOffice$Season", y_Da_isOver), ("VoucherOffice$Staff", y_Da_isOver), ("VoucherOffice$Season", y_Da_daysLeft), ("VoucherOffice$Staff", y_Da_daysLeft), ("VoucherOffice$Club", y_Sl_mark), ("VoucherOffice$House", y_Sl_mark), ("VoucherOffice$Crest", y_Sl_mark)]
def KZ (G : ZG) (U : State) : Prop := va_K G.1 classes (tz G) U ∧ (∀ w ∈ lw_tbl, w.faceAtom = true → w.before #[] U = true) ∧ (∀ q ∈ nz, va_Nc q.1 q.2 U) ∧ (∀ q ∈ dz, Ld q.1 q.2 U) ∧ va_AO "VoucherOffice$Paper" U
theorem face_tab {w : Cond} (h : w.faceAtom = true) : w.onTables = true := by
  cases w <;> first | rfl | (simp [Cond.faceAtom] at h)
theorem Ld.moved {C : String} {x : MethodName} {u U : State} (hvm : u.vm.Alike U.vm) (h : Ld C x u) : Ld C x U := by
  obtain ⟨cc, r, h1, h2, h3⟩ := h
  refine ⟨cc, r, by rw [hvm.findClass]; exact h1, ?_, by rw [hvm.selectMethod]; exact h3⟩
  have e1 : (u.setVm U.vm).methodNamed? x = u.methodNamed? x := State.methodNamed?_setVm hvm ..
  exact e1.trans h2
theorem KZ.moved {G : ZG} {u U : State} (hvm : u.vm.Alike U.vm) (h : KZ G u) : KZ G U := by
  refine ⟨h.1.moved hvm, fun w hw hf => ?_, fun q hq => (h.2.2.1 q hq).moved hvm, fun q hq => (h.2.2.2.1 q hq).moved hvm, h.2.2.2.2.moved hvm⟩
  have h1 : w.before #[] (u.setVm U.vm) = true := Cond.faceAtom_setVm (args := #[]) hvm w hf (h.2.1 w hw hf)
  exact va_tabs (face_tab hf) (rfl : (u.setVm U.vm).vm = U.vm) h1
theorem KZ.face {G : ZG} {U : State} (h : KZ G U) {w : Cond} (hw : w ∈ lw_tbl) (hf : w.faceAtom = true) {A : Array Value} : w.before A U = true := va_any (face_tab hf) (h.2.1 w hw hf)
-- a contract: the arguments, what the heap holds at the start; the answer, how the heap moves
abbrev zr (d mc ms : Nat) : Room := { frames := d, cells := mc, slots := ms, locals := 25 * d }
def ZP (G : ZG) (As : List Value) (Hp : Heap → Prop) : Array Value → State → Prop := fun a U => a = As.toArray ∧ KZ G U ∧ Hp U.heap
def ZQ (Fr : Option Value → Heap → Heap → Prop) : Array Value → State → Outcome → State → Prop := fun _ st o t => ∃ v : Option Value, o = .returned v ∧ Fr v st.heap t.heap
theorem ZP.blind {G : ZG} {As : List Value} {Hp : Heap → Prop} : FrameBlind (ZP G As Hp) := fun a U g mk q => ⟨q.1, KZ.moved (u := U) (U := U.calling g mk a) (Vm.Alike.refl U.vm) q.2.1, q.2.2⟩
/-- the contract of y: whoever calls it, with d frames to spare -/
def ZK (l : Launch) (G : ZG) (y : MethodName) (d : Nat) (As : List Value) (Hp : Heap → Prop) (Fr : Option Value → Heap → Heap → Prop) (mc ms : Nat) (free : Addr → Prop) : Prop :=
  ∀ (p : Program) (e : Env) (R : Room) (below : List Frame) (s : State) (sargs : Array Value) (len : Nat), (∀ w ∈ gw, w.before sargs s = true) → d + 1 ≤ R.frames → 25 * (d + 1) ≤ R.locals → Back l R p e below s sargs y len 8 (PreOf R mc ms (ZP G As Hp)) (PostOf (ZQ Fr) mc ms free)
/-- what a body's walk may lean on -/
abbrev ZC (p : Program) (m : MethodId) (c : Code) (cc : ByteArray) (nL : Nat) (s : State) (args : Array Value) (own : String) (G : ZG) : Prop := CallFix p m c cc nL s args gw own ∧ KZ G s
theorem zs_weaken {tb : Tables} {e : Env} {mid below : List Frame} {a b : State} (h : Steps tb e (mid ++ below) a b) : Steps tb e below a b := by
  obtain ⟨n, h1, h2⟩ := h
  exact ⟨n, h1, fun k hk => (h2 k hk).weaken⟩
/-- a contract out of its body's walk: the machine's own entry; no class need be initialised for it -/
theorem ZK.ofBody {l : Launch} {G : ZG} {y : MethodName} {d : Nat} {As : List Value} {Hp : Heap → Prop} {Fr : Option Value → Heap → Heap → Prop} {mc ms : Nat} {free : Addr → Prop} {cc : ByteArray} {maxL : Nat} {ret : Option FieldType}
    (hcode : Cond.code y cc maxL ret ∈ gw) (hpl : plainName y.cls = true) (hm6 : maxL ≤ 6) (hent : (lg_sl As).length ≤ maxL)
    (body : ∀ (p : Program) (e : Env) (s : State) (m : MethodId) (below : List Frame) (meth : Method) (c : Code), ZC p m c cc maxL s As.toArray y.cls G → meth.sig.returnType = ret → meth.locks = false → meth.name = y.name → Hp s.heap →
      ∀ ls : Array Slot, lv_has ls maxL (lv_args 0 As) → W p l e (zr d mc ms) s m As.toArray below meth c s.heap [] 0 0 (MQ below (ZQ Fr) As.toArray s mc ms free) (F0 m 0 ls [])) : ZK l G y d As Hp Fr mc ms free := by
  intro p e R below s sargs len hts hfr hlo m meth c A g ig mk a X hg hsize hdg hW hn hp
  obtain ⟨U, Ls, c0, s0⟩ := A
  dsimp only [Pt.U, Pt.locs, Pt.cells, Pt.slots] at X hn hp ⊢
  obtain ⟨hp1, hp2, ha, hKz, hHp⟩ := hp
  have hwd : ∀ w ∈ gw, ∀ a' : Array Value, w.before a' U = true := fun w hw a' => word_at X.warmed (good_of_word (gw_good hw)) (hts w hw)
  obtain ⟨methY, cY, hmY, hcY, hbY, hlY, hrY, hkY, -, -⟩ := Cond.code_spec hn (hwd _ hcode a)
  have h : At U g.method c below := by rw [hg]; exact X.here
  have hroom : (U.calling g mk a).hasRoom e.platform (zr d mc ms) = true := X.room_calling (g := g) (R' := zr d mc ms) hsize hmY hcY hfr (by rw [hlY]; show _ + _ + 25 * d ≤ _; omega) hp1 hp2
  have hff := State.frames_calling h.top g mk a
  have hcur := State.cur_lt_of_frames hff
  have hhears : (U.calling g mk a).hears mk (.java g :: U.frames.tail) = true := by
    have hcg : (U.calling g mk a).code? g.method = some c := by
      have := h.code
      rw [State.code?_eq] at this ⊢
      simpa [State.calling, State.pushFrame, State.setFrames] using this
    simp [State.hears, hcg, hdg, Except.toOption]
  have hf1 : ((U.calling g mk a).setFrames (.java (entryFrame mk a maxL) :: .java g :: U.frames.tail)).frames = .java (entryFrame mk a maxL) :: .java g :: U.frames.tail := State.frames_setFrames _ hcur
  have ht1 := State.topJava?_of_frames hf1
  have hmS : (U.calling g mk a).vm.method? mk = some methY := hmY
  have hnS : (U.calling g mk a).methodNamed? y = some mk := hn
  have hAt : At ((U.calling g mk a).setFrames (.java (entryFrame mk a maxL) :: .java g :: U.frames.tail)) mk cY (.java g :: U.frames.tail) :=
    ⟨by rw [ht1]; rfl, ⟨[], by rw [hf1]; rfl⟩, h.running, by simpa [State.calling] using h.runnable, by simpa [State.calling] using h.alone,
      by rw [State.code?_eq]; simp [State.setFrames, hmS, hcY], State.plainMethod.of_named (s := U.calling g mk a) (plainFor_of_name hpl) hnS hmS⟩
  obtain ⟨tt, htt, -⟩ := State.frames_cons hff
  have hsame := (State.sameButNew.refl (U.calling g mk a) htt).setFrames (.java (entryFrame mk a maxL) :: .java g :: U.frames.tail) hcur
  have XS : Stand p l e (zr d mc ms) (U.calling g mk a) mk a (.java g :: U.frames.tail) methY cY ((U.calling g mk a).setFrames (.java (entryFrame mk a maxL) :: .java g :: U.frames.tail)) [] 0 0 :=
    ⟨X.admits, X.cas, X.clock, hff, hroom, hhears, hmS, hcY, hAt, by rw [hf1]; rfl, State.WarmedH.refl _, by rw [State.stackLimits_setFrames], by rw [State.stackBytes_setFrames], hsame⟩
  have hwS : ∀ w ∈ gw, w.before a (U.calling g mk a) = true := fun w hw => by rw [State.calling_eq h.top, Cond.before_setFrames]; exact hwd w hw a
  have hxe : p.tables.exec = Jvm.exec := by cases p <;> rfl
  have hlv := lv_entry As (n := maxL) hent
  have hbod : W p l e (zr d mc ms) (U.calling g mk a) mk a (.java g :: U.frames.tail) methY cY (U.calling g mk a).heap [] 0 0 (MQ (.java g :: U.frames.tail) (ZQ Fr) a (U.calling g mk a) mc ms free) (entryFrame mk a maxL) := by
    subst ha
    rw [lg_entry_eq]
    exact body p e (U.calling g mk As.toArray) mk (.java g :: U.frames.tail) methY cY ⟨⟨hxe, hbY, hlY, findClass_of_methodNamed hnS, hwS⟩, KZ.moved (u := U) (U := U.calling g mk As.toArray) (Vm.Alike.refl U.vm) hKz⟩ hrY hkY (name_of_methodNamed hnS hmS).1 hHp _ hlv
  obtain ⟨t, hsteps, o, hrun, hend, ⟨v, hov, hFr⟩, L, hfe, hL⟩ := hbod ((U.calling g mk a).setFrames (.java (entryFrame mk a maxL) :: .java g :: U.frames.tail)) rfl XS
  subst hov
  have hdo : (doInvoke e (U.setTop g) [] mk a).1 = ((U.calling g mk a).setFrames (.java (entryFrame mk a maxL) :: .java g :: U.frames.tail)).setTop (entryFrame mk a maxL) := by
    have hfull : e.platform.stackFull (((U.setTop g).threads[(U.setTop g).cur]?).getD { frames := [] }) (U.setTop g).frames cY.maxLocals = false := X.notFull hsize (by omega) (by rw [hlY]; omega)
    rw [(doInvoke_java (s := U.setTop g) (e := e) (meth := methY) (code := cY) hmY hcY hkY hfull).1, State.setTop_self ht1]
    obtain ⟨g₀, hg0⟩ := Option.isSome_iff_exists.mp h.top
    obtain ⟨r, hr⟩ := State.topJava?_eq_some.mp hg0
    rw [State.calling_eq h.top, State.setFrames_setFrames, State.pushFrame, State.frames_setTop _ hr, State.setTop_of_frames _ hr, State.setFrames_setFrames, hr, hlY]
    rfl
  obtain ⟨-, hW₂, e2, q2, q3, q4, q5, q6⟩ := id hfe
  have e3 : t = ({ (U.calling g mk a).setFrames t.frames with heap := t.heap, slotsUsed := t.slotsUsed } : State).setVm t.vm := by
    have : t = ({ t with vm := (U.calling g mk a).vm } : State).setVm t.vm := rfl
    rw [e2] at this
    exact this
  obtain ⟨c₂, i₂, len₂, hc₂, hd₂, hf₂⟩ := hend
  have hW' : U.WarmedH t.vm := hW₂
  have hcc : c₂ = c := by
    have h1 : t.code? g.method = U.code? g.method := by
      rw [State.code?_eq, State.code?_eq, hW'.alike.method?]
    exact Option.some.inj (hc₂.symm.trans (h1.trans h.code))
  subst hcc
  have hlen : len₂ = len := by rw [hdg] at hd₂; cases hd₂; rfl
  subst hlen
  obtain ⟨g₀, hg0⟩ := Option.isSome_iff_exists.mp h.top
  obtain ⟨r, hr⟩ := State.topJava?_eq_some.mp hg0
  have hs₂ : t = (({ U with heap := t.heap, slotsUsed := t.slotsUsed } : State).setVm t.vm).setTop { g with pc := g.pc + len₂, stack := v.toList ++ g.stack } := by
    have hr' : (({ U with heap := t.heap, slotsUsed := t.slotsUsed } : State).setVm t.vm).frames = .java g₀ :: r := hr
    refine e3.trans ?_
    rw [hf₂, State.calling_eq h.top, State.setFrames_setFrames, State.setTop_of_frames _ hr', hr]
    rfl
  have hsn : U.sameButNew ({ U with heap := t.heap, slotsUsed := t.slotsUsed } : State) L mc ms := by
    refine ⟨?_, q2, q3, q4, q5, q6⟩
    obtain ⟨t', ht', -⟩ := State.frames_cons hr
    show ({ U with heap := t.heap, slotsUsed := t.slotsUsed } : State) = { U.setFrames U.frames with heap := t.heap, slotsUsed := t.slotsUsed }
    rw [State.setFrames_self ht']
  subst hg
  obtain ⟨mid, hmid⟩ := h.above
  refine ⟨v, ⟨(({ U with heap := t.heap, slotsUsed := t.slotsUsed } : State).setVm t.vm), Ls ++ L, c0 + mc, s0 + ms⟩,
    ⟨X.admits, X.cas, X.clock, X.frames, X.room, X.hears, X.method, X.code, (X.here.setHeapUsed t.heap t.slotsUsed).setVm hW'.alike, X.tail, State.WarmedH.trans X.warmed hW', X.limits, X.bytes, X.same.trans (hsn.setVm s.vm)⟩,
    ⟨g, mk, t, L, rfl, rfl, ⟨v, rfl, hFr⟩, rfl, hL, rfl, rfl⟩, ?_⟩
  show Steps p.tables e below _ ((({ U with heap := t.heap, slotsUsed := t.slotsUsed } : State).setVm t.vm).setTop { g with pc := g.pc + len₂, stack := v.toList ++ g.stack })
  rw [← hs₂, hdo, hmid]
  rw [hmid] at hsteps
  exact zs_weaken (mid := .java g :: mid) hsteps
end
section
-- a call done: the caller stands again, the heap moved as the callee's contract says
def ZRun (p : Program) (l : Launch) (e : Env) (R : Room) (s : State) (m : MethodId) (args : Array Value) (below : List Frame) (meth : Method) (c : Code) (H : Heap) (locs : List Loc) (cells slots : Nat) (g : JFrame) (rest : List Value) (len : Nat) (Fr : Option Value → Heap → Heap → Prop) (mc ms : Nat) (free : Addr → Prop) : Prop :=
  ∀ T : State, T.heap = H → Stand p l e R s m args below meth c T locs cells slots → ∃ (v : Option Value) (T' : State) (L : List Loc), Stand p l e R s m args below meth c T' (locs ++ L) (cells + mc) (slots + ms) ∧ (∀ q ∈ L, free q.base) ∧ Fr v H T'.heap ∧
    ∀ target, Steps p.tables e below (T'.setTop { g with pc := g.pc + len, stack := v.toList ++ rest }) target → Steps p.tables e below (T.setTop g) target
section ZRA
variable {p : Program} {l : Launch} {e : Env} {R : Room} {s : State} {m : MethodId} {args : Array Value} {below : List Frame} {meth : Method} {c : Code} {H : Heap} {locs : List Loc} {cells slots : Nat} {Q : State → Prop}
variable {cc : ByteArray} {nL pc : Nat} {ls : Array Slot} {rest st0 : List Value} {G : ZG} {own : String} {y : MethodName} {index d mc ms n len : Nat} {As : List Value} {Hp : Heap → Prop} {Fr : Option Value → Heap → Heap → Prop} {free : Addr → Prop} {a : Nat}
/-- what every call brings: the callee's contract at this caller -/
theorem ZK.at (hM : ZK l G y d As Hp Fr mc ms free) (hts : ∀ w ∈ gw, w.before args s = true) (hR : d + 1 ≤ R.frames ∧ 25 * (d + 1) ≤ R.locals) : Back l R p e below s args y len 8 (PreOf R mc ms (ZP G As Hp)) (PostOf (ZQ Fr) mc ms free) := hM p e R below s args len hts hR.1 hR.2
theorem zlen {x : MethodName} {As : List Value} {n : Nat} (h : (parseMethodDescriptor x.desc).map (fun d => d.parameters.length) = some n) (hn : As.length = n) : ∀ sig, parseMethodDescriptor x.desc = some sig → As.length = sig.parameters.length := by
  intro sig hs
  rw [hs] at h
  exact hn.trans (Option.some.inj h).symm
def okN (x : MethodName) : Prop := x.cls ≠ "java/lang/invoke/MethodHandle" ∧ x.cls ≠ "java/lang/invoke/VarHandle"
/-- an object's class, as a call asks it -/
abbrev Rec (s : State) (H : Heap) (C : String) (a : Nat) : Prop := ∃ cell : Cell, H[a]? = some cell ∧ cell.vm.isStatics = false ∧ s.vm.findClass C = some cell.cls
theorem zrec {G : ZG} {a ci : Nat} {fs : List Value} {q : vw_C} (hK : KZ G s) (h : va_at G.1 classes (a, .inr (ci, fs)) H) (hc : classes[ci]? = some q) : Rec s H q.1 a := by
  obtain ⟨q', h1, cell, g1, g2, g3, -⟩ := h
  exact ⟨cell, g1, by rw [g3]; rfl, by rw [g2]; exact (hK.1.1 ci q hc).2.1⟩
theorem z_D {C : String} (S : ZC p m c cc nL s args own G) (hM : ZK l G y d (.ref a :: As) Hp Fr mc ms free) (h1 : Cond.methodLink own index y ∈ gw) (h2 : Cond.instanceMethod y ∈ gw) (h3 : Cond.selects C y y ∈ gw) {b0 : ByteArray} {m0 : Nat} {r0 : Option FieldType} (h4 : Cond.code y b0 m0 r0 ∈ gw) (h5 : okN y) (h6 : (parseMethodDescriptor y.desc).map (fun d => d.parameters.length) = some n)
    (hrec : Rec s H C a) (hp : Hp H) (hn : As.length = n) (hsz : ls.size = nL) (hst : st0 = As.reverse ++ .ref a :: rest) (hW : (rest.map fun v => v.category).sum ≤ 8) (hR : d + 1 ≤ R.frames ∧ 25 * (d + 1) ≤ R.locals) (hc : cells + mc ≤ R.cells ∧ slots + ms ≤ R.slots) (hdg : decode cc pc = .ok (.invokevirtual index, 3)) :
    ZRun p l e R s m args below meth c H locs cells slots (F0 m pc ls st0) rest 3 Fr mc ms free := by
  obtain ⟨⟨hx, hb, hml, ho, hts⟩, hKz⟩ := S
  obtain ⟨cell, q1, q2, q3⟩ := hrec
  intro T hT X
  subst hst
  obtain ⟨v', vm₁, ⟨U', l2, c2, s2⟩, hW₁, X', ⟨g', mk, t, L, e1, e2, ⟨v, hv, hF⟩, e3, hL, e4, e5⟩, st⟩ := callV X hx (C := C) (bytes := b0) (maxL := m0) (ret := r0) ho (hts _ h1) (hts _ h2) (hts _ h3) (hts _ h4) h5 (hM.at hts hR) (by rw [hT]; exact q1) q2 q3 (g := F0 m pc ls (As.reverse ++ .ref a :: rest)) rfl (hsz.trans hml.symm) (argsL := As) (rest := rest) (zlen h6 hn) rfl (lv_room hW) (by rw [hb]; exact hdg)
    (fun vm₁ hW₁ => ⟨hc.1, hc.2, rfl, hKz.moved hW₁.alike, by show Hp T.heap; rw [hT]; exact hp⟩)
  dsimp only [Pt.U, Pt.locs, Pt.cells, Pt.slots] at X' e1 e2 e3 e4 e5 st
  subst e3; subst e4; subst e5
  cases hv
  exact ⟨v', U', L, X', hL, by rw [e1, ← hT]; exact hF, st⟩
theorem z_V {C owner : String} {x : MethodName} (S : ZC p m c cc nL s args own G) (hM : ZK l G y d (.ref a :: As) Hp Fr mc ms free) (h1 : Cond.methodLink own index x ∈ gw) (h2 : Cond.sameMethod x.cls owner x.name x.desc ∈ gw) {b1 : ByteArray} {m1 : Nat} {r1 : Option FieldType} (h3 : Cond.instanceMethod ⟨owner, x.name, x.desc⟩ ∈ gw) (h4 : Cond.code ⟨owner, x.name, x.desc⟩ b1 m1 r1 ∈ gw) (h5 : Cond.selects C x y ∈ gw) (h6 : Cond.instanceMethod y ∈ gw) {b0 : ByteArray} {m0 : Nat} {r0 : Option FieldType} (h7 : Cond.code y b0 m0 r0 ∈ gw) (h8 : owner ≠ "java/lang/invoke/MethodHandle" ∧ owner ≠ "java/lang/invoke/VarHandle") (h9 : (parseMethodDescriptor x.desc).map (fun d => d.parameters.length) = some n)
    (hrec : Rec s H C a) (hp : Hp H) (hn : As.length = n) (hsz : ls.size = nL) (hst : st0 = As.reverse ++ .ref a :: rest) (hW : (rest.map fun v => v.category).sum ≤ 8) (hR : d + 1 ≤ R.frames ∧ 25 * (d + 1) ≤ R.locals) (hc : cells + mc ≤ R.cells ∧ slots + ms ≤ R.slots) (hdg : decode cc pc = .ok (.invokevirtual index, 3)) :
    ZRun p l e R s m args below meth c H locs cells slots (F0 m pc ls st0) rest 3 Fr mc ms free := by
  obtain ⟨⟨hx, hb, hml, ho, hts⟩, hKz⟩ := S
  obtain ⟨cell, q1, q2, q3⟩ := hrec
  intro T hT X
  subst hst
  obtain ⟨v', vm₁, ⟨U', l2, c2, s2⟩, hW₁, X', ⟨g', mk, t, L, e1, e2, ⟨v, hv, hF⟩, e3, hL, e4, e5⟩, st⟩ := va_callVU X hx (C := C) (owner := owner) (bytes := b0) (maxL := m0) (ret := r0) ho (hts _ h1) (hts _ h2) (va_Decl.of (hts _ h3) (hts _ h4)) h8 (hts _ h5) (hts _ h6) (hts _ h7) (hM.at hts hR) (by rw [hT]; exact q1) q2 q3 (g := F0 m pc ls (As.reverse ++ .ref a :: rest)) rfl (hsz.trans hml.symm) (argsL := As) (rest := rest) (zlen h9 hn) rfl (lv_room hW) (by rw [hb]; exact hdg)
    (fun vm₁ hW₁ => ⟨hc.1, hc.2, rfl, hKz.moved hW₁.alike, by show Hp T.heap; rw [hT]; exact hp⟩)
  dsimp only [Pt.U, Pt.locs, Pt.cells, Pt.slots] at X' e1 e2 e3 e4 e5 st
  subst e3; subst e4; subst e5
  cases hv
  exact ⟨v', U', L, X', hL, by rw [e1, ← hT]; exact hF, st⟩
theorem z_S (S : ZC p m c cc nL s args own G) (hM : ZK l G y d As Hp Fr mc ms free) (h1 : Cond.methodLink own index y ∈ gw) (h2 : Cond.static y ∈ gw) (h3 : Cond.initialized y.cls ∈ gw) {b0 : ByteArray} {m0 : Nat} {r0 : Option FieldType} (h4 : Cond.code y b0 m0 r0 ∈ gw) (h5 : okN y) (h6 : (parseMethodDescriptor y.desc).map (fun d => d.parameters.length) = some n)
    (hp : Hp H) (hn : As.length = n) (hsz : ls.size = nL) (hst : st0 = As.reverse ++ rest) (hW : (rest.map fun v => v.category).sum ≤ 8) (hR : d + 1 ≤ R.frames ∧ 25 * (d + 1) ≤ R.locals) (hc : cells + mc ≤ R.cells ∧ slots + ms ≤ R.slots) (hdg : decode cc pc = .ok (.invokestatic index, 3)) :
    ZRun p l e R s m args below meth c H locs cells slots (F0 m pc ls st0) rest 3 Fr mc ms free := by
  obtain ⟨⟨hx, hb, hml, ho, hts⟩, hKz⟩ := S
  intro T hT X
  subst hst
  obtain ⟨v', vm₁, ⟨U', l2, c2, s2⟩, hW₁, X', ⟨g', mk, t, L, e1, e2, ⟨v, hv, hF⟩, e3, hL, e4, e5⟩, st⟩ := callS X hx (bytes := b0) (maxL := m0) (ret := r0) ho (hts _ h1) (hts _ h2) (hts _ h3) (hts _ h4) h5 (hM.at hts hR) (g := F0 m pc ls (As.reverse ++ rest)) rfl (hsz.trans hml.symm) (argsL := As) (rest := rest) (zlen h6 hn) rfl (lv_room hW) (by rw [hb]; exact hdg)
    (fun vm₁ hW₁ => ⟨hc.1, hc.2, rfl, hKz.moved hW₁.alike, by show Hp T.heap; rw [hT]; exact hp⟩)
  dsimp only [Pt.U, Pt.locs, Pt.cells, Pt.slots] at X' e1 e2 e3 e4 e5 st
  subst e3; subst e4; subst e5
  cases hv
  exact ⟨v', U', L, X', hL, by rw [e1, ← hT]; exact hF, st⟩
theorem z_I (S : ZC p m c cc nL s args own G) (hM : ZK l G y d (.ref a :: As) Hp Fr mc ms free) (h0 : y.name = "<init>") (h1 : Cond.methodLink own index y ∈ gw) (h2 : Cond.instanceMethod y ∈ gw) {b0 : ByteArray} {m0 : Nat} (h4 : Cond.code y b0 m0 none ∈ gw) (h5 : okN y) (h6 : (parseMethodDescriptor y.desc).map (fun d => d.parameters.length) = some n)
    (hp : Hp H) (hn : As.length = n) (hsz : ls.size = nL) (hst : st0 = As.reverse ++ .ref a :: rest) (hW : (rest.map fun v => v.category).sum ≤ 8) (hR : d + 1 ≤ R.frames ∧ 25 * (d + 1) ≤ R.locals) (hc : cells + mc ≤ R.cells ∧ slots + ms ≤ R.slots) (hdg : decode cc pc = .ok (.invokespecial index, 3)) :
    ZRun p l e R s m args below meth c H locs cells slots (F0 m pc ls st0) rest 3 Fr mc ms free := by
  obtain ⟨⟨hx, hb, hml, ho, hts⟩, hKz⟩ := S
  intro T hT X
  subst hst
  obtain ⟨v', vm₁, ⟨U', l2, c2, s2⟩, hW₁, X', ⟨g', mk, t, L, e1, e2, ⟨v, hv, hF⟩, e3, hL, e4, e5⟩, st⟩ := callI X hx (bytes := b0) (maxL := m0) ho h0 (hts _ h1) (hts _ h2) (hts _ h4) h5 (hM.at hts hR) (g := F0 m pc ls (As.reverse ++ .ref a :: rest)) rfl (hsz.trans hml.symm) (a := a) (argsL := As) (rest := rest) (zlen h6 hn) rfl (lv_room hW) (by rw [hb]; exact hdg)
    (fun vm₁ hW₁ => ⟨hc.1, hc.2, rfl, hKz.moved hW₁.alike, by show Hp T.heap; rw [hT]; exact hp⟩)
  dsimp only [Pt.U, Pt.locs, Pt.cells, Pt.slots] at X' e1 e2 e3 e4 e5 st
  subst e3; subst e4; subst e5
  cases hv
  exact ⟨v', U', L, X', hL, by rw [e1, ← hT]; exact hF, st⟩
/-- a class below another that is no interface -/
theorem sub_of_cast {vm : Vm} {c t : ClassId} {kc kt : Class} (h : vm.assignable c t = true) (hc : vm.classes[c]? = some kc) (ht : vm.classes[t]? = some kt) (hkc : kc.kind = .ordinary) (hkt : kt.kind = .ordinary) (hni : kt.isInterface = false) : vm.isSubclass c t = true := by
  by_cases e : c = t
  · subst e; simp [Vm.isSubclass, Vm.isSubclassAux]
  · simpa [Vm.assignable, Vm.assignableAux, e, hc, ht, hkc, hkt, hni] using h
theorem sub_one {vm : Vm} {c t : ClassId} {kc : Class} (hc : vm.classes[c]? = some kc) (hs : kc.super = some t) : vm.isSubclass c t = true := by
  have hlt : c < vm.classes.size := (Array.getElem?_eq_some_iff.mp hc).1
  obtain ⟨k, hk⟩ : ∃ k, vm.classes.size = k + 1 := Nat.exists_eq_succ_of_ne_zero (Nat.ne_of_gt (Nat.lt_of_le_of_lt (Nat.zero_le c) hlt))
  simp [Vm.isSubclass, hk, Vm.isSubclassAux, hc, hs]
/-- what super.m(..) asks where the superclass x.cls itself has m from above, from owner -/
def Below (own cx owner : String) : Prop := Cond.superclass own cx ∈ gw ∧ (cx = owner ∨ Cond.superclass cx owner ∈ gw ∨ ∃ o2 o3, Cond.castable cx owner ∈ lw_tbl ∧ Cond.superclass cx o2 ∈ gw ∧ Cond.superclass owner o3 ∈ gw)
theorem z_SU {owner : String} {x : MethodName} {q : vw_C} {ci : Nat} {fs : List Value} (S : ZC p m c cc nL s args own G) (hM : ZK l G y d (.ref a :: As) Hp Fr mc ms free) (h1 : Cond.methodLink own index x ∈ gw) (h2 : Cond.sameMethod x.cls owner x.name x.desc ∈ gw) (hbl : Below own x.cls owner) (hy : y = ⟨owner, x.name, x.desc⟩) (h6 : Cond.instanceMethod y ∈ gw) {b0 : ByteArray} {m0 : Nat} {r0 : Option FieldType} (h7 : Cond.code y b0 m0 r0 ∈ gw) (h8 : x.name ≠ "<init>") (h9 : (parseMethodDescriptor x.desc).map (fun d => d.parameters.length) = some n)
    (hcls : classes[ci]? = some q) (hat : va_at G.1 classes (a, .inr (ci, fs)) H) (hp : Hp H) (hn : As.length = n) (hsz : ls.size = nL) (hst : st0 = As.reverse ++ .ref a :: rest) (hW : (rest.map fun v => v.category).sum ≤ 8) (hR : d + 1 ≤ R.frames ∧ 25 * (d + 1) ≤ R.locals) (hc : cells + mc ≤ R.cells ∧ slots + ms ≤ R.slots) (hdg : decode cc pc = .ok (.invokespecial index, 3)) :
    ZRun p l e R s m args below meth c H locs cells slots (F0 m pc ls st0) rest 3 Fr mc ms free := by
  have hrec := zrec S.2 hat hcls
  obtain ⟨⟨hx, hb, hml, ho, hts⟩, hKz⟩ := S
  obtain ⟨cell, q1, q2, q3⟩ := hrec
  obtain ⟨-, kB, hkB, -⟩ := (hKz.1.1 ci q hcls).2
  have hkB' : s.vm.classes[cell.cls]? = some kB := by
    have e0 := Option.some.inj (((hKz.1.1 ci q hcls).2.1).symm.trans q3)
    rw [← e0]; exact hkB
  obtain ⟨mk, methM, hnamed, hmethM, hstM, habM⟩ := Cond.instanceMethod_spec (hts _ h6)
  obtain ⟨methM', cM, hmethM', -, -, -, -, -, -, hsigM⟩ := Cond.code_spec hnamed (hts _ h7)
  cases hmethM.symm.trans hmethM'
  obtain ⟨ps, dk, kp, hps, hdk, hkp, hsuper, -, hkpk, hnid⟩ := Cond.superclass_spec ho (hts _ hbl.1)
  have hnm : s.methodNamed? ⟨owner, x.name, x.desc⟩ = some mk := by rw [← hy]; exact hnamed
  have hoc : s.vm.findClass owner = some mk.cls := by have := findClass_of_methodNamed hnm; exact this
  have hsub : s.vm.isSubclass ps mk.cls = true := by
    rcases hbl.2 with e0 | h0 | ⟨o2, o3, h0, hq2, hq3⟩
    · have e1 : ps = mk.cls := by rw [e0] at hps; exact Option.some.inj (hps.symm.trans hoc)
      rw [e1]; simp [Vm.isSubclass, Vm.isSubclassAux]
    · obtain ⟨pt, kq, kt, hpt, hkq, hkt, hsq, -, -, -⟩ := Cond.superclass_spec hps (hts _ h0)
      have e1 : pt = mk.cls := Option.some.inj (hpt.symm.trans hoc)
      rw [← e1]; exact sub_one hkq hsq
    · obtain ⟨c3, t3, w1, w2, w3⟩ := Cond.castable_spec (hKz.face (A := args) h0 rfl)
      cases hps.symm.trans w1
      cases hoc.symm.trans w2
      obtain ⟨-, k1, -, -, hk1, -, -, hk1o, -, -⟩ := Cond.superclass_spec hps (hts _ hq2)
      obtain ⟨-, k2, -, -, hk2, -, -, hk2o, -, hk2i⟩ := Cond.superclass_spec hoc (hts _ hq3)
      exact sub_of_cast w3 hk1 hk2 hk1o hk2o hk2i
  intro T hT X
  subst hst
  obtain ⟨vm₁, X₁, hstep₁⟩ := X.invokespecialUp hx ho (hts _ h1) (hts _ h2) hnm hmethM hstM habM h8 hdk hnid hps hsuper hsub (a := a) (cell := cell) (by rw [hT]; exact q1)
    (fun z h => by rw [h] at q2; cases q2) hkB' (g := F0 m pc ls (As.reverse ++ .ref a :: rest)) rfl (argsL := As) (rest := rest) (zlen h9 hn _ (by rw [hy] at hsigM; exact hsigM)) rfl (by rw [hb]; exact hdg)
  obtain ⟨v', ⟨U', l2, c2, s2⟩, X', ⟨g', mk', t, L, e1, e2, ⟨v, hv, hF⟩, e3, hL, e4, e5⟩, hsteps⟩ := (hM.at (len := 3) hts hR) m meth c ⟨T.setVm vm₁, locs, cells, slots⟩ { F0 m pc ls (As.reverse ++ .ref a :: rest) with stack := rest } (.invokespecial index) mk (Value.ref a :: As).toArray X₁ rfl (hsz.trans hml.symm) (by rw [hb]; exact hdg) (lv_room (ls := ls) (pc := pc) (rest := rest) hW) (X₁.named hnamed)
    ⟨hc.1, hc.2, rfl, hKz.moved X₁.warmed.alike, by show Hp T.heap; rw [hT]; exact hp⟩
  dsimp only [Pt.U, Pt.locs, Pt.cells, Pt.slots] at X' e1 e2 e3 e4 e5 hsteps
  subst e3; subst e4; subst e5
  cases hv
  exact ⟨v', U', L, X', hL, by rw [e1, ← hT]; exact hF, fun target h => hstep₁ _ (by rw [doInvoke_state]; exact hsteps.trans h)⟩
theorem z_F {C : String} {x : MethodName} {q : vw_C} {ci count : Nat} {fs : List Value} (S : ZC p m c cc nL s args own G) (hM : ZK l G y d (.ref a :: As) Hp Fr mc ms free) (h1 : Cond.methodLink own index x ∈ gw) (f1 : Cond.declares x ∈ lw_tbl) (f2 : Cond.interfaceMethod x.cls x.cls x.name x.desc ∈ lw_tbl) (f2a : (Cond.interfaceMethod x.cls x.cls x.name x.desc).faceAtom = true) (h5 : Cond.selects C x y ∈ gw) (h6 : Cond.instanceMethod y ∈ gw) (f3 : Cond.publicMethod y ∈ lw_tbl) (f4 : Cond.unhidden C x.name x.desc ∈ lw_tbl) (f5 : Cond.castable C x.cls ∈ lw_tbl) {b0 : ByteArray} {m0 : Nat} {r0 : Option FieldType} (h7 : Cond.code y b0 m0 r0 ∈ gw) (h8 : okN x) (h9 : (parseMethodDescriptor x.desc).map (fun d => d.parameters.length) = some n)
    (hcls : classes[ci]? = some q) (hqC : q.1 = C) (hat : va_at G.1 classes (a, .inr (ci, fs)) H) (hp : Hp H) (hn : As.length = n) (hsz : ls.size = nL) (hst : st0 = As.reverse ++ .ref a :: rest) (hW : (rest.map fun v => v.category).sum ≤ 8) (hR : d + 1 ≤ R.frames ∧ 25 * (d + 1) ≤ R.locals) (hc : cells + mc ≤ R.cells ∧ slots + ms ≤ R.slots) (hdg : decode cc pc = .ok (.invokeinterface index count, 5)) :
    ZRun p l e R s m args below meth c H locs cells slots (F0 m pc ls st0) rest 5 Fr mc ms free := by
  subst hqC
  have hrec := zrec S.2 hat hcls
  obtain ⟨⟨hx, hb, hml, ho, hts⟩, hKz⟩ := S
  obtain ⟨cell, q1, q2, q3⟩ := hrec
  obtain ⟨-, kB, hkB, -⟩ := (hKz.1.1 ci q hcls).2
  have hkB' : s.vm.classes[cell.cls]? = some kB := by
    have e0 := Option.some.inj (((hKz.1.1 ci q hcls).2.1).symm.trans q3)
    rw [← e0]; exact hkB
  intro T hT X
  subst hst
  obtain ⟨v', vm₁, ⟨U', l2, c2, s2⟩, hW₁, X', ⟨g', mk, t, L, e1, e2, ⟨v, hv, hF⟩, e3, hL, e4, e5⟩, st⟩ := va_callIF X hx (C := q.1) (bytes := b0) (maxL := m0) (ret := r0) ho (hts _ h1) (hKz.face f1 rfl) (hKz.face f2 f2a) (hts _ h5) (hts _ h6) (hKz.face f3 rfl) (hKz.face f4 rfl) (hKz.face f5 rfl) (hts _ h7) h8 (hM.at hts hR) (by rw [hT]; exact q1) q2 q3 hkB' (g := F0 m pc ls (As.reverse ++ .ref a :: rest)) rfl (hsz.trans hml.symm) (argsL := As) (rest := rest) (zlen h9 hn) rfl (lv_room hW) (by rw [hb]; exact hdg)
    (fun vm₁ hW₁ => ⟨hc.1, hc.2, rfl, hKz.moved hW₁.alike, by show Hp T.heap; rw [hT]; exact hp⟩)
  dsimp only [Pt.U, Pt.locs, Pt.cells, Pt.slots] at X' e1 e2 e3 e4 e5 st
  subst e3; subst e4; subst e5
  cases hv
  exact ⟨v', U', L, X', hL, by rw [e1, ← hT]; exact hF, st⟩
/-- a call through an interface that lands in the interface's own default method -/
theorem z_FD {C : String} {q : vw_C} {ci count : Nat} {fs : List Value} (S : ZC p m c cc nL s args own G) (hM : ZK l G y d (.ref a :: As) Hp Fr mc ms free) (h1 : Cond.methodLink own index y ∈ gw) (f1 : Cond.declares y ∈ lw_tbl) (f2 : Cond.interfaceMethod y.cls y.cls y.name y.desc ∈ lw_tbl) (f2a : (Cond.interfaceMethod y.cls y.cls y.name y.desc).faceAtom = true) (hld : (C, y) ∈ dz) (h6 : Cond.instanceMethod y ∈ gw) (f3 : Cond.publicMethod y ∈ lw_tbl) (f4 : Cond.unhidden C y.name y.desc ∈ lw_tbl) (f5 : Cond.castable C y.cls ∈ lw_tbl) (h8 : okN y) (h9 : (parseMethodDescriptor y.desc).map (fun d => d.parameters.length) = some n)
    (hcls : classes[ci]? = some q) (hqC : q.1 = C) (hat : va_at G.1 classes (a, .inr (ci, fs)) H) (hp : Hp H) (hn : As.length = n) (hsz : ls.size = nL) (hst : st0 = As.reverse ++ .ref a :: rest) (hW : (rest.map fun v => v.category).sum ≤ 8) (hR : d + 1 ≤ R.frames ∧ 25 * (d + 1) ≤ R.locals) (hc : cells + mc ≤ R.cells ∧ slots + ms ≤ R.slots) (hdg : decode cc pc = .ok (.invokeinterface index count, 5)) :
    ZRun p l e R s m args below meth c H locs cells slots (F0 m pc ls st0) rest 5 Fr mc ms free := by
  subst hqC
  have hrec := zrec S.2 hat hcls
  obtain ⟨⟨hx, hb, hml, ho, hts⟩, hKz⟩ := S
  obtain ⟨cell, q1, q2, q3⟩ := hrec
  obtain ⟨-, kB, hkB, -⟩ := (hKz.1.1 ci q hcls).2
  have hkB' : s.vm.classes[cell.cls]? = some kB := by
    have e0 := Option.some.inj (((hKz.1.1 ci q hcls).2.1).symm.trans q3)
    rw [← e0]; exact hkB
  obtain ⟨r0, r, hn0, hrm, hstR, hsigR⟩ := Cond.declares_spec (hKz.face (A := args) f1 rfl)
  obtain ⟨cL, kL, r1, hcL, hkL, hiL, hfoundL, hn1⟩ := Cond.interfaceMethod_spec (hKz.face (A := args) f2 f2a)
  cases hn0.symm.trans hn1
  have hr0cls : r0.cls = cL := Option.some.inj ((findClass_of_methodNamed hn0).symm.trans hcL)
  obtain ⟨hnameR, hdescR⟩ := name_of_methodNamed hn0 hrm
  obtain ⟨mk, methM, hnamed, hmethM, -, habM⟩ := Cond.instanceMethod_spec (hts _ h6)
  cases hn0.symm.trans hnamed
  obtain ⟨cD, rD, w1, w2, w3⟩ := hKz.2.2.2.1 _ hld
  cases q3.symm.trans w1
  cases hn0.symm.trans w2
  obtain ⟨c3, t3, v1, v2, v3⟩ := Cond.castable_spec (hKz.face (A := args) f5 rfl)
  cases q3.symm.trans v1
  cases hcL.symm.trans v2
  intro T hT X
  subst hst
  have hselP : selectMethod e.platform s.vm cell.cls r0 = .method r0 := by rw [Launch.admits_selectMethod X.admits]; exact w3
  have hpubM : hasFlag methM.accessFlags Acc.public_ = true := Cond.publicMethod_spec hn0 hmethM (hKz.face (A := args) f3 rfl)
  have hway : ((cell.cls :: s.vm.superclasses cell.cls).any fun k => (declaredIn s.vm r.name r.desc k).any fun (_, z) => z.isPrivate || z.isStatic) = false := by
    rw [hnameR, hdescR]; exact Cond.unhidden_spec q3 (hKz.face (A := args) f4 rfl)
  obtain ⟨vm₁, X₁, hstep₁⟩ := X.invokeinterface hx ho (hts _ h1) hn0 hrm hstR (by rw [hr0cls]; exact hkL) hiL h8 (a := a) (cell := cell) (kcell := kB) (by rw [hT]; exact q1)
    (fun z h => by rw [h] at q2; cases q2) hkB' (by rw [hr0cls]; exact v3) hselP hmethM hway hpubM habM (g := F0 m pc ls (As.reverse ++ .ref a :: rest)) rfl (argsL := As) (rest := rest) (zlen h9 hn _ hsigR) rfl (by rw [hb]; exact hdg)
  obtain ⟨v', ⟨U', l2, c2, s2⟩, X', ⟨g', mk', t, L, e1, e2, ⟨v, hv, hF⟩, e3, hL, e4, e5⟩, hsteps⟩ := (hM.at (len := 5) hts hR) m meth c ⟨T.setVm vm₁, locs, cells, slots⟩ { F0 m pc ls (As.reverse ++ .ref a :: rest) with stack := rest } (.invokeinterface index count) r0 (Value.ref a :: As).toArray X₁ rfl (hsz.trans hml.symm) (by rw [hb]; exact hdg) (lv_room (ls := ls) (pc := pc) (rest := rest) hW) (X₁.named hn0)
    ⟨hc.1, hc.2, rfl, hKz.moved X₁.warmed.alike, by show Hp T.heap; rw [hT]; exact hp⟩
  dsimp only [Pt.U, Pt.locs, Pt.cells, Pt.slots] at X' e1 e2 e3 e4 e5 hsteps
  subst e3; subst e4; subst e5
  cases hv
  exact ⟨v', U', L, X', hL, by rw [e1, ← hT]; exact hF, fun target h => hstep₁ _ fun acts => by rw [doInvoke_state]; exact hsteps.trans h⟩
-- behind a call
/-- the answer r, and nothing moved -/
def ZE (r : Value) : Option Value → Heap → Heap → Prop := fun v H H1 => v = some r ∧ H1 = H
theorem z_q {r : Value} (h : ZRun p l e R s m args below meth c H locs cells slots (F0 m pc ls st0) rest len (ZE r) 0 0 (fun _ => False)) (kk : W p l e R s m args below meth c H locs cells slots Q (F0 m (pc + len) ls (r :: rest))) : W p l e R s m args below meth c H locs cells slots Q (F0 m pc ls st0) := by
  intro T hT X
  obtain ⟨v, T', L, X', hL, ⟨rfl, hH⟩, st⟩ := h T hT X
  obtain ⟨t2, a1, b1⟩ := kk T' hH (Stand.forget X' (fun q h => (hL q h).elim))
  exact ⟨t2, st t2 a1, b1⟩
theorem z_m (h : ZRun p l e R s m args below meth c H locs cells slots (F0 m pc ls st0) rest len Fr mc ms free) (kk : ∀ (v : Option Value) (H1 : Heap) (L : List Loc), Fr v H H1 → (∀ q ∈ L, free q.base) → W p l e R s m args below meth c H1 (locs ++ L) (cells + mc) (slots + ms) Q (F0 m (pc + len) ls (v.toList ++ rest))) : W p l e R s m args below meth c H locs cells slots Q (F0 m pc ls st0) := by
  intro T hT X
  obtain ⟨v, T', L, X', hL, hF, st⟩ := h T hT X
  obtain ⟨t2, a1, b1⟩ := kk v T'.heap L hF hL T' rfl X'
  exact ⟨t2, st t2 a1, b1⟩
-- ends
theorem z_iret {v v' : Int32} {tys : Option FieldType} (S : ZC p m c cc nL s args own G) (hr : meth.sig.returnType = some .int) (hlk : meth.locks = false) (hv : v' = v) (hF : Fr (some (.int v)) s.heap H) (hloc : ∀ q ∈ locs, free q.base) (hd : decode cc pc = .ok (.ireturn, 1)) : W p l e R s m args below meth c H locs cells slots (MQ below (ZQ Fr) args s cells slots free) (F0 m pc ls [.int v']) := by
  subst hv
  exact W.iret S.1.1 S.1.2.1 hr (fun t ht hW => ⟨_, rfl, by rw [ht]; exact hF⟩) hloc hd hlk
theorem z_zret {v v' : Int32} (S : ZC p m c cc nL s args own G) (hr : meth.sig.returnType = some .boolean) (hlk : meth.locks = false) (hn : narrow .boolean (.int v') = .int v') (hv : v' = v) (hF : Fr (some (.int v)) s.heap H) (hloc : ∀ q ∈ locs, free q.base) (hd : decode cc pc = .ok (.ireturn, 1)) : W p l e R s m args below meth c H locs cells slots (MQ below (ZQ Fr) args s cells slots free) (F0 m pc ls [.int v']) := by
  subst hv
  exact W.zret S.1.1 S.1.2.1 hr hn (fun t ht hW => ⟨_, rfl, by rw [ht]; exact hF⟩) hloc hd hlk
theorem z_vret (S : ZC p m c cc nL s args own G) (hr : meth.sig.returnType = none) (hlk : meth.locks = false) (hF : Fr none s.heap H) (hloc : ∀ q ∈ locs, free q.base) (hd : decode cc pc = .ok (.return_, 1)) : W p l e R s m args below meth c H locs cells slots (MQ below (ZQ Fr) args s cells slots free) (F0 m pc ls []) :=
  W.vret S.1.1 S.1.2.1 hr (fun t ht hW => ⟨_, rfl, by rw [ht]; exact hF⟩) hloc hd hlk
theorem z_aret {v : Value} {rt : FieldType} (S : ZC p m c cc nL s args own G) (hr : meth.sig.returnType = some rt) (hrt : ∃ n, rt = .object n) (hv : v = .null ∨ ∃ a, v = .ref a) (hlk : meth.locks = false) (hF : Fr (some v) s.heap H) (hloc : ∀ q ∈ locs, free q.base) (hd : decode cc pc = .ok (.areturn, 1)) : W p l e R s m args below meth c H locs cells slots (MQ below (ZQ Fr) args s cells slots free) (F0 m pc ls [v]) :=
  W.aret S.1.1 S.1.2.1 hr (Or.inl hrt) hv (fun t ht hW => ⟨_, rfl, by rw [ht]; exact hF⟩) hloc hd hlk
theorem z_nil {Pq : Loc → Prop} : ∀ q ∈ ([] : List Loc), Pq q := fun _ h => absurd h List.not_mem_nil
-- fields
theorem va_P1 {D : va_G} {cl : List vw_C} {q : Nat × va_E} (h : va_at D cl q H) : va_P D cl [q] H := by
  intro k x hk
  have hz : k < 1 := (List.getElem?_eq_some_iff.mp hk).1
  rw [show k = 0 by omega] at hk
  cases hk
  exact h
theorem z_get {C ref : String} {T : u_T} {N ci : Nat} {fs : List Value} {v : Value} (S : ZC p m c cc nL s args own G) (hc : classes[ci]? = some (C, T, N)) (hin : ∀ w ∈ u_ws C T N, w ∈ gw) (hp : va_at G.1 classes (a, .inr (ci, fs)) H) (k : Nat) (hk : k < N) (hlink : Cond.fieldLink own index ref (T k).2.1 (T k).2.2.1 ∈ gw) (hsame : ref = (T k).1 ∨ Cond.sameField ref (T k).1 (T k).2.1 (T k).2.2.1 ∈ gw) (hv : fs[k]? = some v) (hdg : decode cc pc = .ok (.getfield index, 3))
    (kk : W p l e R s m args below meth c H locs cells slots Q (F0 m (pc + 3) ls (v :: rest))) : W p l e R s m args below meth c H locs cells slots Q (F0 m pc ls (.ref a :: rest)) := by
  obtain ⟨⟨hx, hb, hml, ho, hts⟩, hKz⟩ := S
  refine va_get (D := G.1) (ci := ci) (v := v) (C := C) (T := T) (N := N) hx hb hts hin ho hKz.1 (va_P1 hp) 0 rfl hc k hk (hts _ hlink) (fun x9 h9 => ?_) hv hdg kk
  rcases hsame with e0 | h0
  · rw [e0]; exact h9
  · exact u_same (hts _ h0) x9 h9
theorem zP_set {D : va_G} {cl : List vw_C} {A : Nat → Prop} {p0 : Nat} {ws : va_W} {a : Nat} {e0 e : va_E} {H H1 : Heap} (h : va_P D cl ws H) (hD : va_D A ws) (hp : ws[p0]? = some (a, e0)) (he : va_at D cl (a, e) H1) (oq : ∀ q : Nat, q < H.size → q ≠ a → H1[q]? = H[q]?) : va_P D cl (ws.set p0 (a, e)) H1 := by
  have hl := (List.getElem?_eq_some_iff.mp hp).1
  intro k q hk
  by_cases hkp : k = p0
  · subst hkp
    rw [List.getElem?_set_self hl] at hk
    cases hk
    exact he
  · rw [List.getElem?_set_ne (Ne.symm hkp)] at hk
    exact (h k q hk).kept (oq q.1 ((h k q hk).lt) (fun z => hkp (hD.1 k p0 q (a, e0) hk hp z)))
variable {ws : va_W} {A : Nat → Prop} {H0 : Heap}
/-- an int field of an object of the world gets a value -/
theorem z_put {C ref : String} {T : u_T} {N ci : Nat} {fs : List Value} {x : Int32} {ty0 : Nat → FieldType} (S : ZC p m c cc nL s args own G) (hc : classes[ci]? = some (C, T, N)) (hin : ∀ w ∈ u_ws C T N, w ∈ gw) (hty : ∀ k, k < N → parseFieldDescriptor (T k).2.2.1 = some (ty0 k)) (hnm : ∀ a, a < N → ∀ b, b < N → a ≠ b → (T a).2.1 ≠ (T b).2.1) (hP : va_P G.1 classes ws H) (hD : va_D A ws) (hS : va_S A H0 H locs) (q0 : Nat) (he : ws[q0]? = some (a, .inr (ci, fs))) (k : Nat) (hk : k < N) (hlink : Cond.fieldLink own index ref (T k).2.1 (T k).2.2.1 ∈ gw) (hsame : ref = (T k).1 ∨ Cond.sameField ref (T k).1 (T k).2.1 (T k).2.2.1 ∈ gw) (hfin : (T k).2.2.2 = false) (hd : parseFieldDescriptor (T k).2.2.1 = some .int) (hl : k < fs.length) (hdg : decode cc pc = .ok (.putfield index, 3))
    (kk : ∀ (H1 : Heap) (locs1 : List Loc), va_P G.1 classes (ws.set q0 (a, .inr (ci, fs.set k (.int x)))) H1 → va_D A (ws.set q0 (a, .inr (ci, fs.set k (.int x)))) → va_S A H0 H1 locs1 → W p l e R s m args below meth c H1 locs1 cells slots Q (F0 m (pc + 3) ls rest)) : W p l e R s m args below meth c H locs cells slots Q (F0 m pc ls (.int x :: .ref a :: rest)) := by
  obtain ⟨⟨hx, hb, hml, ho, hts⟩, hKz⟩ := S
  refine va_put (D := G.1) (ci := ci) (v := .int x) (ty := .int) (C := C) (T := T) (N := N) hx hb hts hin ty0 hty hnm ho hKz.1 hP hD hS q0 he hc k hk (hts _ hlink) (fun x9 h9 => ?_) hfin hd rfl rfl hl hdg kk
  rcases hsame with e0 | h0
  · rw [e0]; exact h9
  · exact u_same (hts _ h0) x9 h9
theorem z_putF {C ref : String} {T : u_T} {N ci : Nat} {fs : List Value} {x : Value} {ty : FieldType} {ty0 : Nat → FieldType} (S : ZC p m c cc nL s args own G) (hc : classes[ci]? = some (C, T, N)) (hin : ∀ w ∈ u_ws C T N, w ∈ gw) (hty : ∀ k, k < N → parseFieldDescriptor (T k).2.2.1 = some (ty0 k)) (hnm : ∀ a, a < N → ∀ b, b < N → a ≠ b → (T a).2.1 ≠ (T b).2.1) (hP : va_P G.1 classes ws H) (hD : va_D A ws) (hS : va_S A H0 H locs) (q0 : Nat) (he : ws[q0]? = some (a, .inr (ci, fs))) (k : Nat) (hk : k < N) (hlink : Cond.fieldLink own index ref (T k).2.1 (T k).2.2.1 ∈ gw) (hsame : ref = (T k).1) (hfin : (T k).2.2.2 = true) (hin2 : meth.name = "<init>") (hdecl : (T k).1 = own) (hd : parseFieldDescriptor (T k).2.2.1 = some ty) (hn : narrow ty x = x) (hfit : fits ty x = true) (hl : k < fs.length) (hdg : decode cc pc = .ok (.putfield index, 3))
    (kk : ∀ (H1 : Heap) (locs1 : List Loc), va_P G.1 classes (ws.set q0 (a, .inr (ci, fs.set k x))) H1 → va_D A (ws.set q0 (a, .inr (ci, fs.set k x))) → va_S A H0 H1 locs1 → W p l e R s m args below meth c H1 locs1 cells slots Q (F0 m (pc + 3) ls rest)) : W p l e R s m args below meth c H locs cells slots Q (F0 m pc ls (x :: .ref a :: rest)) := by
  obtain ⟨⟨hx, hb, hml, ho, hts⟩, hKz⟩ := S
  exact va_putF (D := G.1) (ci := ci) (v := x) (ty := ty) (C := C) (T := T) (N := N) hx hb hts hin ty0 hty hnm ho hKz.1 hP hD hS q0 he hc k hk (hts _ hlink) (fun x9 h9 => by rw [hsame]; exact h9) hfin hin2 hdecl hd hn hfit hl hdg kk
end ZRA
end
section
theorem d_Of_init_0 : decode b_Of_init 0 = .ok (.aload_n 0, 1) := by decide +kernel
theorem d_Of_init_1 : decode b_Of_init 1 = .ok (.invokespecial 1, 3) := by decide +kernel
theorem d_Of_init_4 : decode b_Of_init 4 = .ok (.aload_n 0, 1) := by decide +kernel
theorem d_Of_init_5 : decode b_Of_init 5 = .ok (.bipush 40, 2) := by decide +kernel
theorem d_Of_init_7 : decode b_Of_init 7 = .ok (.anewarray 9, 3) := by decide +kernel
theorem d_Of_init_10 : decode b_Of_init 10 = .ok (.putfield 11, 3) := by decide +kernel
theorem d_Of_init_13 : decode b_Of_init 13 = .ok (.return_, 1) := by decide +kernel
theorem d_Of_issue_0 : decode b_Of_issue 0 = .ok (.iload_n 1, 1) := by decide +kernel
theorem d_Of_issue_1 : decode b_Of_issue 1 = .ok (.iconst 0, 1) := by decide +kernel
theorem d_Of_issue_2 : decode b_Of_issue 2 = .ok (.bipush 7, 2) := by decide +kernel
theorem d_Of_issue_4 : decode b_Of_issue 4 = .ok (.invokestatic 19, 3) := by decide +kernel
theorem d_Of_issue_7 : decode b_Of_issue 7 = .ok (.ifCond .eq 13, 3) := by decide +kernel
theorem d_Of_issue_10 : decode b_Of_issue 10 = .ok (.iload_n 2, 1) := by decide +kernel
theorem d_Of_issue_11 : decode b_Of_issue 11 = .ok (.iconst 1, 1) := by decide +kernel
theorem d_Of_issue_12 : decode b_Of_issue 12 = .ok (.ldc 50, 2) := by decide +kernel
theorem d_Of_issue_14 : decode b_Of_issue 14 = .ok (.invokestatic 19, 3) := by decide +kernel
theorem d_Of_issue_17 : decode b_Of_issue 17 = .ok (.ifCond .ne 6, 3) := by decide +kernel
theorem d_Of_issue_20 : decode b_Of_issue 20 = .ok (.bipush (-2), 2) := by decide +kernel
theorem d_Of_issue_22 : decode b_Of_issue 22 = .ok (.ireturn, 1) := by decide +kernel
theorem d_Of_issue_23 : decode b_Of_issue 23 = .ok (.aload_n 0, 1) := by decide +kernel
theorem d_Of_issue_24 : decode b_Of_issue 24 = .ok (.getfield 15, 3) := by decide +kernel
theorem d_Of_issue_27 : decode b_Of_issue 27 = .ok (.bipush 40, 2) := by decide +kernel
theorem d_Of_issue_29 : decode b_Of_issue 29 = .ok (.if_icmp .ne 6, 3) := by decide +kernel
theorem d_Of_issue_32 : decode b_Of_issue 32 = .ok (.bipush (-4), 2) := by decide +kernel
theorem d_Of_issue_34 : decode b_Of_issue 34 = .ok (.ireturn, 1) := by decide +kernel
theorem d_Of_issue_35 : decode b_Of_issue 35 = .ok (.aload_n 0, 1) := by decide +kernel
theorem d_Of_issue_36 : decode b_Of_issue 36 = .ok (.getfield 11, 3) := by decide +kernel
theorem d_Of_issue_39 : decode b_Of_issue 39 = .ok (.aload_n 0, 1) := by decide +kernel
theorem d_Of_issue_40 : decode b_Of_issue 40 = .ok (.getfield 15, 3) := by decide +kernel
theorem d_Of_issue_43 : decode b_Of_issue 43 = .ok (.aload_n 0, 1) := by decide +kernel
theorem d_Of_issue_44 : decode b_Of_issue 44 = .ok (.iload_n 1, 1) := by decide +kernel
theorem d_Of_issue_45 : decode b_Of_issue 45 = .ok (.iload_n 2, 1) := by decide +kernel
theorem d_Of_issue_46 : decode b_Of_issue 46 = .ok (.invokevirtual 51, 3) := by decide +kernel
theorem d_Of_issue_49 : decode b_Of_issue 49 = .ok (.aastore, 1) := by decide +kernel
theorem d_Of_issue_50 : decode b_Of_issue 50 = .ok (.aload_n 0, 1) := by decide +kernel
theorem d_Of_issue_51 : decode b_Of_issue 51 = .ok (.dup, 1) := by decide +kernel
theorem d_Of_issue_52 : decode b_Of_issue 52 = .ok (.getfield 55, 3) := by decide +kernel
theorem d_Of_issue_55 : decode b_Of_issue 55 = .ok (.iload_n 2, 1) := by decide +kernel
theorem d_Of_issue_56 : decode b_Of_issue 56 = .ok (.iadd, 1) := by decide +kernel
theorem d_Of_issue_57 : decode b_Of_issue 57 = .ok (.putfield 55, 3) := by decide +kernel
theorem d_Of_issue_60 : decode b_Of_issue 60 = .ok (.aload_n 0, 1) := by decide +kernel
theorem d_Of_issue_61 : decode b_Of_issue 61 = .ok (.dup, 1) := by decide +kernel
theorem d_Of_issue_62 : decode b_Of_issue 62 = .ok (.getfield 15, 3) := by decide +kernel
theorem d_Of_issue_65 : decode b_Of_issue 65 = .ok (.iconst 1, 1) := by decide +kernel
theorem d_Of_issue_66 : decode b_Of_issue 66 = .ok (.iadd, 1) := by decide +kernel
theorem d_Of_issue_67 : decode b_Of_issue 67 = .ok (.putfield 15, 3) := by decide +kernel
theorem d_Of_issue_70 : decode b_Of_issue 70 = .ok (.aload_n 0, 1) := by decide +kernel
theorem d_Of_issue_71 : decode b_Of_issue 71 = .ok (.getfield 15, 3) := by decide +kernel
theorem d_Of_issue_74 : decode b_Of_issue 74 = .ok (.iconst 1, 1) := by decide +kernel
theorem d_Of_issue_75 : decode b_Of_issue 75 = .ok (.isub, 1) := by decide +kernel
theorem d_Of_issue_76 : decode b_Of_issue 76 = .ok (.ireturn, 1) := by decide +kernel
theorem d_Of_isIn_0 : decode b_Of_isIn 0 = .ok (.iload_n 0, 1) := by decide +kernel
theorem d_Of_isIn_1 : decode b_Of_isIn 1 = .ok (.iload_n 1, 1) := by decide +kernel
theorem d_Of_isIn_2 : decode b_Of_isIn 2 = .ok (.if_icmp .lt 12, 3) := by decide +kernel
theorem d_Of_isIn_5 : decode b_Of_isIn 5 = .ok (.iload_n 0, 1) := by decide +kernel
theorem d_Of_isIn_6 : decode b_Of_isIn 6 = .ok (.iload_n 2, 1) := by decide +kernel
theorem d_Of_isIn_7 : decode b_Of_isIn 7 = .ok (.if_icmp .gt 7, 3) := by decide +kernel
theorem d_Of_isIn_10 : decode b_Of_isIn 10 = .ok (.iconst 1, 1) := by decide +kernel
theorem d_Of_isIn_11 : decode b_Of_isIn 11 = .ok (.goto 4, 3) := by decide +kernel
theorem d_Of_isIn_14 : decode b_Of_isIn 14 = .ok (.iconst 0, 1) := by decide +kernel
theorem d_Of_isIn_15 : decode b_Of_isIn 15 = .ok (.ireturn, 1) := by decide +kernel
theorem d_Of_made_0 : decode b_Of_made 0 = .ok (.iload_n 1, 1) := by decide +kernel
theorem d_Of_made_1 : decode b_Of_made 1 = .ok (.tableswitch 141 0 6 #[43, 57, 71, 85, 99, 113, 127], 43) := by decide +kernel
theorem d_Of_made_44 : decode b_Of_made 44 = .ok (.new 9, 3) := by decide +kernel
theorem d_Of_made_47 : decode b_Of_made 47 = .ok (.dup, 1) := by decide +kernel
theorem d_Of_made_48 : decode b_Of_made 48 = .ok (.iload_n 1, 1) := by decide +kernel
theorem d_Of_made_49 : decode b_Of_made 49 = .ok (.aload_n 0, 1) := by decide +kernel
theorem d_Of_made_50 : decode b_Of_made 50 = .ok (.getfield 23, 3) := by decide +kernel
theorem d_Of_made_53 : decode b_Of_made 53 = .ok (.iload_n 2, 1) := by decide +kernel
theorem d_Of_made_54 : decode b_Of_made 54 = .ok (.invokespecial 26, 3) := by decide +kernel
theorem d_Of_made_57 : decode b_Of_made 57 = .ok (.areturn, 1) := by decide +kernel
theorem d_Of_made_58 : decode b_Of_made 58 = .ok (.new 29, 3) := by decide +kernel
theorem d_Of_made_61 : decode b_Of_made 61 = .ok (.dup, 1) := by decide +kernel
theorem d_Of_made_62 : decode b_Of_made 62 = .ok (.iload_n 1, 1) := by decide +kernel
theorem d_Of_made_63 : decode b_Of_made 63 = .ok (.aload_n 0, 1) := by decide +kernel
theorem d_Of_made_64 : decode b_Of_made 64 = .ok (.getfield 23, 3) := by decide +kernel
theorem d_Of_made_67 : decode b_Of_made 67 = .ok (.iload_n 2, 1) := by decide +kernel
theorem d_Of_made_68 : decode b_Of_made 68 = .ok (.invokespecial 31, 3) := by decide +kernel
theorem d_Of_made_71 : decode b_Of_made 71 = .ok (.areturn, 1) := by decide +kernel
theorem d_Of_made_72 : decode b_Of_made 72 = .ok (.new 32, 3) := by decide +kernel
theorem d_Of_made_75 : decode b_Of_made 75 = .ok (.dup, 1) := by decide +kernel
theorem d_Of_made_76 : decode b_Of_made 76 = .ok (.iload_n 1, 1) := by decide +kernel
theorem d_Of_made_77 : decode b_Of_made 77 = .ok (.aload_n 0, 1) := by decide +kernel
theorem d_Of_made_78 : decode b_Of_made 78 = .ok (.getfield 23, 3) := by decide +kernel
theorem d_Of_made_81 : decode b_Of_made 81 = .ok (.iload_n 2, 1) := by decide +kernel
theorem d_Of_made_82 : decode b_Of_made 82 = .ok (.invokespecial 34, 3) := by decide +kernel
theorem d_Of_made_85 : decode b_Of_made 85 = .ok (.areturn, 1) := by decide +kernel
theorem d_Of_made_86 : decode b_Of_made 86 = .ok (.new 35, 3) := by decide +kernel
theorem d_Of_made_89 : decode b_Of_made 89 = .ok (.dup, 1) := by decide +kernel
theorem d_Of_made_90 : decode b_Of_made 90 = .ok (.iload_n 1, 1) := by decide +kernel
theorem d_Of_made_91 : decode b_Of_made 91 = .ok (.aload_n 0, 1) := by decide +kernel
theorem d_Of_made_92 : decode b_Of_made 92 = .ok (.getfield 23, 3) := by decide +kernel
theorem d_Of_made_95 : decode b_Of_made 95 = .ok (.iload_n 2, 1) := by decide +kernel
theorem d_Of_made_96 : decode b_Of_made 96 = .ok (.invokespecial 37, 3) := by decide +kernel
theorem d_Of_made_99 : decode b_Of_made 99 = .ok (.areturn, 1) := by decide +kernel
theorem d_Of_made_100 : decode b_Of_made 100 = .ok (.new 38, 3) := by decide +kernel
theorem d_Of_made_103 : decode b_Of_made 103 = .ok (.dup, 1) := by decide +kernel
theorem d_Of_made_104 : decode b_Of_made 104 = .ok (.iload_n 1, 1) := by decide +kernel
theorem d_Of_made_105 : decode b_Of_made 105 = .ok (.aload_n 0, 1) := by decide +kernel
theorem d_Of_made_106 : decode b_Of_made 106 = .ok (.getfield 23, 3) := by decide +kernel
theorem d_Of_made_109 : decode b_Of_made 109 = .ok (.iload_n 2, 1) := by decide +kernel
theorem d_Of_made_110 : decode b_Of_made 110 = .ok (.invokespecial 40, 3) := by decide +kernel
theorem d_Of_made_113 : decode b_Of_made 113 = .ok (.areturn, 1) := by decide +kernel
theorem d_Of_made_114 : decode b_Of_made 114 = .ok (.new 41, 3) := by decide +kernel
theorem d_Of_made_117 : decode b_Of_made 117 = .ok (.dup, 1) := by decide +kernel
theorem d_Of_made_118 : decode b_Of_made 118 = .ok (.iload_n 1, 1) := by decide +kernel
theorem d_Of_made_119 : decode b_Of_made 119 = .ok (.aload_n 0, 1) := by decide +kernel
theorem d_Of_made_120 : decode b_Of_made 120 = .ok (.getfield 23, 3) := by decide +kernel
theorem d_Of_made_123 : decode b_Of_made 123 = .ok (.iload_n 2, 1) := by decide +kernel
theorem d_Of_made_124 : decode b_Of_made 124 = .ok (.invokespecial 43, 3) := by decide +kernel
theorem d_Of_made_127 : decode b_Of_made 127 = .ok (.areturn, 1) := by decide +kernel
theorem d_Of_made_128 : decode b_Of_made 128 = .ok (.new 44, 3) := by decide +kernel
theorem d_Of_made_131 : decode b_Of_made 131 = .ok (.dup, 1) := by decide +kernel
theorem d_Of_made_132 : decode b_Of_made 132 = .ok (.iload_n 1, 1) := by decide +kernel
theorem d_Of_made_133 : decode b_Of_made 133 = .ok (.aload_n 0, 1) := by decide +kernel
theorem d_Of_made_134 : decode b_Of_made 134 = .ok (.getfield 23, 3) := by decide +kernel
theorem d_Of_made_137 : decode b_Of_made 137 = .ok (.iload_n 2, 1) := by decide +kernel
theorem d_Of_made_138 : decode b_Of_made 138 = .ok (.invokespecial 46, 3) := by decide +kernel
theorem d_Of_made_141 : decode b_Of_made 141 = .ok (.areturn, 1) := by decide +kernel
theorem d_Of_made_142 : decode b_Of_made 142 = .ok (.new 47, 3) := by decide +kernel
theorem d_Of_made_145 : decode b_Of_made 145 = .ok (.dup, 1) := by decide +kernel
theorem d_Of_made_146 : decode b_Of_made 146 = .ok (.iload_n 1, 1) := by decide +kernel
theorem d_Of_made_147 : decode b_Of_made 147 = .ok (.aload_n 0, 1) := by decide +kernel
theorem d_Of_made_148 : decode b_Of_made 148 = .ok (.getfield 23, 3) := by decide +kernel
theorem d_Of_made_151 : decode b_Of_made 151 = .ok (.iload_n 2, 1) := by decide +kernel
theorem d_Of_made_152 : decode b_Of_made 152 = .ok (.invokespecial 49, 3) := by decide +kernel
theorem d_Of_made_155 : decode b_Of_made 155 = .ok (.areturn, 1) := by decide +kernel
theorem d_Pa_init_0 : decode b_Pa_init 0 = .ok (.aload_n 0, 1) := by decide +kernel
theorem d_Pa_init_1 : decode b_Pa_init 1 = .ok (.invokespecial 3, 3) := by decide +kernel
theorem d_Pa_init_4 : decode b_Pa_init 4 = .ok (.aload_n 0, 1) := by decide +kernel
theorem d_Pa_init_5 : decode b_Pa_init 5 = .ok (.iload_n 1, 1) := by decide +kernel
theorem d_Pa_init_6 : decode b_Pa_init 6 = .ok (.putfield 9, 3) := by decide +kernel
theorem d_Pa_init_9 : decode b_Pa_init 9 = .ok (.aload_n 0, 1) := by decide +kernel
theorem d_Pa_init_10 : decode b_Pa_init 10 = .ok (.iload_n 2, 1) := by decide +kernel
theorem d_Pa_init_11 : decode b_Pa_init 11 = .ok (.putfield 15, 3) := by decide +kernel
theorem d_Pa_init_14 : decode b_Pa_init 14 = .ok (.aload_n 0, 1) := by decide +kernel
theorem d_Pa_init_15 : decode b_Pa_init 15 = .ok (.iload_n 3, 1) := by decide +kernel
theorem d_Pa_init_16 : decode b_Pa_init 16 = .ok (.putfield 18, 3) := by decide +kernel
theorem d_Pa_init_19 : decode b_Pa_init 19 = .ok (.aload_n 0, 1) := by decide +kernel
theorem d_Pa_init_20 : decode b_Pa_init 20 = .ok (.iload_n 3, 1) := by decide +kernel
theorem d_Pa_init_21 : decode b_Pa_init 21 = .ok (.putfield 21, 3) := by decide +kernel
theorem d_Pa_init_24 : decode b_Pa_init 24 = .ok (.return_, 1) := by decide +kernel
theorem d_Gi_init_0 : decode b_Gi_init 0 = .ok (.aload_n 0, 1) := by decide +kernel
theorem d_Gi_init_1 : decode b_Gi_init 1 = .ok (.iload_n 1, 1) := by decide +kernel
theorem d_Gi_init_2 : decode b_Gi_init 2 = .ok (.iload_n 2, 1) := by decide +kernel
theorem d_Gi_init_3 : decode b_Gi_init 3 = .ok (.iload_n 3, 1) := by decide +kernel
theorem d_Gi_init_4 : decode b_Gi_init 4 = .ok (.invokespecial 1, 3) := by decide +kernel
theorem d_Gi_init_7 : decode b_Gi_init 7 = .ok (.return_, 1) := by decide +kernel
theorem d_Se_init_0 : decode b_Se_init 0 = .ok (.aload_n 0, 1) := by decide +kernel
theorem d_Se_init_1 : decode b_Se_init 1 = .ok (.iload_n 1, 1) := by decide +kernel
theorem d_Se_init_2 : decode b_Se_init 2 = .ok (.iload_n 2, 1) := by decide +kernel
theorem d_Se_init_3 : decode b_Se_init 3 = .ok (.iload_n 3, 1) := by decide +kernel
theorem d_Se_init_4 : decode b_Se_init 4 = .ok (.invokespecial 1, 3) := by decide +kernel
theorem d_Se_init_7 : decode b_Se_init 7 = .ok (.return_, 1) := by decide +kernel
theorem d_St_init_0 : decode b_St_init 0 = .ok (.aload_n 0, 1) := by decide +kernel
theorem d_St_init_1 : decode b_St_init 1 = .ok (.iload_n 1, 1) := by decide +kernel
theorem d_St_init_2 : decode b_St_init 2 = .ok (.iload_n 2, 1) := by decide +kernel
theorem d_St_init_3 : decode b_St_init 3 = .ok (.iload_n 3, 1) := by decide +kernel
theorem d_St_init_4 : decode b_St_init 4 = .ok (.invokespecial 3, 3) := by decide +kernel
theorem d_St_init_7 : decode b_St_init 7 = .ok (.aload_n 0, 1) := by decide +kernel
theorem d_St_init_8 : decode b_St_init 8 = .ok (.iconst (-1), 1) := by decide +kernel
theorem d_St_init_9 : decode b_St_init 9 = .ok (.putfield 9, 3) := by decide +kernel
theorem d_St_init_12 : decode b_St_init 12 = .ok (.return_, 1) := by decide +kernel
theorem d_Ro_init_0 : decode b_Ro_init 0 = .ok (.aload_n 0, 1) := by decide +kernel
theorem d_Ro_init_1 : decode b_Ro_init 1 = .ok (.iload_n 1, 1) := by decide +kernel
theorem d_Ro_init_2 : decode b_Ro_init 2 = .ok (.iload_n 2, 1) := by decide +kernel
theorem d_Ro_init_3 : decode b_Ro_init 3 = .ok (.iload_n 3, 1) := by decide +kernel
theorem d_Ro_init_4 : decode b_Ro_init 4 = .ok (.invokespecial 1, 3) := by decide +kernel
theorem d_Ro_init_7 : decode b_Ro_init 7 = .ok (.return_, 1) := by decide +kernel
theorem d_Cl_init_0 : decode b_Cl_init 0 = .ok (.aload_n 0, 1) := by decide +kernel
theorem d_Cl_init_1 : decode b_Cl_init 1 = .ok (.iload_n 1, 1) := by decide +kernel
theorem d_Cl_init_2 : decode b_Cl_init 2 = .ok (.iload_n 2, 1) := by decide +kernel
theorem d_Cl_init_3 : decode b_Cl_init 3 = .ok (.iload_n 3, 1) := by decide +kernel
theorem d_Cl_init_4 : decode b_Cl_init 4 = .ok (.invokespecial 1, 3) := by decide +kernel
theorem d_Cl_init_7 : decode b_Cl_init 7 = .ok (.return_, 1) := by decide +kernel
theorem d_Ho_init_0 : decode b_Ho_init 0 = .ok (.aload_n 0, 1) := by decide +kernel
theorem d_Ho_init_1 : decode b_Ho_init 1 = .ok (.iload_n 1, 1) := by decide +kernel
theorem d_Ho_init_2 : decode b_Ho_init 2 = .ok (.iload_n 2, 1) := by decide +kernel
theorem d_Ho_init_3 : decode b_Ho_init 3 = .ok (.iload_n 3, 1) := by decide +kernel
theorem d_Ho_init_4 : decode b_Ho_init 4 = .ok (.invokespecial 1, 3) := by decide +kernel
theorem d_Ho_init_7 : decode b_Ho_init 7 = .ok (.return_, 1) := by decide +kernel
theorem d_Cr_init_0 : decode b_Cr_init 0 = .ok (.aload_n 0, 1) := by decide +kernel
theorem d_Cr_init_1 : decode b_Cr_init 1 = .ok (.iload_n 1, 1) := by decide +kernel
theorem d_Cr_init_2 : decode b_Cr_init 2 = .ok (.iload_n 2, 1) := by decide +kernel
theorem d_Cr_init_3 : decode b_Cr_init 3 = .ok (.iload_n 3, 1) := by decide +kernel
theorem d_Cr_init_4 : decode b_Cr_init 4 = .ok (.invokespecial 1, 3) := by decide +kernel
theorem d_Cr_init_7 : decode b_Cr_init 7 = .ok (.return_, 1) := by decide +kernel
theorem d_Of_pass_0 : decode b_Of_pass 0 = .ok (.iload_n 1, 1) := by decide +kernel
theorem d_Of_pass_1 : decode b_Of_pass 1 = .ok (.iconst 1, 1) := by decide +kernel
theorem d_Of_pass_2 : decode b_Of_pass 2 = .ok (.sipush 1000, 3) := by decide +kernel
theorem d_Of_pass_5 : decode b_Of_pass 5 = .ok (.invokestatic 19, 3) := by decide +kernel
theorem d_Of_pass_8 : decode b_Of_pass 8 = .ok (.ifCond .ne 6, 3) := by decide +kernel
theorem d_Of_pass_11 : decode b_Of_pass 11 = .ok (.bipush (-2), 2) := by decide +kernel
theorem d_Of_pass_13 : decode b_Of_pass 13 = .ok (.ireturn, 1) := by decide +kernel
theorem d_Of_pass_14 : decode b_Of_pass 14 = .ok (.aload_n 0, 1) := by decide +kernel
theorem d_Of_pass_15 : decode b_Of_pass 15 = .ok (.getfield 23, 3) := by decide +kernel
theorem d_Of_pass_18 : decode b_Of_pass 18 = .ok (.iload_n 1, 1) := by decide +kernel
theorem d_Of_pass_19 : decode b_Of_pass 19 = .ok (.iadd, 1) := by decide +kernel
theorem d_Of_pass_20 : decode b_Of_pass 20 = .ok (.sipush 20000, 3) := by decide +kernel
theorem d_Of_pass_23 : decode b_Of_pass 23 = .ok (.if_icmp .le 6, 3) := by decide +kernel
theorem d_Of_pass_26 : decode b_Of_pass 26 = .ok (.bipush (-4), 2) := by decide +kernel
theorem d_Of_pass_28 : decode b_Of_pass 28 = .ok (.ireturn, 1) := by decide +kernel
theorem d_Of_pass_29 : decode b_Of_pass 29 = .ok (.aload_n 0, 1) := by decide +kernel
theorem d_Of_pass_30 : decode b_Of_pass 30 = .ok (.dup, 1) := by decide +kernel
theorem d_Of_pass_31 : decode b_Of_pass 31 = .ok (.getfield 23, 3) := by decide +kernel
theorem d_Of_pass_34 : decode b_Of_pass 34 = .ok (.iload_n 1, 1) := by decide +kernel
theorem d_Of_pass_35 : decode b_Of_pass 35 = .ok (.iadd, 1) := by decide +kernel
theorem d_Of_pass_36 : decode b_Of_pass 36 = .ok (.putfield 23, 3) := by decide +kernel
theorem d_Of_pass_39 : decode b_Of_pass 39 = .ok (.aload_n 0, 1) := by decide +kernel
theorem d_Of_pass_40 : decode b_Of_pass 40 = .ok (.getfield 23, 3) := by decide +kernel
theorem d_Of_pass_43 : decode b_Of_pass 43 = .ok (.ireturn, 1) := by decide +kernel
theorem d_Of_value_0 : decode b_Of_value 0 = .ok (.aload_n 0, 1) := by decide +kernel
theorem d_Of_value_1 : decode b_Of_value 1 = .ok (.iload_n 1, 1) := by decide +kernel
theorem d_Of_value_2 : decode b_Of_value 2 = .ok (.invokevirtual 58, 3) := by decide +kernel
theorem d_Of_value_5 : decode b_Of_value 5 = .ok (.astore_n 3, 1) := by decide +kernel
theorem d_Of_value_6 : decode b_Of_value 6 = .ok (.aload_n 3, 1) := by decide +kernel
theorem d_Of_value_7 : decode b_Of_value 7 = .ok (.ifnonnull 5, 3) := by decide +kernel
theorem d_Of_value_10 : decode b_Of_value 10 = .ok (.iconst (-1), 1) := by decide +kernel
theorem d_Of_value_11 : decode b_Of_value 11 = .ok (.ireturn, 1) := by decide +kernel
theorem d_Of_value_12 : decode b_Of_value 12 = .ok (.iload_n 2, 1) := by decide +kernel
theorem d_Of_value_13 : decode b_Of_value 13 = .ok (.iconst 0, 1) := by decide +kernel
theorem d_Of_value_14 : decode b_Of_value 14 = .ok (.sipush 20000, 3) := by decide +kernel
theorem d_Of_value_17 : decode b_Of_value 17 = .ok (.invokestatic 19, 3) := by decide +kernel
theorem d_Of_value_20 : decode b_Of_value 20 = .ok (.ifCond .eq 11, 3) := by decide +kernel
theorem d_Of_value_23 : decode b_Of_value 23 = .ok (.aload_n 3, 1) := by decide +kernel
theorem d_Of_value_24 : decode b_Of_value 24 = .ok (.iload_n 2, 1) := by decide +kernel
theorem d_Of_value_25 : decode b_Of_value 25 = .ok (.invokevirtual 62, 3) := by decide +kernel
theorem d_Of_value_28 : decode b_Of_value 28 = .ok (.goto 5, 3) := by decide +kernel
theorem d_Of_value_31 : decode b_Of_value 31 = .ok (.bipush (-2), 2) := by decide +kernel
theorem d_Of_value_33 : decode b_Of_value 33 = .ok (.ireturn, 1) := by decide +kernel
theorem d_Of_at_0 : decode b_Of_at 0 = .ok (.iload_n 1, 1) := by decide +kernel
theorem d_Of_at_1 : decode b_Of_at 1 = .ok (.iconst 0, 1) := by decide +kernel
theorem d_Of_at_2 : decode b_Of_at 2 = .ok (.aload_n 0, 1) := by decide +kernel
theorem d_Of_at_3 : decode b_Of_at 3 = .ok (.getfield 15, 3) := by decide +kernel
theorem d_Of_at_6 : decode b_Of_at 6 = .ok (.iconst 1, 1) := by decide +kernel
theorem d_Of_at_7 : decode b_Of_at 7 = .ok (.isub, 1) := by decide +kernel
theorem d_Of_at_8 : decode b_Of_at 8 = .ok (.invokestatic 19, 3) := by decide +kernel
theorem d_Of_at_11 : decode b_Of_at 11 = .ok (.ifCond .eq 12, 3) := by decide +kernel
theorem d_Of_at_14 : decode b_Of_at 14 = .ok (.aload_n 0, 1) := by decide +kernel
theorem d_Of_at_15 : decode b_Of_at 15 = .ok (.getfield 11, 3) := by decide +kernel
theorem d_Of_at_18 : decode b_Of_at 18 = .ok (.iload_n 1, 1) := by decide +kernel
theorem d_Of_at_19 : decode b_Of_at 19 = .ok (.aaload, 1) := by decide +kernel
theorem d_Of_at_20 : decode b_Of_at 20 = .ok (.goto 4, 3) := by decide +kernel
theorem d_Of_at_23 : decode b_Of_at 23 = .ok (.aconst_null, 1) := by decide +kernel
theorem d_Of_at_24 : decode b_Of_at 24 = .ok (.areturn, 1) := by decide +kernel
theorem d_Ro_worth_0 : decode b_Ro_worth 0 = .ok (.aload_n 0, 1) := by decide +kernel
theorem d_Ro_worth_1 : decode b_Ro_worth 1 = .ok (.iload_n 1, 1) := by decide +kernel
theorem d_Ro_worth_2 : decode b_Ro_worth 2 = .ok (.invokespecial 7, 3) := by decide +kernel
theorem d_Ro_worth_5 : decode b_Ro_worth 5 = .ok (.istore_n 2, 1) := by decide +kernel
theorem d_Ro_worth_6 : decode b_Ro_worth 6 = .ok (.iload_n 2, 1) := by decide +kernel
theorem d_Ro_worth_7 : decode b_Ro_worth 7 = .ok (.iload_n 2, 1) := by decide +kernel
theorem d_Ro_worth_8 : decode b_Ro_worth 8 = .ok (.bipush 10, 2) := by decide +kernel
theorem d_Ro_worth_10 : decode b_Ro_worth 10 = .ok (.irem, 1) := by decide +kernel
theorem d_Ro_worth_11 : decode b_Ro_worth 11 = .ok (.isub, 1) := by decide +kernel
theorem d_Ro_worth_12 : decode b_Ro_worth 12 = .ok (.ireturn, 1) := by decide +kernel
theorem d_Cr_worth_0 : decode b_Cr_worth 0 = .ok (.aload_n 0, 1) := by decide +kernel
theorem d_Cr_worth_1 : decode b_Cr_worth 1 = .ok (.iload_n 1, 1) := by decide +kernel
theorem d_Cr_worth_2 : decode b_Cr_worth 2 = .ok (.invokespecial 7, 3) := by decide +kernel
theorem d_Cr_worth_5 : decode b_Cr_worth 5 = .ok (.istore_n 2, 1) := by decide +kernel
theorem d_Cr_worth_6 : decode b_Cr_worth 6 = .ok (.iload_n 1, 1) := by decide +kernel
theorem d_Cr_worth_7 : decode b_Cr_worth 7 = .ok (.bipush 7, 2) := by decide +kernel
theorem d_Cr_worth_9 : decode b_Cr_worth 9 = .ok (.irem, 1) := by decide +kernel
theorem d_Cr_worth_10 : decode b_Cr_worth 10 = .ok (.ifCond .ne 9, 3) := by decide +kernel
theorem d_Cr_worth_13 : decode b_Cr_worth 13 = .ok (.iconst 2, 1) := by decide +kernel
theorem d_Cr_worth_14 : decode b_Cr_worth 14 = .ok (.iload_n 2, 1) := by decide +kernel
theorem d_Cr_worth_15 : decode b_Cr_worth 15 = .ok (.imul, 1) := by decide +kernel
theorem d_Cr_worth_16 : decode b_Cr_worth 16 = .ok (.goto 4, 3) := by decide +kernel
theorem d_Cr_worth_19 : decode b_Cr_worth 19 = .ok (.iload_n 2, 1) := by decide +kernel
theorem d_Cr_worth_20 : decode b_Cr_worth 20 = .ok (.ireturn, 1) := by decide +kernel
theorem d_Ho_worth_0 : decode b_Ho_worth 0 = .ok (.aload_n 0, 1) := by decide +kernel
theorem d_Ho_worth_1 : decode b_Ho_worth 1 = .ok (.iload_n 1, 1) := by decide +kernel
theorem d_Ho_worth_2 : decode b_Ho_worth 2 = .ok (.invokespecial 16, 3) := by decide +kernel
theorem d_Ho_worth_5 : decode b_Ho_worth 5 = .ok (.aload_n 0, 1) := by decide +kernel
theorem d_Ho_worth_6 : decode b_Ho_worth 6 = .ok (.getfield 11, 3) := by decide +kernel
theorem d_Ho_worth_9 : decode b_Ho_worth 9 = .ok (.iadd, 1) := by decide +kernel
theorem d_Ho_worth_10 : decode b_Ho_worth 10 = .ok (.ireturn, 1) := by decide +kernel
theorem d_Se_worth_0 : decode b_Se_worth 0 = .ok (.aload_n 0, 1) := by decide +kernel
theorem d_Se_worth_1 : decode b_Se_worth 1 = .ok (.astore_n 2, 1) := by decide +kernel
theorem d_Se_worth_2 : decode b_Se_worth 2 = .ok (.aload_n 2, 1) := by decide +kernel
theorem d_Se_worth_3 : decode b_Se_worth 3 = .ok (.iload_n 1, 1) := by decide +kernel
theorem d_Se_worth_4 : decode b_Se_worth 4 = .ok (.invokeinterface 13 2, 5) := by decide +kernel
theorem d_Se_worth_9 : decode b_Se_worth 9 = .ok (.ifCond .eq 5, 3) := by decide +kernel
theorem d_Se_worth_12 : decode b_Se_worth 12 = .ok (.iconst 0, 1) := by decide +kernel
theorem d_Se_worth_13 : decode b_Se_worth 13 = .ok (.ireturn, 1) := by decide +kernel
theorem d_Se_worth_14 : decode b_Se_worth 14 = .ok (.aload_n 0, 1) := by decide +kernel
theorem d_Se_worth_15 : decode b_Se_worth 15 = .ok (.iload_n 1, 1) := by decide +kernel
theorem d_Se_worth_16 : decode b_Se_worth 16 = .ok (.invokespecial 19, 3) := by decide +kernel
theorem d_Se_worth_19 : decode b_Se_worth 19 = .ok (.ireturn, 1) := by decide +kernel
theorem d_Da_isOver_0 : decode b_Da_isOver 0 = .ok (.iload_n 1, 1) := by decide +kernel
theorem d_Da_isOver_1 : decode b_Da_isOver 1 = .ok (.aload_n 0, 1) := by decide +kernel
theorem d_Da_isOver_2 : decode b_Da_isOver 2 = .ok (.invokeinterface 1 1, 5) := by decide +kernel
theorem d_Da_isOver_7 : decode b_Da_isOver 7 = .ok (.if_icmp .le 7, 3) := by decide +kernel
theorem d_Da_isOver_10 : decode b_Da_isOver 10 = .ok (.iconst 1, 1) := by decide +kernel
theorem d_Da_isOver_11 : decode b_Da_isOver 11 = .ok (.goto 4, 3) := by decide +kernel
theorem d_Da_isOver_14 : decode b_Da_isOver 14 = .ok (.iconst 0, 1) := by decide +kernel
theorem d_Da_isOver_15 : decode b_Da_isOver 15 = .ok (.ireturn, 1) := by decide +kernel
theorem d_Se_lastDay_0 : decode b_Se_lastDay 0 = .ok (.aload_n 0, 1) := by decide +kernel
theorem d_Se_lastDay_1 : decode b_Se_lastDay 1 = .ok (.getfield 7, 3) := by decide +kernel
theorem d_Se_lastDay_4 : decode b_Se_lastDay 4 = .ok (.bipush 90, 2) := by decide +kernel
theorem d_Se_lastDay_6 : decode b_Se_lastDay 6 = .ok (.iadd, 1) := by decide +kernel
theorem d_Se_lastDay_7 : decode b_Se_lastDay 7 = .ok (.ireturn, 1) := by decide +kernel
theorem d_St_lastDay_0 : decode b_St_lastDay 0 = .ok (.aload_n 0, 1) := by decide +kernel
theorem d_St_lastDay_1 : decode b_St_lastDay 1 = .ok (.getfield 15, 3) := by decide +kernel
theorem d_St_lastDay_4 : decode b_St_lastDay 4 = .ok (.bipush 30, 2) := by decide +kernel
theorem d_St_lastDay_6 : decode b_St_lastDay 6 = .ok (.iadd, 1) := by decide +kernel
theorem d_St_lastDay_7 : decode b_St_lastDay 7 = .ok (.ireturn, 1) := by decide +kernel
theorem d_St_worth_0 : decode b_St_worth 0 = .ok (.aload_n 0, 1) := by decide +kernel
theorem d_St_worth_1 : decode b_St_worth 1 = .ok (.iload_n 1, 1) := by decide +kernel
theorem d_St_worth_2 : decode b_St_worth 2 = .ok (.invokespecial 18, 3) := by decide +kernel
theorem d_St_worth_5 : decode b_St_worth 5 = .ok (.istore_n 2, 1) := by decide +kernel
theorem d_St_worth_6 : decode b_St_worth 6 = .ok (.iload_n 2, 1) := by decide +kernel
theorem d_St_worth_7 : decode b_St_worth 7 = .ok (.iload_n 2, 1) := by decide +kernel
theorem d_St_worth_8 : decode b_St_worth 8 = .ok (.bipush 10, 2) := by decide +kernel
theorem d_St_worth_10 : decode b_St_worth 10 = .ok (.idiv, 1) := by decide +kernel
theorem d_St_worth_11 : decode b_St_worth 11 = .ok (.isub, 1) := by decide +kernel
theorem d_St_worth_12 : decode b_St_worth 12 = .ok (.ireturn, 1) := by decide +kernel
theorem d_Pa_worth_0 : decode b_Pa_worth 0 = .ok (.aload_n 0, 1) := by decide +kernel
theorem d_Pa_worth_1 : decode b_Pa_worth 1 = .ok (.getfield 21, 3) := by decide +kernel
theorem d_Pa_worth_4 : decode b_Pa_worth 4 = .ok (.ireturn, 1) := by decide +kernel
theorem d_Of_fee_0 : decode b_Of_fee 0 = .ok (.aload_n 0, 1) := by decide +kernel
theorem d_Of_fee_1 : decode b_Of_fee 1 = .ok (.iload_n 1, 1) := by decide +kernel
theorem d_Of_fee_2 : decode b_Of_fee 2 = .ok (.invokevirtual 58, 3) := by decide +kernel
theorem d_Of_fee_5 : decode b_Of_fee 5 = .ok (.astore_n 3, 1) := by decide +kernel
theorem d_Of_fee_6 : decode b_Of_fee 6 = .ok (.aload_n 3, 1) := by decide +kernel
theorem d_Of_fee_7 : decode b_Of_fee 7 = .ok (.ifnonnull 5, 3) := by decide +kernel
theorem d_Of_fee_10 : decode b_Of_fee 10 = .ok (.iconst (-1), 1) := by decide +kernel
theorem d_Of_fee_11 : decode b_Of_fee 11 = .ok (.ireturn, 1) := by decide +kernel
theorem d_Of_fee_12 : decode b_Of_fee 12 = .ok (.iload_n 2, 1) := by decide +kernel
theorem d_Of_fee_13 : decode b_Of_fee 13 = .ok (.iconst 1, 1) := by decide +kernel
theorem d_Of_fee_14 : decode b_Of_fee 14 = .ok (.ldc 50, 2) := by decide +kernel
theorem d_Of_fee_16 : decode b_Of_fee 16 = .ok (.invokestatic 19, 3) := by decide +kernel
theorem d_Of_fee_19 : decode b_Of_fee 19 = .ok (.ifCond .eq 11, 3) := by decide +kernel
theorem d_Of_fee_22 : decode b_Of_fee 22 = .ok (.aload_n 3, 1) := by decide +kernel
theorem d_Of_fee_23 : decode b_Of_fee 23 = .ok (.iload_n 2, 1) := by decide +kernel
theorem d_Of_fee_24 : decode b_Of_fee 24 = .ok (.invokevirtual 66, 3) := by decide +kernel
theorem d_Of_fee_27 : decode b_Of_fee 27 = .ok (.goto 5, 3) := by decide +kernel
theorem d_Of_fee_30 : decode b_Of_fee 30 = .ok (.bipush (-2), 2) := by decide +kernel
theorem d_Of_fee_32 : decode b_Of_fee 32 = .ok (.ireturn, 1) := by decide +kernel
theorem d_Cr_fee_0 : decode b_Cr_fee 0 = .ok (.aload_n 0, 1) := by decide +kernel
theorem d_Cr_fee_1 : decode b_Cr_fee 1 = .ok (.iload_n 1, 1) := by decide +kernel
theorem d_Cr_fee_2 : decode b_Cr_fee 2 = .ok (.invokespecial 11, 3) := by decide +kernel
theorem d_Cr_fee_5 : decode b_Cr_fee 5 = .ok (.aload_n 0, 1) := by decide +kernel
theorem d_Cr_fee_6 : decode b_Cr_fee 6 = .ok (.invokevirtual 14, 3) := by decide +kernel
theorem d_Cr_fee_9 : decode b_Cr_fee 9 = .ok (.isub, 1) := by decide +kernel
theorem d_Cr_fee_10 : decode b_Cr_fee 10 = .ok (.istore_n 2, 1) := by decide +kernel
theorem d_Cr_fee_11 : decode b_Cr_fee 11 = .ok (.iload_n 2, 1) := by decide +kernel
theorem d_Cr_fee_12 : decode b_Cr_fee 12 = .ok (.ifCond .ge 7, 3) := by decide +kernel
theorem d_Cr_fee_15 : decode b_Cr_fee 15 = .ok (.iconst 0, 1) := by decide +kernel
theorem d_Cr_fee_16 : decode b_Cr_fee 16 = .ok (.goto 4, 3) := by decide +kernel
theorem d_Cr_fee_19 : decode b_Cr_fee 19 = .ok (.iload_n 2, 1) := by decide +kernel
theorem d_Cr_fee_20 : decode b_Cr_fee 20 = .ok (.ireturn, 1) := by decide +kernel
theorem d_Ho_points_0 : decode b_Ho_points 0 = .ok (.aload_n 0, 1) := by decide +kernel
theorem d_Ho_points_1 : decode b_Ho_points 1 = .ok (.invokespecial 7, 3) := by decide +kernel
theorem d_Ho_points_4 : decode b_Ho_points 4 = .ok (.aload_n 0, 1) := by decide +kernel
theorem d_Ho_points_5 : decode b_Ho_points 5 = .ok (.getfield 11, 3) := by decide +kernel
theorem d_Ho_points_8 : decode b_Ho_points 8 = .ok (.iadd, 1) := by decide +kernel
theorem d_Ho_points_9 : decode b_Ho_points 9 = .ok (.ireturn, 1) := by decide +kernel
theorem d_Pa_points_0 : decode b_Pa_points 0 = .ok (.iconst 0, 1) := by decide +kernel
theorem d_Pa_points_1 : decode b_Pa_points 1 = .ok (.ireturn, 1) := by decide +kernel
theorem d_St_fee_0 : decode b_St_fee 0 = .ok (.aload_n 0, 1) := by decide +kernel
theorem d_St_fee_1 : decode b_St_fee 1 = .ok (.iload_n 1, 1) := by decide +kernel
theorem d_St_fee_2 : decode b_St_fee 2 = .ok (.invokespecial 22, 3) := by decide +kernel
theorem d_St_fee_5 : decode b_St_fee 5 = .ok (.iconst 2, 1) := by decide +kernel
theorem d_St_fee_6 : decode b_St_fee 6 = .ok (.idiv, 1) := by decide +kernel
theorem d_St_fee_7 : decode b_St_fee 7 = .ok (.ireturn, 1) := by decide +kernel
theorem d_Pa_fee_0 : decode b_Pa_fee 0 = .ok (.iload_n 1, 1) := by decide +kernel
theorem d_Pa_fee_1 : decode b_Pa_fee 1 = .ok (.bipush 50, 2) := by decide +kernel
theorem d_Pa_fee_3 : decode b_Pa_fee 3 = .ok (.idiv, 1) := by decide +kernel
theorem d_Pa_fee_4 : decode b_Pa_fee 4 = .ok (.iconst 1, 1) := by decide +kernel
theorem d_Pa_fee_5 : decode b_Pa_fee 5 = .ok (.iadd, 1) := by decide +kernel
theorem d_Pa_fee_6 : decode b_Pa_fee 6 = .ok (.ireturn, 1) := by decide +kernel
theorem d_Of_spend_0 : decode b_Of_spend 0 = .ok (.aload_n 0, 1) := by decide +kernel
theorem d_Of_spend_1 : decode b_Of_spend 1 = .ok (.iload_n 1, 1) := by decide +kernel
theorem d_Of_spend_2 : decode b_Of_spend 2 = .ok (.invokevirtual 58, 3) := by decide +kernel
theorem d_Of_spend_5 : decode b_Of_spend 5 = .ok (.astore_n 3, 1) := by decide +kernel
theorem d_Of_spend_6 : decode b_Of_spend 6 = .ok (.aload_n 3, 1) := by decide +kernel
theorem d_Of_spend_7 : decode b_Of_spend 7 = .ok (.ifnonnull 5, 3) := by decide +kernel
theorem d_Of_spend_10 : decode b_Of_spend 10 = .ok (.iconst (-1), 1) := by decide +kernel
theorem d_Of_spend_11 : decode b_Of_spend 11 = .ok (.ireturn, 1) := by decide +kernel
theorem d_Of_spend_12 : decode b_Of_spend 12 = .ok (.iload_n 2, 1) := by decide +kernel
theorem d_Of_spend_13 : decode b_Of_spend 13 = .ok (.iconst 1, 1) := by decide +kernel
theorem d_Of_spend_14 : decode b_Of_spend 14 = .ok (.ldc 50, 2) := by decide +kernel
theorem d_Of_spend_16 : decode b_Of_spend 16 = .ok (.invokestatic 19, 3) := by decide +kernel
theorem d_Of_spend_19 : decode b_Of_spend 19 = .ok (.ifCond .ne 6, 3) := by decide +kernel
theorem d_Of_spend_22 : decode b_Of_spend 22 = .ok (.bipush (-2), 2) := by decide +kernel
theorem d_Of_spend_24 : decode b_Of_spend 24 = .ok (.ireturn, 1) := by decide +kernel
theorem d_Of_spend_25 : decode b_Of_spend 25 = .ok (.aload_n 3, 1) := by decide +kernel
theorem d_Of_spend_26 : decode b_Of_spend 26 = .ok (.getfield 69, 3) := by decide +kernel
theorem d_Of_spend_29 : decode b_Of_spend 29 = .ok (.istore 4, 2) := by decide +kernel
theorem d_Of_spend_31 : decode b_Of_spend 31 = .ok (.aload_n 3, 1) := by decide +kernel
theorem d_Of_spend_32 : decode b_Of_spend 32 = .ok (.iload_n 2, 1) := by decide +kernel
theorem d_Of_spend_33 : decode b_Of_spend 33 = .ok (.aload_n 0, 1) := by decide +kernel
theorem d_Of_spend_34 : decode b_Of_spend 34 = .ok (.getfield 23, 3) := by decide +kernel
theorem d_Of_spend_37 : decode b_Of_spend 37 = .ok (.invokevirtual 72, 3) := by decide +kernel
theorem d_Of_spend_40 : decode b_Of_spend 40 = .ok (.istore 5, 2) := by decide +kernel
theorem d_Of_spend_42 : decode b_Of_spend 42 = .ok (.iload 5, 2) := by decide +kernel
theorem d_Of_spend_44 : decode b_Of_spend 44 = .ok (.ifCond .ge 6, 3) := by decide +kernel
theorem d_Of_spend_47 : decode b_Of_spend 47 = .ok (.iload 5, 2) := by decide +kernel
theorem d_Of_spend_49 : decode b_Of_spend 49 = .ok (.ireturn, 1) := by decide +kernel
theorem d_Of_spend_50 : decode b_Of_spend 50 = .ok (.aload_n 0, 1) := by decide +kernel
theorem d_Of_spend_51 : decode b_Of_spend 51 = .ok (.dup, 1) := by decide +kernel
theorem d_Of_spend_52 : decode b_Of_spend 52 = .ok (.getfield 76, 3) := by decide +kernel
theorem d_Of_spend_55 : decode b_Of_spend 55 = .ok (.iload_n 2, 1) := by decide +kernel
theorem d_Of_spend_56 : decode b_Of_spend 56 = .ok (.iadd, 1) := by decide +kernel
theorem d_Of_spend_57 : decode b_Of_spend 57 = .ok (.putfield 76, 3) := by decide +kernel
theorem d_Of_spend_60 : decode b_Of_spend 60 = .ok (.aload_n 0, 1) := by decide +kernel
theorem d_Of_spend_61 : decode b_Of_spend 61 = .ok (.dup, 1) := by decide +kernel
theorem d_Of_spend_62 : decode b_Of_spend 62 = .ok (.getfield 79, 3) := by decide +kernel
theorem d_Of_spend_65 : decode b_Of_spend 65 = .ok (.iload 4, 2) := by decide +kernel
theorem d_Of_spend_67 : decode b_Of_spend 67 = .ok (.aload_n 3, 1) := by decide +kernel
theorem d_Of_spend_68 : decode b_Of_spend 68 = .ok (.getfield 69, 3) := by decide +kernel
theorem d_Of_spend_71 : decode b_Of_spend 71 = .ok (.isub, 1) := by decide +kernel
theorem d_Of_spend_72 : decode b_Of_spend 72 = .ok (.iload_n 2, 1) := by decide +kernel
theorem d_Of_spend_73 : decode b_Of_spend 73 = .ok (.isub, 1) := by decide +kernel
theorem d_Of_spend_74 : decode b_Of_spend 74 = .ok (.iadd, 1) := by decide +kernel
theorem d_Of_spend_75 : decode b_Of_spend 75 = .ok (.putfield 79, 3) := by decide +kernel
theorem d_Of_spend_78 : decode b_Of_spend 78 = .ok (.aload_n 3, 1) := by decide +kernel
theorem d_Of_spend_79 : decode b_Of_spend 79 = .ok (.getfield 69, 3) := by decide +kernel
theorem d_Of_spend_82 : decode b_Of_spend 82 = .ok (.ireturn, 1) := by decide +kernel
theorem d_Ho_spend_0 : decode b_Ho_spend 0 = .ok (.aload_n 0, 1) := by decide +kernel
theorem d_Ho_spend_1 : decode b_Ho_spend 1 = .ok (.iload_n 1, 1) := by decide +kernel
theorem d_Ho_spend_2 : decode b_Ho_spend 2 = .ok (.iload_n 2, 1) := by decide +kernel
theorem d_Ho_spend_3 : decode b_Ho_spend 3 = .ok (.invokespecial 20, 3) := by decide +kernel
theorem d_Ho_spend_6 : decode b_Ho_spend 6 = .ok (.istore_n 3, 1) := by decide +kernel
theorem d_Ho_spend_7 : decode b_Ho_spend 7 = .ok (.iload_n 3, 1) := by decide +kernel
theorem d_Ho_spend_8 : decode b_Ho_spend 8 = .ok (.ifCond .ne 16, 3) := by decide +kernel
theorem d_Ho_spend_11 : decode b_Ho_spend 11 = .ok (.aload_n 0, 1) := by decide +kernel
theorem d_Ho_spend_12 : decode b_Ho_spend 12 = .ok (.dup, 1) := by decide +kernel
theorem d_Ho_spend_13 : decode b_Ho_spend 13 = .ok (.getfield 11, 3) := by decide +kernel
theorem d_Ho_spend_16 : decode b_Ho_spend 16 = .ok (.iload_n 1, 1) := by decide +kernel
theorem d_Ho_spend_17 : decode b_Ho_spend 17 = .ok (.bipush 100, 2) := by decide +kernel
theorem d_Ho_spend_19 : decode b_Ho_spend 19 = .ok (.idiv, 1) := by decide +kernel
theorem d_Ho_spend_20 : decode b_Ho_spend 20 = .ok (.iadd, 1) := by decide +kernel
theorem d_Ho_spend_21 : decode b_Ho_spend 21 = .ok (.putfield 11, 3) := by decide +kernel
theorem d_Ho_spend_24 : decode b_Ho_spend 24 = .ok (.iload_n 3, 1) := by decide +kernel
theorem d_Ho_spend_25 : decode b_Ho_spend 25 = .ok (.ireturn, 1) := by decide +kernel
theorem d_St_spend_0 : decode b_St_spend 0 = .ok (.aload_n 0, 1) := by decide +kernel
theorem d_St_spend_1 : decode b_St_spend 1 = .ok (.getfield 9, 3) := by decide +kernel
theorem d_St_spend_4 : decode b_St_spend 4 = .ok (.iload_n 2, 1) := by decide +kernel
theorem d_St_spend_5 : decode b_St_spend 5 = .ok (.if_icmp .ne 6, 3) := by decide +kernel
theorem d_St_spend_8 : decode b_St_spend 8 = .ok (.bipush (-6), 2) := by decide +kernel
theorem d_St_spend_10 : decode b_St_spend 10 = .ok (.ireturn, 1) := by decide +kernel
theorem d_St_spend_11 : decode b_St_spend 11 = .ok (.aload_n 0, 1) := by decide +kernel
theorem d_St_spend_12 : decode b_St_spend 12 = .ok (.iload_n 1, 1) := by decide +kernel
theorem d_St_spend_13 : decode b_St_spend 13 = .ok (.iload_n 2, 1) := by decide +kernel
theorem d_St_spend_14 : decode b_St_spend 14 = .ok (.invokespecial 25, 3) := by decide +kernel
theorem d_St_spend_17 : decode b_St_spend 17 = .ok (.istore_n 3, 1) := by decide +kernel
theorem d_St_spend_18 : decode b_St_spend 18 = .ok (.iload_n 3, 1) := by decide +kernel
theorem d_St_spend_19 : decode b_St_spend 19 = .ok (.ifCond .ne 8, 3) := by decide +kernel
theorem d_St_spend_22 : decode b_St_spend 22 = .ok (.aload_n 0, 1) := by decide +kernel
theorem d_St_spend_23 : decode b_St_spend 23 = .ok (.iload_n 2, 1) := by decide +kernel
theorem d_St_spend_24 : decode b_St_spend 24 = .ok (.putfield 9, 3) := by decide +kernel
theorem d_St_spend_27 : decode b_St_spend 27 = .ok (.iload_n 3, 1) := by decide +kernel
theorem d_St_spend_28 : decode b_St_spend 28 = .ok (.ireturn, 1) := by decide +kernel
theorem d_Pa_spend_0 : decode b_Pa_spend 0 = .ok (.iload_n 1, 1) := by decide +kernel
theorem d_Pa_spend_1 : decode b_Pa_spend 1 = .ok (.aload_n 0, 1) := by decide +kernel
theorem d_Pa_spend_2 : decode b_Pa_spend 2 = .ok (.iload_n 1, 1) := by decide +kernel
theorem d_Pa_spend_3 : decode b_Pa_spend 3 = .ok (.invokevirtual 24, 3) := by decide +kernel
theorem d_Pa_spend_6 : decode b_Pa_spend 6 = .ok (.iadd, 1) := by decide +kernel
theorem d_Pa_spend_7 : decode b_Pa_spend 7 = .ok (.istore_n 3, 1) := by decide +kernel
theorem d_Pa_spend_8 : decode b_Pa_spend 8 = .ok (.iload_n 1, 1) := by decide +kernel
theorem d_Pa_spend_9 : decode b_Pa_spend 9 = .ok (.aload_n 0, 1) := by decide +kernel
theorem d_Pa_spend_10 : decode b_Pa_spend 10 = .ok (.iload_n 2, 1) := by decide +kernel
theorem d_Pa_spend_11 : decode b_Pa_spend 11 = .ok (.invokevirtual 28, 3) := by decide +kernel
theorem d_Pa_spend_14 : decode b_Pa_spend 14 = .ok (.if_icmp .gt 11, 3) := by decide +kernel
theorem d_Pa_spend_17 : decode b_Pa_spend 17 = .ok (.iload_n 3, 1) := by decide +kernel
theorem d_Pa_spend_18 : decode b_Pa_spend 18 = .ok (.aload_n 0, 1) := by decide +kernel
theorem d_Pa_spend_19 : decode b_Pa_spend 19 = .ok (.getfield 21, 3) := by decide +kernel
theorem d_Pa_spend_22 : decode b_Pa_spend 22 = .ok (.if_icmp .le 6, 3) := by decide +kernel
theorem d_Pa_spend_25 : decode b_Pa_spend 25 = .ok (.bipush (-5), 2) := by decide +kernel
theorem d_Pa_spend_27 : decode b_Pa_spend 27 = .ok (.ireturn, 1) := by decide +kernel
theorem d_Pa_spend_28 : decode b_Pa_spend 28 = .ok (.aload_n 0, 1) := by decide +kernel
theorem d_Pa_spend_29 : decode b_Pa_spend 29 = .ok (.dup, 1) := by decide +kernel
theorem d_Pa_spend_30 : decode b_Pa_spend 30 = .ok (.getfield 21, 3) := by decide +kernel
theorem d_Pa_spend_33 : decode b_Pa_spend 33 = .ok (.iload_n 3, 1) := by decide +kernel
theorem d_Pa_spend_34 : decode b_Pa_spend 34 = .ok (.isub, 1) := by decide +kernel
theorem d_Pa_spend_35 : decode b_Pa_spend 35 = .ok (.putfield 21, 3) := by decide +kernel
theorem d_Pa_spend_38 : decode b_Pa_spend 38 = .ok (.iconst 0, 1) := by decide +kernel
theorem d_Pa_spend_39 : decode b_Pa_spend 39 = .ok (.ireturn, 1) := by decide +kernel
theorem d_Of_seal_0 : decode b_Of_seal 0 = .ok (.aload_n 0, 1) := by decide +kernel
theorem d_Of_seal_1 : decode b_Of_seal 1 = .ok (.iload_n 1, 1) := by decide +kernel
theorem d_Of_seal_2 : decode b_Of_seal 2 = .ok (.invokevirtual 58, 3) := by decide +kernel
theorem d_Of_seal_5 : decode b_Of_seal 5 = .ok (.astore_n 2, 1) := by decide +kernel
theorem d_Of_seal_6 : decode b_Of_seal 6 = .ok (.aload_n 2, 1) := by decide +kernel
theorem d_Of_seal_7 : decode b_Of_seal 7 = .ok (.ifnonnull 7, 3) := by decide +kernel
theorem d_Of_seal_10 : decode b_Of_seal 10 = .ok (.iconst (-1), 1) := by decide +kernel
theorem d_Of_seal_11 : decode b_Of_seal 11 = .ok (.goto 7, 3) := by decide +kernel
theorem d_Of_seal_14 : decode b_Of_seal 14 = .ok (.aload_n 2, 1) := by decide +kernel
theorem d_Of_seal_15 : decode b_Of_seal 15 = .ok (.invokevirtual 82, 3) := by decide +kernel
theorem d_Of_seal_18 : decode b_Of_seal 18 = .ok (.ireturn, 1) := by decide +kernel
theorem d_Cr_seal_0 : decode b_Cr_seal 0 = .ok (.aload_n 0, 1) := by decide +kernel
theorem d_Cr_seal_1 : decode b_Cr_seal 1 = .ok (.invokespecial 20, 3) := by decide +kernel
theorem d_Cr_seal_4 : decode b_Cr_seal 4 = .ok (.iconst 3, 1) := by decide +kernel
theorem d_Cr_seal_5 : decode b_Cr_seal 5 = .ok (.aload_n 0, 1) := by decide +kernel
theorem d_Cr_seal_6 : decode b_Cr_seal 6 = .ok (.invokevirtual 14, 3) := by decide +kernel
theorem d_Cr_seal_9 : decode b_Cr_seal 9 = .ok (.imul, 1) := by decide +kernel
theorem d_Cr_seal_10 : decode b_Cr_seal 10 = .ok (.iadd, 1) := by decide +kernel
theorem d_Cr_seal_11 : decode b_Cr_seal 11 = .ok (.ireturn, 1) := by decide +kernel
theorem d_Se_seal_0 : decode b_Se_seal 0 = .ok (.aload_n 0, 1) := by decide +kernel
theorem d_Se_seal_1 : decode b_Se_seal 1 = .ok (.invokespecial 23, 3) := by decide +kernel
theorem d_Se_seal_4 : decode b_Se_seal 4 = .ok (.aload_n 0, 1) := by decide +kernel
theorem d_Se_seal_5 : decode b_Se_seal 5 = .ok (.invokevirtual 27, 3) := by decide +kernel
theorem d_Se_seal_8 : decode b_Se_seal 8 = .ok (.iadd, 1) := by decide +kernel
theorem d_Se_seal_9 : decode b_Se_seal 9 = .ok (.ireturn, 1) := by decide +kernel
theorem d_Pa_seal_0 : decode b_Pa_seal 0 = .ok (.aload_n 0, 1) := by decide +kernel
theorem d_Pa_seal_1 : decode b_Pa_seal 1 = .ok (.getfield 21, 3) := by decide +kernel
theorem d_Pa_seal_4 : decode b_Pa_seal 4 = .ok (.bipush 31, 2) := by decide +kernel
theorem d_Pa_seal_6 : decode b_Pa_seal 6 = .ok (.imul, 1) := by decide +kernel
theorem d_Pa_seal_7 : decode b_Pa_seal 7 = .ok (.aload_n 0, 1) := by decide +kernel
theorem d_Pa_seal_8 : decode b_Pa_seal 8 = .ok (.getfield 15, 3) := by decide +kernel
theorem d_Pa_seal_11 : decode b_Pa_seal 11 = .ok (.iadd, 1) := by decide +kernel
theorem d_Pa_seal_12 : decode b_Pa_seal 12 = .ok (.bipush 31, 2) := by decide +kernel
theorem d_Pa_seal_14 : decode b_Pa_seal 14 = .ok (.imul, 1) := by decide +kernel
theorem d_Pa_seal_15 : decode b_Pa_seal 15 = .ok (.aload_n 0, 1) := by decide +kernel
theorem d_Pa_seal_16 : decode b_Pa_seal 16 = .ok (.getfield 18, 3) := by decide +kernel
theorem d_Pa_seal_19 : decode b_Pa_seal 19 = .ok (.iadd, 1) := by decide +kernel
theorem d_Pa_seal_20 : decode b_Pa_seal 20 = .ok (.ireturn, 1) := by decide +kernel
theorem d_Of_mark_0 : decode b_Of_mark 0 = .ok (.aload_n 0, 1) := by decide +kernel
theorem d_Of_mark_1 : decode b_Of_mark 1 = .ok (.iload_n 1, 1) := by decide +kernel
theorem d_Of_mark_2 : decode b_Of_mark 2 = .ok (.invokevirtual 58, 3) := by decide +kernel
theorem d_Of_mark_5 : decode b_Of_mark 5 = .ok (.astore_n 3, 1) := by decide +kernel
theorem d_Of_mark_6 : decode b_Of_mark 6 = .ok (.aload_n 3, 1) := by decide +kernel
theorem d_Of_mark_7 : decode b_Of_mark 7 = .ok (.ifnonnull 5, 3) := by decide +kernel
theorem d_Of_mark_10 : decode b_Of_mark 10 = .ok (.iconst (-1), 1) := by decide +kernel
theorem d_Of_mark_11 : decode b_Of_mark 11 = .ok (.ireturn, 1) := by decide +kernel
theorem d_Of_mark_12 : decode b_Of_mark 12 = .ok (.iload_n 2, 1) := by decide +kernel
theorem d_Of_mark_13 : decode b_Of_mark 13 = .ok (.iconst 0, 1) := by decide +kernel
theorem d_Of_mark_14 : decode b_Of_mark 14 = .ok (.sipush 999, 3) := by decide +kernel
theorem d_Of_mark_17 : decode b_Of_mark 17 = .ok (.invokestatic 19, 3) := by decide +kernel
theorem d_Of_mark_20 : decode b_Of_mark 20 = .ok (.ifCond .ne 6, 3) := by decide +kernel
theorem d_Of_mark_23 : decode b_Of_mark 23 = .ok (.bipush (-2), 2) := by decide +kernel
theorem d_Of_mark_25 : decode b_Of_mark 25 = .ok (.ireturn, 1) := by decide +kernel
theorem d_Of_mark_26 : decode b_Of_mark 26 = .ok (.aload_n 3, 1) := by decide +kernel
theorem d_Of_mark_27 : decode b_Of_mark 27 = .ok (.instanceof 86, 3) := by decide +kernel
theorem d_Of_mark_30 : decode b_Of_mark 30 = .ok (.ifCond .ne 6, 3) := by decide +kernel
theorem d_Of_mark_33 : decode b_Of_mark 33 = .ok (.bipush (-3), 2) := by decide +kernel
theorem d_Of_mark_35 : decode b_Of_mark 35 = .ok (.ireturn, 1) := by decide +kernel
theorem d_Of_mark_36 : decode b_Of_mark 36 = .ok (.aload_n 3, 1) := by decide +kernel
theorem d_Of_mark_37 : decode b_Of_mark 37 = .ok (.checkcast 86, 3) := by decide +kernel
theorem d_Of_mark_40 : decode b_Of_mark 40 = .ok (.astore 4, 2) := by decide +kernel
theorem d_Of_mark_42 : decode b_Of_mark 42 = .ok (.aload 4, 2) := by decide +kernel
theorem d_Of_mark_44 : decode b_Of_mark 44 = .ok (.iload_n 2, 1) := by decide +kernel
theorem d_Of_mark_45 : decode b_Of_mark 45 = .ok (.invokeinterface 88 2, 5) := by decide +kernel
theorem d_Of_mark_50 : decode b_Of_mark 50 = .ok (.ireturn, 1) := by decide +kernel
theorem d_Sl_mark_0 : decode b_Sl_mark 0 = .ok (.bipush 7, 2) := by decide +kernel
theorem d_Sl_mark_2 : decode b_Sl_mark 2 = .ok (.aload_n 0, 1) := by decide +kernel
theorem d_Sl_mark_3 : decode b_Sl_mark 3 = .ok (.invokeinterface 1 1, 5) := by decide +kernel
theorem d_Sl_mark_8 : decode b_Sl_mark 8 = .ok (.imul, 1) := by decide +kernel
theorem d_Sl_mark_9 : decode b_Sl_mark 9 = .ok (.iload_n 1, 1) := by decide +kernel
theorem d_Sl_mark_10 : decode b_Sl_mark 10 = .ok (.iadd, 1) := by decide +kernel
theorem d_Sl_mark_11 : decode b_Sl_mark 11 = .ok (.ireturn, 1) := by decide +kernel
theorem d_Of_daysLeft_0 : decode b_Of_daysLeft 0 = .ok (.aload_n 0, 1) := by decide +kernel
theorem d_Of_daysLeft_1 : decode b_Of_daysLeft 1 = .ok (.iload_n 1, 1) := by decide +kernel
theorem d_Of_daysLeft_2 : decode b_Of_daysLeft 2 = .ok (.invokevirtual 58, 3) := by decide +kernel
theorem d_Of_daysLeft_5 : decode b_Of_daysLeft 5 = .ok (.astore_n 3, 1) := by decide +kernel
theorem d_Of_daysLeft_6 : decode b_Of_daysLeft 6 = .ok (.aload_n 3, 1) := by decide +kernel
theorem d_Of_daysLeft_7 : decode b_Of_daysLeft 7 = .ok (.ifnonnull 5, 3) := by decide +kernel
theorem d_Of_daysLeft_10 : decode b_Of_daysLeft 10 = .ok (.iconst (-1), 1) := by decide +kernel
theorem d_Of_daysLeft_11 : decode b_Of_daysLeft 11 = .ok (.ireturn, 1) := by decide +kernel
theorem d_Of_daysLeft_12 : decode b_Of_daysLeft 12 = .ok (.iload_n 2, 1) := by decide +kernel
theorem d_Of_daysLeft_13 : decode b_Of_daysLeft 13 = .ok (.iconst 0, 1) := by decide +kernel
theorem d_Of_daysLeft_14 : decode b_Of_daysLeft 14 = .ok (.sipush 20000, 3) := by decide +kernel
theorem d_Of_daysLeft_17 : decode b_Of_daysLeft 17 = .ok (.invokestatic 19, 3) := by decide +kernel
theorem d_Of_daysLeft_20 : decode b_Of_daysLeft 20 = .ok (.ifCond .ne 6, 3) := by decide +kernel
theorem d_Of_daysLeft_23 : decode b_Of_daysLeft 23 = .ok (.bipush (-2), 2) := by decide +kernel
theorem d_Of_daysLeft_25 : decode b_Of_daysLeft 25 = .ok (.ireturn, 1) := by decide +kernel
theorem d_Of_daysLeft_26 : decode b_Of_daysLeft 26 = .ok (.aload_n 3, 1) := by decide +kernel
theorem d_Of_daysLeft_27 : decode b_Of_daysLeft 27 = .ok (.instanceof 91, 3) := by decide +kernel
theorem d_Of_daysLeft_30 : decode b_Of_daysLeft 30 = .ok (.ifCond .ne 6, 3) := by decide +kernel
theorem d_Of_daysLeft_33 : decode b_Of_daysLeft 33 = .ok (.bipush (-3), 2) := by decide +kernel
theorem d_Of_daysLeft_35 : decode b_Of_daysLeft 35 = .ok (.ireturn, 1) := by decide +kernel
theorem d_Of_daysLeft_36 : decode b_Of_daysLeft 36 = .ok (.aload_n 3, 1) := by decide +kernel
theorem d_Of_daysLeft_37 : decode b_Of_daysLeft 37 = .ok (.checkcast 91, 3) := by decide +kernel
theorem d_Of_daysLeft_40 : decode b_Of_daysLeft 40 = .ok (.astore 4, 2) := by decide +kernel
theorem d_Of_daysLeft_42 : decode b_Of_daysLeft 42 = .ok (.aload 4, 2) := by decide +kernel
theorem d_Of_daysLeft_44 : decode b_Of_daysLeft 44 = .ok (.iload_n 2, 1) := by decide +kernel
theorem d_Of_daysLeft_45 : decode b_Of_daysLeft 45 = .ok (.invokeinterface 93 2, 5) := by decide +kernel
theorem d_Of_daysLeft_50 : decode b_Of_daysLeft 50 = .ok (.ireturn, 1) := by decide +kernel
theorem d_Da_daysLeft_0 : decode b_Da_daysLeft 0 = .ok (.aload_n 0, 1) := by decide +kernel
theorem d_Da_daysLeft_1 : decode b_Da_daysLeft 1 = .ok (.iload_n 1, 1) := by decide +kernel
theorem d_Da_daysLeft_2 : decode b_Da_daysLeft 2 = .ok (.invokeinterface 7 2, 5) := by decide +kernel
theorem d_Da_daysLeft_7 : decode b_Da_daysLeft 7 = .ok (.ifCond .eq 7, 3) := by decide +kernel
theorem d_Da_daysLeft_10 : decode b_Da_daysLeft 10 = .ok (.iconst 0, 1) := by decide +kernel
theorem d_Da_daysLeft_11 : decode b_Da_daysLeft 11 = .ok (.goto 11, 3) := by decide +kernel
theorem d_Da_daysLeft_14 : decode b_Da_daysLeft 14 = .ok (.aload_n 0, 1) := by decide +kernel
theorem d_Da_daysLeft_15 : decode b_Da_daysLeft 15 = .ok (.invokeinterface 1 1, 5) := by decide +kernel
theorem d_Da_daysLeft_20 : decode b_Da_daysLeft 20 = .ok (.iload_n 1, 1) := by decide +kernel
theorem d_Da_daysLeft_21 : decode b_Da_daysLeft 21 = .ok (.isub, 1) := by decide +kernel
theorem d_Da_daysLeft_22 : decode b_Da_daysLeft 22 = .ok (.ireturn, 1) := by decide +kernel
theorem d_Of_lapse_0 : decode b_Of_lapse 0 = .ok (.iconst 0, 1) := by decide +kernel
theorem d_Of_lapse_1 : decode b_Of_lapse 1 = .ok (.istore_n 1, 1) := by decide +kernel
theorem d_Of_lapse_2 : decode b_Of_lapse 2 = .ok (.iconst 0, 1) := by decide +kernel
theorem d_Of_lapse_3 : decode b_Of_lapse 3 = .ok (.istore_n 2, 1) := by decide +kernel
theorem d_Of_lapse_4 : decode b_Of_lapse 4 = .ok (.iload_n 2, 1) := by decide +kernel
theorem d_Of_lapse_5 : decode b_Of_lapse 5 = .ok (.aload_n 0, 1) := by decide +kernel
theorem d_Of_lapse_6 : decode b_Of_lapse 6 = .ok (.getfield 15, 3) := by decide +kernel
theorem d_Of_lapse_9 : decode b_Of_lapse 9 = .ok (.if_icmp .ge 61, 3) := by decide +kernel
theorem d_Of_lapse_12 : decode b_Of_lapse 12 = .ok (.aload_n 0, 1) := by decide +kernel
theorem d_Of_lapse_13 : decode b_Of_lapse 13 = .ok (.getfield 11, 3) := by decide +kernel
theorem d_Of_lapse_16 : decode b_Of_lapse 16 = .ok (.iload_n 2, 1) := by decide +kernel
theorem d_Of_lapse_17 : decode b_Of_lapse 17 = .ok (.aaload, 1) := by decide +kernel
theorem d_Of_lapse_18 : decode b_Of_lapse 18 = .ok (.astore_n 3, 1) := by decide +kernel
theorem d_Of_lapse_19 : decode b_Of_lapse 19 = .ok (.aload_n 3, 1) := by decide +kernel
theorem d_Of_lapse_20 : decode b_Of_lapse 20 = .ok (.instanceof 91, 3) := by decide +kernel
theorem d_Of_lapse_23 : decode b_Of_lapse 23 = .ok (.ifCond .ne 6, 3) := by decide +kernel
theorem d_Of_lapse_26 : decode b_Of_lapse 26 = .ok (.goto 38, 3) := by decide +kernel
theorem d_Of_lapse_29 : decode b_Of_lapse 29 = .ok (.aload_n 3, 1) := by decide +kernel
theorem d_Of_lapse_30 : decode b_Of_lapse 30 = .ok (.checkcast 91, 3) := by decide +kernel
theorem d_Of_lapse_33 : decode b_Of_lapse 33 = .ok (.astore 4, 2) := by decide +kernel
theorem d_Of_lapse_35 : decode b_Of_lapse 35 = .ok (.aload 4, 2) := by decide +kernel
theorem d_Of_lapse_37 : decode b_Of_lapse 37 = .ok (.aload_n 0, 1) := by decide +kernel
theorem d_Of_lapse_38 : decode b_Of_lapse 38 = .ok (.getfield 23, 3) := by decide +kernel
theorem d_Of_lapse_41 : decode b_Of_lapse 41 = .ok (.invokeinterface 96 2, 5) := by decide +kernel
theorem d_Of_lapse_46 : decode b_Of_lapse 46 = .ok (.ifCond .ne 6, 3) := by decide +kernel
theorem d_Of_lapse_49 : decode b_Of_lapse 49 = .ok (.goto 15, 3) := by decide +kernel
theorem d_Of_lapse_52 : decode b_Of_lapse 52 = .ok (.iload_n 1, 1) := by decide +kernel
theorem d_Of_lapse_53 : decode b_Of_lapse 53 = .ok (.aload_n 3, 1) := by decide +kernel
theorem d_Of_lapse_54 : decode b_Of_lapse 54 = .ok (.getfield 69, 3) := by decide +kernel
theorem d_Of_lapse_57 : decode b_Of_lapse 57 = .ok (.iadd, 1) := by decide +kernel
theorem d_Of_lapse_58 : decode b_Of_lapse 58 = .ok (.istore_n 1, 1) := by decide +kernel
theorem d_Of_lapse_59 : decode b_Of_lapse 59 = .ok (.aload_n 3, 1) := by decide +kernel
theorem d_Of_lapse_60 : decode b_Of_lapse 60 = .ok (.iconst 0, 1) := by decide +kernel
theorem d_Of_lapse_61 : decode b_Of_lapse 61 = .ok (.putfield 69, 3) := by decide +kernel
theorem d_Of_lapse_64 : decode b_Of_lapse 64 = .ok (.iinc 2 1, 3) := by decide +kernel
theorem d_Of_lapse_67 : decode b_Of_lapse 67 = .ok (.goto (-63), 3) := by decide +kernel
theorem d_Of_lapse_70 : decode b_Of_lapse 70 = .ok (.aload_n 0, 1) := by decide +kernel
theorem d_Of_lapse_71 : decode b_Of_lapse 71 = .ok (.dup, 1) := by decide +kernel
theorem d_Of_lapse_72 : decode b_Of_lapse 72 = .ok (.getfield 100, 3) := by decide +kernel
theorem d_Of_lapse_75 : decode b_Of_lapse 75 = .ok (.iload_n 1, 1) := by decide +kernel
theorem d_Of_lapse_76 : decode b_Of_lapse 76 = .ok (.iadd, 1) := by decide +kernel
theorem d_Of_lapse_77 : decode b_Of_lapse 77 = .ok (.putfield 100, 3) := by decide +kernel
theorem d_Of_lapse_80 : decode b_Of_lapse 80 = .ok (.iload_n 1, 1) := by decide +kernel
theorem d_Of_lapse_81 : decode b_Of_lapse 81 = .ok (.ireturn, 1) := by decide +kernel
theorem d_Of_merge_0 : decode b_Of_merge 0 = .ok (.aload_n 0, 1) := by decide +kernel
theorem d_Of_merge_1 : decode b_Of_merge 1 = .ok (.iload_n 1, 1) := by decide +kernel
theorem d_Of_merge_2 : decode b_Of_merge 2 = .ok (.invokevirtual 58, 3) := by decide +kernel
theorem d_Of_merge_5 : decode b_Of_merge 5 = .ok (.astore_n 3, 1) := by decide +kernel
theorem d_Of_merge_6 : decode b_Of_merge 6 = .ok (.aload_n 0, 1) := by decide +kernel
theorem d_Of_merge_7 : decode b_Of_merge 7 = .ok (.iload_n 2, 1) := by decide +kernel
theorem d_Of_merge_8 : decode b_Of_merge 8 = .ok (.invokevirtual 58, 3) := by decide +kernel
theorem d_Of_merge_11 : decode b_Of_merge 11 = .ok (.astore 4, 2) := by decide +kernel
theorem d_Of_merge_13 : decode b_Of_merge 13 = .ok (.aload_n 3, 1) := by decide +kernel
theorem d_Of_merge_14 : decode b_Of_merge 14 = .ok (.ifnull 8, 3) := by decide +kernel
theorem d_Of_merge_17 : decode b_Of_merge 17 = .ok (.aload 4, 2) := by decide +kernel
theorem d_Of_merge_19 : decode b_Of_merge 19 = .ok (.ifnonnull 5, 3) := by decide +kernel
theorem d_Of_merge_22 : decode b_Of_merge 22 = .ok (.iconst (-1), 1) := by decide +kernel
theorem d_Of_merge_23 : decode b_Of_merge 23 = .ok (.ireturn, 1) := by decide +kernel
theorem d_Of_merge_24 : decode b_Of_merge 24 = .ok (.iload_n 1, 1) := by decide +kernel
theorem d_Of_merge_25 : decode b_Of_merge 25 = .ok (.iload_n 2, 1) := by decide +kernel
theorem d_Of_merge_26 : decode b_Of_merge 26 = .ok (.if_icmp .ne 6, 3) := by decide +kernel
theorem d_Of_merge_29 : decode b_Of_merge 29 = .ok (.bipush (-2), 2) := by decide +kernel
theorem d_Of_merge_31 : decode b_Of_merge 31 = .ok (.ireturn, 1) := by decide +kernel
theorem d_Of_merge_32 : decode b_Of_merge 32 = .ok (.aload_n 3, 1) := by decide +kernel
theorem d_Of_merge_33 : decode b_Of_merge 33 = .ok (.getfield 103, 3) := by decide +kernel
theorem d_Of_merge_36 : decode b_Of_merge 36 = .ok (.aload 4, 2) := by decide +kernel
theorem d_Of_merge_38 : decode b_Of_merge 38 = .ok (.getfield 103, 3) := by decide +kernel
theorem d_Of_merge_41 : decode b_Of_merge 41 = .ok (.if_icmp .eq 6, 3) := by decide +kernel
theorem d_Of_merge_44 : decode b_Of_merge 44 = .ok (.bipush (-3), 2) := by decide +kernel
theorem d_Of_merge_46 : decode b_Of_merge 46 = .ok (.ireturn, 1) := by decide +kernel
theorem d_Of_merge_47 : decode b_Of_merge 47 = .ok (.aload_n 3, 1) := by decide +kernel
theorem d_Of_merge_48 : decode b_Of_merge 48 = .ok (.getfield 106, 3) := by decide +kernel
theorem d_Of_merge_51 : decode b_Of_merge 51 = .ok (.aload 4, 2) := by decide +kernel
theorem d_Of_merge_53 : decode b_Of_merge 53 = .ok (.getfield 106, 3) := by decide +kernel
theorem d_Of_merge_56 : decode b_Of_merge 56 = .ok (.iadd, 1) := by decide +kernel
theorem d_Of_merge_57 : decode b_Of_merge 57 = .ok (.ldc 50, 2) := by decide +kernel
theorem d_Of_merge_59 : decode b_Of_merge 59 = .ok (.if_icmp .le 6, 3) := by decide +kernel
theorem d_Of_merge_62 : decode b_Of_merge 62 = .ok (.bipush (-4), 2) := by decide +kernel
theorem d_Of_merge_64 : decode b_Of_merge 64 = .ok (.ireturn, 1) := by decide +kernel
theorem d_Of_merge_65 : decode b_Of_merge 65 = .ok (.aload_n 3, 1) := by decide +kernel
theorem d_Of_merge_66 : decode b_Of_merge 66 = .ok (.aload 4, 2) := by decide +kernel
theorem d_Of_merge_68 : decode b_Of_merge 68 = .ok (.invokevirtual 109, 3) := by decide +kernel
theorem d_Of_merge_71 : decode b_Of_merge 71 = .ok (.aload_n 0, 1) := by decide +kernel
theorem d_Of_merge_72 : decode b_Of_merge 72 = .ok (.getfield 11, 3) := by decide +kernel
theorem d_Of_merge_75 : decode b_Of_merge 75 = .ok (.iload_n 2, 1) := by decide +kernel
theorem d_Of_merge_76 : decode b_Of_merge 76 = .ok (.aconst_null, 1) := by decide +kernel
theorem d_Of_merge_77 : decode b_Of_merge 77 = .ok (.aastore, 1) := by decide +kernel
theorem d_Of_merge_78 : decode b_Of_merge 78 = .ok (.aload_n 3, 1) := by decide +kernel
theorem d_Of_merge_79 : decode b_Of_merge 79 = .ok (.getfield 106, 3) := by decide +kernel
theorem d_Of_merge_82 : decode b_Of_merge 82 = .ok (.ireturn, 1) := by decide +kernel
theorem d_Ho_take_0 : decode b_Ho_take 0 = .ok (.aload_n 0, 1) := by decide +kernel
theorem d_Ho_take_1 : decode b_Ho_take 1 = .ok (.aload_n 1, 1) := by decide +kernel
theorem d_Ho_take_2 : decode b_Ho_take 2 = .ok (.invokespecial 24, 3) := by decide +kernel
theorem d_Ho_take_5 : decode b_Ho_take 5 = .ok (.aload_n 0, 1) := by decide +kernel
theorem d_Ho_take_6 : decode b_Ho_take 6 = .ok (.dup, 1) := by decide +kernel
theorem d_Ho_take_7 : decode b_Ho_take 7 = .ok (.getfield 11, 3) := by decide +kernel
theorem d_Ho_take_10 : decode b_Ho_take 10 = .ok (.aload_n 1, 1) := by decide +kernel
theorem d_Ho_take_11 : decode b_Ho_take 11 = .ok (.invokevirtual 28, 3) := by decide +kernel
theorem d_Ho_take_14 : decode b_Ho_take 14 = .ok (.iadd, 1) := by decide +kernel
theorem d_Ho_take_15 : decode b_Ho_take 15 = .ok (.putfield 11, 3) := by decide +kernel
theorem d_Ho_take_18 : decode b_Ho_take 18 = .ok (.return_, 1) := by decide +kernel
theorem d_St_take_0 : decode b_St_take 0 = .ok (.aload_n 0, 1) := by decide +kernel
theorem d_St_take_1 : decode b_St_take 1 = .ok (.aload_n 1, 1) := by decide +kernel
theorem d_St_take_2 : decode b_St_take 2 = .ok (.invokespecial 29, 3) := by decide +kernel
theorem d_St_take_5 : decode b_St_take 5 = .ok (.aload_n 1, 1) := by decide +kernel
theorem d_St_take_6 : decode b_St_take 6 = .ok (.checkcast 10, 3) := by decide +kernel
theorem d_St_take_9 : decode b_St_take 9 = .ok (.getfield 9, 3) := by decide +kernel
theorem d_St_take_12 : decode b_St_take 12 = .ok (.istore_n 2, 1) := by decide +kernel
theorem d_St_take_13 : decode b_St_take 13 = .ok (.iload_n 2, 1) := by decide +kernel
theorem d_St_take_14 : decode b_St_take 14 = .ok (.aload_n 0, 1) := by decide +kernel
theorem d_St_take_15 : decode b_St_take 15 = .ok (.getfield 9, 3) := by decide +kernel
theorem d_St_take_18 : decode b_St_take 18 = .ok (.if_icmp .le 8, 3) := by decide +kernel
theorem d_St_take_21 : decode b_St_take 21 = .ok (.aload_n 0, 1) := by decide +kernel
theorem d_St_take_22 : decode b_St_take 22 = .ok (.iload_n 2, 1) := by decide +kernel
theorem d_St_take_23 : decode b_St_take 23 = .ok (.putfield 9, 3) := by decide +kernel
theorem d_St_take_26 : decode b_St_take 26 = .ok (.return_, 1) := by decide +kernel
theorem d_Pa_take_0 : decode b_Pa_take 0 = .ok (.aload_n 0, 1) := by decide +kernel
theorem d_Pa_take_1 : decode b_Pa_take 1 = .ok (.dup, 1) := by decide +kernel
theorem d_Pa_take_2 : decode b_Pa_take 2 = .ok (.getfield 18, 3) := by decide +kernel
theorem d_Pa_take_5 : decode b_Pa_take 5 = .ok (.aload_n 1, 1) := by decide +kernel
theorem d_Pa_take_6 : decode b_Pa_take 6 = .ok (.getfield 18, 3) := by decide +kernel
theorem d_Pa_take_9 : decode b_Pa_take 9 = .ok (.iadd, 1) := by decide +kernel
theorem d_Pa_take_10 : decode b_Pa_take 10 = .ok (.putfield 18, 3) := by decide +kernel
theorem d_Pa_take_13 : decode b_Pa_take 13 = .ok (.aload_n 0, 1) := by decide +kernel
theorem d_Pa_take_14 : decode b_Pa_take 14 = .ok (.dup, 1) := by decide +kernel
theorem d_Pa_take_15 : decode b_Pa_take 15 = .ok (.getfield 21, 3) := by decide +kernel
theorem d_Pa_take_18 : decode b_Pa_take 18 = .ok (.aload_n 1, 1) := by decide +kernel
theorem d_Pa_take_19 : decode b_Pa_take 19 = .ok (.getfield 21, 3) := by decide +kernel
theorem d_Pa_take_22 : decode b_Pa_take 22 = .ok (.iadd, 1) := by decide +kernel
theorem d_Pa_take_23 : decode b_Pa_take 23 = .ok (.putfield 21, 3) := by decide +kernel
theorem d_Pa_take_26 : decode b_Pa_take 26 = .ok (.return_, 1) := by decide +kernel
theorem d_Of_total_0 : decode b_Of_total 0 = .ok (.iload_n 1, 1) := by decide +kernel
theorem d_Of_total_1 : decode b_Of_total 1 = .ok (.iconst 0, 1) := by decide +kernel
theorem d_Of_total_2 : decode b_Of_total 2 = .ok (.sipush 20000, 3) := by decide +kernel
theorem d_Of_total_5 : decode b_Of_total 5 = .ok (.invokestatic 19, 3) := by decide +kernel
theorem d_Of_total_8 : decode b_Of_total 8 = .ok (.ifCond .ne 6, 3) := by decide +kernel
theorem d_Of_total_11 : decode b_Of_total 11 = .ok (.bipush (-2), 2) := by decide +kernel
theorem d_Of_total_13 : decode b_Of_total 13 = .ok (.ireturn, 1) := by decide +kernel
theorem d_Of_total_14 : decode b_Of_total 14 = .ok (.iconst 0, 1) := by decide +kernel
theorem d_Of_total_15 : decode b_Of_total 15 = .ok (.istore_n 2, 1) := by decide +kernel
theorem d_Of_total_16 : decode b_Of_total 16 = .ok (.iconst 0, 1) := by decide +kernel
theorem d_Of_total_17 : decode b_Of_total 17 = .ok (.istore_n 3, 1) := by decide +kernel
theorem d_Of_total_18 : decode b_Of_total 18 = .ok (.iload_n 3, 1) := by decide +kernel
theorem d_Of_total_19 : decode b_Of_total 19 = .ok (.aload_n 0, 1) := by decide +kernel
theorem d_Of_total_20 : decode b_Of_total 20 = .ok (.getfield 15, 3) := by decide +kernel
theorem d_Of_total_23 : decode b_Of_total 23 = .ok (.if_icmp .ge 31, 3) := by decide +kernel
theorem d_Of_total_26 : decode b_Of_total 26 = .ok (.aload_n 0, 1) := by decide +kernel
theorem d_Of_total_27 : decode b_Of_total 27 = .ok (.getfield 11, 3) := by decide +kernel
theorem d_Of_total_30 : decode b_Of_total 30 = .ok (.iload_n 3, 1) := by decide +kernel
theorem d_Of_total_31 : decode b_Of_total 31 = .ok (.aaload, 1) := by decide +kernel
theorem d_Of_total_32 : decode b_Of_total 32 = .ok (.ifnull 16, 3) := by decide +kernel
theorem d_Of_total_35 : decode b_Of_total 35 = .ok (.iload_n 2, 1) := by decide +kernel
theorem d_Of_total_36 : decode b_Of_total 36 = .ok (.aload_n 0, 1) := by decide +kernel
theorem d_Of_total_37 : decode b_Of_total 37 = .ok (.getfield 11, 3) := by decide +kernel
theorem d_Of_total_40 : decode b_Of_total 40 = .ok (.iload_n 3, 1) := by decide +kernel
theorem d_Of_total_41 : decode b_Of_total 41 = .ok (.aaload, 1) := by decide +kernel
theorem d_Of_total_42 : decode b_Of_total 42 = .ok (.iload_n 1, 1) := by decide +kernel
theorem d_Of_total_43 : decode b_Of_total 43 = .ok (.invokevirtual 62, 3) := by decide +kernel
theorem d_Of_total_46 : decode b_Of_total 46 = .ok (.iadd, 1) := by decide +kernel
theorem d_Of_total_47 : decode b_Of_total 47 = .ok (.istore_n 2, 1) := by decide +kernel
theorem d_Of_total_48 : decode b_Of_total 48 = .ok (.iinc 3 1, 3) := by decide +kernel
theorem d_Of_total_51 : decode b_Of_total 51 = .ok (.goto (-33), 3) := by decide +kernel
theorem d_Of_total_54 : decode b_Of_total 54 = .ok (.iload_n 2, 1) := by decide +kernel
theorem d_Of_total_55 : decode b_Of_total 55 = .ok (.ireturn, 1) := by decide +kernel
theorem d_Of_paper_0 : decode b_Of_paper 0 = .ok (.aload_n 0, 1) := by decide +kernel
theorem d_Of_paper_1 : decode b_Of_paper 1 = .ok (.iload_n 1, 1) := by decide +kernel
theorem d_Of_paper_2 : decode b_Of_paper 2 = .ok (.invokevirtual 58, 3) := by decide +kernel
theorem d_Of_paper_5 : decode b_Of_paper 5 = .ok (.astore_n 3, 1) := by decide +kernel
theorem d_Of_paper_6 : decode b_Of_paper 6 = .ok (.aload_n 3, 1) := by decide +kernel
theorem d_Of_paper_7 : decode b_Of_paper 7 = .ok (.ifnonnull 5, 3) := by decide +kernel
theorem d_Of_paper_10 : decode b_Of_paper 10 = .ok (.iconst (-1), 1) := by decide +kernel
theorem d_Of_paper_11 : decode b_Of_paper 11 = .ok (.ireturn, 1) := by decide +kernel
theorem d_Of_paper_12 : decode b_Of_paper 12 = .ok (.iload_n 2, 1) := by decide +kernel
theorem d_Of_paper_13 : decode b_Of_paper 13 = .ok (.tableswitch 67 0 5 #[39, 44, 49, 54, 59, 64], 39) := by decide +kernel
theorem d_Of_paper_52 : decode b_Of_paper 52 = .ok (.aload_n 3, 1) := by decide +kernel
theorem d_Of_paper_53 : decode b_Of_paper 53 = .ok (.getfield 103, 3) := by decide +kernel
theorem d_Of_paper_56 : decode b_Of_paper 56 = .ok (.ireturn, 1) := by decide +kernel
theorem d_Of_paper_57 : decode b_Of_paper 57 = .ok (.aload_n 3, 1) := by decide +kernel
theorem d_Of_paper_58 : decode b_Of_paper 58 = .ok (.getfield 106, 3) := by decide +kernel
theorem d_Of_paper_61 : decode b_Of_paper 61 = .ok (.ireturn, 1) := by decide +kernel
theorem d_Of_paper_62 : decode b_Of_paper 62 = .ok (.aload_n 3, 1) := by decide +kernel
theorem d_Of_paper_63 : decode b_Of_paper 63 = .ok (.getfield 69, 3) := by decide +kernel
theorem d_Of_paper_66 : decode b_Of_paper 66 = .ok (.ireturn, 1) := by decide +kernel
theorem d_Of_paper_67 : decode b_Of_paper 67 = .ok (.aload_n 3, 1) := by decide +kernel
theorem d_Of_paper_68 : decode b_Of_paper 68 = .ok (.getfield 113, 3) := by decide +kernel
theorem d_Of_paper_71 : decode b_Of_paper 71 = .ok (.ireturn, 1) := by decide +kernel
theorem d_Of_paper_72 : decode b_Of_paper 72 = .ok (.aload_n 3, 1) := by decide +kernel
theorem d_Of_paper_73 : decode b_Of_paper 73 = .ok (.invokevirtual 116, 3) := by decide +kernel
theorem d_Of_paper_76 : decode b_Of_paper 76 = .ok (.ireturn, 1) := by decide +kernel
theorem d_Of_paper_77 : decode b_Of_paper 77 = .ok (.goto 6, 3) := by decide +kernel
theorem d_Of_paper_80 : decode b_Of_paper 80 = .ok (.bipush (-2), 2) := by decide +kernel
theorem d_Of_paper_82 : decode b_Of_paper 82 = .ok (.ireturn, 1) := by decide +kernel
theorem d_Of_paper_83 : decode b_Of_paper 83 = .ok (.aload_n 3, 1) := by decide +kernel
theorem d_Of_paper_84 : decode b_Of_paper 84 = .ok (.instanceof 91, 3) := by decide +kernel
theorem d_Of_paper_87 : decode b_Of_paper 87 = .ok (.ifCond .ne 6, 3) := by decide +kernel
theorem d_Of_paper_90 : decode b_Of_paper 90 = .ok (.bipush (-3), 2) := by decide +kernel
theorem d_Of_paper_92 : decode b_Of_paper 92 = .ok (.ireturn, 1) := by decide +kernel
theorem d_Of_paper_93 : decode b_Of_paper 93 = .ok (.aload_n 3, 1) := by decide +kernel
theorem d_Of_paper_94 : decode b_Of_paper 94 = .ok (.checkcast 91, 3) := by decide +kernel
theorem d_Of_paper_97 : decode b_Of_paper 97 = .ok (.astore 4, 2) := by decide +kernel
theorem d_Of_paper_99 : decode b_Of_paper 99 = .ok (.aload 4, 2) := by decide +kernel
theorem d_Of_paper_101 : decode b_Of_paper 101 = .ok (.invokeinterface 119 1, 5) := by decide +kernel
theorem d_Of_paper_106 : decode b_Of_paper 106 = .ok (.ireturn, 1) := by decide +kernel
theorem d_Of_count_0 : decode b_Of_count 0 = .ok (.iload_n 1, 1) := by decide +kernel
theorem d_Of_count_1 : decode b_Of_count 1 = .ok (.tableswitch 78 0 6 #[43, 48, 53, 58, 63, 68, 73], 43) := by decide +kernel
theorem d_Of_count_44 : decode b_Of_count 44 = .ok (.aload_n 0, 1) := by decide +kernel
theorem d_Of_count_45 : decode b_Of_count 45 = .ok (.getfield 23, 3) := by decide +kernel
theorem d_Of_count_48 : decode b_Of_count 48 = .ok (.ireturn, 1) := by decide +kernel
theorem d_Of_count_49 : decode b_Of_count 49 = .ok (.aload_n 0, 1) := by decide +kernel
theorem d_Of_count_50 : decode b_Of_count 50 = .ok (.getfield 15, 3) := by decide +kernel
theorem d_Of_count_53 : decode b_Of_count 53 = .ok (.ireturn, 1) := by decide +kernel
theorem d_Of_count_54 : decode b_Of_count 54 = .ok (.aload_n 0, 1) := by decide +kernel
theorem d_Of_count_55 : decode b_Of_count 55 = .ok (.getfield 55, 3) := by decide +kernel
theorem d_Of_count_58 : decode b_Of_count 58 = .ok (.ireturn, 1) := by decide +kernel
theorem d_Of_count_59 : decode b_Of_count 59 = .ok (.aload_n 0, 1) := by decide +kernel
theorem d_Of_count_60 : decode b_Of_count 60 = .ok (.getfield 76, 3) := by decide +kernel
theorem d_Of_count_63 : decode b_Of_count 63 = .ok (.ireturn, 1) := by decide +kernel
theorem d_Of_count_64 : decode b_Of_count 64 = .ok (.aload_n 0, 1) := by decide +kernel
theorem d_Of_count_65 : decode b_Of_count 65 = .ok (.getfield 79, 3) := by decide +kernel
theorem d_Of_count_68 : decode b_Of_count 68 = .ok (.ireturn, 1) := by decide +kernel
theorem d_Of_count_69 : decode b_Of_count 69 = .ok (.aload_n 0, 1) := by decide +kernel
theorem d_Of_count_70 : decode b_Of_count 70 = .ok (.getfield 100, 3) := by decide +kernel
theorem d_Of_count_73 : decode b_Of_count 73 = .ok (.ireturn, 1) := by decide +kernel
theorem d_Of_count_74 : decode b_Of_count 74 = .ok (.aload_n 0, 1) := by decide +kernel
theorem d_Of_count_75 : decode b_Of_count 75 = .ok (.invokevirtual 122, 3) := by decide +kernel
theorem d_Of_count_78 : decode b_Of_count 78 = .ok (.ireturn, 1) := by decide +kernel
theorem d_Of_count_79 : decode b_Of_count 79 = .ok (.bipush (-2), 2) := by decide +kernel
theorem d_Of_count_81 : decode b_Of_count 81 = .ok (.ireturn, 1) := by decide +kernel
theorem d_Of_leftOfAll_0 : decode b_Of_leftOfAll 0 = .ok (.iconst 0, 1) := by decide +kernel
theorem d_Of_leftOfAll_1 : decode b_Of_leftOfAll 1 = .ok (.istore_n 1, 1) := by decide +kernel
theorem d_Of_leftOfAll_2 : decode b_Of_leftOfAll 2 = .ok (.iconst 0, 1) := by decide +kernel
theorem d_Of_leftOfAll_3 : decode b_Of_leftOfAll 3 = .ok (.istore_n 2, 1) := by decide +kernel
theorem d_Of_leftOfAll_4 : decode b_Of_leftOfAll 4 = .ok (.iload_n 2, 1) := by decide +kernel
theorem d_Of_leftOfAll_5 : decode b_Of_leftOfAll 5 = .ok (.aload_n 0, 1) := by decide +kernel
theorem d_Of_leftOfAll_6 : decode b_Of_leftOfAll 6 = .ok (.getfield 15, 3) := by decide +kernel
theorem d_Of_leftOfAll_9 : decode b_Of_leftOfAll 9 = .ok (.if_icmp .ge 30, 3) := by decide +kernel
theorem d_Of_leftOfAll_12 : decode b_Of_leftOfAll 12 = .ok (.aload_n 0, 1) := by decide +kernel
theorem d_Of_leftOfAll_13 : decode b_Of_leftOfAll 13 = .ok (.getfield 11, 3) := by decide +kernel
theorem d_Of_leftOfAll_16 : decode b_Of_leftOfAll 16 = .ok (.iload_n 2, 1) := by decide +kernel
theorem d_Of_leftOfAll_17 : decode b_Of_leftOfAll 17 = .ok (.aaload, 1) := by decide +kernel
theorem d_Of_leftOfAll_18 : decode b_Of_leftOfAll 18 = .ok (.ifnull 15, 3) := by decide +kernel
theorem d_Of_leftOfAll_21 : decode b_Of_leftOfAll 21 = .ok (.iload_n 1, 1) := by decide +kernel
theorem d_Of_leftOfAll_22 : decode b_Of_leftOfAll 22 = .ok (.aload_n 0, 1) := by decide +kernel
theorem d_Of_leftOfAll_23 : decode b_Of_leftOfAll 23 = .ok (.getfield 11, 3) := by decide +kernel
theorem d_Of_leftOfAll_26 : decode b_Of_leftOfAll 26 = .ok (.iload_n 2, 1) := by decide +kernel
theorem d_Of_leftOfAll_27 : decode b_Of_leftOfAll 27 = .ok (.aaload, 1) := by decide +kernel
theorem d_Of_leftOfAll_28 : decode b_Of_leftOfAll 28 = .ok (.getfield 69, 3) := by decide +kernel
theorem d_Of_leftOfAll_31 : decode b_Of_leftOfAll 31 = .ok (.iadd, 1) := by decide +kernel
theorem d_Of_leftOfAll_32 : decode b_Of_leftOfAll 32 = .ok (.istore_n 1, 1) := by decide +kernel
theorem d_Of_leftOfAll_33 : decode b_Of_leftOfAll 33 = .ok (.iinc 2 1, 3) := by decide +kernel
theorem d_Of_leftOfAll_36 : decode b_Of_leftOfAll 36 = .ok (.goto (-32), 3) := by decide +kernel
theorem d_Of_leftOfAll_39 : decode b_Of_leftOfAll 39 = .ok (.iload_n 1, 1) := by decide +kernel
theorem d_Of_leftOfAll_40 : decode b_Of_leftOfAll 40 = .ok (.ireturn, 1) := by decide +kernel
end
section
theorem d_Mo_init_0 : decode b_Mo_init 0 = .ok (.aload_n 0, 1) := by decide +kernel
theorem d_Mo_init_1 : decode b_Mo_init 1 = .ok (.invokespecial 1, 3) := by decide +kernel
theorem d_Mo_init_4 : decode b_Mo_init 4 = .ok (.aload_n 0, 1) := by decide +kernel
theorem d_Mo_init_5 : decode b_Mo_init 5 = .ok (.bipush 40, 2) := by decide +kernel
theorem d_Mo_init_7 : decode b_Mo_init 7 = .ok (.newarray .int, 2) := by decide +kernel
theorem d_Mo_init_9 : decode b_Mo_init 9 = .ok (.putfield 7, 3) := by decide +kernel
theorem d_Mo_init_12 : decode b_Mo_init 12 = .ok (.aload_n 0, 1) := by decide +kernel
theorem d_Mo_init_13 : decode b_Mo_init 13 = .ok (.bipush 40, 2) := by decide +kernel
theorem d_Mo_init_15 : decode b_Mo_init 15 = .ok (.newarray .int, 2) := by decide +kernel
theorem d_Mo_init_17 : decode b_Mo_init 17 = .ok (.putfield 13, 3) := by decide +kernel
theorem d_Mo_init_20 : decode b_Mo_init 20 = .ok (.aload_n 0, 1) := by decide +kernel
theorem d_Mo_init_21 : decode b_Mo_init 21 = .ok (.bipush 40, 2) := by decide +kernel
theorem d_Mo_init_23 : decode b_Mo_init 23 = .ok (.newarray .int, 2) := by decide +kernel
theorem d_Mo_init_25 : decode b_Mo_init 25 = .ok (.putfield 16, 3) := by decide +kernel
theorem d_Mo_init_28 : decode b_Mo_init 28 = .ok (.aload_n 0, 1) := by decide +kernel
theorem d_Mo_init_29 : decode b_Mo_init 29 = .ok (.bipush 40, 2) := by decide +kernel
theorem d_Mo_init_31 : decode b_Mo_init 31 = .ok (.newarray .int, 2) := by decide +kernel
theorem d_Mo_init_33 : decode b_Mo_init 33 = .ok (.putfield 19, 3) := by decide +kernel
theorem d_Mo_init_36 : decode b_Mo_init 36 = .ok (.aload_n 0, 1) := by decide +kernel
theorem d_Mo_init_37 : decode b_Mo_init 37 = .ok (.bipush 40, 2) := by decide +kernel
theorem d_Mo_init_39 : decode b_Mo_init 39 = .ok (.newarray .int, 2) := by decide +kernel
theorem d_Mo_init_41 : decode b_Mo_init 41 = .ok (.putfield 22, 3) := by decide +kernel
theorem d_Mo_init_44 : decode b_Mo_init 44 = .ok (.aload_n 0, 1) := by decide +kernel
theorem d_Mo_init_45 : decode b_Mo_init 45 = .ok (.bipush 40, 2) := by decide +kernel
theorem d_Mo_init_47 : decode b_Mo_init 47 = .ok (.newarray .int, 2) := by decide +kernel
theorem d_Mo_init_49 : decode b_Mo_init 49 = .ok (.putfield 25, 3) := by decide +kernel
theorem d_Mo_init_52 : decode b_Mo_init 52 = .ok (.aload_n 0, 1) := by decide +kernel
theorem d_Mo_init_53 : decode b_Mo_init 53 = .ok (.bipush 40, 2) := by decide +kernel
theorem d_Mo_init_55 : decode b_Mo_init 55 = .ok (.newarray .boolean, 2) := by decide +kernel
theorem d_Mo_init_57 : decode b_Mo_init 57 = .ok (.putfield 28, 3) := by decide +kernel
theorem d_Mo_init_60 : decode b_Mo_init 60 = .ok (.return_, 1) := by decide +kernel
theorem d_Mo_issue_0 : decode b_Mo_issue 0 = .ok (.iload_n 1, 1) := by decide +kernel
theorem d_Mo_issue_1 : decode b_Mo_issue 1 = .ok (.iconst 0, 1) := by decide +kernel
theorem d_Mo_issue_2 : decode b_Mo_issue 2 = .ok (.bipush 7, 2) := by decide +kernel
theorem d_Mo_issue_4 : decode b_Mo_issue 4 = .ok (.invokestatic 36, 3) := by decide +kernel
theorem d_Mo_issue_7 : decode b_Mo_issue 7 = .ok (.ifCond .eq 13, 3) := by decide +kernel
theorem d_Mo_issue_10 : decode b_Mo_issue 10 = .ok (.iload_n 2, 1) := by decide +kernel
theorem d_Mo_issue_11 : decode b_Mo_issue 11 = .ok (.iconst 1, 1) := by decide +kernel
theorem d_Mo_issue_12 : decode b_Mo_issue 12 = .ok (.ldc 51, 2) := by decide +kernel
theorem d_Mo_issue_14 : decode b_Mo_issue 14 = .ok (.invokestatic 36, 3) := by decide +kernel
theorem d_Mo_issue_17 : decode b_Mo_issue 17 = .ok (.ifCond .ne 6, 3) := by decide +kernel
theorem d_Mo_issue_20 : decode b_Mo_issue 20 = .ok (.bipush (-2), 2) := by decide +kernel
theorem d_Mo_issue_22 : decode b_Mo_issue 22 = .ok (.ireturn, 1) := by decide +kernel
theorem d_Mo_issue_23 : decode b_Mo_issue 23 = .ok (.aload_n 0, 1) := by decide +kernel
theorem d_Mo_issue_24 : decode b_Mo_issue 24 = .ok (.getfield 32, 3) := by decide +kernel
theorem d_Mo_issue_27 : decode b_Mo_issue 27 = .ok (.bipush 40, 2) := by decide +kernel
theorem d_Mo_issue_29 : decode b_Mo_issue 29 = .ok (.if_icmp .ne 6, 3) := by decide +kernel
theorem d_Mo_issue_32 : decode b_Mo_issue 32 = .ok (.bipush (-4), 2) := by decide +kernel
theorem d_Mo_issue_34 : decode b_Mo_issue 34 = .ok (.ireturn, 1) := by decide +kernel
theorem d_Mo_issue_35 : decode b_Mo_issue 35 = .ok (.aload_n 0, 1) := by decide +kernel
theorem d_Mo_issue_36 : decode b_Mo_issue 36 = .ok (.getfield 32, 3) := by decide +kernel
theorem d_Mo_issue_39 : decode b_Mo_issue 39 = .ok (.istore_n 3, 1) := by decide +kernel
theorem d_Mo_issue_40 : decode b_Mo_issue 40 = .ok (.aload_n 0, 1) := by decide +kernel
theorem d_Mo_issue_41 : decode b_Mo_issue 41 = .ok (.getfield 7, 3) := by decide +kernel
theorem d_Mo_issue_44 : decode b_Mo_issue 44 = .ok (.iload_n 3, 1) := by decide +kernel
theorem d_Mo_issue_45 : decode b_Mo_issue 45 = .ok (.iload_n 1, 1) := by decide +kernel
theorem d_Mo_issue_46 : decode b_Mo_issue 46 = .ok (.iastore, 1) := by decide +kernel
theorem d_Mo_issue_47 : decode b_Mo_issue 47 = .ok (.aload_n 0, 1) := by decide +kernel
theorem d_Mo_issue_48 : decode b_Mo_issue 48 = .ok (.getfield 13, 3) := by decide +kernel
theorem d_Mo_issue_51 : decode b_Mo_issue 51 = .ok (.iload_n 3, 1) := by decide +kernel
theorem d_Mo_issue_52 : decode b_Mo_issue 52 = .ok (.iload_n 2, 1) := by decide +kernel
theorem d_Mo_issue_53 : decode b_Mo_issue 53 = .ok (.iastore, 1) := by decide +kernel
theorem d_Mo_issue_54 : decode b_Mo_issue 54 = .ok (.aload_n 0, 1) := by decide +kernel
theorem d_Mo_issue_55 : decode b_Mo_issue 55 = .ok (.getfield 16, 3) := by decide +kernel
theorem d_Mo_issue_58 : decode b_Mo_issue 58 = .ok (.iload_n 3, 1) := by decide +kernel
theorem d_Mo_issue_59 : decode b_Mo_issue 59 = .ok (.iload_n 2, 1) := by decide +kernel
theorem d_Mo_issue_60 : decode b_Mo_issue 60 = .ok (.iastore, 1) := by decide +kernel
theorem d_Mo_issue_61 : decode b_Mo_issue 61 = .ok (.aload_n 0, 1) := by decide +kernel
theorem d_Mo_issue_62 : decode b_Mo_issue 62 = .ok (.getfield 19, 3) := by decide +kernel
theorem d_Mo_issue_65 : decode b_Mo_issue 65 = .ok (.iload_n 3, 1) := by decide +kernel
theorem d_Mo_issue_66 : decode b_Mo_issue 66 = .ok (.aload_n 0, 1) := by decide +kernel
theorem d_Mo_issue_67 : decode b_Mo_issue 67 = .ok (.getfield 52, 3) := by decide +kernel
theorem d_Mo_issue_70 : decode b_Mo_issue 70 = .ok (.iastore, 1) := by decide +kernel
theorem d_Mo_issue_71 : decode b_Mo_issue 71 = .ok (.aload_n 0, 1) := by decide +kernel
theorem d_Mo_issue_72 : decode b_Mo_issue 72 = .ok (.dup, 1) := by decide +kernel
theorem d_Mo_issue_73 : decode b_Mo_issue 73 = .ok (.getfield 32, 3) := by decide +kernel
theorem d_Mo_issue_76 : decode b_Mo_issue 76 = .ok (.iconst 1, 1) := by decide +kernel
theorem d_Mo_issue_77 : decode b_Mo_issue 77 = .ok (.iadd, 1) := by decide +kernel
theorem d_Mo_issue_78 : decode b_Mo_issue 78 = .ok (.putfield 32, 3) := by decide +kernel
theorem d_Mo_issue_81 : decode b_Mo_issue 81 = .ok (.aload_n 0, 1) := by decide +kernel
theorem d_Mo_issue_82 : decode b_Mo_issue 82 = .ok (.dup, 1) := by decide +kernel
theorem d_Mo_issue_83 : decode b_Mo_issue 83 = .ok (.getfield 55, 3) := by decide +kernel
theorem d_Mo_issue_86 : decode b_Mo_issue 86 = .ok (.iload_n 2, 1) := by decide +kernel
theorem d_Mo_issue_87 : decode b_Mo_issue 87 = .ok (.iadd, 1) := by decide +kernel
theorem d_Mo_issue_88 : decode b_Mo_issue 88 = .ok (.putfield 55, 3) := by decide +kernel
theorem d_Mo_issue_91 : decode b_Mo_issue 91 = .ok (.iload_n 3, 1) := by decide +kernel
theorem d_Mo_issue_92 : decode b_Mo_issue 92 = .ok (.ireturn, 1) := by decide +kernel
theorem d_Mo_within_0 : decode b_Mo_within 0 = .ok (.iload_n 0, 1) := by decide +kernel
theorem d_Mo_within_1 : decode b_Mo_within 1 = .ok (.iload_n 1, 1) := by decide +kernel
theorem d_Mo_within_2 : decode b_Mo_within 2 = .ok (.if_icmp .lt 12, 3) := by decide +kernel
theorem d_Mo_within_5 : decode b_Mo_within 5 = .ok (.iload_n 0, 1) := by decide +kernel
theorem d_Mo_within_6 : decode b_Mo_within 6 = .ok (.iload_n 2, 1) := by decide +kernel
theorem d_Mo_within_7 : decode b_Mo_within 7 = .ok (.if_icmp .gt 7, 3) := by decide +kernel
theorem d_Mo_within_10 : decode b_Mo_within 10 = .ok (.iconst 1, 1) := by decide +kernel
theorem d_Mo_within_11 : decode b_Mo_within 11 = .ok (.goto 4, 3) := by decide +kernel
theorem d_Mo_within_14 : decode b_Mo_within 14 = .ok (.iconst 0, 1) := by decide +kernel
theorem d_Mo_within_15 : decode b_Mo_within 15 = .ok (.ireturn, 1) := by decide +kernel
theorem d_Mo_pass_0 : decode b_Mo_pass 0 = .ok (.iload_n 1, 1) := by decide +kernel
theorem d_Mo_pass_1 : decode b_Mo_pass 1 = .ok (.iconst 1, 1) := by decide +kernel
theorem d_Mo_pass_2 : decode b_Mo_pass 2 = .ok (.sipush 1000, 3) := by decide +kernel
theorem d_Mo_pass_5 : decode b_Mo_pass 5 = .ok (.invokestatic 36, 3) := by decide +kernel
theorem d_Mo_pass_8 : decode b_Mo_pass 8 = .ok (.ifCond .ne 6, 3) := by decide +kernel
theorem d_Mo_pass_11 : decode b_Mo_pass 11 = .ok (.bipush (-2), 2) := by decide +kernel
theorem d_Mo_pass_13 : decode b_Mo_pass 13 = .ok (.ireturn, 1) := by decide +kernel
theorem d_Mo_pass_14 : decode b_Mo_pass 14 = .ok (.aload_n 0, 1) := by decide +kernel
theorem d_Mo_pass_15 : decode b_Mo_pass 15 = .ok (.getfield 52, 3) := by decide +kernel
theorem d_Mo_pass_18 : decode b_Mo_pass 18 = .ok (.iload_n 1, 1) := by decide +kernel
theorem d_Mo_pass_19 : decode b_Mo_pass 19 = .ok (.iadd, 1) := by decide +kernel
theorem d_Mo_pass_20 : decode b_Mo_pass 20 = .ok (.sipush 20000, 3) := by decide +kernel
theorem d_Mo_pass_23 : decode b_Mo_pass 23 = .ok (.if_icmp .le 6, 3) := by decide +kernel
theorem d_Mo_pass_26 : decode b_Mo_pass 26 = .ok (.bipush (-4), 2) := by decide +kernel
theorem d_Mo_pass_28 : decode b_Mo_pass 28 = .ok (.ireturn, 1) := by decide +kernel
theorem d_Mo_pass_29 : decode b_Mo_pass 29 = .ok (.aload_n 0, 1) := by decide +kernel
theorem d_Mo_pass_30 : decode b_Mo_pass 30 = .ok (.dup, 1) := by decide +kernel
theorem d_Mo_pass_31 : decode b_Mo_pass 31 = .ok (.getfield 52, 3) := by decide +kernel
theorem d_Mo_pass_34 : decode b_Mo_pass 34 = .ok (.iload_n 1, 1) := by decide +kernel
theorem d_Mo_pass_35 : decode b_Mo_pass 35 = .ok (.iadd, 1) := by decide +kernel
theorem d_Mo_pass_36 : decode b_Mo_pass 36 = .ok (.putfield 52, 3) := by decide +kernel
theorem d_Mo_pass_39 : decode b_Mo_pass 39 = .ok (.aload_n 0, 1) := by decide +kernel
theorem d_Mo_pass_40 : decode b_Mo_pass 40 = .ok (.getfield 52, 3) := by decide +kernel
theorem d_Mo_pass_43 : decode b_Mo_pass 43 = .ok (.ireturn, 1) := by decide +kernel
theorem d_Mo_value_0 : decode b_Mo_value 0 = .ok (.aload_n 0, 1) := by decide +kernel
theorem d_Mo_value_1 : decode b_Mo_value 1 = .ok (.iload_n 1, 1) := by decide +kernel
theorem d_Mo_value_2 : decode b_Mo_value 2 = .ok (.invokevirtual 58, 3) := by decide +kernel
theorem d_Mo_value_5 : decode b_Mo_value 5 = .ok (.ifCond .ne 5, 3) := by decide +kernel
theorem d_Mo_value_8 : decode b_Mo_value 8 = .ok (.iconst (-1), 1) := by decide +kernel
theorem d_Mo_value_9 : decode b_Mo_value 9 = .ok (.ireturn, 1) := by decide +kernel
theorem d_Mo_value_10 : decode b_Mo_value 10 = .ok (.iload_n 2, 1) := by decide +kernel
theorem d_Mo_value_11 : decode b_Mo_value 11 = .ok (.iconst 0, 1) := by decide +kernel
theorem d_Mo_value_12 : decode b_Mo_value 12 = .ok (.sipush 20000, 3) := by decide +kernel
theorem d_Mo_value_15 : decode b_Mo_value 15 = .ok (.invokestatic 36, 3) := by decide +kernel
theorem d_Mo_value_18 : decode b_Mo_value 18 = .ok (.ifCond .eq 12, 3) := by decide +kernel
theorem d_Mo_value_21 : decode b_Mo_value 21 = .ok (.aload_n 0, 1) := by decide +kernel
theorem d_Mo_value_22 : decode b_Mo_value 22 = .ok (.iload_n 1, 1) := by decide +kernel
theorem d_Mo_value_23 : decode b_Mo_value 23 = .ok (.iload_n 2, 1) := by decide +kernel
theorem d_Mo_value_24 : decode b_Mo_value 24 = .ok (.invokevirtual 61, 3) := by decide +kernel
theorem d_Mo_value_27 : decode b_Mo_value 27 = .ok (.goto 5, 3) := by decide +kernel
theorem d_Mo_value_30 : decode b_Mo_value 30 = .ok (.bipush (-2), 2) := by decide +kernel
theorem d_Mo_value_32 : decode b_Mo_value 32 = .ok (.ireturn, 1) := by decide +kernel
theorem d_Mo_isThere_0 : decode b_Mo_isThere 0 = .ok (.iload_n 1, 1) := by decide +kernel
theorem d_Mo_isThere_1 : decode b_Mo_isThere 1 = .ok (.iconst 0, 1) := by decide +kernel
theorem d_Mo_isThere_2 : decode b_Mo_isThere 2 = .ok (.aload_n 0, 1) := by decide +kernel
theorem d_Mo_isThere_3 : decode b_Mo_isThere 3 = .ok (.getfield 32, 3) := by decide +kernel
theorem d_Mo_isThere_6 : decode b_Mo_isThere 6 = .ok (.iconst 1, 1) := by decide +kernel
theorem d_Mo_isThere_7 : decode b_Mo_isThere 7 = .ok (.isub, 1) := by decide +kernel
theorem d_Mo_isThere_8 : decode b_Mo_isThere 8 = .ok (.invokestatic 36, 3) := by decide +kernel
theorem d_Mo_isThere_11 : decode b_Mo_isThere 11 = .ok (.ifCond .eq 16, 3) := by decide +kernel
theorem d_Mo_isThere_14 : decode b_Mo_isThere 14 = .ok (.aload_n 0, 1) := by decide +kernel
theorem d_Mo_isThere_15 : decode b_Mo_isThere 15 = .ok (.getfield 28, 3) := by decide +kernel
theorem d_Mo_isThere_18 : decode b_Mo_isThere 18 = .ok (.iload_n 1, 1) := by decide +kernel
theorem d_Mo_isThere_19 : decode b_Mo_isThere 19 = .ok (.baload, 1) := by decide +kernel
theorem d_Mo_isThere_20 : decode b_Mo_isThere 20 = .ok (.ifCond .ne 7, 3) := by decide +kernel
theorem d_Mo_isThere_23 : decode b_Mo_isThere 23 = .ok (.iconst 1, 1) := by decide +kernel
theorem d_Mo_isThere_24 : decode b_Mo_isThere 24 = .ok (.goto 4, 3) := by decide +kernel
theorem d_Mo_isThere_27 : decode b_Mo_isThere 27 = .ok (.iconst 0, 1) := by decide +kernel
theorem d_Mo_isThere_28 : decode b_Mo_isThere 28 = .ok (.ireturn, 1) := by decide +kernel
theorem d_Mo_valueOf_0 : decode b_Mo_valueOf 0 = .ok (.aload_n 0, 1) := by decide +kernel
theorem d_Mo_valueOf_1 : decode b_Mo_valueOf 1 = .ok (.iload_n 1, 1) := by decide +kernel
theorem d_Mo_valueOf_2 : decode b_Mo_valueOf 2 = .ok (.invokevirtual 40, 3) := by decide +kernel
theorem d_Mo_valueOf_5 : decode b_Mo_valueOf 5 = .ok (.ifCond .eq 14, 3) := by decide +kernel
theorem d_Mo_valueOf_8 : decode b_Mo_valueOf 8 = .ok (.iload_n 2, 1) := by decide +kernel
theorem d_Mo_valueOf_9 : decode b_Mo_valueOf 9 = .ok (.aload_n 0, 1) := by decide +kernel
theorem d_Mo_valueOf_10 : decode b_Mo_valueOf 10 = .ok (.iload_n 1, 1) := by decide +kernel
theorem d_Mo_valueOf_11 : decode b_Mo_valueOf 11 = .ok (.invokevirtual 44, 3) := by decide +kernel
theorem d_Mo_valueOf_14 : decode b_Mo_valueOf 14 = .ok (.if_icmp .le 5, 3) := by decide +kernel
theorem d_Mo_valueOf_17 : decode b_Mo_valueOf 17 = .ok (.iconst 0, 1) := by decide +kernel
theorem d_Mo_valueOf_18 : decode b_Mo_valueOf 18 = .ok (.ireturn, 1) := by decide +kernel
theorem d_Mo_valueOf_19 : decode b_Mo_valueOf 19 = .ok (.aload_n 0, 1) := by decide +kernel
theorem d_Mo_valueOf_20 : decode b_Mo_valueOf 20 = .ok (.getfield 16, 3) := by decide +kernel
theorem d_Mo_valueOf_23 : decode b_Mo_valueOf 23 = .ok (.iload_n 1, 1) := by decide +kernel
theorem d_Mo_valueOf_24 : decode b_Mo_valueOf 24 = .ok (.iaload, 1) := by decide +kernel
theorem d_Mo_valueOf_25 : decode b_Mo_valueOf 25 = .ok (.istore_n 3, 1) := by decide +kernel
theorem d_Mo_valueOf_26 : decode b_Mo_valueOf 26 = .ok (.aload_n 0, 1) := by decide +kernel
theorem d_Mo_valueOf_27 : decode b_Mo_valueOf 27 = .ok (.getfield 7, 3) := by decide +kernel
theorem d_Mo_valueOf_30 : decode b_Mo_valueOf 30 = .ok (.iload_n 1, 1) := by decide +kernel
theorem d_Mo_valueOf_31 : decode b_Mo_valueOf 31 = .ok (.iaload, 1) := by decide +kernel
theorem d_Mo_valueOf_32 : decode b_Mo_valueOf 32 = .ok (.iconst 3, 1) := by decide +kernel
theorem d_Mo_valueOf_33 : decode b_Mo_valueOf 33 = .ok (.if_icmp .ne 10, 3) := by decide +kernel
theorem d_Mo_valueOf_36 : decode b_Mo_valueOf 36 = .ok (.iload_n 3, 1) := by decide +kernel
theorem d_Mo_valueOf_37 : decode b_Mo_valueOf 37 = .ok (.iload_n 3, 1) := by decide +kernel
theorem d_Mo_valueOf_38 : decode b_Mo_valueOf 38 = .ok (.bipush 10, 2) := by decide +kernel
theorem d_Mo_valueOf_40 : decode b_Mo_valueOf 40 = .ok (.idiv, 1) := by decide +kernel
theorem d_Mo_valueOf_41 : decode b_Mo_valueOf 41 = .ok (.isub, 1) := by decide +kernel
theorem d_Mo_valueOf_42 : decode b_Mo_valueOf 42 = .ok (.ireturn, 1) := by decide +kernel
theorem d_Mo_valueOf_43 : decode b_Mo_valueOf 43 = .ok (.aload_n 0, 1) := by decide +kernel
theorem d_Mo_valueOf_44 : decode b_Mo_valueOf 44 = .ok (.getfield 7, 3) := by decide +kernel
theorem d_Mo_valueOf_47 : decode b_Mo_valueOf 47 = .ok (.iload_n 1, 1) := by decide +kernel
theorem d_Mo_valueOf_48 : decode b_Mo_valueOf 48 = .ok (.iaload, 1) := by decide +kernel
theorem d_Mo_valueOf_49 : decode b_Mo_valueOf 49 = .ok (.iconst 4, 1) := by decide +kernel
theorem d_Mo_valueOf_50 : decode b_Mo_valueOf 50 = .ok (.if_icmp .ge 5, 3) := by decide +kernel
theorem d_Mo_valueOf_53 : decode b_Mo_valueOf 53 = .ok (.iload_n 3, 1) := by decide +kernel
theorem d_Mo_valueOf_54 : decode b_Mo_valueOf 54 = .ok (.ireturn, 1) := by decide +kernel
theorem d_Mo_valueOf_55 : decode b_Mo_valueOf 55 = .ok (.iload_n 3, 1) := by decide +kernel
theorem d_Mo_valueOf_56 : decode b_Mo_valueOf 56 = .ok (.bipush 10, 2) := by decide +kernel
theorem d_Mo_valueOf_58 : decode b_Mo_valueOf 58 = .ok (.idiv, 1) := by decide +kernel
theorem d_Mo_valueOf_59 : decode b_Mo_valueOf 59 = .ok (.bipush 10, 2) := by decide +kernel
theorem d_Mo_valueOf_61 : decode b_Mo_valueOf 61 = .ok (.imul, 1) := by decide +kernel
theorem d_Mo_valueOf_62 : decode b_Mo_valueOf 62 = .ok (.istore_n 3, 1) := by decide +kernel
theorem d_Mo_valueOf_63 : decode b_Mo_valueOf 63 = .ok (.aload_n 0, 1) := by decide +kernel
theorem d_Mo_valueOf_64 : decode b_Mo_valueOf 64 = .ok (.iload_n 1, 1) := by decide +kernel
theorem d_Mo_valueOf_65 : decode b_Mo_valueOf 65 = .ok (.invokevirtual 48, 3) := by decide +kernel
theorem d_Mo_valueOf_68 : decode b_Mo_valueOf 68 = .ok (.ifCond .eq 12, 3) := by decide +kernel
theorem d_Mo_valueOf_71 : decode b_Mo_valueOf 71 = .ok (.iload_n 3, 1) := by decide +kernel
theorem d_Mo_valueOf_72 : decode b_Mo_valueOf 72 = .ok (.aload_n 0, 1) := by decide +kernel
theorem d_Mo_valueOf_73 : decode b_Mo_valueOf 73 = .ok (.getfield 22, 3) := by decide +kernel
theorem d_Mo_valueOf_76 : decode b_Mo_valueOf 76 = .ok (.iload_n 1, 1) := by decide +kernel
theorem d_Mo_valueOf_77 : decode b_Mo_valueOf 77 = .ok (.iaload, 1) := by decide +kernel
theorem d_Mo_valueOf_78 : decode b_Mo_valueOf 78 = .ok (.iadd, 1) := by decide +kernel
theorem d_Mo_valueOf_79 : decode b_Mo_valueOf 79 = .ok (.istore_n 3, 1) := by decide +kernel
theorem d_Mo_valueOf_80 : decode b_Mo_valueOf 80 = .ok (.aload_n 0, 1) := by decide +kernel
theorem d_Mo_valueOf_81 : decode b_Mo_valueOf 81 = .ok (.getfield 7, 3) := by decide +kernel
theorem d_Mo_valueOf_84 : decode b_Mo_valueOf 84 = .ok (.iload_n 1, 1) := by decide +kernel
theorem d_Mo_valueOf_85 : decode b_Mo_valueOf 85 = .ok (.iaload, 1) := by decide +kernel
theorem d_Mo_valueOf_86 : decode b_Mo_valueOf 86 = .ok (.bipush 7, 2) := by decide +kernel
theorem d_Mo_valueOf_88 : decode b_Mo_valueOf 88 = .ok (.if_icmp .ne 16, 3) := by decide +kernel
theorem d_Mo_valueOf_91 : decode b_Mo_valueOf 91 = .ok (.iload_n 2, 1) := by decide +kernel
theorem d_Mo_valueOf_92 : decode b_Mo_valueOf 92 = .ok (.bipush 7, 2) := by decide +kernel
theorem d_Mo_valueOf_94 : decode b_Mo_valueOf 94 = .ok (.irem, 1) := by decide +kernel
theorem d_Mo_valueOf_95 : decode b_Mo_valueOf 95 = .ok (.ifCond .ne 9, 3) := by decide +kernel
theorem d_Mo_valueOf_98 : decode b_Mo_valueOf 98 = .ok (.iconst 2, 1) := by decide +kernel
theorem d_Mo_valueOf_99 : decode b_Mo_valueOf 99 = .ok (.iload_n 3, 1) := by decide +kernel
theorem d_Mo_valueOf_100 : decode b_Mo_valueOf 100 = .ok (.imul, 1) := by decide +kernel
theorem d_Mo_valueOf_101 : decode b_Mo_valueOf 101 = .ok (.goto 4, 3) := by decide +kernel
theorem d_Mo_valueOf_104 : decode b_Mo_valueOf 104 = .ok (.iload_n 3, 1) := by decide +kernel
theorem d_Mo_valueOf_105 : decode b_Mo_valueOf 105 = .ok (.ireturn, 1) := by decide +kernel
theorem d_Mo_isDated_0 : decode b_Mo_isDated 0 = .ok (.aload_n 0, 1) := by decide +kernel
theorem d_Mo_isDated_1 : decode b_Mo_isDated 1 = .ok (.getfield 7, 3) := by decide +kernel
theorem d_Mo_isDated_4 : decode b_Mo_isDated 4 = .ok (.iload_n 1, 1) := by decide +kernel
theorem d_Mo_isDated_5 : decode b_Mo_isDated 5 = .ok (.iaload, 1) := by decide +kernel
theorem d_Mo_isDated_6 : decode b_Mo_isDated 6 = .ok (.iconst 2, 1) := by decide +kernel
theorem d_Mo_isDated_7 : decode b_Mo_isDated 7 = .ok (.if_icmp .eq 13, 3) := by decide +kernel
theorem d_Mo_isDated_10 : decode b_Mo_isDated 10 = .ok (.aload_n 0, 1) := by decide +kernel
theorem d_Mo_isDated_11 : decode b_Mo_isDated 11 = .ok (.getfield 7, 3) := by decide +kernel
theorem d_Mo_isDated_14 : decode b_Mo_isDated 14 = .ok (.iload_n 1, 1) := by decide +kernel
theorem d_Mo_isDated_15 : decode b_Mo_isDated 15 = .ok (.iaload, 1) := by decide +kernel
theorem d_Mo_isDated_16 : decode b_Mo_isDated 16 = .ok (.iconst 3, 1) := by decide +kernel
theorem d_Mo_isDated_17 : decode b_Mo_isDated 17 = .ok (.if_icmp .ne 7, 3) := by decide +kernel
theorem d_Mo_isDated_20 : decode b_Mo_isDated 20 = .ok (.iconst 1, 1) := by decide +kernel
theorem d_Mo_isDated_21 : decode b_Mo_isDated 21 = .ok (.goto 4, 3) := by decide +kernel
theorem d_Mo_isDated_24 : decode b_Mo_isDated 24 = .ok (.iconst 0, 1) := by decide +kernel
theorem d_Mo_isDated_25 : decode b_Mo_isDated 25 = .ok (.ireturn, 1) := by decide +kernel
theorem d_Mo_lastDay_0 : decode b_Mo_lastDay 0 = .ok (.aload_n 0, 1) := by decide +kernel
theorem d_Mo_lastDay_1 : decode b_Mo_lastDay 1 = .ok (.getfield 19, 3) := by decide +kernel
theorem d_Mo_lastDay_4 : decode b_Mo_lastDay 4 = .ok (.iload_n 1, 1) := by decide +kernel
theorem d_Mo_lastDay_5 : decode b_Mo_lastDay 5 = .ok (.iaload, 1) := by decide +kernel
theorem d_Mo_lastDay_6 : decode b_Mo_lastDay 6 = .ok (.aload_n 0, 1) := by decide +kernel
theorem d_Mo_lastDay_7 : decode b_Mo_lastDay 7 = .ok (.getfield 7, 3) := by decide +kernel
theorem d_Mo_lastDay_10 : decode b_Mo_lastDay 10 = .ok (.iload_n 1, 1) := by decide +kernel
theorem d_Mo_lastDay_11 : decode b_Mo_lastDay 11 = .ok (.iaload, 1) := by decide +kernel
theorem d_Mo_lastDay_12 : decode b_Mo_lastDay 12 = .ok (.iconst 3, 1) := by decide +kernel
theorem d_Mo_lastDay_13 : decode b_Mo_lastDay 13 = .ok (.if_icmp .ne 8, 3) := by decide +kernel
theorem d_Mo_lastDay_16 : decode b_Mo_lastDay 16 = .ok (.bipush 30, 2) := by decide +kernel
theorem d_Mo_lastDay_18 : decode b_Mo_lastDay 18 = .ok (.goto 5, 3) := by decide +kernel
theorem d_Mo_lastDay_21 : decode b_Mo_lastDay 21 = .ok (.bipush 90, 2) := by decide +kernel
theorem d_Mo_lastDay_23 : decode b_Mo_lastDay 23 = .ok (.iadd, 1) := by decide +kernel
theorem d_Mo_lastDay_24 : decode b_Mo_lastDay 24 = .ok (.ireturn, 1) := by decide +kernel
theorem d_Mo_hasPoints_0 : decode b_Mo_hasPoints 0 = .ok (.aload_n 0, 1) := by decide +kernel
theorem d_Mo_hasPoints_1 : decode b_Mo_hasPoints 1 = .ok (.getfield 7, 3) := by decide +kernel
theorem d_Mo_hasPoints_4 : decode b_Mo_hasPoints 4 = .ok (.iload_n 1, 1) := by decide +kernel
theorem d_Mo_hasPoints_5 : decode b_Mo_hasPoints 5 = .ok (.iaload, 1) := by decide +kernel
theorem d_Mo_hasPoints_6 : decode b_Mo_hasPoints 6 = .ok (.bipush 6, 2) := by decide +kernel
theorem d_Mo_hasPoints_8 : decode b_Mo_hasPoints 8 = .ok (.if_icmp .lt 7, 3) := by decide +kernel
theorem d_Mo_hasPoints_11 : decode b_Mo_hasPoints 11 = .ok (.iconst 1, 1) := by decide +kernel
theorem d_Mo_hasPoints_12 : decode b_Mo_hasPoints 12 = .ok (.goto 4, 3) := by decide +kernel
theorem d_Mo_hasPoints_15 : decode b_Mo_hasPoints 15 = .ok (.iconst 0, 1) := by decide +kernel
theorem d_Mo_hasPoints_16 : decode b_Mo_hasPoints 16 = .ok (.ireturn, 1) := by decide +kernel
theorem d_Mo_fee_0 : decode b_Mo_fee 0 = .ok (.aload_n 0, 1) := by decide +kernel
theorem d_Mo_fee_1 : decode b_Mo_fee 1 = .ok (.iload_n 1, 1) := by decide +kernel
theorem d_Mo_fee_2 : decode b_Mo_fee 2 = .ok (.invokevirtual 58, 3) := by decide +kernel
theorem d_Mo_fee_5 : decode b_Mo_fee 5 = .ok (.ifCond .ne 5, 3) := by decide +kernel
theorem d_Mo_fee_8 : decode b_Mo_fee 8 = .ok (.iconst (-1), 1) := by decide +kernel
theorem d_Mo_fee_9 : decode b_Mo_fee 9 = .ok (.ireturn, 1) := by decide +kernel
theorem d_Mo_fee_10 : decode b_Mo_fee 10 = .ok (.iload_n 2, 1) := by decide +kernel
theorem d_Mo_fee_11 : decode b_Mo_fee 11 = .ok (.iconst 1, 1) := by decide +kernel
theorem d_Mo_fee_12 : decode b_Mo_fee 12 = .ok (.ldc 51, 2) := by decide +kernel
theorem d_Mo_fee_14 : decode b_Mo_fee 14 = .ok (.invokestatic 36, 3) := by decide +kernel
theorem d_Mo_fee_17 : decode b_Mo_fee 17 = .ok (.ifCond .eq 12, 3) := by decide +kernel
theorem d_Mo_fee_20 : decode b_Mo_fee 20 = .ok (.aload_n 0, 1) := by decide +kernel
theorem d_Mo_fee_21 : decode b_Mo_fee 21 = .ok (.iload_n 1, 1) := by decide +kernel
theorem d_Mo_fee_22 : decode b_Mo_fee 22 = .ok (.iload_n 2, 1) := by decide +kernel
theorem d_Mo_fee_23 : decode b_Mo_fee 23 = .ok (.invokevirtual 65, 3) := by decide +kernel
theorem d_Mo_fee_26 : decode b_Mo_fee 26 = .ok (.goto 5, 3) := by decide +kernel
theorem d_Mo_fee_29 : decode b_Mo_fee 29 = .ok (.bipush (-2), 2) := by decide +kernel
theorem d_Mo_fee_31 : decode b_Mo_fee 31 = .ok (.ireturn, 1) := by decide +kernel
theorem d_Mo_feeOf_0 : decode b_Mo_feeOf 0 = .ok (.iload_n 2, 1) := by decide +kernel
theorem d_Mo_feeOf_1 : decode b_Mo_feeOf 1 = .ok (.bipush 50, 2) := by decide +kernel
theorem d_Mo_feeOf_3 : decode b_Mo_feeOf 3 = .ok (.idiv, 1) := by decide +kernel
theorem d_Mo_feeOf_4 : decode b_Mo_feeOf 4 = .ok (.iconst 1, 1) := by decide +kernel
theorem d_Mo_feeOf_5 : decode b_Mo_feeOf 5 = .ok (.iadd, 1) := by decide +kernel
theorem d_Mo_feeOf_6 : decode b_Mo_feeOf 6 = .ok (.istore_n 3, 1) := by decide +kernel
theorem d_Mo_feeOf_7 : decode b_Mo_feeOf 7 = .ok (.aload_n 0, 1) := by decide +kernel
theorem d_Mo_feeOf_8 : decode b_Mo_feeOf 8 = .ok (.getfield 7, 3) := by decide +kernel
theorem d_Mo_feeOf_11 : decode b_Mo_feeOf 11 = .ok (.iload_n 1, 1) := by decide +kernel
theorem d_Mo_feeOf_12 : decode b_Mo_feeOf 12 = .ok (.iaload, 1) := by decide +kernel
theorem d_Mo_feeOf_13 : decode b_Mo_feeOf 13 = .ok (.iconst 3, 1) := by decide +kernel
theorem d_Mo_feeOf_14 : decode b_Mo_feeOf 14 = .ok (.if_icmp .ne 7, 3) := by decide +kernel
theorem d_Mo_feeOf_17 : decode b_Mo_feeOf 17 = .ok (.iload_n 3, 1) := by decide +kernel
theorem d_Mo_feeOf_18 : decode b_Mo_feeOf 18 = .ok (.iconst 2, 1) := by decide +kernel
theorem d_Mo_feeOf_19 : decode b_Mo_feeOf 19 = .ok (.idiv, 1) := by decide +kernel
theorem d_Mo_feeOf_20 : decode b_Mo_feeOf 20 = .ok (.ireturn, 1) := by decide +kernel
theorem d_Mo_feeOf_21 : decode b_Mo_feeOf 21 = .ok (.aload_n 0, 1) := by decide +kernel
theorem d_Mo_feeOf_22 : decode b_Mo_feeOf 22 = .ok (.getfield 7, 3) := by decide +kernel
theorem d_Mo_feeOf_25 : decode b_Mo_feeOf 25 = .ok (.iload_n 1, 1) := by decide +kernel
theorem d_Mo_feeOf_26 : decode b_Mo_feeOf 26 = .ok (.iaload, 1) := by decide +kernel
theorem d_Mo_feeOf_27 : decode b_Mo_feeOf 27 = .ok (.bipush 7, 2) := by decide +kernel
theorem d_Mo_feeOf_29 : decode b_Mo_feeOf 29 = .ok (.if_icmp .eq 5, 3) := by decide +kernel
theorem d_Mo_feeOf_32 : decode b_Mo_feeOf 32 = .ok (.iload_n 3, 1) := by decide +kernel
theorem d_Mo_feeOf_33 : decode b_Mo_feeOf 33 = .ok (.ireturn, 1) := by decide +kernel
theorem d_Mo_feeOf_34 : decode b_Mo_feeOf 34 = .ok (.iload_n 3, 1) := by decide +kernel
theorem d_Mo_feeOf_35 : decode b_Mo_feeOf 35 = .ok (.aload_n 0, 1) := by decide +kernel
theorem d_Mo_feeOf_36 : decode b_Mo_feeOf 36 = .ok (.getfield 22, 3) := by decide +kernel
theorem d_Mo_feeOf_39 : decode b_Mo_feeOf 39 = .ok (.iload_n 1, 1) := by decide +kernel
theorem d_Mo_feeOf_40 : decode b_Mo_feeOf 40 = .ok (.iaload, 1) := by decide +kernel
theorem d_Mo_feeOf_41 : decode b_Mo_feeOf 41 = .ok (.if_icmp .le 14, 3) := by decide +kernel
theorem d_Mo_feeOf_44 : decode b_Mo_feeOf 44 = .ok (.iload_n 3, 1) := by decide +kernel
theorem d_Mo_feeOf_45 : decode b_Mo_feeOf 45 = .ok (.aload_n 0, 1) := by decide +kernel
theorem d_Mo_feeOf_46 : decode b_Mo_feeOf 46 = .ok (.getfield 22, 3) := by decide +kernel
theorem d_Mo_feeOf_49 : decode b_Mo_feeOf 49 = .ok (.iload_n 1, 1) := by decide +kernel
theorem d_Mo_feeOf_50 : decode b_Mo_feeOf 50 = .ok (.iaload, 1) := by decide +kernel
theorem d_Mo_feeOf_51 : decode b_Mo_feeOf 51 = .ok (.isub, 1) := by decide +kernel
theorem d_Mo_feeOf_52 : decode b_Mo_feeOf 52 = .ok (.goto 4, 3) := by decide +kernel
theorem d_Mo_feeOf_55 : decode b_Mo_feeOf 55 = .ok (.iconst 0, 1) := by decide +kernel
theorem d_Mo_feeOf_56 : decode b_Mo_feeOf 56 = .ok (.ireturn, 1) := by decide +kernel
theorem d_Mo_spend_0 : decode b_Mo_spend 0 = .ok (.aload_n 0, 1) := by decide +kernel
theorem d_Mo_spend_1 : decode b_Mo_spend 1 = .ok (.iload_n 1, 1) := by decide +kernel
theorem d_Mo_spend_2 : decode b_Mo_spend 2 = .ok (.invokevirtual 58, 3) := by decide +kernel
theorem d_Mo_spend_5 : decode b_Mo_spend 5 = .ok (.ifCond .ne 5, 3) := by decide +kernel
theorem d_Mo_spend_8 : decode b_Mo_spend 8 = .ok (.iconst (-1), 1) := by decide +kernel
theorem d_Mo_spend_9 : decode b_Mo_spend 9 = .ok (.ireturn, 1) := by decide +kernel
theorem d_Mo_spend_10 : decode b_Mo_spend 10 = .ok (.iload_n 2, 1) := by decide +kernel
theorem d_Mo_spend_11 : decode b_Mo_spend 11 = .ok (.iconst 1, 1) := by decide +kernel
theorem d_Mo_spend_12 : decode b_Mo_spend 12 = .ok (.ldc 51, 2) := by decide +kernel
theorem d_Mo_spend_14 : decode b_Mo_spend 14 = .ok (.invokestatic 36, 3) := by decide +kernel
theorem d_Mo_spend_17 : decode b_Mo_spend 17 = .ok (.ifCond .ne 6, 3) := by decide +kernel
theorem d_Mo_spend_20 : decode b_Mo_spend 20 = .ok (.bipush (-2), 2) := by decide +kernel
theorem d_Mo_spend_22 : decode b_Mo_spend 22 = .ok (.ireturn, 1) := by decide +kernel
theorem d_Mo_spend_23 : decode b_Mo_spend 23 = .ok (.aload_n 0, 1) := by decide +kernel
theorem d_Mo_spend_24 : decode b_Mo_spend 24 = .ok (.getfield 7, 3) := by decide +kernel
theorem d_Mo_spend_27 : decode b_Mo_spend 27 = .ok (.iload_n 1, 1) := by decide +kernel
theorem d_Mo_spend_28 : decode b_Mo_spend 28 = .ok (.iaload, 1) := by decide +kernel
theorem d_Mo_spend_29 : decode b_Mo_spend 29 = .ok (.iconst 3, 1) := by decide +kernel
theorem d_Mo_spend_30 : decode b_Mo_spend 30 = .ok (.if_icmp .ne 21, 3) := by decide +kernel
theorem d_Mo_spend_33 : decode b_Mo_spend 33 = .ok (.aload_n 0, 1) := by decide +kernel
theorem d_Mo_spend_34 : decode b_Mo_spend 34 = .ok (.getfield 25, 3) := by decide +kernel
theorem d_Mo_spend_37 : decode b_Mo_spend 37 = .ok (.iload_n 1, 1) := by decide +kernel
theorem d_Mo_spend_38 : decode b_Mo_spend 38 = .ok (.iaload, 1) := by decide +kernel
theorem d_Mo_spend_39 : decode b_Mo_spend 39 = .ok (.aload_n 0, 1) := by decide +kernel
theorem d_Mo_spend_40 : decode b_Mo_spend 40 = .ok (.getfield 52, 3) := by decide +kernel
theorem d_Mo_spend_43 : decode b_Mo_spend 43 = .ok (.iconst 1, 1) := by decide +kernel
theorem d_Mo_spend_44 : decode b_Mo_spend 44 = .ok (.iadd, 1) := by decide +kernel
theorem d_Mo_spend_45 : decode b_Mo_spend 45 = .ok (.if_icmp .ne 6, 3) := by decide +kernel
theorem d_Mo_spend_48 : decode b_Mo_spend 48 = .ok (.bipush (-6), 2) := by decide +kernel
theorem d_Mo_spend_50 : decode b_Mo_spend 50 = .ok (.ireturn, 1) := by decide +kernel
theorem d_Mo_spend_51 : decode b_Mo_spend 51 = .ok (.aload_n 0, 1) := by decide +kernel
theorem d_Mo_spend_52 : decode b_Mo_spend 52 = .ok (.iload_n 1, 1) := by decide +kernel
theorem d_Mo_spend_53 : decode b_Mo_spend 53 = .ok (.iload_n 2, 1) := by decide +kernel
theorem d_Mo_spend_54 : decode b_Mo_spend 54 = .ok (.invokevirtual 65, 3) := by decide +kernel
theorem d_Mo_spend_57 : decode b_Mo_spend 57 = .ok (.istore_n 3, 1) := by decide +kernel
theorem d_Mo_spend_58 : decode b_Mo_spend 58 = .ok (.iload_n 2, 1) := by decide +kernel
theorem d_Mo_spend_59 : decode b_Mo_spend 59 = .ok (.aload_n 0, 1) := by decide +kernel
theorem d_Mo_spend_60 : decode b_Mo_spend 60 = .ok (.iload_n 1, 1) := by decide +kernel
theorem d_Mo_spend_61 : decode b_Mo_spend 61 = .ok (.aload_n 0, 1) := by decide +kernel
theorem d_Mo_spend_62 : decode b_Mo_spend 62 = .ok (.getfield 52, 3) := by decide +kernel
theorem d_Mo_spend_65 : decode b_Mo_spend 65 = .ok (.invokevirtual 61, 3) := by decide +kernel
theorem d_Mo_spend_68 : decode b_Mo_spend 68 = .ok (.if_icmp .gt 15, 3) := by decide +kernel
theorem d_Mo_spend_71 : decode b_Mo_spend 71 = .ok (.iload_n 2, 1) := by decide +kernel
theorem d_Mo_spend_72 : decode b_Mo_spend 72 = .ok (.iload_n 3, 1) := by decide +kernel
theorem d_Mo_spend_73 : decode b_Mo_spend 73 = .ok (.iadd, 1) := by decide +kernel
theorem d_Mo_spend_74 : decode b_Mo_spend 74 = .ok (.aload_n 0, 1) := by decide +kernel
theorem d_Mo_spend_75 : decode b_Mo_spend 75 = .ok (.getfield 16, 3) := by decide +kernel
theorem d_Mo_spend_78 : decode b_Mo_spend 78 = .ok (.iload_n 1, 1) := by decide +kernel
theorem d_Mo_spend_79 : decode b_Mo_spend 79 = .ok (.iaload, 1) := by decide +kernel
theorem d_Mo_spend_80 : decode b_Mo_spend 80 = .ok (.if_icmp .le 6, 3) := by decide +kernel
theorem d_Mo_spend_83 : decode b_Mo_spend 83 = .ok (.bipush (-5), 2) := by decide +kernel
theorem d_Mo_spend_85 : decode b_Mo_spend 85 = .ok (.ireturn, 1) := by decide +kernel
theorem d_Mo_spend_86 : decode b_Mo_spend 86 = .ok (.aload_n 0, 1) := by decide +kernel
theorem d_Mo_spend_87 : decode b_Mo_spend 87 = .ok (.getfield 16, 3) := by decide +kernel
theorem d_Mo_spend_90 : decode b_Mo_spend 90 = .ok (.iload_n 1, 1) := by decide +kernel
theorem d_Mo_spend_91 : decode b_Mo_spend 91 = .ok (.dup2, 1) := by decide +kernel
theorem d_Mo_spend_92 : decode b_Mo_spend 92 = .ok (.iaload, 1) := by decide +kernel
theorem d_Mo_spend_93 : decode b_Mo_spend 93 = .ok (.iload_n 2, 1) := by decide +kernel
theorem d_Mo_spend_94 : decode b_Mo_spend 94 = .ok (.iload_n 3, 1) := by decide +kernel
theorem d_Mo_spend_95 : decode b_Mo_spend 95 = .ok (.iadd, 1) := by decide +kernel
theorem d_Mo_spend_96 : decode b_Mo_spend 96 = .ok (.isub, 1) := by decide +kernel
theorem d_Mo_spend_97 : decode b_Mo_spend 97 = .ok (.iastore, 1) := by decide +kernel
theorem d_Mo_spend_98 : decode b_Mo_spend 98 = .ok (.aload_n 0, 1) := by decide +kernel
theorem d_Mo_spend_99 : decode b_Mo_spend 99 = .ok (.getfield 25, 3) := by decide +kernel
theorem d_Mo_spend_102 : decode b_Mo_spend 102 = .ok (.iload_n 1, 1) := by decide +kernel
theorem d_Mo_spend_103 : decode b_Mo_spend 103 = .ok (.aload_n 0, 1) := by decide +kernel
theorem d_Mo_spend_104 : decode b_Mo_spend 104 = .ok (.getfield 52, 3) := by decide +kernel
theorem d_Mo_spend_107 : decode b_Mo_spend 107 = .ok (.iconst 1, 1) := by decide +kernel
theorem d_Mo_spend_108 : decode b_Mo_spend 108 = .ok (.iadd, 1) := by decide +kernel
theorem d_Mo_spend_109 : decode b_Mo_spend 109 = .ok (.iastore, 1) := by decide +kernel
theorem d_Mo_spend_110 : decode b_Mo_spend 110 = .ok (.aload_n 0, 1) := by decide +kernel
theorem d_Mo_spend_111 : decode b_Mo_spend 111 = .ok (.dup, 1) := by decide +kernel
theorem d_Mo_spend_112 : decode b_Mo_spend 112 = .ok (.getfield 68, 3) := by decide +kernel
theorem d_Mo_spend_115 : decode b_Mo_spend 115 = .ok (.iload_n 2, 1) := by decide +kernel
theorem d_Mo_spend_116 : decode b_Mo_spend 116 = .ok (.iadd, 1) := by decide +kernel
theorem d_Mo_spend_117 : decode b_Mo_spend 117 = .ok (.putfield 68, 3) := by decide +kernel
theorem d_Mo_spend_120 : decode b_Mo_spend 120 = .ok (.aload_n 0, 1) := by decide +kernel
theorem d_Mo_spend_121 : decode b_Mo_spend 121 = .ok (.dup, 1) := by decide +kernel
theorem d_Mo_spend_122 : decode b_Mo_spend 122 = .ok (.getfield 71, 3) := by decide +kernel
theorem d_Mo_spend_125 : decode b_Mo_spend 125 = .ok (.iload_n 3, 1) := by decide +kernel
theorem d_Mo_spend_126 : decode b_Mo_spend 126 = .ok (.iadd, 1) := by decide +kernel
theorem d_Mo_spend_127 : decode b_Mo_spend 127 = .ok (.putfield 71, 3) := by decide +kernel
theorem d_Mo_spend_130 : decode b_Mo_spend 130 = .ok (.aload_n 0, 1) := by decide +kernel
theorem d_Mo_spend_131 : decode b_Mo_spend 131 = .ok (.iload_n 1, 1) := by decide +kernel
theorem d_Mo_spend_132 : decode b_Mo_spend 132 = .ok (.invokevirtual 48, 3) := by decide +kernel
theorem d_Mo_spend_135 : decode b_Mo_spend 135 = .ok (.ifCond .eq 16, 3) := by decide +kernel
theorem d_Mo_spend_138 : decode b_Mo_spend 138 = .ok (.aload_n 0, 1) := by decide +kernel
theorem d_Mo_spend_139 : decode b_Mo_spend 139 = .ok (.getfield 22, 3) := by decide +kernel
theorem d_Mo_spend_142 : decode b_Mo_spend 142 = .ok (.iload_n 1, 1) := by decide +kernel
theorem d_Mo_spend_143 : decode b_Mo_spend 143 = .ok (.dup2, 1) := by decide +kernel
theorem d_Mo_spend_144 : decode b_Mo_spend 144 = .ok (.iaload, 1) := by decide +kernel
theorem d_Mo_spend_145 : decode b_Mo_spend 145 = .ok (.iload_n 2, 1) := by decide +kernel
theorem d_Mo_spend_146 : decode b_Mo_spend 146 = .ok (.bipush 100, 2) := by decide +kernel
theorem d_Mo_spend_148 : decode b_Mo_spend 148 = .ok (.idiv, 1) := by decide +kernel
theorem d_Mo_spend_149 : decode b_Mo_spend 149 = .ok (.iadd, 1) := by decide +kernel
theorem d_Mo_spend_150 : decode b_Mo_spend 150 = .ok (.iastore, 1) := by decide +kernel
theorem d_Mo_spend_151 : decode b_Mo_spend 151 = .ok (.aload_n 0, 1) := by decide +kernel
theorem d_Mo_spend_152 : decode b_Mo_spend 152 = .ok (.getfield 16, 3) := by decide +kernel
theorem d_Mo_spend_155 : decode b_Mo_spend 155 = .ok (.iload_n 1, 1) := by decide +kernel
theorem d_Mo_spend_156 : decode b_Mo_spend 156 = .ok (.iaload, 1) := by decide +kernel
theorem d_Mo_spend_157 : decode b_Mo_spend 157 = .ok (.ireturn, 1) := by decide +kernel
theorem d_Mo_seal_0 : decode b_Mo_seal 0 = .ok (.aload_n 0, 1) := by decide +kernel
theorem d_Mo_seal_1 : decode b_Mo_seal 1 = .ok (.iload_n 1, 1) := by decide +kernel
theorem d_Mo_seal_2 : decode b_Mo_seal 2 = .ok (.invokevirtual 58, 3) := by decide +kernel
theorem d_Mo_seal_5 : decode b_Mo_seal 5 = .ok (.ifCond .eq 11, 3) := by decide +kernel
theorem d_Mo_seal_8 : decode b_Mo_seal 8 = .ok (.aload_n 0, 1) := by decide +kernel
theorem d_Mo_seal_9 : decode b_Mo_seal 9 = .ok (.iload_n 1, 1) := by decide +kernel
theorem d_Mo_seal_10 : decode b_Mo_seal 10 = .ok (.invokevirtual 74, 3) := by decide +kernel
theorem d_Mo_seal_13 : decode b_Mo_seal 13 = .ok (.goto 4, 3) := by decide +kernel
theorem d_Mo_seal_16 : decode b_Mo_seal 16 = .ok (.iconst (-1), 1) := by decide +kernel
theorem d_Mo_seal_17 : decode b_Mo_seal 17 = .ok (.ireturn, 1) := by decide +kernel
theorem d_Mo_sealOf_0 : decode b_Mo_sealOf 0 = .ok (.aload_n 0, 1) := by decide +kernel
theorem d_Mo_sealOf_1 : decode b_Mo_sealOf 1 = .ok (.getfield 16, 3) := by decide +kernel
theorem d_Mo_sealOf_4 : decode b_Mo_sealOf 4 = .ok (.iload_n 1, 1) := by decide +kernel
theorem d_Mo_sealOf_5 : decode b_Mo_sealOf 5 = .ok (.iaload, 1) := by decide +kernel
theorem d_Mo_sealOf_6 : decode b_Mo_sealOf 6 = .ok (.sipush 961, 3) := by decide +kernel
theorem d_Mo_sealOf_9 : decode b_Mo_sealOf 9 = .ok (.imul, 1) := by decide +kernel
theorem d_Mo_sealOf_10 : decode b_Mo_sealOf 10 = .ok (.aload_n 0, 1) := by decide +kernel
theorem d_Mo_sealOf_11 : decode b_Mo_sealOf 11 = .ok (.getfield 19, 3) := by decide +kernel
theorem d_Mo_sealOf_14 : decode b_Mo_sealOf 14 = .ok (.iload_n 1, 1) := by decide +kernel
theorem d_Mo_sealOf_15 : decode b_Mo_sealOf 15 = .ok (.iaload, 1) := by decide +kernel
theorem d_Mo_sealOf_16 : decode b_Mo_sealOf 16 = .ok (.bipush 31, 2) := by decide +kernel
theorem d_Mo_sealOf_18 : decode b_Mo_sealOf 18 = .ok (.imul, 1) := by decide +kernel
theorem d_Mo_sealOf_19 : decode b_Mo_sealOf 19 = .ok (.iadd, 1) := by decide +kernel
theorem d_Mo_sealOf_20 : decode b_Mo_sealOf 20 = .ok (.aload_n 0, 1) := by decide +kernel
theorem d_Mo_sealOf_21 : decode b_Mo_sealOf 21 = .ok (.getfield 13, 3) := by decide +kernel
theorem d_Mo_sealOf_24 : decode b_Mo_sealOf 24 = .ok (.iload_n 1, 1) := by decide +kernel
theorem d_Mo_sealOf_25 : decode b_Mo_sealOf 25 = .ok (.iaload, 1) := by decide +kernel
theorem d_Mo_sealOf_26 : decode b_Mo_sealOf 26 = .ok (.iadd, 1) := by decide +kernel
theorem d_Mo_sealOf_27 : decode b_Mo_sealOf 27 = .ok (.istore_n 2, 1) := by decide +kernel
theorem d_Mo_sealOf_28 : decode b_Mo_sealOf 28 = .ok (.aload_n 0, 1) := by decide +kernel
theorem d_Mo_sealOf_29 : decode b_Mo_sealOf 29 = .ok (.iload_n 1, 1) := by decide +kernel
theorem d_Mo_sealOf_30 : decode b_Mo_sealOf 30 = .ok (.invokevirtual 40, 3) := by decide +kernel
theorem d_Mo_sealOf_33 : decode b_Mo_sealOf 33 = .ok (.ifCond .eq 11, 3) := by decide +kernel
theorem d_Mo_sealOf_36 : decode b_Mo_sealOf 36 = .ok (.iload_n 2, 1) := by decide +kernel
theorem d_Mo_sealOf_37 : decode b_Mo_sealOf 37 = .ok (.aload_n 0, 1) := by decide +kernel
theorem d_Mo_sealOf_38 : decode b_Mo_sealOf 38 = .ok (.iload_n 1, 1) := by decide +kernel
theorem d_Mo_sealOf_39 : decode b_Mo_sealOf 39 = .ok (.invokevirtual 44, 3) := by decide +kernel
theorem d_Mo_sealOf_42 : decode b_Mo_sealOf 42 = .ok (.iadd, 1) := by decide +kernel
theorem d_Mo_sealOf_43 : decode b_Mo_sealOf 43 = .ok (.istore_n 2, 1) := by decide +kernel
theorem d_Mo_sealOf_44 : decode b_Mo_sealOf 44 = .ok (.aload_n 0, 1) := by decide +kernel
theorem d_Mo_sealOf_45 : decode b_Mo_sealOf 45 = .ok (.getfield 7, 3) := by decide +kernel
theorem d_Mo_sealOf_48 : decode b_Mo_sealOf 48 = .ok (.iload_n 1, 1) := by decide +kernel
theorem d_Mo_sealOf_49 : decode b_Mo_sealOf 49 = .ok (.iaload, 1) := by decide +kernel
theorem d_Mo_sealOf_50 : decode b_Mo_sealOf 50 = .ok (.bipush 7, 2) := by decide +kernel
theorem d_Mo_sealOf_52 : decode b_Mo_sealOf 52 = .ok (.if_icmp .ne 14, 3) := by decide +kernel
theorem d_Mo_sealOf_55 : decode b_Mo_sealOf 55 = .ok (.iload_n 2, 1) := by decide +kernel
theorem d_Mo_sealOf_56 : decode b_Mo_sealOf 56 = .ok (.iconst 3, 1) := by decide +kernel
theorem d_Mo_sealOf_57 : decode b_Mo_sealOf 57 = .ok (.aload_n 0, 1) := by decide +kernel
theorem d_Mo_sealOf_58 : decode b_Mo_sealOf 58 = .ok (.getfield 22, 3) := by decide +kernel
theorem d_Mo_sealOf_61 : decode b_Mo_sealOf 61 = .ok (.iload_n 1, 1) := by decide +kernel
theorem d_Mo_sealOf_62 : decode b_Mo_sealOf 62 = .ok (.iaload, 1) := by decide +kernel
theorem d_Mo_sealOf_63 : decode b_Mo_sealOf 63 = .ok (.imul, 1) := by decide +kernel
theorem d_Mo_sealOf_64 : decode b_Mo_sealOf 64 = .ok (.iadd, 1) := by decide +kernel
theorem d_Mo_sealOf_65 : decode b_Mo_sealOf 65 = .ok (.istore_n 2, 1) := by decide +kernel
theorem d_Mo_sealOf_66 : decode b_Mo_sealOf 66 = .ok (.iload_n 2, 1) := by decide +kernel
theorem d_Mo_sealOf_67 : decode b_Mo_sealOf 67 = .ok (.ireturn, 1) := by decide +kernel
theorem d_Mo_mark_0 : decode b_Mo_mark 0 = .ok (.aload_n 0, 1) := by decide +kernel
theorem d_Mo_mark_1 : decode b_Mo_mark 1 = .ok (.iload_n 1, 1) := by decide +kernel
theorem d_Mo_mark_2 : decode b_Mo_mark 2 = .ok (.invokevirtual 58, 3) := by decide +kernel
theorem d_Mo_mark_5 : decode b_Mo_mark 5 = .ok (.ifCond .ne 5, 3) := by decide +kernel
theorem d_Mo_mark_8 : decode b_Mo_mark 8 = .ok (.iconst (-1), 1) := by decide +kernel
theorem d_Mo_mark_9 : decode b_Mo_mark 9 = .ok (.ireturn, 1) := by decide +kernel
theorem d_Mo_mark_10 : decode b_Mo_mark 10 = .ok (.iload_n 2, 1) := by decide +kernel
theorem d_Mo_mark_11 : decode b_Mo_mark 11 = .ok (.iconst 0, 1) := by decide +kernel
theorem d_Mo_mark_12 : decode b_Mo_mark 12 = .ok (.sipush 999, 3) := by decide +kernel
theorem d_Mo_mark_15 : decode b_Mo_mark 15 = .ok (.invokestatic 36, 3) := by decide +kernel
theorem d_Mo_mark_18 : decode b_Mo_mark 18 = .ok (.ifCond .ne 6, 3) := by decide +kernel
theorem d_Mo_mark_21 : decode b_Mo_mark 21 = .ok (.bipush (-2), 2) := by decide +kernel
theorem d_Mo_mark_23 : decode b_Mo_mark 23 = .ok (.ireturn, 1) := by decide +kernel
theorem d_Mo_mark_24 : decode b_Mo_mark 24 = .ok (.aload_n 0, 1) := by decide +kernel
theorem d_Mo_mark_25 : decode b_Mo_mark 25 = .ok (.getfield 7, 3) := by decide +kernel
theorem d_Mo_mark_28 : decode b_Mo_mark 28 = .ok (.iload_n 1, 1) := by decide +kernel
theorem d_Mo_mark_29 : decode b_Mo_mark 29 = .ok (.iaload, 1) := by decide +kernel
theorem d_Mo_mark_30 : decode b_Mo_mark 30 = .ok (.iconst 5, 1) := by decide +kernel
theorem d_Mo_mark_31 : decode b_Mo_mark 31 = .ok (.if_icmp .lt 16, 3) := by decide +kernel
theorem d_Mo_mark_34 : decode b_Mo_mark 34 = .ok (.aload_n 0, 1) := by decide +kernel
theorem d_Mo_mark_35 : decode b_Mo_mark 35 = .ok (.iload_n 1, 1) := by decide +kernel
theorem d_Mo_mark_36 : decode b_Mo_mark 36 = .ok (.invokevirtual 74, 3) := by decide +kernel
theorem d_Mo_mark_39 : decode b_Mo_mark 39 = .ok (.bipush 7, 2) := by decide +kernel
theorem d_Mo_mark_41 : decode b_Mo_mark 41 = .ok (.imul, 1) := by decide +kernel
theorem d_Mo_mark_42 : decode b_Mo_mark 42 = .ok (.iload_n 2, 1) := by decide +kernel
theorem d_Mo_mark_43 : decode b_Mo_mark 43 = .ok (.iadd, 1) := by decide +kernel
theorem d_Mo_mark_44 : decode b_Mo_mark 44 = .ok (.goto 5, 3) := by decide +kernel
theorem d_Mo_mark_47 : decode b_Mo_mark 47 = .ok (.bipush (-3), 2) := by decide +kernel
theorem d_Mo_mark_49 : decode b_Mo_mark 49 = .ok (.ireturn, 1) := by decide +kernel
theorem d_Mo_daysLeft_0 : decode b_Mo_daysLeft 0 = .ok (.aload_n 0, 1) := by decide +kernel
theorem d_Mo_daysLeft_1 : decode b_Mo_daysLeft 1 = .ok (.iload_n 1, 1) := by decide +kernel
theorem d_Mo_daysLeft_2 : decode b_Mo_daysLeft 2 = .ok (.invokevirtual 58, 3) := by decide +kernel
theorem d_Mo_daysLeft_5 : decode b_Mo_daysLeft 5 = .ok (.ifCond .ne 5, 3) := by decide +kernel
theorem d_Mo_daysLeft_8 : decode b_Mo_daysLeft 8 = .ok (.iconst (-1), 1) := by decide +kernel
theorem d_Mo_daysLeft_9 : decode b_Mo_daysLeft 9 = .ok (.ireturn, 1) := by decide +kernel
theorem d_Mo_daysLeft_10 : decode b_Mo_daysLeft 10 = .ok (.iload_n 2, 1) := by decide +kernel
theorem d_Mo_daysLeft_11 : decode b_Mo_daysLeft 11 = .ok (.iconst 0, 1) := by decide +kernel
theorem d_Mo_daysLeft_12 : decode b_Mo_daysLeft 12 = .ok (.sipush 20000, 3) := by decide +kernel
theorem d_Mo_daysLeft_15 : decode b_Mo_daysLeft 15 = .ok (.invokestatic 36, 3) := by decide +kernel
theorem d_Mo_daysLeft_18 : decode b_Mo_daysLeft 18 = .ok (.ifCond .ne 6, 3) := by decide +kernel
theorem d_Mo_daysLeft_21 : decode b_Mo_daysLeft 21 = .ok (.bipush (-2), 2) := by decide +kernel
theorem d_Mo_daysLeft_23 : decode b_Mo_daysLeft 23 = .ok (.ireturn, 1) := by decide +kernel
theorem d_Mo_daysLeft_24 : decode b_Mo_daysLeft 24 = .ok (.aload_n 0, 1) := by decide +kernel
theorem d_Mo_daysLeft_25 : decode b_Mo_daysLeft 25 = .ok (.iload_n 1, 1) := by decide +kernel
theorem d_Mo_daysLeft_26 : decode b_Mo_daysLeft 26 = .ok (.invokevirtual 40, 3) := by decide +kernel
theorem d_Mo_daysLeft_29 : decode b_Mo_daysLeft 29 = .ok (.ifCond .ne 6, 3) := by decide +kernel
theorem d_Mo_daysLeft_32 : decode b_Mo_daysLeft 32 = .ok (.bipush (-3), 2) := by decide +kernel
theorem d_Mo_daysLeft_34 : decode b_Mo_daysLeft 34 = .ok (.ireturn, 1) := by decide +kernel
theorem d_Mo_daysLeft_35 : decode b_Mo_daysLeft 35 = .ok (.aload_n 0, 1) := by decide +kernel
theorem d_Mo_daysLeft_36 : decode b_Mo_daysLeft 36 = .ok (.iload_n 1, 1) := by decide +kernel
theorem d_Mo_daysLeft_37 : decode b_Mo_daysLeft 37 = .ok (.invokevirtual 44, 3) := by decide +kernel
theorem d_Mo_daysLeft_40 : decode b_Mo_daysLeft 40 = .ok (.iload_n 2, 1) := by decide +kernel
theorem d_Mo_daysLeft_41 : decode b_Mo_daysLeft 41 = .ok (.isub, 1) := by decide +kernel
theorem d_Mo_daysLeft_42 : decode b_Mo_daysLeft 42 = .ok (.istore_n 3, 1) := by decide +kernel
theorem d_Mo_daysLeft_43 : decode b_Mo_daysLeft 43 = .ok (.iload_n 3, 1) := by decide +kernel
theorem d_Mo_daysLeft_44 : decode b_Mo_daysLeft 44 = .ok (.ifCond .le 7, 3) := by decide +kernel
theorem d_Mo_daysLeft_47 : decode b_Mo_daysLeft 47 = .ok (.iload_n 3, 1) := by decide +kernel
theorem d_Mo_daysLeft_48 : decode b_Mo_daysLeft 48 = .ok (.goto 4, 3) := by decide +kernel
theorem d_Mo_daysLeft_51 : decode b_Mo_daysLeft 51 = .ok (.iconst 0, 1) := by decide +kernel
theorem d_Mo_daysLeft_52 : decode b_Mo_daysLeft 52 = .ok (.ireturn, 1) := by decide +kernel
theorem d_Mo_lapse_0 : decode b_Mo_lapse 0 = .ok (.iconst 0, 1) := by decide +kernel
theorem d_Mo_lapse_1 : decode b_Mo_lapse 1 = .ok (.istore_n 1, 1) := by decide +kernel
theorem d_Mo_lapse_2 : decode b_Mo_lapse 2 = .ok (.iconst 0, 1) := by decide +kernel
theorem d_Mo_lapse_3 : decode b_Mo_lapse 3 = .ok (.istore_n 2, 1) := by decide +kernel
theorem d_Mo_lapse_4 : decode b_Mo_lapse 4 = .ok (.iload_n 2, 1) := by decide +kernel
theorem d_Mo_lapse_5 : decode b_Mo_lapse 5 = .ok (.aload_n 0, 1) := by decide +kernel
theorem d_Mo_lapse_6 : decode b_Mo_lapse 6 = .ok (.getfield 32, 3) := by decide +kernel
theorem d_Mo_lapse_9 : decode b_Mo_lapse 9 = .ok (.if_icmp .ge 57, 3) := by decide +kernel
theorem d_Mo_lapse_12 : decode b_Mo_lapse 12 = .ok (.aload_n 0, 1) := by decide +kernel
theorem d_Mo_lapse_13 : decode b_Mo_lapse 13 = .ok (.getfield 28, 3) := by decide +kernel
theorem d_Mo_lapse_16 : decode b_Mo_lapse 16 = .ok (.iload_n 2, 1) := by decide +kernel
theorem d_Mo_lapse_17 : decode b_Mo_lapse 17 = .ok (.baload, 1) := by decide +kernel
theorem d_Mo_lapse_18 : decode b_Mo_lapse 18 = .ok (.ifCond .ne 42, 3) := by decide +kernel
theorem d_Mo_lapse_21 : decode b_Mo_lapse 21 = .ok (.aload_n 0, 1) := by decide +kernel
theorem d_Mo_lapse_22 : decode b_Mo_lapse 22 = .ok (.iload_n 2, 1) := by decide +kernel
theorem d_Mo_lapse_23 : decode b_Mo_lapse 23 = .ok (.invokevirtual 40, 3) := by decide +kernel
theorem d_Mo_lapse_26 : decode b_Mo_lapse 26 = .ok (.ifCond .eq 34, 3) := by decide +kernel
theorem d_Mo_lapse_29 : decode b_Mo_lapse 29 = .ok (.aload_n 0, 1) := by decide +kernel
theorem d_Mo_lapse_30 : decode b_Mo_lapse 30 = .ok (.iload_n 2, 1) := by decide +kernel
theorem d_Mo_lapse_31 : decode b_Mo_lapse 31 = .ok (.invokevirtual 44, 3) := by decide +kernel
theorem d_Mo_lapse_34 : decode b_Mo_lapse 34 = .ok (.aload_n 0, 1) := by decide +kernel
theorem d_Mo_lapse_35 : decode b_Mo_lapse 35 = .ok (.getfield 52, 3) := by decide +kernel
theorem d_Mo_lapse_38 : decode b_Mo_lapse 38 = .ok (.if_icmp .lt 6, 3) := by decide +kernel
theorem d_Mo_lapse_41 : decode b_Mo_lapse 41 = .ok (.goto 19, 3) := by decide +kernel
theorem d_Mo_lapse_44 : decode b_Mo_lapse 44 = .ok (.iload_n 1, 1) := by decide +kernel
theorem d_Mo_lapse_45 : decode b_Mo_lapse 45 = .ok (.aload_n 0, 1) := by decide +kernel
theorem d_Mo_lapse_46 : decode b_Mo_lapse 46 = .ok (.getfield 16, 3) := by decide +kernel
theorem d_Mo_lapse_49 : decode b_Mo_lapse 49 = .ok (.iload_n 2, 1) := by decide +kernel
theorem d_Mo_lapse_50 : decode b_Mo_lapse 50 = .ok (.iaload, 1) := by decide +kernel
theorem d_Mo_lapse_51 : decode b_Mo_lapse 51 = .ok (.iadd, 1) := by decide +kernel
theorem d_Mo_lapse_52 : decode b_Mo_lapse 52 = .ok (.istore_n 1, 1) := by decide +kernel
theorem d_Mo_lapse_53 : decode b_Mo_lapse 53 = .ok (.aload_n 0, 1) := by decide +kernel
theorem d_Mo_lapse_54 : decode b_Mo_lapse 54 = .ok (.getfield 16, 3) := by decide +kernel
theorem d_Mo_lapse_57 : decode b_Mo_lapse 57 = .ok (.iload_n 2, 1) := by decide +kernel
theorem d_Mo_lapse_58 : decode b_Mo_lapse 58 = .ok (.iconst 0, 1) := by decide +kernel
theorem d_Mo_lapse_59 : decode b_Mo_lapse 59 = .ok (.iastore, 1) := by decide +kernel
theorem d_Mo_lapse_60 : decode b_Mo_lapse 60 = .ok (.iinc 2 1, 3) := by decide +kernel
theorem d_Mo_lapse_63 : decode b_Mo_lapse 63 = .ok (.goto (-59), 3) := by decide +kernel
theorem d_Mo_lapse_66 : decode b_Mo_lapse 66 = .ok (.aload_n 0, 1) := by decide +kernel
theorem d_Mo_lapse_67 : decode b_Mo_lapse 67 = .ok (.dup, 1) := by decide +kernel
theorem d_Mo_lapse_68 : decode b_Mo_lapse 68 = .ok (.getfield 77, 3) := by decide +kernel
theorem d_Mo_lapse_71 : decode b_Mo_lapse 71 = .ok (.iload_n 1, 1) := by decide +kernel
theorem d_Mo_lapse_72 : decode b_Mo_lapse 72 = .ok (.iadd, 1) := by decide +kernel
theorem d_Mo_lapse_73 : decode b_Mo_lapse 73 = .ok (.putfield 77, 3) := by decide +kernel
theorem d_Mo_lapse_76 : decode b_Mo_lapse 76 = .ok (.iload_n 1, 1) := by decide +kernel
theorem d_Mo_lapse_77 : decode b_Mo_lapse 77 = .ok (.ireturn, 1) := by decide +kernel
theorem d_Mo_merge_0 : decode b_Mo_merge 0 = .ok (.aload_n 0, 1) := by decide +kernel
theorem d_Mo_merge_1 : decode b_Mo_merge 1 = .ok (.iload_n 1, 1) := by decide +kernel
theorem d_Mo_merge_2 : decode b_Mo_merge 2 = .ok (.invokevirtual 58, 3) := by decide +kernel
theorem d_Mo_merge_5 : decode b_Mo_merge 5 = .ok (.ifCond .eq 11, 3) := by decide +kernel
theorem d_Mo_merge_8 : decode b_Mo_merge 8 = .ok (.aload_n 0, 1) := by decide +kernel
theorem d_Mo_merge_9 : decode b_Mo_merge 9 = .ok (.iload_n 2, 1) := by decide +kernel
theorem d_Mo_merge_10 : decode b_Mo_merge 10 = .ok (.invokevirtual 58, 3) := by decide +kernel
theorem d_Mo_merge_13 : decode b_Mo_merge 13 = .ok (.ifCond .ne 5, 3) := by decide +kernel
theorem d_Mo_merge_16 : decode b_Mo_merge 16 = .ok (.iconst (-1), 1) := by decide +kernel
theorem d_Mo_merge_17 : decode b_Mo_merge 17 = .ok (.ireturn, 1) := by decide +kernel
theorem d_Mo_merge_18 : decode b_Mo_merge 18 = .ok (.iload_n 1, 1) := by decide +kernel
theorem d_Mo_merge_19 : decode b_Mo_merge 19 = .ok (.iload_n 2, 1) := by decide +kernel
theorem d_Mo_merge_20 : decode b_Mo_merge 20 = .ok (.if_icmp .ne 6, 3) := by decide +kernel
theorem d_Mo_merge_23 : decode b_Mo_merge 23 = .ok (.bipush (-2), 2) := by decide +kernel
theorem d_Mo_merge_25 : decode b_Mo_merge 25 = .ok (.ireturn, 1) := by decide +kernel
theorem d_Mo_merge_26 : decode b_Mo_merge 26 = .ok (.aload_n 0, 1) := by decide +kernel
theorem d_Mo_merge_27 : decode b_Mo_merge 27 = .ok (.getfield 7, 3) := by decide +kernel
theorem d_Mo_merge_30 : decode b_Mo_merge 30 = .ok (.iload_n 1, 1) := by decide +kernel
theorem d_Mo_merge_31 : decode b_Mo_merge 31 = .ok (.iaload, 1) := by decide +kernel
theorem d_Mo_merge_32 : decode b_Mo_merge 32 = .ok (.aload_n 0, 1) := by decide +kernel
theorem d_Mo_merge_33 : decode b_Mo_merge 33 = .ok (.getfield 7, 3) := by decide +kernel
theorem d_Mo_merge_36 : decode b_Mo_merge 36 = .ok (.iload_n 2, 1) := by decide +kernel
theorem d_Mo_merge_37 : decode b_Mo_merge 37 = .ok (.iaload, 1) := by decide +kernel
theorem d_Mo_merge_38 : decode b_Mo_merge 38 = .ok (.if_icmp .eq 6, 3) := by decide +kernel
theorem d_Mo_merge_41 : decode b_Mo_merge 41 = .ok (.bipush (-3), 2) := by decide +kernel
theorem d_Mo_merge_43 : decode b_Mo_merge 43 = .ok (.ireturn, 1) := by decide +kernel
theorem d_Mo_merge_44 : decode b_Mo_merge 44 = .ok (.aload_n 0, 1) := by decide +kernel
theorem d_Mo_merge_45 : decode b_Mo_merge 45 = .ok (.getfield 13, 3) := by decide +kernel
theorem d_Mo_merge_48 : decode b_Mo_merge 48 = .ok (.iload_n 1, 1) := by decide +kernel
theorem d_Mo_merge_49 : decode b_Mo_merge 49 = .ok (.iaload, 1) := by decide +kernel
theorem d_Mo_merge_50 : decode b_Mo_merge 50 = .ok (.aload_n 0, 1) := by decide +kernel
theorem d_Mo_merge_51 : decode b_Mo_merge 51 = .ok (.getfield 13, 3) := by decide +kernel
theorem d_Mo_merge_54 : decode b_Mo_merge 54 = .ok (.iload_n 2, 1) := by decide +kernel
theorem d_Mo_merge_55 : decode b_Mo_merge 55 = .ok (.iaload, 1) := by decide +kernel
theorem d_Mo_merge_56 : decode b_Mo_merge 56 = .ok (.iadd, 1) := by decide +kernel
theorem d_Mo_merge_57 : decode b_Mo_merge 57 = .ok (.ldc 51, 2) := by decide +kernel
theorem d_Mo_merge_59 : decode b_Mo_merge 59 = .ok (.if_icmp .le 6, 3) := by decide +kernel
theorem d_Mo_merge_62 : decode b_Mo_merge 62 = .ok (.bipush (-4), 2) := by decide +kernel
theorem d_Mo_merge_64 : decode b_Mo_merge 64 = .ok (.ireturn, 1) := by decide +kernel
theorem d_Mo_merge_65 : decode b_Mo_merge 65 = .ok (.aload_n 0, 1) := by decide +kernel
theorem d_Mo_merge_66 : decode b_Mo_merge 66 = .ok (.getfield 13, 3) := by decide +kernel
theorem d_Mo_merge_69 : decode b_Mo_merge 69 = .ok (.iload_n 1, 1) := by decide +kernel
theorem d_Mo_merge_70 : decode b_Mo_merge 70 = .ok (.dup2, 1) := by decide +kernel
theorem d_Mo_merge_71 : decode b_Mo_merge 71 = .ok (.iaload, 1) := by decide +kernel
theorem d_Mo_merge_72 : decode b_Mo_merge 72 = .ok (.aload_n 0, 1) := by decide +kernel
theorem d_Mo_merge_73 : decode b_Mo_merge 73 = .ok (.getfield 13, 3) := by decide +kernel
theorem d_Mo_merge_76 : decode b_Mo_merge 76 = .ok (.iload_n 2, 1) := by decide +kernel
theorem d_Mo_merge_77 : decode b_Mo_merge 77 = .ok (.iaload, 1) := by decide +kernel
theorem d_Mo_merge_78 : decode b_Mo_merge 78 = .ok (.iadd, 1) := by decide +kernel
theorem d_Mo_merge_79 : decode b_Mo_merge 79 = .ok (.iastore, 1) := by decide +kernel
theorem d_Mo_merge_80 : decode b_Mo_merge 80 = .ok (.aload_n 0, 1) := by decide +kernel
theorem d_Mo_merge_81 : decode b_Mo_merge 81 = .ok (.getfield 16, 3) := by decide +kernel
theorem d_Mo_merge_84 : decode b_Mo_merge 84 = .ok (.iload_n 1, 1) := by decide +kernel
theorem d_Mo_merge_85 : decode b_Mo_merge 85 = .ok (.dup2, 1) := by decide +kernel
theorem d_Mo_merge_86 : decode b_Mo_merge 86 = .ok (.iaload, 1) := by decide +kernel
theorem d_Mo_merge_87 : decode b_Mo_merge 87 = .ok (.aload_n 0, 1) := by decide +kernel
theorem d_Mo_merge_88 : decode b_Mo_merge 88 = .ok (.getfield 16, 3) := by decide +kernel
theorem d_Mo_merge_91 : decode b_Mo_merge 91 = .ok (.iload_n 2, 1) := by decide +kernel
theorem d_Mo_merge_92 : decode b_Mo_merge 92 = .ok (.iaload, 1) := by decide +kernel
theorem d_Mo_merge_93 : decode b_Mo_merge 93 = .ok (.iadd, 1) := by decide +kernel
theorem d_Mo_merge_94 : decode b_Mo_merge 94 = .ok (.iastore, 1) := by decide +kernel
theorem d_Mo_merge_95 : decode b_Mo_merge 95 = .ok (.aload_n 0, 1) := by decide +kernel
theorem d_Mo_merge_96 : decode b_Mo_merge 96 = .ok (.getfield 22, 3) := by decide +kernel
theorem d_Mo_merge_99 : decode b_Mo_merge 99 = .ok (.iload_n 1, 1) := by decide +kernel
theorem d_Mo_merge_100 : decode b_Mo_merge 100 = .ok (.dup2, 1) := by decide +kernel
theorem d_Mo_merge_101 : decode b_Mo_merge 101 = .ok (.iaload, 1) := by decide +kernel
theorem d_Mo_merge_102 : decode b_Mo_merge 102 = .ok (.aload_n 0, 1) := by decide +kernel
theorem d_Mo_merge_103 : decode b_Mo_merge 103 = .ok (.getfield 22, 3) := by decide +kernel
theorem d_Mo_merge_106 : decode b_Mo_merge 106 = .ok (.iload_n 2, 1) := by decide +kernel
theorem d_Mo_merge_107 : decode b_Mo_merge 107 = .ok (.iaload, 1) := by decide +kernel
theorem d_Mo_merge_108 : decode b_Mo_merge 108 = .ok (.iadd, 1) := by decide +kernel
theorem d_Mo_merge_109 : decode b_Mo_merge 109 = .ok (.iastore, 1) := by decide +kernel
theorem d_Mo_merge_110 : decode b_Mo_merge 110 = .ok (.aload_n 0, 1) := by decide +kernel
theorem d_Mo_merge_111 : decode b_Mo_merge 111 = .ok (.getfield 25, 3) := by decide +kernel
theorem d_Mo_merge_114 : decode b_Mo_merge 114 = .ok (.iload_n 1, 1) := by decide +kernel
theorem d_Mo_merge_115 : decode b_Mo_merge 115 = .ok (.aload_n 0, 1) := by decide +kernel
theorem d_Mo_merge_116 : decode b_Mo_merge 116 = .ok (.getfield 25, 3) := by decide +kernel
theorem d_Mo_merge_119 : decode b_Mo_merge 119 = .ok (.iload_n 2, 1) := by decide +kernel
theorem d_Mo_merge_120 : decode b_Mo_merge 120 = .ok (.iaload, 1) := by decide +kernel
theorem d_Mo_merge_121 : decode b_Mo_merge 121 = .ok (.aload_n 0, 1) := by decide +kernel
theorem d_Mo_merge_122 : decode b_Mo_merge 122 = .ok (.getfield 25, 3) := by decide +kernel
theorem d_Mo_merge_125 : decode b_Mo_merge 125 = .ok (.iload_n 1, 1) := by decide +kernel
theorem d_Mo_merge_126 : decode b_Mo_merge 126 = .ok (.iaload, 1) := by decide +kernel
theorem d_Mo_merge_127 : decode b_Mo_merge 127 = .ok (.if_icmp .le 12, 3) := by decide +kernel
theorem d_Mo_merge_130 : decode b_Mo_merge 130 = .ok (.aload_n 0, 1) := by decide +kernel
theorem d_Mo_merge_131 : decode b_Mo_merge 131 = .ok (.getfield 25, 3) := by decide +kernel
theorem d_Mo_merge_134 : decode b_Mo_merge 134 = .ok (.iload_n 2, 1) := by decide +kernel
theorem d_Mo_merge_135 : decode b_Mo_merge 135 = .ok (.iaload, 1) := by decide +kernel
theorem d_Mo_merge_136 : decode b_Mo_merge 136 = .ok (.goto 9, 3) := by decide +kernel
theorem d_Mo_merge_139 : decode b_Mo_merge 139 = .ok (.aload_n 0, 1) := by decide +kernel
theorem d_Mo_merge_140 : decode b_Mo_merge 140 = .ok (.getfield 25, 3) := by decide +kernel
theorem d_Mo_merge_143 : decode b_Mo_merge 143 = .ok (.iload_n 1, 1) := by decide +kernel
theorem d_Mo_merge_144 : decode b_Mo_merge 144 = .ok (.iaload, 1) := by decide +kernel
theorem d_Mo_merge_145 : decode b_Mo_merge 145 = .ok (.iastore, 1) := by decide +kernel
theorem d_Mo_merge_146 : decode b_Mo_merge 146 = .ok (.aload_n 0, 1) := by decide +kernel
theorem d_Mo_merge_147 : decode b_Mo_merge 147 = .ok (.getfield 28, 3) := by decide +kernel
theorem d_Mo_merge_150 : decode b_Mo_merge 150 = .ok (.iload_n 2, 1) := by decide +kernel
theorem d_Mo_merge_151 : decode b_Mo_merge 151 = .ok (.iconst 1, 1) := by decide +kernel
theorem d_Mo_merge_152 : decode b_Mo_merge 152 = .ok (.bastore, 1) := by decide +kernel
theorem d_Mo_merge_153 : decode b_Mo_merge 153 = .ok (.aload_n 0, 1) := by decide +kernel
theorem d_Mo_merge_154 : decode b_Mo_merge 154 = .ok (.getfield 13, 3) := by decide +kernel
theorem d_Mo_merge_157 : decode b_Mo_merge 157 = .ok (.iload_n 1, 1) := by decide +kernel
theorem d_Mo_merge_158 : decode b_Mo_merge 158 = .ok (.iaload, 1) := by decide +kernel
theorem d_Mo_merge_159 : decode b_Mo_merge 159 = .ok (.ireturn, 1) := by decide +kernel
theorem d_Mo_total_0 : decode b_Mo_total 0 = .ok (.iload_n 1, 1) := by decide +kernel
theorem d_Mo_total_1 : decode b_Mo_total 1 = .ok (.iconst 0, 1) := by decide +kernel
theorem d_Mo_total_2 : decode b_Mo_total 2 = .ok (.sipush 20000, 3) := by decide +kernel
theorem d_Mo_total_5 : decode b_Mo_total 5 = .ok (.invokestatic 36, 3) := by decide +kernel
theorem d_Mo_total_8 : decode b_Mo_total 8 = .ok (.ifCond .ne 6, 3) := by decide +kernel
theorem d_Mo_total_11 : decode b_Mo_total 11 = .ok (.bipush (-2), 2) := by decide +kernel
theorem d_Mo_total_13 : decode b_Mo_total 13 = .ok (.ireturn, 1) := by decide +kernel
theorem d_Mo_total_14 : decode b_Mo_total 14 = .ok (.iconst 0, 1) := by decide +kernel
theorem d_Mo_total_15 : decode b_Mo_total 15 = .ok (.istore_n 2, 1) := by decide +kernel
theorem d_Mo_total_16 : decode b_Mo_total 16 = .ok (.iconst 0, 1) := by decide +kernel
theorem d_Mo_total_17 : decode b_Mo_total 17 = .ok (.istore_n 3, 1) := by decide +kernel
theorem d_Mo_total_18 : decode b_Mo_total 18 = .ok (.iload_n 3, 1) := by decide +kernel
theorem d_Mo_total_19 : decode b_Mo_total 19 = .ok (.aload_n 0, 1) := by decide +kernel
theorem d_Mo_total_20 : decode b_Mo_total 20 = .ok (.getfield 32, 3) := by decide +kernel
theorem d_Mo_total_23 : decode b_Mo_total 23 = .ok (.if_icmp .ge 31, 3) := by decide +kernel
theorem d_Mo_total_26 : decode b_Mo_total 26 = .ok (.iload_n 2, 1) := by decide +kernel
theorem d_Mo_total_27 : decode b_Mo_total 27 = .ok (.aload_n 0, 1) := by decide +kernel
theorem d_Mo_total_28 : decode b_Mo_total 28 = .ok (.getfield 28, 3) := by decide +kernel
theorem d_Mo_total_31 : decode b_Mo_total 31 = .ok (.iload_n 3, 1) := by decide +kernel
theorem d_Mo_total_32 : decode b_Mo_total 32 = .ok (.baload, 1) := by decide +kernel
theorem d_Mo_total_33 : decode b_Mo_total 33 = .ok (.ifCond .eq 7, 3) := by decide +kernel
theorem d_Mo_total_36 : decode b_Mo_total 36 = .ok (.iconst 0, 1) := by decide +kernel
theorem d_Mo_total_37 : decode b_Mo_total 37 = .ok (.goto 9, 3) := by decide +kernel
theorem d_Mo_total_40 : decode b_Mo_total 40 = .ok (.aload_n 0, 1) := by decide +kernel
theorem d_Mo_total_41 : decode b_Mo_total 41 = .ok (.iload_n 3, 1) := by decide +kernel
theorem d_Mo_total_42 : decode b_Mo_total 42 = .ok (.iload_n 1, 1) := by decide +kernel
theorem d_Mo_total_43 : decode b_Mo_total 43 = .ok (.invokevirtual 61, 3) := by decide +kernel
theorem d_Mo_total_46 : decode b_Mo_total 46 = .ok (.iadd, 1) := by decide +kernel
theorem d_Mo_total_47 : decode b_Mo_total 47 = .ok (.istore_n 2, 1) := by decide +kernel
theorem d_Mo_total_48 : decode b_Mo_total 48 = .ok (.iinc 3 1, 3) := by decide +kernel
theorem d_Mo_total_51 : decode b_Mo_total 51 = .ok (.goto (-33), 3) := by decide +kernel
theorem d_Mo_total_54 : decode b_Mo_total 54 = .ok (.iload_n 2, 1) := by decide +kernel
theorem d_Mo_total_55 : decode b_Mo_total 55 = .ok (.ireturn, 1) := by decide +kernel
theorem d_Mo_paper_0 : decode b_Mo_paper 0 = .ok (.aload_n 0, 1) := by decide +kernel
theorem d_Mo_paper_1 : decode b_Mo_paper 1 = .ok (.iload_n 1, 1) := by decide +kernel
theorem d_Mo_paper_2 : decode b_Mo_paper 2 = .ok (.invokevirtual 58, 3) := by decide +kernel
theorem d_Mo_paper_5 : decode b_Mo_paper 5 = .ok (.ifCond .ne 5, 3) := by decide +kernel
theorem d_Mo_paper_8 : decode b_Mo_paper 8 = .ok (.iconst (-1), 1) := by decide +kernel
theorem d_Mo_paper_9 : decode b_Mo_paper 9 = .ok (.ireturn, 1) := by decide +kernel
theorem d_Mo_paper_10 : decode b_Mo_paper 10 = .ok (.iload_n 2, 1) := by decide +kernel
theorem d_Mo_paper_11 : decode b_Mo_paper 11 = .ok (.iconst 0, 1) := by decide +kernel
theorem d_Mo_paper_12 : decode b_Mo_paper 12 = .ok (.iconst 5, 1) := by decide +kernel
theorem d_Mo_paper_13 : decode b_Mo_paper 13 = .ok (.invokestatic 36, 3) := by decide +kernel
theorem d_Mo_paper_16 : decode b_Mo_paper 16 = .ok (.ifCond .ne 6, 3) := by decide +kernel
theorem d_Mo_paper_19 : decode b_Mo_paper 19 = .ok (.bipush (-2), 2) := by decide +kernel
theorem d_Mo_paper_21 : decode b_Mo_paper 21 = .ok (.ireturn, 1) := by decide +kernel
theorem d_Mo_paper_22 : decode b_Mo_paper 22 = .ok (.iload_n 2, 1) := by decide +kernel
theorem d_Mo_paper_23 : decode b_Mo_paper 23 = .ok (.tableswitch 68 0 4 #[33, 40, 47, 54, 61], 33) := by decide +kernel
theorem d_Mo_paper_56 : decode b_Mo_paper 56 = .ok (.aload_n 0, 1) := by decide +kernel
theorem d_Mo_paper_57 : decode b_Mo_paper 57 = .ok (.getfield 7, 3) := by decide +kernel
theorem d_Mo_paper_60 : decode b_Mo_paper 60 = .ok (.iload_n 1, 1) := by decide +kernel
theorem d_Mo_paper_61 : decode b_Mo_paper 61 = .ok (.iaload, 1) := by decide +kernel
theorem d_Mo_paper_62 : decode b_Mo_paper 62 = .ok (.ireturn, 1) := by decide +kernel
theorem d_Mo_paper_63 : decode b_Mo_paper 63 = .ok (.aload_n 0, 1) := by decide +kernel
theorem d_Mo_paper_64 : decode b_Mo_paper 64 = .ok (.getfield 13, 3) := by decide +kernel
theorem d_Mo_paper_67 : decode b_Mo_paper 67 = .ok (.iload_n 1, 1) := by decide +kernel
theorem d_Mo_paper_68 : decode b_Mo_paper 68 = .ok (.iaload, 1) := by decide +kernel
theorem d_Mo_paper_69 : decode b_Mo_paper 69 = .ok (.ireturn, 1) := by decide +kernel
theorem d_Mo_paper_70 : decode b_Mo_paper 70 = .ok (.aload_n 0, 1) := by decide +kernel
theorem d_Mo_paper_71 : decode b_Mo_paper 71 = .ok (.getfield 16, 3) := by decide +kernel
theorem d_Mo_paper_74 : decode b_Mo_paper 74 = .ok (.iload_n 1, 1) := by decide +kernel
theorem d_Mo_paper_75 : decode b_Mo_paper 75 = .ok (.iaload, 1) := by decide +kernel
theorem d_Mo_paper_76 : decode b_Mo_paper 76 = .ok (.ireturn, 1) := by decide +kernel
theorem d_Mo_paper_77 : decode b_Mo_paper 77 = .ok (.aload_n 0, 1) := by decide +kernel
theorem d_Mo_paper_78 : decode b_Mo_paper 78 = .ok (.getfield 19, 3) := by decide +kernel
theorem d_Mo_paper_81 : decode b_Mo_paper 81 = .ok (.iload_n 1, 1) := by decide +kernel
theorem d_Mo_paper_82 : decode b_Mo_paper 82 = .ok (.iaload, 1) := by decide +kernel
theorem d_Mo_paper_83 : decode b_Mo_paper 83 = .ok (.ireturn, 1) := by decide +kernel
theorem d_Mo_paper_84 : decode b_Mo_paper 84 = .ok (.aload_n 0, 1) := by decide +kernel
theorem d_Mo_paper_85 : decode b_Mo_paper 85 = .ok (.getfield 22, 3) := by decide +kernel
theorem d_Mo_paper_88 : decode b_Mo_paper 88 = .ok (.iload_n 1, 1) := by decide +kernel
theorem d_Mo_paper_89 : decode b_Mo_paper 89 = .ok (.iaload, 1) := by decide +kernel
theorem d_Mo_paper_90 : decode b_Mo_paper 90 = .ok (.ireturn, 1) := by decide +kernel
theorem d_Mo_paper_91 : decode b_Mo_paper 91 = .ok (.aload_n 0, 1) := by decide +kernel
theorem d_Mo_paper_92 : decode b_Mo_paper 92 = .ok (.iload_n 1, 1) := by decide +kernel
theorem d_Mo_paper_93 : decode b_Mo_paper 93 = .ok (.invokevirtual 40, 3) := by decide +kernel
theorem d_Mo_paper_96 : decode b_Mo_paper 96 = .ok (.ifCond .eq 11, 3) := by decide +kernel
theorem d_Mo_paper_99 : decode b_Mo_paper 99 = .ok (.aload_n 0, 1) := by decide +kernel
theorem d_Mo_paper_100 : decode b_Mo_paper 100 = .ok (.iload_n 1, 1) := by decide +kernel
theorem d_Mo_paper_101 : decode b_Mo_paper 101 = .ok (.invokevirtual 44, 3) := by decide +kernel
theorem d_Mo_paper_104 : decode b_Mo_paper 104 = .ok (.goto 5, 3) := by decide +kernel
theorem d_Mo_paper_107 : decode b_Mo_paper 107 = .ok (.bipush (-3), 2) := by decide +kernel
theorem d_Mo_paper_109 : decode b_Mo_paper 109 = .ok (.ireturn, 1) := by decide +kernel
theorem d_Mo_count_0 : decode b_Mo_count 0 = .ok (.iload_n 1, 1) := by decide +kernel
theorem d_Mo_count_1 : decode b_Mo_count 1 = .ok (.tableswitch 78 0 6 #[43, 48, 53, 58, 63, 68, 73], 43) := by decide +kernel
theorem d_Mo_count_44 : decode b_Mo_count 44 = .ok (.aload_n 0, 1) := by decide +kernel
theorem d_Mo_count_45 : decode b_Mo_count 45 = .ok (.getfield 52, 3) := by decide +kernel
theorem d_Mo_count_48 : decode b_Mo_count 48 = .ok (.ireturn, 1) := by decide +kernel
theorem d_Mo_count_49 : decode b_Mo_count 49 = .ok (.aload_n 0, 1) := by decide +kernel
theorem d_Mo_count_50 : decode b_Mo_count 50 = .ok (.getfield 32, 3) := by decide +kernel
theorem d_Mo_count_53 : decode b_Mo_count 53 = .ok (.ireturn, 1) := by decide +kernel
theorem d_Mo_count_54 : decode b_Mo_count 54 = .ok (.aload_n 0, 1) := by decide +kernel
theorem d_Mo_count_55 : decode b_Mo_count 55 = .ok (.getfield 55, 3) := by decide +kernel
theorem d_Mo_count_58 : decode b_Mo_count 58 = .ok (.ireturn, 1) := by decide +kernel
theorem d_Mo_count_59 : decode b_Mo_count 59 = .ok (.aload_n 0, 1) := by decide +kernel
theorem d_Mo_count_60 : decode b_Mo_count 60 = .ok (.getfield 68, 3) := by decide +kernel
theorem d_Mo_count_63 : decode b_Mo_count 63 = .ok (.ireturn, 1) := by decide +kernel
theorem d_Mo_count_64 : decode b_Mo_count 64 = .ok (.aload_n 0, 1) := by decide +kernel
theorem d_Mo_count_65 : decode b_Mo_count 65 = .ok (.getfield 71, 3) := by decide +kernel
theorem d_Mo_count_68 : decode b_Mo_count 68 = .ok (.ireturn, 1) := by decide +kernel
theorem d_Mo_count_69 : decode b_Mo_count 69 = .ok (.aload_n 0, 1) := by decide +kernel
theorem d_Mo_count_70 : decode b_Mo_count 70 = .ok (.getfield 77, 3) := by decide +kernel
theorem d_Mo_count_73 : decode b_Mo_count 73 = .ok (.ireturn, 1) := by decide +kernel
theorem d_Mo_count_74 : decode b_Mo_count 74 = .ok (.aload_n 0, 1) := by decide +kernel
theorem d_Mo_count_75 : decode b_Mo_count 75 = .ok (.invokevirtual 80, 3) := by decide +kernel
theorem d_Mo_count_78 : decode b_Mo_count 78 = .ok (.ireturn, 1) := by decide +kernel
theorem d_Mo_count_79 : decode b_Mo_count 79 = .ok (.bipush (-2), 2) := by decide +kernel
theorem d_Mo_count_81 : decode b_Mo_count 81 = .ok (.ireturn, 1) := by decide +kernel
theorem d_Mo_leftOfAll_0 : decode b_Mo_leftOfAll 0 = .ok (.iconst 0, 1) := by decide +kernel
theorem d_Mo_leftOfAll_1 : decode b_Mo_leftOfAll 1 = .ok (.istore_n 1, 1) := by decide +kernel
theorem d_Mo_leftOfAll_2 : decode b_Mo_leftOfAll 2 = .ok (.iconst 0, 1) := by decide +kernel
theorem d_Mo_leftOfAll_3 : decode b_Mo_leftOfAll 3 = .ok (.istore_n 2, 1) := by decide +kernel
theorem d_Mo_leftOfAll_4 : decode b_Mo_leftOfAll 4 = .ok (.iload_n 2, 1) := by decide +kernel
theorem d_Mo_leftOfAll_5 : decode b_Mo_leftOfAll 5 = .ok (.aload_n 0, 1) := by decide +kernel
theorem d_Mo_leftOfAll_6 : decode b_Mo_leftOfAll 6 = .ok (.getfield 32, 3) := by decide +kernel
theorem d_Mo_leftOfAll_9 : decode b_Mo_leftOfAll 9 = .ok (.if_icmp .ge 31, 3) := by decide +kernel
theorem d_Mo_leftOfAll_12 : decode b_Mo_leftOfAll 12 = .ok (.iload_n 1, 1) := by decide +kernel
theorem d_Mo_leftOfAll_13 : decode b_Mo_leftOfAll 13 = .ok (.aload_n 0, 1) := by decide +kernel
theorem d_Mo_leftOfAll_14 : decode b_Mo_leftOfAll 14 = .ok (.getfield 28, 3) := by decide +kernel
theorem d_Mo_leftOfAll_17 : decode b_Mo_leftOfAll 17 = .ok (.iload_n 2, 1) := by decide +kernel
theorem d_Mo_leftOfAll_18 : decode b_Mo_leftOfAll 18 = .ok (.baload, 1) := by decide +kernel
theorem d_Mo_leftOfAll_19 : decode b_Mo_leftOfAll 19 = .ok (.ifCond .eq 7, 3) := by decide +kernel
theorem d_Mo_leftOfAll_22 : decode b_Mo_leftOfAll 22 = .ok (.iconst 0, 1) := by decide +kernel
theorem d_Mo_leftOfAll_23 : decode b_Mo_leftOfAll 23 = .ok (.goto 9, 3) := by decide +kernel
theorem d_Mo_leftOfAll_26 : decode b_Mo_leftOfAll 26 = .ok (.aload_n 0, 1) := by decide +kernel
theorem d_Mo_leftOfAll_27 : decode b_Mo_leftOfAll 27 = .ok (.getfield 16, 3) := by decide +kernel
theorem d_Mo_leftOfAll_30 : decode b_Mo_leftOfAll 30 = .ok (.iload_n 2, 1) := by decide +kernel
theorem d_Mo_leftOfAll_31 : decode b_Mo_leftOfAll 31 = .ok (.iaload, 1) := by decide +kernel
theorem d_Mo_leftOfAll_32 : decode b_Mo_leftOfAll 32 = .ok (.iadd, 1) := by decide +kernel
theorem d_Mo_leftOfAll_33 : decode b_Mo_leftOfAll 33 = .ok (.istore_n 1, 1) := by decide +kernel
theorem d_Mo_leftOfAll_34 : decode b_Mo_leftOfAll 34 = .ok (.iinc 2 1, 3) := by decide +kernel
theorem d_Mo_leftOfAll_37 : decode b_Mo_leftOfAll 37 = .ok (.goto (-33), 3) := by decide +kernel
theorem d_Mo_leftOfAll_40 : decode b_Mo_leftOfAll 40 = .ok (.iload_n 1, 1) := by decide +kernel
theorem d_Mo_leftOfAll_41 : decode b_Mo_leftOfAll 41 = .ok (.ireturn, 1) := by decide +kernel
end
section
theorem d_Law_law_0 : decode code 0 = .ok (.new 7, 3) := by decide +kernel
theorem d_Law_law_3 : decode code 3 = .ok (.dup, 1) := by decide +kernel
theorem d_Law_law_4 : decode code 4 = .ok (.invokespecial 9, 3) := by decide +kernel
theorem d_Law_law_7 : decode code 7 = .ok (.astore_n 1, 1) := by decide +kernel
theorem d_Law_law_8 : decode code 8 = .ok (.new 10, 3) := by decide +kernel
theorem d_Law_law_11 : decode code 11 = .ok (.dup, 1) := by decide +kernel
theorem d_Law_law_12 : decode code 12 = .ok (.invokespecial 12, 3) := by decide +kernel
theorem d_Law_law_15 : decode code 15 = .ok (.astore_n 2, 1) := by decide +kernel
theorem d_Law_law_16 : decode code 16 = .ok (.iconst 0, 1) := by decide +kernel
theorem d_Law_law_17 : decode code 17 = .ok (.istore_n 3, 1) := by decide +kernel
theorem d_Law_law_18 : decode code 18 = .ok (.iload_n 3, 1) := by decide +kernel
theorem d_Law_law_19 : decode code 19 = .ok (.aload_n 0, 1) := by decide +kernel
theorem d_Law_law_20 : decode code 20 = .ok (.arraylength, 1) := by decide +kernel
theorem d_Law_law_21 : decode code 21 = .ok (.iconst 3, 1) := by decide +kernel
theorem d_Law_law_22 : decode code 22 = .ok (.isub, 1) := by decide +kernel
theorem d_Law_law_23 : decode code 23 = .ok (.if_icmp .gt 452, 3) := by decide +kernel
theorem d_Law_law_26 : decode code 26 = .ok (.aload_n 0, 1) := by decide +kernel
theorem d_Law_law_27 : decode code 27 = .ok (.iload_n 3, 1) := by decide +kernel
theorem d_Law_law_28 : decode code 28 = .ok (.iaload, 1) := by decide +kernel
theorem d_Law_law_29 : decode code 29 = .ok (.bipush 15, 2) := by decide +kernel
theorem d_Law_law_31 : decode code 31 = .ok (.iand, 1) := by decide +kernel
theorem d_Law_law_32 : decode code 32 = .ok (.tableswitch 437 0 12 #[68, 101, 124, 157, 190, 223, 246, 279, 312, 325, 358, 381, 414], 68) := by decide +kernel
theorem d_Law_law_100 : decode code 100 = .ok (.aload_n 1, 1) := by decide +kernel
theorem d_Law_law_101 : decode code 101 = .ok (.aload_n 0, 1) := by decide +kernel
theorem d_Law_law_102 : decode code 102 = .ok (.iload_n 3, 1) := by decide +kernel
theorem d_Law_law_103 : decode code 103 = .ok (.iconst 1, 1) := by decide +kernel
theorem d_Law_law_104 : decode code 104 = .ok (.iadd, 1) := by decide +kernel
theorem d_Law_law_105 : decode code 105 = .ok (.iaload, 1) := by decide +kernel
theorem d_Law_law_106 : decode code 106 = .ok (.aload_n 0, 1) := by decide +kernel
theorem d_Law_law_107 : decode code 107 = .ok (.iload_n 3, 1) := by decide +kernel
theorem d_Law_law_108 : decode code 108 = .ok (.iconst 2, 1) := by decide +kernel
theorem d_Law_law_109 : decode code 109 = .ok (.iadd, 1) := by decide +kernel
theorem d_Law_law_110 : decode code 110 = .ok (.iaload, 1) := by decide +kernel
theorem d_Law_law_111 : decode code 111 = .ok (.invokevirtual 13, 3) := by decide +kernel
theorem d_Law_law_114 : decode code 114 = .ok (.aload_n 2, 1) := by decide +kernel
theorem d_Law_law_115 : decode code 115 = .ok (.aload_n 0, 1) := by decide +kernel
theorem d_Law_law_116 : decode code 116 = .ok (.iload_n 3, 1) := by decide +kernel
theorem d_Law_law_117 : decode code 117 = .ok (.iconst 1, 1) := by decide +kernel
theorem d_Law_law_118 : decode code 118 = .ok (.iadd, 1) := by decide +kernel
theorem d_Law_law_119 : decode code 119 = .ok (.iaload, 1) := by decide +kernel
theorem d_Law_law_120 : decode code 120 = .ok (.aload_n 0, 1) := by decide +kernel
theorem d_Law_law_121 : decode code 121 = .ok (.iload_n 3, 1) := by decide +kernel
theorem d_Law_law_122 : decode code 122 = .ok (.iconst 2, 1) := by decide +kernel
theorem d_Law_law_123 : decode code 123 = .ok (.iadd, 1) := by decide +kernel
theorem d_Law_law_124 : decode code 124 = .ok (.iaload, 1) := by decide +kernel
theorem d_Law_law_125 : decode code 125 = .ok (.invokevirtual 17, 3) := by decide +kernel
theorem d_Law_law_128 : decode code 128 = .ok (.if_icmp .eq 341, 3) := by decide +kernel
theorem d_Law_law_131 : decode code 131 = .ok (.iconst 0, 1) := by decide +kernel
theorem d_Law_law_132 : decode code 132 = .ok (.ireturn, 1) := by decide +kernel
theorem d_Law_law_133 : decode code 133 = .ok (.aload_n 1, 1) := by decide +kernel
theorem d_Law_law_134 : decode code 134 = .ok (.aload_n 0, 1) := by decide +kernel
theorem d_Law_law_135 : decode code 135 = .ok (.iload_n 3, 1) := by decide +kernel
theorem d_Law_law_136 : decode code 136 = .ok (.iconst 1, 1) := by decide +kernel
theorem d_Law_law_137 : decode code 137 = .ok (.iadd, 1) := by decide +kernel
theorem d_Law_law_138 : decode code 138 = .ok (.iaload, 1) := by decide +kernel
theorem d_Law_law_139 : decode code 139 = .ok (.invokevirtual 18, 3) := by decide +kernel
theorem d_Law_law_142 : decode code 142 = .ok (.aload_n 2, 1) := by decide +kernel
theorem d_Law_law_143 : decode code 143 = .ok (.aload_n 0, 1) := by decide +kernel
theorem d_Law_law_144 : decode code 144 = .ok (.iload_n 3, 1) := by decide +kernel
theorem d_Law_law_145 : decode code 145 = .ok (.iconst 1, 1) := by decide +kernel
theorem d_Law_law_146 : decode code 146 = .ok (.iadd, 1) := by decide +kernel
theorem d_Law_law_147 : decode code 147 = .ok (.iaload, 1) := by decide +kernel
theorem d_Law_law_148 : decode code 148 = .ok (.invokevirtual 22, 3) := by decide +kernel
theorem d_Law_law_151 : decode code 151 = .ok (.if_icmp .eq 318, 3) := by decide +kernel
theorem d_Law_law_154 : decode code 154 = .ok (.iconst 0, 1) := by decide +kernel
theorem d_Law_law_155 : decode code 155 = .ok (.ireturn, 1) := by decide +kernel
theorem d_Law_law_156 : decode code 156 = .ok (.aload_n 1, 1) := by decide +kernel
theorem d_Law_law_157 : decode code 157 = .ok (.aload_n 0, 1) := by decide +kernel
theorem d_Law_law_158 : decode code 158 = .ok (.iload_n 3, 1) := by decide +kernel
theorem d_Law_law_159 : decode code 159 = .ok (.iconst 1, 1) := by decide +kernel
theorem d_Law_law_160 : decode code 160 = .ok (.iadd, 1) := by decide +kernel
theorem d_Law_law_161 : decode code 161 = .ok (.iaload, 1) := by decide +kernel
theorem d_Law_law_162 : decode code 162 = .ok (.aload_n 0, 1) := by decide +kernel
theorem d_Law_law_163 : decode code 163 = .ok (.iload_n 3, 1) := by decide +kernel
theorem d_Law_law_164 : decode code 164 = .ok (.iconst 2, 1) := by decide +kernel
theorem d_Law_law_165 : decode code 165 = .ok (.iadd, 1) := by decide +kernel
theorem d_Law_law_166 : decode code 166 = .ok (.iaload, 1) := by decide +kernel
theorem d_Law_law_167 : decode code 167 = .ok (.invokevirtual 23, 3) := by decide +kernel
theorem d_Law_law_170 : decode code 170 = .ok (.aload_n 2, 1) := by decide +kernel
theorem d_Law_law_171 : decode code 171 = .ok (.aload_n 0, 1) := by decide +kernel
theorem d_Law_law_172 : decode code 172 = .ok (.iload_n 3, 1) := by decide +kernel
theorem d_Law_law_173 : decode code 173 = .ok (.iconst 1, 1) := by decide +kernel
theorem d_Law_law_174 : decode code 174 = .ok (.iadd, 1) := by decide +kernel
theorem d_Law_law_175 : decode code 175 = .ok (.iaload, 1) := by decide +kernel
theorem d_Law_law_176 : decode code 176 = .ok (.aload_n 0, 1) := by decide +kernel
theorem d_Law_law_177 : decode code 177 = .ok (.iload_n 3, 1) := by decide +kernel
theorem d_Law_law_178 : decode code 178 = .ok (.iconst 2, 1) := by decide +kernel
theorem d_Law_law_179 : decode code 179 = .ok (.iadd, 1) := by decide +kernel
theorem d_Law_law_180 : decode code 180 = .ok (.iaload, 1) := by decide +kernel
theorem d_Law_law_181 : decode code 181 = .ok (.invokevirtual 26, 3) := by decide +kernel
theorem d_Law_law_184 : decode code 184 = .ok (.if_icmp .eq 285, 3) := by decide +kernel
theorem d_Law_law_187 : decode code 187 = .ok (.iconst 0, 1) := by decide +kernel
theorem d_Law_law_188 : decode code 188 = .ok (.ireturn, 1) := by decide +kernel
theorem d_Law_law_189 : decode code 189 = .ok (.aload_n 1, 1) := by decide +kernel
theorem d_Law_law_190 : decode code 190 = .ok (.aload_n 0, 1) := by decide +kernel
theorem d_Law_law_191 : decode code 191 = .ok (.iload_n 3, 1) := by decide +kernel
theorem d_Law_law_192 : decode code 192 = .ok (.iconst 1, 1) := by decide +kernel
theorem d_Law_law_193 : decode code 193 = .ok (.iadd, 1) := by decide +kernel
theorem d_Law_law_194 : decode code 194 = .ok (.iaload, 1) := by decide +kernel
theorem d_Law_law_195 : decode code 195 = .ok (.aload_n 0, 1) := by decide +kernel
theorem d_Law_law_196 : decode code 196 = .ok (.iload_n 3, 1) := by decide +kernel
theorem d_Law_law_197 : decode code 197 = .ok (.iconst 2, 1) := by decide +kernel
theorem d_Law_law_198 : decode code 198 = .ok (.iadd, 1) := by decide +kernel
theorem d_Law_law_199 : decode code 199 = .ok (.iaload, 1) := by decide +kernel
theorem d_Law_law_200 : decode code 200 = .ok (.invokevirtual 27, 3) := by decide +kernel
theorem d_Law_law_203 : decode code 203 = .ok (.aload_n 2, 1) := by decide +kernel
theorem d_Law_law_204 : decode code 204 = .ok (.aload_n 0, 1) := by decide +kernel
theorem d_Law_law_205 : decode code 205 = .ok (.iload_n 3, 1) := by decide +kernel
theorem d_Law_law_206 : decode code 206 = .ok (.iconst 1, 1) := by decide +kernel
theorem d_Law_law_207 : decode code 207 = .ok (.iadd, 1) := by decide +kernel
theorem d_Law_law_208 : decode code 208 = .ok (.iaload, 1) := by decide +kernel
theorem d_Law_law_209 : decode code 209 = .ok (.aload_n 0, 1) := by decide +kernel
theorem d_Law_law_210 : decode code 210 = .ok (.iload_n 3, 1) := by decide +kernel
theorem d_Law_law_211 : decode code 211 = .ok (.iconst 2, 1) := by decide +kernel
theorem d_Law_law_212 : decode code 212 = .ok (.iadd, 1) := by decide +kernel
theorem d_Law_law_213 : decode code 213 = .ok (.iaload, 1) := by decide +kernel
theorem d_Law_law_214 : decode code 214 = .ok (.invokevirtual 30, 3) := by decide +kernel
theorem d_Law_law_217 : decode code 217 = .ok (.if_icmp .eq 252, 3) := by decide +kernel
theorem d_Law_law_220 : decode code 220 = .ok (.iconst 0, 1) := by decide +kernel
theorem d_Law_law_221 : decode code 221 = .ok (.ireturn, 1) := by decide +kernel
theorem d_Law_law_222 : decode code 222 = .ok (.aload_n 1, 1) := by decide +kernel
theorem d_Law_law_223 : decode code 223 = .ok (.aload_n 0, 1) := by decide +kernel
theorem d_Law_law_224 : decode code 224 = .ok (.iload_n 3, 1) := by decide +kernel
theorem d_Law_law_225 : decode code 225 = .ok (.iconst 1, 1) := by decide +kernel
theorem d_Law_law_226 : decode code 226 = .ok (.iadd, 1) := by decide +kernel
theorem d_Law_law_227 : decode code 227 = .ok (.iaload, 1) := by decide +kernel
theorem d_Law_law_228 : decode code 228 = .ok (.aload_n 0, 1) := by decide +kernel
theorem d_Law_law_229 : decode code 229 = .ok (.iload_n 3, 1) := by decide +kernel
theorem d_Law_law_230 : decode code 230 = .ok (.iconst 2, 1) := by decide +kernel
theorem d_Law_law_231 : decode code 231 = .ok (.iadd, 1) := by decide +kernel
theorem d_Law_law_232 : decode code 232 = .ok (.iaload, 1) := by decide +kernel
theorem d_Law_law_233 : decode code 233 = .ok (.invokevirtual 31, 3) := by decide +kernel
theorem d_Law_law_236 : decode code 236 = .ok (.aload_n 2, 1) := by decide +kernel
theorem d_Law_law_237 : decode code 237 = .ok (.aload_n 0, 1) := by decide +kernel
theorem d_Law_law_238 : decode code 238 = .ok (.iload_n 3, 1) := by decide +kernel
theorem d_Law_law_239 : decode code 239 = .ok (.iconst 1, 1) := by decide +kernel
theorem d_Law_law_240 : decode code 240 = .ok (.iadd, 1) := by decide +kernel
theorem d_Law_law_241 : decode code 241 = .ok (.iaload, 1) := by decide +kernel
theorem d_Law_law_242 : decode code 242 = .ok (.aload_n 0, 1) := by decide +kernel
theorem d_Law_law_243 : decode code 243 = .ok (.iload_n 3, 1) := by decide +kernel
theorem d_Law_law_244 : decode code 244 = .ok (.iconst 2, 1) := by decide +kernel
theorem d_Law_law_245 : decode code 245 = .ok (.iadd, 1) := by decide +kernel
theorem d_Law_law_246 : decode code 246 = .ok (.iaload, 1) := by decide +kernel
theorem d_Law_law_247 : decode code 247 = .ok (.invokevirtual 34, 3) := by decide +kernel
theorem d_Law_law_250 : decode code 250 = .ok (.if_icmp .eq 219, 3) := by decide +kernel
theorem d_Law_law_253 : decode code 253 = .ok (.iconst 0, 1) := by decide +kernel
theorem d_Law_law_254 : decode code 254 = .ok (.ireturn, 1) := by decide +kernel
theorem d_Law_law_255 : decode code 255 = .ok (.aload_n 1, 1) := by decide +kernel
theorem d_Law_law_256 : decode code 256 = .ok (.aload_n 0, 1) := by decide +kernel
theorem d_Law_law_257 : decode code 257 = .ok (.iload_n 3, 1) := by decide +kernel
theorem d_Law_law_258 : decode code 258 = .ok (.iconst 1, 1) := by decide +kernel
theorem d_Law_law_259 : decode code 259 = .ok (.iadd, 1) := by decide +kernel
theorem d_Law_law_260 : decode code 260 = .ok (.iaload, 1) := by decide +kernel
theorem d_Law_law_261 : decode code 261 = .ok (.invokevirtual 35, 3) := by decide +kernel
theorem d_Law_law_264 : decode code 264 = .ok (.aload_n 2, 1) := by decide +kernel
theorem d_Law_law_265 : decode code 265 = .ok (.aload_n 0, 1) := by decide +kernel
theorem d_Law_law_266 : decode code 266 = .ok (.iload_n 3, 1) := by decide +kernel
theorem d_Law_law_267 : decode code 267 = .ok (.iconst 1, 1) := by decide +kernel
theorem d_Law_law_268 : decode code 268 = .ok (.iadd, 1) := by decide +kernel
theorem d_Law_law_269 : decode code 269 = .ok (.iaload, 1) := by decide +kernel
theorem d_Law_law_270 : decode code 270 = .ok (.invokevirtual 38, 3) := by decide +kernel
theorem d_Law_law_273 : decode code 273 = .ok (.if_icmp .eq 196, 3) := by decide +kernel
theorem d_Law_law_276 : decode code 276 = .ok (.iconst 0, 1) := by decide +kernel
theorem d_Law_law_277 : decode code 277 = .ok (.ireturn, 1) := by decide +kernel
theorem d_Law_law_278 : decode code 278 = .ok (.aload_n 1, 1) := by decide +kernel
theorem d_Law_law_279 : decode code 279 = .ok (.aload_n 0, 1) := by decide +kernel
theorem d_Law_law_280 : decode code 280 = .ok (.iload_n 3, 1) := by decide +kernel
theorem d_Law_law_281 : decode code 281 = .ok (.iconst 1, 1) := by decide +kernel
theorem d_Law_law_282 : decode code 282 = .ok (.iadd, 1) := by decide +kernel
theorem d_Law_law_283 : decode code 283 = .ok (.iaload, 1) := by decide +kernel
theorem d_Law_law_284 : decode code 284 = .ok (.aload_n 0, 1) := by decide +kernel
theorem d_Law_law_285 : decode code 285 = .ok (.iload_n 3, 1) := by decide +kernel
theorem d_Law_law_286 : decode code 286 = .ok (.iconst 2, 1) := by decide +kernel
theorem d_Law_law_287 : decode code 287 = .ok (.iadd, 1) := by decide +kernel
theorem d_Law_law_288 : decode code 288 = .ok (.iaload, 1) := by decide +kernel
theorem d_Law_law_289 : decode code 289 = .ok (.invokevirtual 39, 3) := by decide +kernel
theorem d_Law_law_292 : decode code 292 = .ok (.aload_n 2, 1) := by decide +kernel
theorem d_Law_law_293 : decode code 293 = .ok (.aload_n 0, 1) := by decide +kernel
theorem d_Law_law_294 : decode code 294 = .ok (.iload_n 3, 1) := by decide +kernel
theorem d_Law_law_295 : decode code 295 = .ok (.iconst 1, 1) := by decide +kernel
theorem d_Law_law_296 : decode code 296 = .ok (.iadd, 1) := by decide +kernel
theorem d_Law_law_297 : decode code 297 = .ok (.iaload, 1) := by decide +kernel
theorem d_Law_law_298 : decode code 298 = .ok (.aload_n 0, 1) := by decide +kernel
theorem d_Law_law_299 : decode code 299 = .ok (.iload_n 3, 1) := by decide +kernel
theorem d_Law_law_300 : decode code 300 = .ok (.iconst 2, 1) := by decide +kernel
theorem d_Law_law_301 : decode code 301 = .ok (.iadd, 1) := by decide +kernel
theorem d_Law_law_302 : decode code 302 = .ok (.iaload, 1) := by decide +kernel
theorem d_Law_law_303 : decode code 303 = .ok (.invokevirtual 42, 3) := by decide +kernel
theorem d_Law_law_306 : decode code 306 = .ok (.if_icmp .eq 163, 3) := by decide +kernel
theorem d_Law_law_309 : decode code 309 = .ok (.iconst 0, 1) := by decide +kernel
theorem d_Law_law_310 : decode code 310 = .ok (.ireturn, 1) := by decide +kernel
theorem d_Law_law_311 : decode code 311 = .ok (.aload_n 1, 1) := by decide +kernel
theorem d_Law_law_312 : decode code 312 = .ok (.aload_n 0, 1) := by decide +kernel
theorem d_Law_law_313 : decode code 313 = .ok (.iload_n 3, 1) := by decide +kernel
theorem d_Law_law_314 : decode code 314 = .ok (.iconst 1, 1) := by decide +kernel
theorem d_Law_law_315 : decode code 315 = .ok (.iadd, 1) := by decide +kernel
theorem d_Law_law_316 : decode code 316 = .ok (.iaload, 1) := by decide +kernel
theorem d_Law_law_317 : decode code 317 = .ok (.aload_n 0, 1) := by decide +kernel
theorem d_Law_law_318 : decode code 318 = .ok (.iload_n 3, 1) := by decide +kernel
theorem d_Law_law_319 : decode code 319 = .ok (.iconst 2, 1) := by decide +kernel
theorem d_Law_law_320 : decode code 320 = .ok (.iadd, 1) := by decide +kernel
theorem d_Law_law_321 : decode code 321 = .ok (.iaload, 1) := by decide +kernel
theorem d_Law_law_322 : decode code 322 = .ok (.invokevirtual 43, 3) := by decide +kernel
theorem d_Law_law_325 : decode code 325 = .ok (.aload_n 2, 1) := by decide +kernel
theorem d_Law_law_326 : decode code 326 = .ok (.aload_n 0, 1) := by decide +kernel
theorem d_Law_law_327 : decode code 327 = .ok (.iload_n 3, 1) := by decide +kernel
theorem d_Law_law_328 : decode code 328 = .ok (.iconst 1, 1) := by decide +kernel
theorem d_Law_law_329 : decode code 329 = .ok (.iadd, 1) := by decide +kernel
theorem d_Law_law_330 : decode code 330 = .ok (.iaload, 1) := by decide +kernel
theorem d_Law_law_331 : decode code 331 = .ok (.aload_n 0, 1) := by decide +kernel
theorem d_Law_law_332 : decode code 332 = .ok (.iload_n 3, 1) := by decide +kernel
theorem d_Law_law_333 : decode code 333 = .ok (.iconst 2, 1) := by decide +kernel
theorem d_Law_law_334 : decode code 334 = .ok (.iadd, 1) := by decide +kernel
theorem d_Law_law_335 : decode code 335 = .ok (.iaload, 1) := by decide +kernel
theorem d_Law_law_336 : decode code 336 = .ok (.invokevirtual 46, 3) := by decide +kernel
theorem d_Law_law_339 : decode code 339 = .ok (.if_icmp .eq 130, 3) := by decide +kernel
theorem d_Law_law_342 : decode code 342 = .ok (.iconst 0, 1) := by decide +kernel
theorem d_Law_law_343 : decode code 343 = .ok (.ireturn, 1) := by decide +kernel
theorem d_Law_law_344 : decode code 344 = .ok (.aload_n 1, 1) := by decide +kernel
theorem d_Law_law_345 : decode code 345 = .ok (.invokevirtual 47, 3) := by decide +kernel
theorem d_Law_law_348 : decode code 348 = .ok (.aload_n 2, 1) := by decide +kernel
theorem d_Law_law_349 : decode code 349 = .ok (.invokevirtual 51, 3) := by decide +kernel
theorem d_Law_law_352 : decode code 352 = .ok (.if_icmp .eq 117, 3) := by decide +kernel
theorem d_Law_law_355 : decode code 355 = .ok (.iconst 0, 1) := by decide +kernel
theorem d_Law_law_356 : decode code 356 = .ok (.ireturn, 1) := by decide +kernel
theorem d_Law_law_357 : decode code 357 = .ok (.aload_n 1, 1) := by decide +kernel
theorem d_Law_law_358 : decode code 358 = .ok (.aload_n 0, 1) := by decide +kernel
theorem d_Law_law_359 : decode code 359 = .ok (.iload_n 3, 1) := by decide +kernel
theorem d_Law_law_360 : decode code 360 = .ok (.iconst 1, 1) := by decide +kernel
theorem d_Law_law_361 : decode code 361 = .ok (.iadd, 1) := by decide +kernel
theorem d_Law_law_362 : decode code 362 = .ok (.iaload, 1) := by decide +kernel
theorem d_Law_law_363 : decode code 363 = .ok (.aload_n 0, 1) := by decide +kernel
theorem d_Law_law_364 : decode code 364 = .ok (.iload_n 3, 1) := by decide +kernel
theorem d_Law_law_365 : decode code 365 = .ok (.iconst 2, 1) := by decide +kernel
theorem d_Law_law_366 : decode code 366 = .ok (.iadd, 1) := by decide +kernel
theorem d_Law_law_367 : decode code 367 = .ok (.iaload, 1) := by decide +kernel
theorem d_Law_law_368 : decode code 368 = .ok (.invokevirtual 52, 3) := by decide +kernel
theorem d_Law_law_371 : decode code 371 = .ok (.aload_n 2, 1) := by decide +kernel
theorem d_Law_law_372 : decode code 372 = .ok (.aload_n 0, 1) := by decide +kernel
theorem d_Law_law_373 : decode code 373 = .ok (.iload_n 3, 1) := by decide +kernel
theorem d_Law_law_374 : decode code 374 = .ok (.iconst 1, 1) := by decide +kernel
theorem d_Law_law_375 : decode code 375 = .ok (.iadd, 1) := by decide +kernel
theorem d_Law_law_376 : decode code 376 = .ok (.iaload, 1) := by decide +kernel
theorem d_Law_law_377 : decode code 377 = .ok (.aload_n 0, 1) := by decide +kernel
theorem d_Law_law_378 : decode code 378 = .ok (.iload_n 3, 1) := by decide +kernel
theorem d_Law_law_379 : decode code 379 = .ok (.iconst 2, 1) := by decide +kernel
theorem d_Law_law_380 : decode code 380 = .ok (.iadd, 1) := by decide +kernel
theorem d_Law_law_381 : decode code 381 = .ok (.iaload, 1) := by decide +kernel
theorem d_Law_law_382 : decode code 382 = .ok (.invokevirtual 55, 3) := by decide +kernel
theorem d_Law_law_385 : decode code 385 = .ok (.if_icmp .eq 84, 3) := by decide +kernel
theorem d_Law_law_388 : decode code 388 = .ok (.iconst 0, 1) := by decide +kernel
theorem d_Law_law_389 : decode code 389 = .ok (.ireturn, 1) := by decide +kernel
theorem d_Law_law_390 : decode code 390 = .ok (.aload_n 1, 1) := by decide +kernel
theorem d_Law_law_391 : decode code 391 = .ok (.aload_n 0, 1) := by decide +kernel
theorem d_Law_law_392 : decode code 392 = .ok (.iload_n 3, 1) := by decide +kernel
theorem d_Law_law_393 : decode code 393 = .ok (.iconst 1, 1) := by decide +kernel
theorem d_Law_law_394 : decode code 394 = .ok (.iadd, 1) := by decide +kernel
theorem d_Law_law_395 : decode code 395 = .ok (.iaload, 1) := by decide +kernel
theorem d_Law_law_396 : decode code 396 = .ok (.invokevirtual 56, 3) := by decide +kernel
theorem d_Law_law_399 : decode code 399 = .ok (.aload_n 2, 1) := by decide +kernel
theorem d_Law_law_400 : decode code 400 = .ok (.aload_n 0, 1) := by decide +kernel
theorem d_Law_law_401 : decode code 401 = .ok (.iload_n 3, 1) := by decide +kernel
theorem d_Law_law_402 : decode code 402 = .ok (.iconst 1, 1) := by decide +kernel
theorem d_Law_law_403 : decode code 403 = .ok (.iadd, 1) := by decide +kernel
theorem d_Law_law_404 : decode code 404 = .ok (.iaload, 1) := by decide +kernel
theorem d_Law_law_405 : decode code 405 = .ok (.invokevirtual 59, 3) := by decide +kernel
theorem d_Law_law_408 : decode code 408 = .ok (.if_icmp .eq 61, 3) := by decide +kernel
theorem d_Law_law_411 : decode code 411 = .ok (.iconst 0, 1) := by decide +kernel
theorem d_Law_law_412 : decode code 412 = .ok (.ireturn, 1) := by decide +kernel
theorem d_Law_law_413 : decode code 413 = .ok (.aload_n 1, 1) := by decide +kernel
theorem d_Law_law_414 : decode code 414 = .ok (.aload_n 0, 1) := by decide +kernel
theorem d_Law_law_415 : decode code 415 = .ok (.iload_n 3, 1) := by decide +kernel
theorem d_Law_law_416 : decode code 416 = .ok (.iconst 1, 1) := by decide +kernel
theorem d_Law_law_417 : decode code 417 = .ok (.iadd, 1) := by decide +kernel
theorem d_Law_law_418 : decode code 418 = .ok (.iaload, 1) := by decide +kernel
theorem d_Law_law_419 : decode code 419 = .ok (.aload_n 0, 1) := by decide +kernel
theorem d_Law_law_420 : decode code 420 = .ok (.iload_n 3, 1) := by decide +kernel
theorem d_Law_law_421 : decode code 421 = .ok (.iconst 2, 1) := by decide +kernel
theorem d_Law_law_422 : decode code 422 = .ok (.iadd, 1) := by decide +kernel
theorem d_Law_law_423 : decode code 423 = .ok (.iaload, 1) := by decide +kernel
theorem d_Law_law_424 : decode code 424 = .ok (.invokevirtual 60, 3) := by decide +kernel
theorem d_Law_law_427 : decode code 427 = .ok (.aload_n 2, 1) := by decide +kernel
theorem d_Law_law_428 : decode code 428 = .ok (.aload_n 0, 1) := by decide +kernel
theorem d_Law_law_429 : decode code 429 = .ok (.iload_n 3, 1) := by decide +kernel
theorem d_Law_law_430 : decode code 430 = .ok (.iconst 1, 1) := by decide +kernel
theorem d_Law_law_431 : decode code 431 = .ok (.iadd, 1) := by decide +kernel
theorem d_Law_law_432 : decode code 432 = .ok (.iaload, 1) := by decide +kernel
theorem d_Law_law_433 : decode code 433 = .ok (.aload_n 0, 1) := by decide +kernel
theorem d_Law_law_434 : decode code 434 = .ok (.iload_n 3, 1) := by decide +kernel
theorem d_Law_law_435 : decode code 435 = .ok (.iconst 2, 1) := by decide +kernel
theorem d_Law_law_436 : decode code 436 = .ok (.iadd, 1) := by decide +kernel
theorem d_Law_law_437 : decode code 437 = .ok (.iaload, 1) := by decide +kernel
theorem d_Law_law_438 : decode code 438 = .ok (.invokevirtual 63, 3) := by decide +kernel
theorem d_Law_law_441 : decode code 441 = .ok (.if_icmp .eq 28, 3) := by decide +kernel
theorem d_Law_law_444 : decode code 444 = .ok (.iconst 0, 1) := by decide +kernel
theorem d_Law_law_445 : decode code 445 = .ok (.ireturn, 1) := by decide +kernel
theorem d_Law_law_446 : decode code 446 = .ok (.aload_n 1, 1) := by decide +kernel
theorem d_Law_law_447 : decode code 447 = .ok (.aload_n 0, 1) := by decide +kernel
theorem d_Law_law_448 : decode code 448 = .ok (.iload_n 3, 1) := by decide +kernel
theorem d_Law_law_449 : decode code 449 = .ok (.iconst 1, 1) := by decide +kernel
theorem d_Law_law_450 : decode code 450 = .ok (.iadd, 1) := by decide +kernel
theorem d_Law_law_451 : decode code 451 = .ok (.iaload, 1) := by decide +kernel
theorem d_Law_law_452 : decode code 452 = .ok (.invokevirtual 64, 3) := by decide +kernel
theorem d_Law_law_455 : decode code 455 = .ok (.aload_n 2, 1) := by decide +kernel
theorem d_Law_law_456 : decode code 456 = .ok (.aload_n 0, 1) := by decide +kernel
theorem d_Law_law_457 : decode code 457 = .ok (.iload_n 3, 1) := by decide +kernel
theorem d_Law_law_458 : decode code 458 = .ok (.iconst 1, 1) := by decide +kernel
theorem d_Law_law_459 : decode code 459 = .ok (.iadd, 1) := by decide +kernel
theorem d_Law_law_460 : decode code 460 = .ok (.iaload, 1) := by decide +kernel
theorem d_Law_law_461 : decode code 461 = .ok (.invokevirtual 67, 3) := by decide +kernel
theorem d_Law_law_464 : decode code 464 = .ok (.if_icmp .eq 5, 3) := by decide +kernel
theorem d_Law_law_467 : decode code 467 = .ok (.iconst 0, 1) := by decide +kernel
theorem d_Law_law_468 : decode code 468 = .ok (.ireturn, 1) := by decide +kernel
theorem d_Law_law_469 : decode code 469 = .ok (.iinc 3 3, 3) := by decide +kernel
theorem d_Law_law_472 : decode code 472 = .ok (.goto (-454), 3) := by decide +kernel
theorem d_Law_law_475 : decode code 475 = .ok (.iconst 1, 1) := by decide +kernel
theorem d_Law_law_476 : decode code 476 = .ok (.ireturn, 1) := by decide +kernel
end
section
-- what a paper answers, in Java's own words: kind, from, amount, left, ext
abbrev pc5 (k : Nat) (kd fr am lf ex : Int32) : va_E := .inr (k, [.int kd, .int fr, .int am, .int lf, .int ex])
def ldV (k : Nat) (fr : Int32) : Int32 := match k with
  | 3 => fr + 30
  | _ => fr + 90
def ovV (k : Nat) (fr day : Int32) : Int32 := if day ≤ ldV k fr then 0 else 1
def dlV (k : Nat) (fr day : Int32) : Int32 := if ovV k fr day = 0 then ldV k fr - day else 0
def rdV (lf : Int32) : Int32 := lf - (lf - lf / 10 * 10)
def swV (k : Nat) (fr lf day : Int32) : Int32 := if ovV k fr day = 0 then lf else 0
def wV (k : Nat) (fr lf ex day : Int32) : Int32 := match k with
  | 0 => lf
  | 1 => lf
  | 2 => swV 2 fr lf day
  | 3 => swV 3 fr lf day - swV 3 fr lf day / 10
  | 4 => rdV lf
  | 5 => rdV lf
  | 6 => rdV lf + ex
  | _ => if day - day / 7 * 7 = 0 then 2 * (rdV lf + ex) else rdV lf + ex
def ptV (k : Nat) (ex : Int32) : Int32 := match k with
  | 6 => 0 + ex
  | 7 => 0 + ex
  | _ => 0
def fbV (g : Int32) : Int32 := g / 50 + 1
def fV (k : Nat) (ex g : Int32) : Int32 := match k with
  | 3 => fbV g / 2
  | 7 => if 0 ≤ fbV g - (0 + ex) then fbV g - (0 + ex) else 0
  | _ => fbV g
def sbV (fr am lf : Int32) : Int32 := (lf * 31 + fr) * 31 + am
def slV (k : Nat) (fr am lf ex : Int32) : Int32 := match k with
  | 2 => sbV fr am lf + ldV 2 fr
  | 3 => sbV fr am lf + ldV 3 fr
  | 7 => sbV fr am lf + 3 * (0 + ex)
  | _ => sbV fr am lf
/-- Paper.spend's answer: 0, or -5 -/
def spR (k : Nat) (fr lf ex g day : Int32) : Int32 := if wV k fr lf ex day < g then -5 else if g + fV k ex g ≤ lf then 0 else -5
def spL (k : Nat) (fr lf ex g day : Int32) : Int32 := if wV k fr lf ex day < g then lf else if g + fV k ex g ≤ lf then lf - (g + fV k ex g) else lf
/-- spend: the answer, what is left, ext -/
def saV (k : Nat) (fr lf ex g day : Int32) : Int32 := match k with
  | 3 => if ex = day then -6 else spR 3 fr lf ex g day
  | _ => spR k fr lf ex g day
def snL (k : Nat) (fr lf ex g day : Int32) : Int32 := match k with
  | 3 => if ex = day then lf else spL 3 fr lf ex g day
  | _ => spL k fr lf ex g day
def snX (k : Nat) (fr lf ex g day : Int32) : Int32 := match k with
  | 3 => if ex = day then ex else if spR 3 fr lf ex g day = 0 then day else ex
  | 6 => if spR 6 fr lf ex g day = 0 then ex + g / 100 else ex
  | 7 => if spR 7 fr lf ex g day = 0 then ex + g / 100 else ex
  | _ => ex
/-- take: ext behind it -/
def tkX (k : Nat) (ex ex2 : Int32) : Int32 := match k with
  | 3 => if ex2 ≤ ex then ex else ex2
  | 6 => ex + ptV 6 ex2
  | 7 => ex + ptV 7 ex2
  | _ => ex
theorem pI : parseFieldDescriptor "I" = some .int := by decide +kernel
theorem zh_cls {k : Nat} (h : k = 6 ∨ k = 7) : classes[k]? = some (Rk k, Fk 6, 5) := by rcases h with rfl | rfl <;> rfl
theorem zh_in {k : Nat} (h : k = 6 ∨ k = 7) : ∀ w ∈ u_ws (Rk k) (Fk 6) 5, w ∈ gw := by rcases h with rfl | rfl; exact zk_in6; exact zk_in7
theorem zh_lt {k : Nat} (h : k = 6 ∨ k = 7) : k < 8 := by rcases h with rfl | rfl <;> decide
theorem zd_lt {k : Nat} (h : k = 2 ∨ k = 3) : k < 8 := by rcases h with rfl | rfl <;> decide
theorem z4 {k : Nat} (hk : k < 8) {j : Nat} (hj : j < 4) : j < Nk k := Nat.lt_of_lt_of_le hj (zk_N hk).1
/-- an answer, and how the heap moves -/
def ZA (v : Option Value) (F : Heap → Heap → Prop) : Option Value → Heap → Heap → Prop := fun v' H H1 => v' = v ∧ F H H1
/-- a paper's cell, and nothing else, may change -/
def ZF1 (G : ZG) (a : Nat) (e' : va_E) : Heap → Heap → Prop := fun H H1 => va_at G.1 classes (a, e') H1 ∧ H.size ≤ H1.size ∧ ∀ q : Nat, q < H.size → q ≠ a → H1[q]? = H[q]?
theorem zD1 {a : Nat} {e0 : va_E} : va_D (fun q => q = a) [(a, e0)] := by
  refine ⟨fun i j x y hi hj _ => ?_, fun k q hk => ?_⟩
  · have h1 : i < 1 := (List.getElem?_eq_some_iff.mp hi).1
    have h2 : j < 1 := (List.getElem?_eq_some_iff.mp hj).1
    omega
  · have h1 : k < 1 := (List.getElem?_eq_some_iff.mp hk).1
    rw [show k = 0 by omega] at hk
    cases hk
    rfl
theorem ZF1.mk {G : ZG} {a : Nat} {v v' : Option Value} {e0 e' : va_E} {H0 H : Heap} {locs : List Loc} (hP : va_P G.1 classes [(a, e0)] H) (hS : va_S (fun q => q = a) H0 H locs) (hv : v' = v) (he : e' = e0) : ZA v (ZF1 G a e') v' H0 H := by
  subst he
  exact ⟨hv, hP 0 _ rfl, hS.1, fun q h1 h2 => hS.2.1 q h1 h2⟩
/-- behind a call that changed a paper: the caller's own book -/
theorem ZF1.S {G : ZG} {a : Nat} {e' : va_E} {A : Nat → Prop} {H0 H H1 : Heap} {locs L : List Loc} (h : ZF1 G a e' H H1) (hS : va_S A H0 H locs) (hA : A a) (hL : ∀ q ∈ L, q.base = a) : va_S A H0 H1 (locs ++ L) := by
  obtain ⟨-, h2, h3⟩ := h
  refine ⟨Nat.le_trans hS.1 h2, fun q h4 h5 => ?_, fun q hq => ?_⟩
  · rw [h3 q (Nat.lt_of_lt_of_le h4 hS.1) (fun e0 => h5 (by rw [e0]; exact hA))]
    exact hS.2.1 q h4 h5
  · rcases List.mem_append.mp hq with h4 | h4
    · exact hS.2.2 q h4
    · rw [hL q h4]; exact hA
section ZMI
variable {p : Program} {l : Launch} {e : Env} {R : Room} {s : State} {m : MethodId} {args : Array Value} {below : List Frame} {meth : Method} {c : Code} {H : Heap} {locs : List Loc} {cells slots : Nat} {Q : State → Prop} {pc : Nat} {ls : Array Slot} {rest st0 : List Value} {len mc ms : Nat} {free : Addr → Prop} {F : Heap → Heap → Prop}
theorem z_mi {v : Value} (h : ZRun p l e R s m args below meth c H locs cells slots (F0 m pc ls st0) rest len (ZA (some v) F) mc ms free) (kk : ∀ (H1 : Heap) (L : List Loc), F H H1 → (∀ q ∈ L, free q.base) → W p l e R s m args below meth c H1 (locs ++ L) (cells + mc) (slots + ms) Q (F0 m (pc + len) ls (v :: rest))) : W p l e R s m args below meth c H locs cells slots Q (F0 m pc ls st0) :=
  z_m h fun v' H1 L hF hL => by
    obtain ⟨rfl, hF⟩ := hF
    exact kk H1 L hF hL
theorem z_mv (h : ZRun p l e R s m args below meth c H locs cells slots (F0 m pc ls st0) rest len (ZA none F) mc ms free) (kk : ∀ (H1 : Heap) (L : List Loc), F H H1 → (∀ q ∈ L, free q.base) → W p l e R s m args below meth c H1 (locs ++ L) (cells + mc) (slots + ms) Q (F0 m (pc + len) ls rest)) : W p l e R s m args below meth c H locs cells slots Q (F0 m pc ls st0) :=
  z_m h fun v' H1 L hF hL => by
    obtain ⟨rfl, hF⟩ := hF
    exact kk H1 L hF hL
end ZMI
end
section
theorem pd_Of_init : (parseMethodDescriptor y_Of_init.desc).map (fun d => d.parameters.length) = some 0 := by decide +kernel
theorem ok_Of_init : okN y_Of_init := ⟨by decide, by decide⟩
theorem pd_Of_issue : (parseMethodDescriptor y_Of_issue.desc).map (fun d => d.parameters.length) = some 2 := by decide +kernel
theorem ok_Of_issue : okN y_Of_issue := ⟨by decide, by decide⟩
theorem pd_Of_isIn : (parseMethodDescriptor y_Of_isIn.desc).map (fun d => d.parameters.length) = some 3 := by decide +kernel
theorem ok_Of_isIn : okN y_Of_isIn := ⟨by decide, by decide⟩
theorem pd_Of_made : (parseMethodDescriptor y_Of_made.desc).map (fun d => d.parameters.length) = some 2 := by decide +kernel
theorem ok_Of_made : okN y_Of_made := ⟨by decide, by decide⟩
theorem pd_Pa_init : (parseMethodDescriptor y_Pa_init.desc).map (fun d => d.parameters.length) = some 3 := by decide +kernel
theorem ok_Pa_init : okN y_Pa_init := ⟨by decide, by decide⟩
theorem pd_Gi_init : (parseMethodDescriptor y_Gi_init.desc).map (fun d => d.parameters.length) = some 3 := by decide +kernel
theorem ok_Gi_init : okN y_Gi_init := ⟨by decide, by decide⟩
theorem pd_Se_init : (parseMethodDescriptor y_Se_init.desc).map (fun d => d.parameters.length) = some 3 := by decide +kernel
theorem ok_Se_init : okN y_Se_init := ⟨by decide, by decide⟩
theorem pd_St_init : (parseMethodDescriptor y_St_init.desc).map (fun d => d.parameters.length) = some 3 := by decide +kernel
theorem ok_St_init : okN y_St_init := ⟨by decide, by decide⟩
theorem pd_Ro_init : (parseMethodDescriptor y_Ro_init.desc).map (fun d => d.parameters.length) = some 3 := by decide +kernel
theorem ok_Ro_init : okN y_Ro_init := ⟨by decide, by decide⟩
theorem pd_Cl_init : (parseMethodDescriptor y_Cl_init.desc).map (fun d => d.parameters.length) = some 3 := by decide +kernel
theorem ok_Cl_init : okN y_Cl_init := ⟨by decide, by decide⟩
theorem pd_Ho_init : (parseMethodDescriptor y_Ho_init.desc).map (fun d => d.parameters.length) = some 3 := by decide +kernel
theorem ok_Ho_init : okN y_Ho_init := ⟨by decide, by decide⟩
theorem pd_Cr_init : (parseMethodDescriptor y_Cr_init.desc).map (fun d => d.parameters.length) = some 3 := by decide +kernel
theorem ok_Cr_init : okN y_Cr_init := ⟨by decide, by decide⟩
theorem pd_Of_pass : (parseMethodDescriptor y_Of_pass.desc).map (fun d => d.parameters.length) = some 1 := by decide +kernel
theorem ok_Of_pass : okN y_Of_pass := ⟨by decide, by decide⟩
theorem pd_Of_value : (parseMethodDescriptor y_Of_value.desc).map (fun d => d.parameters.length) = some 2 := by decide +kernel
theorem ok_Of_value : okN y_Of_value := ⟨by decide, by decide⟩
theorem pd_Of_at : (parseMethodDescriptor y_Of_at.desc).map (fun d => d.parameters.length) = some 1 := by decide +kernel
theorem ok_Of_at : okN y_Of_at := ⟨by decide, by decide⟩
theorem pd_Ro_worth : (parseMethodDescriptor y_Ro_worth.desc).map (fun d => d.parameters.length) = some 1 := by decide +kernel
theorem ok_Ro_worth : okN y_Ro_worth := ⟨by decide, by decide⟩
theorem pd_Cr_worth : (parseMethodDescriptor y_Cr_worth.desc).map (fun d => d.parameters.length) = some 1 := by decide +kernel
theorem ok_Cr_worth : okN y_Cr_worth := ⟨by decide, by decide⟩
theorem pd_Ho_worth : (parseMethodDescriptor y_Ho_worth.desc).map (fun d => d.parameters.length) = some 1 := by decide +kernel
theorem ok_Ho_worth : okN y_Ho_worth := ⟨by decide, by decide⟩
theorem pd_Se_worth : (parseMethodDescriptor y_Se_worth.desc).map (fun d => d.parameters.length) = some 1 := by decide +kernel
theorem ok_Se_worth : okN y_Se_worth := ⟨by decide, by decide⟩
theorem pd_Da_isOver : (parseMethodDescriptor y_Da_isOver.desc).map (fun d => d.parameters.length) = some 1 := by decide +kernel
theorem ok_Da_isOver : okN y_Da_isOver := ⟨by decide, by decide⟩
theorem pd_Se_lastDay : (parseMethodDescriptor y_Se_lastDay.desc).map (fun d => d.parameters.length) = some 0 := by decide +kernel
theorem ok_Se_lastDay : okN y_Se_lastDay := ⟨by decide, by decide⟩
theorem pd_St_lastDay : (parseMethodDescriptor y_St_lastDay.desc).map (fun d => d.parameters.length) = some 0 := by decide +kernel
theorem ok_St_lastDay : okN y_St_lastDay := ⟨by decide, by decide⟩
theorem pd_St_worth : (parseMethodDescriptor y_St_worth.desc).map (fun d => d.parameters.length) = some 1 := by decide +kernel
theorem ok_St_worth : okN y_St_worth := ⟨by decide, by decide⟩
theorem pd_Pa_worth : (parseMethodDescriptor y_Pa_worth.desc).map (fun d => d.parameters.length) = some 1 := by decide +kernel
theorem ok_Pa_worth : okN y_Pa_worth := ⟨by decide, by decide⟩
theorem pd_Of_fee : (parseMethodDescriptor y_Of_fee.desc).map (fun d => d.parameters.length) = some 2 := by decide +kernel
theorem ok_Of_fee : okN y_Of_fee := ⟨by decide, by decide⟩
theorem pd_Cr_fee : (parseMethodDescriptor y_Cr_fee.desc).map (fun d => d.parameters.length) = some 1 := by decide +kernel
theorem ok_Cr_fee : okN y_Cr_fee := ⟨by decide, by decide⟩
theorem pd_Ho_points : (parseMethodDescriptor y_Ho_points.desc).map (fun d => d.parameters.length) = some 0 := by decide +kernel
theorem ok_Ho_points : okN y_Ho_points := ⟨by decide, by decide⟩
theorem pd_Pa_points : (parseMethodDescriptor y_Pa_points.desc).map (fun d => d.parameters.length) = some 0 := by decide +kernel
theorem ok_Pa_points : okN y_Pa_points := ⟨by decide, by decide⟩
theorem pd_St_fee : (parseMethodDescriptor y_St_fee.desc).map (fun d => d.parameters.length) = some 1 := by decide +kernel
theorem ok_St_fee : okN y_St_fee := ⟨by decide, by decide⟩
theorem pd_Pa_fee : (parseMethodDescriptor y_Pa_fee.desc).map (fun d => d.parameters.length) = some 1 := by decide +kernel
theorem ok_Pa_fee : okN y_Pa_fee := ⟨by decide, by decide⟩
theorem pd_Of_spend : (parseMethodDescriptor y_Of_spend.desc).map (fun d => d.parameters.length) = some 2 := by decide +kernel
theorem ok_Of_spend : okN y_Of_spend := ⟨by decide, by decide⟩
theorem pd_Ho_spend : (parseMethodDescriptor y_Ho_spend.desc).map (fun d => d.parameters.length) = some 2 := by decide +kernel
theorem ok_Ho_spend : okN y_Ho_spend := ⟨by decide, by decide⟩
theorem pd_St_spend : (parseMethodDescriptor y_St_spend.desc).map (fun d => d.parameters.length) = some 2 := by decide +kernel
theorem ok_St_spend : okN y_St_spend := ⟨by decide, by decide⟩
theorem pd_Pa_spend : (parseMethodDescriptor y_Pa_spend.desc).map (fun d => d.parameters.length) = some 2 := by decide +kernel
theorem ok_Pa_spend : okN y_Pa_spend := ⟨by decide, by decide⟩
theorem pd_Of_seal : (parseMethodDescriptor y_Of_seal.desc).map (fun d => d.parameters.length) = some 1 := by decide +kernel
theorem ok_Of_seal : okN y_Of_seal := ⟨by decide, by decide⟩
theorem pd_Cr_seal : (parseMethodDescriptor y_Cr_seal.desc).map (fun d => d.parameters.length) = some 0 := by decide +kernel
theorem ok_Cr_seal : okN y_Cr_seal := ⟨by decide, by decide⟩
theorem pd_Se_seal : (parseMethodDescriptor y_Se_seal.desc).map (fun d => d.parameters.length) = some 0 := by decide +kernel
theorem ok_Se_seal : okN y_Se_seal := ⟨by decide, by decide⟩
theorem pd_Pa_seal : (parseMethodDescriptor y_Pa_seal.desc).map (fun d => d.parameters.length) = some 0 := by decide +kernel
theorem ok_Pa_seal : okN y_Pa_seal := ⟨by decide, by decide⟩
theorem pd_Of_mark : (parseMethodDescriptor y_Of_mark.desc).map (fun d => d.parameters.length) = some 2 := by decide +kernel
theorem ok_Of_mark : okN y_Of_mark := ⟨by decide, by decide⟩
theorem pd_Sl_mark : (parseMethodDescriptor y_Sl_mark.desc).map (fun d => d.parameters.length) = some 1 := by decide +kernel
theorem ok_Sl_mark : okN y_Sl_mark := ⟨by decide, by decide⟩
theorem pd_Of_daysLeft : (parseMethodDescriptor y_Of_daysLeft.desc).map (fun d => d.parameters.length) = some 2 := by decide +kernel
theorem ok_Of_daysLeft : okN y_Of_daysLeft := ⟨by decide, by decide⟩
theorem pd_Da_daysLeft : (parseMethodDescriptor y_Da_daysLeft.desc).map (fun d => d.parameters.length) = some 1 := by decide +kernel
theorem ok_Da_daysLeft : okN y_Da_daysLeft := ⟨by decide, by decide⟩
theorem pd_Of_lapse : (parseMethodDescriptor y_Of_lapse.desc).map (fun d => d.parameters.length) = some 0 := by decide +kernel
theorem ok_Of_lapse : okN y_Of_lapse := ⟨by decide, by decide⟩
theorem pd_Of_merge : (parseMethodDescriptor y_Of_merge.desc).map (fun d => d.parameters.length) = some 2 := by decide +kernel
theorem ok_Of_merge : okN y_Of_merge := ⟨by decide, by decide⟩
theorem pd_Ho_take : (parseMethodDescriptor y_Ho_take.desc).map (fun d => d.parameters.length) = some 1 := by decide +kernel
theorem ok_Ho_take : okN y_Ho_take := ⟨by decide, by decide⟩
theorem pd_St_take : (parseMethodDescriptor y_St_take.desc).map (fun d => d.parameters.length) = some 1 := by decide +kernel
theorem ok_St_take : okN y_St_take := ⟨by decide, by decide⟩
theorem pd_Pa_take : (parseMethodDescriptor y_Pa_take.desc).map (fun d => d.parameters.length) = some 1 := by decide +kernel
theorem ok_Pa_take : okN y_Pa_take := ⟨by decide, by decide⟩
theorem pd_Of_total : (parseMethodDescriptor y_Of_total.desc).map (fun d => d.parameters.length) = some 1 := by decide +kernel
theorem ok_Of_total : okN y_Of_total := ⟨by decide, by decide⟩
theorem pd_Of_paper : (parseMethodDescriptor y_Of_paper.desc).map (fun d => d.parameters.length) = some 2 := by decide +kernel
theorem ok_Of_paper : okN y_Of_paper := ⟨by decide, by decide⟩
theorem pd_Of_count : (parseMethodDescriptor y_Of_count.desc).map (fun d => d.parameters.length) = some 1 := by decide +kernel
theorem ok_Of_count : okN y_Of_count := ⟨by decide, by decide⟩
theorem pd_Of_leftOfAll : (parseMethodDescriptor y_Of_leftOfAll.desc).map (fun d => d.parameters.length) = some 0 := by decide +kernel
theorem ok_Of_leftOfAll : okN y_Of_leftOfAll := ⟨by decide, by decide⟩
theorem pd_Mo_init : (parseMethodDescriptor y_Mo_init.desc).map (fun d => d.parameters.length) = some 0 := by decide +kernel
theorem ok_Mo_init : okN y_Mo_init := ⟨by decide, by decide⟩
theorem pd_Mo_issue : (parseMethodDescriptor y_Mo_issue.desc).map (fun d => d.parameters.length) = some 2 := by decide +kernel
theorem ok_Mo_issue : okN y_Mo_issue := ⟨by decide, by decide⟩
theorem pd_Mo_within : (parseMethodDescriptor y_Mo_within.desc).map (fun d => d.parameters.length) = some 3 := by decide +kernel
theorem ok_Mo_within : okN y_Mo_within := ⟨by decide, by decide⟩
theorem pd_Mo_pass : (parseMethodDescriptor y_Mo_pass.desc).map (fun d => d.parameters.length) = some 1 := by decide +kernel
theorem ok_Mo_pass : okN y_Mo_pass := ⟨by decide, by decide⟩
theorem pd_Mo_value : (parseMethodDescriptor y_Mo_value.desc).map (fun d => d.parameters.length) = some 2 := by decide +kernel
theorem ok_Mo_value : okN y_Mo_value := ⟨by decide, by decide⟩
theorem pd_Mo_isThere : (parseMethodDescriptor y_Mo_isThere.desc).map (fun d => d.parameters.length) = some 1 := by decide +kernel
theorem ok_Mo_isThere : okN y_Mo_isThere := ⟨by decide, by decide⟩
theorem pd_Mo_valueOf : (parseMethodDescriptor y_Mo_valueOf.desc).map (fun d => d.parameters.length) = some 2 := by decide +kernel
theorem ok_Mo_valueOf : okN y_Mo_valueOf := ⟨by decide, by decide⟩
theorem pd_Mo_isDated : (parseMethodDescriptor y_Mo_isDated.desc).map (fun d => d.parameters.length) = some 1 := by decide +kernel
theorem ok_Mo_isDated : okN y_Mo_isDated := ⟨by decide, by decide⟩
theorem pd_Mo_lastDay : (parseMethodDescriptor y_Mo_lastDay.desc).map (fun d => d.parameters.length) = some 1 := by decide +kernel
theorem ok_Mo_lastDay : okN y_Mo_lastDay := ⟨by decide, by decide⟩
theorem pd_Mo_hasPoints : (parseMethodDescriptor y_Mo_hasPoints.desc).map (fun d => d.parameters.length) = some 1 := by decide +kernel
theorem ok_Mo_hasPoints : okN y_Mo_hasPoints := ⟨by decide, by decide⟩
theorem pd_Mo_fee : (parseMethodDescriptor y_Mo_fee.desc).map (fun d => d.parameters.length) = some 2 := by decide +kernel
theorem ok_Mo_fee : okN y_Mo_fee := ⟨by decide, by decide⟩
theorem pd_Mo_feeOf : (parseMethodDescriptor y_Mo_feeOf.desc).map (fun d => d.parameters.length) = some 2 := by decide +kernel
theorem ok_Mo_feeOf : okN y_Mo_feeOf := ⟨by decide, by decide⟩
theorem pd_Mo_spend : (parseMethodDescriptor y_Mo_spend.desc).map (fun d => d.parameters.length) = some 2 := by decide +kernel
theorem ok_Mo_spend : okN y_Mo_spend := ⟨by decide, by decide⟩
theorem pd_Mo_seal : (parseMethodDescriptor y_Mo_seal.desc).map (fun d => d.parameters.length) = some 1 := by decide +kernel
theorem ok_Mo_seal : okN y_Mo_seal := ⟨by decide, by decide⟩
theorem pd_Mo_sealOf : (parseMethodDescriptor y_Mo_sealOf.desc).map (fun d => d.parameters.length) = some 1 := by decide +kernel
theorem ok_Mo_sealOf : okN y_Mo_sealOf := ⟨by decide, by decide⟩
theorem pd_Mo_mark : (parseMethodDescriptor y_Mo_mark.desc).map (fun d => d.parameters.length) = some 2 := by decide +kernel
theorem ok_Mo_mark : okN y_Mo_mark := ⟨by decide, by decide⟩
theorem pd_Mo_daysLeft : (parseMethodDescriptor y_Mo_daysLeft.desc).map (fun d => d.parameters.length) = some 2 := by decide +kernel
theorem ok_Mo_daysLeft : okN y_Mo_daysLeft := ⟨by decide, by decide⟩
theorem pd_Mo_lapse : (parseMethodDescriptor y_Mo_lapse.desc).map (fun d => d.parameters.length) = some 0 := by decide +kernel
theorem ok_Mo_lapse : okN y_Mo_lapse := ⟨by decide, by decide⟩
theorem pd_Mo_merge : (parseMethodDescriptor y_Mo_merge.desc).map (fun d => d.parameters.length) = some 2 := by decide +kernel
theorem ok_Mo_merge : okN y_Mo_merge := ⟨by decide, by decide⟩
theorem pd_Mo_total : (parseMethodDescriptor y_Mo_total.desc).map (fun d => d.parameters.length) = some 1 := by decide +kernel
theorem ok_Mo_total : okN y_Mo_total := ⟨by decide, by decide⟩
theorem pd_Mo_paper : (parseMethodDescriptor y_Mo_paper.desc).map (fun d => d.parameters.length) = some 2 := by decide +kernel
theorem ok_Mo_paper : okN y_Mo_paper := ⟨by decide, by decide⟩
theorem pd_Mo_count : (parseMethodDescriptor y_Mo_count.desc).map (fun d => d.parameters.length) = some 1 := by decide +kernel
theorem ok_Mo_count : okN y_Mo_count := ⟨by decide, by decide⟩
theorem pd_Mo_leftOfAll : (parseMethodDescriptor y_Mo_leftOfAll.desc).map (fun d => d.parameters.length) = some 0 := by decide +kernel
theorem ok_Mo_leftOfAll : okN y_Mo_leftOfAll := ⟨by decide, by decide⟩
end
section
theorem bl_Ro_Pa_Pa : Below "VoucherOffice$Rounded" "VoucherOffice$Paper" "VoucherOffice$Paper" := ⟨kg_127, Or.inl rfl⟩
theorem bl_Se_Gi_Pa : Below "VoucherOffice$Season" "VoucherOffice$Gift" "VoucherOffice$Paper" := ⟨kg_102, Or.inr (Or.inl kg_91)⟩
theorem bl_St_Se_Se : Below "VoucherOffice$Staff" "VoucherOffice$Season" "VoucherOffice$Season" := ⟨kg_116, Or.inl rfl⟩
theorem bl_St_Se_Pa : Below "VoucherOffice$Staff" "VoucherOffice$Season" "VoucherOffice$Paper" := ⟨kg_116, Or.inr (Or.inr ⟨_, _, kf_576, kg_102, kg_80⟩)⟩
theorem bl_Ho_Cl_Pa : Below "VoucherOffice$House" "VoucherOffice$Club" "VoucherOffice$Paper" := ⟨kg_152, Or.inr (Or.inr ⟨_, _, kf_571, kg_138, kg_80⟩)⟩
theorem bl_Ho_Cl_Ro : Below "VoucherOffice$House" "VoucherOffice$Club" "VoucherOffice$Rounded" := ⟨kg_152, Or.inr (Or.inl kg_138)⟩
theorem bl_Cr_Ho_Ho : Below "VoucherOffice$Crest" "VoucherOffice$House" "VoucherOffice$House" := ⟨kg_164, Or.inl rfl⟩
theorem bl_Cr_Ho_Pa : Below "VoucherOffice$Crest" "VoucherOffice$House" "VoucherOffice$Paper" := ⟨kg_164, Or.inr (Or.inr ⟨_, _, kf_574, kg_152, kg_80⟩)⟩
set_option maxHeartbeats 1000000 in
theorem c_Pa_worth (l : Launch) (G : ZG) (a k : Nat) (kd fr am lf ex : Int32) (day : Int32) (hk : k < 8) : ZK l G y_Pa_worth 0 [.ref a, .int day] (fun H => va_at G.1 classes (a, pc5 k kd fr am lf ex) H) (ZE (.int lf)) 0 0 (fun _ => False) := by
  refine ZK.ofBody (cc := b_Pa_worth) (maxL := 2) (ret := (some FieldType.int)) kg_232 (by decide) (by decide) (Nat.le_of_ble_eq_true rfl) ?_
  intro p e s m below meth c S hr hlk hnm hp ls hl
  obtain ⟨⟨hx, hb, hml, hown, hts⟩, hK⟩ := id S
  have hp : va_at G.1 classes (a, pc5 k kd fr am lf ex) s.heap := hp
  have hl : lv_has ls 2 [(0, .ref a), (1, .int day)] := hl
  refine lv_aload_n hx hb d_Pa_worth_0 rfl (lv_at hl 0 rfl) ?_
  refine z_get S (zk_cls hk) (zk_in hk) hp 3 (z4 hk (by decide)) kg_70 (Or.inl rfl) rfl d_Pa_worth_1 ?_
  exact z_iret (v := lf) (tys := none) S hr hlk rfl ⟨rfl, rfl⟩ z_nil d_Pa_worth_4
set_option maxHeartbeats 1000000 in
theorem c_Pa_fee (l : Launch) (G : ZG) (a k : Nat) (kd fr am lf ex : Int32) (g : Int32) (hk : k < 8) : ZK l G y_Pa_fee 0 [.ref a, .int g] (fun H => va_at G.1 classes (a, pc5 k kd fr am lf ex) H) (ZE (.int (fbV g))) 0 0 (fun _ => False) := by
  refine ZK.ofBody (cc := b_Pa_fee) (maxL := 2) (ret := (some FieldType.int)) kg_268 (by decide) (by decide) (Nat.le_of_ble_eq_true rfl) ?_
  intro p e s m below meth c S hr hlk hnm hp ls hl
  obtain ⟨⟨hx, hb, hml, hown, hts⟩, hK⟩ := id S
  have hp : va_at G.1 classes (a, pc5 k kd fr am lf ex) s.heap := hp
  have hl : lv_has ls 2 [(0, .ref a), (1, .int g)] := hl
  refine lv_iload_n hx hb d_Pa_fee_0 rfl (lv_at hl 1 rfl) ?_
  refine lv_bipush (v := 50) hx hb d_Pa_fee_1 (by decide) ?_
  refine lv_idiv hx hb d_Pa_fee_3 (by decide) ?_
  refine lv_iconst (v := 1) hx hb d_Pa_fee_4 (by decide) ?_
  refine lv_iadd hx hb d_Pa_fee_5 ?_
  exact z_iret (v := fbV g) (tys := none) S hr hlk rfl ⟨rfl, rfl⟩ z_nil d_Pa_fee_6
set_option maxHeartbeats 1000000 in
theorem c_Pa_points (l : Launch) (G : ZG) (a k : Nat) (kd fr am lf ex : Int32) (hk : k < 8) : ZK l G y_Pa_points 0 [.ref a] (fun H => va_at G.1 classes (a, pc5 k kd fr am lf ex) H) (ZE (.int 0)) 0 0 (fun _ => False) := by
  refine ZK.ofBody (cc := b_Pa_points) (maxL := 1) (ret := (some FieldType.int)) kg_258 (by decide) (by decide) (Nat.le_of_ble_eq_true rfl) ?_
  intro p e s m below meth c S hr hlk hnm hp ls hl
  obtain ⟨⟨hx, hb, hml, hown, hts⟩, hK⟩ := id S
  have hp : va_at G.1 classes (a, pc5 k kd fr am lf ex) s.heap := hp
  have hl : lv_has ls 1 [(0, .ref a)] := hl
  refine lv_iconst (v := 0) hx hb d_Pa_points_0 (by decide) ?_
  exact z_iret (v := 0) (tys := none) S hr hlk rfl ⟨rfl, rfl⟩ z_nil d_Pa_points_1
set_option maxHeartbeats 1000000 in
theorem c_Pa_seal (l : Launch) (G : ZG) (a k : Nat) (kd fr am lf ex : Int32) (hk : k < 8) : ZK l G y_Pa_seal 0 [.ref a] (fun H => va_at G.1 classes (a, pc5 k kd fr am lf ex) H) (ZE (.int (sbV fr am lf))) 0 0 (fun _ => False) := by
  refine ZK.ofBody (cc := b_Pa_seal) (maxL := 1) (ret := (some FieldType.int)) kg_321 (by decide) (by decide) (Nat.le_of_ble_eq_true rfl) ?_
  intro p e s m below meth c S hr hlk hnm hp ls hl
  obtain ⟨⟨hx, hb, hml, hown, hts⟩, hK⟩ := id S
  have hp : va_at G.1 classes (a, pc5 k kd fr am lf ex) s.heap := hp
  have hl : lv_has ls 1 [(0, .ref a)] := hl
  refine lv_aload_n hx hb d_Pa_seal_0 rfl (lv_at hl 0 rfl) ?_
  refine z_get S (zk_cls hk) (zk_in hk) hp 3 (z4 hk (by decide)) kg_70 (Or.inl rfl) rfl d_Pa_seal_1 ?_
  refine lv_bipush (v := 31) hx hb d_Pa_seal_4 (by decide) ?_
  refine lv_imul hx hb d_Pa_seal_6 ?_
  refine lv_aload_n hx hb d_Pa_seal_7 rfl (lv_at hl 0 rfl) ?_
  refine z_get S (zk_cls hk) (zk_in hk) hp 1 (z4 hk (by decide)) kg_62 (Or.inl rfl) rfl d_Pa_seal_8 ?_
  refine lv_iadd hx hb d_Pa_seal_11 ?_
  refine lv_bipush (v := 31) hx hb d_Pa_seal_12 (by decide) ?_
  refine lv_imul hx hb d_Pa_seal_14 ?_
  refine lv_aload_n hx hb d_Pa_seal_15 rfl (lv_at hl 0 rfl) ?_
  refine z_get S (zk_cls hk) (zk_in hk) hp 2 (z4 hk (by decide)) kg_68 (Or.inl rfl) rfl d_Pa_seal_16 ?_
  refine lv_iadd hx hb d_Pa_seal_19 ?_
  exact z_iret (v := sbV fr am lf) (tys := none) S hr hlk rfl ⟨rfl, rfl⟩ z_nil d_Pa_seal_20
set_option maxHeartbeats 1000000 in
theorem c_Se_lastDay (l : Launch) (G : ZG) (a k : Nat) (kd fr am lf ex : Int32) (hk : k < 8) : ZK l G y_Se_lastDay 0 [.ref a] (fun H => va_at G.1 classes (a, pc5 k kd fr am lf ex) H) (ZE (.int (fr + 90))) 0 0 (fun _ => False) := by
  refine ZK.ofBody (cc := b_Se_lastDay) (maxL := 1) (ret := (some FieldType.int)) kg_217 (by decide) (by decide) (Nat.le_of_ble_eq_true rfl) ?_
  intro p e s m below meth c S hr hlk hnm hp ls hl
  obtain ⟨⟨hx, hb, hml, hown, hts⟩, hK⟩ := id S
  have hp : va_at G.1 classes (a, pc5 k kd fr am lf ex) s.heap := hp
  have hl : lv_has ls 1 [(0, .ref a)] := hl
  refine lv_aload_n hx hb d_Se_lastDay_0 rfl (lv_at hl 0 rfl) ?_
  refine z_get S (zk_cls hk) (zk_in hk) hp 1 (z4 hk (by decide)) kg_63 (Or.inr kg_64) rfl d_Se_lastDay_1 ?_
  refine lv_bipush (v := 90) hx hb d_Se_lastDay_4 (by decide) ?_
  refine lv_iadd hx hb d_Se_lastDay_6 ?_
  exact z_iret (v := fr + 90) (tys := none) S hr hlk rfl ⟨rfl, rfl⟩ z_nil d_Se_lastDay_7
set_option maxHeartbeats 1000000 in
theorem c_St_lastDay (l : Launch) (G : ZG) (a : Nat) (kd fr am lf ex : Int32)  : ZK l G y_St_lastDay 0 [.ref a] (fun H => va_at G.1 classes (a, pc5 3 kd fr am lf ex) H) (ZE (.int (fr + 30))) 0 0 (fun _ => False) := by
  refine ZK.ofBody (cc := b_St_lastDay) (maxL := 1) (ret := (some FieldType.int)) kg_223 (by decide) (by decide) (Nat.le_of_ble_eq_true rfl) ?_
  intro p e s m below meth c S hr hlk hnm hp ls hl
  obtain ⟨⟨hx, hb, hml, hown, hts⟩, hK⟩ := id S
  have hp : va_at G.1 classes (a, pc5 3 kd fr am lf ex) s.heap := hp
  have hl : lv_has ls 1 [(0, .ref a)] := hl
  refine lv_aload_n hx hb d_St_lastDay_0 rfl (lv_at hl 0 rfl) ?_
  refine z_get S (zk_cls (k := 3) (by decide)) (zk_in (k := 3) (by decide)) hp 1 (by decide) kg_65 (Or.inr kg_66) rfl d_St_lastDay_1 ?_
  refine lv_bipush (v := 30) hx hb d_St_lastDay_4 (by decide) ?_
  refine lv_iadd hx hb d_St_lastDay_6 ?_
  exact z_iret (v := fr + 30) (tys := none) S hr hlk rfl ⟨rfl, rfl⟩ z_nil d_St_lastDay_7
section ZV_f_lastDay
variable {p : Program} {l : Launch} {e : Env} {R : Room} {s : State} {m : MethodId} {args : Array Value} {below : List Frame} {meth : Method} {c : Code} {H : Heap} {locs : List Loc} {cells slots : Nat} {Q : State → Prop}
variable {cc : ByteArray} {nL pc : Nat} {ls : Array Slot} {rest : List Value} {G : ZG} {own : String} {index count : Nat} {a k : Nat} {kd fr am lf ex : Int32}
theorem f_lastDay (S : ZC p m c cc nL s args own G) (h1 : Cond.methodLink own index ⟨"VoucherOffice$Dated", "lastDay", "()I"⟩ ∈ gw) (hk : k = 2 ∨ k = 3) (hat : va_at G.1 classes (a, pc5 k kd fr am lf ex) H) (hsz : ls.size = nL) (hW : (rest.map fun v => v.category).sum ≤ 8) (hR : 1 ≤ R.frames ∧ 25 ≤ R.locals) (hc : cells + 0 ≤ R.cells ∧ slots + 0 ≤ R.slots) (hdg : decode cc pc = .ok (.invokeinterface index count, 5))
    (kk : W p l e R s m args below meth c H locs cells slots Q (F0 m (pc + 5) ls (.int (ldV k fr) :: rest))) : W p l e R s m args below meth c H locs cells slots Q (F0 m pc ls (.ref a :: rest)) := by
  rcases hk with rfl | rfl
  · exact z_q (z_F (n := 0) (C := "VoucherOffice$Season") (d := 0) (As := []) S (c_Se_lastDay l G a 2 kd fr am lf ex (by decide)) h1 kf_212 kf_211 (by decide) kg_213 kg_215 kf_216 kf_214 kf_204 kg_217 ⟨by decide, by decide⟩ pd_Se_lastDay (zk_cls (k := 2) (by decide)) rfl hat hat rfl hsz rfl hW ⟨Nat.le_trans (Nat.le_of_ble_eq_true rfl) hR.1, Nat.le_trans (Nat.le_of_ble_eq_true rfl) hR.2⟩ hc hdg) kk
  · exact z_q (z_F (n := 0) (C := "VoucherOffice$Staff") (d := 0) (As := []) S (c_St_lastDay l G a kd fr am lf ex) h1 kf_212 kf_211 (by decide) kg_219 kg_221 kf_222 kf_220 kf_218 kg_223 ⟨by decide, by decide⟩ pd_St_lastDay (zk_cls (k := 3) (by decide)) rfl hat hat rfl hsz rfl hW ⟨Nat.le_trans (Nat.le_of_ble_eq_true rfl) hR.1, Nat.le_trans (Nat.le_of_ble_eq_true rfl) hR.2⟩ hc hdg) kk
end ZV_f_lastDay
set_option maxHeartbeats 1000000 in
theorem c_Da_isOver (l : Launch) (G : ZG) (a k : Nat) (kd fr am lf ex : Int32) (day : Int32) (hk : k = 2 ∨ k = 3) : ZK l G y_Da_isOver 1 [.ref a, .int day] (fun H => va_at G.1 classes (a, pc5 k kd fr am lf ex) H) (ZE (.int (ovV k fr day))) 0 0 (fun _ => False) := by
  refine ZK.ofBody (cc := b_Da_isOver) (maxL := 2) (ret := (some FieldType.boolean)) kg_208 (by decide) (by decide) (Nat.le_of_ble_eq_true rfl) ?_
  intro p e s m below meth c S hr hlk hnm hp ls hl
  obtain ⟨⟨hx, hb, hml, hown, hts⟩, hK⟩ := id S
  have hp : va_at G.1 classes (a, pc5 k kd fr am lf ex) s.heap := hp
  have hl : lv_has ls 2 [(0, .ref a), (1, .int day)] := hl
  refine lv_iload_n hx hb d_Da_isOver_0 rfl (lv_at hl 1 rfl) ?_
  refine lv_aload_n hx hb d_Da_isOver_1 rfl (lv_at hl 0 rfl) ?_
  refine f_lastDay S kg_210 hk hp hl.1 (Nat.le_of_ble_eq_true rfl) ⟨(Nat.le_of_ble_eq_true rfl), (Nat.le_of_ble_eq_true rfl)⟩ ⟨Nat.zero_le _, Nat.zero_le _⟩ d_Da_isOver_2 ?_
  refine lv_icmp_le (tgt := 14) hx hb d_Da_isOver_7 (by decide) (fun c_1 => ?_) (fun c_1 => ?_)
  · refine lv_iconst (v := 0) hx hb d_Da_isOver_14 (by decide) ?_
    exact z_zret (v := ovV k fr day) S hr hlk rfl (by simp only [ovV, c_1, ↓reduceIte]) ⟨rfl, rfl⟩ z_nil d_Da_isOver_15
  · refine lv_iconst (v := 1) hx hb d_Da_isOver_10 (by decide) ?_
    refine lv_goto (tgt := 15) hx hb d_Da_isOver_11 (by decide) ?_
    exact z_zret (v := ovV k fr day) S hr hlk rfl (by simp only [ovV, c_1, ↓reduceIte]) ⟨rfl, rfl⟩ z_nil d_Da_isOver_15
section ZV_f_isOver
variable {p : Program} {l : Launch} {e : Env} {R : Room} {s : State} {m : MethodId} {args : Array Value} {below : List Frame} {meth : Method} {c : Code} {H : Heap} {locs : List Loc} {cells slots : Nat} {Q : State → Prop}
variable {cc : ByteArray} {nL pc : Nat} {ls : Array Slot} {rest : List Value} {G : ZG} {own : String} {index count : Nat} {a k : Nat} {kd fr am lf ex : Int32}
theorem f_isOver {day : Int32} (S : ZC p m c cc nL s args own G) (h1 : Cond.methodLink own index ⟨"VoucherOffice$Dated", "isOver", "(I)Z"⟩ ∈ gw) (hk : k = 2 ∨ k = 3) (hat : va_at G.1 classes (a, pc5 k kd fr am lf ex) H) (hsz : ls.size = nL) (hW : (rest.map fun v => v.category).sum ≤ 8) (hR : 2 ≤ R.frames ∧ 50 ≤ R.locals) (hc : cells + 0 ≤ R.cells ∧ slots + 0 ≤ R.slots) (hdg : decode cc pc = .ok (.invokeinterface index count, 5))
    (kk : W p l e R s m args below meth c H locs cells slots Q (F0 m (pc + 5) ls (.int (ovV k fr day) :: rest))) : W p l e R s m args below meth c H locs cells slots Q (F0 m pc ls (.int day :: .ref a :: rest)) := by
  rcases hk with rfl | rfl
  · exact z_q (z_FD (n := 1) (C := "VoucherOffice$Season") (d := 1) (As := [.int day]) S (c_Da_isOver l G a 2 kd fr am lf ex day (Or.inl rfl)) h1 kf_203 kf_202 (by decide) (by simp [dz]) kg_206 kf_207 kf_205 kf_204 ok_Da_isOver pd_Da_isOver (zk_cls (k := 2) (by decide)) rfl hat hat rfl hsz rfl hW ⟨Nat.le_trans (Nat.le_of_ble_eq_true rfl) hR.1, Nat.le_trans (Nat.le_of_ble_eq_true rfl) hR.2⟩ hc hdg) kk
  · exact z_q (z_FD (n := 1) (C := "VoucherOffice$Staff") (d := 1) (As := [.int day]) S (c_Da_isOver l G a 3 kd fr am lf ex day (Or.inr rfl)) h1 kf_203 kf_202 (by decide) (by simp [dz]) kg_206 kf_207 kf_224 kf_218 ok_Da_isOver pd_Da_isOver (zk_cls (k := 3) (by decide)) rfl hat hat rfl hsz rfl hW ⟨Nat.le_trans (Nat.le_of_ble_eq_true rfl) hR.1, Nat.le_trans (Nat.le_of_ble_eq_true rfl) hR.2⟩ hc hdg) kk
end ZV_f_isOver
set_option maxHeartbeats 1000000 in
theorem c_Da_daysLeft (l : Launch) (G : ZG) (a k : Nat) (kd fr am lf ex : Int32) (day : Int32) (hk : k = 2 ∨ k = 3) : ZK l G y_Da_daysLeft 2 [.ref a, .int day] (fun H => va_at G.1 classes (a, pc5 k kd fr am lf ex) H) (ZE (.int (dlV k fr day))) 0 0 (fun _ => False) := by
  refine ZK.ofBody (cc := b_Da_daysLeft) (maxL := 2) (ret := (some FieldType.int)) kg_364 (by decide) (by decide) (Nat.le_of_ble_eq_true rfl) ?_
  intro p e s m below meth c S hr hlk hnm hp ls hl
  obtain ⟨⟨hx, hb, hml, hown, hts⟩, hK⟩ := id S
  have hp : va_at G.1 classes (a, pc5 k kd fr am lf ex) s.heap := hp
  have hl : lv_has ls 2 [(0, .ref a), (1, .int day)] := hl
  refine lv_aload_n hx hb d_Da_daysLeft_0 rfl (lv_at hl 0 rfl) ?_
  refine lv_iload_n hx hb d_Da_daysLeft_1 rfl (lv_at hl 1 rfl) ?_
  refine f_isOver S kg_366 hk hp hl.1 (Nat.le_of_ble_eq_true rfl) ⟨(Nat.le_of_ble_eq_true rfl), (Nat.le_of_ble_eq_true rfl)⟩ ⟨Nat.zero_le _, Nat.zero_le _⟩ d_Da_daysLeft_2 ?_
  refine lv_if_eq (tgt := 14) hx hb d_Da_daysLeft_7 (by decide) (fun c_1 => ?_) (fun c_1 => ?_)
  · refine lv_aload_n hx hb d_Da_daysLeft_14 rfl (lv_at hl 0 rfl) ?_
    refine f_lastDay S kg_210 hk hp hl.1 (Nat.le_of_ble_eq_true rfl) ⟨(Nat.le_of_ble_eq_true rfl), (Nat.le_of_ble_eq_true rfl)⟩ ⟨Nat.zero_le _, Nat.zero_le _⟩ d_Da_daysLeft_15 ?_
    refine lv_iload_n hx hb d_Da_daysLeft_20 rfl (lv_at hl 1 rfl) ?_
    refine lv_isub hx hb d_Da_daysLeft_21 ?_
    exact z_iret (v := dlV k fr day) (tys := none) S hr hlk (by simp only [dlV, c_1, ↓reduceIte]) ⟨rfl, rfl⟩ z_nil d_Da_daysLeft_22
  · refine lv_iconst (v := 0) hx hb d_Da_daysLeft_10 (by decide) ?_
    refine lv_goto (tgt := 22) hx hb d_Da_daysLeft_11 (by decide) ?_
    exact z_iret (v := dlV k fr day) (tys := none) S hr hlk (by simp only [dlV, c_1, ↓reduceIte]) ⟨rfl, rfl⟩ z_nil d_Da_daysLeft_22
section ZV_f_daysLeft
variable {p : Program} {l : Launch} {e : Env} {R : Room} {s : State} {m : MethodId} {args : Array Value} {below : List Frame} {meth : Method} {c : Code} {H : Heap} {locs : List Loc} {cells slots : Nat} {Q : State → Prop}
variable {cc : ByteArray} {nL pc : Nat} {ls : Array Slot} {rest : List Value} {G : ZG} {own : String} {index count : Nat} {a k : Nat} {kd fr am lf ex : Int32}
theorem f_daysLeft {day : Int32} (S : ZC p m c cc nL s args own G) (h1 : Cond.methodLink own index ⟨"VoucherOffice$Dated", "daysLeft", "(I)I"⟩ ∈ gw) (hk : k = 2 ∨ k = 3) (hat : va_at G.1 classes (a, pc5 k kd fr am lf ex) H) (hsz : ls.size = nL) (hW : (rest.map fun v => v.category).sum ≤ 8) (hR : 3 ≤ R.frames ∧ 75 ≤ R.locals) (hc : cells + 0 ≤ R.cells ∧ slots + 0 ≤ R.slots) (hdg : decode cc pc = .ok (.invokeinterface index count, 5))
    (kk : W p l e R s m args below meth c H locs cells slots Q (F0 m (pc + 5) ls (.int (dlV k fr day) :: rest))) : W p l e R s m args below meth c H locs cells slots Q (F0 m pc ls (.int day :: .ref a :: rest)) := by
  rcases hk with rfl | rfl
  · exact z_q (z_FD (n := 1) (C := "VoucherOffice$Season") (d := 2) (As := [.int day]) S (c_Da_daysLeft l G a 2 kd fr am lf ex day (Or.inl rfl)) h1 kf_360 kf_359 (by decide) (by simp [dz]) kg_362 kf_363 kf_361 kf_204 ok_Da_daysLeft pd_Da_daysLeft (zk_cls (k := 2) (by decide)) rfl hat hat rfl hsz rfl hW ⟨Nat.le_trans (Nat.le_of_ble_eq_true rfl) hR.1, Nat.le_trans (Nat.le_of_ble_eq_true rfl) hR.2⟩ hc hdg) kk
  · exact z_q (z_FD (n := 1) (C := "VoucherOffice$Staff") (d := 2) (As := [.int day]) S (c_Da_daysLeft l G a 3 kd fr am lf ex day (Or.inr rfl)) h1 kf_360 kf_359 (by decide) (by simp [dz]) kg_362 kf_363 kf_367 kf_218 ok_Da_daysLeft pd_Da_daysLeft (zk_cls (k := 3) (by decide)) rfl hat hat rfl hsz rfl hW ⟨Nat.le_trans (Nat.le_of_ble_eq_true rfl) hR.1, Nat.le_trans (Nat.le_of_ble_eq_true rfl) hR.2⟩ hc hdg) kk
end ZV_f_daysLeft
end
section
set_option maxHeartbeats 1000000 in
theorem c_Ro_worth (l : Launch) (G : ZG) (a k : Nat) (kd fr am lf ex : Int32) (day : Int32) (hk : k < 8) : ZK l G y_Ro_worth 1 [.ref a, .int day] (fun H => va_at G.1 classes (a, pc5 k kd fr am lf ex) H) (ZE (.int (rdV lf))) 0 0 (fun _ => False) := by
  refine ZK.ofBody (cc := b_Ro_worth) (maxL := 3) (ret := (some FieldType.int)) kg_183 (by decide) (by decide) (Nat.le_of_ble_eq_true rfl) ?_
  intro p e s m below meth c S hr hlk hnm hp ls hl
  obtain ⟨⟨hx, hb, hml, hown, hts⟩, hK⟩ := id S
  have hp : va_at G.1 classes (a, pc5 k kd fr am lf ex) s.heap := hp
  have hl : lv_has ls 3 [(0, .ref a), (1, .int day)] := hl
  refine lv_aload_n hx hb d_Ro_worth_0 rfl (lv_at hl 0 rfl) ?_
  refine lv_iload_n hx hb d_Ro_worth_1 rfl (lv_at hl 1 rfl) ?_
  refine z_q (z_SU (n := 1) (ci := k) (As := [.int day]) (rest := []) S (c_Pa_worth l G a k kd fr am lf ex day hk) kg_184 kg_180 bl_Ro_Pa_Pa rfl kg_178 kg_232 (by decide) pd_Pa_worth (zk_cls hk) hp hp rfl hl.1 rfl (Nat.le_of_ble_eq_true rfl) ⟨(Nat.le_of_ble_eq_true rfl), (Nat.le_of_ble_eq_true rfl)⟩ ⟨Nat.zero_le _, Nat.zero_le _⟩ d_Ro_worth_2) ?_
  refine lv_istore_n (lv' := [(2, .int lf), (0, .ref a), (1, .int day)]) hx hb d_Ro_worth_5 rfl hl (by decide) rfl (fun ls hl => ?_)
  refine lv_iload_n hx hb d_Ro_worth_6 rfl (lv_at hl 0 rfl) ?_
  refine lv_iload_n hx hb d_Ro_worth_7 rfl (lv_at hl 0 rfl) ?_
  refine lv_bipush (v := 10) hx hb d_Ro_worth_8 (by decide) ?_
  refine lv_irem hx hb d_Ro_worth_10 (by decide) ?_
  refine lv_isub hx hb d_Ro_worth_11 ?_
  exact z_iret (v := rdV lf) (tys := none) S hr hlk rfl ⟨rfl, rfl⟩ z_nil d_Ro_worth_12
set_option maxHeartbeats 1000000 in
theorem c_Ho_worth (l : Launch) (G : ZG) (a k : Nat) (kd fr am lf ex : Int32) (day : Int32) (hk : k = 6 ∨ k = 7) : ZK l G y_Ho_worth 2 [.ref a, .int day] (fun H => va_at G.1 classes (a, pc5 k kd fr am lf ex) H) (ZE (.int (rdV lf + ex))) 0 0 (fun _ => False) := by
  refine ZK.ofBody (cc := b_Ho_worth) (maxL := 2) (ret := (some FieldType.int)) kg_190 (by decide) (by decide) (Nat.le_of_ble_eq_true rfl) ?_
  intro p e s m below meth c S hr hlk hnm hp ls hl
  obtain ⟨⟨hx, hb, hml, hown, hts⟩, hK⟩ := id S
  have hp : va_at G.1 classes (a, pc5 k kd fr am lf ex) s.heap := hp
  have hl : lv_has ls 2 [(0, .ref a), (1, .int day)] := hl
  refine lv_aload_n hx hb d_Ho_worth_0 rfl (lv_at hl 0 rfl) ?_
  refine lv_iload_n hx hb d_Ho_worth_1 rfl (lv_at hl 1 rfl) ?_
  refine z_q (z_SU (n := 1) (ci := k) (As := [.int day]) (rest := []) S (c_Ro_worth l G a k kd fr am lf ex day (zh_lt hk)) kg_191 kg_192 bl_Ho_Cl_Ro rfl kg_182 kg_183 (by decide) pd_Ro_worth (zk_cls (zh_lt hk)) hp hp rfl hl.1 rfl (Nat.le_of_ble_eq_true rfl) ⟨(Nat.le_of_ble_eq_true rfl), (Nat.le_of_ble_eq_true rfl)⟩ ⟨Nat.zero_le _, Nat.zero_le _⟩ d_Ho_worth_2) ?_
  refine lv_aload_n hx hb d_Ho_worth_5 rfl (lv_at hl 0 rfl) ?_
  refine z_get S (zh_cls hk) (zh_in hk) hp 4 (by decide) kg_145 (Or.inl rfl) rfl d_Ho_worth_6 ?_
  refine lv_iadd hx hb d_Ho_worth_9 ?_
  exact z_iret (v := rdV lf + ex) (tys := none) S hr hlk rfl ⟨rfl, rfl⟩ z_nil d_Ho_worth_10
set_option maxHeartbeats 1000000 in
theorem c_Cr_worth (l : Launch) (G : ZG) (a : Nat) (kd fr am lf ex : Int32) (day : Int32)  : ZK l G y_Cr_worth 3 [.ref a, .int day] (fun H => va_at G.1 classes (a, pc5 7 kd fr am lf ex) H) (ZE (.int (wV 7 fr lf ex day))) 0 0 (fun _ => False) := by
  refine ZK.ofBody (cc := b_Cr_worth) (maxL := 3) (ret := (some FieldType.int)) kg_187 (by decide) (by decide) (Nat.le_of_ble_eq_true rfl) ?_
  intro p e s m below meth c S hr hlk hnm hp ls hl
  obtain ⟨⟨hx, hb, hml, hown, hts⟩, hK⟩ := id S
  have hp : va_at G.1 classes (a, pc5 7 kd fr am lf ex) s.heap := hp
  have hl : lv_has ls 3 [(0, .ref a), (1, .int day)] := hl
  refine lv_aload_n hx hb d_Cr_worth_0 rfl (lv_at hl 0 rfl) ?_
  refine lv_iload_n hx hb d_Cr_worth_1 rfl (lv_at hl 1 rfl) ?_
  refine z_q (z_SU (n := 1) (ci := 7) (As := [.int day]) (rest := []) S (c_Ho_worth l G a 7 kd fr am lf ex day (Or.inr rfl)) kg_188 kg_556 bl_Cr_Ho_Ho rfl kg_189 kg_190 (by decide) pd_Ho_worth (zk_cls (show (7 : Nat) < 8 by decide)) hp hp rfl hl.1 rfl (Nat.le_of_ble_eq_true rfl) ⟨(Nat.le_of_ble_eq_true rfl), (Nat.le_of_ble_eq_true rfl)⟩ ⟨Nat.zero_le _, Nat.zero_le _⟩ d_Cr_worth_2) ?_
  refine lv_istore_n (lv' := [(2, .int (rdV lf + ex)), (0, .ref a), (1, .int day)]) hx hb d_Cr_worth_5 rfl hl (by decide) rfl (fun ls hl => ?_)
  refine lv_iload_n hx hb d_Cr_worth_6 rfl (lv_at hl 2 rfl) ?_
  refine lv_bipush (v := 7) hx hb d_Cr_worth_7 (by decide) ?_
  refine lv_irem hx hb d_Cr_worth_9 (by decide) ?_
  refine lv_if_ne (tgt := 19) hx hb d_Cr_worth_10 (by decide) (fun c_1 => ?_) (fun c_1 => ?_)
  · refine lv_iload_n hx hb d_Cr_worth_19 rfl (lv_at hl 0 rfl) ?_
    exact z_iret (v := wV 7 fr lf ex day) (tys := none) S hr hlk (by simp only [wV, c_1, ↓reduceIte]) ⟨rfl, rfl⟩ z_nil d_Cr_worth_20
  · refine lv_iconst (v := 2) hx hb d_Cr_worth_13 (by decide) ?_
    refine lv_iload_n hx hb d_Cr_worth_14 rfl (lv_at hl 0 rfl) ?_
    refine lv_imul hx hb d_Cr_worth_15 ?_
    refine lv_goto (tgt := 20) hx hb d_Cr_worth_16 (by decide) ?_
    exact z_iret (v := wV 7 fr lf ex day) (tys := none) S hr hlk (by simp only [wV, c_1, ↓reduceIte]) ⟨rfl, rfl⟩ z_nil d_Cr_worth_20
set_option maxHeartbeats 1000000 in
theorem c_Se_worth (l : Launch) (G : ZG) (a k : Nat) (kd fr am lf ex : Int32) (day : Int32) (hk : k = 2 ∨ k = 3) : ZK l G y_Se_worth 2 [.ref a, .int day] (fun H => va_at G.1 classes (a, pc5 k kd fr am lf ex) H) (ZE (.int (swV k fr lf day))) 0 0 (fun _ => False) := by
  refine ZK.ofBody (cc := b_Se_worth) (maxL := 3) (ret := (some FieldType.int)) kg_199 (by decide) (by decide) (Nat.le_of_ble_eq_true rfl) ?_
  intro p e s m below meth c S hr hlk hnm hp ls hl
  obtain ⟨⟨hx, hb, hml, hown, hts⟩, hK⟩ := id S
  have hp : va_at G.1 classes (a, pc5 k kd fr am lf ex) s.heap := hp
  have hl : lv_has ls 3 [(0, .ref a), (1, .int day)] := hl
  refine lv_aload_n hx hb d_Se_worth_0 rfl (lv_at hl 0 rfl) ?_
  refine lv_astore_n (lv' := [(2, .ref a), (0, .ref a), (1, .int day)]) hx hb d_Se_worth_1 rfl hl (by decide) rfl (fun ls hl => ?_)
  refine lv_aload_n hx hb d_Se_worth_2 rfl (lv_at hl 0 rfl) ?_
  refine lv_iload_n hx hb d_Se_worth_3 rfl (lv_at hl 2 rfl) ?_
  refine f_isOver S kg_201 hk hp hl.1 (Nat.le_of_ble_eq_true rfl) ⟨(Nat.le_of_ble_eq_true rfl), (Nat.le_of_ble_eq_true rfl)⟩ ⟨Nat.zero_le _, Nat.zero_le _⟩ d_Se_worth_4 ?_
  refine lv_if_eq (tgt := 14) hx hb d_Se_worth_9 (by decide) (fun c_1 => ?_) (fun c_1 => ?_)
  · refine lv_aload_n hx hb d_Se_worth_14 rfl (lv_at hl 1 rfl) ?_
    refine lv_iload_n hx hb d_Se_worth_15 rfl (lv_at hl 2 rfl) ?_
    refine z_q (z_SU (n := 1) (ci := k) (As := [.int day]) (rest := []) S (c_Pa_worth l G a k kd fr am lf ex day (zd_lt hk)) kg_225 kg_226 bl_Se_Gi_Pa rfl kg_178 kg_232 (by decide) pd_Pa_worth (zk_cls (zd_lt hk)) hp hp rfl hl.1 rfl (Nat.le_of_ble_eq_true rfl) ⟨(Nat.le_of_ble_eq_true rfl), (Nat.le_of_ble_eq_true rfl)⟩ ⟨Nat.zero_le _, Nat.zero_le _⟩ d_Se_worth_16) ?_
    exact z_iret (v := swV k fr lf day) (tys := none) S hr hlk (by simp only [swV, c_1, ↓reduceIte]) ⟨rfl, rfl⟩ z_nil d_Se_worth_19
  · refine lv_iconst (v := 0) hx hb d_Se_worth_12 (by decide) ?_
    exact z_iret (v := swV k fr lf day) (tys := none) S hr hlk (by simp only [swV, c_1, ↓reduceIte]) ⟨rfl, rfl⟩ z_nil d_Se_worth_13
set_option maxHeartbeats 1000000 in
theorem c_St_worth (l : Launch) (G : ZG) (a : Nat) (kd fr am lf ex : Int32) (day : Int32)  : ZK l G y_St_worth 3 [.ref a, .int day] (fun H => va_at G.1 classes (a, pc5 3 kd fr am lf ex) H) (ZE (.int (wV 3 fr lf ex day))) 0 0 (fun _ => False) := by
  refine ZK.ofBody (cc := b_St_worth) (maxL := 3) (ret := (some FieldType.int)) kg_230 (by decide) (by decide) (Nat.le_of_ble_eq_true rfl) ?_
  intro p e s m below meth c S hr hlk hnm hp ls hl
  obtain ⟨⟨hx, hb, hml, hown, hts⟩, hK⟩ := id S
  have hp : va_at G.1 classes (a, pc5 3 kd fr am lf ex) s.heap := hp
  have hl : lv_has ls 3 [(0, .ref a), (1, .int day)] := hl
  refine lv_aload_n hx hb d_St_worth_0 rfl (lv_at hl 0 rfl) ?_
  refine lv_iload_n hx hb d_St_worth_1 rfl (lv_at hl 1 rfl) ?_
  refine z_q (z_SU (n := 1) (ci := 3) (As := [.int day]) (rest := []) S (c_Se_worth l G a 3 kd fr am lf ex day (Or.inr rfl)) kg_231 kg_557 bl_St_Se_Se rfl kg_198 kg_199 (by decide) pd_Se_worth (zk_cls (show (3 : Nat) < 8 by decide)) hp hp rfl hl.1 rfl (Nat.le_of_ble_eq_true rfl) ⟨(Nat.le_of_ble_eq_true rfl), (Nat.le_of_ble_eq_true rfl)⟩ ⟨Nat.zero_le _, Nat.zero_le _⟩ d_St_worth_2) ?_
  refine lv_istore_n (lv' := [(2, .int (swV 3 fr lf day)), (0, .ref a), (1, .int day)]) hx hb d_St_worth_5 rfl hl (by decide) rfl (fun ls hl => ?_)
  refine lv_iload_n hx hb d_St_worth_6 rfl (lv_at hl 0 rfl) ?_
  refine lv_iload_n hx hb d_St_worth_7 rfl (lv_at hl 0 rfl) ?_
  refine lv_bipush (v := 10) hx hb d_St_worth_8 (by decide) ?_
  refine lv_idiv hx hb d_St_worth_10 (by decide) ?_
  refine lv_isub hx hb d_St_worth_11 ?_
  exact z_iret (v := wV 3 fr lf ex day) (tys := none) S hr hlk rfl ⟨rfl, rfl⟩ z_nil d_St_worth_12
section ZV_v_worth
variable {p : Program} {l : Launch} {e : Env} {R : Room} {s : State} {m : MethodId} {args : Array Value} {below : List Frame} {meth : Method} {c : Code} {H : Heap} {locs : List Loc} {cells slots : Nat} {Q : State → Prop}
variable {cc : ByteArray} {nL pc : Nat} {ls : Array Slot} {rest : List Value} {G : ZG} {own : String} {index count : Nat} {a k : Nat} {kd fr am lf ex : Int32}
theorem v_worth {day : Int32} (S : ZC p m c cc nL s args own G) (h1 : Cond.methodLink own index y_Pa_worth ∈ gw) (hk : k < 8) (hat : va_at G.1 classes (a, pc5 k kd fr am lf ex) H) (hsz : ls.size = nL) (hW : (rest.map fun v => v.category).sum ≤ 8) (hR : 4 ≤ R.frames ∧ 100 ≤ R.locals) (hc : cells + 0 ≤ R.cells ∧ slots + 0 ≤ R.slots) (hdg : decode cc pc = .ok (.invokevirtual index, 3))
    (kk : W p l e R s m args below meth c H locs cells slots Q (F0 m (pc + 3) ls (.int (wV k fr lf ex day) :: rest))) : W p l e R s m args below meth c H locs cells slots Q (F0 m pc ls (.int day :: .ref a :: rest)) := by
  match k, hk with
  | 0, _ => exact z_q (z_V (n := 1) (C := "VoucherOffice$Paper") (d := 0) (As := [.int day]) S (c_Pa_worth l G a 0 kd fr am lf ex day (by decide)) h1 kg_180 kg_178 kg_232 kg_179 kg_178 kg_232 ⟨by decide, by decide⟩ pd_Pa_worth (zrec S.2 hat (zk_cls (k := 0) (by decide))) hat rfl hsz rfl hW ⟨Nat.le_trans (Nat.le_of_ble_eq_true rfl) hR.1, Nat.le_trans (Nat.le_of_ble_eq_true rfl) hR.2⟩ hc hdg) kk
  | 1, _ => exact z_q (z_V (n := 1) (C := "VoucherOffice$Gift") (d := 0) (As := [.int day]) S (c_Pa_worth l G a 1 kd fr am lf ex day (by decide)) h1 kg_180 kg_178 kg_232 kg_194 kg_178 kg_232 ⟨by decide, by decide⟩ pd_Pa_worth (zrec S.2 hat (zk_cls (k := 1) (by decide))) hat rfl hsz rfl hW ⟨Nat.le_trans (Nat.le_of_ble_eq_true rfl) hR.1, Nat.le_trans (Nat.le_of_ble_eq_true rfl) hR.2⟩ hc hdg) kk
  | 2, _ => exact z_q (z_V (n := 1) (C := "VoucherOffice$Season") (d := 2) (As := [.int day]) S (c_Se_worth l G a 2 kd fr am lf ex day (Or.inl rfl)) h1 kg_180 kg_178 kg_232 kg_197 kg_198 kg_199 ⟨by decide, by decide⟩ pd_Se_worth (zrec S.2 hat (zk_cls (k := 2) (by decide))) hat rfl hsz rfl hW ⟨Nat.le_trans (Nat.le_of_ble_eq_true rfl) hR.1, Nat.le_trans (Nat.le_of_ble_eq_true rfl) hR.2⟩ hc hdg) kk
  | 3, _ => exact z_q (z_V (n := 1) (C := "VoucherOffice$Staff") (d := 3) (As := [.int day]) S (c_St_worth l G a kd fr am lf ex day) h1 kg_180 kg_178 kg_232 kg_228 kg_229 kg_230 ⟨by decide, by decide⟩ pd_St_worth (zrec S.2 hat (zk_cls (k := 3) (by decide))) hat rfl hsz rfl hW ⟨Nat.le_trans (Nat.le_of_ble_eq_true rfl) hR.1, Nat.le_trans (Nat.le_of_ble_eq_true rfl) hR.2⟩ hc hdg) kk
  | 4, _ => exact z_q (z_V (n := 1) (C := "VoucherOffice$Rounded") (d := 1) (As := [.int day]) S (c_Ro_worth l G a 4 kd fr am lf ex day (by decide)) h1 kg_180 kg_178 kg_232 kg_196 kg_182 kg_183 ⟨by decide, by decide⟩ pd_Ro_worth (zrec S.2 hat (zk_cls (k := 4) (by decide))) hat rfl hsz rfl hW ⟨Nat.le_trans (Nat.le_of_ble_eq_true rfl) hR.1, Nat.le_trans (Nat.le_of_ble_eq_true rfl) hR.2⟩ hc hdg) kk
  | 5, _ => exact z_q (z_V (n := 1) (C := "VoucherOffice$Club") (d := 1) (As := [.int day]) S (c_Ro_worth l G a 5 kd fr am lf ex day (by decide)) h1 kg_180 kg_178 kg_232 kg_181 kg_182 kg_183 ⟨by decide, by decide⟩ pd_Ro_worth (zrec S.2 hat (zk_cls (k := 5) (by decide))) hat rfl hsz rfl hW ⟨Nat.le_trans (Nat.le_of_ble_eq_true rfl) hR.1, Nat.le_trans (Nat.le_of_ble_eq_true rfl) hR.2⟩ hc hdg) kk
  | 6, _ => exact z_q (z_V (n := 1) (C := "VoucherOffice$House") (d := 2) (As := [.int day]) S (c_Ho_worth l G a 6 kd fr am lf ex day (Or.inl rfl)) h1 kg_180 kg_178 kg_232 kg_195 kg_189 kg_190 ⟨by decide, by decide⟩ pd_Ho_worth (zrec S.2 hat (zk_cls (k := 6) (by decide))) hat rfl hsz rfl hW ⟨Nat.le_trans (Nat.le_of_ble_eq_true rfl) hR.1, Nat.le_trans (Nat.le_of_ble_eq_true rfl) hR.2⟩ hc hdg) kk
  | 7, _ => exact z_q (z_V (n := 1) (C := "VoucherOffice$Crest") (d := 3) (As := [.int day]) S (c_Cr_worth l G a kd fr am lf ex day) h1 kg_180 kg_178 kg_232 kg_185 kg_186 kg_187 ⟨by decide, by decide⟩ pd_Cr_worth (zrec S.2 hat (zk_cls (k := 7) (by decide))) hat rfl hsz rfl hW ⟨Nat.le_trans (Nat.le_of_ble_eq_true rfl) hR.1, Nat.le_trans (Nat.le_of_ble_eq_true rfl) hR.2⟩ hc hdg) kk
end ZV_v_worth
set_option maxHeartbeats 1000000 in
theorem c_Ho_points (l : Launch) (G : ZG) (a k : Nat) (kd fr am lf ex : Int32) (hk : k = 6 ∨ k = 7) : ZK l G y_Ho_points 1 [.ref a] (fun H => va_at G.1 classes (a, pc5 k kd fr am lf ex) H) (ZE (.int (0 + ex))) 0 0 (fun _ => False) := by
  refine ZK.ofBody (cc := b_Ho_points) (maxL := 1) (ret := (some FieldType.int)) kg_253 (by decide) (by decide) (Nat.le_of_ble_eq_true rfl) ?_
  intro p e s m below meth c S hr hlk hnm hp ls hl
  obtain ⟨⟨hx, hb, hml, hown, hts⟩, hK⟩ := id S
  have hp : va_at G.1 classes (a, pc5 k kd fr am lf ex) s.heap := hp
  have hl : lv_has ls 1 [(0, .ref a)] := hl
  refine lv_aload_n hx hb d_Ho_points_0 rfl (lv_at hl 0 rfl) ?_
  refine z_q (z_SU (n := 0) (ci := k) (As := []) (rest := []) S (c_Pa_points l G a k kd fr am lf ex (zh_lt hk)) kg_254 kg_255 bl_Ho_Cl_Pa rfl kg_257 kg_258 (by decide) pd_Pa_points (zk_cls (zh_lt hk)) hp hp rfl hl.1 rfl (Nat.le_of_ble_eq_true rfl) ⟨(Nat.le_of_ble_eq_true rfl), (Nat.le_of_ble_eq_true rfl)⟩ ⟨Nat.zero_le _, Nat.zero_le _⟩ d_Ho_points_1) ?_
  refine lv_aload_n hx hb d_Ho_points_4 rfl (lv_at hl 0 rfl) ?_
  refine z_get S (zh_cls hk) (zh_in hk) hp 4 (by decide) kg_145 (Or.inl rfl) rfl d_Ho_points_5 ?_
  refine lv_iadd hx hb d_Ho_points_8 ?_
  exact z_iret (v := 0 + ex) (tys := none) S hr hlk rfl ⟨rfl, rfl⟩ z_nil d_Ho_points_9
section ZV_v_points
variable {p : Program} {l : Launch} {e : Env} {R : Room} {s : State} {m : MethodId} {args : Array Value} {below : List Frame} {meth : Method} {c : Code} {H : Heap} {locs : List Loc} {cells slots : Nat} {Q : State → Prop}
variable {cc : ByteArray} {nL pc : Nat} {ls : Array Slot} {rest : List Value} {G : ZG} {own : String} {index count : Nat} {a k : Nat} {kd fr am lf ex : Int32}
theorem v_points (S : ZC p m c cc nL s args own G) (h1 : Cond.methodLink own index y_Pa_points ∈ gw) (hk : k < 8) (hat : va_at G.1 classes (a, pc5 k kd fr am lf ex) H) (hsz : ls.size = nL) (hW : (rest.map fun v => v.category).sum ≤ 8) (hR : 2 ≤ R.frames ∧ 50 ≤ R.locals) (hc : cells + 0 ≤ R.cells ∧ slots + 0 ≤ R.slots) (hdg : decode cc pc = .ok (.invokevirtual index, 3))
    (kk : W p l e R s m args below meth c H locs cells slots Q (F0 m (pc + 3) ls (.int (ptV k ex) :: rest))) : W p l e R s m args below meth c H locs cells slots Q (F0 m pc ls (.ref a :: rest)) := by
  match k, hk with
  | 0, _ => exact z_q (z_V (n := 0) (C := "VoucherOffice$Paper") (d := 0) (As := []) S (c_Pa_points l G a 0 kd fr am lf ex (by decide)) h1 kg_561 kg_257 kg_258 kg_566 kg_257 kg_258 ⟨by decide, by decide⟩ pd_Pa_points (zrec S.2 hat (zk_cls (k := 0) (by decide))) hat rfl hsz rfl hW ⟨Nat.le_trans (Nat.le_of_ble_eq_true rfl) hR.1, Nat.le_trans (Nat.le_of_ble_eq_true rfl) hR.2⟩ hc hdg) kk
  | 1, _ => exact z_q (z_V (n := 0) (C := "VoucherOffice$Gift") (d := 0) (As := []) S (c_Pa_points l G a 1 kd fr am lf ex (by decide)) h1 kg_561 kg_257 kg_258 kg_564 kg_257 kg_258 ⟨by decide, by decide⟩ pd_Pa_points (zrec S.2 hat (zk_cls (k := 1) (by decide))) hat rfl hsz rfl hW ⟨Nat.le_trans (Nat.le_of_ble_eq_true rfl) hR.1, Nat.le_trans (Nat.le_of_ble_eq_true rfl) hR.2⟩ hc hdg) kk
  | 2, _ => exact z_q (z_V (n := 0) (C := "VoucherOffice$Season") (d := 0) (As := []) S (c_Pa_points l G a 2 kd fr am lf ex (by decide)) h1 kg_561 kg_257 kg_258 kg_568 kg_257 kg_258 ⟨by decide, by decide⟩ pd_Pa_points (zrec S.2 hat (zk_cls (k := 2) (by decide))) hat rfl hsz rfl hW ⟨Nat.le_trans (Nat.le_of_ble_eq_true rfl) hR.1, Nat.le_trans (Nat.le_of_ble_eq_true rfl) hR.2⟩ hc hdg) kk
  | 3, _ => exact z_q (z_V (n := 0) (C := "VoucherOffice$Staff") (d := 0) (As := []) S (c_Pa_points l G a 3 kd fr am lf ex (by decide)) h1 kg_561 kg_257 kg_258 kg_569 kg_257 kg_258 ⟨by decide, by decide⟩ pd_Pa_points (zrec S.2 hat (zk_cls (k := 3) (by decide))) hat rfl hsz rfl hW ⟨Nat.le_trans (Nat.le_of_ble_eq_true rfl) hR.1, Nat.le_trans (Nat.le_of_ble_eq_true rfl) hR.2⟩ hc hdg) kk
  | 4, _ => exact z_q (z_V (n := 0) (C := "VoucherOffice$Rounded") (d := 0) (As := []) S (c_Pa_points l G a 4 kd fr am lf ex (by decide)) h1 kg_561 kg_257 kg_258 kg_567 kg_257 kg_258 ⟨by decide, by decide⟩ pd_Pa_points (zrec S.2 hat (zk_cls (k := 4) (by decide))) hat rfl hsz rfl hW ⟨Nat.le_trans (Nat.le_of_ble_eq_true rfl) hR.1, Nat.le_trans (Nat.le_of_ble_eq_true rfl) hR.2⟩ hc hdg) kk
  | 5, _ => exact z_q (z_V (n := 0) (C := "VoucherOffice$Club") (d := 0) (As := []) S (c_Pa_points l G a 5 kd fr am lf ex (by decide)) h1 kg_561 kg_257 kg_258 kg_562 kg_257 kg_258 ⟨by decide, by decide⟩ pd_Pa_points (zrec S.2 hat (zk_cls (k := 5) (by decide))) hat rfl hsz rfl hW ⟨Nat.le_trans (Nat.le_of_ble_eq_true rfl) hR.1, Nat.le_trans (Nat.le_of_ble_eq_true rfl) hR.2⟩ hc hdg) kk
  | 6, _ => exact z_q (z_V (n := 0) (C := "VoucherOffice$House") (d := 1) (As := []) S (c_Ho_points l G a 6 kd fr am lf ex (Or.inl rfl)) h1 kg_561 kg_257 kg_258 kg_565 kg_252 kg_253 ⟨by decide, by decide⟩ pd_Ho_points (zrec S.2 hat (zk_cls (k := 6) (by decide))) hat rfl hsz rfl hW ⟨Nat.le_trans (Nat.le_of_ble_eq_true rfl) hR.1, Nat.le_trans (Nat.le_of_ble_eq_true rfl) hR.2⟩ hc hdg) kk
  | 7, _ => exact z_q (z_V (n := 0) (C := "VoucherOffice$Crest") (d := 1) (As := []) S (c_Ho_points l G a 7 kd fr am lf ex (Or.inr rfl)) h1 kg_561 kg_257 kg_258 kg_563 kg_252 kg_253 ⟨by decide, by decide⟩ pd_Ho_points (zrec S.2 hat (zk_cls (k := 7) (by decide))) hat rfl hsz rfl hW ⟨Nat.le_trans (Nat.le_of_ble_eq_true rfl) hR.1, Nat.le_trans (Nat.le_of_ble_eq_true rfl) hR.2⟩ hc hdg) kk
end ZV_v_points
section ZV_v_pointsC
variable {p : Program} {l : Launch} {e : Env} {R : Room} {s : State} {m : MethodId} {args : Array Value} {below : List Frame} {meth : Method} {c : Code} {H : Heap} {locs : List Loc} {cells slots : Nat} {Q : State → Prop}
variable {cc : ByteArray} {nL pc : Nat} {ls : Array Slot} {rest : List Value} {G : ZG} {own : String} {index count : Nat} {a k : Nat} {kd fr am lf ex : Int32}
theorem v_pointsC (S : ZC p m c cc nL s args own G) (h1 : Cond.methodLink own index ⟨"VoucherOffice$Crest", "points", "()I"⟩ ∈ gw) (hk : k = 7) (hat : va_at G.1 classes (a, pc5 k kd fr am lf ex) H) (hsz : ls.size = nL) (hW : (rest.map fun v => v.category).sum ≤ 8) (hR : 2 ≤ R.frames ∧ 50 ≤ R.locals) (hc : cells + 0 ≤ R.cells ∧ slots + 0 ≤ R.slots) (hdg : decode cc pc = .ok (.invokevirtual index, 3))
    (kk : W p l e R s m args below meth c H locs cells slots Q (F0 m (pc + 3) ls (.int (0 + ex) :: rest))) : W p l e R s m args below meth c H locs cells slots Q (F0 m pc ls (.ref a :: rest)) := by
  rcases hk with rfl
  · exact z_q (z_V (n := 0) (C := "VoucherOffice$Crest") (d := 1) (As := []) S (c_Ho_points l G a 7 kd fr am lf ex (Or.inr rfl)) h1 kg_249 kg_252 kg_253 kg_251 kg_252 kg_253 ⟨by decide, by decide⟩ pd_Ho_points (zrec S.2 hat (zk_cls (k := 7) (by decide))) hat rfl hsz rfl hW ⟨Nat.le_trans (Nat.le_of_ble_eq_true rfl) hR.1, Nat.le_trans (Nat.le_of_ble_eq_true rfl) hR.2⟩ hc hdg) kk
end ZV_v_pointsC
set_option maxHeartbeats 1000000 in
theorem c_St_fee (l : Launch) (G : ZG) (a : Nat) (kd fr am lf ex : Int32) (g : Int32)  : ZK l G y_St_fee 1 [.ref a, .int g] (fun H => va_at G.1 classes (a, pc5 3 kd fr am lf ex) H) (ZE (.int (fV 3 ex g))) 0 0 (fun _ => False) := by
  refine ZK.ofBody (cc := b_St_fee) (maxL := 2) (ret := (some FieldType.int)) kg_265 (by decide) (by decide) (Nat.le_of_ble_eq_true rfl) ?_
  intro p e s m below meth c S hr hlk hnm hp ls hl
  obtain ⟨⟨hx, hb, hml, hown, hts⟩, hK⟩ := id S
  have hp : va_at G.1 classes (a, pc5 3 kd fr am lf ex) s.heap := hp
  have hl : lv_has ls 2 [(0, .ref a), (1, .int g)] := hl
  refine lv_aload_n hx hb d_St_fee_0 rfl (lv_at hl 0 rfl) ?_
  refine lv_iload_n hx hb d_St_fee_1 rfl (lv_at hl 1 rfl) ?_
  refine z_q (z_SU (n := 1) (ci := 3) (As := [.int g]) (rest := []) S (c_Pa_fee l G a 3 kd fr am lf ex g (show (3 : Nat) < 8 by decide)) kg_266 kg_267 bl_St_Se_Pa rfl kg_238 kg_268 (by decide) pd_Pa_fee (zk_cls (show (3 : Nat) < 8 by decide)) hp hp rfl hl.1 rfl (Nat.le_of_ble_eq_true rfl) ⟨(Nat.le_of_ble_eq_true rfl), (Nat.le_of_ble_eq_true rfl)⟩ ⟨Nat.zero_le _, Nat.zero_le _⟩ d_St_fee_2) ?_
  refine lv_iconst (v := 2) hx hb d_St_fee_5 (by decide) ?_
  refine lv_idiv hx hb d_St_fee_6 (by decide) ?_
  exact z_iret (v := fV 3 ex g) (tys := none) S hr hlk rfl ⟨rfl, rfl⟩ z_nil d_St_fee_7
set_option maxHeartbeats 1000000 in
theorem c_Cr_fee (l : Launch) (G : ZG) (a : Nat) (kd fr am lf ex : Int32) (g : Int32)  : ZK l G y_Cr_fee 2 [.ref a, .int g] (fun H => va_at G.1 classes (a, pc5 7 kd fr am lf ex) H) (ZE (.int (fV 7 ex g))) 0 0 (fun _ => False) := by
  refine ZK.ofBody (cc := b_Cr_fee) (maxL := 3) (ret := (some FieldType.int)) kg_244 (by decide) (by decide) (Nat.le_of_ble_eq_true rfl) ?_
  intro p e s m below meth c S hr hlk hnm hp ls hl
  obtain ⟨⟨hx, hb, hml, hown, hts⟩, hK⟩ := id S
  have hp : va_at G.1 classes (a, pc5 7 kd fr am lf ex) s.heap := hp
  have hl : lv_has ls 3 [(0, .ref a), (1, .int g)] := hl
  refine lv_aload_n hx hb d_Cr_fee_0 rfl (lv_at hl 0 rfl) ?_
  refine lv_iload_n hx hb d_Cr_fee_1 rfl (lv_at hl 1 rfl) ?_
  refine z_q (z_SU (n := 1) (ci := 7) (As := [.int g]) (rest := []) S (c_Pa_fee l G a 7 kd fr am lf ex g (show (7 : Nat) < 8 by decide)) kg_245 kg_246 bl_Cr_Ho_Pa rfl kg_238 kg_268 (by decide) pd_Pa_fee (zk_cls (show (7 : Nat) < 8 by decide)) hp hp rfl hl.1 rfl (Nat.le_of_ble_eq_true rfl) ⟨(Nat.le_of_ble_eq_true rfl), (Nat.le_of_ble_eq_true rfl)⟩ ⟨Nat.zero_le _, Nat.zero_le _⟩ d_Cr_fee_2) ?_
  refine lv_aload_n hx hb d_Cr_fee_5 rfl (lv_at hl 0 rfl) ?_
  refine v_pointsC S kg_248 rfl hp hl.1 (Nat.le_of_ble_eq_true rfl) ⟨(Nat.le_of_ble_eq_true rfl), (Nat.le_of_ble_eq_true rfl)⟩ ⟨Nat.zero_le _, Nat.zero_le _⟩ d_Cr_fee_6 ?_
  refine lv_isub hx hb d_Cr_fee_9 ?_
  refine lv_istore_n (lv' := [(2, .int ((fbV g) - (0 + ex))), (0, .ref a), (1, .int g)]) hx hb d_Cr_fee_10 rfl hl (by decide) rfl (fun ls hl => ?_)
  refine lv_iload_n hx hb d_Cr_fee_11 rfl (lv_at hl 0 rfl) ?_
  refine lv_if_ge (tgt := 19) hx hb d_Cr_fee_12 (by decide) (fun c_1 => ?_) (fun c_1 => ?_)
  · refine lv_iload_n hx hb d_Cr_fee_19 rfl (lv_at hl 0 rfl) ?_
    exact z_iret (v := fV 7 ex g) (tys := none) S hr hlk (by simp only [fV, c_1, ↓reduceIte]) ⟨rfl, rfl⟩ z_nil d_Cr_fee_20
  · refine lv_iconst (v := 0) hx hb d_Cr_fee_15 (by decide) ?_
    refine lv_goto (tgt := 20) hx hb d_Cr_fee_16 (by decide) ?_
    exact z_iret (v := fV 7 ex g) (tys := none) S hr hlk (by simp only [fV, c_1, ↓reduceIte]) ⟨rfl, rfl⟩ z_nil d_Cr_fee_20
section ZV_v_fee
variable {p : Program} {l : Launch} {e : Env} {R : Room} {s : State} {m : MethodId} {args : Array Value} {below : List Frame} {meth : Method} {c : Code} {H : Heap} {locs : List Loc} {cells slots : Nat} {Q : State → Prop}
variable {cc : ByteArray} {nL pc : Nat} {ls : Array Slot} {rest : List Value} {G : ZG} {own : String} {index count : Nat} {a k : Nat} {kd fr am lf ex : Int32}
theorem v_fee {g : Int32} (S : ZC p m c cc nL s args own G) (h1 : Cond.methodLink own index y_Pa_fee ∈ gw) (hk : k < 8) (hat : va_at G.1 classes (a, pc5 k kd fr am lf ex) H) (hsz : ls.size = nL) (hW : (rest.map fun v => v.category).sum ≤ 8) (hR : 3 ≤ R.frames ∧ 75 ≤ R.locals) (hc : cells + 0 ≤ R.cells ∧ slots + 0 ≤ R.slots) (hdg : decode cc pc = .ok (.invokevirtual index, 3))
    (kk : W p l e R s m args below meth c H locs cells slots Q (F0 m (pc + 3) ls (.int (fV k ex g) :: rest))) : W p l e R s m args below meth c H locs cells slots Q (F0 m pc ls (.int g :: .ref a :: rest)) := by
  match k, hk with
  | 0, _ => exact z_q (z_V (n := 1) (C := "VoucherOffice$Paper") (d := 0) (As := [.int g]) S (c_Pa_fee l G a 0 kd fr am lf ex g (by decide)) h1 kg_240 kg_238 kg_268 kg_239 kg_238 kg_268 ⟨by decide, by decide⟩ pd_Pa_fee (zrec S.2 hat (zk_cls (k := 0) (by decide))) hat rfl hsz rfl hW ⟨Nat.le_trans (Nat.le_of_ble_eq_true rfl) hR.1, Nat.le_trans (Nat.le_of_ble_eq_true rfl) hR.2⟩ hc hdg) kk
  | 1, _ => exact z_q (z_V (n := 1) (C := "VoucherOffice$Gift") (d := 0) (As := [.int g]) S (c_Pa_fee l G a 1 kd fr am lf ex g (by decide)) h1 kg_240 kg_238 kg_268 kg_259 kg_238 kg_268 ⟨by decide, by decide⟩ pd_Pa_fee (zrec S.2 hat (zk_cls (k := 1) (by decide))) hat rfl hsz rfl hW ⟨Nat.le_trans (Nat.le_of_ble_eq_true rfl) hR.1, Nat.le_trans (Nat.le_of_ble_eq_true rfl) hR.2⟩ hc hdg) kk
  | 2, _ => exact z_q (z_V (n := 1) (C := "VoucherOffice$Season") (d := 0) (As := [.int g]) S (c_Pa_fee l G a 2 kd fr am lf ex g (by decide)) h1 kg_240 kg_238 kg_268 kg_262 kg_238 kg_268 ⟨by decide, by decide⟩ pd_Pa_fee (zrec S.2 hat (zk_cls (k := 2) (by decide))) hat rfl hsz rfl hW ⟨Nat.le_trans (Nat.le_of_ble_eq_true rfl) hR.1, Nat.le_trans (Nat.le_of_ble_eq_true rfl) hR.2⟩ hc hdg) kk
  | 3, _ => exact z_q (z_V (n := 1) (C := "VoucherOffice$Staff") (d := 1) (As := [.int g]) S (c_St_fee l G a kd fr am lf ex g) h1 kg_240 kg_238 kg_268 kg_263 kg_264 kg_265 ⟨by decide, by decide⟩ pd_St_fee (zrec S.2 hat (zk_cls (k := 3) (by decide))) hat rfl hsz rfl hW ⟨Nat.le_trans (Nat.le_of_ble_eq_true rfl) hR.1, Nat.le_trans (Nat.le_of_ble_eq_true rfl) hR.2⟩ hc hdg) kk
  | 4, _ => exact z_q (z_V (n := 1) (C := "VoucherOffice$Rounded") (d := 0) (As := [.int g]) S (c_Pa_fee l G a 4 kd fr am lf ex g (by decide)) h1 kg_240 kg_238 kg_268 kg_261 kg_238 kg_268 ⟨by decide, by decide⟩ pd_Pa_fee (zrec S.2 hat (zk_cls (k := 4) (by decide))) hat rfl hsz rfl hW ⟨Nat.le_trans (Nat.le_of_ble_eq_true rfl) hR.1, Nat.le_trans (Nat.le_of_ble_eq_true rfl) hR.2⟩ hc hdg) kk
  | 5, _ => exact z_q (z_V (n := 1) (C := "VoucherOffice$Club") (d := 0) (As := [.int g]) S (c_Pa_fee l G a 5 kd fr am lf ex g (by decide)) h1 kg_240 kg_238 kg_268 kg_241 kg_238 kg_268 ⟨by decide, by decide⟩ pd_Pa_fee (zrec S.2 hat (zk_cls (k := 5) (by decide))) hat rfl hsz rfl hW ⟨Nat.le_trans (Nat.le_of_ble_eq_true rfl) hR.1, Nat.le_trans (Nat.le_of_ble_eq_true rfl) hR.2⟩ hc hdg) kk
  | 6, _ => exact z_q (z_V (n := 1) (C := "VoucherOffice$House") (d := 0) (As := [.int g]) S (c_Pa_fee l G a 6 kd fr am lf ex g (by decide)) h1 kg_240 kg_238 kg_268 kg_260 kg_238 kg_268 ⟨by decide, by decide⟩ pd_Pa_fee (zrec S.2 hat (zk_cls (k := 6) (by decide))) hat rfl hsz rfl hW ⟨Nat.le_trans (Nat.le_of_ble_eq_true rfl) hR.1, Nat.le_trans (Nat.le_of_ble_eq_true rfl) hR.2⟩ hc hdg) kk
  | 7, _ => exact z_q (z_V (n := 1) (C := "VoucherOffice$Crest") (d := 2) (As := [.int g]) S (c_Cr_fee l G a kd fr am lf ex g) h1 kg_240 kg_238 kg_268 kg_242 kg_243 kg_244 ⟨by decide, by decide⟩ pd_Cr_fee (zrec S.2 hat (zk_cls (k := 7) (by decide))) hat rfl hsz rfl hW ⟨Nat.le_trans (Nat.le_of_ble_eq_true rfl) hR.1, Nat.le_trans (Nat.le_of_ble_eq_true rfl) hR.2⟩ hc hdg) kk
end ZV_v_fee
section ZV_v_lastDay
variable {p : Program} {l : Launch} {e : Env} {R : Room} {s : State} {m : MethodId} {args : Array Value} {below : List Frame} {meth : Method} {c : Code} {H : Heap} {locs : List Loc} {cells slots : Nat} {Q : State → Prop}
variable {cc : ByteArray} {nL pc : Nat} {ls : Array Slot} {rest : List Value} {G : ZG} {own : String} {index count : Nat} {a k : Nat} {kd fr am lf ex : Int32}
theorem v_lastDay (S : ZC p m c cc nL s args own G) (h1 : Cond.methodLink own index y_Se_lastDay ∈ gw) (hk : k = 2 ∨ k = 3) (hat : va_at G.1 classes (a, pc5 k kd fr am lf ex) H) (hsz : ls.size = nL) (hW : (rest.map fun v => v.category).sum ≤ 8) (hR : 1 ≤ R.frames ∧ 25 ≤ R.locals) (hc : cells + 0 ≤ R.cells ∧ slots + 0 ≤ R.slots) (hdg : decode cc pc = .ok (.invokevirtual index, 3))
    (kk : W p l e R s m args below meth c H locs cells slots Q (F0 m (pc + 3) ls (.int (ldV k fr) :: rest))) : W p l e R s m args below meth c H locs cells slots Q (F0 m pc ls (.ref a :: rest)) := by
  rcases hk with rfl | rfl
  · exact z_q (z_V (n := 0) (C := "VoucherOffice$Season") (d := 0) (As := []) S (c_Se_lastDay l G a 2 kd fr am lf ex (by decide)) h1 kg_558 kg_215 kg_217 kg_559 kg_215 kg_217 ⟨by decide, by decide⟩ pd_Se_lastDay (zrec S.2 hat (zk_cls (k := 2) (by decide))) hat rfl hsz rfl hW ⟨Nat.le_trans (Nat.le_of_ble_eq_true rfl) hR.1, Nat.le_trans (Nat.le_of_ble_eq_true rfl) hR.2⟩ hc hdg) kk
  · exact z_q (z_V (n := 0) (C := "VoucherOffice$Staff") (d := 0) (As := []) S (c_St_lastDay l G a kd fr am lf ex) h1 kg_558 kg_215 kg_217 kg_560 kg_221 kg_223 ⟨by decide, by decide⟩ pd_St_lastDay (zrec S.2 hat (zk_cls (k := 3) (by decide))) hat rfl hsz rfl hW ⟨Nat.le_trans (Nat.le_of_ble_eq_true rfl) hR.1, Nat.le_trans (Nat.le_of_ble_eq_true rfl) hR.2⟩ hc hdg) kk
end ZV_v_lastDay
set_option maxHeartbeats 1000000 in
theorem c_Se_seal (l : Launch) (G : ZG) (a k : Nat) (kd fr am lf ex : Int32) (hk : k = 2 ∨ k = 3) : ZK l G y_Se_seal 1 [.ref a] (fun H => va_at G.1 classes (a, pc5 k kd fr am lf ex) H) (ZE (.int (sbV fr am lf + ldV k fr))) 0 0 (fun _ => False) := by
  refine ZK.ofBody (cc := b_Se_seal) (maxL := 1) (ret := (some FieldType.int)) kg_316 (by decide) (by decide) (Nat.le_of_ble_eq_true rfl) ?_
  intro p e s m below meth c S hr hlk hnm hp ls hl
  obtain ⟨⟨hx, hb, hml, hown, hts⟩, hK⟩ := id S
  have hp : va_at G.1 classes (a, pc5 k kd fr am lf ex) s.heap := hp
  have hl : lv_has ls 1 [(0, .ref a)] := hl
  refine lv_aload_n hx hb d_Se_seal_0 rfl (lv_at hl 0 rfl) ?_
  refine z_q (z_SU (n := 0) (ci := k) (As := []) (rest := []) S (c_Pa_seal l G a k kd fr am lf ex (zd_lt hk)) kg_317 kg_318 bl_Se_Gi_Pa rfl kg_301 kg_321 (by decide) pd_Pa_seal (zk_cls (zd_lt hk)) hp hp rfl hl.1 rfl (Nat.le_of_ble_eq_true rfl) ⟨(Nat.le_of_ble_eq_true rfl), (Nat.le_of_ble_eq_true rfl)⟩ ⟨Nat.zero_le _, Nat.zero_le _⟩ d_Se_seal_1) ?_
  refine lv_aload_n hx hb d_Se_seal_4 rfl (lv_at hl 0 rfl) ?_
  refine v_lastDay S kg_319 hk hp hl.1 (Nat.le_of_ble_eq_true rfl) ⟨(Nat.le_of_ble_eq_true rfl), (Nat.le_of_ble_eq_true rfl)⟩ ⟨Nat.zero_le _, Nat.zero_le _⟩ d_Se_seal_5 ?_
  refine lv_iadd hx hb d_Se_seal_8 ?_
  exact z_iret (v := sbV fr am lf + ldV k fr) (tys := none) S hr hlk rfl ⟨rfl, rfl⟩ z_nil d_Se_seal_9
set_option maxHeartbeats 1000000 in
theorem c_Cr_seal (l : Launch) (G : ZG) (a : Nat) (kd fr am lf ex : Int32)  : ZK l G y_Cr_seal 2 [.ref a] (fun H => va_at G.1 classes (a, pc5 7 kd fr am lf ex) H) (ZE (.int (slV 7 fr am lf ex))) 0 0 (fun _ => False) := by
  refine ZK.ofBody (cc := b_Cr_seal) (maxL := 1) (ret := (some FieldType.int)) kg_307 (by decide) (by decide) (Nat.le_of_ble_eq_true rfl) ?_
  intro p e s m below meth c S hr hlk hnm hp ls hl
  obtain ⟨⟨hx, hb, hml, hown, hts⟩, hK⟩ := id S
  have hp : va_at G.1 classes (a, pc5 7 kd fr am lf ex) s.heap := hp
  have hl : lv_has ls 1 [(0, .ref a)] := hl
  refine lv_aload_n hx hb d_Cr_seal_0 rfl (lv_at hl 0 rfl) ?_
  refine z_q (z_SU (n := 0) (ci := 7) (As := []) (rest := []) S (c_Pa_seal l G a 7 kd fr am lf ex (show (7 : Nat) < 8 by decide)) kg_308 kg_309 bl_Cr_Ho_Pa rfl kg_301 kg_321 (by decide) pd_Pa_seal (zk_cls (show (7 : Nat) < 8 by decide)) hp hp rfl hl.1 rfl (Nat.le_of_ble_eq_true rfl) ⟨(Nat.le_of_ble_eq_true rfl), (Nat.le_of_ble_eq_true rfl)⟩ ⟨Nat.zero_le _, Nat.zero_le _⟩ d_Cr_seal_1) ?_
  refine lv_iconst (v := 3) hx hb d_Cr_seal_4 (by decide) ?_
  refine lv_aload_n hx hb d_Cr_seal_5 rfl (lv_at hl 0 rfl) ?_
  refine v_pointsC S kg_248 rfl hp hl.1 (Nat.le_of_ble_eq_true rfl) ⟨(Nat.le_of_ble_eq_true rfl), (Nat.le_of_ble_eq_true rfl)⟩ ⟨Nat.zero_le _, Nat.zero_le _⟩ d_Cr_seal_6 ?_
  refine lv_imul hx hb d_Cr_seal_9 ?_
  refine lv_iadd hx hb d_Cr_seal_10 ?_
  exact z_iret (v := slV 7 fr am lf ex) (tys := none) S hr hlk rfl ⟨rfl, rfl⟩ z_nil d_Cr_seal_11
section ZV_v_seal
variable {p : Program} {l : Launch} {e : Env} {R : Room} {s : State} {m : MethodId} {args : Array Value} {below : List Frame} {meth : Method} {c : Code} {H : Heap} {locs : List Loc} {cells slots : Nat} {Q : State → Prop}
variable {cc : ByteArray} {nL pc : Nat} {ls : Array Slot} {rest : List Value} {G : ZG} {own : String} {index count : Nat} {a k : Nat} {kd fr am lf ex : Int32}
theorem v_seal (S : ZC p m c cc nL s args own G) (h1 : Cond.methodLink own index y_Pa_seal ∈ gw) (hk : k < 8) (hat : va_at G.1 classes (a, pc5 k kd fr am lf ex) H) (hsz : ls.size = nL) (hW : (rest.map fun v => v.category).sum ≤ 8) (hR : 3 ≤ R.frames ∧ 75 ≤ R.locals) (hc : cells + 0 ≤ R.cells ∧ slots + 0 ≤ R.slots) (hdg : decode cc pc = .ok (.invokevirtual index, 3))
    (kk : W p l e R s m args below meth c H locs cells slots Q (F0 m (pc + 3) ls (.int (slV k fr am lf ex) :: rest))) : W p l e R s m args below meth c H locs cells slots Q (F0 m pc ls (.ref a :: rest)) := by
  match k, hk with
  | 0, _ => exact z_q (z_V (n := 0) (C := "VoucherOffice$Paper") (d := 0) (As := []) S (c_Pa_seal l G a 0 kd fr am lf ex (by decide)) h1 kg_303 kg_301 kg_321 kg_302 kg_301 kg_321 ⟨by decide, by decide⟩ pd_Pa_seal (zrec S.2 hat (zk_cls (k := 0) (by decide))) hat rfl hsz rfl hW ⟨Nat.le_trans (Nat.le_of_ble_eq_true rfl) hR.1, Nat.le_trans (Nat.le_of_ble_eq_true rfl) hR.2⟩ hc hdg) kk
  | 1, _ => exact z_q (z_V (n := 0) (C := "VoucherOffice$Gift") (d := 0) (As := []) S (c_Pa_seal l G a 1 kd fr am lf ex (by decide)) h1 kg_303 kg_301 kg_321 kg_311 kg_301 kg_321 ⟨by decide, by decide⟩ pd_Pa_seal (zrec S.2 hat (zk_cls (k := 1) (by decide))) hat rfl hsz rfl hW ⟨Nat.le_trans (Nat.le_of_ble_eq_true rfl) hR.1, Nat.le_trans (Nat.le_of_ble_eq_true rfl) hR.2⟩ hc hdg) kk
  | 2, _ => exact z_q (z_V (n := 0) (C := "VoucherOffice$Season") (d := 1) (As := []) S (c_Se_seal l G a 2 kd fr am lf ex (Or.inl rfl)) h1 kg_303 kg_301 kg_321 kg_314 kg_315 kg_316 ⟨by decide, by decide⟩ pd_Se_seal (zrec S.2 hat (zk_cls (k := 2) (by decide))) hat rfl hsz rfl hW ⟨Nat.le_trans (Nat.le_of_ble_eq_true rfl) hR.1, Nat.le_trans (Nat.le_of_ble_eq_true rfl) hR.2⟩ hc hdg) kk
  | 3, _ => exact z_q (z_V (n := 0) (C := "VoucherOffice$Staff") (d := 1) (As := []) S (c_Se_seal l G a 3 kd fr am lf ex (Or.inr rfl)) h1 kg_303 kg_301 kg_321 kg_320 kg_315 kg_316 ⟨by decide, by decide⟩ pd_Se_seal (zrec S.2 hat (zk_cls (k := 3) (by decide))) hat rfl hsz rfl hW ⟨Nat.le_trans (Nat.le_of_ble_eq_true rfl) hR.1, Nat.le_trans (Nat.le_of_ble_eq_true rfl) hR.2⟩ hc hdg) kk
  | 4, _ => exact z_q (z_V (n := 0) (C := "VoucherOffice$Rounded") (d := 0) (As := []) S (c_Pa_seal l G a 4 kd fr am lf ex (by decide)) h1 kg_303 kg_301 kg_321 kg_313 kg_301 kg_321 ⟨by decide, by decide⟩ pd_Pa_seal (zrec S.2 hat (zk_cls (k := 4) (by decide))) hat rfl hsz rfl hW ⟨Nat.le_trans (Nat.le_of_ble_eq_true rfl) hR.1, Nat.le_trans (Nat.le_of_ble_eq_true rfl) hR.2⟩ hc hdg) kk
  | 5, _ => exact z_q (z_V (n := 0) (C := "VoucherOffice$Club") (d := 0) (As := []) S (c_Pa_seal l G a 5 kd fr am lf ex (by decide)) h1 kg_303 kg_301 kg_321 kg_304 kg_301 kg_321 ⟨by decide, by decide⟩ pd_Pa_seal (zrec S.2 hat (zk_cls (k := 5) (by decide))) hat rfl hsz rfl hW ⟨Nat.le_trans (Nat.le_of_ble_eq_true rfl) hR.1, Nat.le_trans (Nat.le_of_ble_eq_true rfl) hR.2⟩ hc hdg) kk
  | 6, _ => exact z_q (z_V (n := 0) (C := "VoucherOffice$House") (d := 0) (As := []) S (c_Pa_seal l G a 6 kd fr am lf ex (by decide)) h1 kg_303 kg_301 kg_321 kg_312 kg_301 kg_321 ⟨by decide, by decide⟩ pd_Pa_seal (zrec S.2 hat (zk_cls (k := 6) (by decide))) hat rfl hsz rfl hW ⟨Nat.le_trans (Nat.le_of_ble_eq_true rfl) hR.1, Nat.le_trans (Nat.le_of_ble_eq_true rfl) hR.2⟩ hc hdg) kk
  | 7, _ => exact z_q (z_V (n := 0) (C := "VoucherOffice$Crest") (d := 2) (As := []) S (c_Cr_seal l G a kd fr am lf ex) h1 kg_303 kg_301 kg_321 kg_305 kg_306 kg_307 ⟨by decide, by decide⟩ pd_Cr_seal (zrec S.2 hat (zk_cls (k := 7) (by decide))) hat rfl hsz rfl hW ⟨Nat.le_trans (Nat.le_of_ble_eq_true rfl) hR.1, Nat.le_trans (Nat.le_of_ble_eq_true rfl) hR.2⟩ hc hdg) kk
end ZV_v_seal
section ZV_f_seal
variable {p : Program} {l : Launch} {e : Env} {R : Room} {s : State} {m : MethodId} {args : Array Value} {below : List Frame} {meth : Method} {c : Code} {H : Heap} {locs : List Loc} {cells slots : Nat} {Q : State → Prop}
variable {cc : ByteArray} {nL pc : Nat} {ls : Array Slot} {rest : List Value} {G : ZG} {own : String} {index count : Nat} {a k : Nat} {kd fr am lf ex : Int32}
theorem f_seal (S : ZC p m c cc nL s args own G) (h1 : Cond.methodLink own index ⟨"VoucherOffice$Sealed", "seal", "()I"⟩ ∈ gw) (hk : k = 5 ∨ k = 6 ∨ k = 7) (hat : va_at G.1 classes (a, pc5 k kd fr am lf ex) H) (hsz : ls.size = nL) (hW : (rest.map fun v => v.category).sum ≤ 8) (hR : 3 ≤ R.frames ∧ 75 ≤ R.locals) (hc : cells + 0 ≤ R.cells ∧ slots + 0 ≤ R.slots) (hdg : decode cc pc = .ok (.invokeinterface index count, 5))
    (kk : W p l e R s m args below meth c H locs cells slots Q (F0 m (pc + 5) ls (.int (slV k fr am lf ex) :: rest))) : W p l e R s m args below meth c H locs cells slots Q (F0 m pc ls (.ref a :: rest)) := by
  rcases hk with rfl | rfl | rfl
  · exact z_q (z_F (n := 0) (C := "VoucherOffice$Club") (d := 0) (As := []) S (c_Pa_seal l G a 5 kd fr am lf ex (by decide)) h1 kf_339 kf_338 (by decide) kg_340 kg_301 kf_342 kf_341 kf_331 kg_321 ⟨by decide, by decide⟩ pd_Pa_seal (zk_cls (k := 5) (by decide)) rfl hat hat rfl hsz rfl hW ⟨Nat.le_trans (Nat.le_of_ble_eq_true rfl) hR.1, Nat.le_trans (Nat.le_of_ble_eq_true rfl) hR.2⟩ hc hdg) kk
  · exact z_q (z_F (n := 0) (C := "VoucherOffice$House") (d := 0) (As := []) S (c_Pa_seal l G a 6 kd fr am lf ex (by decide)) h1 kf_339 kf_338 (by decide) kg_348 kg_301 kf_342 kf_349 kf_347 kg_321 ⟨by decide, by decide⟩ pd_Pa_seal (zk_cls (k := 6) (by decide)) rfl hat hat rfl hsz rfl hW ⟨Nat.le_trans (Nat.le_of_ble_eq_true rfl) hR.1, Nat.le_trans (Nat.le_of_ble_eq_true rfl) hR.2⟩ hc hdg) kk
  · exact z_q (z_F (n := 0) (C := "VoucherOffice$Crest") (d := 2) (As := []) S (c_Cr_seal l G a kd fr am lf ex) h1 kf_339 kf_338 (by decide) kg_344 kg_306 kf_346 kf_345 kf_343 kg_307 ⟨by decide, by decide⟩ pd_Cr_seal (zk_cls (k := 7) (by decide)) rfl hat hat rfl hsz rfl hW ⟨Nat.le_trans (Nat.le_of_ble_eq_true rfl) hR.1, Nat.le_trans (Nat.le_of_ble_eq_true rfl) hR.2⟩ hc hdg) kk
end ZV_f_seal
theorem zs_lt {k : Nat} (h : k = 5 ∨ k = 6 ∨ k = 7) : k < 8 := by rcases h with rfl | rfl | rfl <;> decide
set_option maxHeartbeats 1000000 in
theorem c_Sl_mark (l : Launch) (G : ZG) (a k : Nat) (kd fr am lf ex : Int32) (n : Int32) (hk : k = 5 ∨ k = 6 ∨ k = 7) : ZK l G y_Sl_mark 3 [.ref a, .int n] (fun H => va_at G.1 classes (a, pc5 k kd fr am lf ex) H) (ZE (.int (7 * slV k fr am lf ex + n))) 0 0 (fun _ => False) := by
  refine ZK.ofBody (cc := b_Sl_mark) (maxL := 2) (ret := (some FieldType.int)) kg_335 (by decide) (by decide) (Nat.le_of_ble_eq_true rfl) ?_
  intro p e s m below meth c S hr hlk hnm hp ls hl
  obtain ⟨⟨hx, hb, hml, hown, hts⟩, hK⟩ := id S
  have hp : va_at G.1 classes (a, pc5 k kd fr am lf ex) s.heap := hp
  have hl : lv_has ls 2 [(0, .ref a), (1, .int n)] := hl
  refine lv_bipush (v := 7) hx hb d_Sl_mark_0 (by decide) ?_
  refine lv_aload_n hx hb d_Sl_mark_2 rfl (lv_at hl 0 rfl) ?_
  refine f_seal S kg_337 hk hp hl.1 (Nat.le_of_ble_eq_true rfl) ⟨(Nat.le_of_ble_eq_true rfl), (Nat.le_of_ble_eq_true rfl)⟩ ⟨Nat.zero_le _, Nat.zero_le _⟩ d_Sl_mark_3 ?_
  refine lv_imul hx hb d_Sl_mark_8 ?_
  refine lv_iload_n hx hb d_Sl_mark_9 rfl (lv_at hl 1 rfl) ?_
  refine lv_iadd hx hb d_Sl_mark_10 ?_
  exact z_iret (v := 7 * slV k fr am lf ex + n) (tys := none) S hr hlk rfl ⟨rfl, rfl⟩ z_nil d_Sl_mark_11
section ZV_f_mark
variable {p : Program} {l : Launch} {e : Env} {R : Room} {s : State} {m : MethodId} {args : Array Value} {below : List Frame} {meth : Method} {c : Code} {H : Heap} {locs : List Loc} {cells slots : Nat} {Q : State → Prop}
variable {cc : ByteArray} {nL pc : Nat} {ls : Array Slot} {rest : List Value} {G : ZG} {own : String} {index count : Nat} {a k : Nat} {kd fr am lf ex : Int32}
theorem f_mark {n : Int32} (S : ZC p m c cc nL s args own G) (h1 : Cond.methodLink own index ⟨"VoucherOffice$Sealed", "mark", "(I)I"⟩ ∈ gw) (hk : k = 5 ∨ k = 6 ∨ k = 7) (hat : va_at G.1 classes (a, pc5 k kd fr am lf ex) H) (hsz : ls.size = nL) (hW : (rest.map fun v => v.category).sum ≤ 8) (hR : 4 ≤ R.frames ∧ 100 ≤ R.locals) (hc : cells + 0 ≤ R.cells ∧ slots + 0 ≤ R.slots) (hdg : decode cc pc = .ok (.invokeinterface index count, 5))
    (kk : W p l e R s m args below meth c H locs cells slots Q (F0 m (pc + 5) ls (.int (7 * slV k fr am lf ex + n) :: rest))) : W p l e R s m args below meth c H locs cells slots Q (F0 m pc ls (.int n :: .ref a :: rest)) := by
  rcases hk with rfl | rfl | rfl
  · exact z_q (z_FD (n := 1) (C := "VoucherOffice$Club") (d := 3) (As := [.int n]) S (c_Sl_mark l G a 5 kd fr am lf ex n (Or.inl rfl)) h1 kf_330 kf_329 (by decide) (by simp [dz]) kg_333 kf_334 kf_332 kf_331 ok_Sl_mark pd_Sl_mark (zk_cls (k := 5) (by decide)) rfl hat hat rfl hsz rfl hW ⟨Nat.le_trans (Nat.le_of_ble_eq_true rfl) hR.1, Nat.le_trans (Nat.le_of_ble_eq_true rfl) hR.2⟩ hc hdg) kk
  · exact z_q (z_FD (n := 1) (C := "VoucherOffice$House") (d := 3) (As := [.int n]) S (c_Sl_mark l G a 6 kd fr am lf ex n (Or.inr (Or.inl rfl))) h1 kf_330 kf_329 (by decide) (by simp [dz]) kg_333 kf_334 kf_351 kf_347 ok_Sl_mark pd_Sl_mark (zk_cls (k := 6) (by decide)) rfl hat hat rfl hsz rfl hW ⟨Nat.le_trans (Nat.le_of_ble_eq_true rfl) hR.1, Nat.le_trans (Nat.le_of_ble_eq_true rfl) hR.2⟩ hc hdg) kk
  · exact z_q (z_FD (n := 1) (C := "VoucherOffice$Crest") (d := 3) (As := [.int n]) S (c_Sl_mark l G a 7 kd fr am lf ex n (Or.inr (Or.inr rfl))) h1 kf_330 kf_329 (by decide) (by simp [dz]) kg_333 kf_334 kf_350 kf_343 ok_Sl_mark pd_Sl_mark (zk_cls (k := 7) (by decide)) rfl hat hat rfl hsz rfl hW ⟨Nat.le_trans (Nat.le_of_ble_eq_true rfl) hR.1, Nat.le_trans (Nat.le_of_ble_eq_true rfl) hR.2⟩ hc hdg) kk
end ZV_f_mark
end
section
set_option maxHeartbeats 1000000 in
theorem c_Pa_spend (l : Launch) (G : ZG) (a k : Nat) (kd fr am lf ex : Int32) (g day : Int32) (hk : k < 8) : ZK l G y_Pa_spend 4 [.ref a, .int g, .int day] (fun H => va_at G.1 classes (a, pc5 k kd fr am lf ex) H) (ZA (some (.int (spR k fr lf ex g day))) (ZF1 G a (pc5 k kd fr am (spL k fr lf ex g day) ex))) 0 0 (fun q => q = a) := by
  refine ZK.ofBody (cc := b_Pa_spend) (maxL := 4) (ret := (some FieldType.int)) kg_293 (by decide) (by decide) (Nat.le_of_ble_eq_true rfl) ?_
  intro p e s m below meth c S hr hlk hnm hp ls hl
  obtain ⟨⟨hx, hb, hml, hown, hts⟩, hK⟩ := id S
  have hP : va_P G.1 classes [(a, pc5 k kd fr am lf ex)] s.heap := va_P1 hp
  have hD : va_D (fun q => q = a) [(a, pc5 k kd fr am lf ex)] := zD1
  have hS : va_S (fun q => q = a) s.heap s.heap [] := va_S.rf
  have hl : lv_has ls 4 [(0, .ref a), (1, .int g), (2, .int day)] := hl
  refine lv_iload_n hx hb d_Pa_spend_0 rfl (lv_at hl 1 rfl) ?_
  refine lv_aload_n hx hb d_Pa_spend_1 rfl (lv_at hl 0 rfl) ?_
  refine lv_iload_n hx hb d_Pa_spend_2 rfl (lv_at hl 1 rfl) ?_
  refine v_fee S kg_294 hk (hP 0 _ rfl) hl.1 (Nat.le_of_ble_eq_true rfl) ⟨(Nat.le_of_ble_eq_true rfl), (Nat.le_of_ble_eq_true rfl)⟩ ⟨Nat.zero_le _, Nat.zero_le _⟩ d_Pa_spend_3 ?_
  refine lv_iadd hx hb d_Pa_spend_6 ?_
  refine lv_istore_n (lv' := [(3, .int (g + (fV k ex g))), (0, .ref a), (1, .int g), (2, .int day)]) hx hb d_Pa_spend_7 rfl hl (by decide) rfl (fun ls hl => ?_)
  refine lv_iload_n hx hb d_Pa_spend_8 rfl (lv_at hl 2 rfl) ?_
  refine lv_aload_n hx hb d_Pa_spend_9 rfl (lv_at hl 1 rfl) ?_
  refine lv_iload_n hx hb d_Pa_spend_10 rfl (lv_at hl 3 rfl) ?_
  refine v_worth S kg_295 hk (hP 0 _ rfl) hl.1 (Nat.le_of_ble_eq_true rfl) ⟨(Nat.le_of_ble_eq_true rfl), (Nat.le_of_ble_eq_true rfl)⟩ ⟨Nat.zero_le _, Nat.zero_le _⟩ d_Pa_spend_11 ?_
  refine lv_icmp_gt (tgt := 25) hx hb d_Pa_spend_14 (by decide) (fun c_1 => ?_) (fun c_1 => ?_)
  · refine lv_bipush (v := (-5)) hx hb d_Pa_spend_25 (by decide) ?_
    exact z_iret (v := (-5)) (tys := none) S hr hlk rfl (ZF1.mk hP hS (by first | rfl | simp only [spR, spL, c_1, ↓reduceIte]) (by first | rfl | simp only [spR, spL, c_1, ↓reduceIte])) hS.2.2 d_Pa_spend_27
  · refine lv_iload_n hx hb d_Pa_spend_17 rfl (lv_at hl 0 rfl) ?_
    refine lv_aload_n hx hb d_Pa_spend_18 rfl (lv_at hl 1 rfl) ?_
    refine z_get S (zk_cls hk) (zk_in hk) (hP 0 _ rfl) 3 (z4 hk (by decide)) kg_70 (Or.inl rfl) rfl d_Pa_spend_19 ?_
    refine lv_icmp_le (tgt := 28) hx hb d_Pa_spend_22 (by decide) (fun c_2 => ?_) (fun c_2 => ?_)
    · refine lv_aload_n hx hb d_Pa_spend_28 rfl (lv_at hl 1 rfl) ?_
      refine lv_dup hx hb d_Pa_spend_29 rfl ?_
      refine z_get S (zk_cls hk) (zk_in hk) (hP 0 _ rfl) 3 (z4 hk (by decide)) kg_70 (Or.inl rfl) rfl d_Pa_spend_30 ?_
      refine lv_iload_n hx hb d_Pa_spend_33 rfl (lv_at hl 0 rfl) ?_
      refine lv_isub hx hb d_Pa_spend_34 ?_
      refine z_put (x := lf - (g + (fV k ex g))) S (zk_cls hk) (zk_in hk) (zk_ty hk) (zk_nm hk) hP hD hS 0 rfl 3 (z4 hk (by decide)) kg_70 (Or.inl rfl) rfl pI (Nat.le_of_ble_eq_true rfl) d_Pa_spend_35 (fun H locs hP hD hS => ?_)
      have hP : va_P G.1 classes [(a, pc5 k kd fr am (lf - (g + (fV k ex g))) ex)] H := hP
      have hD : va_D (fun q => q = a) [(a, pc5 k kd fr am (lf - (g + (fV k ex g))) ex)] := hD
      refine lv_iconst (v := 0) hx hb d_Pa_spend_38 (by decide) ?_
      exact z_iret (v := 0) (tys := none) S hr hlk rfl (ZF1.mk hP hS (by first | rfl | simp only [spR, spL, c_1, c_2, ↓reduceIte]) (by first | rfl | simp only [spR, spL, c_1, c_2, ↓reduceIte])) hS.2.2 d_Pa_spend_39
    · refine lv_bipush (v := (-5)) hx hb d_Pa_spend_25 (by decide) ?_
      exact z_iret (v := (-5)) (tys := none) S hr hlk rfl (ZF1.mk hP hS (by first | rfl | simp only [spR, spL, c_1, c_2, ↓reduceIte]) (by first | rfl | simp only [spR, spL, c_1, c_2, ↓reduceIte])) hS.2.2 d_Pa_spend_27
set_option maxHeartbeats 1000000 in
theorem c_St_spend (l : Launch) (G : ZG) (a : Nat) (kd fr am lf ex : Int32) (g day : Int32)  : ZK l G y_St_spend 5 [.ref a, .int g, .int day] (fun H => va_at G.1 classes (a, pc5 3 kd fr am lf ex) H) (ZA (some (.int (saV 3 fr lf ex g day))) (ZF1 G a (pc5 3 kd fr am (snL 3 fr lf ex g day) (snX 3 fr lf ex g day)))) 0 0 (fun q => q = a) := by
  refine ZK.ofBody (cc := b_St_spend) (maxL := 4) (ret := (some FieldType.int)) kg_290 (by decide) (by decide) (Nat.le_of_ble_eq_true rfl) ?_
  intro p e s m below meth c S hr hlk hnm hp ls hl
  obtain ⟨⟨hx, hb, hml, hown, hts⟩, hK⟩ := id S
  have hP : va_P G.1 classes [(a, pc5 3 kd fr am lf ex)] s.heap := va_P1 hp
  have hD : va_D (fun q => q = a) [(a, pc5 3 kd fr am lf ex)] := zD1
  have hS : va_S (fun q => q = a) s.heap s.heap [] := va_S.rf
  have hl : lv_has ls 4 [(0, .ref a), (1, .int g), (2, .int day)] := hl
  refine lv_aload_n hx hb d_St_spend_0 rfl (lv_at hl 0 rfl) ?_
  refine z_get S (zk_cls (k := 3) (by decide)) (zk_in (k := 3) (by decide)) (hP 0 _ rfl) 4 (by decide) kg_109 (Or.inl rfl) rfl d_St_spend_1 ?_
  refine lv_iload_n hx hb d_St_spend_4 rfl (lv_at hl 2 rfl) ?_
  refine lv_icmp_ne (tgt := 11) hx hb d_St_spend_5 (by decide) (fun c_1 => ?_) (fun c_1 => ?_)
  · refine lv_aload_n hx hb d_St_spend_11 rfl (lv_at hl 0 rfl) ?_
    refine lv_iload_n hx hb d_St_spend_12 rfl (lv_at hl 1 rfl) ?_
    refine lv_iload_n hx hb d_St_spend_13 rfl (lv_at hl 2 rfl) ?_
    refine z_mi (z_SU (n := 2) (ci := 3) (As := [.int g, .int day]) (rest := []) S (c_Pa_spend l G a 3 kd fr am lf ex g day (show (3 : Nat) < 8 by decide)) kg_291 kg_292 bl_St_Se_Pa rfl kg_274 kg_293 (by decide) pd_Pa_spend (zk_cls (show (3 : Nat) < 8 by decide)) (hP 0 _ rfl) (hP 0 _ rfl) rfl hl.1 rfl (Nat.le_of_ble_eq_true rfl) ⟨(Nat.le_of_ble_eq_true rfl), (Nat.le_of_ble_eq_true rfl)⟩ ⟨Nat.zero_le _, Nat.zero_le _⟩ d_St_spend_14) (fun H1 L hF hL => ?_)
    have hS := hF.S hS rfl hL
    have hP := va_P1 hF.1
    have hD : va_D (fun q => q = a) [(a, pc5 3 kd fr am (spL 3 fr lf ex g day) ex)] := zD1
    refine lv_istore_n (lv' := [(3, .int (spR 3 fr lf ex g day)), (0, .ref a), (1, .int g), (2, .int day)]) hx hb d_St_spend_17 rfl hl (by decide) rfl (fun ls hl => ?_)
    refine lv_iload_n hx hb d_St_spend_18 rfl (lv_at hl 0 rfl) ?_
    refine lv_if_ne (tgt := 27) hx hb d_St_spend_19 (by decide) (fun c_2 => ?_) (fun c_2 => ?_)
    · refine lv_iload_n hx hb d_St_spend_27 rfl (lv_at hl 0 rfl) ?_
      exact z_iret (v := spR 3 fr lf ex g day) (tys := none) S hr hlk rfl (ZF1.mk hP hS (by first | rfl | simp only [saV, snL, snX, c_1, c_2, ↓reduceIte]) (by first | rfl | simp only [saV, snL, snX, c_1, c_2, ↓reduceIte])) hS.2.2 d_St_spend_28
    · refine lv_aload_n hx hb d_St_spend_22 rfl (lv_at hl 1 rfl) ?_
      refine lv_iload_n hx hb d_St_spend_23 rfl (lv_at hl 3 rfl) ?_
      refine z_put (x := day) S (zk_cls (k := 3) (by decide)) (zk_in (k := 3) (by decide)) (zk_ty (k := 3) (by decide)) (zk_nm (k := 3) (by decide)) hP hD hS 0 rfl 4 (by decide) kg_109 (Or.inl rfl) rfl pI (Nat.le_of_ble_eq_true rfl) d_St_spend_24 (fun H locs hP hD hS => ?_)
      have hP : va_P G.1 classes [(a, pc5 3 kd fr am (spL 3 fr lf ex g day) day)] H := hP
      have hD : va_D (fun q => q = a) [(a, pc5 3 kd fr am (spL 3 fr lf ex g day) day)] := hD
      refine lv_iload_n hx hb d_St_spend_27 rfl (lv_at hl 0 rfl) ?_
      exact z_iret (v := spR 3 fr lf ex g day) (tys := none) S hr hlk rfl (ZF1.mk hP hS (by first | rfl | simp only [saV, snL, snX, c_1, c_2, ↓reduceIte]) (by first | rfl | simp only [saV, snL, snX, c_1, c_2, ↓reduceIte])) hS.2.2 d_St_spend_28
  · refine lv_bipush (v := (-6)) hx hb d_St_spend_8 (by decide) ?_
    exact z_iret (v := (-6)) (tys := none) S hr hlk rfl (ZF1.mk hP hS (by first | rfl | simp only [saV, snL, snX, c_1, ↓reduceIte]) (by first | rfl | simp only [saV, snL, snX, c_1, ↓reduceIte])) hS.2.2 d_St_spend_10
set_option maxHeartbeats 1000000 in
theorem c_Ho_spend (l : Launch) (G : ZG) (a k : Nat) (kd fr am lf ex : Int32) (g day : Int32) (hk : k = 6 ∨ k = 7) : ZK l G y_Ho_spend 5 [.ref a, .int g, .int day] (fun H => va_at G.1 classes (a, pc5 k kd fr am lf ex) H) (ZA (some (.int (spR k fr lf ex g day))) (ZF1 G a (pc5 k kd fr am (spL k fr lf ex g day) (if spR k fr lf ex g day = 0 then ex + g / 100 else ex)))) 0 0 (fun q => q = a) := by
  refine ZK.ofBody (cc := b_Ho_spend) (maxL := 4) (ret := (some FieldType.int)) kg_280 (by decide) (by decide) (Nat.le_of_ble_eq_true rfl) ?_
  intro p e s m below meth c S hr hlk hnm hp ls hl
  obtain ⟨⟨hx, hb, hml, hown, hts⟩, hK⟩ := id S
  have hP : va_P G.1 classes [(a, pc5 k kd fr am lf ex)] s.heap := va_P1 hp
  have hD : va_D (fun q => q = a) [(a, pc5 k kd fr am lf ex)] := zD1
  have hS : va_S (fun q => q = a) s.heap s.heap [] := va_S.rf
  have hl : lv_has ls 4 [(0, .ref a), (1, .int g), (2, .int day)] := hl
  refine lv_aload_n hx hb d_Ho_spend_0 rfl (lv_at hl 0 rfl) ?_
  refine lv_iload_n hx hb d_Ho_spend_1 rfl (lv_at hl 1 rfl) ?_
  refine lv_iload_n hx hb d_Ho_spend_2 rfl (lv_at hl 2 rfl) ?_
  refine z_mi (z_SU (n := 2) (ci := k) (As := [.int g, .int day]) (rest := []) S (c_Pa_spend l G a k kd fr am lf ex g day (zh_lt hk)) kg_281 kg_282 bl_Ho_Cl_Pa rfl kg_274 kg_293 (by decide) pd_Pa_spend (zk_cls (zh_lt hk)) (hP 0 _ rfl) (hP 0 _ rfl) rfl hl.1 rfl (Nat.le_of_ble_eq_true rfl) ⟨(Nat.le_of_ble_eq_true rfl), (Nat.le_of_ble_eq_true rfl)⟩ ⟨Nat.zero_le _, Nat.zero_le _⟩ d_Ho_spend_3) (fun H1 L hF hL => ?_)
  have hS := hF.S hS rfl hL
  have hP := va_P1 hF.1
  have hD : va_D (fun q => q = a) [(a, pc5 k kd fr am (spL k fr lf ex g day) ex)] := zD1
  refine lv_istore_n (lv' := [(3, .int (spR k fr lf ex g day)), (0, .ref a), (1, .int g), (2, .int day)]) hx hb d_Ho_spend_6 rfl hl (by decide) rfl (fun ls hl => ?_)
  refine lv_iload_n hx hb d_Ho_spend_7 rfl (lv_at hl 0 rfl) ?_
  refine lv_if_ne (tgt := 24) hx hb d_Ho_spend_8 (by decide) (fun c_1 => ?_) (fun c_1 => ?_)
  · refine lv_iload_n hx hb d_Ho_spend_24 rfl (lv_at hl 0 rfl) ?_
    exact z_iret (v := spR k fr lf ex g day) (tys := none) S hr hlk rfl (ZF1.mk hP hS (by first | rfl | simp only [c_1, ↓reduceIte]) (by first | rfl | simp only [c_1, ↓reduceIte])) hS.2.2 d_Ho_spend_25
  · refine lv_aload_n hx hb d_Ho_spend_11 rfl (lv_at hl 1 rfl) ?_
    refine lv_dup hx hb d_Ho_spend_12 rfl ?_
    refine z_get S (zh_cls hk) (zh_in hk) (hP 0 _ rfl) 4 (by decide) kg_145 (Or.inl rfl) rfl d_Ho_spend_13 ?_
    refine lv_iload_n hx hb d_Ho_spend_16 rfl (lv_at hl 2 rfl) ?_
    refine lv_bipush (v := 100) hx hb d_Ho_spend_17 (by decide) ?_
    refine lv_idiv hx hb d_Ho_spend_19 (by decide) ?_
    refine lv_iadd hx hb d_Ho_spend_20 ?_
    refine z_put (x := ex + (g / 100)) S (zh_cls hk) (zh_in hk) (zk_ty (k := 6) (by decide)) (zk_nm (k := 6) (by decide)) hP hD hS 0 rfl 4 (by decide) kg_145 (Or.inl rfl) rfl pI (Nat.le_of_ble_eq_true rfl) d_Ho_spend_21 (fun H locs hP hD hS => ?_)
    have hP : va_P G.1 classes [(a, pc5 k kd fr am (spL k fr lf ex g day) (ex + (g / 100)))] H := hP
    have hD : va_D (fun q => q = a) [(a, pc5 k kd fr am (spL k fr lf ex g day) (ex + (g / 100)))] := hD
    refine lv_iload_n hx hb d_Ho_spend_24 rfl (lv_at hl 0 rfl) ?_
    exact z_iret (v := spR k fr lf ex g day) (tys := none) S hr hlk rfl (ZF1.mk hP hS (by first | rfl | simp only [c_1, ↓reduceIte]) (by first | rfl | simp only [c_1, ↓reduceIte])) hS.2.2 d_Ho_spend_25
end
section
section ZV_v_spend
variable {p : Program} {l : Launch} {e : Env} {R : Room} {s : State} {m : MethodId} {args : Array Value} {below : List Frame} {meth : Method} {c : Code} {H : Heap} {locs : List Loc} {cells slots : Nat} {Q : State → Prop}
variable {cc : ByteArray} {nL pc : Nat} {ls : Array Slot} {rest : List Value} {G : ZG} {own : String} {index count : Nat} {a k : Nat} {kd fr am lf ex : Int32}
theorem v_spend {g day : Int32} (S : ZC p m c cc nL s args own G) (h1 : Cond.methodLink own index y_Pa_spend ∈ gw) (hk : k < 8) (hat : va_at G.1 classes (a, pc5 k kd fr am lf ex) H) (hsz : ls.size = nL) (hW : (rest.map fun v => v.category).sum ≤ 8) (hR : 6 ≤ R.frames ∧ 150 ≤ R.locals) (hc : cells + 0 ≤ R.cells ∧ slots + 0 ≤ R.slots) (hdg : decode cc pc = .ok (.invokevirtual index, 3))
    (kk : ∀ (H1 : Heap) (L : List Loc), ZF1 G a (pc5 k kd fr am (snL k fr lf ex g day) (snX k fr lf ex g day)) H H1 → (∀ q ∈ L, q.base = a) → W p l e R s m args below meth c H1 (locs ++ L) (cells + 0) (slots + 0) Q (F0 m (pc + 3) ls (.int (saV k fr lf ex g day) :: rest))) : W p l e R s m args below meth c H locs cells slots Q (F0 m pc ls (.int day :: .int g :: .ref a :: rest)) := by
  match k, hk with
  | 0, _ => exact z_mi (z_V (n := 2) (C := "VoucherOffice$Paper") (d := 4) (As := [.int g, .int day]) S (c_Pa_spend l G a 0 kd fr am lf ex g day (by decide)) h1 kg_276 kg_274 kg_293 kg_275 kg_274 kg_293 ⟨by decide, by decide⟩ pd_Pa_spend (zrec S.2 hat (zk_cls (k := 0) (by decide))) hat rfl hsz rfl hW ⟨Nat.le_trans (Nat.le_of_ble_eq_true rfl) hR.1, Nat.le_trans (Nat.le_of_ble_eq_true rfl) hR.2⟩ hc hdg) kk
  | 1, _ => exact z_mi (z_V (n := 2) (C := "VoucherOffice$Gift") (d := 4) (As := [.int g, .int day]) S (c_Pa_spend l G a 1 kd fr am lf ex g day (by decide)) h1 kg_276 kg_274 kg_293 kg_284 kg_274 kg_293 ⟨by decide, by decide⟩ pd_Pa_spend (zrec S.2 hat (zk_cls (k := 1) (by decide))) hat rfl hsz rfl hW ⟨Nat.le_trans (Nat.le_of_ble_eq_true rfl) hR.1, Nat.le_trans (Nat.le_of_ble_eq_true rfl) hR.2⟩ hc hdg) kk
  | 2, _ => exact z_mi (z_V (n := 2) (C := "VoucherOffice$Season") (d := 4) (As := [.int g, .int day]) S (c_Pa_spend l G a 2 kd fr am lf ex g day (by decide)) h1 kg_276 kg_274 kg_293 kg_287 kg_274 kg_293 ⟨by decide, by decide⟩ pd_Pa_spend (zrec S.2 hat (zk_cls (k := 2) (by decide))) hat rfl hsz rfl hW ⟨Nat.le_trans (Nat.le_of_ble_eq_true rfl) hR.1, Nat.le_trans (Nat.le_of_ble_eq_true rfl) hR.2⟩ hc hdg) kk
  | 3, _ => exact z_mi (z_V (n := 2) (C := "VoucherOffice$Staff") (d := 5) (As := [.int g, .int day]) S (c_St_spend l G a kd fr am lf ex g day) h1 kg_276 kg_274 kg_293 kg_288 kg_289 kg_290 ⟨by decide, by decide⟩ pd_St_spend (zrec S.2 hat (zk_cls (k := 3) (by decide))) hat rfl hsz rfl hW ⟨Nat.le_trans (Nat.le_of_ble_eq_true rfl) hR.1, Nat.le_trans (Nat.le_of_ble_eq_true rfl) hR.2⟩ hc hdg) kk
  | 4, _ => exact z_mi (z_V (n := 2) (C := "VoucherOffice$Rounded") (d := 4) (As := [.int g, .int day]) S (c_Pa_spend l G a 4 kd fr am lf ex g day (by decide)) h1 kg_276 kg_274 kg_293 kg_286 kg_274 kg_293 ⟨by decide, by decide⟩ pd_Pa_spend (zrec S.2 hat (zk_cls (k := 4) (by decide))) hat rfl hsz rfl hW ⟨Nat.le_trans (Nat.le_of_ble_eq_true rfl) hR.1, Nat.le_trans (Nat.le_of_ble_eq_true rfl) hR.2⟩ hc hdg) kk
  | 5, _ => exact z_mi (z_V (n := 2) (C := "VoucherOffice$Club") (d := 4) (As := [.int g, .int day]) S (c_Pa_spend l G a 5 kd fr am lf ex g day (by decide)) h1 kg_276 kg_274 kg_293 kg_277 kg_274 kg_293 ⟨by decide, by decide⟩ pd_Pa_spend (zrec S.2 hat (zk_cls (k := 5) (by decide))) hat rfl hsz rfl hW ⟨Nat.le_trans (Nat.le_of_ble_eq_true rfl) hR.1, Nat.le_trans (Nat.le_of_ble_eq_true rfl) hR.2⟩ hc hdg) kk
  | 6, _ => exact z_mi (z_V (n := 2) (C := "VoucherOffice$House") (d := 5) (As := [.int g, .int day]) S (c_Ho_spend l G a 6 kd fr am lf ex g day (Or.inl rfl)) h1 kg_276 kg_274 kg_293 kg_285 kg_279 kg_280 ⟨by decide, by decide⟩ pd_Ho_spend (zrec S.2 hat (zk_cls (k := 6) (by decide))) hat rfl hsz rfl hW ⟨Nat.le_trans (Nat.le_of_ble_eq_true rfl) hR.1, Nat.le_trans (Nat.le_of_ble_eq_true rfl) hR.2⟩ hc hdg) kk
  | 7, _ => exact z_mi (z_V (n := 2) (C := "VoucherOffice$Crest") (d := 5) (As := [.int g, .int day]) S (c_Ho_spend l G a 7 kd fr am lf ex g day (Or.inr rfl)) h1 kg_276 kg_274 kg_293 kg_278 kg_279 kg_280 ⟨by decide, by decide⟩ pd_Ho_spend (zrec S.2 hat (zk_cls (k := 7) (by decide))) hat rfl hsz rfl hW ⟨Nat.le_trans (Nat.le_of_ble_eq_true rfl) hR.1, Nat.le_trans (Nat.le_of_ble_eq_true rfl) hR.2⟩ hc hdg) kk
end ZV_v_spend
set_option maxHeartbeats 1000000 in
theorem c_Pa_take (l : Launch) (G : ZG) (a k : Nat) (kd fr am lf ex : Int32) (b : Nat) (kd2 fr2 am2 lf2 ex2 : Int32) (hk : k < 8) (hba : b ≠ a) : ZK l G y_Pa_take 0 [.ref a, .ref b] (fun H => va_at G.1 classes (a, pc5 k kd fr am lf ex) H ∧ va_at G.1 classes (b, pc5 k kd2 fr2 am2 lf2 ex2) H) (ZA none (ZF1 G a (pc5 k kd fr (am + am2) (lf + lf2) ex))) 0 0 (fun q => q = a) := by
  refine ZK.ofBody (cc := b_Pa_take) (maxL := 2) (ret := none) kg_400 (by decide) (by decide) (Nat.le_of_ble_eq_true rfl) ?_
  intro p e s m below meth c S hr hlk hnm hp ls hl
  obtain ⟨⟨hx, hb, hml, hown, hts⟩, hK⟩ := id S
  obtain ⟨hp, hpb0⟩ := hp
  have hpb := hpb0
  have hbl : b < s.heap.size := hpb0.lt
  have hP : va_P G.1 classes [(a, pc5 k kd fr am lf ex)] s.heap := va_P1 hp
  have hD : va_D (fun q => q = a) [(a, pc5 k kd fr am lf ex)] := zD1
  have hS : va_S (fun q => q = a) s.heap s.heap [] := va_S.rf
  have hl : lv_has ls 2 [(0, .ref a), (1, .ref b)] := hl
  refine lv_aload_n hx hb d_Pa_take_0 rfl (lv_at hl 0 rfl) ?_
  refine lv_dup hx hb d_Pa_take_1 rfl ?_
  refine z_get S (zk_cls hk) (zk_in hk) (hP 0 _ rfl) 2 (z4 hk (by decide)) kg_68 (Or.inl rfl) rfl d_Pa_take_2 ?_
  refine lv_aload_n hx hb d_Pa_take_5 rfl (lv_at hl 1 rfl) ?_
  refine z_get S (zk_cls hk) (zk_in hk) hpb 2 (z4 hk (by decide)) kg_68 (Or.inl rfl) rfl d_Pa_take_6 ?_
  refine lv_iadd hx hb d_Pa_take_9 ?_
  refine z_put (x := am + am2) S (zk_cls hk) (zk_in hk) (zk_ty hk) (zk_nm hk) hP hD hS 0 rfl 2 (z4 hk (by decide)) kg_68 (Or.inl rfl) rfl pI (Nat.le_of_ble_eq_true rfl) d_Pa_take_10 (fun H locs hP hD hS => ?_)
  have hP : va_P G.1 classes [(a, pc5 k kd fr (am + am2) lf ex)] H := hP
  have hD : va_D (fun q => q = a) [(a, pc5 k kd fr (am + am2) lf ex)] := hD
  have hpb := hpb0.kept (hS.2.1 b hbl hba)
  refine lv_aload_n hx hb d_Pa_take_13 rfl (lv_at hl 0 rfl) ?_
  refine lv_dup hx hb d_Pa_take_14 rfl ?_
  refine z_get S (zk_cls hk) (zk_in hk) (hP 0 _ rfl) 3 (z4 hk (by decide)) kg_70 (Or.inl rfl) rfl d_Pa_take_15 ?_
  refine lv_aload_n hx hb d_Pa_take_18 rfl (lv_at hl 1 rfl) ?_
  refine z_get S (zk_cls hk) (zk_in hk) hpb 3 (z4 hk (by decide)) kg_70 (Or.inl rfl) rfl d_Pa_take_19 ?_
  refine lv_iadd hx hb d_Pa_take_22 ?_
  refine z_put (x := lf + lf2) S (zk_cls hk) (zk_in hk) (zk_ty hk) (zk_nm hk) hP hD hS 0 rfl 3 (z4 hk (by decide)) kg_70 (Or.inl rfl) rfl pI (Nat.le_of_ble_eq_true rfl) d_Pa_take_23 (fun H locs hP hD hS => ?_)
  have hP : va_P G.1 classes [(a, pc5 k kd fr (am + am2) (lf + lf2) ex)] H := hP
  have hD : va_D (fun q => q = a) [(a, pc5 k kd fr (am + am2) (lf + lf2) ex)] := hD
  have hpb := hpb0.kept (hS.2.1 b hbl hba)
  exact z_vret S hr hlk (ZF1.mk hP hS rfl (by first | rfl | simp only [↓reduceIte])) hS.2.2 d_Pa_take_26
set_option maxHeartbeats 1000000 in
theorem c_St_take (l : Launch) (G : ZG) (a : Nat) (kd fr am lf ex : Int32) (b : Nat) (kd2 fr2 am2 lf2 ex2 : Int32)  (hba : b ≠ a) : ZK l G y_St_take 1 [.ref a, .ref b] (fun H => va_at G.1 classes (a, pc5 3 kd fr am lf ex) H ∧ va_at G.1 classes (b, pc5 3 kd2 fr2 am2 lf2 ex2) H) (ZA none (ZF1 G a (pc5 3 kd fr (am + am2) (lf + lf2) (tkX 3 ex ex2)))) 0 0 (fun q => q = a) := by
  refine ZK.ofBody (cc := b_St_take) (maxL := 3) (ret := none) kg_396 (by decide) (by decide) (Nat.le_of_ble_eq_true rfl) ?_
  intro p e s m below meth c S hr hlk hnm hp ls hl
  obtain ⟨⟨hx, hb, hml, hown, hts⟩, hK⟩ := id S
  obtain ⟨hp, hpb0⟩ := hp
  have hpb := hpb0
  have hbl : b < s.heap.size := hpb0.lt
  have hP : va_P G.1 classes [(a, pc5 3 kd fr am lf ex)] s.heap := va_P1 hp
  have hD : va_D (fun q => q = a) [(a, pc5 3 kd fr am lf ex)] := zD1
  have hS : va_S (fun q => q = a) s.heap s.heap [] := va_S.rf
  have hl : lv_has ls 3 [(0, .ref a), (1, .ref b)] := hl
  refine lv_aload_n hx hb d_St_take_0 rfl (lv_at hl 0 rfl) ?_
  refine lv_aload_n hx hb d_St_take_1 rfl (lv_at hl 1 rfl) ?_
  refine z_mv (z_SU (n := 1) (ci := 3) (As := [.ref b]) (rest := []) S (c_Pa_take l G a 3 kd fr am lf ex b kd2 fr2 am2 lf2 ex2 (show (3 : Nat) < 8 by decide) hba) kg_397 kg_398 bl_St_Se_Pa rfl kg_379 kg_400 (by decide) pd_Pa_take (zk_cls (show (3 : Nat) < 8 by decide)) (hP 0 _ rfl) ⟨(hP 0 _ rfl), hpb⟩ rfl hl.1 rfl (Nat.le_of_ble_eq_true rfl) ⟨(Nat.le_of_ble_eq_true rfl), (Nat.le_of_ble_eq_true rfl)⟩ ⟨Nat.zero_le _, Nat.zero_le _⟩ d_St_take_2) (fun H1 L hF hL => ?_)
  have hS := hF.S hS rfl hL
  have hP := va_P1 hF.1
  have hD : va_D (fun q => q = a) [(a, pc5 3 kd fr (am + am2) (lf + lf2) ex)] := zD1
  have hpb := hpb0.kept (hS.2.1 b hbl hba)
  refine lv_aload_n hx hb d_St_take_5 rfl (lv_at hl 1 rfl) ?_
  refine va_castY hx hb hown (hts _ kg_399) (hK.2.1 _ kf_570 rfl) (zrec hK hpb (zk_cls (k := 3) (by decide))) d_St_take_6 ?_
  refine z_get S (zk_cls (k := 3) (by decide)) (zk_in (k := 3) (by decide)) hpb 4 (by decide) kg_109 (Or.inl rfl) rfl d_St_take_9 ?_
  refine lv_istore_n (lv' := [(2, .int ex2), (0, .ref a), (1, .ref b)]) hx hb d_St_take_12 rfl hl (by decide) rfl (fun ls hl => ?_)
  refine lv_iload_n hx hb d_St_take_13 rfl (lv_at hl 0 rfl) ?_
  refine lv_aload_n hx hb d_St_take_14 rfl (lv_at hl 1 rfl) ?_
  refine z_get S (zk_cls (k := 3) (by decide)) (zk_in (k := 3) (by decide)) (hP 0 _ rfl) 4 (by decide) kg_109 (Or.inl rfl) rfl d_St_take_15 ?_
  refine lv_icmp_le (tgt := 26) hx hb d_St_take_18 (by decide) (fun c_1 => ?_) (fun c_1 => ?_)
  · exact z_vret S hr hlk (ZF1.mk hP hS rfl (by first | rfl | simp only [tkX, c_1, ↓reduceIte])) hS.2.2 d_St_take_26
  · refine lv_aload_n hx hb d_St_take_21 rfl (lv_at hl 1 rfl) ?_
    refine lv_iload_n hx hb d_St_take_22 rfl (lv_at hl 0 rfl) ?_
    refine z_put (x := ex2) S (zk_cls (k := 3) (by decide)) (zk_in (k := 3) (by decide)) (zk_ty (k := 3) (by decide)) (zk_nm (k := 3) (by decide)) hP hD hS 0 rfl 4 (by decide) kg_109 (Or.inl rfl) rfl pI (Nat.le_of_ble_eq_true rfl) d_St_take_23 (fun H locs hP hD hS => ?_)
    have hP : va_P G.1 classes [(a, pc5 3 kd fr (am + am2) (lf + lf2) ex2)] H := hP
    have hD : va_D (fun q => q = a) [(a, pc5 3 kd fr (am + am2) (lf + lf2) ex2)] := hD
    have hpb := hpb0.kept (hS.2.1 b hbl hba)
    exact z_vret S hr hlk (ZF1.mk hP hS rfl (by first | rfl | simp only [tkX, c_1, ↓reduceIte])) hS.2.2 d_St_take_26
set_option maxHeartbeats 1000000 in
theorem c_Ho_take (l : Launch) (G : ZG) (a k : Nat) (kd fr am lf ex : Int32) (b : Nat) (kd2 fr2 am2 lf2 ex2 : Int32) (hk : k = 6 ∨ k = 7) (hba : b ≠ a) : ZK l G y_Ho_take 2 [.ref a, .ref b] (fun H => va_at G.1 classes (a, pc5 k kd fr am lf ex) H ∧ va_at G.1 classes (b, pc5 k kd2 fr2 am2 lf2 ex2) H) (ZA none (ZF1 G a (pc5 k kd fr (am + am2) (lf + lf2) (ex + ptV k ex2)))) 0 0 (fun q => q = a) := by
  refine ZK.ofBody (cc := b_Ho_take) (maxL := 2) (ret := none) kg_385 (by decide) (by decide) (Nat.le_of_ble_eq_true rfl) ?_
  intro p e s m below meth c S hr hlk hnm hp ls hl
  obtain ⟨⟨hx, hb, hml, hown, hts⟩, hK⟩ := id S
  obtain ⟨hp, hpb0⟩ := hp
  have hpb := hpb0
  have hbl : b < s.heap.size := hpb0.lt
  have hP : va_P G.1 classes [(a, pc5 k kd fr am lf ex)] s.heap := va_P1 hp
  have hD : va_D (fun q => q = a) [(a, pc5 k kd fr am lf ex)] := zD1
  have hS : va_S (fun q => q = a) s.heap s.heap [] := va_S.rf
  have hl : lv_has ls 2 [(0, .ref a), (1, .ref b)] := hl
  refine lv_aload_n hx hb d_Ho_take_0 rfl (lv_at hl 0 rfl) ?_
  refine lv_aload_n hx hb d_Ho_take_1 rfl (lv_at hl 1 rfl) ?_
  refine z_mv (z_SU (n := 1) (ci := k) (As := [.ref b]) (rest := []) S (c_Pa_take l G a k kd fr am lf ex b kd2 fr2 am2 lf2 ex2 (zh_lt hk) hba) kg_386 kg_387 bl_Ho_Cl_Pa rfl kg_379 kg_400 (by decide) pd_Pa_take (zk_cls (zh_lt hk)) (hP 0 _ rfl) ⟨(hP 0 _ rfl), hpb⟩ rfl hl.1 rfl (Nat.le_of_ble_eq_true rfl) ⟨(Nat.le_of_ble_eq_true rfl), (Nat.le_of_ble_eq_true rfl)⟩ ⟨Nat.zero_le _, Nat.zero_le _⟩ d_Ho_take_2) (fun H1 L hF hL => ?_)
  have hS := hF.S hS rfl hL
  have hP := va_P1 hF.1
  have hD : va_D (fun q => q = a) [(a, pc5 k kd fr (am + am2) (lf + lf2) ex)] := zD1
  have hpb := hpb0.kept (hS.2.1 b hbl hba)
  refine lv_aload_n hx hb d_Ho_take_5 rfl (lv_at hl 0 rfl) ?_
  refine lv_dup hx hb d_Ho_take_6 rfl ?_
  refine z_get S (zh_cls hk) (zh_in hk) (hP 0 _ rfl) 4 (by decide) kg_145 (Or.inl rfl) rfl d_Ho_take_7 ?_
  refine lv_aload_n hx hb d_Ho_take_10 rfl (lv_at hl 1 rfl) ?_
  refine v_points S kg_389 (zh_lt hk) hpb hl.1 (Nat.le_of_ble_eq_true rfl) ⟨(Nat.le_of_ble_eq_true rfl), (Nat.le_of_ble_eq_true rfl)⟩ ⟨Nat.zero_le _, Nat.zero_le _⟩ d_Ho_take_11 ?_
  refine lv_iadd hx hb d_Ho_take_14 ?_
  refine z_put (x := ex + (ptV k ex2)) S (zh_cls hk) (zh_in hk) (zk_ty (k := 6) (by decide)) (zk_nm (k := 6) (by decide)) hP hD hS 0 rfl 4 (by decide) kg_145 (Or.inl rfl) rfl pI (Nat.le_of_ble_eq_true rfl) d_Ho_take_15 (fun H locs hP hD hS => ?_)
  have hP : va_P G.1 classes [(a, pc5 k kd fr (am + am2) (lf + lf2) (ex + (ptV k ex2)))] H := hP
  have hD : va_D (fun q => q = a) [(a, pc5 k kd fr (am + am2) (lf + lf2) (ex + (ptV k ex2)))] := hD
  have hpb := hpb0.kept (hS.2.1 b hbl hba)
  exact z_vret S hr hlk (ZF1.mk hP hS rfl (by first | rfl | simp only [↓reduceIte])) hS.2.2 d_Ho_take_18
section ZV_v_take
variable {p : Program} {l : Launch} {e : Env} {R : Room} {s : State} {m : MethodId} {args : Array Value} {below : List Frame} {meth : Method} {c : Code} {H : Heap} {locs : List Loc} {cells slots : Nat} {Q : State → Prop}
variable {cc : ByteArray} {nL pc : Nat} {ls : Array Slot} {rest : List Value} {G : ZG} {own : String} {index count : Nat} {a k : Nat} {kd fr am lf ex : Int32}
theorem v_take  {b : Nat} {kd2 fr2 am2 lf2 ex2 : Int32}(S : ZC p m c cc nL s args own G) (h1 : Cond.methodLink own index y_Pa_take ∈ gw) (hk : k < 8) (hat : va_at G.1 classes (a, pc5 k kd fr am lf ex) H) (hatb : va_at G.1 classes (b, pc5 k kd2 fr2 am2 lf2 ex2) H) (hba : b ≠ a) (hsz : ls.size = nL) (hW : (rest.map fun v => v.category).sum ≤ 8) (hR : 3 ≤ R.frames ∧ 75 ≤ R.locals) (hc : cells + 0 ≤ R.cells ∧ slots + 0 ≤ R.slots) (hdg : decode cc pc = .ok (.invokevirtual index, 3))
    (kk : ∀ (H1 : Heap) (L : List Loc), ZF1 G a (pc5 k kd fr (am + am2) (lf + lf2) (tkX k ex ex2)) H H1 → (∀ q ∈ L, q.base = a) → W p l e R s m args below meth c H1 (locs ++ L) (cells + 0) (slots + 0) Q (F0 m (pc + 3) ls (rest))) : W p l e R s m args below meth c H locs cells slots Q (F0 m pc ls (.ref b :: .ref a :: rest)) := by
  match k, hk with
  | 0, _ => exact z_mv (z_V (n := 1) (C := "VoucherOffice$Paper") (d := 0) (As := [.ref b]) S (c_Pa_take l G a 0 kd fr am lf ex b kd2 fr2 am2 lf2 ex2 (by decide) hba) h1 kg_381 kg_379 kg_400 kg_380 kg_379 kg_400 ⟨by decide, by decide⟩ pd_Pa_take (zrec S.2 hat (zk_cls (k := 0) (by decide))) ⟨hat, hatb⟩ rfl hsz rfl hW ⟨Nat.le_trans (Nat.le_of_ble_eq_true rfl) hR.1, Nat.le_trans (Nat.le_of_ble_eq_true rfl) hR.2⟩ hc hdg) kk
  | 1, _ => exact z_mv (z_V (n := 1) (C := "VoucherOffice$Gift") (d := 0) (As := [.ref b]) S (c_Pa_take l G a 1 kd fr am lf ex b kd2 fr2 am2 lf2 ex2 (by decide) hba) h1 kg_381 kg_379 kg_400 kg_390 kg_379 kg_400 ⟨by decide, by decide⟩ pd_Pa_take (zrec S.2 hat (zk_cls (k := 1) (by decide))) ⟨hat, hatb⟩ rfl hsz rfl hW ⟨Nat.le_trans (Nat.le_of_ble_eq_true rfl) hR.1, Nat.le_trans (Nat.le_of_ble_eq_true rfl) hR.2⟩ hc hdg) kk
  | 2, _ => exact z_mv (z_V (n := 1) (C := "VoucherOffice$Season") (d := 0) (As := [.ref b]) S (c_Pa_take l G a 2 kd fr am lf ex b kd2 fr2 am2 lf2 ex2 (by decide) hba) h1 kg_381 kg_379 kg_400 kg_393 kg_379 kg_400 ⟨by decide, by decide⟩ pd_Pa_take (zrec S.2 hat (zk_cls (k := 2) (by decide))) ⟨hat, hatb⟩ rfl hsz rfl hW ⟨Nat.le_trans (Nat.le_of_ble_eq_true rfl) hR.1, Nat.le_trans (Nat.le_of_ble_eq_true rfl) hR.2⟩ hc hdg) kk
  | 3, _ => exact z_mv (z_V (n := 1) (C := "VoucherOffice$Staff") (d := 1) (As := [.ref b]) S (c_St_take l G a kd fr am lf ex b kd2 fr2 am2 lf2 ex2 hba) h1 kg_381 kg_379 kg_400 kg_394 kg_395 kg_396 ⟨by decide, by decide⟩ pd_St_take (zrec S.2 hat (zk_cls (k := 3) (by decide))) ⟨hat, hatb⟩ rfl hsz rfl hW ⟨Nat.le_trans (Nat.le_of_ble_eq_true rfl) hR.1, Nat.le_trans (Nat.le_of_ble_eq_true rfl) hR.2⟩ hc hdg) kk
  | 4, _ => exact z_mv (z_V (n := 1) (C := "VoucherOffice$Rounded") (d := 0) (As := [.ref b]) S (c_Pa_take l G a 4 kd fr am lf ex b kd2 fr2 am2 lf2 ex2 (by decide) hba) h1 kg_381 kg_379 kg_400 kg_392 kg_379 kg_400 ⟨by decide, by decide⟩ pd_Pa_take (zrec S.2 hat (zk_cls (k := 4) (by decide))) ⟨hat, hatb⟩ rfl hsz rfl hW ⟨Nat.le_trans (Nat.le_of_ble_eq_true rfl) hR.1, Nat.le_trans (Nat.le_of_ble_eq_true rfl) hR.2⟩ hc hdg) kk
  | 5, _ => exact z_mv (z_V (n := 1) (C := "VoucherOffice$Club") (d := 0) (As := [.ref b]) S (c_Pa_take l G a 5 kd fr am lf ex b kd2 fr2 am2 lf2 ex2 (by decide) hba) h1 kg_381 kg_379 kg_400 kg_382 kg_379 kg_400 ⟨by decide, by decide⟩ pd_Pa_take (zrec S.2 hat (zk_cls (k := 5) (by decide))) ⟨hat, hatb⟩ rfl hsz rfl hW ⟨Nat.le_trans (Nat.le_of_ble_eq_true rfl) hR.1, Nat.le_trans (Nat.le_of_ble_eq_true rfl) hR.2⟩ hc hdg) kk
  | 6, _ => exact z_mv (z_V (n := 1) (C := "VoucherOffice$House") (d := 2) (As := [.ref b]) S (c_Ho_take l G a 6 kd fr am lf ex b kd2 fr2 am2 lf2 ex2 (Or.inl rfl) hba) h1 kg_381 kg_379 kg_400 kg_391 kg_384 kg_385 ⟨by decide, by decide⟩ pd_Ho_take (zrec S.2 hat (zk_cls (k := 6) (by decide))) ⟨hat, hatb⟩ rfl hsz rfl hW ⟨Nat.le_trans (Nat.le_of_ble_eq_true rfl) hR.1, Nat.le_trans (Nat.le_of_ble_eq_true rfl) hR.2⟩ hc hdg) kk
  | 7, _ => exact z_mv (z_V (n := 1) (C := "VoucherOffice$Crest") (d := 2) (As := [.ref b]) S (c_Ho_take l G a 7 kd fr am lf ex b kd2 fr2 am2 lf2 ex2 (Or.inr rfl) hba) h1 kg_381 kg_379 kg_400 kg_383 kg_384 kg_385 ⟨by decide, by decide⟩ pd_Ho_take (zrec S.2 hat (zk_cls (k := 7) (by decide))) ⟨hat, hatb⟩ rfl hsz rfl hW ⟨Nat.le_trans (Nat.le_of_ble_eq_true rfl) hR.1, Nat.le_trans (Nat.le_of_ble_eq_true rfl) hR.2⟩ hc hdg) kk
end ZV_v_take
end
section
set_option maxHeartbeats 1000000 in
theorem c_Pa_init (l : Launch) (G : ZG) (a k : Nat) (kd fr am lf ex : Int32) (kn fm av : Int32) (hk : k < 8) : ZK l G y_Pa_init 1 [.ref a, .int kn, .int fm, .int av] (fun H => va_at G.1 classes (a, pc5 k kd fr am lf ex) H) (ZA none (ZF1 G a (pc5 k kn fm av av ex))) 0 0 (fun q => q = a) := by
  refine ZK.ofBody (cc := b_Pa_init) (maxL := 4) (ret := none) kg_58 (by decide) (by decide) (Nat.le_of_ble_eq_true rfl) ?_
  intro p e s m below meth c S hr hlk hnm hp ls hl
  obtain ⟨⟨hx, hb, hml, hown, hts⟩, hK⟩ := id S
  have hP : va_P G.1 classes [(a, pc5 k kd fr am lf ex)] s.heap := va_P1 hp
  have hD : va_D (fun q => q = a) [(a, pc5 k kd fr am lf ex)] := zD1
  have hS : va_S (fun q => q = a) s.heap s.heap [] := va_S.rf
  have hl : lv_has ls 4 [(0, .ref a), (1, .int kn), (2, .int fm), (3, .int av)] := hl
  refine lv_aload_n hx hb d_Pa_init_0 rfl (lv_at hl 0 rfl) ?_
  refine W.objInit hx hb hown (hts _ kg_59) (hts _ kg_17) (hts _ kg_18) rfl (by rw [hml]; exact hl.1) rfl d_Pa_init_1 (Nat.le_of_ble_eq_true rfl) (Nat.le_of_ble_eq_true rfl) ?_
  refine W.eq (g2 := F0 m 4 ls []) rfl ?_
  refine lv_aload_n hx hb d_Pa_init_4 rfl (lv_at hl 0 rfl) ?_
  refine lv_iload_n hx hb d_Pa_init_5 rfl (lv_at hl 1 rfl) ?_
  refine z_putF (x := .int kn) (ty := .int) S (zk_cls hk) (zk_in hk) (zk_ty hk) (zk_nm hk) hP hD hS 0 rfl 0 (z4 hk (by decide)) kg_60 rfl rfl hnm rfl pI rfl rfl (Nat.le_of_ble_eq_true rfl) d_Pa_init_6 (fun H locs hP hD hS => ?_)
  have hP : va_P G.1 classes [(a, pc5 k kn fr am lf ex)] H := hP
  have hD : va_D (fun q => q = a) [(a, pc5 k kn fr am lf ex)] := hD
  refine lv_aload_n hx hb d_Pa_init_9 rfl (lv_at hl 0 rfl) ?_
  refine lv_iload_n hx hb d_Pa_init_10 rfl (lv_at hl 2 rfl) ?_
  refine z_putF (x := .int fm) (ty := .int) S (zk_cls hk) (zk_in hk) (zk_ty hk) (zk_nm hk) hP hD hS 0 rfl 1 (z4 hk (by decide)) kg_62 rfl rfl hnm rfl pI rfl rfl (Nat.le_of_ble_eq_true rfl) d_Pa_init_11 (fun H locs hP hD hS => ?_)
  have hP : va_P G.1 classes [(a, pc5 k kn fm am lf ex)] H := hP
  have hD : va_D (fun q => q = a) [(a, pc5 k kn fm am lf ex)] := hD
  refine lv_aload_n hx hb d_Pa_init_14 rfl (lv_at hl 0 rfl) ?_
  refine lv_iload_n hx hb d_Pa_init_15 rfl (lv_at hl 3 rfl) ?_
  refine z_put (x := av) S (zk_cls hk) (zk_in hk) (zk_ty hk) (zk_nm hk) hP hD hS 0 rfl 2 (z4 hk (by decide)) kg_68 (Or.inl rfl) rfl pI (Nat.le_of_ble_eq_true rfl) d_Pa_init_16 (fun H locs hP hD hS => ?_)
  have hP : va_P G.1 classes [(a, pc5 k kn fm av lf ex)] H := hP
  have hD : va_D (fun q => q = a) [(a, pc5 k kn fm av lf ex)] := hD
  refine lv_aload_n hx hb d_Pa_init_19 rfl (lv_at hl 0 rfl) ?_
  refine lv_iload_n hx hb d_Pa_init_20 rfl (lv_at hl 3 rfl) ?_
  refine z_put (x := av) S (zk_cls hk) (zk_in hk) (zk_ty hk) (zk_nm hk) hP hD hS 0 rfl 3 (z4 hk (by decide)) kg_70 (Or.inl rfl) rfl pI (Nat.le_of_ble_eq_true rfl) d_Pa_init_21 (fun H locs hP hD hS => ?_)
  have hP : va_P G.1 classes [(a, pc5 k kn fm av av ex)] H := hP
  have hD : va_D (fun q => q = a) [(a, pc5 k kn fm av av ex)] := hD
  exact z_vret S hr hlk (ZF1.mk hP hS rfl (by first | rfl | simp only [↓reduceIte])) hS.2.2 d_Pa_init_24
set_option maxHeartbeats 1000000 in
theorem c_Gi_init (l : Launch) (G : ZG) (a k : Nat) (kd fr am lf ex : Int32) (kn fm av : Int32) (hk : k < 8) : ZK l G y_Gi_init 2 [.ref a, .int kn, .int fm, .int av] (fun H => va_at G.1 classes (a, pc5 k kd fr am lf ex) H) (ZA none (ZF1 G a (pc5 k kn fm av av ex))) 0 0 (fun q => q = a) := by
  refine ZK.ofBody (cc := b_Gi_init) (maxL := 4) (ret := none) kg_85 (by decide) (by decide) (Nat.le_of_ble_eq_true rfl) ?_
  intro p e s m below meth c S hr hlk hnm hp ls hl
  obtain ⟨⟨hx, hb, hml, hown, hts⟩, hK⟩ := id S
  have hP : va_P G.1 classes [(a, pc5 k kd fr am lf ex)] s.heap := va_P1 hp
  have hD : va_D (fun q => q = a) [(a, pc5 k kd fr am lf ex)] := zD1
  have hS : va_S (fun q => q = a) s.heap s.heap [] := va_S.rf
  have hl : lv_has ls 4 [(0, .ref a), (1, .int kn), (2, .int fm), (3, .int av)] := hl
  refine lv_aload_n hx hb d_Gi_init_0 rfl (lv_at hl 0 rfl) ?_
  refine lv_iload_n hx hb d_Gi_init_1 rfl (lv_at hl 1 rfl) ?_
  refine lv_iload_n hx hb d_Gi_init_2 rfl (lv_at hl 2 rfl) ?_
  refine lv_iload_n hx hb d_Gi_init_3 rfl (lv_at hl 3 rfl) ?_
  refine z_mv (z_I (n := 3) (As := [.int kn, .int fm, .int av]) (rest := []) S (c_Pa_init l G a k kd fr am lf ex kn fm av hk) rfl kg_86 kg_57 kg_58 ok_Pa_init pd_Pa_init (hP 0 _ rfl) rfl hl.1 rfl (Nat.le_of_ble_eq_true rfl) ⟨(Nat.le_of_ble_eq_true rfl), (Nat.le_of_ble_eq_true rfl)⟩ ⟨Nat.zero_le _, Nat.zero_le _⟩ d_Gi_init_4) (fun H1 L hF hL => ?_)
  have hS := hF.S hS rfl hL
  have hP := va_P1 hF.1
  have hD : va_D (fun q => q = a) [(a, pc5 k kn fm av av ex)] := zD1
  exact z_vret S hr hlk (ZF1.mk hP hS rfl (by first | rfl | simp only [↓reduceIte])) hS.2.2 d_Gi_init_7
set_option maxHeartbeats 1000000 in
theorem c_Se_init (l : Launch) (G : ZG) (a k : Nat) (kd fr am lf ex : Int32) (kn fm av : Int32) (hk : k < 8) : ZK l G y_Se_init 3 [.ref a, .int kn, .int fm, .int av] (fun H => va_at G.1 classes (a, pc5 k kd fr am lf ex) H) (ZA none (ZF1 G a (pc5 k kn fm av av ex))) 0 0 (fun q => q = a) := by
  refine ZK.ofBody (cc := b_Se_init) (maxL := 4) (ret := none) kg_96 (by decide) (by decide) (Nat.le_of_ble_eq_true rfl) ?_
  intro p e s m below meth c S hr hlk hnm hp ls hl
  obtain ⟨⟨hx, hb, hml, hown, hts⟩, hK⟩ := id S
  have hP : va_P G.1 classes [(a, pc5 k kd fr am lf ex)] s.heap := va_P1 hp
  have hD : va_D (fun q => q = a) [(a, pc5 k kd fr am lf ex)] := zD1
  have hS : va_S (fun q => q = a) s.heap s.heap [] := va_S.rf
  have hl : lv_has ls 4 [(0, .ref a), (1, .int kn), (2, .int fm), (3, .int av)] := hl
  refine lv_aload_n hx hb d_Se_init_0 rfl (lv_at hl 0 rfl) ?_
  refine lv_iload_n hx hb d_Se_init_1 rfl (lv_at hl 1 rfl) ?_
  refine lv_iload_n hx hb d_Se_init_2 rfl (lv_at hl 2 rfl) ?_
  refine lv_iload_n hx hb d_Se_init_3 rfl (lv_at hl 3 rfl) ?_
  refine z_mv (z_I (n := 3) (As := [.int kn, .int fm, .int av]) (rest := []) S (c_Gi_init l G a k kd fr am lf ex kn fm av hk) rfl kg_97 kg_84 kg_85 ok_Gi_init pd_Gi_init (hP 0 _ rfl) rfl hl.1 rfl (Nat.le_of_ble_eq_true rfl) ⟨(Nat.le_of_ble_eq_true rfl), (Nat.le_of_ble_eq_true rfl)⟩ ⟨Nat.zero_le _, Nat.zero_le _⟩ d_Se_init_4) (fun H1 L hF hL => ?_)
  have hS := hF.S hS rfl hL
  have hP := va_P1 hF.1
  have hD : va_D (fun q => q = a) [(a, pc5 k kn fm av av ex)] := zD1
  exact z_vret S hr hlk (ZF1.mk hP hS rfl (by first | rfl | simp only [↓reduceIte])) hS.2.2 d_Se_init_7
set_option maxHeartbeats 1000000 in
theorem c_Ro_init (l : Launch) (G : ZG) (a k : Nat) (kd fr am lf ex : Int32) (kn fm av : Int32) (hk : k < 8) : ZK l G y_Ro_init 2 [.ref a, .int kn, .int fm, .int av] (fun H => va_at G.1 classes (a, pc5 k kd fr am lf ex) H) (ZA none (ZF1 G a (pc5 k kn fm av av ex))) 0 0 (fun q => q = a) := by
  refine ZK.ofBody (cc := b_Ro_init) (maxL := 4) (ret := none) kg_121 (by decide) (by decide) (Nat.le_of_ble_eq_true rfl) ?_
  intro p e s m below meth c S hr hlk hnm hp ls hl
  obtain ⟨⟨hx, hb, hml, hown, hts⟩, hK⟩ := id S
  have hP : va_P G.1 classes [(a, pc5 k kd fr am lf ex)] s.heap := va_P1 hp
  have hD : va_D (fun q => q = a) [(a, pc5 k kd fr am lf ex)] := zD1
  have hS : va_S (fun q => q = a) s.heap s.heap [] := va_S.rf
  have hl : lv_has ls 4 [(0, .ref a), (1, .int kn), (2, .int fm), (3, .int av)] := hl
  refine lv_aload_n hx hb d_Ro_init_0 rfl (lv_at hl 0 rfl) ?_
  refine lv_iload_n hx hb d_Ro_init_1 rfl (lv_at hl 1 rfl) ?_
  refine lv_iload_n hx hb d_Ro_init_2 rfl (lv_at hl 2 rfl) ?_
  refine lv_iload_n hx hb d_Ro_init_3 rfl (lv_at hl 3 rfl) ?_
  refine z_mv (z_I (n := 3) (As := [.int kn, .int fm, .int av]) (rest := []) S (c_Pa_init l G a k kd fr am lf ex kn fm av hk) rfl kg_122 kg_57 kg_58 ok_Pa_init pd_Pa_init (hP 0 _ rfl) rfl hl.1 rfl (Nat.le_of_ble_eq_true rfl) ⟨(Nat.le_of_ble_eq_true rfl), (Nat.le_of_ble_eq_true rfl)⟩ ⟨Nat.zero_le _, Nat.zero_le _⟩ d_Ro_init_4) (fun H1 L hF hL => ?_)
  have hS := hF.S hS rfl hL
  have hP := va_P1 hF.1
  have hD : va_D (fun q => q = a) [(a, pc5 k kn fm av av ex)] := zD1
  exact z_vret S hr hlk (ZF1.mk hP hS rfl (by first | rfl | simp only [↓reduceIte])) hS.2.2 d_Ro_init_7
set_option maxHeartbeats 1000000 in
theorem c_Cl_init (l : Launch) (G : ZG) (a k : Nat) (kd fr am lf ex : Int32) (kn fm av : Int32) (hk : k < 8) : ZK l G y_Cl_init 3 [.ref a, .int kn, .int fm, .int av] (fun H => va_at G.1 classes (a, pc5 k kd fr am lf ex) H) (ZA none (ZF1 G a (pc5 k kn fm av av ex))) 0 0 (fun q => q = a) := by
  refine ZK.ofBody (cc := b_Cl_init) (maxL := 4) (ret := none) kg_132 (by decide) (by decide) (Nat.le_of_ble_eq_true rfl) ?_
  intro p e s m below meth c S hr hlk hnm hp ls hl
  obtain ⟨⟨hx, hb, hml, hown, hts⟩, hK⟩ := id S
  have hP : va_P G.1 classes [(a, pc5 k kd fr am lf ex)] s.heap := va_P1 hp
  have hD : va_D (fun q => q = a) [(a, pc5 k kd fr am lf ex)] := zD1
  have hS : va_S (fun q => q = a) s.heap s.heap [] := va_S.rf
  have hl : lv_has ls 4 [(0, .ref a), (1, .int kn), (2, .int fm), (3, .int av)] := hl
  refine lv_aload_n hx hb d_Cl_init_0 rfl (lv_at hl 0 rfl) ?_
  refine lv_iload_n hx hb d_Cl_init_1 rfl (lv_at hl 1 rfl) ?_
  refine lv_iload_n hx hb d_Cl_init_2 rfl (lv_at hl 2 rfl) ?_
  refine lv_iload_n hx hb d_Cl_init_3 rfl (lv_at hl 3 rfl) ?_
  refine z_mv (z_I (n := 3) (As := [.int kn, .int fm, .int av]) (rest := []) S (c_Ro_init l G a k kd fr am lf ex kn fm av hk) rfl kg_133 kg_120 kg_121 ok_Ro_init pd_Ro_init (hP 0 _ rfl) rfl hl.1 rfl (Nat.le_of_ble_eq_true rfl) ⟨(Nat.le_of_ble_eq_true rfl), (Nat.le_of_ble_eq_true rfl)⟩ ⟨Nat.zero_le _, Nat.zero_le _⟩ d_Cl_init_4) (fun H1 L hF hL => ?_)
  have hS := hF.S hS rfl hL
  have hP := va_P1 hF.1
  have hD : va_D (fun q => q = a) [(a, pc5 k kn fm av av ex)] := zD1
  exact z_vret S hr hlk (ZF1.mk hP hS rfl (by first | rfl | simp only [↓reduceIte])) hS.2.2 d_Cl_init_7
set_option maxHeartbeats 1000000 in
theorem c_Ho_init (l : Launch) (G : ZG) (a k : Nat) (kd fr am lf ex : Int32) (kn fm av : Int32) (hk : k < 8) : ZK l G y_Ho_init 4 [.ref a, .int kn, .int fm, .int av] (fun H => va_at G.1 classes (a, pc5 k kd fr am lf ex) H) (ZA none (ZF1 G a (pc5 k kn fm av av ex))) 0 0 (fun q => q = a) := by
  refine ZK.ofBody (cc := b_Ho_init) (maxL := 4) (ret := none) kg_143 (by decide) (by decide) (Nat.le_of_ble_eq_true rfl) ?_
  intro p e s m below meth c S hr hlk hnm hp ls hl
  obtain ⟨⟨hx, hb, hml, hown, hts⟩, hK⟩ := id S
  have hP : va_P G.1 classes [(a, pc5 k kd fr am lf ex)] s.heap := va_P1 hp
  have hD : va_D (fun q => q = a) [(a, pc5 k kd fr am lf ex)] := zD1
  have hS : va_S (fun q => q = a) s.heap s.heap [] := va_S.rf
  have hl : lv_has ls 4 [(0, .ref a), (1, .int kn), (2, .int fm), (3, .int av)] := hl
  refine lv_aload_n hx hb d_Ho_init_0 rfl (lv_at hl 0 rfl) ?_
  refine lv_iload_n hx hb d_Ho_init_1 rfl (lv_at hl 1 rfl) ?_
  refine lv_iload_n hx hb d_Ho_init_2 rfl (lv_at hl 2 rfl) ?_
  refine lv_iload_n hx hb d_Ho_init_3 rfl (lv_at hl 3 rfl) ?_
  refine z_mv (z_I (n := 3) (As := [.int kn, .int fm, .int av]) (rest := []) S (c_Cl_init l G a k kd fr am lf ex kn fm av hk) rfl kg_144 kg_131 kg_132 ok_Cl_init pd_Cl_init (hP 0 _ rfl) rfl hl.1 rfl (Nat.le_of_ble_eq_true rfl) ⟨(Nat.le_of_ble_eq_true rfl), (Nat.le_of_ble_eq_true rfl)⟩ ⟨Nat.zero_le _, Nat.zero_le _⟩ d_Ho_init_4) (fun H1 L hF hL => ?_)
  have hS := hF.S hS rfl hL
  have hP := va_P1 hF.1
  have hD : va_D (fun q => q = a) [(a, pc5 k kn fm av av ex)] := zD1
  exact z_vret S hr hlk (ZF1.mk hP hS rfl (by first | rfl | simp only [↓reduceIte])) hS.2.2 d_Ho_init_7
set_option maxHeartbeats 1000000 in
theorem c_Cr_init (l : Launch) (G : ZG) (a k : Nat) (kd fr am lf ex : Int32) (kn fm av : Int32) (hk : k < 8) : ZK l G y_Cr_init 5 [.ref a, .int kn, .int fm, .int av] (fun H => va_at G.1 classes (a, pc5 k kd fr am lf ex) H) (ZA none (ZF1 G a (pc5 k kn fm av av ex))) 0 0 (fun q => q = a) := by
  refine ZK.ofBody (cc := b_Cr_init) (maxL := 4) (ret := none) kg_157 (by decide) (by decide) (Nat.le_of_ble_eq_true rfl) ?_
  intro p e s m below meth c S hr hlk hnm hp ls hl
  obtain ⟨⟨hx, hb, hml, hown, hts⟩, hK⟩ := id S
  have hP : va_P G.1 classes [(a, pc5 k kd fr am lf ex)] s.heap := va_P1 hp
  have hD : va_D (fun q => q = a) [(a, pc5 k kd fr am lf ex)] := zD1
  have hS : va_S (fun q => q = a) s.heap s.heap [] := va_S.rf
  have hl : lv_has ls 4 [(0, .ref a), (1, .int kn), (2, .int fm), (3, .int av)] := hl
  refine lv_aload_n hx hb d_Cr_init_0 rfl (lv_at hl 0 rfl) ?_
  refine lv_iload_n hx hb d_Cr_init_1 rfl (lv_at hl 1 rfl) ?_
  refine lv_iload_n hx hb d_Cr_init_2 rfl (lv_at hl 2 rfl) ?_
  refine lv_iload_n hx hb d_Cr_init_3 rfl (lv_at hl 3 rfl) ?_
  refine z_mv (z_I (n := 3) (As := [.int kn, .int fm, .int av]) (rest := []) S (c_Ho_init l G a k kd fr am lf ex kn fm av hk) rfl kg_158 kg_142 kg_143 ok_Ho_init pd_Ho_init (hP 0 _ rfl) rfl hl.1 rfl (Nat.le_of_ble_eq_true rfl) ⟨(Nat.le_of_ble_eq_true rfl), (Nat.le_of_ble_eq_true rfl)⟩ ⟨Nat.zero_le _, Nat.zero_le _⟩ d_Cr_init_4) (fun H1 L hF hL => ?_)
  have hS := hF.S hS rfl hL
  have hP := va_P1 hF.1
  have hD : va_D (fun q => q = a) [(a, pc5 k kn fm av av ex)] := zD1
  exact z_vret S hr hlk (ZF1.mk hP hS rfl (by first | rfl | simp only [↓reduceIte])) hS.2.2 d_Cr_init_7
set_option maxHeartbeats 1000000 in
theorem c_St_init (l : Launch) (G : ZG) (a : Nat) (kd fr am lf ex : Int32) (kn fm av : Int32)  : ZK l G y_St_init 4 [.ref a, .int kn, .int fm, .int av] (fun H => va_at G.1 classes (a, pc5 3 kd fr am lf ex) H) (ZA none (ZF1 G a (pc5 3 kn fm av av (-1)))) 0 0 (fun q => q = a) := by
  refine ZK.ofBody (cc := b_St_init) (maxL := 4) (ret := none) kg_107 (by decide) (by decide) (Nat.le_of_ble_eq_true rfl) ?_
  intro p e s m below meth c S hr hlk hnm hp ls hl
  obtain ⟨⟨hx, hb, hml, hown, hts⟩, hK⟩ := id S
  have hP : va_P G.1 classes [(a, pc5 3 kd fr am lf ex)] s.heap := va_P1 hp
  have hD : va_D (fun q => q = a) [(a, pc5 3 kd fr am lf ex)] := zD1
  have hS : va_S (fun q => q = a) s.heap s.heap [] := va_S.rf
  have hl : lv_has ls 4 [(0, .ref a), (1, .int kn), (2, .int fm), (3, .int av)] := hl
  refine lv_aload_n hx hb d_St_init_0 rfl (lv_at hl 0 rfl) ?_
  refine lv_iload_n hx hb d_St_init_1 rfl (lv_at hl 1 rfl) ?_
  refine lv_iload_n hx hb d_St_init_2 rfl (lv_at hl 2 rfl) ?_
  refine lv_iload_n hx hb d_St_init_3 rfl (lv_at hl 3 rfl) ?_
  refine z_mv (z_I (n := 3) (As := [.int kn, .int fm, .int av]) (rest := []) S (c_Se_init l G a 3 kd fr am lf ex kn fm av (show (3 : Nat) < 8 by decide)) rfl kg_108 kg_95 kg_96 ok_Se_init pd_Se_init (hP 0 _ rfl) rfl hl.1 rfl (Nat.le_of_ble_eq_true rfl) ⟨(Nat.le_of_ble_eq_true rfl), (Nat.le_of_ble_eq_true rfl)⟩ ⟨Nat.zero_le _, Nat.zero_le _⟩ d_St_init_4) (fun H1 L hF hL => ?_)
  have hS := hF.S hS rfl hL
  have hP := va_P1 hF.1
  have hD : va_D (fun q => q = a) [(a, pc5 3 kn fm av av ex)] := zD1
  refine lv_aload_n hx hb d_St_init_7 rfl (lv_at hl 0 rfl) ?_
  refine lv_iconst (v := (-1)) hx hb d_St_init_8 (by decide) ?_
  refine z_put (x := (-1)) S (zk_cls (k := 3) (by decide)) (zk_in (k := 3) (by decide)) (zk_ty (k := 3) (by decide)) (zk_nm (k := 3) (by decide)) hP hD hS 0 rfl 4 (by decide) kg_109 (Or.inl rfl) rfl pI (Nat.le_of_ble_eq_true rfl) d_St_init_9 (fun H locs hP hD hS => ?_)
  have hP : va_P G.1 classes [(a, pc5 3 kn fm av av (-1))] H := hP
  have hD : va_D (fun q => q = a) [(a, pc5 3 kn fm av av (-1))] := hD
  exact z_vret S hr hlk (ZF1.mk hP hS rfl (by first | rfl | simp only [↓reduceIte])) hS.2.2 d_St_init_12
end
section
-- the office: its own cell, its array, the papers that were ever issued
abbrev Pv : Type := Nat × Int32 × Int32 × Int32 × Int32
abbrev pe (v : Pv) : va_E := pc5 v.1 (nI v.1) v.2.1 v.2.2.1 v.2.2.2.1 v.2.2.2.2
abbrev oc (ra : Nat) (mn td iss sp fe la : Int32) : va_E := .inr (8, [.ref ra, .int mn, .int td, .int iss, .int sp, .int fe, .int la])
abbrev oa (G : ZG) (pf : Nat → Option Nat) : va_E := .inl (G.2.2.2, 40, .inr (.inr (.inr (.inr pf))))
def pl (n : Nat) (ad : Nat → Nat) (pv : Nat → Pv) : va_W := (List.range n).map (fun i => (ad i, pe (pv i)))
abbrev wo (G : ZG) (x ra : Nat) (mn td iss sp fe la : Int32) (pf : Nat → Option Nat) (n : Nat) (ad : Nat → Nat) (pv : Nat → Pv) : va_W := (x, oc ra mn td iss sp fe la) :: (ra, oa G pf) :: pl n ad pv
theorem pl_get {n i : Nat} {ad : Nat → Nat} {pv : Nat → Pv} {c0 c1 : Nat × va_E} (hi : i < n) : (c0 :: c1 :: pl n ad pv)[i + 2]? = some (ad i, pe (pv i)) := by
  simp [pl, hi]
theorem pl_set {n i : Nat} {ad : Nat → Nat} {pv : Nat → Pv} {c0 c1 : Nat × va_E} {w : Pv} : (c0 :: c1 :: pl n ad pv).set (i + 2) (ad i, pe w) = c0 :: c1 :: pl n ad (va_up pv i w) := by
  show c0 :: c1 :: (pl n ad pv).set i (ad i, pe w) = _
  congr 2
  apply List.ext_getElem?
  intro j
  unfold pl
  by_cases hj : j = i
  · subst hj
    by_cases hl : j < n
    · simp [hl, va_up]
    · simp [hl]
  · rw [List.getElem?_set_ne (Ne.symm hj)]
    simp only [List.getElem?_map]
    by_cases hl : j < n
    · simp [hl, va_up, hj]
    · simp [hl]
def inV (v lo hi : Int32) : Int32 := if v < lo then 0 else if hi < v then 0 else 1
/-- the place of a voucher's number, if it is there -/
def lkI (n : Nat) (gn : Nat → Bool) (v : Int32) : Option Nat := if inV v 0 (nI n - 1) = 0 then none else if gn v.toNatClampNeg = true then none else some v.toNatClampNeg
theorem inV_in {n : Nat} (hn : n ≤ 40) {v : Int32} (h : ¬ inV v 0 (nI n - 1) = 0) : ∃ i : Nat, i < n ∧ v = nI i := by
  unfold inV at h
  by_cases h1 : v < 0
  · simp [h1] at h
  · by_cases h2 : nI n - 1 < v
    · simp [h1, h2] at h
    · obtain ⟨j, hj, rfl⟩ := nI_of h1
      refine ⟨j, ?_, rfl⟩
      cases n with
      | zero =>
        exfalso
        apply h2
        rw [Int32.lt_iff_toInt_lt, nI_toInt hj]
        have e0 : (nI 0 - 1).toInt = -1 := by decide +kernel
        rw [e0]; omega
      | succ n =>
        rw [nI_pred] at h2
        rw [nI_ltI (by omega) hj] at h2
        omega
theorem lk_cases {n : Nat} (hn : n ≤ 40) (gn : Nat → Bool) (v : Int32) : lkI n gn v = none ∨ ∃ i : Nat, i < n ∧ v = nI i ∧ gn i = false ∧ lkI n gn v = some i := by
  by_cases h : inV v 0 (nI n - 1) = 0
  · exact Or.inl (by simp [lkI, h])
  · obtain ⟨i, hi, rfl⟩ := inV_in hn h
    have hc : (nI i).toNatClampNeg = i := nI_clamp (by omega)
    cases hg : gn i with
    | true => exact Or.inl (by simp [lkI, h, hc, hg])
    | false => exact Or.inr ⟨i, hi, rfl, hg, by simp [lkI, h, hc, hg]⟩
theorem zo_cls : classes[8]? = some ("VoucherOffice", F_Of, 7) := rfl
theorem zm_cls : classes[9]? = some ("VoucherOfficeModel", F_Mo, 13) := rfl
/-- the office's world: the cells, and they are apart -/
def OW (G : ZG) (sz : Nat) (ws : va_W) (H : Heap) : Prop := H.size = sz ∧ va_P G.1 classes ws H ∧ va_D (fun _ => True) ws
/-- the world ws has become ws', nothing else has changed -/
def OF (G : ZG) (sz : Nat) (ws ws' : va_W) : Heap → Heap → Prop := fun H H1 => H.size ≤ H1.size ∧ (∀ q : Nat, q < H.size → ¬ va_A ws sz q → H1[q]? = H[q]?) ∧ va_P G.1 classes ws' H1 ∧ va_D (va_A ws sz) ws'
theorem OF.mk {G : ZG} {sz : Nat} {ws ws0 ws' : va_W} {v v' : Option Value} {H0 H : Heap} {locs : List Loc} (hP : va_P G.1 classes ws0 H) (hD : va_D (va_A ws sz) ws0) (hS : va_S (va_A ws sz) H0 H locs) (hv : v' = v) (he : ws' = ws0) : ZA v (OF G sz ws ws') v' H0 H := by
  subst he
  exact ⟨hv, hS.1, hS.2.1, hP, hD⟩
/-- what is known of the papers: their kinds, where the array's places lead -/
def okP (n : Nat) (gn : Nat → Bool) (pf : Nat → Option Nat) (ad : Nat → Nat) (pv : Nat → Pv) : Prop := n ≤ 40 ∧ (∀ i, i < n → (pv i).1 < 8) ∧ ∀ i, i < n → pf i = if gn i = true then none else some (ad i)
end
section
set_option maxHeartbeats 2000000 in
theorem c_Of_isIn (l : Launch) (G : ZG) (v lo hi : Int32) : ZK l G y_Of_isIn 0 [.int v, .int lo, .int hi] (fun _ => True) (ZE (.int (inV v lo hi))) 0 0 (fun _ => False) := by
  refine ZK.ofBody (cc := b_Of_isIn) (maxL := 3) (ret := (some FieldType.boolean)) kg_49 (by decide) (by decide) (Nat.le_of_ble_eq_true rfl) ?_
  intro p e s m below meth c S hr hlk hnm hp ls hl
  obtain ⟨⟨hx, hb, hml, hown, hts⟩, hK⟩ := id S
  have hl : lv_has ls 3 [(0, .int v), (1, .int lo), (2, .int hi)] := hl
  refine lv_iload_n hx hb d_Of_isIn_0 rfl (lv_at hl 0 rfl) ?_
  refine lv_iload_n hx hb d_Of_isIn_1 rfl (lv_at hl 1 rfl) ?_
  refine lv_icmp_lt (tgt := 14) hx hb d_Of_isIn_2 (by decide) (fun c_1 => ?_) (fun c_1 => ?_)
  · refine lv_iconst (v := 0) hx hb d_Of_isIn_14 (by decide) ?_
    exact z_zret (v := inV v lo hi) S hr hlk rfl (by simp only [inV, c_1, ↓reduceIte]) ⟨rfl, rfl⟩ z_nil d_Of_isIn_15
  · refine lv_iload_n hx hb d_Of_isIn_5 rfl (lv_at hl 0 rfl) ?_
    refine lv_iload_n hx hb d_Of_isIn_6 rfl (lv_at hl 2 rfl) ?_
    refine lv_icmp_gt (tgt := 14) hx hb d_Of_isIn_7 (by decide) (fun c_2 => ?_) (fun c_2 => ?_)
    · refine lv_iconst (v := 0) hx hb d_Of_isIn_14 (by decide) ?_
      exact z_zret (v := inV v lo hi) S hr hlk rfl (by simp only [inV, c_1, c_2, ↓reduceIte]) ⟨rfl, rfl⟩ z_nil d_Of_isIn_15
    · refine lv_iconst (v := 1) hx hb d_Of_isIn_10 (by decide) ?_
      refine lv_goto (tgt := 15) hx hb d_Of_isIn_11 (by decide) ?_
      exact z_zret (v := inV v lo hi) S hr hlk rfl (by simp only [inV, c_1, c_2, ↓reduceIte]) ⟨rfl, rfl⟩ z_nil d_Of_isIn_15
set_option maxHeartbeats 2000000 in
theorem c_Of_at (l : Launch) (G : ZG) (sz : Nat) (x ra : Nat) (td iss sp fe la : Int32) (pf : Nat → Option Nat) (n : Nat) (gn : Nat → Bool) (ad : Nat → Nat) (pv : Nat → Pv) (v : Int32) (hok : okP n gn pf ad pv) : ZK l G y_Of_at 1 [.ref x, .int v] (OW G sz (wo G x ra (nI n) td iss sp fe la pf n ad pv)) (ZE (va_rf ((lkI n gn v).map ad))) 0 0 (fun _ => False) := by
  refine ZK.ofBody (cc := b_Of_at) (maxL := 2) (ret := (some (FieldType.object "VoucherOffice$Paper"))) kg_176 (by decide) (by decide) (Nat.le_of_ble_eq_true rfl) ?_
  intro p e s m below meth c S hr hlk hnm hp ls hl
  obtain ⟨⟨hx, hb, hml, hown, hts⟩, hK⟩ := id S
  obtain ⟨hsz, hP, hD⟩ := hp
  obtain ⟨hn40, hkv, hpf⟩ := id hok
  have hl : lv_has ls 2 [(0, .ref x), (1, .int v)] := hl
  refine lv_iload_n hx hb d_Of_at_0 rfl (lv_at hl 1 rfl) ?_
  refine lv_iconst (v := 0) hx hb d_Of_at_1 (by decide) ?_
  refine lv_aload_n hx hb d_Of_at_2 rfl (lv_at hl 0 rfl) ?_
  refine z_get S zo_cls zo_in (hP 0 _ rfl) 1 (by decide) kg_22 (Or.inl rfl) rfl d_Of_at_3 ?_
  refine lv_iconst (v := 1) hx hb d_Of_at_6 (by decide) ?_
  refine lv_isub hx hb d_Of_at_7 ?_
  refine z_q (z_S (n := 3) (As := [.int v, .int 0, .int ((nI n) - 1)]) (rest := []) S (c_Of_isIn l G v 0 ((nI n) - 1)) kg_47 kg_48 kg_1 kg_49 ok_Of_isIn pd_Of_isIn trivial rfl hl.1 rfl (Nat.le_of_ble_eq_true rfl) ⟨(Nat.le_of_ble_eq_true rfl), (Nat.le_of_ble_eq_true rfl)⟩ ⟨Nat.zero_le _, Nat.zero_le _⟩ d_Of_at_8) ?_
  refine lv_if_eq (tgt := 23) hx hb d_Of_at_11 (by decide) (fun c_1 => ?_) (fun c_1 => ?_)
  · refine lv_null hx hb d_Of_at_23 ?_
    exact z_aret S hr ⟨_, rfl⟩ (Or.inl rfl) hlk ⟨by simp [lkI, c_1, va_rf], rfl⟩ z_nil d_Of_at_24
  · refine lv_aload_n hx hb d_Of_at_14 rfl (lv_at hl 0 rfl) ?_
    refine z_get S zo_cls zo_in (hP 0 _ rfl) 0 (by decide) kg_21 (Or.inl rfl) rfl d_Of_at_15 ?_
    refine lv_iload_n hx hb d_Of_at_18 rfl (lv_at hl 1 rfl) ?_
    obtain ⟨i, hi, hvi⟩ := inV_in hn40 c_1
    have hci : v.toNatClampNeg = i := by rw [hvi]; exact nI_clamp (by omega)
    refine va_aldq hx hb hK.1 hP 1 2 rfl rfl (by rw [hvi]; exact vp_in_nI (by omega) (by decide)) d_Of_at_19 ?_
    refine lv_goto (tgt := 24) hx hb d_Of_at_20 (by decide) ?_
    exact z_aret S hr ⟨_, rfl⟩ (va_rf_or _) hlk ⟨by rw [hci, hpf i hi]; cases hg : gn i <;> simp [lkI, c_1, hci, hg, va_rf], rfl⟩ z_nil d_Of_at_24
theorem c_Of_at_none (l : Launch) (G : ZG) (sz : Nat) (x ra : Nat) (td iss sp fe la : Int32) (pf : Nat → Option Nat) (n : Nat) (gn : Nat → Bool) (ad : Nat → Nat) (pv : Nat → Pv) (v : Int32) (hok : okP n gn pf ad pv) (h : lkI n gn v = none) : ZK l G y_Of_at 1 [.ref x, .int v] (OW G sz (wo G x ra (nI n) td iss sp fe la pf n ad pv)) (ZE .null) 0 0 (fun _ => False) := by
  have h0 := c_Of_at l G sz x ra td iss sp fe la pf n gn ad pv v hok
  rw [h] at h0
  exact h0
theorem c_Of_at_some (l : Launch) (G : ZG) (sz : Nat) (x ra : Nat) (td iss sp fe la : Int32) (pf : Nat → Option Nat) (n : Nat) (gn : Nat → Bool) (ad : Nat → Nat) (pv : Nat → Pv) (v : Int32) (hok : okP n gn pf ad pv) {i : Nat} (h : lkI n gn v = some i) : ZK l G y_Of_at 1 [.ref x, .int v] (OW G sz (wo G x ra (nI n) td iss sp fe la pf n ad pv)) (ZE (.ref (ad i))) 0 0 (fun _ => False) := by
  have h0 := c_Of_at l G sz x ra td iss sp fe la pf n gn ad pv v hok
  rw [h] at h0
  exact h0
def oValue (n : Nat) (gn : Nat → Bool) (pv : Nat → Pv) (v day : Int32) : Int32 := match lkI n gn v with | none => -1 | some i => if inV day 0 20000 = 0 then -2 else wV (pv i).1 (pv i).2.1 (pv i).2.2.2.1 (pv i).2.2.2.2 day
def oFee (n : Nat) (gn : Nat → Bool) (pv : Nat → Pv) (v g : Int32) : Int32 := match lkI n gn v with | none => -1 | some i => if inV g 1 100000 = 0 then -2 else fV (pv i).1 (pv i).2.2.2.2 g
def oSeal (n : Nat) (gn : Nat → Bool) (pv : Nat → Pv) (v : Int32) : Int32 := match lkI n gn v with | none => -1 | some i => slV (pv i).1 (pv i).2.1 (pv i).2.2.1 (pv i).2.2.2.1 (pv i).2.2.2.2
set_option maxHeartbeats 2000000 in
theorem c_Of_value (l : Launch) (G : ZG) (sz : Nat) (x ra : Nat) (td iss sp fe la : Int32) (pf : Nat → Option Nat) (n : Nat) (gn : Nat → Bool) (ad : Nat → Nat) (pv : Nat → Pv) (v day : Int32) (hok : okP n gn pf ad pv) : ZK l G y_Of_value 4 [.ref x, .int v, .int day] (OW G sz (wo G x ra (nI n) td iss sp fe la pf n ad pv)) (ZE (.int (oValue n gn pv v day))) 0 0 (fun _ => False) := by
  refine ZK.ofBody (cc := b_Of_value) (maxL := 4) (ret := (some FieldType.int)) kg_172 (by decide) (by decide) (Nat.le_of_ble_eq_true rfl) ?_
  intro p e s m below meth c S hr hlk hnm hp ls hl
  obtain ⟨⟨hx, hb, hml, hown, hts⟩, hK⟩ := id S
  obtain ⟨hsz, hP, hD0⟩ := hp
  obtain ⟨hn40, hkv, hpf⟩ := id hok
  have hl : lv_has ls 4 [(0, .ref x), (1, .int v), (2, .int day)] := hl
  rcases lk_cases hn40 gn v with hvk | ⟨i, hi, hvi, hgi, hvk⟩
  · refine lv_aload_n hx hb d_Of_value_0 rfl (lv_at hl 0 rfl) ?_
    refine lv_iload_n hx hb d_Of_value_1 rfl (lv_at hl 1 rfl) ?_
    refine z_q (z_D (n := 1) (C := "VoucherOffice") (As := [.int v]) (rest := []) S (c_Of_at_none l G sz x ra td iss sp fe la pf n gn ad pv v hok hvk) kg_173 kg_175 kp_Of_at kg_176 ok_Of_at pd_Of_at (zrec hK (hP 0 _ rfl) zo_cls) ⟨hsz, hP, hD0⟩ rfl hl.1 rfl (Nat.le_of_ble_eq_true rfl) ⟨(Nat.le_of_ble_eq_true rfl), (Nat.le_of_ble_eq_true rfl)⟩ ⟨Nat.zero_le _, Nat.zero_le _⟩ d_Of_value_2) ?_
    refine lv_astore_nN (lv' := [(3, .null), (0, .ref x), (1, .int v), (2, .int day)]) hx hb d_Of_value_5 rfl hl (by decide) rfl (fun ls hl => ?_)
    refine lv_aload_nN hx hb d_Of_value_6 rfl (lv_at hl 0 rfl) ?_
    refine lv_ifnonnullN hx hb d_Of_value_7 ?_
    refine lv_iconst (v := (-1)) hx hb d_Of_value_10 (by decide) ?_
    exact z_iret (v := oValue n gn pv v day) (tys := none) S hr hlk (by simp only [oValue, hvk, ↓reduceIte]) ⟨rfl, rfl⟩ z_nil d_Of_value_11
  · refine lv_aload_n hx hb d_Of_value_0 rfl (lv_at hl 0 rfl) ?_
    refine lv_iload_n hx hb d_Of_value_1 rfl (lv_at hl 1 rfl) ?_
    refine z_q (z_D (n := 1) (C := "VoucherOffice") (As := [.int v]) (rest := []) S (c_Of_at_some l G sz x ra td iss sp fe la pf n gn ad pv v hok hvk) kg_173 kg_175 kp_Of_at kg_176 ok_Of_at pd_Of_at (zrec hK (hP 0 _ rfl) zo_cls) ⟨hsz, hP, hD0⟩ rfl hl.1 rfl (Nat.le_of_ble_eq_true rfl) ⟨(Nat.le_of_ble_eq_true rfl), (Nat.le_of_ble_eq_true rfl)⟩ ⟨Nat.zero_le _, Nat.zero_le _⟩ d_Of_value_2) ?_
    refine lv_astore_n (lv' := [(3, .ref (ad i)), (0, .ref x), (1, .int v), (2, .int day)]) hx hb d_Of_value_5 rfl hl (by decide) rfl (fun ls hl => ?_)
    refine lv_aload_n hx hb d_Of_value_6 rfl (lv_at hl 0 rfl) ?_
    refine lv_ifnonnull (tgt := 12) hx hb d_Of_value_7 (by decide) ?_
    refine lv_iload_n hx hb d_Of_value_12 rfl (lv_at hl 3 rfl) ?_
    refine lv_iconst (v := 0) hx hb d_Of_value_13 (by decide) ?_
    refine lv_sipush (v := 20000) hx hb d_Of_value_14 (by decide) ?_
    refine z_q (z_S (n := 3) (As := [.int day, .int 0, .int 20000]) (rest := []) S (c_Of_isIn l G day 0 20000) kg_47 kg_48 kg_1 kg_49 ok_Of_isIn pd_Of_isIn trivial rfl hl.1 rfl (Nat.le_of_ble_eq_true rfl) ⟨(Nat.le_of_ble_eq_true rfl), (Nat.le_of_ble_eq_true rfl)⟩ ⟨Nat.zero_le _, Nat.zero_le _⟩ d_Of_value_17) ?_
    refine lv_if_eq (tgt := 31) hx hb d_Of_value_20 (by decide) (fun c_1 => ?_) (fun c_1 => ?_)
    · refine lv_bipush (v := (-2)) hx hb d_Of_value_31 (by decide) ?_
      exact z_iret (v := oValue n gn pv v day) (tys := none) S hr hlk (by simp only [oValue, c_1, hvk, ↓reduceIte]) ⟨rfl, rfl⟩ z_nil d_Of_value_33
    · refine lv_aload_n hx hb d_Of_value_23 rfl (lv_at hl 0 rfl) ?_
      refine lv_iload_n hx hb d_Of_value_24 rfl (lv_at hl 3 rfl) ?_
      refine v_worth S kg_177 (hkv i hi) (hP (i + 2) _ (pl_get hi)) hl.1 (Nat.le_of_ble_eq_true rfl) ⟨(Nat.le_of_ble_eq_true rfl), (Nat.le_of_ble_eq_true rfl)⟩ ⟨Nat.zero_le _, Nat.zero_le _⟩ d_Of_value_25 ?_
      refine lv_goto (tgt := 33) hx hb d_Of_value_28 (by decide) ?_
      exact z_iret (v := oValue n gn pv v day) (tys := none) S hr hlk (by simp only [oValue, c_1, hvk, ↓reduceIte]) ⟨rfl, rfl⟩ z_nil d_Of_value_33
set_option maxHeartbeats 2000000 in
theorem c_Of_fee (l : Launch) (G : ZG) (sz : Nat) (x ra : Nat) (td iss sp fe la : Int32) (pf : Nat → Option Nat) (n : Nat) (gn : Nat → Bool) (ad : Nat → Nat) (pv : Nat → Pv) (v g : Int32) (hok : okP n gn pf ad pv) : ZK l G y_Of_fee 3 [.ref x, .int v, .int g] (OW G sz (wo G x ra (nI n) td iss sp fe la pf n ad pv)) (ZE (.int (oFee n gn pv v g))) 0 0 (fun _ => False) := by
  refine ZK.ofBody (cc := b_Of_fee) (maxL := 4) (ret := (some FieldType.int)) kg_236 (by decide) (by decide) (Nat.le_of_ble_eq_true rfl) ?_
  intro p e s m below meth c S hr hlk hnm hp ls hl
  obtain ⟨⟨hx, hb, hml, hown, hts⟩, hK⟩ := id S
  obtain ⟨hsz, hP, hD0⟩ := hp
  obtain ⟨hn40, hkv, hpf⟩ := id hok
  have hl : lv_has ls 4 [(0, .ref x), (1, .int v), (2, .int g)] := hl
  rcases lk_cases hn40 gn v with hvk | ⟨i, hi, hvi, hgi, hvk⟩
  · refine lv_aload_n hx hb d_Of_fee_0 rfl (lv_at hl 0 rfl) ?_
    refine lv_iload_n hx hb d_Of_fee_1 rfl (lv_at hl 1 rfl) ?_
    refine z_q (z_D (n := 1) (C := "VoucherOffice") (As := [.int v]) (rest := []) S (c_Of_at_none l G sz x ra td iss sp fe la pf n gn ad pv v hok hvk) kg_173 kg_175 kp_Of_at kg_176 ok_Of_at pd_Of_at (zrec hK (hP 0 _ rfl) zo_cls) ⟨hsz, hP, hD0⟩ rfl hl.1 rfl (Nat.le_of_ble_eq_true rfl) ⟨(Nat.le_of_ble_eq_true rfl), (Nat.le_of_ble_eq_true rfl)⟩ ⟨Nat.zero_le _, Nat.zero_le _⟩ d_Of_fee_2) ?_
    refine lv_astore_nN (lv' := [(3, .null), (0, .ref x), (1, .int v), (2, .int g)]) hx hb d_Of_fee_5 rfl hl (by decide) rfl (fun ls hl => ?_)
    refine lv_aload_nN hx hb d_Of_fee_6 rfl (lv_at hl 0 rfl) ?_
    refine lv_ifnonnullN hx hb d_Of_fee_7 ?_
    refine lv_iconst (v := (-1)) hx hb d_Of_fee_10 (by decide) ?_
    exact z_iret (v := oFee n gn pv v g) (tys := none) S hr hlk (by simp only [oFee, hvk, ↓reduceIte]) ⟨rfl, rfl⟩ z_nil d_Of_fee_11
  · refine lv_aload_n hx hb d_Of_fee_0 rfl (lv_at hl 0 rfl) ?_
    refine lv_iload_n hx hb d_Of_fee_1 rfl (lv_at hl 1 rfl) ?_
    refine z_q (z_D (n := 1) (C := "VoucherOffice") (As := [.int v]) (rest := []) S (c_Of_at_some l G sz x ra td iss sp fe la pf n gn ad pv v hok hvk) kg_173 kg_175 kp_Of_at kg_176 ok_Of_at pd_Of_at (zrec hK (hP 0 _ rfl) zo_cls) ⟨hsz, hP, hD0⟩ rfl hl.1 rfl (Nat.le_of_ble_eq_true rfl) ⟨(Nat.le_of_ble_eq_true rfl), (Nat.le_of_ble_eq_true rfl)⟩ ⟨Nat.zero_le _, Nat.zero_le _⟩ d_Of_fee_2) ?_
    refine lv_astore_n (lv' := [(3, .ref (ad i)), (0, .ref x), (1, .int v), (2, .int g)]) hx hb d_Of_fee_5 rfl hl (by decide) rfl (fun ls hl => ?_)
    refine lv_aload_n hx hb d_Of_fee_6 rfl (lv_at hl 0 rfl) ?_
    refine lv_ifnonnull (tgt := 12) hx hb d_Of_fee_7 (by decide) ?_
    refine lv_iload_n hx hb d_Of_fee_12 rfl (lv_at hl 3 rfl) ?_
    refine lv_iconst (v := 1) hx hb d_Of_fee_13 (by decide) ?_
    refine lv_ldc (v := 100000) hx hb hown (hts _ kg_50) d_Of_fee_14 ?_
    refine z_q (z_S (n := 3) (As := [.int g, .int 1, .int 100000]) (rest := []) S (c_Of_isIn l G g 1 100000) kg_47 kg_48 kg_1 kg_49 ok_Of_isIn pd_Of_isIn trivial rfl hl.1 rfl (Nat.le_of_ble_eq_true rfl) ⟨(Nat.le_of_ble_eq_true rfl), (Nat.le_of_ble_eq_true rfl)⟩ ⟨Nat.zero_le _, Nat.zero_le _⟩ d_Of_fee_16) ?_
    refine lv_if_eq (tgt := 30) hx hb d_Of_fee_19 (by decide) (fun c_1 => ?_) (fun c_1 => ?_)
    · refine lv_bipush (v := (-2)) hx hb d_Of_fee_30 (by decide) ?_
      exact z_iret (v := oFee n gn pv v g) (tys := none) S hr hlk (by simp only [oFee, c_1, hvk, ↓reduceIte]) ⟨rfl, rfl⟩ z_nil d_Of_fee_32
    · refine lv_aload_n hx hb d_Of_fee_22 rfl (lv_at hl 0 rfl) ?_
      refine lv_iload_n hx hb d_Of_fee_23 rfl (lv_at hl 3 rfl) ?_
      refine v_fee S kg_237 (hkv i hi) (hP (i + 2) _ (pl_get hi)) hl.1 (Nat.le_of_ble_eq_true rfl) ⟨(Nat.le_of_ble_eq_true rfl), (Nat.le_of_ble_eq_true rfl)⟩ ⟨Nat.zero_le _, Nat.zero_le _⟩ d_Of_fee_24 ?_
      refine lv_goto (tgt := 32) hx hb d_Of_fee_27 (by decide) ?_
      exact z_iret (v := oFee n gn pv v g) (tys := none) S hr hlk (by simp only [oFee, c_1, hvk, ↓reduceIte]) ⟨rfl, rfl⟩ z_nil d_Of_fee_32
set_option maxHeartbeats 2000000 in
theorem c_Of_seal (l : Launch) (G : ZG) (sz : Nat) (x ra : Nat) (td iss sp fe la : Int32) (pf : Nat → Option Nat) (n : Nat) (gn : Nat → Bool) (ad : Nat → Nat) (pv : Nat → Pv) (v : Int32) (hok : okP n gn pf ad pv) : ZK l G y_Of_seal 3 [.ref x, .int v] (OW G sz (wo G x ra (nI n) td iss sp fe la pf n ad pv)) (ZE (.int (oSeal n gn pv v))) 0 0 (fun _ => False) := by
  refine ZK.ofBody (cc := b_Of_seal) (maxL := 3) (ret := (some FieldType.int)) kg_299 (by decide) (by decide) (Nat.le_of_ble_eq_true rfl) ?_
  intro p e s m below meth c S hr hlk hnm hp ls hl
  obtain ⟨⟨hx, hb, hml, hown, hts⟩, hK⟩ := id S
  obtain ⟨hsz, hP, hD0⟩ := hp
  obtain ⟨hn40, hkv, hpf⟩ := id hok
  have hl : lv_has ls 3 [(0, .ref x), (1, .int v)] := hl
  rcases lk_cases hn40 gn v with hvk | ⟨i, hi, hvi, hgi, hvk⟩
  · refine lv_aload_n hx hb d_Of_seal_0 rfl (lv_at hl 0 rfl) ?_
    refine lv_iload_n hx hb d_Of_seal_1 rfl (lv_at hl 1 rfl) ?_
    refine z_q (z_D (n := 1) (C := "VoucherOffice") (As := [.int v]) (rest := []) S (c_Of_at_none l G sz x ra td iss sp fe la pf n gn ad pv v hok hvk) kg_173 kg_175 kp_Of_at kg_176 ok_Of_at pd_Of_at (zrec hK (hP 0 _ rfl) zo_cls) ⟨hsz, hP, hD0⟩ rfl hl.1 rfl (Nat.le_of_ble_eq_true rfl) ⟨(Nat.le_of_ble_eq_true rfl), (Nat.le_of_ble_eq_true rfl)⟩ ⟨Nat.zero_le _, Nat.zero_le _⟩ d_Of_seal_2) ?_
    refine lv_astore_nN (lv' := [(2, .null), (0, .ref x), (1, .int v)]) hx hb d_Of_seal_5 rfl hl (by decide) rfl (fun ls hl => ?_)
    refine lv_aload_nN hx hb d_Of_seal_6 rfl (lv_at hl 0 rfl) ?_
    refine lv_ifnonnullN hx hb d_Of_seal_7 ?_
    refine lv_iconst (v := (-1)) hx hb d_Of_seal_10 (by decide) ?_
    refine lv_goto (tgt := 18) hx hb d_Of_seal_11 (by decide) ?_
    exact z_iret (v := oSeal n gn pv v) (tys := none) S hr hlk (by simp only [oSeal, hvk, ↓reduceIte]) ⟨rfl, rfl⟩ z_nil d_Of_seal_18
  · refine lv_aload_n hx hb d_Of_seal_0 rfl (lv_at hl 0 rfl) ?_
    refine lv_iload_n hx hb d_Of_seal_1 rfl (lv_at hl 1 rfl) ?_
    refine z_q (z_D (n := 1) (C := "VoucherOffice") (As := [.int v]) (rest := []) S (c_Of_at_some l G sz x ra td iss sp fe la pf n gn ad pv v hok hvk) kg_173 kg_175 kp_Of_at kg_176 ok_Of_at pd_Of_at (zrec hK (hP 0 _ rfl) zo_cls) ⟨hsz, hP, hD0⟩ rfl hl.1 rfl (Nat.le_of_ble_eq_true rfl) ⟨(Nat.le_of_ble_eq_true rfl), (Nat.le_of_ble_eq_true rfl)⟩ ⟨Nat.zero_le _, Nat.zero_le _⟩ d_Of_seal_2) ?_
    refine lv_astore_n (lv' := [(2, .ref (ad i)), (0, .ref x), (1, .int v)]) hx hb d_Of_seal_5 rfl hl (by decide) rfl (fun ls hl => ?_)
    refine lv_aload_n hx hb d_Of_seal_6 rfl (lv_at hl 0 rfl) ?_
    refine lv_ifnonnull (tgt := 14) hx hb d_Of_seal_7 (by decide) ?_
    refine lv_aload_n hx hb d_Of_seal_14 rfl (lv_at hl 0 rfl) ?_
    refine v_seal S kg_300 (hkv i hi) (hP (i + 2) _ (pl_get hi)) hl.1 (Nat.le_of_ble_eq_true rfl) ⟨(Nat.le_of_ble_eq_true rfl), (Nat.le_of_ble_eq_true rfl)⟩ ⟨Nat.zero_le _, Nat.zero_le _⟩ d_Of_seal_15 ?_
    exact z_iret (v := oSeal n gn pv v) (tys := none) S hr hlk (by simp only [oSeal, hvk, ↓reduceIte]) ⟨rfl, rfl⟩ z_nil d_Of_seal_18
end
section
-- instanceof and casts of papers, switches
def isS (k : Nat) : Int32 := match k with
  | 5 => 1
  | 6 => 1
  | 7 => 1
  | _ => 0
def isD (k : Nat) : Int32 := match k with
  | 2 => 1
  | 3 => 1
  | _ => 0
theorem isS_yes {k : Nat} (hk : k < 8) (h : ¬ isS k = 0) : k = 5 ∨ k = 6 ∨ k = 7 := by
  match k, hk with
  | 0, _ => exact absurd rfl h
  | 1, _ => exact absurd rfl h
  | 2, _ => exact absurd rfl h
  | 3, _ => exact absurd rfl h
  | 4, _ => exact absurd rfl h
  | 5, _ => exact Or.inl rfl
  | 6, _ => exact Or.inr (Or.inl rfl)
  | 7, _ => exact Or.inr (Or.inr rfl)
theorem isD_yes {k : Nat} (hk : k < 8) (h : ¬ isD k = 0) : k = 2 ∨ k = 3 := by
  match k, hk with
  | 0, _ => exact absurd rfl h
  | 1, _ => exact absurd rfl h
  | 2, _ => exact Or.inl rfl
  | 3, _ => exact Or.inr rfl
  | 4, _ => exact absurd rfl h
  | 5, _ => exact absurd rfl h
  | 6, _ => exact absurd rfl h
  | 7, _ => exact absurd rfl h
section ZIN
variable {p : Program} {l : Launch} {e : Env} {R : Room} {s : State} {m : MethodId} {args : Array Value} {below : List Frame} {meth : Method} {c : Code} {H : Heap} {locs : List Loc} {cells slots : Nat} {Q : State → Prop}
variable {cc : ByteArray} {nL pc : Nat} {ls : Array Slot} {rest : List Value} {G : ZG} {own : String} {index : Nat} {a k : Nat} {fs : List Value}
theorem zi_Y {C nm : String} {q : vw_C} (S : ZC p m c cc nL s args own G) (hl : Cond.classLink own index nm ∈ gw) (hf : Cond.castable C nm ∈ lw_tbl) (hc : classes[k]? = some q) (hq : q.1 = C) (hat : va_at G.1 classes (a, .inr (k, fs)) H) (hdg : decode cc pc = .ok (.instanceof index, 3)) (kk : W p l e R s m args below meth c H locs cells slots Q (F0 m (pc + 3) ls (.int 1 :: rest))) : W p l e R s m args below meth c H locs cells slots Q (F0 m pc ls (.ref a :: rest)) := by
  subst hq
  exact va_instY S.1.1 S.1.2.1 S.1.2.2.2.1 (S.1.2.2.2.2 _ hl) (S.2.2.1 _ hf rfl) (zrec S.2 hat hc) hdg kk
theorem zi_N {C nm : String} {q : vw_C} (S : ZC p m c cc nL s args own G) (hl : Cond.classLink own index nm ∈ gw) (hf : (C, nm) ∈ nz) (hc : classes[k]? = some q) (hq : q.1 = C) (hat : va_at G.1 classes (a, .inr (k, fs)) H) (hdg : decode cc pc = .ok (.instanceof index, 3)) (kk : W p l e R s m args below meth c H locs cells slots Q (F0 m (pc + 3) ls (.int 0 :: rest))) : W p l e R s m args below meth c H locs cells slots Q (F0 m pc ls (.ref a :: rest)) := by
  subst hq
  exact va_instNo S.1.1 S.1.2.1 S.1.2.2.2.1 (S.1.2.2.2.2 _ hl) (S.2.2.2.1 _ hf) (zrec S.2 hat hc) hdg kk
theorem zi_C {C nm : String} {q : vw_C} (S : ZC p m c cc nL s args own G) (hl : Cond.classLink own index nm ∈ gw) (hf : Cond.castable C nm ∈ lw_tbl) (hc : classes[k]? = some q) (hq : q.1 = C) (hat : va_at G.1 classes (a, .inr (k, fs)) H) (hdg : decode cc pc = .ok (.checkcast index, 3)) (kk : W p l e R s m args below meth c H locs cells slots Q (F0 m (pc + 3) ls (.ref a :: rest))) : W p l e R s m args below meth c H locs cells slots Q (F0 m pc ls (.ref a :: rest)) := by
  subst hq
  exact va_castY S.1.1 S.1.2.1 S.1.2.2.2.1 (S.1.2.2.2.2 _ hl) (S.2.2.1 _ hf rfl) (zrec S.2 hat hc) hdg kk
theorem i_sealed (S : ZC p m c cc nL s args own G) (hl : Cond.classLink own index "VoucherOffice$Sealed" ∈ gw) (hk : k < 8) (hat : va_at G.1 classes (a, .inr (k, fs)) H) (hdg : decode cc pc = .ok (.instanceof index, 3)) (kk : W p l e R s m args below meth c H locs cells slots Q (F0 m (pc + 3) ls (.int (isS k) :: rest))) : W p l e R s m args below meth c H locs cells slots Q (F0 m pc ls (.ref a :: rest)) := by
  match k, hk with
  | 0, _ => exact zi_N (C := "VoucherOffice$Paper") S hl (by simp [nz]) (zk_cls (k := 0) (by decide)) rfl hat hdg kk
  | 1, _ => exact zi_N (C := "VoucherOffice$Gift") S hl (by simp [nz]) (zk_cls (k := 1) (by decide)) rfl hat hdg kk
  | 2, _ => exact zi_N (C := "VoucherOffice$Season") S hl (by simp [nz]) (zk_cls (k := 2) (by decide)) rfl hat hdg kk
  | 3, _ => exact zi_N (C := "VoucherOffice$Staff") S hl (by simp [nz]) (zk_cls (k := 3) (by decide)) rfl hat hdg kk
  | 4, _ => exact zi_N (C := "VoucherOffice$Rounded") S hl (by simp [nz]) (zk_cls (k := 4) (by decide)) rfl hat hdg kk
  | 5, _ => exact zi_Y S hl kf_331 (zk_cls (k := 5) (by decide)) rfl hat hdg kk
  | 6, _ => exact zi_Y S hl kf_347 (zk_cls (k := 6) (by decide)) rfl hat hdg kk
  | 7, _ => exact zi_Y S hl kf_343 (zk_cls (k := 7) (by decide)) rfl hat hdg kk
theorem k_sealed (S : ZC p m c cc nL s args own G) (hl : Cond.classLink own index "VoucherOffice$Sealed" ∈ gw) (hk : k = 5 ∨ k = 6 ∨ k = 7) (hat : va_at G.1 classes (a, .inr (k, fs)) H) (hdg : decode cc pc = .ok (.checkcast index, 3)) (kk : W p l e R s m args below meth c H locs cells slots Q (F0 m (pc + 3) ls (.ref a :: rest))) : W p l e R s m args below meth c H locs cells slots Q (F0 m pc ls (.ref a :: rest)) := by
  rcases hk with rfl | rfl | rfl
  · exact zi_C S hl kf_331 (zk_cls (k := 5) (by decide)) rfl hat hdg kk
  · exact zi_C S hl kf_347 (zk_cls (k := 6) (by decide)) rfl hat hdg kk
  · exact zi_C S hl kf_343 (zk_cls (k := 7) (by decide)) rfl hat hdg kk
theorem i_dated (S : ZC p m c cc nL s args own G) (hl : Cond.classLink own index "VoucherOffice$Dated" ∈ gw) (hk : k < 8) (hat : va_at G.1 classes (a, .inr (k, fs)) H) (hdg : decode cc pc = .ok (.instanceof index, 3)) (kk : W p l e R s m args below meth c H locs cells slots Q (F0 m (pc + 3) ls (.int (isD k) :: rest))) : W p l e R s m args below meth c H locs cells slots Q (F0 m pc ls (.ref a :: rest)) := by
  match k, hk with
  | 0, _ => exact zi_N (C := "VoucherOffice$Paper") S hl (by simp [nz]) (zk_cls (k := 0) (by decide)) rfl hat hdg kk
  | 1, _ => exact zi_N (C := "VoucherOffice$Gift") S hl (by simp [nz]) (zk_cls (k := 1) (by decide)) rfl hat hdg kk
  | 2, _ => exact zi_Y S hl kf_204 (zk_cls (k := 2) (by decide)) rfl hat hdg kk
  | 3, _ => exact zi_Y S hl kf_218 (zk_cls (k := 3) (by decide)) rfl hat hdg kk
  | 4, _ => exact zi_N (C := "VoucherOffice$Rounded") S hl (by simp [nz]) (zk_cls (k := 4) (by decide)) rfl hat hdg kk
  | 5, _ => exact zi_N (C := "VoucherOffice$Club") S hl (by simp [nz]) (zk_cls (k := 5) (by decide)) rfl hat hdg kk
  | 6, _ => exact zi_N (C := "VoucherOffice$House") S hl (by simp [nz]) (zk_cls (k := 6) (by decide)) rfl hat hdg kk
  | 7, _ => exact zi_N (C := "VoucherOffice$Crest") S hl (by simp [nz]) (zk_cls (k := 7) (by decide)) rfl hat hdg kk
theorem k_dated (S : ZC p m c cc nL s args own G) (hl : Cond.classLink own index "VoucherOffice$Dated" ∈ gw) (hk : k = 2 ∨ k = 3) (hat : va_at G.1 classes (a, .inr (k, fs)) H) (hdg : decode cc pc = .ok (.checkcast index, 3)) (kk : W p l e R s m args below meth c H locs cells slots Q (F0 m (pc + 3) ls (.ref a :: rest))) : W p l e R s m args below meth c H locs cells slots Q (F0 m pc ls (.ref a :: rest)) := by
  rcases hk with rfl | rfl
  · exact zi_C S hl kf_204 (zk_cls (k := 2) (by decide)) rfl hat hdg kk
  · exact zi_C S hl kf_218 (zk_cls (k := 3) (by decide)) rfl hat hdg kk
theorem zt_in {dflt lo hi : Int} {offs : Array Int} {len : Nat} {x j : Int32} {off : Int} {tgt : Nat} (hx : p.tables.exec = Jvm.exec) (hb : c.code = cc) (hj : x = j) (hdg : decode cc pc = .ok (.tableswitch dflt lo hi offs, len)) (h1 : ¬ j.toInt < lo) (h2 : ¬ hi < j.toInt) (ho : offs[(j.toInt - lo).toNat]? = some off) (ht : (pc : Int) + off = (tgt : Int)) (k : W p l e R s m args below meth c H locs cells slots Q (F0 m tgt ls rest)) : W p l e R s m args below meth c H locs cells slots Q (F0 m pc ls (.int x :: rest)) := by
  subst hj
  exact lv_tableIn hx hb hdg h1 h2 ho ht k
end ZIN
end
section
def oMark (n : Nat) (gn : Nat → Bool) (pv : Nat → Pv) (v g : Int32) : Int32 := match lkI n gn v with | none => -1 | some i => if inV g 0 999 = 0 then -2 else if isS (pv i).1 = 0 then -3 else 7 * slV (pv i).1 (pv i).2.1 (pv i).2.2.1 (pv i).2.2.2.1 (pv i).2.2.2.2 + g
def oDays (n : Nat) (gn : Nat → Bool) (pv : Nat → Pv) (v day : Int32) : Int32 := match lkI n gn v with | none => -1 | some i => if inV day 0 20000 = 0 then -2 else if isD (pv i).1 = 0 then -3 else dlV (pv i).1 (pv i).2.1 day
set_option maxHeartbeats 2000000 in
theorem c_Of_mark (l : Launch) (G : ZG) (sz : Nat) (x ra : Nat) (td iss sp fe la : Int32) (pf : Nat → Option Nat) (n : Nat) (gn : Nat → Bool) (ad : Nat → Nat) (pv : Nat → Pv) (v g : Int32) (hok : okP n gn pf ad pv) : ZK l G y_Of_mark 4 [.ref x, .int v, .int g] (OW G sz (wo G x ra (nI n) td iss sp fe la pf n ad pv)) (ZE (.int (oMark n gn pv v g))) 0 0 (fun _ => False) := by
  refine ZK.ofBody (cc := b_Of_mark) (maxL := 5) (ret := (some FieldType.int)) kg_325 (by decide) (by decide) (Nat.le_of_ble_eq_true rfl) ?_
  intro p e s m below meth c S hr hlk hnm hp ls hl
  obtain ⟨⟨hx, hb, hml, hown, hts⟩, hK⟩ := id S
  obtain ⟨hsz, hP, hD0⟩ := hp
  obtain ⟨hn40, hkv, hpf⟩ := id hok
  have hl : lv_has ls 5 [(0, .ref x), (1, .int v), (2, .int g)] := hl
  rcases lk_cases hn40 gn v with hvk | ⟨i, hi, hvi, hgi, hvk⟩
  · refine lv_aload_n hx hb d_Of_mark_0 rfl (lv_at hl 0 rfl) ?_
    refine lv_iload_n hx hb d_Of_mark_1 rfl (lv_at hl 1 rfl) ?_
    refine z_q (z_D (n := 1) (C := "VoucherOffice") (As := [.int v]) (rest := []) S (c_Of_at_none l G sz x ra td iss sp fe la pf n gn ad pv v hok hvk) kg_173 kg_175 kp_Of_at kg_176 ok_Of_at pd_Of_at (zrec hK (hP 0 _ rfl) zo_cls) ⟨hsz, hP, hD0⟩ rfl hl.1 rfl (Nat.le_of_ble_eq_true rfl) ⟨(Nat.le_of_ble_eq_true rfl), (Nat.le_of_ble_eq_true rfl)⟩ ⟨Nat.zero_le _, Nat.zero_le _⟩ d_Of_mark_2) ?_
    refine lv_astore_nN (lv' := [(3, .null), (0, .ref x), (1, .int v), (2, .int g)]) hx hb d_Of_mark_5 rfl hl (by decide) rfl (fun ls hl => ?_)
    refine lv_aload_nN hx hb d_Of_mark_6 rfl (lv_at hl 0 rfl) ?_
    refine lv_ifnonnullN hx hb d_Of_mark_7 ?_
    refine lv_iconst (v := (-1)) hx hb d_Of_mark_10 (by decide) ?_
    exact z_iret (v := oMark n gn pv v g) (tys := none) S hr hlk (by simp only [oMark, hvk, ↓reduceIte]) ⟨rfl, rfl⟩ z_nil d_Of_mark_11
  · refine lv_aload_n hx hb d_Of_mark_0 rfl (lv_at hl 0 rfl) ?_
    refine lv_iload_n hx hb d_Of_mark_1 rfl (lv_at hl 1 rfl) ?_
    refine z_q (z_D (n := 1) (C := "VoucherOffice") (As := [.int v]) (rest := []) S (c_Of_at_some l G sz x ra td iss sp fe la pf n gn ad pv v hok hvk) kg_173 kg_175 kp_Of_at kg_176 ok_Of_at pd_Of_at (zrec hK (hP 0 _ rfl) zo_cls) ⟨hsz, hP, hD0⟩ rfl hl.1 rfl (Nat.le_of_ble_eq_true rfl) ⟨(Nat.le_of_ble_eq_true rfl), (Nat.le_of_ble_eq_true rfl)⟩ ⟨Nat.zero_le _, Nat.zero_le _⟩ d_Of_mark_2) ?_
    refine lv_astore_n (lv' := [(3, .ref (ad i)), (0, .ref x), (1, .int v), (2, .int g)]) hx hb d_Of_mark_5 rfl hl (by decide) rfl (fun ls hl => ?_)
    refine lv_aload_n hx hb d_Of_mark_6 rfl (lv_at hl 0 rfl) ?_
    refine lv_ifnonnull (tgt := 12) hx hb d_Of_mark_7 (by decide) ?_
    refine lv_iload_n hx hb d_Of_mark_12 rfl (lv_at hl 3 rfl) ?_
    refine lv_iconst (v := 0) hx hb d_Of_mark_13 (by decide) ?_
    refine lv_sipush (v := 999) hx hb d_Of_mark_14 (by decide) ?_
    refine z_q (z_S (n := 3) (As := [.int g, .int 0, .int 999]) (rest := []) S (c_Of_isIn l G g 0 999) kg_47 kg_48 kg_1 kg_49 ok_Of_isIn pd_Of_isIn trivial rfl hl.1 rfl (Nat.le_of_ble_eq_true rfl) ⟨(Nat.le_of_ble_eq_true rfl), (Nat.le_of_ble_eq_true rfl)⟩ ⟨Nat.zero_le _, Nat.zero_le _⟩ d_Of_mark_17) ?_
    refine lv_if_ne (tgt := 26) hx hb d_Of_mark_20 (by decide) (fun c_1 => ?_) (fun c_1 => ?_)
    · refine lv_aload_n hx hb d_Of_mark_26 rfl (lv_at hl 0 rfl) ?_
      refine i_sealed S kg_326 (hkv i hi) (hP (i + 2) _ (pl_get hi)) d_Of_mark_27 ?_
      refine lv_if_ne (tgt := 36) hx hb d_Of_mark_30 (by decide) (fun c_2 => ?_) (fun c_2 => ?_)
      · have hk_3 := isS_yes (hkv i hi) c_2
        refine lv_aload_n hx hb d_Of_mark_36 rfl (lv_at hl 0 rfl) ?_
        refine k_sealed S kg_326 hk_3 (hP (i + 2) _ (pl_get hi)) d_Of_mark_37 ?_
        refine lv_astore (lv' := [(4, .ref (ad i)), (3, .ref (ad i)), (0, .ref x), (1, .int v), (2, .int g)]) hx hb d_Of_mark_40 hl (by decide) rfl (fun ls hl => ?_)
        refine lv_aload hx hb d_Of_mark_42 (lv_at hl 0 rfl) ?_
        refine lv_iload_n hx hb d_Of_mark_44 rfl (lv_at hl 4 rfl) ?_
        refine f_mark S kg_328 hk_3 (hP (i + 2) _ (pl_get hi)) hl.1 (Nat.le_of_ble_eq_true rfl) ⟨(Nat.le_of_ble_eq_true rfl), (Nat.le_of_ble_eq_true rfl)⟩ ⟨Nat.zero_le _, Nat.zero_le _⟩ d_Of_mark_45 ?_
        exact z_iret (v := oMark n gn pv v g) (tys := none) S hr hlk (by simp only [oMark, c_1, c_2, hvk, ↓reduceIte]) ⟨rfl, rfl⟩ z_nil d_Of_mark_50
      · refine lv_bipush (v := (-3)) hx hb d_Of_mark_33 (by decide) ?_
        exact z_iret (v := oMark n gn pv v g) (tys := none) S hr hlk (by simp only [oMark, c_1, c_2, hvk, ↓reduceIte]) ⟨rfl, rfl⟩ z_nil d_Of_mark_35
    · refine lv_bipush (v := (-2)) hx hb d_Of_mark_23 (by decide) ?_
      exact z_iret (v := oMark n gn pv v g) (tys := none) S hr hlk (by simp only [oMark, c_1, hvk, ↓reduceIte]) ⟨rfl, rfl⟩ z_nil d_Of_mark_25
set_option maxHeartbeats 2000000 in
theorem c_Of_daysLeft (l : Launch) (G : ZG) (sz : Nat) (x ra : Nat) (td iss sp fe la : Int32) (pf : Nat → Option Nat) (n : Nat) (gn : Nat → Bool) (ad : Nat → Nat) (pv : Nat → Pv) (v day : Int32) (hok : okP n gn pf ad pv) : ZK l G y_Of_daysLeft 3 [.ref x, .int v, .int day] (OW G sz (wo G x ra (nI n) td iss sp fe la pf n ad pv)) (ZE (.int (oDays n gn pv v day))) 0 0 (fun _ => False) := by
  refine ZK.ofBody (cc := b_Of_daysLeft) (maxL := 5) (ret := (some FieldType.int)) kg_355 (by decide) (by decide) (Nat.le_of_ble_eq_true rfl) ?_
  intro p e s m below meth c S hr hlk hnm hp ls hl
  obtain ⟨⟨hx, hb, hml, hown, hts⟩, hK⟩ := id S
  obtain ⟨hsz, hP, hD0⟩ := hp
  obtain ⟨hn40, hkv, hpf⟩ := id hok
  have hl : lv_has ls 5 [(0, .ref x), (1, .int v), (2, .int day)] := hl
  rcases lk_cases hn40 gn v with hvk | ⟨i, hi, hvi, hgi, hvk⟩
  · refine lv_aload_n hx hb d_Of_daysLeft_0 rfl (lv_at hl 0 rfl) ?_
    refine lv_iload_n hx hb d_Of_daysLeft_1 rfl (lv_at hl 1 rfl) ?_
    refine z_q (z_D (n := 1) (C := "VoucherOffice") (As := [.int v]) (rest := []) S (c_Of_at_none l G sz x ra td iss sp fe la pf n gn ad pv v hok hvk) kg_173 kg_175 kp_Of_at kg_176 ok_Of_at pd_Of_at (zrec hK (hP 0 _ rfl) zo_cls) ⟨hsz, hP, hD0⟩ rfl hl.1 rfl (Nat.le_of_ble_eq_true rfl) ⟨(Nat.le_of_ble_eq_true rfl), (Nat.le_of_ble_eq_true rfl)⟩ ⟨Nat.zero_le _, Nat.zero_le _⟩ d_Of_daysLeft_2) ?_
    refine lv_astore_nN (lv' := [(3, .null), (0, .ref x), (1, .int v), (2, .int day)]) hx hb d_Of_daysLeft_5 rfl hl (by decide) rfl (fun ls hl => ?_)
    refine lv_aload_nN hx hb d_Of_daysLeft_6 rfl (lv_at hl 0 rfl) ?_
    refine lv_ifnonnullN hx hb d_Of_daysLeft_7 ?_
    refine lv_iconst (v := (-1)) hx hb d_Of_daysLeft_10 (by decide) ?_
    exact z_iret (v := oDays n gn pv v day) (tys := none) S hr hlk (by simp only [oDays, hvk, ↓reduceIte]) ⟨rfl, rfl⟩ z_nil d_Of_daysLeft_11
  · refine lv_aload_n hx hb d_Of_daysLeft_0 rfl (lv_at hl 0 rfl) ?_
    refine lv_iload_n hx hb d_Of_daysLeft_1 rfl (lv_at hl 1 rfl) ?_
    refine z_q (z_D (n := 1) (C := "VoucherOffice") (As := [.int v]) (rest := []) S (c_Of_at_some l G sz x ra td iss sp fe la pf n gn ad pv v hok hvk) kg_173 kg_175 kp_Of_at kg_176 ok_Of_at pd_Of_at (zrec hK (hP 0 _ rfl) zo_cls) ⟨hsz, hP, hD0⟩ rfl hl.1 rfl (Nat.le_of_ble_eq_true rfl) ⟨(Nat.le_of_ble_eq_true rfl), (Nat.le_of_ble_eq_true rfl)⟩ ⟨Nat.zero_le _, Nat.zero_le _⟩ d_Of_daysLeft_2) ?_
    refine lv_astore_n (lv' := [(3, .ref (ad i)), (0, .ref x), (1, .int v), (2, .int day)]) hx hb d_Of_daysLeft_5 rfl hl (by decide) rfl (fun ls hl => ?_)
    refine lv_aload_n hx hb d_Of_daysLeft_6 rfl (lv_at hl 0 rfl) ?_
    refine lv_ifnonnull (tgt := 12) hx hb d_Of_daysLeft_7 (by decide) ?_
    refine lv_iload_n hx hb d_Of_daysLeft_12 rfl (lv_at hl 3 rfl) ?_
    refine lv_iconst (v := 0) hx hb d_Of_daysLeft_13 (by decide) ?_
    refine lv_sipush (v := 20000) hx hb d_Of_daysLeft_14 (by decide) ?_
    refine z_q (z_S (n := 3) (As := [.int day, .int 0, .int 20000]) (rest := []) S (c_Of_isIn l G day 0 20000) kg_47 kg_48 kg_1 kg_49 ok_Of_isIn pd_Of_isIn trivial rfl hl.1 rfl (Nat.le_of_ble_eq_true rfl) ⟨(Nat.le_of_ble_eq_true rfl), (Nat.le_of_ble_eq_true rfl)⟩ ⟨Nat.zero_le _, Nat.zero_le _⟩ d_Of_daysLeft_17) ?_
    refine lv_if_ne (tgt := 26) hx hb d_Of_daysLeft_20 (by decide) (fun c_1 => ?_) (fun c_1 => ?_)
    · refine lv_aload_n hx hb d_Of_daysLeft_26 rfl (lv_at hl 0 rfl) ?_
      refine i_dated S kg_356 (hkv i hi) (hP (i + 2) _ (pl_get hi)) d_Of_daysLeft_27 ?_
      refine lv_if_ne (tgt := 36) hx hb d_Of_daysLeft_30 (by decide) (fun c_2 => ?_) (fun c_2 => ?_)
      · have hk_3 := isD_yes (hkv i hi) c_2
        refine lv_aload_n hx hb d_Of_daysLeft_36 rfl (lv_at hl 0 rfl) ?_
        refine k_dated S kg_356 hk_3 (hP (i + 2) _ (pl_get hi)) d_Of_daysLeft_37 ?_
        refine lv_astore (lv' := [(4, .ref (ad i)), (3, .ref (ad i)), (0, .ref x), (1, .int v), (2, .int day)]) hx hb d_Of_daysLeft_40 hl (by decide) rfl (fun ls hl => ?_)
        refine lv_aload hx hb d_Of_daysLeft_42 (lv_at hl 0 rfl) ?_
        refine lv_iload_n hx hb d_Of_daysLeft_44 rfl (lv_at hl 4 rfl) ?_
        refine f_daysLeft S kg_358 hk_3 (hP (i + 2) _ (pl_get hi)) hl.1 (Nat.le_of_ble_eq_true rfl) ⟨(Nat.le_of_ble_eq_true rfl), (Nat.le_of_ble_eq_true rfl)⟩ ⟨Nat.zero_le _, Nat.zero_le _⟩ d_Of_daysLeft_45 ?_
        exact z_iret (v := oDays n gn pv v day) (tys := none) S hr hlk (by simp only [oDays, c_1, c_2, hvk, ↓reduceIte]) ⟨rfl, rfl⟩ z_nil d_Of_daysLeft_50
      · refine lv_bipush (v := (-3)) hx hb d_Of_daysLeft_33 (by decide) ?_
        exact z_iret (v := oDays n gn pv v day) (tys := none) S hr hlk (by simp only [oDays, c_1, c_2, hvk, ↓reduceIte]) ⟨rfl, rfl⟩ z_nil d_Of_daysLeft_35
    · refine lv_bipush (v := (-2)) hx hb d_Of_daysLeft_23 (by decide) ?_
      exact z_iret (v := oDays n gn pv v day) (tys := none) S hr hlk (by simp only [oDays, c_1, hvk, ↓reduceIte]) ⟨rfl, rfl⟩ z_nil d_Of_daysLeft_25
def oPaper (n : Nat) (gn : Nat → Bool) (pv : Nat → Pv) (v what : Int32) : Int32 := match lkI n gn v with | none => -1 | some i => if what = 0 then nI (pv i).1 else if what = 1 then (pv i).2.2.1 else if what = 2 then (pv i).2.2.2.1 else if what = 3 then (pv i).2.1 else if what = 4 then ptV (pv i).1 (pv i).2.2.2.2 else if what = 5 then (if isD (pv i).1 = 0 then -3 else ldV (pv i).1 (pv i).2.1) else -2
set_option maxHeartbeats 2000000 in
theorem c_Of_paper (l : Launch) (G : ZG) (sz : Nat) (x ra : Nat) (td iss sp fe la : Int32) (pf : Nat → Option Nat) (n : Nat) (gn : Nat → Bool) (ad : Nat → Nat) (pv : Nat → Pv) (v what : Int32) (hok : okP n gn pf ad pv) : ZK l G y_Of_paper 2 [.ref x, .int v, .int what] (OW G sz (wo G x ra (nI n) td iss sp fe la pf n ad pv)) (ZE (.int (oPaper n gn pv v what))) 0 0 (fun _ => False) := by
  refine ZK.ofBody (cc := b_Of_paper) (maxL := 5) (ret := (some FieldType.int)) kg_408 (by decide) (by decide) (Nat.le_of_ble_eq_true rfl) ?_
  intro p e s m below meth c S hr hlk hnm hp ls hl
  obtain ⟨⟨hx, hb, hml, hown, hts⟩, hK⟩ := id S
  obtain ⟨hsz, hP, hD0⟩ := hp
  obtain ⟨hn40, hkv, hpf⟩ := id hok
  have hl : lv_has ls 5 [(0, .ref x), (1, .int v), (2, .int what)] := hl
  rcases lk_cases hn40 gn v with hvk | ⟨i, hi, hvi, hgi, hvk⟩
  · refine lv_aload_n hx hb d_Of_paper_0 rfl (lv_at hl 0 rfl) ?_
    refine lv_iload_n hx hb d_Of_paper_1 rfl (lv_at hl 1 rfl) ?_
    refine z_q (z_D (n := 1) (C := "VoucherOffice") (As := [.int v]) (rest := []) S (c_Of_at_none l G sz x ra td iss sp fe la pf n gn ad pv v hok hvk) kg_173 kg_175 kp_Of_at kg_176 ok_Of_at pd_Of_at (zrec hK (hP 0 _ rfl) zo_cls) ⟨hsz, hP, hD0⟩ rfl hl.1 rfl (Nat.le_of_ble_eq_true rfl) ⟨(Nat.le_of_ble_eq_true rfl), (Nat.le_of_ble_eq_true rfl)⟩ ⟨Nat.zero_le _, Nat.zero_le _⟩ d_Of_paper_2) ?_
    refine lv_astore_nN (lv' := [(3, .null), (0, .ref x), (1, .int v), (2, .int what)]) hx hb d_Of_paper_5 rfl hl (by decide) rfl (fun ls hl => ?_)
    refine lv_aload_nN hx hb d_Of_paper_6 rfl (lv_at hl 0 rfl) ?_
    refine lv_ifnonnullN hx hb d_Of_paper_7 ?_
    refine lv_iconst (v := (-1)) hx hb d_Of_paper_10 (by decide) ?_
    exact z_iret (v := oPaper n gn pv v what) (tys := none) S hr hlk (by simp only [oPaper, hvk, ↓reduceIte]) ⟨rfl, rfl⟩ z_nil d_Of_paper_11
  · refine lv_aload_n hx hb d_Of_paper_0 rfl (lv_at hl 0 rfl) ?_
    refine lv_iload_n hx hb d_Of_paper_1 rfl (lv_at hl 1 rfl) ?_
    refine z_q (z_D (n := 1) (C := "VoucherOffice") (As := [.int v]) (rest := []) S (c_Of_at_some l G sz x ra td iss sp fe la pf n gn ad pv v hok hvk) kg_173 kg_175 kp_Of_at kg_176 ok_Of_at pd_Of_at (zrec hK (hP 0 _ rfl) zo_cls) ⟨hsz, hP, hD0⟩ rfl hl.1 rfl (Nat.le_of_ble_eq_true rfl) ⟨(Nat.le_of_ble_eq_true rfl), (Nat.le_of_ble_eq_true rfl)⟩ ⟨Nat.zero_le _, Nat.zero_le _⟩ d_Of_paper_2) ?_
    refine lv_astore_n (lv' := [(3, .ref (ad i)), (0, .ref x), (1, .int v), (2, .int what)]) hx hb d_Of_paper_5 rfl hl (by decide) rfl (fun ls hl => ?_)
    refine lv_aload_n hx hb d_Of_paper_6 rfl (lv_at hl 0 rfl) ?_
    refine lv_ifnonnull (tgt := 12) hx hb d_Of_paper_7 (by decide) ?_
    refine lv_iload_n hx hb d_Of_paper_12 rfl (lv_at hl 3 rfl) ?_
    by_cases hw_1 : what = 0
    · refine zt_in (off := 39) (tgt := 52) hx hb hw_1 d_Of_paper_13 (by decide) (by decide) rfl (by decide) ?_
      refine lv_aload_n hx hb d_Of_paper_52 rfl (lv_at hl 0 rfl) ?_
      refine z_get S (zk_cls (hkv i hi)) (zk_in (hkv i hi)) (hP (i + 2) _ (pl_get hi)) 0 (z4 (hkv i hi) (by decide)) kg_61 (Or.inl rfl) rfl d_Of_paper_53 ?_
      exact z_iret (v := oPaper n gn pv v what) (tys := none) S hr hlk (by simp only [oPaper, hvk]; rw [if_pos hw_1]) ⟨rfl, rfl⟩ z_nil d_Of_paper_56
    by_cases hw_2 : what = 1
    · refine zt_in (off := 44) (tgt := 57) hx hb hw_2 d_Of_paper_13 (by decide) (by decide) rfl (by decide) ?_
      refine lv_aload_n hx hb d_Of_paper_57 rfl (lv_at hl 0 rfl) ?_
      refine z_get S (zk_cls (hkv i hi)) (zk_in (hkv i hi)) (hP (i + 2) _ (pl_get hi)) 2 (z4 (hkv i hi) (by decide)) kg_69 (Or.inl rfl) rfl d_Of_paper_58 ?_
      exact z_iret (v := oPaper n gn pv v what) (tys := none) S hr hlk (by simp only [oPaper, hvk]; rw [if_neg hw_1, if_pos hw_2]) ⟨rfl, rfl⟩ z_nil d_Of_paper_61
    by_cases hw_3 : what = 2
    · refine zt_in (off := 49) (tgt := 62) hx hb hw_3 d_Of_paper_13 (by decide) (by decide) rfl (by decide) ?_
      refine lv_aload_n hx hb d_Of_paper_62 rfl (lv_at hl 0 rfl) ?_
      refine z_get S (zk_cls (hkv i hi)) (zk_in (hkv i hi)) (hP (i + 2) _ (pl_get hi)) 3 (z4 (hkv i hi) (by decide)) kg_71 (Or.inl rfl) rfl d_Of_paper_63 ?_
      exact z_iret (v := oPaper n gn pv v what) (tys := none) S hr hlk (by simp only [oPaper, hvk]; rw [if_neg hw_1, if_neg hw_2, if_pos hw_3]) ⟨rfl, rfl⟩ z_nil d_Of_paper_66
    by_cases hw_4 : what = 3
    · refine zt_in (off := 54) (tgt := 67) hx hb hw_4 d_Of_paper_13 (by decide) (by decide) rfl (by decide) ?_
      refine lv_aload_n hx hb d_Of_paper_67 rfl (lv_at hl 0 rfl) ?_
      refine z_get S (zk_cls (hkv i hi)) (zk_in (hkv i hi)) (hP (i + 2) _ (pl_get hi)) 1 (z4 (hkv i hi) (by decide)) kg_67 (Or.inl rfl) rfl d_Of_paper_68 ?_
      exact z_iret (v := oPaper n gn pv v what) (tys := none) S hr hlk (by simp only [oPaper, hvk]; rw [if_neg hw_1, if_neg hw_2, if_neg hw_3, if_pos hw_4]) ⟨rfl, rfl⟩ z_nil d_Of_paper_71
    by_cases hw_5 : what = 4
    · refine zt_in (off := 59) (tgt := 72) hx hb hw_5 d_Of_paper_13 (by decide) (by decide) rfl (by decide) ?_
      refine lv_aload_n hx hb d_Of_paper_72 rfl (lv_at hl 0 rfl) ?_
      refine v_points S kg_409 (hkv i hi) (hP (i + 2) _ (pl_get hi)) hl.1 (Nat.le_of_ble_eq_true rfl) ⟨(Nat.le_of_ble_eq_true rfl), (Nat.le_of_ble_eq_true rfl)⟩ ⟨Nat.zero_le _, Nat.zero_le _⟩ d_Of_paper_73 ?_
      exact z_iret (v := oPaper n gn pv v what) (tys := none) S hr hlk (by simp only [oPaper, hvk]; rw [if_neg hw_1, if_neg hw_2, if_neg hw_3, if_neg hw_4, if_pos hw_5]) ⟨rfl, rfl⟩ z_nil d_Of_paper_76
    by_cases hw_6 : what = 5
    · refine zt_in (off := 64) (tgt := 77) hx hb hw_6 d_Of_paper_13 (by decide) (by decide) rfl (by decide) ?_
      refine lv_goto (tgt := 83) hx hb d_Of_paper_77 (by decide) ?_
      refine lv_aload_n hx hb d_Of_paper_83 rfl (lv_at hl 0 rfl) ?_
      refine i_dated S kg_356 (hkv i hi) (hP (i + 2) _ (pl_get hi)) d_Of_paper_84 ?_
      refine lv_if_ne (tgt := 93) hx hb d_Of_paper_87 (by decide) (fun c_7 => ?_) (fun c_7 => ?_)
      · have hk_8 := isD_yes (hkv i hi) c_7
        refine lv_aload_n hx hb d_Of_paper_93 rfl (lv_at hl 0 rfl) ?_
        refine k_dated S kg_356 hk_8 (hP (i + 2) _ (pl_get hi)) d_Of_paper_94 ?_
        refine lv_astore (lv' := [(4, .ref (ad i)), (3, .ref (ad i)), (0, .ref x), (1, .int v), (2, .int what)]) hx hb d_Of_paper_97 hl (by decide) rfl (fun ls hl => ?_)
        refine lv_aload hx hb d_Of_paper_99 (lv_at hl 0 rfl) ?_
        refine f_lastDay S kg_411 hk_8 (hP (i + 2) _ (pl_get hi)) hl.1 (Nat.le_of_ble_eq_true rfl) ⟨(Nat.le_of_ble_eq_true rfl), (Nat.le_of_ble_eq_true rfl)⟩ ⟨Nat.zero_le _, Nat.zero_le _⟩ d_Of_paper_101 ?_
        exact z_iret (v := oPaper n gn pv v what) (tys := none) S hr hlk (by simp only [oPaper, hvk]; rw [if_neg hw_1, if_neg hw_2, if_neg hw_3, if_neg hw_4, if_neg hw_5, if_pos hw_6]; simp only [c_7, ↓reduceIte]) ⟨rfl, rfl⟩ z_nil d_Of_paper_106
      · refine lv_bipush (v := (-3)) hx hb d_Of_paper_90 (by decide) ?_
        exact z_iret (v := oPaper n gn pv v what) (tys := none) S hr hlk (by simp only [oPaper, hvk]; rw [if_neg hw_1, if_neg hw_2, if_neg hw_3, if_neg hw_4, if_neg hw_5, if_pos hw_6]; simp only [c_7, ↓reduceIte]) ⟨rfl, rfl⟩ z_nil d_Of_paper_92
    have hso : (what).toInt < 0 ∨ 5 < (what).toInt := by
      have q0 := lv_neT (a := 0) hw_1 (by decide)
      have q1 := lv_neT (a := 1) hw_2 (by decide)
      have q2 := lv_neT (a := 2) hw_3 (by decide)
      have q3 := lv_neT (a := 3) hw_4 (by decide)
      have q4 := lv_neT (a := 4) hw_5 (by decide)
      have q5 := lv_neT (a := 5) hw_6 (by decide)
      omega
    refine lv_tableOut (tgt := 80) hx hb d_Of_paper_13 hso (by decide) ?_
    refine lv_bipush (v := (-2)) hx hb d_Of_paper_80 (by decide) ?_
    exact z_iret (v := oPaper n gn pv v what) (tys := none) S hr hlk (by simp only [oPaper, hvk]; rw [if_neg hw_1, if_neg hw_2, if_neg hw_3, if_neg hw_4, if_neg hw_5, if_neg hw_6]) ⟨rfl, rfl⟩ z_nil d_Of_paper_82
def sumL (gn : Nat → Bool) (pv : Nat → Pv) : Nat → Int32
  | 0 => 0
  | j + 1 => if gn j = true then sumL gn pv j else sumL gn pv j + (pv j).2.2.2.1
def sumW (gn : Nat → Bool) (pv : Nat → Pv) (day : Int32) : Nat → Int32
  | 0 => 0
  | j + 1 => if gn j = true then sumW gn pv day j else sumW gn pv day j + wV (pv j).1 (pv j).2.1 (pv j).2.2.2.1 (pv j).2.2.2.2 day
set_option maxHeartbeats 2000000 in
theorem c_Of_leftOfAll (l : Launch) (G : ZG) (sz : Nat) (x ra : Nat) (td iss sp fe la : Int32) (pf : Nat → Option Nat) (n : Nat) (gn : Nat → Bool) (ad : Nat → Nat) (pv : Nat → Pv) (hok : okP n gn pf ad pv) : ZK l G y_Of_leftOfAll 0 [.ref x] (OW G sz (wo G x ra (nI n) td iss sp fe la pf n ad pv)) (ZE (.int (sumL gn pv n))) 0 0 (fun _ => False) := by
  refine ZK.ofBody (cc := b_Of_leftOfAll) (maxL := 3) (ret := (some FieldType.int)) kg_419 (by decide) (by decide) (Nat.le_of_ble_eq_true rfl) ?_
  intro p e s m below meth c S hr hlk hnm hp ls hl
  obtain ⟨⟨hx, hb, hml, hown, hts⟩, hK⟩ := id S
  obtain ⟨hsz, hP, hD0⟩ := hp
  obtain ⟨hn40, hkv, hpf⟩ := id hok
  have loop : ∀ (f j : Nat), j ≤ n → n + 1 ≤ j + f → ∀ ls : Array Slot, lv_has ls 3 [(2, .int (nI j)), (1, .int (sumL gn pv j)), (0, .ref x)] → W p l e (zr 0 0 0) s m [.ref x].toArray below meth c s.heap [] 0 0 (MQ below (ZQ (ZE (.int (sumL gn pv n)))) [.ref x].toArray s 0 0 (fun _ => False)) (F0 m 4 ls []) := by
    intro f
    induction f with
    | zero => intro j h1 h2; omega
    | succ f ih =>
      intro j hjn hjf ls hl
      have hcj : (nI j).toNatClampNeg = j := nI_clamp (by omega)
      refine lv_iload_n hx hb d_Of_leftOfAll_4 rfl (lv_at hl 0 rfl) ?_
      refine lv_aload_n hx hb d_Of_leftOfAll_5 rfl (lv_at hl 2 rfl) ?_
      refine z_get S zo_cls zo_in (hP 0 _ rfl) 1 (by decide) kg_22 (Or.inl rfl) rfl d_Of_leftOfAll_6 ?_
      refine lv_icmp_ge (tgt := 39) hx hb d_Of_leftOfAll_9 (by decide) (fun c_1 => ?_) (fun c_1 => ?_)
      · have hjn2 : j = n := by have := (nI_leI (by omega) (by omega)).mp c_1; omega
        refine lv_iload_n hx hb d_Of_leftOfAll_39 rfl (lv_at hl 1 rfl) ?_
        exact z_iret (v := sumL gn pv n) (tys := none) S hr hlk (by rw [hjn2]) ⟨rfl, rfl⟩ z_nil d_Of_leftOfAll_40
      · have hlt : j < n := by
          rcases Nat.lt_or_ge j n with q | q
          · exact q
          · exact absurd (nI_le q (by omega)) c_1
        cases hg : gn j with
        | true =>
          have hpj : pf (nI j).toNatClampNeg = none := by rw [hcj, hpf j hlt, hg]; rfl
          refine lv_aload_n hx hb d_Of_leftOfAll_12 rfl (lv_at hl 2 rfl) ?_
          refine z_get S zo_cls zo_in (hP 0 _ rfl) 0 (by decide) kg_21 (Or.inl rfl) rfl d_Of_leftOfAll_13 ?_
          refine lv_iload_n hx hb d_Of_leftOfAll_16 rfl (lv_at hl 0 rfl) ?_
          refine va_aldq hx hb hK.1 hP 1 2 rfl rfl (vp_in_nI (by omega) (by decide)) d_Of_leftOfAll_17 ?_
          rw [hpj]
          refine lv_ifnullN (tgt := 33) hx hb d_Of_leftOfAll_18 (by decide) ?_
          refine lv_iinc (v := (nI j) + 1) (lv' := [(2, .int ((nI j) + 1)), (1, .int (sumL gn pv j)), (0, .ref x)]) hx hb d_Of_leftOfAll_33 hl (k := 0) rfl rfl (by decide) rfl (fun ls hl => ?_)
          refine lv_goto (tgt := 4) hx hb d_Of_leftOfAll_36 (by decide) ?_
          have h9 := lv_sub (l' := [(2, .int ((nI j) + 1)), (1, .int (sumL gn pv j)), (0, .ref x)]) hl [0, 1, 2] rfl
          rw [nI_1 j, show (sumL gn pv j) = sumL gn pv (j + 1) from by simp [sumL, hg]] at h9
          exact ih (j + 1) hlt (by omega) ls h9
        | false =>
          have hpj : pf (nI j).toNatClampNeg = some (ad j) := by rw [hcj, hpf j hlt, hg]; rfl
          refine lv_aload_n hx hb d_Of_leftOfAll_12 rfl (lv_at hl 2 rfl) ?_
          refine z_get S zo_cls zo_in (hP 0 _ rfl) 0 (by decide) kg_21 (Or.inl rfl) rfl d_Of_leftOfAll_13 ?_
          refine lv_iload_n hx hb d_Of_leftOfAll_16 rfl (lv_at hl 0 rfl) ?_
          refine va_aldq hx hb hK.1 hP 1 2 rfl rfl (vp_in_nI (by omega) (by decide)) d_Of_leftOfAll_17 ?_
          rw [hpj]
          refine lv_ifnull hx hb d_Of_leftOfAll_18 ?_
          refine lv_iload_n hx hb d_Of_leftOfAll_21 rfl (lv_at hl 1 rfl) ?_
          refine lv_aload_n hx hb d_Of_leftOfAll_22 rfl (lv_at hl 2 rfl) ?_
          refine z_get S zo_cls zo_in (hP 0 _ rfl) 0 (by decide) kg_21 (Or.inl rfl) rfl d_Of_leftOfAll_23 ?_
          refine lv_iload_n hx hb d_Of_leftOfAll_26 rfl (lv_at hl 0 rfl) ?_
          refine va_aldq hx hb hK.1 hP 1 2 rfl rfl (vp_in_nI (by omega) (by decide)) d_Of_leftOfAll_27 ?_
          rw [hpj]
          refine z_get S (zk_cls (hkv j hlt)) (zk_in (hkv j hlt)) (hP (j + 2) _ (pl_get hlt)) 3 (z4 (hkv j hlt) (by decide)) kg_71 (Or.inl rfl) rfl d_Of_leftOfAll_28 ?_
          refine lv_iadd hx hb d_Of_leftOfAll_31 ?_
          refine lv_istore_n (lv' := [(1, .int ((sumL gn pv j) + ((pv j).2.2.2.1))), (2, .int (nI j)), (0, .ref x)]) hx hb d_Of_leftOfAll_32 rfl hl (by decide) rfl (fun ls hl => ?_)
          refine lv_iinc (v := (nI j) + 1) (lv' := [(2, .int ((nI j) + 1)), (1, .int ((sumL gn pv j) + ((pv j).2.2.2.1))), (0, .ref x)]) hx hb d_Of_leftOfAll_33 hl (k := 1) rfl rfl (by decide) rfl (fun ls hl => ?_)
          refine lv_goto (tgt := 4) hx hb d_Of_leftOfAll_36 (by decide) ?_
          have h9 := lv_sub (l' := [(2, .int ((nI j) + 1)), (1, .int ((sumL gn pv j) + ((pv j).2.2.2.1))), (0, .ref x)]) hl [0, 1, 2] rfl
          rw [nI_1 j, show ((sumL gn pv j) + ((pv j).2.2.2.1)) = sumL gn pv (j + 1) from by simp [sumL, hg]] at h9
          exact ih (j + 1) hlt (by omega) ls h9
  have hl : lv_has ls 3 [(0, .ref x)] := hl
  refine lv_iconst (v := 0) hx hb d_Of_leftOfAll_0 (by decide) ?_
  refine lv_istore_n (lv' := [(1, .int 0), (0, .ref x)]) hx hb d_Of_leftOfAll_1 rfl hl (by decide) rfl (fun ls hl => ?_)
  refine lv_iconst (v := 0) hx hb d_Of_leftOfAll_2 (by decide) ?_
  refine lv_istore_n (lv' := [(2, .int 0), (1, .int 0), (0, .ref x)]) hx hb d_Of_leftOfAll_3 rfl hl (by decide) rfl (fun ls hl => ?_)
  exact loop (n + 1) 0 (Nat.zero_le n) (by omega) ls (lv_sub hl [0, 1, 2] rfl)
def oTotal (n : Nat) (gn : Nat → Bool) (pv : Nat → Pv) (day : Int32) : Int32 := if inV day 0 20000 = 0 then -2 else sumW gn pv day n
end
section
-- the office's world when a paper changes
theorem wo_set {D : va_G} {cl : List vw_C} {n i : Nat} {ad : Nat → Nat} {pv : Nat → Pv} {c0 c1 : Nat × va_E} {w : Pv} {H : Heap} (h : va_P D cl ((c0 :: c1 :: pl n ad pv).set (i + 2) (ad i, pe w)) H) : va_P D cl (c0 :: c1 :: pl n ad (va_up pv i w)) H := by
  rw [pl_set] at h
  exact h
theorem wo_setD {A : Nat → Prop} {n i : Nat} {ad : Nat → Nat} {pv : Nat → Pv} {c0 c1 : Nat × va_E} {w : Pv} (h : va_D A ((c0 :: c1 :: pl n ad pv).set (i + 2) (ad i, pe w))) : va_D A (c0 :: c1 :: pl n ad (va_up pv i w)) := by
  rw [pl_set] at h
  exact h
theorem wo_put {D : va_G} {cl : List vw_C} {A : Nat → Prop} {n i : Nat} {ad : Nat → Nat} {pv : Nat → Pv} {c0 c1 : Nat × va_E} {w : Pv} {H H1 : Heap} (hP : va_P D cl (c0 :: c1 :: pl n ad pv) H) (hD : va_D A (c0 :: c1 :: pl n ad pv)) (hi : i < n) (he : va_at D cl (ad i, pe w) H1) (oq : ∀ q : Nat, q < H.size → q ≠ ad i → H1[q]? = H[q]?) : va_P D cl (c0 :: c1 :: pl n ad (va_up pv i w)) H1 ∧ va_D A (c0 :: c1 :: pl n ad (va_up pv i w)) :=
  ⟨wo_set (zP_set hP hD (pl_get hi) he oq), wo_setD (hD.set (pl_get hi))⟩
theorem up_at {D : va_G} {cl : List vw_C} {n i : Nat} {ad : Nat → Nat} {pv : Nat → Pv} {c0 c1 : Nat × va_E} {w : Pv} {H : Heap} (hP : va_P D cl (c0 :: c1 :: pl n ad (va_up pv i w)) H) (hi : i < n) : va_at D cl (ad i, pe w) H := by
  have h := hP (i + 2) _ (pl_get hi)
  rw [va_up_self] at h
  exact h
theorem pl_in {n i sz : Nat} {ad : Nat → Nat} {pv : Nat → Pv} {c0 c1 : Nat × va_E} (hi : i < n) : va_A (c0 :: c1 :: pl n ad pv) sz (ad i) := Or.inl ⟨i + 2, _, pl_get hi⟩
theorem pl_ne {A : Nat → Prop} {n i j : Nat} {ad : Nat → Nat} {pv : Nat → Pv} {c0 c1 : Nat × va_E} (hD : va_D A (c0 :: c1 :: pl n ad pv)) (hi : i < n) (hj : j < n) (h : j ≠ i) : ad j ≠ ad i := by
  intro e0
  have := hD.1 (j + 2) (i + 2) _ _ (pl_get hj) (pl_get hi) e0
  omega
theorem nI_kind {a b : Nat} (ha : a < 8) (hb : b < 8) (h : nI a = nI b) : a = b := (nI_eq (by omega) (by omega)).mp h
theorem asg_k {G : ZG} {s : State} (hK : KZ G s) {k : Nat} (hk : k < 8) : s.vm.assignable (G.1.1 k) (G.1.1 0) = true := by
  have h0 := (hK.1.1 0 _ (zk_cls (k := 0) (by decide))).2
  have key : ∀ {k : Nat}, k < 8 → Cond.castable (Rk k) "VoucherOffice$Paper" ∈ lw_tbl → s.vm.assignable (G.1.1 k) (G.1.1 0) = true := by
    intro k hk hw
    obtain ⟨c3, t3, w1, w2, w3⟩ := Cond.castable_spec (hK.face (A := #[]) hw rfl)
    cases ((hK.1.1 k _ (zk_cls hk)).2.1).symm.trans w1
    cases h0.1.symm.trans w2
    exact w3
  match k, hk with
  | 0, _ => exact va_assign h0
  | 1, _ => exact key (k := 1) (by decide) kf_573
  | 2, _ => exact key (k := 2) (by decide) kf_576
  | 3, _ => exact key (k := 3) (by decide) kf_577
  | 4, _ => exact key (k := 4) (by decide) kf_575
  | 5, _ => exact key (k := 5) (by decide) kf_571
  | 6, _ => exact key (k := 6) (by decide) kf_574
  | 7, _ => exact key (k := 7) (by decide) kf_572
section ZAS
variable {p : Program} {l : Launch} {e : Env} {R : Room} {s : State} {m : MethodId} {args : Array Value} {below : List Frame} {meth : Method} {c : Code} {H : Heap} {locs : List Loc} {cells slots : Nat} {Q : State → Prop}
variable {cc : ByteArray} {nL pc : Nat} {ls : Array Slot} {rest : List Value} {G : ZG} {own : String} {A : Nat → Prop} {a : Nat} {ws : va_W} {H0 : Heap}
/-- a paper of any kind goes into an array of papers -/
theorem z_ast (S : ZC p m c cc nL s args own G) (hP : va_P G.1 classes ws H) (hD : va_D A ws) (hS : va_S A H0 H locs) (q0 : Nat) {n v k : Nat} {vs : List Value} {f : Nat → Option Nat} (ha : ws[q0]? = some (a, .inl (G.2.2.2, n, .inr (.inr (.inr (.inr f)))))) (hv : va_at G.1 classes (v, .inr (k, vs)) H) (hk : k < 8) {i : Int32} (hin : vp_in i n) (hdg : decode cc pc = .ok (.aastore, 1))
    (kk : ∀ (H1 : Heap) (locs1 : List Loc), va_P G.1 classes (ws.set q0 (a, .inl (G.2.2.2, n, .inr (.inr (.inr (.inr (va_up f i.toNatClampNeg (some v)))))))) H1 → va_D A (ws.set q0 (a, .inl (G.2.2.2, n, .inr (.inr (.inr (.inr (va_up f i.toNatClampNeg (some v)))))))) → va_S A H0 H1 locs1 → (∀ q : Nat, q ≠ a → H1[q]? = H[q]?) → W p l e R s m args below meth c H1 locs1 cells slots Q (F0 m (pc + 1) ls rest)) : W p l e R s m args below meth c H locs cells slots Q (F0 m pc ls (.ref v :: .int i :: .ref a :: rest)) := by
  obtain ⟨⟨hx, hb, hml, ho, hts⟩, hKz⟩ := S
  have hlt : i.toNatClampNeg < n := Nat.not_le.mp fun q => hin (Or.inr q)
  have h0 : ¬ i < 0 := fun q => hin (Or.inl q)
  obtain ⟨r', hr', cellV, g1, g2, g3, -⟩ := hv
  have hcls0 := (hKz.1.1 0 _ (zk_cls (k := 0) (by decide))).2
  have hclsk := (hKz.1.1 k _ (zk_cls hk)).2
  obtain ⟨kA, comp, k1, k2, k3, -⟩ := (hKz.1.2 2 _ rfl).2
  have hcomp : comp = G.1.1 0 := Option.some.inj (k3.symm.trans hcls0.1)
  subst hcomp
  obtain ⟨kC, hkC, -⟩ := hcls0.2
  obtain ⟨kV, hkV, -⟩ := hclsk.2
  refine W.aast hx hb (hP q0 _ ha) (fun q h => by cases h) (fun h => by cases h) k1 k2 rfl hkC ⟨h0, by show _ < (arrV _ _ _).slots.size; rw [arrV_size]; exact hlt⟩ g1 (fun q h => by rw [g3] at h; cases h) (by rw [g2]; exact hkV) (by rw [g2]; exact asg_k hKz hk) rfl rfl hdg fun H1 e z oq => ?_
  refine kk H1 _ (hP.set hD ha ?_ oq) (hD.set ha) (hS.put z oq (hD.2 q0 _ ha)) oq
  show H1[a]? = some (vp_cell _ _)
  rw [e]
  rw [vp_cell_q, vp_cell_q, arrV_store]
  congr 2
  funext q
  by_cases hq : q = i.toNatClampNeg
  · subst hq
    simp [updV, va_up, va_rf]
  · simp [updV, va_up, hq]
end ZAS
end
section
set_option maxHeartbeats 2000000 in
theorem c_Of_total (l : Launch) (G : ZG) (sz : Nat) (x ra : Nat) (td iss sp fe la : Int32) (pf : Nat → Option Nat) (n : Nat) (gn : Nat → Bool) (ad : Nat → Nat) (pv : Nat → Pv) (day : Int32) (hok : okP n gn pf ad pv) : ZK l G y_Of_total 4 [.ref x, .int day] (OW G sz (wo G x ra (nI n) td iss sp fe la pf n ad pv)) (ZE (.int (oTotal n gn pv day))) 0 0 (fun _ => False) := by
  refine ZK.ofBody (cc := b_Of_total) (maxL := 4) (ret := (some FieldType.int)) kg_404 (by decide) (by decide) (Nat.le_of_ble_eq_true rfl) ?_
  intro p e s m below meth c S hr hlk hnm hp ls hl
  obtain ⟨⟨hx, hb, hml, hown, hts⟩, hK⟩ := id S
  obtain ⟨hsz, hP, hD0⟩ := hp
  obtain ⟨hn40, hkv, hpf⟩ := id hok
  have hl : lv_has ls 4 [(0, .ref x), (1, .int day)] := hl
  by_cases hin : inV day 0 20000 = 0
  · refine lv_iload_n hx hb d_Of_total_0 rfl (lv_at hl 1 rfl) ?_
    refine lv_iconst (v := 0) hx hb d_Of_total_1 (by decide) ?_
    refine lv_sipush (v := 20000) hx hb d_Of_total_2 (by decide) ?_
    refine z_q (z_S (n := 3) (As := [.int day, .int 0, .int 20000]) (rest := []) S (c_Of_isIn l G day 0 20000) kg_47 kg_48 kg_1 kg_49 ok_Of_isIn pd_Of_isIn trivial rfl hl.1 rfl (Nat.le_of_ble_eq_true rfl) ⟨(Nat.le_of_ble_eq_true rfl), (Nat.le_of_ble_eq_true rfl)⟩ ⟨Nat.zero_le _, Nat.zero_le _⟩ d_Of_total_5) ?_
    refine lv_if_ne (tgt := 14) hx hb d_Of_total_8 (by decide) (fun c_1 => ?_) (fun c_1 => ?_)
    · exact absurd hin c_1
    · refine lv_bipush (v := (-2)) hx hb d_Of_total_11 (by decide) ?_
      exact z_iret (v := oTotal n gn pv day) (tys := none) S hr hlk (by simp only [oTotal, hin, ↓reduceIte]) ⟨rfl, rfl⟩ z_nil d_Of_total_13
  · rw [show oTotal n gn pv day = sumW gn pv day n from by simp only [oTotal, hin, ↓reduceIte]]
    have loop : ∀ (f j : Nat), j ≤ n → n + 1 ≤ j + f → ∀ ls : Array Slot, lv_has ls 4 [(3, .int (nI j)), (2, .int (sumW gn pv day j)), (0, .ref x), (1, .int day)] → W p l e (zr 4 0 0) s m [.ref x, .int day].toArray below meth c s.heap [] 0 0 (MQ below (ZQ (ZE (.int (sumW gn pv day n)))) [.ref x, .int day].toArray s 0 0 (fun _ => False)) (F0 m 18 ls []) := by
      intro f
      induction f with
      | zero => intro j h1 h2; omega
      | succ f ih =>
        intro j hjn hjf ls hl
        have hcj : (nI j).toNatClampNeg = j := nI_clamp (by omega)
        refine lv_iload_n hx hb d_Of_total_18 rfl (lv_at hl 0 rfl) ?_
        refine lv_aload_n hx hb d_Of_total_19 rfl (lv_at hl 2 rfl) ?_
        refine z_get S zo_cls zo_in (hP 0 _ rfl) 1 (by decide) kg_22 (Or.inl rfl) rfl d_Of_total_20 ?_
        refine lv_icmp_ge (tgt := 54) hx hb d_Of_total_23 (by decide) (fun c_1 => ?_) (fun c_1 => ?_)
        · have hjn2 : j = n := by have := (nI_leI (by omega) (by omega)).mp c_1; omega
          refine lv_iload_n hx hb d_Of_total_54 rfl (lv_at hl 1 rfl) ?_
          exact z_iret (v := sumW gn pv day n) (tys := none) S hr hlk (by rw [hjn2]) ⟨rfl, rfl⟩ z_nil d_Of_total_55
        · have hlt : j < n := by
            rcases Nat.lt_or_ge j n with q | q
            · exact q
            · exact absurd (nI_le q (by omega)) c_1
          cases hg : gn j with
          | true =>
            have hpj : pf (nI j).toNatClampNeg = none := by rw [hcj, hpf j hlt, hg]; rfl
            refine lv_aload_n hx hb d_Of_total_26 rfl (lv_at hl 2 rfl) ?_
            refine z_get S zo_cls zo_in (hP 0 _ rfl) 0 (by decide) kg_21 (Or.inl rfl) rfl d_Of_total_27 ?_
            refine lv_iload_n hx hb d_Of_total_30 rfl (lv_at hl 0 rfl) ?_
            refine va_aldq hx hb hK.1 hP 1 2 rfl rfl (vp_in_nI (by omega) (by decide)) d_Of_total_31 ?_
            rw [hpj]
            refine lv_ifnullN (tgt := 48) hx hb d_Of_total_32 (by decide) ?_
            refine lv_iinc (v := (nI j) + 1) (lv' := [(3, .int ((nI j) + 1)), (2, .int (sumW gn pv day j)), (0, .ref x), (1, .int day)]) hx hb d_Of_total_48 hl (k := 0) rfl rfl (by decide) rfl (fun ls hl => ?_)
            refine lv_goto (tgt := 18) hx hb d_Of_total_51 (by decide) ?_
            have h9 := lv_sub (l' := [(3, .int ((nI j) + 1)), (2, .int (sumW gn pv day j)), (0, .ref x), (1, .int day)]) hl [0, 1, 2, 3] rfl
            rw [nI_1 j, show (sumW gn pv day j) = sumW gn pv day (j + 1) from by simp [sumW, hg]] at h9
            exact ih (j + 1) hlt (by omega) ls h9
          | false =>
            have hpj : pf (nI j).toNatClampNeg = some (ad j) := by rw [hcj, hpf j hlt, hg]; rfl
            refine lv_aload_n hx hb d_Of_total_26 rfl (lv_at hl 2 rfl) ?_
            refine z_get S zo_cls zo_in (hP 0 _ rfl) 0 (by decide) kg_21 (Or.inl rfl) rfl d_Of_total_27 ?_
            refine lv_iload_n hx hb d_Of_total_30 rfl (lv_at hl 0 rfl) ?_
            refine va_aldq hx hb hK.1 hP 1 2 rfl rfl (vp_in_nI (by omega) (by decide)) d_Of_total_31 ?_
            rw [hpj]
            refine lv_ifnull hx hb d_Of_total_32 ?_
            refine lv_iload_n hx hb d_Of_total_35 rfl (lv_at hl 1 rfl) ?_
            refine lv_aload_n hx hb d_Of_total_36 rfl (lv_at hl 2 rfl) ?_
            refine z_get S zo_cls zo_in (hP 0 _ rfl) 0 (by decide) kg_21 (Or.inl rfl) rfl d_Of_total_37 ?_
            refine lv_iload_n hx hb d_Of_total_40 rfl (lv_at hl 0 rfl) ?_
            refine va_aldq hx hb hK.1 hP 1 2 rfl rfl (vp_in_nI (by omega) (by decide)) d_Of_total_41 ?_
            rw [hpj]
            refine lv_iload_n hx hb d_Of_total_42 rfl (lv_at hl 3 rfl) ?_
            refine v_worth S kg_177 (hkv j hlt) (hP (j + 2) _ (pl_get hlt)) hl.1 (Nat.le_of_ble_eq_true rfl) ⟨(Nat.le_of_ble_eq_true rfl), (Nat.le_of_ble_eq_true rfl)⟩ ⟨Nat.zero_le _, Nat.zero_le _⟩ d_Of_total_43 ?_
            refine lv_iadd hx hb d_Of_total_46 ?_
            refine lv_istore_n (lv' := [(2, .int ((sumW gn pv day j) + (wV ((pv j).1) ((pv j).2.1) ((pv j).2.2.2.1) ((pv j).2.2.2.2) day))), (3, .int (nI j)), (0, .ref x), (1, .int day)]) hx hb d_Of_total_47 rfl hl (by decide) rfl (fun ls hl => ?_)
            refine lv_iinc (v := (nI j) + 1) (lv' := [(3, .int ((nI j) + 1)), (2, .int ((sumW gn pv day j) + (wV ((pv j).1) ((pv j).2.1) ((pv j).2.2.2.1) ((pv j).2.2.2.2) day))), (0, .ref x), (1, .int day)]) hx hb d_Of_total_48 hl (k := 1) rfl rfl (by decide) rfl (fun ls hl => ?_)
            refine lv_goto (tgt := 18) hx hb d_Of_total_51 (by decide) ?_
            have h9 := lv_sub (l' := [(3, .int ((nI j) + 1)), (2, .int ((sumW gn pv day j) + (wV ((pv j).1) ((pv j).2.1) ((pv j).2.2.2.1) ((pv j).2.2.2.2) day))), (0, .ref x), (1, .int day)]) hl [0, 1, 2, 3] rfl
            rw [nI_1 j, show ((sumW gn pv day j) + (wV ((pv j).1) ((pv j).2.1) ((pv j).2.2.2.1) ((pv j).2.2.2.2) day)) = sumW gn pv day (j + 1) from by simp [sumW, hg]] at h9
            exact ih (j + 1) hlt (by omega) ls h9
    refine lv_iload_n hx hb d_Of_total_0 rfl (lv_at hl 1 rfl) ?_
    refine lv_iconst (v := 0) hx hb d_Of_total_1 (by decide) ?_
    refine lv_sipush (v := 20000) hx hb d_Of_total_2 (by decide) ?_
    refine z_q (z_S (n := 3) (As := [.int day, .int 0, .int 20000]) (rest := []) S (c_Of_isIn l G day 0 20000) kg_47 kg_48 kg_1 kg_49 ok_Of_isIn pd_Of_isIn trivial rfl hl.1 rfl (Nat.le_of_ble_eq_true rfl) ⟨(Nat.le_of_ble_eq_true rfl), (Nat.le_of_ble_eq_true rfl)⟩ ⟨Nat.zero_le _, Nat.zero_le _⟩ d_Of_total_5) ?_
    refine lv_if_ne (tgt := 14) hx hb d_Of_total_8 (by decide) (fun c_1 => ?_) (fun c_1 => ?_)
    · refine lv_iconst (v := 0) hx hb d_Of_total_14 (by decide) ?_
      refine lv_istore_n (lv' := [(2, .int 0), (0, .ref x), (1, .int day)]) hx hb d_Of_total_15 rfl hl (by decide) rfl (fun ls hl => ?_)
      refine lv_iconst (v := 0) hx hb d_Of_total_16 (by decide) ?_
      refine lv_istore_n (lv' := [(3, .int 0), (2, .int 0), (0, .ref x), (1, .int day)]) hx hb d_Of_total_17 rfl hl (by decide) rfl (fun ls hl => ?_)
      exact loop (n + 1) 0 (Nat.zero_le n) (by omega) ls (lv_sub hl [0, 1, 2, 3] rfl)
    · exact absurd c_1 hin
def oCount (n : Nat) (gn : Nat → Bool) (pv : Nat → Pv) (td iss sp fe la what : Int32) : Int32 := if what = 0 then td else if what = 1 then nI n else if what = 2 then iss else if what = 3 then sp else if what = 4 then fe else if what = 5 then la else if what = 6 then sumL gn pv n else -2
set_option maxHeartbeats 2000000 in
theorem c_Of_count (l : Launch) (G : ZG) (sz : Nat) (x ra : Nat) (td iss sp fe la : Int32) (pf : Nat → Option Nat) (n : Nat) (gn : Nat → Bool) (ad : Nat → Nat) (pv : Nat → Pv) (what : Int32) (hok : okP n gn pf ad pv) : ZK l G y_Of_count 1 [.ref x, .int what] (OW G sz (wo G x ra (nI n) td iss sp fe la pf n ad pv)) (ZE (.int (oCount n gn pv td iss sp fe la what))) 0 0 (fun _ => False) := by
  refine ZK.ofBody (cc := b_Of_count) (maxL := 2) (ret := (some FieldType.int)) kg_415 (by decide) (by decide) (Nat.le_of_ble_eq_true rfl) ?_
  intro p e s m below meth c S hr hlk hnm hp ls hl
  obtain ⟨⟨hx, hb, hml, hown, hts⟩, hK⟩ := id S
  obtain ⟨hsz, hP, hD0⟩ := hp
  obtain ⟨hn40, hkv, hpf⟩ := id hok
  have hl : lv_has ls 2 [(0, .ref x), (1, .int what)] := hl
  refine lv_iload_n hx hb d_Of_count_0 rfl (lv_at hl 1 rfl) ?_
  by_cases hw_1 : what = 0
  · refine zt_in (off := 43) (tgt := 44) hx hb hw_1 d_Of_count_1 (by decide) (by decide) rfl (by decide) ?_
    refine lv_aload_n hx hb d_Of_count_44 rfl (lv_at hl 0 rfl) ?_
    refine z_get S zo_cls zo_in (hP 0 _ rfl) 2 (by decide) kg_23 (Or.inl rfl) rfl d_Of_count_45 ?_
    exact z_iret (v := oCount n gn pv td iss sp fe la what) (tys := none) S hr hlk (by unfold oCount; rw [if_pos hw_1]) ⟨rfl, rfl⟩ z_nil d_Of_count_48
  by_cases hw_2 : what = 1
  · refine zt_in (off := 48) (tgt := 49) hx hb hw_2 d_Of_count_1 (by decide) (by decide) rfl (by decide) ?_
    refine lv_aload_n hx hb d_Of_count_49 rfl (lv_at hl 0 rfl) ?_
    refine z_get S zo_cls zo_in (hP 0 _ rfl) 1 (by decide) kg_22 (Or.inl rfl) rfl d_Of_count_50 ?_
    exact z_iret (v := oCount n gn pv td iss sp fe la what) (tys := none) S hr hlk (by unfold oCount; rw [if_neg hw_1, if_pos hw_2]) ⟨rfl, rfl⟩ z_nil d_Of_count_53
  by_cases hw_3 : what = 2
  · refine zt_in (off := 53) (tgt := 54) hx hb hw_3 d_Of_count_1 (by decide) (by decide) rfl (by decide) ?_
    refine lv_aload_n hx hb d_Of_count_54 rfl (lv_at hl 0 rfl) ?_
    refine z_get S zo_cls zo_in (hP 0 _ rfl) 3 (by decide) kg_24 (Or.inl rfl) rfl d_Of_count_55 ?_
    exact z_iret (v := oCount n gn pv td iss sp fe la what) (tys := none) S hr hlk (by unfold oCount; rw [if_neg hw_1, if_neg hw_2, if_pos hw_3]) ⟨rfl, rfl⟩ z_nil d_Of_count_58
  by_cases hw_4 : what = 3
  · refine zt_in (off := 58) (tgt := 59) hx hb hw_4 d_Of_count_1 (by decide) (by decide) rfl (by decide) ?_
    refine lv_aload_n hx hb d_Of_count_59 rfl (lv_at hl 0 rfl) ?_
    refine z_get S zo_cls zo_in (hP 0 _ rfl) 4 (by decide) kg_25 (Or.inl rfl) rfl d_Of_count_60 ?_
    exact z_iret (v := oCount n gn pv td iss sp fe la what) (tys := none) S hr hlk (by unfold oCount; rw [if_neg hw_1, if_neg hw_2, if_neg hw_3, if_pos hw_4]) ⟨rfl, rfl⟩ z_nil d_Of_count_63
  by_cases hw_5 : what = 4
  · refine zt_in (off := 63) (tgt := 64) hx hb hw_5 d_Of_count_1 (by decide) (by decide) rfl (by decide) ?_
    refine lv_aload_n hx hb d_Of_count_64 rfl (lv_at hl 0 rfl) ?_
    refine z_get S zo_cls zo_in (hP 0 _ rfl) 5 (by decide) kg_26 (Or.inl rfl) rfl d_Of_count_65 ?_
    exact z_iret (v := oCount n gn pv td iss sp fe la what) (tys := none) S hr hlk (by unfold oCount; rw [if_neg hw_1, if_neg hw_2, if_neg hw_3, if_neg hw_4, if_pos hw_5]) ⟨rfl, rfl⟩ z_nil d_Of_count_68
  by_cases hw_6 : what = 5
  · refine zt_in (off := 68) (tgt := 69) hx hb hw_6 d_Of_count_1 (by decide) (by decide) rfl (by decide) ?_
    refine lv_aload_n hx hb d_Of_count_69 rfl (lv_at hl 0 rfl) ?_
    refine z_get S zo_cls zo_in (hP 0 _ rfl) 6 (by decide) kg_27 (Or.inl rfl) rfl d_Of_count_70 ?_
    exact z_iret (v := oCount n gn pv td iss sp fe la what) (tys := none) S hr hlk (by unfold oCount; rw [if_neg hw_1, if_neg hw_2, if_neg hw_3, if_neg hw_4, if_neg hw_5, if_pos hw_6]) ⟨rfl, rfl⟩ z_nil d_Of_count_73
  by_cases hw_7 : what = 6
  · refine zt_in (off := 73) (tgt := 74) hx hb hw_7 d_Of_count_1 (by decide) (by decide) rfl (by decide) ?_
    refine lv_aload_n hx hb d_Of_count_74 rfl (lv_at hl 0 rfl) ?_
    refine z_q (z_D (n := 0) (C := "VoucherOffice") (As := []) (rest := []) S (c_Of_leftOfAll l G sz x ra td iss sp fe la pf n gn ad pv hok) kg_416 kg_418 kp_Of_leftOfAll kg_419 ok_Of_leftOfAll pd_Of_leftOfAll (zrec hK (hP 0 _ rfl) zo_cls) ⟨hsz, hP, hD0⟩ rfl hl.1 rfl (Nat.le_of_ble_eq_true rfl) ⟨(Nat.le_of_ble_eq_true rfl), (Nat.le_of_ble_eq_true rfl)⟩ ⟨Nat.zero_le _, Nat.zero_le _⟩ d_Of_count_75) ?_
    exact z_iret (v := oCount n gn pv td iss sp fe la what) (tys := none) S hr hlk (by unfold oCount; rw [if_neg hw_1, if_neg hw_2, if_neg hw_3, if_neg hw_4, if_neg hw_5, if_neg hw_6, if_pos hw_7]) ⟨rfl, rfl⟩ z_nil d_Of_count_78
  have hso : (what).toInt < 0 ∨ 6 < (what).toInt := by
    have q0 := lv_neT (a := 0) hw_1 (by decide)
    have q1 := lv_neT (a := 1) hw_2 (by decide)
    have q2 := lv_neT (a := 2) hw_3 (by decide)
    have q3 := lv_neT (a := 3) hw_4 (by decide)
    have q4 := lv_neT (a := 4) hw_5 (by decide)
    have q5 := lv_neT (a := 5) hw_6 (by decide)
    have q6 := lv_neT (a := 6) hw_7 (by decide)
    omega
  refine lv_tableOut (tgt := 79) hx hb d_Of_count_1 hso (by decide) ?_
  refine lv_bipush (v := (-2)) hx hb d_Of_count_79 (by decide) ?_
  exact z_iret (v := oCount n gn pv td iss sp fe la what) (tys := none) S hr hlk (by unfold oCount; rw [if_neg hw_1, if_neg hw_2, if_neg hw_3, if_neg hw_4, if_neg hw_5, if_neg hw_6, if_neg hw_7]) ⟨rfl, rfl⟩ z_nil d_Of_count_81
end
section
def oPassR (td days : Int32) : Int32 := if inV days 1 1000 = 0 then -2 else if td + days ≤ 20000 then td + days else -4
def oPassT (td days : Int32) : Int32 := if inV days 1 1000 = 0 then td else if td + days ≤ 20000 then td + days else td
set_option maxHeartbeats 2000000 in
theorem c_Of_pass (l : Launch) (G : ZG) (sz : Nat) (x ra : Nat) (td iss sp fe la : Int32) (pf : Nat → Option Nat) (n : Nat) (gn : Nat → Bool) (ad : Nat → Nat) (pv : Nat → Pv) (days : Int32) (hok : okP n gn pf ad pv) : ZK l G y_Of_pass 1 [.ref x, .int days] (OW G sz (wo G x ra (nI n) td iss sp fe la pf n ad pv)) (ZA (some (.int (oPassR td days))) (OF G sz (wo G x ra (nI n) td iss sp fe la pf n ad pv) (wo G x ra (nI n) (oPassT td days) iss sp fe la pf n ad pv))) 0 0 (va_A (wo G x ra (nI n) td iss sp fe la pf n ad pv) sz) := by
  refine ZK.ofBody (cc := b_Of_pass) (maxL := 2) (ret := (some FieldType.int)) kg_168 (by decide) (by decide) (Nat.le_of_ble_eq_true rfl) ?_
  intro p e s m below meth c S hr hlk hnm hp ls hl
  obtain ⟨⟨hx, hb, hml, hown, hts⟩, hK⟩ := id S
  obtain ⟨hsz, hP, hD0⟩ := hp
  obtain ⟨hn40, hkv, hpf⟩ := id hok
  subst hsz
  have hD := hD0.self (sz := s.heap.size)
  have hS : va_S (va_A (wo G x ra (nI n) td iss sp fe la pf n ad pv) s.heap.size) s.heap s.heap [] := va_S.rf
  have hl : lv_has ls 2 [(0, .ref x), (1, .int days)] := hl
  refine lv_iload_n hx hb d_Of_pass_0 rfl (lv_at hl 1 rfl) ?_
  refine lv_iconst (v := 1) hx hb d_Of_pass_1 (by decide) ?_
  refine lv_sipush (v := 1000) hx hb d_Of_pass_2 (by decide) ?_
  refine z_q (z_S (n := 3) (As := [.int days, .int 1, .int 1000]) (rest := []) S (c_Of_isIn l G days 1 1000) kg_47 kg_48 kg_1 kg_49 ok_Of_isIn pd_Of_isIn trivial rfl hl.1 rfl (Nat.le_of_ble_eq_true rfl) ⟨(Nat.le_of_ble_eq_true rfl), (Nat.le_of_ble_eq_true rfl)⟩ ⟨Nat.zero_le _, Nat.zero_le _⟩ d_Of_pass_5) ?_
  refine lv_if_ne (tgt := 14) hx hb d_Of_pass_8 (by decide) (fun c_1 => ?_) (fun c_1 => ?_)
  · refine lv_aload_n hx hb d_Of_pass_14 rfl (lv_at hl 0 rfl) ?_
    refine z_get S zo_cls zo_in (hP 0 _ rfl) 2 (by decide) kg_23 (Or.inl rfl) rfl d_Of_pass_15 ?_
    refine lv_iload_n hx hb d_Of_pass_18 rfl (lv_at hl 1 rfl) ?_
    refine lv_iadd hx hb d_Of_pass_19 ?_
    refine lv_sipush (v := 20000) hx hb d_Of_pass_20 (by decide) ?_
    refine lv_icmp_le (tgt := 29) hx hb d_Of_pass_23 (by decide) (fun c_2 => ?_) (fun c_2 => ?_)
    · refine lv_aload_n hx hb d_Of_pass_29 rfl (lv_at hl 0 rfl) ?_
      refine lv_dup hx hb d_Of_pass_30 rfl ?_
      refine z_get S zo_cls zo_in (hP 0 _ rfl) 2 (by decide) kg_23 (Or.inl rfl) rfl d_Of_pass_31 ?_
      refine lv_iload_n hx hb d_Of_pass_34 rfl (lv_at hl 1 rfl) ?_
      refine lv_iadd hx hb d_Of_pass_35 ?_
      refine z_put (x := td + days) S zo_cls zo_in zo_ty zo_nm hP hD hS 0 rfl 2 (by decide) kg_23 (Or.inl rfl) rfl pI (Nat.le_of_ble_eq_true rfl) d_Of_pass_36 (fun H locs hP hD hS => ?_)
      have hP : va_P G.1 classes (wo G x ra (nI n) (td + days) iss sp fe la pf n ad pv) H := hP
      have hD : va_D (va_A (wo G x ra (nI n) td iss sp fe la pf n ad pv) s.heap.size) (wo G x ra (nI n) (td + days) iss sp fe la pf n ad pv) := hD
      refine lv_aload_n hx hb d_Of_pass_39 rfl (lv_at hl 0 rfl) ?_
      refine z_get S zo_cls zo_in (hP 0 _ rfl) 2 (by decide) kg_23 (Or.inl rfl) rfl d_Of_pass_40 ?_
      exact z_iret (v := td + days) (tys := none) S hr hlk rfl (OF.mk hP hD hS (by first | rfl | simp only [oPassR, oPassT, c_1, c_2, ↓reduceIte]) (by first | rfl | simp only [oPassR, oPassT, c_1, c_2, ↓reduceIte])) hS.2.2 d_Of_pass_43
    · refine lv_bipush (v := (-4)) hx hb d_Of_pass_26 (by decide) ?_
      exact z_iret (v := (-4)) (tys := none) S hr hlk rfl (OF.mk hP hD hS (by first | rfl | simp only [oPassR, oPassT, c_1, c_2, ↓reduceIte]) (by first | rfl | simp only [oPassR, oPassT, c_1, c_2, ↓reduceIte])) hS.2.2 d_Of_pass_28
  · refine lv_bipush (v := (-2)) hx hb d_Of_pass_11 (by decide) ?_
    exact z_iret (v := (-2)) (tys := none) S hr hlk rfl (OF.mk hP hD hS (by first | rfl | simp only [oPassR, oPassT, c_1, ↓reduceIte]) (by first | rfl | simp only [oPassR, oPassT, c_1, ↓reduceIte])) hS.2.2 d_Of_pass_13
def oSpR (n : Nat) (gn : Nat → Bool) (pv : Nat → Pv) (td v g : Int32) : Int32 := match lkI n gn v with | none => -1 | some i => if inV g 1 100000 = 0 then -2 else if 0 ≤ saV (pv i).1 (pv i).2.1 (pv i).2.2.2.1 (pv i).2.2.2.2 g td then snL (pv i).1 (pv i).2.1 (pv i).2.2.2.1 (pv i).2.2.2.2 g td else saV (pv i).1 (pv i).2.1 (pv i).2.2.2.1 (pv i).2.2.2.2 g td
def oSpS (n : Nat) (gn : Nat → Bool) (pv : Nat → Pv) (td v g : Int32) (sp : Int32) : Int32 := match lkI n gn v with | none => sp | some i => if inV g 1 100000 = 0 then sp else if 0 ≤ saV (pv i).1 (pv i).2.1 (pv i).2.2.2.1 (pv i).2.2.2.2 g td then sp + g else sp
def oSpF (n : Nat) (gn : Nat → Bool) (pv : Nat → Pv) (td v g : Int32) (fe : Int32) : Int32 := match lkI n gn v with | none => fe | some i => if inV g 1 100000 = 0 then fe else if 0 ≤ saV (pv i).1 (pv i).2.1 (pv i).2.2.2.1 (pv i).2.2.2.2 g td then fe + ((pv i).2.2.2.1 - snL (pv i).1 (pv i).2.1 (pv i).2.2.2.1 (pv i).2.2.2.2 g td - g) else fe
def oSpP (n : Nat) (gn : Nat → Bool) (pv : Nat → Pv) (td v g : Int32) : Nat → Pv := match lkI n gn v with | none => pv | some i => if inV g 1 100000 = 0 then pv else va_up pv i ((pv i).1, (pv i).2.1, (pv i).2.2.1, snL (pv i).1 (pv i).2.1 (pv i).2.2.2.1 (pv i).2.2.2.2 g td, snX (pv i).1 (pv i).2.1 (pv i).2.2.2.1 (pv i).2.2.2.2 g td)
set_option maxHeartbeats 2000000 in
theorem c_Of_spend (l : Launch) (G : ZG) (sz : Nat) (x ra : Nat) (td iss sp fe la : Int32) (pf : Nat → Option Nat) (n : Nat) (gn : Nat → Bool) (ad : Nat → Nat) (pv : Nat → Pv) (v g : Int32) (hok : okP n gn pf ad pv) : ZK l G y_Of_spend 6 [.ref x, .int v, .int g] (OW G sz (wo G x ra (nI n) td iss sp fe la pf n ad pv)) (ZA (some (.int (oSpR n gn pv td v g))) (OF G sz (wo G x ra (nI n) td iss sp fe la pf n ad pv) (wo G x ra (nI n) td iss (oSpS n gn pv td v g sp) (oSpF n gn pv td v g fe) la pf n ad (oSpP n gn pv td v g)))) 0 0 (va_A (wo G x ra (nI n) td iss sp fe la pf n ad pv) sz) := by
  refine ZK.ofBody (cc := b_Of_spend) (maxL := 6) (ret := (some FieldType.int)) kg_272 (by decide) (by decide) (Nat.le_of_ble_eq_true rfl) ?_
  intro p e s m below meth c S hr hlk hnm hp ls hl
  obtain ⟨⟨hx, hb, hml, hown, hts⟩, hK⟩ := id S
  obtain ⟨hsz, hP, hD0⟩ := hp
  obtain ⟨hn40, hkv, hpf⟩ := id hok
  subst hsz
  have hD := hD0.self (sz := s.heap.size)
  have hS : va_S (va_A (wo G x ra (nI n) td iss sp fe la pf n ad pv) s.heap.size) s.heap s.heap [] := va_S.rf
  have hl : lv_has ls 6 [(0, .ref x), (1, .int v), (2, .int g)] := hl
  rcases lk_cases hn40 gn v with hvk | ⟨i, hi, hvi, hgi, hvk⟩
  · refine lv_aload_n hx hb d_Of_spend_0 rfl (lv_at hl 0 rfl) ?_
    refine lv_iload_n hx hb d_Of_spend_1 rfl (lv_at hl 1 rfl) ?_
    refine z_q (z_D (n := 1) (C := "VoucherOffice") (As := [.int v]) (rest := []) S (c_Of_at_none l G s.heap.size x ra td iss sp fe la pf n gn ad pv v hok hvk) kg_173 kg_175 kp_Of_at kg_176 ok_Of_at pd_Of_at (zrec hK (hP 0 _ rfl) zo_cls) ⟨rfl, hP, hD0⟩ rfl hl.1 rfl (Nat.le_of_ble_eq_true rfl) ⟨(Nat.le_of_ble_eq_true rfl), (Nat.le_of_ble_eq_true rfl)⟩ ⟨Nat.zero_le _, Nat.zero_le _⟩ d_Of_spend_2) ?_
    refine lv_astore_nN (lv' := [(3, .null), (0, .ref x), (1, .int v), (2, .int g)]) hx hb d_Of_spend_5 rfl hl (by decide) rfl (fun ls hl => ?_)
    refine lv_aload_nN hx hb d_Of_spend_6 rfl (lv_at hl 0 rfl) ?_
    refine lv_ifnonnullN hx hb d_Of_spend_7 ?_
    refine lv_iconst (v := (-1)) hx hb d_Of_spend_10 (by decide) ?_
    exact z_iret (v := (-1)) (tys := none) S hr hlk rfl (OF.mk hP hD hS (by first | rfl | simp only [oSpR, oSpS, oSpF, oSpP, hvk, ↓reduceIte]) (by first | rfl | simp only [oSpR, oSpS, oSpF, oSpP, hvk, ↓reduceIte])) hS.2.2 d_Of_spend_11
  · refine lv_aload_n hx hb d_Of_spend_0 rfl (lv_at hl 0 rfl) ?_
    refine lv_iload_n hx hb d_Of_spend_1 rfl (lv_at hl 1 rfl) ?_
    refine z_q (z_D (n := 1) (C := "VoucherOffice") (As := [.int v]) (rest := []) S (c_Of_at_some l G s.heap.size x ra td iss sp fe la pf n gn ad pv v hok hvk) kg_173 kg_175 kp_Of_at kg_176 ok_Of_at pd_Of_at (zrec hK (hP 0 _ rfl) zo_cls) ⟨rfl, hP, hD0⟩ rfl hl.1 rfl (Nat.le_of_ble_eq_true rfl) ⟨(Nat.le_of_ble_eq_true rfl), (Nat.le_of_ble_eq_true rfl)⟩ ⟨Nat.zero_le _, Nat.zero_le _⟩ d_Of_spend_2) ?_
    refine lv_astore_n (lv' := [(3, .ref (ad i)), (0, .ref x), (1, .int v), (2, .int g)]) hx hb d_Of_spend_5 rfl hl (by decide) rfl (fun ls hl => ?_)
    refine lv_aload_n hx hb d_Of_spend_6 rfl (lv_at hl 0 rfl) ?_
    refine lv_ifnonnull (tgt := 12) hx hb d_Of_spend_7 (by decide) ?_
    refine lv_iload_n hx hb d_Of_spend_12 rfl (lv_at hl 3 rfl) ?_
    refine lv_iconst (v := 1) hx hb d_Of_spend_13 (by decide) ?_
    refine lv_ldc (v := 100000) hx hb hown (hts _ kg_50) d_Of_spend_14 ?_
    refine z_q (z_S (n := 3) (As := [.int g, .int 1, .int 100000]) (rest := []) S (c_Of_isIn l G g 1 100000) kg_47 kg_48 kg_1 kg_49 ok_Of_isIn pd_Of_isIn trivial rfl hl.1 rfl (Nat.le_of_ble_eq_true rfl) ⟨(Nat.le_of_ble_eq_true rfl), (Nat.le_of_ble_eq_true rfl)⟩ ⟨Nat.zero_le _, Nat.zero_le _⟩ d_Of_spend_16) ?_
    refine lv_if_ne (tgt := 25) hx hb d_Of_spend_19 (by decide) (fun c_1 => ?_) (fun c_1 => ?_)
    · refine lv_aload_n hx hb d_Of_spend_25 rfl (lv_at hl 0 rfl) ?_
      refine z_get S (zk_cls (hkv i hi)) (zk_in (hkv i hi)) (hP (i + 2) _ (pl_get hi)) 3 (z4 (hkv i hi) (by decide)) kg_71 (Or.inl rfl) rfl d_Of_spend_26 ?_
      refine lv_istore (lv' := [(4, .int ((pv i).2.2.2.1)), (3, .ref (ad i)), (0, .ref x), (1, .int v), (2, .int g)]) hx hb d_Of_spend_29 hl (by decide) rfl (fun ls hl => ?_)
      refine lv_aload_n hx hb d_Of_spend_31 rfl (lv_at hl 1 rfl) ?_
      refine lv_iload_n hx hb d_Of_spend_32 rfl (lv_at hl 4 rfl) ?_
      refine lv_aload_n hx hb d_Of_spend_33 rfl (lv_at hl 2 rfl) ?_
      refine z_get S zo_cls zo_in (hP 0 _ rfl) 2 (by decide) kg_23 (Or.inl rfl) rfl d_Of_spend_34 ?_
      refine v_spend S kg_273 (hkv i hi) (hP (i + 2) _ (pl_get hi)) hl.1 (Nat.le_of_ble_eq_true rfl) ⟨(Nat.le_of_ble_eq_true rfl), (Nat.le_of_ble_eq_true rfl)⟩ ⟨Nat.zero_le _, Nat.zero_le _⟩ d_Of_spend_37 (fun H1 L hF hL => ?_)
      have hS := hF.S hS (pl_in hi) hL
      obtain ⟨hP, hD⟩ := wo_put (w := ((pv i).1, (pv i).2.1, (pv i).2.2.1, snL (pv i).1 (pv i).2.1 (pv i).2.2.2.1 (pv i).2.2.2.2 g td, snX (pv i).1 (pv i).2.1 (pv i).2.2.2.1 (pv i).2.2.2.2 g td)) hP hD hi hF.1 hF.2.2
      generalize H1 = H at hP hS ⊢
      have hP : va_P G.1 classes (wo G x ra (nI n) td iss sp fe la pf n ad (va_up pv i ((pv i).1, (pv i).2.1, (pv i).2.2.1, snL (pv i).1 (pv i).2.1 (pv i).2.2.2.1 (pv i).2.2.2.2 g td, snX (pv i).1 (pv i).2.1 (pv i).2.2.2.1 (pv i).2.2.2.2 g td))) H := hP
      have hD : va_D (va_A (wo G x ra (nI n) td iss sp fe la pf n ad pv) s.heap.size) (wo G x ra (nI n) td iss sp fe la pf n ad (va_up pv i ((pv i).1, (pv i).2.1, (pv i).2.2.1, snL (pv i).1 (pv i).2.1 (pv i).2.2.2.1 (pv i).2.2.2.2 g td, snX (pv i).1 (pv i).2.1 (pv i).2.2.2.1 (pv i).2.2.2.2 g td))) := hD
      refine lv_istore (lv' := [(5, .int (saV (pv i).1 (pv i).2.1 (pv i).2.2.2.1 (pv i).2.2.2.2 g td)), (4, .int ((pv i).2.2.2.1)), (3, .ref (ad i)), (0, .ref x), (1, .int v), (2, .int g)]) hx hb d_Of_spend_40 hl (by decide) rfl (fun ls hl => ?_)
      refine lv_iload hx hb d_Of_spend_42 (lv_at hl 0 rfl) ?_
      refine lv_if_ge (tgt := 50) hx hb d_Of_spend_44 (by decide) (fun c_2 => ?_) (fun c_2 => ?_)
      · refine lv_aload_n hx hb d_Of_spend_50 rfl (lv_at hl 3 rfl) ?_
        refine lv_dup hx hb d_Of_spend_51 rfl ?_
        refine z_get S zo_cls zo_in (hP 0 _ rfl) 4 (by decide) kg_25 (Or.inl rfl) rfl d_Of_spend_52 ?_
        refine lv_iload_n hx hb d_Of_spend_55 rfl (lv_at hl 5 rfl) ?_
        refine lv_iadd hx hb d_Of_spend_56 ?_
        refine z_put (x := sp + g) S zo_cls zo_in zo_ty zo_nm hP hD hS 0 rfl 4 (by decide) kg_25 (Or.inl rfl) rfl pI (Nat.le_of_ble_eq_true rfl) d_Of_spend_57 (fun H locs hP hD hS => ?_)
        have hP : va_P G.1 classes (wo G x ra (nI n) td iss (sp + g) fe la pf n ad (va_up pv i ((pv i).1, (pv i).2.1, (pv i).2.2.1, snL (pv i).1 (pv i).2.1 (pv i).2.2.2.1 (pv i).2.2.2.2 g td, snX (pv i).1 (pv i).2.1 (pv i).2.2.2.1 (pv i).2.2.2.2 g td))) H := hP
        have hD : va_D (va_A (wo G x ra (nI n) td iss sp fe la pf n ad pv) s.heap.size) (wo G x ra (nI n) td iss (sp + g) fe la pf n ad (va_up pv i ((pv i).1, (pv i).2.1, (pv i).2.2.1, snL (pv i).1 (pv i).2.1 (pv i).2.2.2.1 (pv i).2.2.2.2 g td, snX (pv i).1 (pv i).2.1 (pv i).2.2.2.1 (pv i).2.2.2.2 g td))) := hD
        refine lv_aload_n hx hb d_Of_spend_60 rfl (lv_at hl 3 rfl) ?_
        refine lv_dup hx hb d_Of_spend_61 rfl ?_
        refine z_get S zo_cls zo_in (hP 0 _ rfl) 5 (by decide) kg_26 (Or.inl rfl) rfl d_Of_spend_62 ?_
        refine lv_iload hx hb d_Of_spend_65 (lv_at hl 1 rfl) ?_
        refine lv_aload_n hx hb d_Of_spend_67 rfl (lv_at hl 2 rfl) ?_
        refine z_get S (zk_cls (hkv i hi)) (zk_in (hkv i hi)) (up_at (w := ((pv i).1, (pv i).2.1, (pv i).2.2.1, snL (pv i).1 (pv i).2.1 (pv i).2.2.2.1 (pv i).2.2.2.2 g td, snX (pv i).1 (pv i).2.1 (pv i).2.2.2.1 (pv i).2.2.2.2 g td)) hP hi) 3 (z4 (hkv i hi) (by decide)) kg_71 (Or.inl rfl) rfl d_Of_spend_68 ?_
        refine lv_isub hx hb d_Of_spend_71 ?_
        refine lv_iload_n hx hb d_Of_spend_72 rfl (lv_at hl 5 rfl) ?_
        refine lv_isub hx hb d_Of_spend_73 ?_
        refine lv_iadd hx hb d_Of_spend_74 ?_
        refine z_put (x := fe + ((((pv i).2.2.2.1) - (snL (pv i).1 (pv i).2.1 (pv i).2.2.2.1 (pv i).2.2.2.2 g td)) - g)) S zo_cls zo_in zo_ty zo_nm hP hD hS 0 rfl 5 (by decide) kg_26 (Or.inl rfl) rfl pI (Nat.le_of_ble_eq_true rfl) d_Of_spend_75 (fun H locs hP hD hS => ?_)
        have hP : va_P G.1 classes (wo G x ra (nI n) td iss (sp + g) (fe + ((((pv i).2.2.2.1) - (snL (pv i).1 (pv i).2.1 (pv i).2.2.2.1 (pv i).2.2.2.2 g td)) - g)) la pf n ad (va_up pv i ((pv i).1, (pv i).2.1, (pv i).2.2.1, snL (pv i).1 (pv i).2.1 (pv i).2.2.2.1 (pv i).2.2.2.2 g td, snX (pv i).1 (pv i).2.1 (pv i).2.2.2.1 (pv i).2.2.2.2 g td))) H := hP
        have hD : va_D (va_A (wo G x ra (nI n) td iss sp fe la pf n ad pv) s.heap.size) (wo G x ra (nI n) td iss (sp + g) (fe + ((((pv i).2.2.2.1) - (snL (pv i).1 (pv i).2.1 (pv i).2.2.2.1 (pv i).2.2.2.2 g td)) - g)) la pf n ad (va_up pv i ((pv i).1, (pv i).2.1, (pv i).2.2.1, snL (pv i).1 (pv i).2.1 (pv i).2.2.2.1 (pv i).2.2.2.2 g td, snX (pv i).1 (pv i).2.1 (pv i).2.2.2.1 (pv i).2.2.2.2 g td))) := hD
        refine lv_aload_n hx hb d_Of_spend_78 rfl (lv_at hl 2 rfl) ?_
        refine z_get S (zk_cls (hkv i hi)) (zk_in (hkv i hi)) (up_at (w := ((pv i).1, (pv i).2.1, (pv i).2.2.1, snL (pv i).1 (pv i).2.1 (pv i).2.2.2.1 (pv i).2.2.2.2 g td, snX (pv i).1 (pv i).2.1 (pv i).2.2.2.1 (pv i).2.2.2.2 g td)) hP hi) 3 (z4 (hkv i hi) (by decide)) kg_71 (Or.inl rfl) rfl d_Of_spend_79 ?_
        exact z_iret (v := snL (pv i).1 (pv i).2.1 (pv i).2.2.2.1 (pv i).2.2.2.2 g td) (tys := none) S hr hlk rfl (OF.mk hP hD hS (by first | rfl | simp only [oSpR, oSpS, oSpF, oSpP, c_1, c_2, hvk, ↓reduceIte]) (by first | rfl | simp only [oSpR, oSpS, oSpF, oSpP, c_1, c_2, hvk, ↓reduceIte])) hS.2.2 d_Of_spend_82
      · refine lv_iload hx hb d_Of_spend_47 (lv_at hl 0 rfl) ?_
        exact z_iret (v := saV (pv i).1 (pv i).2.1 (pv i).2.2.2.1 (pv i).2.2.2.2 g td) (tys := none) S hr hlk rfl (OF.mk hP hD hS (by first | rfl | simp only [oSpR, oSpS, oSpF, oSpP, c_1, c_2, hvk, ↓reduceIte]) (by first | rfl | simp only [oSpR, oSpS, oSpF, oSpP, c_1, c_2, hvk, ↓reduceIte])) hS.2.2 d_Of_spend_49
    · refine lv_bipush (v := (-2)) hx hb d_Of_spend_22 (by decide) ?_
      exact z_iret (v := (-2)) (tys := none) S hr hlk rfl (OF.mk hP hD hS (by first | rfl | simp only [oSpR, oSpS, oSpF, oSpP, c_1, hvk, ↓reduceIte]) (by first | rfl | simp only [oSpR, oSpS, oSpF, oSpP, c_1, hvk, ↓reduceIte])) hS.2.2 d_Of_spend_24
end
section
def lapP (td : Int32) (gn : Nat → Bool) (pv : Nat → Pv) : Nat → Nat → Pv
  | 0 => pv
  | j + 1 => if gn j = true then lapP td gn pv j else if isD (lapP td gn pv j j).1 = 0 then lapP td gn pv j else if ovV (lapP td gn pv j j).1 (lapP td gn pv j j).2.1 td = 0 then lapP td gn pv j else va_up (lapP td gn pv j) j ((lapP td gn pv j j).1, (lapP td gn pv j j).2.1, (lapP td gn pv j j).2.2.1, 0, (lapP td gn pv j j).2.2.2.2)
def lapS (td : Int32) (gn : Nat → Bool) (pv : Nat → Pv) : Nat → Int32
  | 0 => 0
  | j + 1 => if gn j = true then lapS td gn pv j else if isD (lapP td gn pv j j).1 = 0 then lapS td gn pv j else if ovV (lapP td gn pv j j).1 (lapP td gn pv j j).2.1 td = 0 then lapS td gn pv j else lapS td gn pv j + (lapP td gn pv j j).2.2.2.1
theorem lapP_kind {td : Int32} {gn : Nat → Bool} {pv : Nat → Pv} (j i : Nat) : (lapP td gn pv j i).1 = (pv i).1 := by
  induction j with
  | zero => rfl
  | succ j ih =>
    unfold lapP
    split
    · exact ih
    · split
      · exact ih
      · split
        · exact ih
        · by_cases h : i = j
          · subst h; rw [va_up_self]; exact ih
          · rw [va_up_ne _ _ h]; exact ih
set_option maxHeartbeats 2000000 in
theorem c_Of_lapse (l : Launch) (G : ZG) (sz : Nat) (x ra : Nat) (td iss sp fe la : Int32) (pf : Nat → Option Nat) (n : Nat) (gn : Nat → Bool) (ad : Nat → Nat) (pv : Nat → Pv) (hok : okP n gn pf ad pv) : ZK l G y_Of_lapse 2 [.ref x] (OW G sz (wo G x ra (nI n) td iss sp fe la pf n ad pv)) (ZA (some (.int (lapS td gn pv n))) (OF G sz (wo G x ra (nI n) td iss sp fe la pf n ad pv) (wo G x ra (nI n) td iss sp fe (la + lapS td gn pv n) pf n ad (lapP td gn pv n)))) 0 0 (va_A (wo G x ra (nI n) td iss sp fe la pf n ad pv) sz) := by
  refine ZK.ofBody (cc := b_Of_lapse) (maxL := 5) (ret := (some FieldType.int)) kg_371 (by decide) (by decide) (Nat.le_of_ble_eq_true rfl) ?_
  intro p e s m below meth c S hr hlk hnm hp ls hl
  obtain ⟨⟨hx, hb, hml, hown, hts⟩, hK⟩ := id S
  obtain ⟨hsz, hP, hD0⟩ := hp
  obtain ⟨hn40, hkv, hpf⟩ := id hok
  subst hsz
  have hD := hD0.self (sz := s.heap.size)
  have hS : va_S (va_A (wo G x ra (nI n) td iss sp fe la pf n ad pv) s.heap.size) s.heap s.heap [] := va_S.rf
  have hl : lv_has ls 5 [(0, .ref x)] := hl
  have hkj : ∀ j i : Nat, i < n → (lapP td gn pv j i).1 < 8 := fun j i hi => by rw [lapP_kind]; exact hkv i hi
  have loop : ∀ (f j : Nat), j ≤ n → n + 1 ≤ j + f → ∀ (H : Heap) (locs : List Loc), va_P G.1 classes (wo G x ra (nI n) td iss sp fe la pf n ad (lapP td gn pv j)) H → va_D (va_A (wo G x ra (nI n) td iss sp fe la pf n ad pv) s.heap.size) (wo G x ra (nI n) td iss sp fe la pf n ad (lapP td gn pv j)) → va_S (va_A (wo G x ra (nI n) td iss sp fe la pf n ad pv) s.heap.size) s.heap H locs → ∀ ls : Array Slot, lv_has ls 5 [(2, .int (nI j)), (1, .int (lapS td gn pv j)), (0, .ref x)] → W p l e (zr 2 0 0) s m [.ref x].toArray below meth c H locs 0 0 (MQ below (ZQ (ZA (some (.int (lapS td gn pv n))) (OF G s.heap.size (wo G x ra (nI n) td iss sp fe la pf n ad pv) (wo G x ra (nI n) td iss sp fe (la + lapS td gn pv n) pf n ad (lapP td gn pv n))))) [.ref x].toArray s 0 0 (va_A (wo G x ra (nI n) td iss sp fe la pf n ad pv) s.heap.size)) (F0 m 4 ls []) := by
    intro f
    induction f with
    | zero => intro j h1 h2; omega
    | succ f ih =>
      intro j hjn hjf H locs hP hD hS ls hl
      have hcj : (nI j).toNatClampNeg = j := nI_clamp (by omega)
      refine lv_iload_n hx hb d_Of_lapse_4 rfl (lv_at hl 0 rfl) ?_
      refine lv_aload_n hx hb d_Of_lapse_5 rfl (lv_at hl 2 rfl) ?_
      refine z_get S zo_cls zo_in (hP 0 _ rfl) 1 (by decide) kg_22 (Or.inl rfl) rfl d_Of_lapse_6 ?_
      refine lv_icmp_ge (tgt := 70) hx hb d_Of_lapse_9 (by decide) (fun c_1 => ?_) (fun c_1 => ?_)
      · have hjn2 : j = n := by have := (nI_leI (by omega) (by omega)).mp c_1; omega
        refine lv_aload_n hx hb d_Of_lapse_70 rfl (lv_at hl 2 rfl) ?_
        refine lv_dup hx hb d_Of_lapse_71 rfl ?_
        refine z_get S zo_cls zo_in (hP 0 _ rfl) 6 (by decide) kg_27 (Or.inl rfl) rfl d_Of_lapse_72 ?_
        refine lv_iload_n hx hb d_Of_lapse_75 rfl (lv_at hl 1 rfl) ?_
        refine lv_iadd hx hb d_Of_lapse_76 ?_
        refine z_put (x := la + (lapS td gn pv j)) S zo_cls zo_in zo_ty zo_nm hP hD hS 0 rfl 6 (by decide) kg_27 (Or.inl rfl) rfl pI (Nat.le_of_ble_eq_true rfl) d_Of_lapse_77 (fun H locs hP hD hS => ?_)
        have hP : va_P G.1 classes (wo G x ra (nI n) td iss sp fe (la + (lapS td gn pv j)) pf n ad (lapP td gn pv j)) H := hP
        have hD : va_D (va_A (wo G x ra (nI n) td iss sp fe la pf n ad pv) s.heap.size) (wo G x ra (nI n) td iss sp fe (la + (lapS td gn pv j)) pf n ad (lapP td gn pv j)) := hD
        refine lv_iload_n hx hb d_Of_lapse_80 rfl (lv_at hl 1 rfl) ?_
        exact z_iret (v := lapS td gn pv n) (tys := none) S hr hlk (by rw [hjn2]) (OF.mk hP hD hS rfl (by rw [hjn2])) hS.2.2 d_Of_lapse_81
      · have hlt : j < n := by
          rcases Nat.lt_or_ge j n with q | q
          · exact q
          · exact absurd (nI_le q (by omega)) c_1
        cases hg : gn j with
        | true =>
          have hpj : pf (nI j).toNatClampNeg = none := by rw [hcj, hpf j hlt, hg]; rfl
          refine lv_aload_n hx hb d_Of_lapse_12 rfl (lv_at hl 2 rfl) ?_
          refine z_get S zo_cls zo_in (hP 0 _ rfl) 0 (by decide) kg_21 (Or.inl rfl) rfl d_Of_lapse_13 ?_
          refine lv_iload_n hx hb d_Of_lapse_16 rfl (lv_at hl 0 rfl) ?_
          refine va_aldq hx hb hK.1 hP 1 2 rfl rfl (vp_in_nI (by omega) (by decide)) d_Of_lapse_17 ?_
          rw [hpj]
          refine lv_astore_nN (lv' := [(3, .null), (2, .int (nI j)), (1, .int (lapS td gn pv j)), (0, .ref x)]) hx hb d_Of_lapse_18 rfl hl (by decide) rfl (fun ls hl => ?_)
          refine lv_aload_nN hx hb d_Of_lapse_19 rfl (lv_at hl 0 rfl) ?_
          refine lv_instN hx hb d_Of_lapse_20 ?_
          refine lv_if_ne (tgt := 29) hx hb d_Of_lapse_23 (by decide) (fun c_2 => ?_) (fun c_2 => ?_)
          · exact absurd rfl c_2
          · refine lv_goto (tgt := 64) hx hb d_Of_lapse_26 (by decide) ?_
            refine lv_iinc (v := (nI j) + 1) (lv' := [(2, .int ((nI j) + 1)), (3, .null), (1, .int (lapS td gn pv j)), (0, .ref x)]) hx hb d_Of_lapse_64 hl (k := 1) rfl rfl (by decide) rfl (fun ls hl => ?_)
            refine lv_goto (tgt := 4) hx hb d_Of_lapse_67 (by decide) ?_
            have h9 := lv_sub (l' := [(2, .int ((nI j) + 1)), (1, .int (lapS td gn pv j)), (0, .ref x)]) hl [0, 2, 3] rfl
            rw [nI_1 j, show (lapS td gn pv j) = lapS td gn pv (j + 1) from by simp [lapS, hg, c_2]] at h9
            have e9 : lapP td gn pv (j + 1) = lapP td gn pv j := by simp [lapP, hg, c_2]
            exact ih (j + 1) hlt (by omega) _ _ (by rw [e9]; exact hP) (by rw [e9]; exact hD) hS ls h9
        | false =>
          have hpj : pf (nI j).toNatClampNeg = some (ad j) := by rw [hcj, hpf j hlt, hg]; rfl
          refine lv_aload_n hx hb d_Of_lapse_12 rfl (lv_at hl 2 rfl) ?_
          refine z_get S zo_cls zo_in (hP 0 _ rfl) 0 (by decide) kg_21 (Or.inl rfl) rfl d_Of_lapse_13 ?_
          refine lv_iload_n hx hb d_Of_lapse_16 rfl (lv_at hl 0 rfl) ?_
          refine va_aldq hx hb hK.1 hP 1 2 rfl rfl (vp_in_nI (by omega) (by decide)) d_Of_lapse_17 ?_
          rw [hpj]
          refine lv_astore_n (lv' := [(3, .ref (ad j)), (2, .int (nI j)), (1, .int (lapS td gn pv j)), (0, .ref x)]) hx hb d_Of_lapse_18 rfl hl (by decide) rfl (fun ls hl => ?_)
          refine lv_aload_n hx hb d_Of_lapse_19 rfl (lv_at hl 0 rfl) ?_
          refine i_dated S kg_356 (hkj j j hlt) (hP (j + 2) _ (pl_get hlt)) d_Of_lapse_20 ?_
          refine lv_if_ne (tgt := 29) hx hb d_Of_lapse_23 (by decide) (fun c_3 => ?_) (fun c_3 => ?_)
          · have hkd := isD_yes (hkj j j hlt) c_3
            refine lv_aload_n hx hb d_Of_lapse_29 rfl (lv_at hl 0 rfl) ?_
            refine k_dated S kg_356 hkd (hP (j + 2) _ (pl_get hlt)) d_Of_lapse_30 ?_
            refine lv_astore (lv' := [(4, .ref (ad j)), (3, .ref (ad j)), (2, .int (nI j)), (1, .int (lapS td gn pv j)), (0, .ref x)]) hx hb d_Of_lapse_33 hl (by decide) rfl (fun ls hl => ?_)
            refine lv_aload hx hb d_Of_lapse_35 (lv_at hl 0 rfl) ?_
            refine lv_aload_n hx hb d_Of_lapse_37 rfl (lv_at hl 4 rfl) ?_
            refine z_get S zo_cls zo_in (hP 0 _ rfl) 2 (by decide) kg_23 (Or.inl rfl) rfl d_Of_lapse_38 ?_
            refine f_isOver S kg_373 hkd (hP (j + 2) _ (pl_get hlt)) hl.1 (Nat.le_of_ble_eq_true rfl) ⟨(Nat.le_of_ble_eq_true rfl), (Nat.le_of_ble_eq_true rfl)⟩ ⟨Nat.zero_le _, Nat.zero_le _⟩ d_Of_lapse_41 ?_
            refine lv_if_ne (tgt := 52) hx hb d_Of_lapse_46 (by decide) (fun c_4 => ?_) (fun c_4 => ?_)
            · refine lv_iload_n hx hb d_Of_lapse_52 rfl (lv_at hl 3 rfl) ?_
              refine lv_aload_n hx hb d_Of_lapse_53 rfl (lv_at hl 1 rfl) ?_
              refine z_get S (zk_cls (hkj j j hlt)) (zk_in (hkj j j hlt)) (hP (j + 2) _ (pl_get hlt)) 3 (z4 (hkj j j hlt) (by decide)) kg_71 (Or.inl rfl) rfl d_Of_lapse_54 ?_
              refine lv_iadd hx hb d_Of_lapse_57 ?_
              refine lv_istore_n (lv' := [(1, .int ((lapS td gn pv j) + ((lapP td gn pv j j).2.2.2.1))), (4, .ref (ad j)), (3, .ref (ad j)), (2, .int (nI j)), (0, .ref x)]) hx hb d_Of_lapse_58 rfl hl (by decide) rfl (fun ls hl => ?_)
              refine lv_aload_n hx hb d_Of_lapse_59 rfl (lv_at hl 2 rfl) ?_
              refine lv_iconst (v := 0) hx hb d_Of_lapse_60 (by decide) ?_
              refine z_put (x := 0) S (zk_cls (hkj j j hlt)) (zk_in (hkj j j hlt)) (zk_ty (hkj j j hlt)) (zk_nm (hkj j j hlt)) hP hD hS (j + 2) (pl_get hlt) 3 (z4 (hkj j j hlt) (by decide)) kg_71 (Or.inl rfl) rfl pI (Nat.le_of_ble_eq_true rfl) d_Of_lapse_61 (fun H locs hP hD hS => ?_)
              have hP : va_P G.1 classes (wo G x ra (nI n) td iss sp fe la pf n ad (va_up (lapP td gn pv j) j ((lapP td gn pv j j).1, (lapP td gn pv j j).2.1, (lapP td gn pv j j).2.2.1, 0, (lapP td gn pv j j).2.2.2.2))) H := wo_set (w := ((lapP td gn pv j j).1, (lapP td gn pv j j).2.1, (lapP td gn pv j j).2.2.1, 0, (lapP td gn pv j j).2.2.2.2)) hP
              have hD : va_D (va_A (wo G x ra (nI n) td iss sp fe la pf n ad pv) s.heap.size) (wo G x ra (nI n) td iss sp fe la pf n ad (va_up (lapP td gn pv j) j ((lapP td gn pv j j).1, (lapP td gn pv j j).2.1, (lapP td gn pv j j).2.2.1, 0, (lapP td gn pv j j).2.2.2.2))) := wo_setD (w := ((lapP td gn pv j j).1, (lapP td gn pv j j).2.1, (lapP td gn pv j j).2.2.1, 0, (lapP td gn pv j j).2.2.2.2)) hD
              refine lv_iinc (v := (nI j) + 1) (lv' := [(2, .int ((nI j) + 1)), (1, .int ((lapS td gn pv j) + ((lapP td gn pv j j).2.2.2.1))), (4, .ref (ad j)), (3, .ref (ad j)), (0, .ref x)]) hx hb d_Of_lapse_64 hl (k := 3) rfl rfl (by decide) rfl (fun ls hl => ?_)
              refine lv_goto (tgt := 4) hx hb d_Of_lapse_67 (by decide) ?_
              have h9 := lv_sub (l' := [(2, .int ((nI j) + 1)), (1, .int ((lapS td gn pv j) + ((lapP td gn pv j j).2.2.2.1))), (0, .ref x)]) hl [0, 1, 4] rfl
              rw [nI_1 j, show ((lapS td gn pv j) + ((lapP td gn pv j j).2.2.2.1)) = lapS td gn pv (j + 1) from by simp [lapS, hg, c_3, c_4]] at h9
              have e9 : lapP td gn pv (j + 1) = (va_up (lapP td gn pv j) j ((lapP td gn pv j j).1, (lapP td gn pv j j).2.1, (lapP td gn pv j j).2.2.1, 0, (lapP td gn pv j j).2.2.2.2)) := by simp [lapP, hg, c_3, c_4]
              exact ih (j + 1) hlt (by omega) _ _ (by rw [e9]; exact hP) (by rw [e9]; exact hD) hS ls h9
            · refine lv_goto (tgt := 64) hx hb d_Of_lapse_49 (by decide) ?_
              refine lv_iinc (v := (nI j) + 1) (lv' := [(2, .int ((nI j) + 1)), (4, .ref (ad j)), (3, .ref (ad j)), (1, .int (lapS td gn pv j)), (0, .ref x)]) hx hb d_Of_lapse_64 hl (k := 2) rfl rfl (by decide) rfl (fun ls hl => ?_)
              refine lv_goto (tgt := 4) hx hb d_Of_lapse_67 (by decide) ?_
              have h9 := lv_sub (l' := [(2, .int ((nI j) + 1)), (1, .int (lapS td gn pv j)), (0, .ref x)]) hl [0, 3, 4] rfl
              rw [nI_1 j, show (lapS td gn pv j) = lapS td gn pv (j + 1) from by simp [lapS, hg, c_3, c_4]] at h9
              have e9 : lapP td gn pv (j + 1) = lapP td gn pv j := by simp [lapP, hg, c_3, c_4]
              exact ih (j + 1) hlt (by omega) _ _ (by rw [e9]; exact hP) (by rw [e9]; exact hD) hS ls h9
          · refine lv_goto (tgt := 64) hx hb d_Of_lapse_26 (by decide) ?_
            refine lv_iinc (v := (nI j) + 1) (lv' := [(2, .int ((nI j) + 1)), (3, .ref (ad j)), (1, .int (lapS td gn pv j)), (0, .ref x)]) hx hb d_Of_lapse_64 hl (k := 1) rfl rfl (by decide) rfl (fun ls hl => ?_)
            refine lv_goto (tgt := 4) hx hb d_Of_lapse_67 (by decide) ?_
            have h9 := lv_sub (l' := [(2, .int ((nI j) + 1)), (1, .int (lapS td gn pv j)), (0, .ref x)]) hl [0, 2, 3] rfl
            rw [nI_1 j, show (lapS td gn pv j) = lapS td gn pv (j + 1) from by simp [lapS, hg, c_3]] at h9
            have e9 : lapP td gn pv (j + 1) = lapP td gn pv j := by simp [lapP, hg, c_3]
            exact ih (j + 1) hlt (by omega) _ _ (by rw [e9]; exact hP) (by rw [e9]; exact hD) hS ls h9
  refine lv_iconst (v := 0) hx hb d_Of_lapse_0 (by decide) ?_
  refine lv_istore_n (lv' := [(1, .int 0), (0, .ref x)]) hx hb d_Of_lapse_1 rfl hl (by decide) rfl (fun ls hl => ?_)
  refine lv_iconst (v := 0) hx hb d_Of_lapse_2 (by decide) ?_
  refine lv_istore_n (lv' := [(2, .int 0), (1, .int 0), (0, .ref x)]) hx hb d_Of_lapse_3 rfl hl (by decide) rfl (fun ls hl => ?_)
  exact loop (n + 1) 0 (Nat.zero_le n) (by omega) _ _ hP hD hS ls (lv_sub hl [0, 1, 2] rfl)
end
section
def oMgR (n : Nat) (gn : Nat → Bool) (pv : Nat → Pv) (v w : Int32) : Int32 := match lkI n gn v with | none => -1 | some i => match lkI n gn w with | none => -1 | some j => if v = w then -2 else if nI (pv i).1 = nI (pv j).1 then (if (pv i).2.2.1 + (pv j).2.2.1 ≤ 100000 then (pv i).2.2.1 + (pv j).2.2.1 else -4) else -3
def oMgP (n : Nat) (gn : Nat → Bool) (pv : Nat → Pv) (v w : Int32) : Nat → Pv := match lkI n gn v with | none => pv | some i => match lkI n gn w with | none => pv | some j => if v = w then pv else if nI (pv i).1 = nI (pv j).1 then (if (pv i).2.2.1 + (pv j).2.2.1 ≤ 100000 then va_up pv i ((pv i).1, (pv i).2.1, (pv i).2.2.1 + (pv j).2.2.1, (pv i).2.2.2.1 + (pv j).2.2.2.1, tkX (pv i).1 (pv i).2.2.2.2 (pv j).2.2.2.2) else pv) else pv
def oMgG (n : Nat) (gn : Nat → Bool) (pv : Nat → Pv) (v w : Int32) : Nat → Bool := match lkI n gn v with | none => gn | some i => match lkI n gn w with | none => gn | some j => if v = w then gn else if nI (pv i).1 = nI (pv j).1 then (if (pv i).2.2.1 + (pv j).2.2.1 ≤ 100000 then va_up gn j true else gn) else gn
def oMgF (n : Nat) (gn : Nat → Bool) (pv : Nat → Pv) (v w : Int32) (pf : Nat → Option Nat) : Nat → Option Nat := match lkI n gn v with | none => pf | some i => match lkI n gn w with | none => pf | some j => if v = w then pf else if nI (pv i).1 = nI (pv j).1 then (if (pv i).2.2.1 + (pv j).2.2.1 ≤ 100000 then va_up pf j none else pf) else pf
set_option maxHeartbeats 2000000 in
theorem c_Of_merge (l : Launch) (G : ZG) (sz : Nat) (x ra : Nat) (td iss sp fe la : Int32) (pf : Nat → Option Nat) (n : Nat) (gn : Nat → Bool) (ad : Nat → Nat) (pv : Nat → Pv) (v w : Int32) (hok : okP n gn pf ad pv) : ZK l G y_Of_merge 3 [.ref x, .int v, .int w] (OW G sz (wo G x ra (nI n) td iss sp fe la pf n ad pv)) (ZA (some (.int (oMgR n gn pv v w))) (OF G sz (wo G x ra (nI n) td iss sp fe la pf n ad pv) (wo G x ra (nI n) td iss sp fe la (oMgF n gn pv v w pf) n ad (oMgP n gn pv v w)))) 0 0 (va_A (wo G x ra (nI n) td iss sp fe la pf n ad pv) sz) := by
  refine ZK.ofBody (cc := b_Of_merge) (maxL := 5) (ret := (some FieldType.int)) kg_377 (by decide) (by decide) (Nat.le_of_ble_eq_true rfl) ?_
  intro p e s m below meth c S hr hlk hnm hp ls hl
  obtain ⟨⟨hx, hb, hml, hown, hts⟩, hK⟩ := id S
  obtain ⟨hsz, hP, hD0⟩ := hp
  obtain ⟨hn40, hkv, hpf⟩ := id hok
  subst hsz
  have hD := hD0.self (sz := s.heap.size)
  have hS : va_S (va_A (wo G x ra (nI n) td iss sp fe la pf n ad pv) s.heap.size) s.heap s.heap [] := va_S.rf
  have hl : lv_has ls 5 [(0, .ref x), (1, .int v), (2, .int w)] := hl
  rcases lk_cases hn40 gn v with hvk | ⟨i, hi, hvi, hgi, hvk⟩
  · rcases lk_cases hn40 gn w with hwk | ⟨j, hj, hvj, hgj, hwk⟩
    · refine lv_aload_n hx hb d_Of_merge_0 rfl (lv_at hl 0 rfl) ?_
      refine lv_iload_n hx hb d_Of_merge_1 rfl (lv_at hl 1 rfl) ?_
      refine z_q (z_D (n := 1) (C := "VoucherOffice") (As := [.int v]) (rest := []) S (c_Of_at_none l G s.heap.size x ra td iss sp fe la pf n gn ad pv v hok hvk) kg_173 kg_175 kp_Of_at kg_176 ok_Of_at pd_Of_at (zrec hK (hP 0 _ rfl) zo_cls) ⟨rfl, hP, hD0⟩ rfl hl.1 rfl (Nat.le_of_ble_eq_true rfl) ⟨(Nat.le_of_ble_eq_true rfl), (Nat.le_of_ble_eq_true rfl)⟩ ⟨Nat.zero_le _, Nat.zero_le _⟩ d_Of_merge_2) ?_
      refine lv_astore_nN (lv' := [(3, .null), (0, .ref x), (1, .int v), (2, .int w)]) hx hb d_Of_merge_5 rfl hl (by decide) rfl (fun ls hl => ?_)
      refine lv_aload_n hx hb d_Of_merge_6 rfl (lv_at hl 1 rfl) ?_
      refine lv_iload_n hx hb d_Of_merge_7 rfl (lv_at hl 3 rfl) ?_
      refine z_q (z_D (n := 1) (C := "VoucherOffice") (As := [.int w]) (rest := []) S (c_Of_at_none l G s.heap.size x ra td iss sp fe la pf n gn ad pv w hok hwk) kg_173 kg_175 kp_Of_at kg_176 ok_Of_at pd_Of_at (zrec hK (hP 0 _ rfl) zo_cls) ⟨rfl, hP, hD0⟩ rfl hl.1 rfl (Nat.le_of_ble_eq_true rfl) ⟨(Nat.le_of_ble_eq_true rfl), (Nat.le_of_ble_eq_true rfl)⟩ ⟨Nat.zero_le _, Nat.zero_le _⟩ d_Of_merge_8) ?_
      refine lv_astoreN (lv' := [(4, .null), (3, .null), (0, .ref x), (1, .int v), (2, .int w)]) hx hb d_Of_merge_11 hl (by decide) rfl (fun ls hl => ?_)
      refine lv_aload_nN hx hb d_Of_merge_13 rfl (lv_at hl 1 rfl) ?_
      refine lv_ifnullN (tgt := 22) hx hb d_Of_merge_14 (by decide) ?_
      refine lv_iconst (v := (-1)) hx hb d_Of_merge_22 (by decide) ?_
      exact z_iret (v := (-1)) (tys := none) S hr hlk rfl (OF.mk hP hD hS (by first | rfl | simp only [oMgR, oMgP, oMgF, hvk, hwk, ↓reduceIte]) (by first | rfl | simp only [oMgR, oMgP, oMgF, hvk, hwk, ↓reduceIte])) hS.2.2 d_Of_merge_23
    · refine lv_aload_n hx hb d_Of_merge_0 rfl (lv_at hl 0 rfl) ?_
      refine lv_iload_n hx hb d_Of_merge_1 rfl (lv_at hl 1 rfl) ?_
      refine z_q (z_D (n := 1) (C := "VoucherOffice") (As := [.int v]) (rest := []) S (c_Of_at_none l G s.heap.size x ra td iss sp fe la pf n gn ad pv v hok hvk) kg_173 kg_175 kp_Of_at kg_176 ok_Of_at pd_Of_at (zrec hK (hP 0 _ rfl) zo_cls) ⟨rfl, hP, hD0⟩ rfl hl.1 rfl (Nat.le_of_ble_eq_true rfl) ⟨(Nat.le_of_ble_eq_true rfl), (Nat.le_of_ble_eq_true rfl)⟩ ⟨Nat.zero_le _, Nat.zero_le _⟩ d_Of_merge_2) ?_
      refine lv_astore_nN (lv' := [(3, .null), (0, .ref x), (1, .int v), (2, .int w)]) hx hb d_Of_merge_5 rfl hl (by decide) rfl (fun ls hl => ?_)
      refine lv_aload_n hx hb d_Of_merge_6 rfl (lv_at hl 1 rfl) ?_
      refine lv_iload_n hx hb d_Of_merge_7 rfl (lv_at hl 3 rfl) ?_
      refine z_q (z_D (n := 1) (C := "VoucherOffice") (As := [.int w]) (rest := []) S (c_Of_at_some l G s.heap.size x ra td iss sp fe la pf n gn ad pv w hok hwk) kg_173 kg_175 kp_Of_at kg_176 ok_Of_at pd_Of_at (zrec hK (hP 0 _ rfl) zo_cls) ⟨rfl, hP, hD0⟩ rfl hl.1 rfl (Nat.le_of_ble_eq_true rfl) ⟨(Nat.le_of_ble_eq_true rfl), (Nat.le_of_ble_eq_true rfl)⟩ ⟨Nat.zero_le _, Nat.zero_le _⟩ d_Of_merge_8) ?_
      refine lv_astore (lv' := [(4, .ref (ad j)), (3, .null), (0, .ref x), (1, .int v), (2, .int w)]) hx hb d_Of_merge_11 hl (by decide) rfl (fun ls hl => ?_)
      refine lv_aload_nN hx hb d_Of_merge_13 rfl (lv_at hl 1 rfl) ?_
      refine lv_ifnullN (tgt := 22) hx hb d_Of_merge_14 (by decide) ?_
      refine lv_iconst (v := (-1)) hx hb d_Of_merge_22 (by decide) ?_
      exact z_iret (v := (-1)) (tys := none) S hr hlk rfl (OF.mk hP hD hS (by first | rfl | simp only [oMgR, oMgP, oMgF, hvk, hwk, ↓reduceIte]) (by first | rfl | simp only [oMgR, oMgP, oMgF, hvk, hwk, ↓reduceIte])) hS.2.2 d_Of_merge_23
  · rcases lk_cases hn40 gn w with hwk | ⟨j, hj, hvj, hgj, hwk⟩
    · refine lv_aload_n hx hb d_Of_merge_0 rfl (lv_at hl 0 rfl) ?_
      refine lv_iload_n hx hb d_Of_merge_1 rfl (lv_at hl 1 rfl) ?_
      refine z_q (z_D (n := 1) (C := "VoucherOffice") (As := [.int v]) (rest := []) S (c_Of_at_some l G s.heap.size x ra td iss sp fe la pf n gn ad pv v hok hvk) kg_173 kg_175 kp_Of_at kg_176 ok_Of_at pd_Of_at (zrec hK (hP 0 _ rfl) zo_cls) ⟨rfl, hP, hD0⟩ rfl hl.1 rfl (Nat.le_of_ble_eq_true rfl) ⟨(Nat.le_of_ble_eq_true rfl), (Nat.le_of_ble_eq_true rfl)⟩ ⟨Nat.zero_le _, Nat.zero_le _⟩ d_Of_merge_2) ?_
      refine lv_astore_n (lv' := [(3, .ref (ad i)), (0, .ref x), (1, .int v), (2, .int w)]) hx hb d_Of_merge_5 rfl hl (by decide) rfl (fun ls hl => ?_)
      refine lv_aload_n hx hb d_Of_merge_6 rfl (lv_at hl 1 rfl) ?_
      refine lv_iload_n hx hb d_Of_merge_7 rfl (lv_at hl 3 rfl) ?_
      refine z_q (z_D (n := 1) (C := "VoucherOffice") (As := [.int w]) (rest := []) S (c_Of_at_none l G s.heap.size x ra td iss sp fe la pf n gn ad pv w hok hwk) kg_173 kg_175 kp_Of_at kg_176 ok_Of_at pd_Of_at (zrec hK (hP 0 _ rfl) zo_cls) ⟨rfl, hP, hD0⟩ rfl hl.1 rfl (Nat.le_of_ble_eq_true rfl) ⟨(Nat.le_of_ble_eq_true rfl), (Nat.le_of_ble_eq_true rfl)⟩ ⟨Nat.zero_le _, Nat.zero_le _⟩ d_Of_merge_8) ?_
      refine lv_astoreN (lv' := [(4, .null), (3, .ref (ad i)), (0, .ref x), (1, .int v), (2, .int w)]) hx hb d_Of_merge_11 hl (by decide) rfl (fun ls hl => ?_)
      refine lv_aload_n hx hb d_Of_merge_13 rfl (lv_at hl 1 rfl) ?_
      refine lv_ifnull hx hb d_Of_merge_14 ?_
      refine lv_aloadN hx hb d_Of_merge_17 (lv_at hl 0 rfl) ?_
      refine lv_ifnonnullN hx hb d_Of_merge_19 ?_
      refine lv_iconst (v := (-1)) hx hb d_Of_merge_22 (by decide) ?_
      exact z_iret (v := (-1)) (tys := none) S hr hlk rfl (OF.mk hP hD hS (by first | rfl | simp only [oMgR, oMgP, oMgF, hvk, hwk, ↓reduceIte]) (by first | rfl | simp only [oMgR, oMgP, oMgF, hvk, hwk, ↓reduceIte])) hS.2.2 d_Of_merge_23
    · refine lv_aload_n hx hb d_Of_merge_0 rfl (lv_at hl 0 rfl) ?_
      refine lv_iload_n hx hb d_Of_merge_1 rfl (lv_at hl 1 rfl) ?_
      refine z_q (z_D (n := 1) (C := "VoucherOffice") (As := [.int v]) (rest := []) S (c_Of_at_some l G s.heap.size x ra td iss sp fe la pf n gn ad pv v hok hvk) kg_173 kg_175 kp_Of_at kg_176 ok_Of_at pd_Of_at (zrec hK (hP 0 _ rfl) zo_cls) ⟨rfl, hP, hD0⟩ rfl hl.1 rfl (Nat.le_of_ble_eq_true rfl) ⟨(Nat.le_of_ble_eq_true rfl), (Nat.le_of_ble_eq_true rfl)⟩ ⟨Nat.zero_le _, Nat.zero_le _⟩ d_Of_merge_2) ?_
      refine lv_astore_n (lv' := [(3, .ref (ad i)), (0, .ref x), (1, .int v), (2, .int w)]) hx hb d_Of_merge_5 rfl hl (by decide) rfl (fun ls hl => ?_)
      refine lv_aload_n hx hb d_Of_merge_6 rfl (lv_at hl 1 rfl) ?_
      refine lv_iload_n hx hb d_Of_merge_7 rfl (lv_at hl 3 rfl) ?_
      refine z_q (z_D (n := 1) (C := "VoucherOffice") (As := [.int w]) (rest := []) S (c_Of_at_some l G s.heap.size x ra td iss sp fe la pf n gn ad pv w hok hwk) kg_173 kg_175 kp_Of_at kg_176 ok_Of_at pd_Of_at (zrec hK (hP 0 _ rfl) zo_cls) ⟨rfl, hP, hD0⟩ rfl hl.1 rfl (Nat.le_of_ble_eq_true rfl) ⟨(Nat.le_of_ble_eq_true rfl), (Nat.le_of_ble_eq_true rfl)⟩ ⟨Nat.zero_le _, Nat.zero_le _⟩ d_Of_merge_8) ?_
      refine lv_astore (lv' := [(4, .ref (ad j)), (3, .ref (ad i)), (0, .ref x), (1, .int v), (2, .int w)]) hx hb d_Of_merge_11 hl (by decide) rfl (fun ls hl => ?_)
      refine lv_aload_n hx hb d_Of_merge_13 rfl (lv_at hl 1 rfl) ?_
      refine lv_ifnull hx hb d_Of_merge_14 ?_
      refine lv_aload hx hb d_Of_merge_17 (lv_at hl 0 rfl) ?_
      refine lv_ifnonnull (tgt := 24) hx hb d_Of_merge_19 (by decide) ?_
      refine lv_iload_n hx hb d_Of_merge_24 rfl (lv_at hl 3 rfl) ?_
      refine lv_iload_n hx hb d_Of_merge_25 rfl (lv_at hl 4 rfl) ?_
      refine lv_icmp_ne (tgt := 32) hx hb d_Of_merge_26 (by decide) (fun c_1 => ?_) (fun c_1 => ?_)
      · refine lv_aload_n hx hb d_Of_merge_32 rfl (lv_at hl 1 rfl) ?_
        refine z_get S (zk_cls (hkv i hi)) (zk_in (hkv i hi)) (hP (i + 2) _ (pl_get hi)) 0 (z4 (hkv i hi) (by decide)) kg_61 (Or.inl rfl) rfl d_Of_merge_33 ?_
        refine lv_aload hx hb d_Of_merge_36 (lv_at hl 0 rfl) ?_
        refine z_get S (zk_cls (hkv j hj)) (zk_in (hkv j hj)) (hP (j + 2) _ (pl_get hj)) 0 (z4 (hkv j hj) (by decide)) kg_61 (Or.inl rfl) rfl d_Of_merge_38 ?_
        refine lv_icmp_eq (tgt := 47) hx hb d_Of_merge_41 (by decide) (fun c_2 => ?_) (fun c_2 => ?_)
        · refine lv_aload_n hx hb d_Of_merge_47 rfl (lv_at hl 1 rfl) ?_
          refine z_get S (zk_cls (hkv i hi)) (zk_in (hkv i hi)) (hP (i + 2) _ (pl_get hi)) 2 (z4 (hkv i hi) (by decide)) kg_69 (Or.inl rfl) rfl d_Of_merge_48 ?_
          refine lv_aload hx hb d_Of_merge_51 (lv_at hl 0 rfl) ?_
          refine z_get S (zk_cls (hkv j hj)) (zk_in (hkv j hj)) (hP (j + 2) _ (pl_get hj)) 2 (z4 (hkv j hj) (by decide)) kg_69 (Or.inl rfl) rfl d_Of_merge_53 ?_
          refine lv_iadd hx hb d_Of_merge_56 ?_
          refine lv_ldc (v := 100000) hx hb hown (hts _ kg_50) d_Of_merge_57 ?_
          refine lv_icmp_le (tgt := 65) hx hb d_Of_merge_59 (by decide) (fun c_3 => ?_) (fun c_3 => ?_)
          · refine lv_aload_n hx hb d_Of_merge_65 rfl (lv_at hl 1 rfl) ?_
            refine lv_aload hx hb d_Of_merge_66 (lv_at hl 0 rfl) ?_
            have hkk : (pv i).1 = (pv j).1 := nI_kind (hkv i hi) (hkv j hj) c_2
            have hji : j ≠ i := fun e9 => c_1 (by rw [hvi, hvj, e9])
            have hba : ad j ≠ ad i := pl_ne hD hi hj hji
            have hatb : va_at G.1 classes (ad j, pc5 (pv i).1 (nI (pv j).1) (pv j).2.1 (pv j).2.2.1 (pv j).2.2.2.1 (pv j).2.2.2.2) s.heap := by rw [hkk]; exact hP (j + 2) _ (pl_get hj)
            refine v_take S kg_378 (hkv i hi) (hP (i + 2) _ (pl_get hi)) hatb hba hl.1 (Nat.le_of_ble_eq_true rfl) ⟨(Nat.le_of_ble_eq_true rfl), (Nat.le_of_ble_eq_true rfl)⟩ ⟨Nat.zero_le _, Nat.zero_le _⟩ d_Of_merge_68 (fun H1 L hF hL => ?_)
            have hS := hF.S hS (pl_in hi) hL
            obtain ⟨hP, hD⟩ := wo_put (w := ((pv i).1, (pv i).2.1, (pv i).2.2.1 + (pv j).2.2.1, (pv i).2.2.2.1 + (pv j).2.2.2.1, tkX (pv i).1 (pv i).2.2.2.2 (pv j).2.2.2.2)) hP hD hi hF.1 hF.2.2
            generalize H1 = H at hP hS ⊢
            have hP : va_P G.1 classes (wo G x ra (nI n) td iss sp fe la pf n ad (va_up pv i ((pv i).1, (pv i).2.1, (pv i).2.2.1 + (pv j).2.2.1, (pv i).2.2.2.1 + (pv j).2.2.2.1, tkX (pv i).1 (pv i).2.2.2.2 (pv j).2.2.2.2))) H := hP
            have hD : va_D (va_A (wo G x ra (nI n) td iss sp fe la pf n ad pv) s.heap.size) (wo G x ra (nI n) td iss sp fe la pf n ad (va_up pv i ((pv i).1, (pv i).2.1, (pv i).2.2.1 + (pv j).2.2.1, (pv i).2.2.2.1 + (pv j).2.2.2.1, tkX (pv i).1 (pv i).2.2.2.2 (pv j).2.2.2.2))) := hD
            refine lv_aload_n hx hb d_Of_merge_71 rfl (lv_at hl 2 rfl) ?_
            refine z_get S zo_cls zo_in (hP 0 _ rfl) 0 (by decide) kg_21 (Or.inl rfl) rfl d_Of_merge_72 ?_
            refine lv_iload_n hx hb d_Of_merge_75 rfl (lv_at hl 4 rfl) ?_
            refine lv_null hx hb d_Of_merge_76 ?_
            refine va_astqN hx hb hK.1 hP hD hS 1 2 rfl rfl (by rw [hvj]; exact vp_in_nI (by omega) (by decide)) d_Of_merge_77 (fun H locs hP hD hS => ?_)
            have hcj : w.toNatClampNeg = j := by rw [hvj]; exact nI_clamp (by omega)
            rw [hcj] at hP hD
            have hP : va_P G.1 classes (wo G x ra (nI n) td iss sp fe la (va_up pf j none) n ad (va_up pv i ((pv i).1, (pv i).2.1, (pv i).2.2.1 + (pv j).2.2.1, (pv i).2.2.2.1 + (pv j).2.2.2.1, tkX (pv i).1 (pv i).2.2.2.2 (pv j).2.2.2.2))) H := hP
            have hD : va_D (va_A (wo G x ra (nI n) td iss sp fe la pf n ad pv) s.heap.size) (wo G x ra (nI n) td iss sp fe la (va_up pf j none) n ad (va_up pv i ((pv i).1, (pv i).2.1, (pv i).2.2.1 + (pv j).2.2.1, (pv i).2.2.2.1 + (pv j).2.2.2.1, tkX (pv i).1 (pv i).2.2.2.2 (pv j).2.2.2.2))) := hD
            refine lv_aload_n hx hb d_Of_merge_78 rfl (lv_at hl 1 rfl) ?_
            refine z_get S (zk_cls (hkv i hi)) (zk_in (hkv i hi)) (up_at (w := ((pv i).1, (pv i).2.1, (pv i).2.2.1 + (pv j).2.2.1, (pv i).2.2.2.1 + (pv j).2.2.2.1, tkX (pv i).1 (pv i).2.2.2.2 (pv j).2.2.2.2)) hP hi) 2 (z4 (hkv i hi) (by decide)) kg_69 (Or.inl rfl) rfl d_Of_merge_79 ?_
            exact z_iret (v := (pv i).2.2.1 + (pv j).2.2.1) (tys := none) S hr hlk rfl (OF.mk hP hD hS (by first | rfl | simp only [oMgR, oMgP, oMgF, c_1, c_2, c_3, hvk, hwk, ↓reduceIte]) (by first | rfl | simp only [oMgR, oMgP, oMgF, c_1, c_2, c_3, hvk, hwk, ↓reduceIte])) hS.2.2 d_Of_merge_82
          · refine lv_bipush (v := (-4)) hx hb d_Of_merge_62 (by decide) ?_
            exact z_iret (v := (-4)) (tys := none) S hr hlk rfl (OF.mk hP hD hS (by first | rfl | simp only [oMgR, oMgP, oMgF, c_1, c_2, c_3, hvk, hwk, ↓reduceIte]) (by first | rfl | simp only [oMgR, oMgP, oMgF, c_1, c_2, c_3, hvk, hwk, ↓reduceIte])) hS.2.2 d_Of_merge_64
        · refine lv_bipush (v := (-3)) hx hb d_Of_merge_44 (by decide) ?_
          exact z_iret (v := (-3)) (tys := none) S hr hlk rfl (OF.mk hP hD hS (by first | rfl | simp only [oMgR, oMgP, oMgF, c_1, c_2, hvk, hwk, ↓reduceIte]) (by first | rfl | simp only [oMgR, oMgP, oMgF, c_1, c_2, hvk, hwk, ↓reduceIte])) hS.2.2 d_Of_merge_46
      · refine lv_bipush (v := (-2)) hx hb d_Of_merge_29 (by decide) ?_
        exact z_iret (v := (-2)) (tys := none) S hr hlk rfl (OF.mk hP hD hS (by first | rfl | simp only [oMgR, oMgP, oMgF, c_1, hvk, hwk, ↓reduceIte]) (by first | rfl | simp only [oMgR, oMgP, oMgF, c_1, hvk, hwk, ↓reduceIte])) hS.2.2 d_Of_merge_31
end
section
-- a new paper
def x0 (k : Nat) : Int32 := match k with
  | 3 => -1
  | _ => 0
def MF (G : ZG) (sz k : Nat) (fr am : Int32) : Option Value → Heap → Heap → Prop := fun v H H1 => ∃ q : Nat, v = some (.ref q) ∧ sz ≤ q ∧ H.size ≤ H1.size ∧ (∀ r : Nat, r < H.size → H1[r]? = H[r]?) ∧ va_at G.1 classes (q, pe (k, fr, am, am, x0 k)) H1
theorem zfs : ∀ j, j < 5 → defaultValue (t_int j) = vp_V [.int 0, .int 0, .int 0, .int 0, .int 0] j := by
  intro j hj
  match j, hj with
  | 0, _ => rfl
  | 1, _ => rfl
  | 2, _ => rfl
  | 3, _ => rfl
  | 4, _ => rfl
theorem zPe {D : va_G} {cl : List vw_C} {H : Heap} : va_P D cl [] H := fun k q h => by simp at h
theorem zDe {A : Nat → Prop} : va_D A [] := ⟨fun i j p q h => by simp at h, fun k q h => by simp at h⟩
theorem pl_push {n q : Nat} {ad : Nat → Nat} {pv : Nat → Pv} {w : Pv} : pl n ad pv ++ [(q, pe w)] = pl (n + 1) (va_up ad n q) (va_up pv n w) := by
  unfold pl
  rw [List.range_succ, List.map_append]
  congr 1
  · apply List.map_congr_left
    intro i hi
    have hne : i ≠ n := Nat.ne_of_lt (List.mem_range.mp hi)
    rw [va_up_ne _ _ hne, va_up_ne _ _ hne]
  · simp [va_up]
theorem wo_push {D : va_G} {cl : List vw_C} {A : Nat → Prop} {n q : Nat} {ad : Nat → Nat} {pv : Nat → Pv} {c0 c1 : Nat × va_E} {w : Pv} {H H1 : Heap} (hP : va_P D cl (c0 :: c1 :: pl n ad pv) H) (hD : va_D A (c0 :: c1 :: pl n ad pv)) (hq : H.size ≤ q) (hk : ∀ r : Nat, r < H.size → H1[r]? = H[r]?) (he : va_at D cl (q, pe w) H1) (hA : A q) : va_P D cl (c0 :: c1 :: pl (n + 1) (va_up ad n q) (va_up pv n w)) H1 ∧ va_D A (c0 :: c1 :: pl (n + 1) (va_up ad n q) (va_up pv n w)) := by
  rw [← pl_push]
  have e1 : c0 :: c1 :: (pl n ad pv ++ [(q, pe w)]) = (c0 :: c1 :: pl n ad pv) ++ [(q, pe w)] := rfl
  rw [e1]
  refine ⟨va_P.app (hP.kept (fun k x hx => hk x.1 ((hP k x hx).lt))) (va_P1 he), hD.app ⟨fun i j x y hi hj _ => ?_, fun k x hx => ?_⟩ (fun i j x y hx hy hxy => ?_)⟩
  · have h1 : i < 1 := (List.getElem?_eq_some_iff.mp hi).1
    have h2 : j < 1 := (List.getElem?_eq_some_iff.mp hj).1
    omega
  · have h1 : k < 1 := (List.getElem?_eq_some_iff.mp hx).1
    rw [show k = 0 by omega] at hx
    cases hx
    exact hA
  · have h1 : j < 1 := (List.getElem?_eq_some_iff.mp hy).1
    rw [show j = 0 by omega] at hy
    cases hy
    have := (hP i x hx).lt
    have hxy' : x.1 = q := hxy
    omega
theorem in7 {k : Nat} (hk : k < 8) : ¬ inV (nI k) 0 7 = 0 := zk_all (P := fun k => ¬ inV (nI k) 0 7 = 0) (by decide +kernel) (by decide +kernel) (by decide +kernel) (by decide +kernel) (by decide +kernel) (by decide +kernel) (by decide +kernel) (by decide +kernel) hk
theorem ne40 {n : Nat} (h : n < 40) : ¬ nI n = 40 := by
  intro e0
  have e1 : (40 : Int32) = nI 40 := by decide +kernel
  rw [e1, nI_eq (by omega) (by decide)] at e0
  omega
theorem arr_q {G : ZG} {s : State} {cA : ClassId} (hK : KZ G s) (h : va_K G.1 classes (tz G ++ [(cA, .object "VoucherOffice$Paper")]) s) : cA = G.2.2.2 := by
  obtain ⟨-, -, -, -, -, h1⟩ := (h.2 3 _ rfl).2
  obtain ⟨-, -, -, -, -, h2⟩ := (hK.1.2 2 _ rfl).2
  exact Option.some.inj (h1.symm.trans h2)
theorem arr_i {G : ZG} {s : State} {cA : ClassId} (hK : KZ G s) (h : va_K G.1 classes (tz G ++ [(cA, .int)]) s) : cA = G.2.1 :=
  Option.some.inj ((va_nm_int (h.2 3 _ rfl).2).symm.trans (va_nm_int (hK.1.2 0 _ rfl).2))
theorem arr_z {G : ZG} {s : State} {cA : ClassId} (hK : KZ G s) (h : va_K G.1 classes (tz G ++ [(cA, .boolean)]) s) : cA = G.2.2.1 :=
  Option.some.inj ((va_nm_boolean (h.2 3 _ rfl).2).symm.trans (va_nm_boolean (hK.1.2 1 _ rfl).2))
end
section
set_option maxHeartbeats 2000000 in
theorem c_Of_made (l : Launch) (G : ZG) (sz : Nat) (x ra : Nat) (td iss sp fe la : Int32) (pf : Nat → Option Nat) (n : Nat) (gn : Nat → Bool) (ad : Nat → Nat) (pv : Nat → Pv) (k : Nat) (am : Int32) (hk : k < 8) : ZK l G y_Of_made 6 [.ref x, .int (nI k), .int am] (OW G sz (wo G x ra (nI n) td iss sp fe la pf n ad pv)) (MF G sz k td am) 1 5 (fun q => sz ≤ q) := by
  refine ZK.ofBody (cc := b_Of_made) (maxL := 3) (ret := (some (FieldType.object "VoucherOffice$Paper"))) kg_54 (by decide) (by decide) (Nat.le_of_ble_eq_true rfl) ?_
  intro p e s m below meth c S hr hlk hnm hp ls hl
  obtain ⟨⟨hx, hb, hml, hown, hts⟩, hK⟩ := id S
  obtain ⟨hsz, hP0, hD0⟩ := hp
  subst hsz
  have hox0 := hP0 0 _ rfl
  have hxl : x < s.heap.size := hox0.lt
  have hA : ∀ q : Nat, s.heap.size ≤ q → (fun q : Nat => s.heap.size ≤ q) q := fun _ h => h
  have hS : va_S (fun q : Nat => s.heap.size ≤ q) s.heap s.heap [] := va_S.rf
  match k, hk with
  | 0, _ =>
    have hl : lv_has ls 3 [(0, .ref x), (1, .int (nI 0)), (2, .int am)] := hl
    refine lv_iload_n hx hb d_Of_made_0 rfl (lv_at hl 1 rfl) ?_
    refine zt_in (j := 0) (off := 43) (tgt := 44) hx hb (by decide +kernel) d_Of_made_1 (by decide) (by decide) rfl (by decide) ?_
    refine va_new (ci := 0) (fs := [.int 0, .int 0, .int 0, .int 0, .int 0]) (C := Rk 0) (T := Fk 0) (N := 4) hx hb hts (zk_in (k := 0) (by decide)) t_int (zk_ty (k := 0) (by decide)) hown (hts _ kg_19) (hts _ kg_55) (hts _ kg_3) hK.1 zPe zDe hS hA (zk_cls (k := 0) (by decide)) (fun j hj => zfs j (Nat.lt_of_lt_of_le hj (by decide))) (Nat.le_of_ble_eq_true rfl) (Nat.le_of_ble_eq_true rfl) d_Of_made_44 (fun q H hP hD hS => ?_)
    have hP : va_P G.1 classes [(q, pc5 0 0 0 0 0 0)] H := hP
    have hqA : s.heap.size ≤ q := hD.2 0 _ rfl
    have hox := hox0.kept (hS.2.1 x hxl (Nat.not_le.mpr hxl))
    refine W.widen (k := 1) (n := 5) (Nat.le_of_ble_eq_true rfl) (Nat.le_of_ble_eq_true rfl) ?_
    refine lv_dup hx hb d_Of_made_47 rfl ?_
    refine lv_iload_n hx hb d_Of_made_48 rfl (lv_at hl 1 rfl) ?_
    refine lv_aload_n hx hb d_Of_made_49 rfl (lv_at hl 0 rfl) ?_
    refine z_get S zo_cls zo_in hox 2 (by decide) kg_23 (Or.inl rfl) rfl d_Of_made_50 ?_
    refine lv_iload_n hx hb d_Of_made_53 rfl (lv_at hl 2 rfl) ?_
    refine z_mv (z_I (n := 3) (As := [.int (nI 0), .int td, .int am]) (rest := [.ref q]) S (c_Pa_init l G q 0 0 0 0 0 0 (nI 0) td am (by decide)) rfl kg_56 kg_57 kg_58 ok_Pa_init pd_Pa_init (hP 0 _ rfl) rfl hl.1 rfl (Nat.le_of_ble_eq_true rfl) ⟨(Nat.le_of_ble_eq_true rfl), (Nat.le_of_ble_eq_true rfl)⟩ ⟨(Nat.le_of_ble_eq_true rfl), (Nat.le_of_ble_eq_true rfl)⟩ d_Of_made_54) (fun H1 L hF hL => ?_)
    have hS := hF.S hS hqA hL
    exact z_aret S hr ⟨_, rfl⟩ (Or.inr ⟨q, rfl⟩) hlk ⟨q, rfl, hqA, hS.1, fun r h1 => hS.2.1 r h1 (Nat.not_le.mpr h1), hF.1⟩ hS.2.2 d_Of_made_57
  | 1, _ =>
    have hl : lv_has ls 3 [(0, .ref x), (1, .int (nI 1)), (2, .int am)] := hl
    refine lv_iload_n hx hb d_Of_made_0 rfl (lv_at hl 1 rfl) ?_
    refine zt_in (j := 1) (off := 57) (tgt := 58) hx hb (by decide +kernel) d_Of_made_1 (by decide) (by decide) rfl (by decide) ?_
    refine va_new (ci := 1) (fs := [.int 0, .int 0, .int 0, .int 0, .int 0]) (C := Rk 1) (T := Fk 1) (N := 4) hx hb hts (zk_in (k := 1) (by decide)) t_int (zk_ty (k := 1) (by decide)) hown (hts _ kg_81) (hts _ kg_82) (hts _ kg_4) hK.1 zPe zDe hS hA (zk_cls (k := 1) (by decide)) (fun j hj => zfs j (Nat.lt_of_lt_of_le hj (by decide))) (Nat.le_of_ble_eq_true rfl) (Nat.le_of_ble_eq_true rfl) d_Of_made_58 (fun q H hP hD hS => ?_)
    have hP : va_P G.1 classes [(q, pc5 1 0 0 0 0 0)] H := hP
    have hqA : s.heap.size ≤ q := hD.2 0 _ rfl
    have hox := hox0.kept (hS.2.1 x hxl (Nat.not_le.mpr hxl))
    refine W.widen (k := 1) (n := 5) (Nat.le_of_ble_eq_true rfl) (Nat.le_of_ble_eq_true rfl) ?_
    refine lv_dup hx hb d_Of_made_61 rfl ?_
    refine lv_iload_n hx hb d_Of_made_62 rfl (lv_at hl 1 rfl) ?_
    refine lv_aload_n hx hb d_Of_made_63 rfl (lv_at hl 0 rfl) ?_
    refine z_get S zo_cls zo_in hox 2 (by decide) kg_23 (Or.inl rfl) rfl d_Of_made_64 ?_
    refine lv_iload_n hx hb d_Of_made_67 rfl (lv_at hl 2 rfl) ?_
    refine z_mv (z_I (n := 3) (As := [.int (nI 1), .int td, .int am]) (rest := [.ref q]) S (c_Gi_init l G q 1 0 0 0 0 0 (nI 1) td am (by decide)) rfl kg_83 kg_84 kg_85 ok_Gi_init pd_Gi_init (hP 0 _ rfl) rfl hl.1 rfl (Nat.le_of_ble_eq_true rfl) ⟨(Nat.le_of_ble_eq_true rfl), (Nat.le_of_ble_eq_true rfl)⟩ ⟨(Nat.le_of_ble_eq_true rfl), (Nat.le_of_ble_eq_true rfl)⟩ d_Of_made_68) (fun H1 L hF hL => ?_)
    have hS := hF.S hS hqA hL
    exact z_aret S hr ⟨_, rfl⟩ (Or.inr ⟨q, rfl⟩) hlk ⟨q, rfl, hqA, hS.1, fun r h1 => hS.2.1 r h1 (Nat.not_le.mpr h1), hF.1⟩ hS.2.2 d_Of_made_71
  | 2, _ =>
    have hl : lv_has ls 3 [(0, .ref x), (1, .int (nI 2)), (2, .int am)] := hl
    refine lv_iload_n hx hb d_Of_made_0 rfl (lv_at hl 1 rfl) ?_
    refine zt_in (j := 2) (off := 71) (tgt := 72) hx hb (by decide +kernel) d_Of_made_1 (by decide) (by decide) rfl (by decide) ?_
    refine va_new (ci := 2) (fs := [.int 0, .int 0, .int 0, .int 0, .int 0]) (C := Rk 2) (T := Fk 2) (N := 4) hx hb hts (zk_in (k := 2) (by decide)) t_int (zk_ty (k := 2) (by decide)) hown (hts _ kg_92) (hts _ kg_93) (hts _ kg_5) hK.1 zPe zDe hS hA (zk_cls (k := 2) (by decide)) (fun j hj => zfs j (Nat.lt_of_lt_of_le hj (by decide))) (Nat.le_of_ble_eq_true rfl) (Nat.le_of_ble_eq_true rfl) d_Of_made_72 (fun q H hP hD hS => ?_)
    have hP : va_P G.1 classes [(q, pc5 2 0 0 0 0 0)] H := hP
    have hqA : s.heap.size ≤ q := hD.2 0 _ rfl
    have hox := hox0.kept (hS.2.1 x hxl (Nat.not_le.mpr hxl))
    refine W.widen (k := 1) (n := 5) (Nat.le_of_ble_eq_true rfl) (Nat.le_of_ble_eq_true rfl) ?_
    refine lv_dup hx hb d_Of_made_75 rfl ?_
    refine lv_iload_n hx hb d_Of_made_76 rfl (lv_at hl 1 rfl) ?_
    refine lv_aload_n hx hb d_Of_made_77 rfl (lv_at hl 0 rfl) ?_
    refine z_get S zo_cls zo_in hox 2 (by decide) kg_23 (Or.inl rfl) rfl d_Of_made_78 ?_
    refine lv_iload_n hx hb d_Of_made_81 rfl (lv_at hl 2 rfl) ?_
    refine z_mv (z_I (n := 3) (As := [.int (nI 2), .int td, .int am]) (rest := [.ref q]) S (c_Se_init l G q 2 0 0 0 0 0 (nI 2) td am (by decide)) rfl kg_94 kg_95 kg_96 ok_Se_init pd_Se_init (hP 0 _ rfl) rfl hl.1 rfl (Nat.le_of_ble_eq_true rfl) ⟨(Nat.le_of_ble_eq_true rfl), (Nat.le_of_ble_eq_true rfl)⟩ ⟨(Nat.le_of_ble_eq_true rfl), (Nat.le_of_ble_eq_true rfl)⟩ d_Of_made_82) (fun H1 L hF hL => ?_)
    have hS := hF.S hS hqA hL
    exact z_aret S hr ⟨_, rfl⟩ (Or.inr ⟨q, rfl⟩) hlk ⟨q, rfl, hqA, hS.1, fun r h1 => hS.2.1 r h1 (Nat.not_le.mpr h1), hF.1⟩ hS.2.2 d_Of_made_85
  | 3, _ =>
    have hl : lv_has ls 3 [(0, .ref x), (1, .int (nI 3)), (2, .int am)] := hl
    refine lv_iload_n hx hb d_Of_made_0 rfl (lv_at hl 1 rfl) ?_
    refine zt_in (j := 3) (off := 85) (tgt := 86) hx hb (by decide +kernel) d_Of_made_1 (by decide) (by decide) rfl (by decide) ?_
    refine va_new (ci := 3) (fs := [.int 0, .int 0, .int 0, .int 0, .int 0]) (C := Rk 3) (T := Fk 3) (N := 5) hx hb hts (zk_in (k := 3) (by decide)) t_int (zk_ty (k := 3) (by decide)) hown (hts _ kg_103) (hts _ kg_104) (hts _ kg_6) hK.1 zPe zDe hS hA (zk_cls (k := 3) (by decide)) (fun j hj => zfs j (Nat.lt_of_lt_of_le hj (by decide))) (Nat.le_of_ble_eq_true rfl) (Nat.le_of_ble_eq_true rfl) d_Of_made_86 (fun q H hP hD hS => ?_)
    have hP : va_P G.1 classes [(q, pc5 3 0 0 0 0 0)] H := hP
    have hqA : s.heap.size ≤ q := hD.2 0 _ rfl
    have hox := hox0.kept (hS.2.1 x hxl (Nat.not_le.mpr hxl))
    refine W.widen (k := 1) (n := 5) (Nat.le_of_ble_eq_true rfl) (Nat.le_of_ble_eq_true rfl) ?_
    refine lv_dup hx hb d_Of_made_89 rfl ?_
    refine lv_iload_n hx hb d_Of_made_90 rfl (lv_at hl 1 rfl) ?_
    refine lv_aload_n hx hb d_Of_made_91 rfl (lv_at hl 0 rfl) ?_
    refine z_get S zo_cls zo_in hox 2 (by decide) kg_23 (Or.inl rfl) rfl d_Of_made_92 ?_
    refine lv_iload_n hx hb d_Of_made_95 rfl (lv_at hl 2 rfl) ?_
    refine z_mv (z_I (n := 3) (As := [.int (nI 3), .int td, .int am]) (rest := [.ref q]) S (c_St_init l G q 0 0 0 0 0 (nI 3) td am) rfl kg_105 kg_106 kg_107 ok_St_init pd_St_init (hP 0 _ rfl) rfl hl.1 rfl (Nat.le_of_ble_eq_true rfl) ⟨(Nat.le_of_ble_eq_true rfl), (Nat.le_of_ble_eq_true rfl)⟩ ⟨(Nat.le_of_ble_eq_true rfl), (Nat.le_of_ble_eq_true rfl)⟩ d_Of_made_96) (fun H1 L hF hL => ?_)
    have hS := hF.S hS hqA hL
    exact z_aret S hr ⟨_, rfl⟩ (Or.inr ⟨q, rfl⟩) hlk ⟨q, rfl, hqA, hS.1, fun r h1 => hS.2.1 r h1 (Nat.not_le.mpr h1), hF.1⟩ hS.2.2 d_Of_made_99
  | 4, _ =>
    have hl : lv_has ls 3 [(0, .ref x), (1, .int (nI 4)), (2, .int am)] := hl
    refine lv_iload_n hx hb d_Of_made_0 rfl (lv_at hl 1 rfl) ?_
    refine zt_in (j := 4) (off := 99) (tgt := 100) hx hb (by decide +kernel) d_Of_made_1 (by decide) (by decide) rfl (by decide) ?_
    refine va_new (ci := 4) (fs := [.int 0, .int 0, .int 0, .int 0, .int 0]) (C := Rk 4) (T := Fk 4) (N := 4) hx hb hts (zk_in (k := 4) (by decide)) t_int (zk_ty (k := 4) (by decide)) hown (hts _ kg_117) (hts _ kg_118) (hts _ kg_7) hK.1 zPe zDe hS hA (zk_cls (k := 4) (by decide)) (fun j hj => zfs j (Nat.lt_of_lt_of_le hj (by decide))) (Nat.le_of_ble_eq_true rfl) (Nat.le_of_ble_eq_true rfl) d_Of_made_100 (fun q H hP hD hS => ?_)
    have hP : va_P G.1 classes [(q, pc5 4 0 0 0 0 0)] H := hP
    have hqA : s.heap.size ≤ q := hD.2 0 _ rfl
    have hox := hox0.kept (hS.2.1 x hxl (Nat.not_le.mpr hxl))
    refine W.widen (k := 1) (n := 5) (Nat.le_of_ble_eq_true rfl) (Nat.le_of_ble_eq_true rfl) ?_
    refine lv_dup hx hb d_Of_made_103 rfl ?_
    refine lv_iload_n hx hb d_Of_made_104 rfl (lv_at hl 1 rfl) ?_
    refine lv_aload_n hx hb d_Of_made_105 rfl (lv_at hl 0 rfl) ?_
    refine z_get S zo_cls zo_in hox 2 (by decide) kg_23 (Or.inl rfl) rfl d_Of_made_106 ?_
    refine lv_iload_n hx hb d_Of_made_109 rfl (lv_at hl 2 rfl) ?_
    refine z_mv (z_I (n := 3) (As := [.int (nI 4), .int td, .int am]) (rest := [.ref q]) S (c_Ro_init l G q 4 0 0 0 0 0 (nI 4) td am (by decide)) rfl kg_119 kg_120 kg_121 ok_Ro_init pd_Ro_init (hP 0 _ rfl) rfl hl.1 rfl (Nat.le_of_ble_eq_true rfl) ⟨(Nat.le_of_ble_eq_true rfl), (Nat.le_of_ble_eq_true rfl)⟩ ⟨(Nat.le_of_ble_eq_true rfl), (Nat.le_of_ble_eq_true rfl)⟩ d_Of_made_110) (fun H1 L hF hL => ?_)
    have hS := hF.S hS hqA hL
    exact z_aret S hr ⟨_, rfl⟩ (Or.inr ⟨q, rfl⟩) hlk ⟨q, rfl, hqA, hS.1, fun r h1 => hS.2.1 r h1 (Nat.not_le.mpr h1), hF.1⟩ hS.2.2 d_Of_made_113
  | 5, _ =>
    have hl : lv_has ls 3 [(0, .ref x), (1, .int (nI 5)), (2, .int am)] := hl
    refine lv_iload_n hx hb d_Of_made_0 rfl (lv_at hl 1 rfl) ?_
    refine zt_in (j := 5) (off := 113) (tgt := 114) hx hb (by decide +kernel) d_Of_made_1 (by decide) (by decide) rfl (by decide) ?_
    refine va_new (ci := 5) (fs := [.int 0, .int 0, .int 0, .int 0, .int 0]) (C := Rk 5) (T := Fk 5) (N := 4) hx hb hts (zk_in (k := 5) (by decide)) t_int (zk_ty (k := 5) (by decide)) hown (hts _ kg_128) (hts _ kg_129) (hts _ kg_8) hK.1 zPe zDe hS hA (zk_cls (k := 5) (by decide)) (fun j hj => zfs j (Nat.lt_of_lt_of_le hj (by decide))) (Nat.le_of_ble_eq_true rfl) (Nat.le_of_ble_eq_true rfl) d_Of_made_114 (fun q H hP hD hS => ?_)
    have hP : va_P G.1 classes [(q, pc5 5 0 0 0 0 0)] H := hP
    have hqA : s.heap.size ≤ q := hD.2 0 _ rfl
    have hox := hox0.kept (hS.2.1 x hxl (Nat.not_le.mpr hxl))
    refine W.widen (k := 1) (n := 5) (Nat.le_of_ble_eq_true rfl) (Nat.le_of_ble_eq_true rfl) ?_
    refine lv_dup hx hb d_Of_made_117 rfl ?_
    refine lv_iload_n hx hb d_Of_made_118 rfl (lv_at hl 1 rfl) ?_
    refine lv_aload_n hx hb d_Of_made_119 rfl (lv_at hl 0 rfl) ?_
    refine z_get S zo_cls zo_in hox 2 (by decide) kg_23 (Or.inl rfl) rfl d_Of_made_120 ?_
    refine lv_iload_n hx hb d_Of_made_123 rfl (lv_at hl 2 rfl) ?_
    refine z_mv (z_I (n := 3) (As := [.int (nI 5), .int td, .int am]) (rest := [.ref q]) S (c_Cl_init l G q 5 0 0 0 0 0 (nI 5) td am (by decide)) rfl kg_130 kg_131 kg_132 ok_Cl_init pd_Cl_init (hP 0 _ rfl) rfl hl.1 rfl (Nat.le_of_ble_eq_true rfl) ⟨(Nat.le_of_ble_eq_true rfl), (Nat.le_of_ble_eq_true rfl)⟩ ⟨(Nat.le_of_ble_eq_true rfl), (Nat.le_of_ble_eq_true rfl)⟩ d_Of_made_124) (fun H1 L hF hL => ?_)
    have hS := hF.S hS hqA hL
    exact z_aret S hr ⟨_, rfl⟩ (Or.inr ⟨q, rfl⟩) hlk ⟨q, rfl, hqA, hS.1, fun r h1 => hS.2.1 r h1 (Nat.not_le.mpr h1), hF.1⟩ hS.2.2 d_Of_made_127
  | 6, _ =>
    have hl : lv_has ls 3 [(0, .ref x), (1, .int (nI 6)), (2, .int am)] := hl
    refine lv_iload_n hx hb d_Of_made_0 rfl (lv_at hl 1 rfl) ?_
    refine zt_in (j := 6) (off := 127) (tgt := 128) hx hb (by decide +kernel) d_Of_made_1 (by decide) (by decide) rfl (by decide) ?_
    refine va_new (ci := 6) (fs := [.int 0, .int 0, .int 0, .int 0, .int 0]) (C := Rk 6) (T := Fk 6) (N := 5) hx hb hts (zk_in (k := 6) (by decide)) t_int (zk_ty (k := 6) (by decide)) hown (hts _ kg_139) (hts _ kg_140) (hts _ kg_9) hK.1 zPe zDe hS hA (zk_cls (k := 6) (by decide)) (fun j hj => zfs j (Nat.lt_of_lt_of_le hj (by decide))) (Nat.le_of_ble_eq_true rfl) (Nat.le_of_ble_eq_true rfl) d_Of_made_128 (fun q H hP hD hS => ?_)
    have hP : va_P G.1 classes [(q, pc5 6 0 0 0 0 0)] H := hP
    have hqA : s.heap.size ≤ q := hD.2 0 _ rfl
    have hox := hox0.kept (hS.2.1 x hxl (Nat.not_le.mpr hxl))
    refine W.widen (k := 1) (n := 5) (Nat.le_of_ble_eq_true rfl) (Nat.le_of_ble_eq_true rfl) ?_
    refine lv_dup hx hb d_Of_made_131 rfl ?_
    refine lv_iload_n hx hb d_Of_made_132 rfl (lv_at hl 1 rfl) ?_
    refine lv_aload_n hx hb d_Of_made_133 rfl (lv_at hl 0 rfl) ?_
    refine z_get S zo_cls zo_in hox 2 (by decide) kg_23 (Or.inl rfl) rfl d_Of_made_134 ?_
    refine lv_iload_n hx hb d_Of_made_137 rfl (lv_at hl 2 rfl) ?_
    refine z_mv (z_I (n := 3) (As := [.int (nI 6), .int td, .int am]) (rest := [.ref q]) S (c_Ho_init l G q 6 0 0 0 0 0 (nI 6) td am (by decide)) rfl kg_141 kg_142 kg_143 ok_Ho_init pd_Ho_init (hP 0 _ rfl) rfl hl.1 rfl (Nat.le_of_ble_eq_true rfl) ⟨(Nat.le_of_ble_eq_true rfl), (Nat.le_of_ble_eq_true rfl)⟩ ⟨(Nat.le_of_ble_eq_true rfl), (Nat.le_of_ble_eq_true rfl)⟩ d_Of_made_138) (fun H1 L hF hL => ?_)
    have hS := hF.S hS hqA hL
    exact z_aret S hr ⟨_, rfl⟩ (Or.inr ⟨q, rfl⟩) hlk ⟨q, rfl, hqA, hS.1, fun r h1 => hS.2.1 r h1 (Nat.not_le.mpr h1), hF.1⟩ hS.2.2 d_Of_made_141
  | 7, _ =>
    have hl : lv_has ls 3 [(0, .ref x), (1, .int (nI 7)), (2, .int am)] := hl
    refine lv_iload_n hx hb d_Of_made_0 rfl (lv_at hl 1 rfl) ?_
    refine lv_tableOut (tgt := 142) hx hb d_Of_made_1 (Or.inr (by decide +kernel)) (by decide) ?_
    refine va_new (ci := 7) (fs := [.int 0, .int 0, .int 0, .int 0, .int 0]) (C := Rk 7) (T := Fk 7) (N := 5) hx hb hts (zk_in (k := 7) (by decide)) t_int (zk_ty (k := 7) (by decide)) hown (hts _ kg_153) (hts _ kg_154) (hts _ kg_10) hK.1 zPe zDe hS hA (zk_cls (k := 7) (by decide)) (fun j hj => zfs j (Nat.lt_of_lt_of_le hj (by decide))) (Nat.le_of_ble_eq_true rfl) (Nat.le_of_ble_eq_true rfl) d_Of_made_142 (fun q H hP hD hS => ?_)
    have hP : va_P G.1 classes [(q, pc5 7 0 0 0 0 0)] H := hP
    have hqA : s.heap.size ≤ q := hD.2 0 _ rfl
    have hox := hox0.kept (hS.2.1 x hxl (Nat.not_le.mpr hxl))
    refine W.widen (k := 1) (n := 5) (Nat.le_of_ble_eq_true rfl) (Nat.le_of_ble_eq_true rfl) ?_
    refine lv_dup hx hb d_Of_made_145 rfl ?_
    refine lv_iload_n hx hb d_Of_made_146 rfl (lv_at hl 1 rfl) ?_
    refine lv_aload_n hx hb d_Of_made_147 rfl (lv_at hl 0 rfl) ?_
    refine z_get S zo_cls zo_in hox 2 (by decide) kg_23 (Or.inl rfl) rfl d_Of_made_148 ?_
    refine lv_iload_n hx hb d_Of_made_151 rfl (lv_at hl 2 rfl) ?_
    refine z_mv (z_I (n := 3) (As := [.int (nI 7), .int td, .int am]) (rest := [.ref q]) S (c_Cr_init l G q 7 0 0 0 0 0 (nI 7) td am (by decide)) rfl kg_155 kg_156 kg_157 ok_Cr_init pd_Cr_init (hP 0 _ rfl) rfl hl.1 rfl (Nat.le_of_ble_eq_true rfl) ⟨(Nat.le_of_ble_eq_true rfl), (Nat.le_of_ble_eq_true rfl)⟩ ⟨(Nat.le_of_ble_eq_true rfl), (Nat.le_of_ble_eq_true rfl)⟩ d_Of_made_152) (fun H1 L hF hL => ?_)
    have hS := hF.S hS hqA hL
    exact z_aret S hr ⟨_, rfl⟩ (Or.inr ⟨q, rfl⟩) hlk ⟨q, rfl, hqA, hS.1, fun r h1 => hS.2.1 r h1 (Nat.not_le.mpr h1), hF.1⟩ hS.2.2 d_Of_made_155
def oIssN (kd am : Int32) : Int32 := if inV kd 0 7 = 0 then -2 else if inV am 1 100000 = 0 then -2 else -4
set_option maxHeartbeats 2000000 in
theorem c_Of_issue_no (l : Launch) (G : ZG) (sz : Nat) (x ra : Nat) (td iss sp fe la : Int32) (pf : Nat → Option Nat) (n : Nat) (gn : Nat → Bool) (ad : Nat → Nat) (pv : Nat → Pv) (kd am : Int32) (hno : inV kd 0 7 = 0 ∨ inV am 1 100000 = 0 ∨ nI n = 40) : ZK l G y_Of_issue 7 [.ref x, .int kd, .int am] (OW G sz (wo G x ra (nI n) td iss sp fe la pf n ad pv)) (ZE (.int (oIssN kd am))) 0 0 (fun _ => False) := by
  refine ZK.ofBody (cc := b_Of_issue) (maxL := 3) (ret := (some FieldType.int)) kg_46 (by decide) (by decide) (Nat.le_of_ble_eq_true rfl) ?_
  intro p e s m below meth c S hr hlk hnm hp ls hl
  obtain ⟨⟨hx, hb, hml, hown, hts⟩, hK⟩ := id S
  obtain ⟨hsz, hP, hD0⟩ := hp
  have hl : lv_has ls 3 [(0, .ref x), (1, .int kd), (2, .int am)] := hl
  refine lv_iload_n hx hb d_Of_issue_0 rfl (lv_at hl 1 rfl) ?_
  refine lv_iconst (v := 0) hx hb d_Of_issue_1 (by decide) ?_
  refine lv_bipush (v := 7) hx hb d_Of_issue_2 (by decide) ?_
  refine z_q (z_S (n := 3) (As := [.int kd, .int 0, .int 7]) (rest := []) S (c_Of_isIn l G kd 0 7) kg_47 kg_48 kg_1 kg_49 ok_Of_isIn pd_Of_isIn trivial rfl hl.1 rfl (Nat.le_of_ble_eq_true rfl) ⟨(Nat.le_of_ble_eq_true rfl), (Nat.le_of_ble_eq_true rfl)⟩ ⟨Nat.zero_le _, Nat.zero_le _⟩ d_Of_issue_4) ?_
  refine lv_if_eq (tgt := 20) hx hb d_Of_issue_7 (by decide) (fun c_1 => ?_) (fun c_1 => ?_)
  · refine lv_bipush (v := (-2)) hx hb d_Of_issue_20 (by decide) ?_
    exact z_iret (v := oIssN kd am) (tys := none) S hr hlk (by simp only [oIssN, c_1, ↓reduceIte]) ⟨rfl, rfl⟩ z_nil d_Of_issue_22
  · refine lv_iload_n hx hb d_Of_issue_10 rfl (lv_at hl 2 rfl) ?_
    refine lv_iconst (v := 1) hx hb d_Of_issue_11 (by decide) ?_
    refine lv_ldc (v := 100000) hx hb hown (hts _ kg_50) d_Of_issue_12 ?_
    refine z_q (z_S (n := 3) (As := [.int am, .int 1, .int 100000]) (rest := []) S (c_Of_isIn l G am 1 100000) kg_47 kg_48 kg_1 kg_49 ok_Of_isIn pd_Of_isIn trivial rfl hl.1 rfl (Nat.le_of_ble_eq_true rfl) ⟨(Nat.le_of_ble_eq_true rfl), (Nat.le_of_ble_eq_true rfl)⟩ ⟨Nat.zero_le _, Nat.zero_le _⟩ d_Of_issue_14) ?_
    refine lv_if_ne (tgt := 23) hx hb d_Of_issue_17 (by decide) (fun c_2 => ?_) (fun c_2 => ?_)
    · refine lv_aload_n hx hb d_Of_issue_23 rfl (lv_at hl 0 rfl) ?_
      refine z_get S zo_cls zo_in (hP 0 _ rfl) 1 (by decide) kg_22 (Or.inl rfl) rfl d_Of_issue_24 ?_
      refine lv_bipush (v := 40) hx hb d_Of_issue_27 (by decide) ?_
      refine lv_icmp_ne (tgt := 35) hx hb d_Of_issue_29 (by decide) (fun c_3 => ?_) (fun c_3 => ?_)
      · exact (hno.elim (fun h => absurd h c_1) (fun h => h.elim (fun h => absurd h c_2) (fun h => absurd h c_3)))
      · refine lv_bipush (v := (-4)) hx hb d_Of_issue_32 (by decide) ?_
        exact z_iret (v := oIssN kd am) (tys := none) S hr hlk (by simp only [oIssN, c_1, c_2, ↓reduceIte]) ⟨rfl, rfl⟩ z_nil d_Of_issue_34
    · refine lv_bipush (v := (-2)) hx hb d_Of_issue_20 (by decide) ?_
      exact z_iret (v := oIssN kd am) (tys := none) S hr hlk (by simp only [oIssN, c_1, c_2, ↓reduceIte]) ⟨rfl, rfl⟩ z_nil d_Of_issue_22
set_option maxHeartbeats 2000000 in
theorem c_Of_issue_yes (l : Launch) (G : ZG) (sz : Nat) (x ra : Nat) (td iss sp fe la : Int32) (pf : Nat → Option Nat) (n : Nat) (gn : Nat → Bool) (ad : Nat → Nat) (pv : Nat → Pv) (k : Nat) (am : Int32) (hok : okP n gn pf ad pv) (hk : k < 8) (ham : ¬ inV am 1 100000 = 0) (hnn : n < 40) : ZK l G y_Of_issue 7 [.ref x, .int (nI k), .int am] (OW G sz (wo G x ra (nI n) td iss sp fe la pf n ad pv)) (ZA (some (.int (nI n))) (fun H H1 => ∃ q : Nat, OF G sz (wo G x ra (nI n) td iss sp fe la pf n ad pv) (wo G x ra (nI (n + 1)) td (iss + am) sp fe la (va_up pf n (some q)) (n + 1) (va_up ad n q) (va_up pv n (k, td, am, am, x0 k))) H H1)) 1 5 (va_A (wo G x ra (nI n) td iss sp fe la pf n ad pv) sz) := by
  refine ZK.ofBody (cc := b_Of_issue) (maxL := 3) (ret := (some FieldType.int)) kg_46 (by decide) (by decide) (Nat.le_of_ble_eq_true rfl) ?_
  intro p e s m below meth c S hr hlk hnm hp ls hl
  obtain ⟨⟨hx, hb, hml, hown, hts⟩, hK⟩ := id S
  obtain ⟨hsz, hP, hD0⟩ := hp
  subst hsz
  have hD := hD0.self (sz := s.heap.size)
  have hS : va_S (va_A (wo G x ra (nI n) td iss sp fe la pf n ad pv) s.heap.size) s.heap s.heap [] := va_S.rf
  have hin7 := in7 hk
  have hne := ne40 hnn
  have hcn : (nI n).toNatClampNeg = n := nI_clamp (by omega)
  have hl : lv_has ls 3 [(0, .ref x), (1, .int (nI k)), (2, .int am)] := hl
  refine lv_iload_n hx hb d_Of_issue_0 rfl (lv_at hl 1 rfl) ?_
  refine lv_iconst (v := 0) hx hb d_Of_issue_1 (by decide) ?_
  refine lv_bipush (v := 7) hx hb d_Of_issue_2 (by decide) ?_
  refine z_q (z_S (n := 3) (As := [.int (nI k), .int 0, .int 7]) (rest := []) S (c_Of_isIn l G (nI k) 0 7) kg_47 kg_48 kg_1 kg_49 ok_Of_isIn pd_Of_isIn trivial rfl hl.1 rfl (Nat.le_of_ble_eq_true rfl) ⟨(Nat.le_of_ble_eq_true rfl), (Nat.le_of_ble_eq_true rfl)⟩ ⟨Nat.zero_le _, Nat.zero_le _⟩ d_Of_issue_4) ?_
  refine lv_if_eq (tgt := 20) hx hb d_Of_issue_7 (by decide) (fun c_1 => ?_) (fun c_1 => ?_)
  · exact absurd c_1 hin7
  · refine lv_iload_n hx hb d_Of_issue_10 rfl (lv_at hl 2 rfl) ?_
    refine lv_iconst (v := 1) hx hb d_Of_issue_11 (by decide) ?_
    refine lv_ldc (v := 100000) hx hb hown (hts _ kg_50) d_Of_issue_12 ?_
    refine z_q (z_S (n := 3) (As := [.int am, .int 1, .int 100000]) (rest := []) S (c_Of_isIn l G am 1 100000) kg_47 kg_48 kg_1 kg_49 ok_Of_isIn pd_Of_isIn trivial rfl hl.1 rfl (Nat.le_of_ble_eq_true rfl) ⟨(Nat.le_of_ble_eq_true rfl), (Nat.le_of_ble_eq_true rfl)⟩ ⟨Nat.zero_le _, Nat.zero_le _⟩ d_Of_issue_14) ?_
    refine lv_if_ne (tgt := 23) hx hb d_Of_issue_17 (by decide) (fun c_2 => ?_) (fun c_2 => ?_)
    · refine lv_aload_n hx hb d_Of_issue_23 rfl (lv_at hl 0 rfl) ?_
      refine z_get S zo_cls zo_in (hP 0 _ rfl) 1 (by decide) kg_22 (Or.inl rfl) rfl d_Of_issue_24 ?_
      refine lv_bipush (v := 40) hx hb d_Of_issue_27 (by decide) ?_
      refine lv_icmp_ne (tgt := 35) hx hb d_Of_issue_29 (by decide) (fun c_3 => ?_) (fun c_3 => ?_)
      · refine lv_aload_n hx hb d_Of_issue_35 rfl (lv_at hl 0 rfl) ?_
        refine z_get S zo_cls zo_in (hP 0 _ rfl) 0 (by decide) kg_21 (Or.inl rfl) rfl d_Of_issue_36 ?_
        refine lv_aload_n hx hb d_Of_issue_39 rfl (lv_at hl 0 rfl) ?_
        refine z_get S zo_cls zo_in (hP 0 _ rfl) 1 (by decide) kg_22 (Or.inl rfl) rfl d_Of_issue_40 ?_
        refine lv_aload_n hx hb d_Of_issue_43 rfl (lv_at hl 0 rfl) ?_
        refine lv_iload_n hx hb d_Of_issue_44 rfl (lv_at hl 1 rfl) ?_
        refine lv_iload_n hx hb d_Of_issue_45 rfl (lv_at hl 2 rfl) ?_
        refine z_m (z_D (n := 2) (C := "VoucherOffice") (As := [.int (nI k), .int am]) (rest := [.int (nI n), .ref ra]) S (c_Of_made l G s.heap.size x ra td iss sp fe la pf n gn ad pv k am hk) kg_51 kg_53 kp_Of_made kg_54 ok_Of_made pd_Of_made (zrec hK (hP 0 _ rfl) zo_cls) ⟨rfl, hP, hD0⟩ rfl hl.1 rfl (Nat.le_of_ble_eq_true rfl) ⟨(Nat.le_of_ble_eq_true rfl), (Nat.le_of_ble_eq_true rfl)⟩ ⟨(Nat.le_of_ble_eq_true rfl), (Nat.le_of_ble_eq_true rfl)⟩ d_Of_issue_46) (fun v H1 L hF hL => ?_)
        obtain ⟨q, rfl, hq1, hq2, hq3, hq4⟩ := hF
        refine W.eq (g2 := F0 m 49 ls [.ref q, .int (nI n), .ref ra]) rfl ?_
        have hS : va_S (va_A (wo G x ra (nI n) td iss sp fe la pf n ad pv) s.heap.size) s.heap H1 ([] ++ L) := ⟨hq2, fun r h1 _ => hq3 r h1, fun z hz => Or.inr (hL z hz)⟩
        obtain ⟨hP, hD⟩ := wo_push (w := (k, td, am, am, x0 k)) hP hD hq1 hq3 hq4 (Or.inr hq1)
        have hP : va_P G.1 classes (wo G x ra (nI n) td iss sp fe la pf (n + 1) (va_up ad n q) (va_up pv n (k, td, am, am, x0 k))) H1 := hP
        have hD : va_D (va_A (wo G x ra (nI n) td iss sp fe la pf n ad pv) s.heap.size) (wo G x ra (nI n) td iss sp fe la pf (n + 1) (va_up ad n q) (va_up pv n (k, td, am, am, x0 k))) := hD
        refine z_ast S hP hD hS 1 rfl hq4 hk (vp_in_nI (by omega) (by decide)) d_Of_issue_49 (fun H locs hP hD hS _ => ?_)
        rw [hcn] at hP hD
        have hP : va_P G.1 classes (wo G x ra (nI n) td iss sp fe la (va_up pf n (some q)) (n + 1) (va_up ad n q) (va_up pv n (k, td, am, am, x0 k))) H := hP
        have hD : va_D (va_A (wo G x ra (nI n) td iss sp fe la pf n ad pv) s.heap.size) (wo G x ra (nI n) td iss sp fe la (va_up pf n (some q)) (n + 1) (va_up ad n q) (va_up pv n (k, td, am, am, x0 k))) := hD
        refine lv_aload_n hx hb d_Of_issue_50 rfl (lv_at hl 0 rfl) ?_
        refine lv_dup hx hb d_Of_issue_51 rfl ?_
        refine z_get S zo_cls zo_in (hP 0 _ rfl) 3 (by decide) kg_24 (Or.inl rfl) rfl d_Of_issue_52 ?_
        refine lv_iload_n hx hb d_Of_issue_55 rfl (lv_at hl 2 rfl) ?_
        refine lv_iadd hx hb d_Of_issue_56 ?_
        refine z_put (x := iss + am) S zo_cls zo_in zo_ty zo_nm hP hD hS 0 rfl 3 (by decide) kg_24 (Or.inl rfl) rfl pI (Nat.le_of_ble_eq_true rfl) d_Of_issue_57 (fun H locs hP hD hS => ?_)
        have hP : va_P G.1 classes (wo G x ra (nI n) td (iss + am) sp fe la (va_up pf n (some q)) (n + 1) (va_up ad n q) (va_up pv n (k, td, am, am, x0 k))) H := hP
        have hD : va_D (va_A (wo G x ra (nI n) td iss sp fe la pf n ad pv) s.heap.size) (wo G x ra (nI n) td (iss + am) sp fe la (va_up pf n (some q)) (n + 1) (va_up ad n q) (va_up pv n (k, td, am, am, x0 k))) := hD
        refine lv_aload_n hx hb d_Of_issue_60 rfl (lv_at hl 0 rfl) ?_
        refine lv_dup hx hb d_Of_issue_61 rfl ?_
        refine z_get S zo_cls zo_in (hP 0 _ rfl) 1 (by decide) kg_22 (Or.inl rfl) rfl d_Of_issue_62 ?_
        refine lv_iconst (v := 1) hx hb d_Of_issue_65 (by decide) ?_
        refine lv_iadd hx hb d_Of_issue_66 ?_
        refine z_put (x := (nI n) + 1) S zo_cls zo_in zo_ty zo_nm hP hD hS 0 rfl 1 (by decide) kg_22 (Or.inl rfl) rfl pI (Nat.le_of_ble_eq_true rfl) d_Of_issue_67 (fun H locs hP hD hS => ?_)
        have hP : va_P G.1 classes (wo G x ra ((nI n) + 1) td (iss + am) sp fe la (va_up pf n (some q)) (n + 1) (va_up ad n q) (va_up pv n (k, td, am, am, x0 k))) H := hP
        have hD : va_D (va_A (wo G x ra (nI n) td iss sp fe la pf n ad pv) s.heap.size) (wo G x ra ((nI n) + 1) td (iss + am) sp fe la (va_up pf n (some q)) (n + 1) (va_up ad n q) (va_up pv n (k, td, am, am, x0 k))) := hD
        refine lv_aload_n hx hb d_Of_issue_70 rfl (lv_at hl 0 rfl) ?_
        refine z_get S zo_cls zo_in (hP 0 _ rfl) 1 (by decide) kg_22 (Or.inl rfl) rfl d_Of_issue_71 ?_
        refine lv_iconst (v := 1) hx hb d_Of_issue_74 (by decide) ?_
        refine lv_isub hx hb d_Of_issue_75 ?_
        exact z_iret (v := nI n) (tys := none) S hr hlk (by rw [nI_1, nI_pred]) ⟨rfl, q, (OF.mk (v := none) hP hD hS rfl (by rw [nI_1])).2⟩ hS.2.2 d_Of_issue_76
      · exact absurd c_3 hne
    · exact absurd c_2 ham
set_option maxHeartbeats 2000000 in
theorem c_Of_init (l : Launch) (G : ZG) (sz x : Nat) (ad : Nat → Nat) (pv : Nat → Pv) : ZK l G y_Of_init 1 [.ref x] (OW G sz [(x, .inr (8, [.null, .int 0, .int 0, .int 0, .int 0, .int 0, .int 0]))]) (ZA none (fun H H1 => ∃ ra : Nat, OF G sz [(x, .inr (8, [.null, .int 0, .int 0, .int 0, .int 0, .int 0, .int 0]))] (wo G x ra (nI 0) 0 0 0 0 0 (fun _ => none) 0 ad pv) H H1)) 1 40 (va_A [(x, .inr (8, [.null, .int 0, .int 0, .int 0, .int 0, .int 0, .int 0]))] sz) := by
  refine ZK.ofBody (cc := b_Of_init) (maxL := 1) (ret := none) kg_15 (by decide) (by decide) (Nat.le_of_ble_eq_true rfl) ?_
  intro p e s m below meth c S hr hlk hnm hp ls hl
  obtain ⟨⟨hx, hb, hml, hown, hts⟩, hK⟩ := id S
  obtain ⟨hsz, hP, hD0⟩ := hp
  subst hsz
  have hD := hD0.self (sz := s.heap.size)
  have hS : va_S (va_A [(x, .inr (8, [.null, .int 0, .int 0, .int 0, .int 0, .int 0, .int 0]))] s.heap.size) s.heap s.heap [] := va_S.rf
  have hA : ∀ q : Nat, s.heap.size ≤ q → (va_A [(x, .inr (8, [.null, .int 0, .int 0, .int 0, .int 0, .int 0, .int 0]))] s.heap.size) q := fun q h => Or.inr h
  have hl : lv_has ls 1 [(0, .ref x)] := hl
  refine lv_aload_n hx hb d_Of_init_0 rfl (lv_at hl 0 rfl) ?_
  refine W.objInit hx hb hown (hts _ kg_16) (hts _ kg_17) (hts _ kg_18) rfl (by rw [hml]; exact hl.1) rfl d_Of_init_1 (Nat.le_of_ble_eq_true rfl) (Nat.le_of_ble_eq_true rfl) ?_
  refine W.eq (g2 := F0 m 4 ls []) rfl ?_
  refine lv_aload_n hx hb d_Of_init_4 rfl (lv_at hl 0 rfl) ?_
  refine lv_bipush (v := 40) hx hb d_Of_init_5 (by decide) ?_
  refine va_newq hx hb hown (hts _ kg_19) hK.2.2.2.2 hK.1 hP hD hS hA (N' := 40) (by decide) (by decide) (Nat.le_of_ble_eq_true rfl) (Nat.le_of_ble_eq_true rfl) (Nat.le_of_ble_eq_true rfl) d_Of_init_7 (fun ra cA H hKn hP hD hS => ?_)
  have e9 := arr_q hK hKn
  subst e9
  refine z_putF (x := .ref ra) (ty := .array (.object "VoucherOffice$Paper")) S zo_cls zo_in zo_ty zo_nm hP hD hS 0 rfl 0 (by decide) kg_21 rfl rfl hnm rfl (by decide +kernel) rfl rfl (Nat.le_of_ble_eq_true rfl) d_Of_init_10 (fun H locs hP hD hS => ?_)
  have hP : va_P G.1 classes (wo G x ra (nI 0) 0 0 0 0 0 (fun _ => none) 0 ad pv) H := hP
  have hD : va_D (va_A [(x, .inr (8, [.null, .int 0, .int 0, .int 0, .int 0, .int 0, .int 0]))] s.heap.size) (wo G x ra (nI 0) 0 0 0 0 0 (fun _ => none) 0 ad pv) := hD
  exact z_vret S hr hlk ⟨rfl, ra, (OF.mk (v := none) hP hD hS rfl rfl).2⟩ hS.2.2 d_Of_init_13
end
section
-- the reference: its own cell and seven arrays
abbrev wm (G : ZG) (mo a1 a2 a3 a4 a5 a6 a7 : Nat) (dy mn ams sp fe la : Int32) (ko am lf fr pt so gn : Nat → Int32) : va_W := [(mo, .inr (9, [.int dy, .int mn, .int ams, .int sp, .int fe, .int la, .ref a1, .ref a2, .ref a3, .ref a4, .ref a5, .ref a6, .ref a7])), (a1, .inl (G.2.1, 40, .inl ko)), (a2, .inl (G.2.1, 40, .inl am)), (a3, .inl (G.2.1, 40, .inl lf)), (a4, .inl (G.2.1, 40, .inl fr)), (a5, .inl (G.2.1, 40, .inl pt)), (a6, .inl (G.2.1, 40, .inl so)), (a7, .inl (G.2.2.1, 40, .inl gn))]
abbrev gB (gn : Nat → Int32) : Nat → Bool := fun i => decide (¬ gn i = 0)
def mDated (k : Int32) : Int32 := if k = 2 then 1 else if k = 3 then 1 else 0
def mPts (k : Int32) : Int32 := if k < 6 then 0 else 1
def mLd (fr k : Int32) : Int32 := fr + (if k = 3 then 30 else 90)
def mVal3 (k n t : Int32) : Int32 := if k = 7 then (if t - t / 7 * 7 = 0 then 2 * n else n) else n
def mVal2 (k lf pt t : Int32) : Int32 := if k = 3 then lf - lf / 10 else if 4 ≤ k then mVal3 k (if mPts k = 0 then lf / 10 * 10 else lf / 10 * 10 + pt) t else lf
def mVal (k fr lf pt t : Int32) : Int32 := if mDated k = 0 then mVal2 k lf pt t else if t ≤ mLd fr k then mVal2 k lf pt t else 0
def mFee (k pt g : Int32) : Int32 := if k = 3 then (g / 50 + 1) / 2 else if k = 7 then (if g / 50 + 1 ≤ pt then 0 else g / 50 + 1 - pt) else g / 50 + 1
def mSl2 (k pt n : Int32) : Int32 := if k = 7 then n + 3 * pt else n
def mSl (k fr am lf pt : Int32) : Int32 := mSl2 k pt (if mDated k = 0 then lf * 961 + fr * 31 + am else lf * 961 + fr * 31 + am + mLd fr k)
def thV (n : Nat) (g : Nat → Bool) (v : Int32) : Int32 := match lkI n g v with
  | none => 0
  | some _ => 1
theorem nar1 : vp_nar .boolean 1 = 1 := by decide +kernel
end
section
theorem c_Mo_within (l : Launch) (G : ZG) (v lo hi : Int32) : ZK l G y_Mo_within 0 [.int v, .int lo, .int hi] (fun _ => True) (ZE (.int (inV v lo hi))) 0 0 (fun _ => False) := by
  refine ZK.ofBody (cc := b_Mo_within) (maxL := 3) (ret := (some FieldType.boolean)) kg_474 (by decide) (by decide) (Nat.le_of_ble_eq_true rfl) ?_
  intro p e s m below meth c S hr hlk hnm hp ls hl
  obtain ⟨⟨hx, hb, hml, hown, hts⟩, hK⟩ := id S
  have hl : lv_has ls 3 [(0, .int v), (1, .int lo), (2, .int hi)] := hl
  refine lv_iload_n hx hb d_Mo_within_0 rfl (lv_at hl 0 rfl) ?_
  refine lv_iload_n hx hb d_Mo_within_1 rfl (lv_at hl 1 rfl) ?_
  refine lv_icmp_lt (tgt := 14) hx hb d_Mo_within_2 (by decide) (fun c_1 => ?_) (fun c_1 => ?_)
  · refine lv_iconst (v := 0) hx hb d_Mo_within_14 (by decide) ?_
    exact z_zret (v := inV v lo hi) S hr hlk rfl (by simp only [inV, c_1, ↓reduceIte]) ⟨rfl, rfl⟩ z_nil d_Mo_within_15
  · refine lv_iload_n hx hb d_Mo_within_5 rfl (lv_at hl 0 rfl) ?_
    refine lv_iload_n hx hb d_Mo_within_6 rfl (lv_at hl 2 rfl) ?_
    refine lv_icmp_gt (tgt := 14) hx hb d_Mo_within_7 (by decide) (fun c_2 => ?_) (fun c_2 => ?_)
    · refine lv_iconst (v := 0) hx hb d_Mo_within_14 (by decide) ?_
      exact z_zret (v := inV v lo hi) S hr hlk rfl (by simp only [inV, c_1, c_2, ↓reduceIte]) ⟨rfl, rfl⟩ z_nil d_Mo_within_15
    · refine lv_iconst (v := 1) hx hb d_Mo_within_10 (by decide) ?_
      refine lv_goto (tgt := 15) hx hb d_Mo_within_11 (by decide) ?_
      exact z_zret (v := inV v lo hi) S hr hlk rfl (by simp only [inV, c_1, c_2, ↓reduceIte]) ⟨rfl, rfl⟩ z_nil d_Mo_within_15
set_option maxHeartbeats 2000000 in
theorem c_Mo_isDated (l : Launch) (G : ZG) (sz : Nat) (mo a1 a2 a3 a4 a5 a6 a7 : Nat) (dy ams sp fe la : Int32) (n : Nat) (ko am lf fr pt so gn : Nat → Int32) (i : Nat) (hi : i < 40) : ZK l G y_Mo_isDated 0 [.ref mo, .int (nI i)] (OW G sz (wm G mo a1 a2 a3 a4 a5 a6 a7 dy (nI n) ams sp fe la ko am lf fr pt so gn)) (ZE (.int (mDated (ko i)))) 0 0 (fun _ => False) := by
  refine ZK.ofBody (cc := b_Mo_isDated) (maxL := 2) (ret := (some FieldType.boolean)) kg_495 (by decide) (by decide) (Nat.le_of_ble_eq_true rfl) ?_
  intro p e s m below meth c S hr hlk hnm hp ls hl
  obtain ⟨⟨hx, hb, hml, hown, hts⟩, hK⟩ := id S
  obtain ⟨hsz, hP, hD⟩ := hp
  have hci : (nI i).toNatClampNeg = i := nI_clamp (by omega)
  have hl : lv_has ls 2 [(0, .ref mo), (1, .int (nI i))] := hl
  refine lv_aload_n hx hb d_Mo_isDated_0 rfl (lv_at hl 0 rfl) ?_
  refine z_get S zm_cls zm_in (hP 0 _ rfl) 6 (by decide) kg_432 (Or.inl rfl) rfl d_Mo_isDated_1 ?_
  refine lv_iload_n hx hb d_Mo_isDated_4 rfl (lv_at hl 1 rfl) ?_
  refine va_iald hx hb hK.1 hP 1 0 rfl rfl (vp_in_nI hi (by decide)) d_Mo_isDated_5 ?_
  rw [hci]
  refine lv_iconst (v := 2) hx hb d_Mo_isDated_6 (by decide) ?_
  refine lv_icmp_eq (tgt := 20) hx hb d_Mo_isDated_7 (by decide) (fun c_1 => ?_) (fun c_1 => ?_)
  · refine lv_iconst (v := 1) hx hb d_Mo_isDated_20 (by decide) ?_
    refine lv_goto (tgt := 25) hx hb d_Mo_isDated_21 (by decide) ?_
    exact z_zret (v := mDated (ko i)) S hr hlk rfl (by first | rfl | simp only [mDated, eq_true c_1, ↓reduceIte]) ⟨rfl, rfl⟩ z_nil d_Mo_isDated_25
  · refine lv_aload_n hx hb d_Mo_isDated_10 rfl (lv_at hl 0 rfl) ?_
    refine z_get S zm_cls zm_in (hP 0 _ rfl) 6 (by decide) kg_432 (Or.inl rfl) rfl d_Mo_isDated_11 ?_
    refine lv_iload_n hx hb d_Mo_isDated_14 rfl (lv_at hl 1 rfl) ?_
    refine va_iald hx hb hK.1 hP 1 0 rfl rfl (vp_in_nI hi (by decide)) d_Mo_isDated_15 ?_
    rw [hci]
    refine lv_iconst (v := 3) hx hb d_Mo_isDated_16 (by decide) ?_
    refine lv_icmp_ne (tgt := 24) hx hb d_Mo_isDated_17 (by decide) (fun c_2 => ?_) (fun c_2 => ?_)
    · refine lv_iconst (v := 0) hx hb d_Mo_isDated_24 (by decide) ?_
      exact z_zret (v := mDated (ko i)) S hr hlk rfl (by first | rfl | simp only [mDated, c_1, c_2, ↓reduceIte]) ⟨rfl, rfl⟩ z_nil d_Mo_isDated_25
    · refine lv_iconst (v := 1) hx hb d_Mo_isDated_20 (by decide) ?_
      refine lv_goto (tgt := 25) hx hb d_Mo_isDated_21 (by decide) ?_
      exact z_zret (v := mDated (ko i)) S hr hlk rfl (by first | rfl | simp only [mDated, c_1, eq_true c_2, ↓reduceIte]) ⟨rfl, rfl⟩ z_nil d_Mo_isDated_25
set_option maxHeartbeats 2000000 in
theorem c_Mo_hasPoints (l : Launch) (G : ZG) (sz : Nat) (mo a1 a2 a3 a4 a5 a6 a7 : Nat) (dy ams sp fe la : Int32) (n : Nat) (ko am lf fr pt so gn : Nat → Int32) (i : Nat) (hi : i < 40) : ZK l G y_Mo_hasPoints 0 [.ref mo, .int (nI i)] (OW G sz (wm G mo a1 a2 a3 a4 a5 a6 a7 dy (nI n) ams sp fe la ko am lf fr pt so gn)) (ZE (.int (mPts (ko i)))) 0 0 (fun _ => False) := by
  refine ZK.ofBody (cc := b_Mo_hasPoints) (maxL := 2) (ret := (some FieldType.boolean)) kg_503 (by decide) (by decide) (Nat.le_of_ble_eq_true rfl) ?_
  intro p e s m below meth c S hr hlk hnm hp ls hl
  obtain ⟨⟨hx, hb, hml, hown, hts⟩, hK⟩ := id S
  obtain ⟨hsz, hP, hD⟩ := hp
  have hci : (nI i).toNatClampNeg = i := nI_clamp (by omega)
  have hl : lv_has ls 2 [(0, .ref mo), (1, .int (nI i))] := hl
  refine lv_aload_n hx hb d_Mo_hasPoints_0 rfl (lv_at hl 0 rfl) ?_
  refine z_get S zm_cls zm_in (hP 0 _ rfl) 6 (by decide) kg_432 (Or.inl rfl) rfl d_Mo_hasPoints_1 ?_
  refine lv_iload_n hx hb d_Mo_hasPoints_4 rfl (lv_at hl 1 rfl) ?_
  refine va_iald hx hb hK.1 hP 1 0 rfl rfl (vp_in_nI hi (by decide)) d_Mo_hasPoints_5 ?_
  rw [hci]
  refine lv_bipush (v := 6) hx hb d_Mo_hasPoints_6 (by decide) ?_
  refine lv_icmp_lt (tgt := 15) hx hb d_Mo_hasPoints_8 (by decide) (fun c_1 => ?_) (fun c_1 => ?_)
  · refine lv_iconst (v := 0) hx hb d_Mo_hasPoints_15 (by decide) ?_
    exact z_zret (v := mPts (ko i)) S hr hlk rfl (by first | rfl | simp only [mPts, eq_true c_1, ↓reduceIte]) ⟨rfl, rfl⟩ z_nil d_Mo_hasPoints_16
  · refine lv_iconst (v := 1) hx hb d_Mo_hasPoints_11 (by decide) ?_
    refine lv_goto (tgt := 16) hx hb d_Mo_hasPoints_12 (by decide) ?_
    exact z_zret (v := mPts (ko i)) S hr hlk rfl (by first | rfl | simp only [mPts, c_1, ↓reduceIte]) ⟨rfl, rfl⟩ z_nil d_Mo_hasPoints_16
set_option maxHeartbeats 2000000 in
theorem c_Mo_lastDay (l : Launch) (G : ZG) (sz : Nat) (mo a1 a2 a3 a4 a5 a6 a7 : Nat) (dy ams sp fe la : Int32) (n : Nat) (ko am lf fr pt so gn : Nat → Int32) (i : Nat) (hi : i < 40) : ZK l G y_Mo_lastDay 0 [.ref mo, .int (nI i)] (OW G sz (wm G mo a1 a2 a3 a4 a5 a6 a7 dy (nI n) ams sp fe la ko am lf fr pt so gn)) (ZE (.int (mLd (fr i) (ko i)))) 0 0 (fun _ => False) := by
  refine ZK.ofBody (cc := b_Mo_lastDay) (maxL := 2) (ret := (some FieldType.int)) kg_499 (by decide) (by decide) (Nat.le_of_ble_eq_true rfl) ?_
  intro p e s m below meth c S hr hlk hnm hp ls hl
  obtain ⟨⟨hx, hb, hml, hown, hts⟩, hK⟩ := id S
  obtain ⟨hsz, hP, hD⟩ := hp
  have hci : (nI i).toNatClampNeg = i := nI_clamp (by omega)
  have hl : lv_has ls 2 [(0, .ref mo), (1, .int (nI i))] := hl
  refine lv_aload_n hx hb d_Mo_lastDay_0 rfl (lv_at hl 0 rfl) ?_
  refine z_get S zm_cls zm_in (hP 0 _ rfl) 9 (by decide) kg_435 (Or.inl rfl) rfl d_Mo_lastDay_1 ?_
  refine lv_iload_n hx hb d_Mo_lastDay_4 rfl (lv_at hl 1 rfl) ?_
  refine va_iald hx hb hK.1 hP 4 0 rfl rfl (vp_in_nI hi (by decide)) d_Mo_lastDay_5 ?_
  rw [hci]
  refine lv_aload_n hx hb d_Mo_lastDay_6 rfl (lv_at hl 0 rfl) ?_
  refine z_get S zm_cls zm_in (hP 0 _ rfl) 6 (by decide) kg_432 (Or.inl rfl) rfl d_Mo_lastDay_7 ?_
  refine lv_iload_n hx hb d_Mo_lastDay_10 rfl (lv_at hl 1 rfl) ?_
  refine va_iald hx hb hK.1 hP 1 0 rfl rfl (vp_in_nI hi (by decide)) d_Mo_lastDay_11 ?_
  rw [hci]
  refine lv_iconst (v := 3) hx hb d_Mo_lastDay_12 (by decide) ?_
  refine lv_icmp_ne (tgt := 21) hx hb d_Mo_lastDay_13 (by decide) (fun c_1 => ?_) (fun c_1 => ?_)
  · refine lv_bipush (v := 90) hx hb d_Mo_lastDay_21 (by decide) ?_
    refine lv_iadd hx hb d_Mo_lastDay_23 ?_
    exact z_iret (v := mLd (fr i) (ko i)) (tys := none) S hr hlk (by first | rfl | simp only [mLd, c_1, ↓reduceIte]) ⟨rfl, rfl⟩ z_nil d_Mo_lastDay_24
  · refine lv_bipush (v := 30) hx hb d_Mo_lastDay_16 (by decide) ?_
    refine lv_goto (tgt := 23) hx hb d_Mo_lastDay_18 (by decide) ?_
    refine lv_iadd hx hb d_Mo_lastDay_23 ?_
    exact z_iret (v := mLd (fr i) (ko i)) (tys := none) S hr hlk (by first | rfl | simp only [mLd, eq_true c_1, ↓reduceIte]) ⟨rfl, rfl⟩ z_nil d_Mo_lastDay_24
set_option maxHeartbeats 2000000 in
theorem c_Mo_valueOf (l : Launch) (G : ZG) (sz : Nat) (mo a1 a2 a3 a4 a5 a6 a7 : Nat) (dy ams sp fe la : Int32) (n : Nat) (ko am lf fr pt so gn : Nat → Int32) (i : Nat) (t : Int32) (hi : i < 40) : ZK l G y_Mo_valueOf 1 [.ref mo, .int (nI i), .int t] (OW G sz (wm G mo a1 a2 a3 a4 a5 a6 a7 dy (nI n) ams sp fe la ko am lf fr pt so gn)) (ZE (.int (mVal (ko i) (fr i) (lf i) (pt i) t))) 0 0 (fun _ => False) := by
  refine ZK.ofBody (cc := b_Mo_valueOf) (maxL := 4) (ret := (some FieldType.int)) kg_491 (by decide) (by decide) (Nat.le_of_ble_eq_true rfl) ?_
  intro p e s m below meth c S hr hlk hnm hp ls hl
  obtain ⟨⟨hx, hb, hml, hown, hts⟩, hK⟩ := id S
  obtain ⟨hsz, hP, hD⟩ := hp
  have hci : (nI i).toNatClampNeg = i := nI_clamp (by omega)
  have hl : lv_has ls 4 [(0, .ref mo), (1, .int (nI i)), (2, .int t)] := hl
  refine lv_aload_n hx hb d_Mo_valueOf_0 rfl (lv_at hl 0 rfl) ?_
  refine lv_iload_n hx hb d_Mo_valueOf_1 rfl (lv_at hl 1 rfl) ?_
  refine z_q (z_D (n := 1) (C := "VoucherOfficeModel") (As := [.int (nI i)]) (rest := []) S (c_Mo_isDated l G _ mo a1 a2 a3 a4 a5 a6 a7 dy ams sp fe la n ko am lf fr pt so gn i hi) kg_492 kg_494 kp_Mo_isDated kg_495 ok_Mo_isDated pd_Mo_isDated (zrec hK (hP 0 _ rfl) zm_cls) ⟨rfl, hP, hD.weaken (fun _ _ _ _ => trivial)⟩ rfl hl.1 rfl (Nat.le_of_ble_eq_true rfl) ⟨(Nat.le_of_ble_eq_true rfl), (Nat.le_of_ble_eq_true rfl)⟩ ⟨Nat.zero_le _, Nat.zero_le _⟩ d_Mo_valueOf_2) ?_
  refine lv_if_eq (tgt := 19) hx hb d_Mo_valueOf_5 (by decide) (fun c_1 => ?_) (fun c_1 => ?_)
  · refine lv_aload_n hx hb d_Mo_valueOf_19 rfl (lv_at hl 0 rfl) ?_
    refine z_get S zm_cls zm_in (hP 0 _ rfl) 8 (by decide) kg_434 (Or.inl rfl) rfl d_Mo_valueOf_20 ?_
    refine lv_iload_n hx hb d_Mo_valueOf_23 rfl (lv_at hl 1 rfl) ?_
    refine va_iald hx hb hK.1 hP 3 0 rfl rfl (vp_in_nI hi (by decide)) d_Mo_valueOf_24 ?_
    rw [hci]
    refine lv_istore_n (lv' := [(3, .int (lf i)), (0, .ref mo), (1, .int (nI i)), (2, .int t)]) hx hb d_Mo_valueOf_25 rfl hl (by decide) rfl (fun ls hl => ?_)
    refine lv_aload_n hx hb d_Mo_valueOf_26 rfl (lv_at hl 1 rfl) ?_
    refine z_get S zm_cls zm_in (hP 0 _ rfl) 6 (by decide) kg_432 (Or.inl rfl) rfl d_Mo_valueOf_27 ?_
    refine lv_iload_n hx hb d_Mo_valueOf_30 rfl (lv_at hl 2 rfl) ?_
    refine va_iald hx hb hK.1 hP 1 0 rfl rfl (vp_in_nI hi (by decide)) d_Mo_valueOf_31 ?_
    rw [hci]
    refine lv_iconst (v := 3) hx hb d_Mo_valueOf_32 (by decide) ?_
    refine lv_icmp_ne (tgt := 43) hx hb d_Mo_valueOf_33 (by decide) (fun c_2 => ?_) (fun c_2 => ?_)
    · refine lv_aload_n hx hb d_Mo_valueOf_43 rfl (lv_at hl 1 rfl) ?_
      refine z_get S zm_cls zm_in (hP 0 _ rfl) 6 (by decide) kg_432 (Or.inl rfl) rfl d_Mo_valueOf_44 ?_
      refine lv_iload_n hx hb d_Mo_valueOf_47 rfl (lv_at hl 2 rfl) ?_
      refine va_iald hx hb hK.1 hP 1 0 rfl rfl (vp_in_nI hi (by decide)) d_Mo_valueOf_48 ?_
      rw [hci]
      refine lv_iconst (v := 4) hx hb d_Mo_valueOf_49 (by decide) ?_
      refine lv_icmp_ge (tgt := 55) hx hb d_Mo_valueOf_50 (by decide) (fun c_3 => ?_) (fun c_3 => ?_)
      · refine lv_iload_n hx hb d_Mo_valueOf_55 rfl (lv_at hl 0 rfl) ?_
        refine lv_bipush (v := 10) hx hb d_Mo_valueOf_56 (by decide) ?_
        refine lv_idiv hx hb d_Mo_valueOf_58 (by decide) ?_
        refine lv_bipush (v := 10) hx hb d_Mo_valueOf_59 (by decide) ?_
        refine lv_imul hx hb d_Mo_valueOf_61 ?_
        refine lv_istore_n (lv' := [(3, .int (((lf i) / 10) * 10)), (0, .ref mo), (1, .int (nI i)), (2, .int t)]) hx hb d_Mo_valueOf_62 rfl hl (by decide) rfl (fun ls hl => ?_)
        refine lv_aload_n hx hb d_Mo_valueOf_63 rfl (lv_at hl 1 rfl) ?_
        refine lv_iload_n hx hb d_Mo_valueOf_64 rfl (lv_at hl 2 rfl) ?_
        refine z_q (z_D (n := 1) (C := "VoucherOfficeModel") (As := [.int (nI i)]) (rest := []) S (c_Mo_hasPoints l G _ mo a1 a2 a3 a4 a5 a6 a7 dy ams sp fe la n ko am lf fr pt so gn i hi) kg_500 kg_502 kp_Mo_hasPoints kg_503 ok_Mo_hasPoints pd_Mo_hasPoints (zrec hK (hP 0 _ rfl) zm_cls) ⟨rfl, hP, hD.weaken (fun _ _ _ _ => trivial)⟩ rfl hl.1 rfl (Nat.le_of_ble_eq_true rfl) ⟨(Nat.le_of_ble_eq_true rfl), (Nat.le_of_ble_eq_true rfl)⟩ ⟨Nat.zero_le _, Nat.zero_le _⟩ d_Mo_valueOf_65) ?_
        refine lv_if_eq (tgt := 80) hx hb d_Mo_valueOf_68 (by decide) (fun c_4 => ?_) (fun c_4 => ?_)
        · refine lv_aload_n hx hb d_Mo_valueOf_80 rfl (lv_at hl 1 rfl) ?_
          refine z_get S zm_cls zm_in (hP 0 _ rfl) 6 (by decide) kg_432 (Or.inl rfl) rfl d_Mo_valueOf_81 ?_
          refine lv_iload_n hx hb d_Mo_valueOf_84 rfl (lv_at hl 2 rfl) ?_
          refine va_iald hx hb hK.1 hP 1 0 rfl rfl (vp_in_nI hi (by decide)) d_Mo_valueOf_85 ?_
          rw [hci]
          refine lv_bipush (v := 7) hx hb d_Mo_valueOf_86 (by decide) ?_
          refine lv_icmp_ne (tgt := 104) hx hb d_Mo_valueOf_88 (by decide) (fun c_5 => ?_) (fun c_5 => ?_)
          · refine lv_iload_n hx hb d_Mo_valueOf_104 rfl (lv_at hl 0 rfl) ?_
            exact z_iret (v := mVal (ko i) (fr i) (lf i) (pt i) t) (tys := none) S hr hlk (by first | rfl | simp only [mVal, mVal2, mVal3, eq_true c_1, c_2, eq_true c_3, eq_true c_4, c_5, ↓reduceIte]) ⟨rfl, rfl⟩ z_nil d_Mo_valueOf_105
          · refine lv_iload_n hx hb d_Mo_valueOf_91 rfl (lv_at hl 3 rfl) ?_
            refine lv_bipush (v := 7) hx hb d_Mo_valueOf_92 (by decide) ?_
            refine lv_irem hx hb d_Mo_valueOf_94 (by decide) ?_
            refine lv_if_ne (tgt := 104) hx hb d_Mo_valueOf_95 (by decide) (fun c_6 => ?_) (fun c_6 => ?_)
            · refine lv_iload_n hx hb d_Mo_valueOf_104 rfl (lv_at hl 0 rfl) ?_
              exact z_iret (v := mVal (ko i) (fr i) (lf i) (pt i) t) (tys := none) S hr hlk (by first | rfl | simp only [mVal, mVal2, mVal3, eq_true c_1, c_2, eq_true c_3, eq_true c_4, eq_true c_5, c_6, ↓reduceIte]) ⟨rfl, rfl⟩ z_nil d_Mo_valueOf_105
            · refine lv_iconst (v := 2) hx hb d_Mo_valueOf_98 (by decide) ?_
              refine lv_iload_n hx hb d_Mo_valueOf_99 rfl (lv_at hl 0 rfl) ?_
              refine lv_imul hx hb d_Mo_valueOf_100 ?_
              refine lv_goto (tgt := 105) hx hb d_Mo_valueOf_101 (by decide) ?_
              exact z_iret (v := mVal (ko i) (fr i) (lf i) (pt i) t) (tys := none) S hr hlk (by first | rfl | simp only [mVal, mVal2, mVal3, eq_true c_1, c_2, eq_true c_3, eq_true c_4, eq_true c_5, eq_true c_6, ↓reduceIte]) ⟨rfl, rfl⟩ z_nil d_Mo_valueOf_105
        · refine lv_iload_n hx hb d_Mo_valueOf_71 rfl (lv_at hl 0 rfl) ?_
          refine lv_aload_n hx hb d_Mo_valueOf_72 rfl (lv_at hl 1 rfl) ?_
          refine z_get S zm_cls zm_in (hP 0 _ rfl) 10 (by decide) kg_436 (Or.inl rfl) rfl d_Mo_valueOf_73 ?_
          refine lv_iload_n hx hb d_Mo_valueOf_76 rfl (lv_at hl 2 rfl) ?_
          refine va_iald hx hb hK.1 hP 5 0 rfl rfl (vp_in_nI hi (by decide)) d_Mo_valueOf_77 ?_
          rw [hci]
          refine lv_iadd hx hb d_Mo_valueOf_78 ?_
          refine lv_istore_n (lv' := [(3, .int ((((lf i) / 10) * 10) + (pt i))), (0, .ref mo), (1, .int (nI i)), (2, .int t)]) hx hb d_Mo_valueOf_79 rfl hl (by decide) rfl (fun ls hl => ?_)
          refine lv_aload_n hx hb d_Mo_valueOf_80 rfl (lv_at hl 1 rfl) ?_
          refine z_get S zm_cls zm_in (hP 0 _ rfl) 6 (by decide) kg_432 (Or.inl rfl) rfl d_Mo_valueOf_81 ?_
          refine lv_iload_n hx hb d_Mo_valueOf_84 rfl (lv_at hl 2 rfl) ?_
          refine va_iald hx hb hK.1 hP 1 0 rfl rfl (vp_in_nI hi (by decide)) d_Mo_valueOf_85 ?_
          rw [hci]
          refine lv_bipush (v := 7) hx hb d_Mo_valueOf_86 (by decide) ?_
          refine lv_icmp_ne (tgt := 104) hx hb d_Mo_valueOf_88 (by decide) (fun c_7 => ?_) (fun c_7 => ?_)
          · refine lv_iload_n hx hb d_Mo_valueOf_104 rfl (lv_at hl 0 rfl) ?_
            exact z_iret (v := mVal (ko i) (fr i) (lf i) (pt i) t) (tys := none) S hr hlk (by first | rfl | simp only [mVal, mVal2, mVal3, eq_true c_1, c_2, eq_true c_3, c_4, c_7, ↓reduceIte]) ⟨rfl, rfl⟩ z_nil d_Mo_valueOf_105
          · refine lv_iload_n hx hb d_Mo_valueOf_91 rfl (lv_at hl 3 rfl) ?_
            refine lv_bipush (v := 7) hx hb d_Mo_valueOf_92 (by decide) ?_
            refine lv_irem hx hb d_Mo_valueOf_94 (by decide) ?_
            refine lv_if_ne (tgt := 104) hx hb d_Mo_valueOf_95 (by decide) (fun c_8 => ?_) (fun c_8 => ?_)
            · refine lv_iload_n hx hb d_Mo_valueOf_104 rfl (lv_at hl 0 rfl) ?_
              exact z_iret (v := mVal (ko i) (fr i) (lf i) (pt i) t) (tys := none) S hr hlk (by first | rfl | simp only [mVal, mVal2, mVal3, eq_true c_1, c_2, eq_true c_3, c_4, eq_true c_7, c_8, ↓reduceIte]) ⟨rfl, rfl⟩ z_nil d_Mo_valueOf_105
            · refine lv_iconst (v := 2) hx hb d_Mo_valueOf_98 (by decide) ?_
              refine lv_iload_n hx hb d_Mo_valueOf_99 rfl (lv_at hl 0 rfl) ?_
              refine lv_imul hx hb d_Mo_valueOf_100 ?_
              refine lv_goto (tgt := 105) hx hb d_Mo_valueOf_101 (by decide) ?_
              exact z_iret (v := mVal (ko i) (fr i) (lf i) (pt i) t) (tys := none) S hr hlk (by first | rfl | simp only [mVal, mVal2, mVal3, eq_true c_1, c_2, eq_true c_3, c_4, eq_true c_7, eq_true c_8, ↓reduceIte]) ⟨rfl, rfl⟩ z_nil d_Mo_valueOf_105
      · refine lv_iload_n hx hb d_Mo_valueOf_53 rfl (lv_at hl 0 rfl) ?_
        exact z_iret (v := mVal (ko i) (fr i) (lf i) (pt i) t) (tys := none) S hr hlk (by first | rfl | simp only [mVal, mVal2, mVal3, eq_true c_1, c_2, c_3, ↓reduceIte]) ⟨rfl, rfl⟩ z_nil d_Mo_valueOf_54
    · refine lv_iload_n hx hb d_Mo_valueOf_36 rfl (lv_at hl 0 rfl) ?_
      refine lv_iload_n hx hb d_Mo_valueOf_37 rfl (lv_at hl 0 rfl) ?_
      refine lv_bipush (v := 10) hx hb d_Mo_valueOf_38 (by decide) ?_
      refine lv_idiv hx hb d_Mo_valueOf_40 (by decide) ?_
      refine lv_isub hx hb d_Mo_valueOf_41 ?_
      exact z_iret (v := mVal (ko i) (fr i) (lf i) (pt i) t) (tys := none) S hr hlk (by first | rfl | simp only [mVal, mVal2, mVal3, eq_true c_1, eq_true c_2, ↓reduceIte]) ⟨rfl, rfl⟩ z_nil d_Mo_valueOf_42
  · refine lv_iload_n hx hb d_Mo_valueOf_8 rfl (lv_at hl 2 rfl) ?_
    refine lv_aload_n hx hb d_Mo_valueOf_9 rfl (lv_at hl 0 rfl) ?_
    refine lv_iload_n hx hb d_Mo_valueOf_10 rfl (lv_at hl 1 rfl) ?_
    refine z_q (z_D (n := 1) (C := "VoucherOfficeModel") (As := [.int (nI i)]) (rest := [.int t]) S (c_Mo_lastDay l G _ mo a1 a2 a3 a4 a5 a6 a7 dy ams sp fe la n ko am lf fr pt so gn i hi) kg_496 kg_498 kp_Mo_lastDay kg_499 ok_Mo_lastDay pd_Mo_lastDay (zrec hK (hP 0 _ rfl) zm_cls) ⟨rfl, hP, hD.weaken (fun _ _ _ _ => trivial)⟩ rfl hl.1 rfl (Nat.le_of_ble_eq_true rfl) ⟨(Nat.le_of_ble_eq_true rfl), (Nat.le_of_ble_eq_true rfl)⟩ ⟨Nat.zero_le _, Nat.zero_le _⟩ d_Mo_valueOf_11) ?_
    refine lv_icmp_le (tgt := 19) hx hb d_Mo_valueOf_14 (by decide) (fun c_9 => ?_) (fun c_9 => ?_)
    · refine lv_aload_n hx hb d_Mo_valueOf_19 rfl (lv_at hl 0 rfl) ?_
      refine z_get S zm_cls zm_in (hP 0 _ rfl) 8 (by decide) kg_434 (Or.inl rfl) rfl d_Mo_valueOf_20 ?_
      refine lv_iload_n hx hb d_Mo_valueOf_23 rfl (lv_at hl 1 rfl) ?_
      refine va_iald hx hb hK.1 hP 3 0 rfl rfl (vp_in_nI hi (by decide)) d_Mo_valueOf_24 ?_
      rw [hci]
      refine lv_istore_n (lv' := [(3, .int (lf i)), (0, .ref mo), (1, .int (nI i)), (2, .int t)]) hx hb d_Mo_valueOf_25 rfl hl (by decide) rfl (fun ls hl => ?_)
      refine lv_aload_n hx hb d_Mo_valueOf_26 rfl (lv_at hl 1 rfl) ?_
      refine z_get S zm_cls zm_in (hP 0 _ rfl) 6 (by decide) kg_432 (Or.inl rfl) rfl d_Mo_valueOf_27 ?_
      refine lv_iload_n hx hb d_Mo_valueOf_30 rfl (lv_at hl 2 rfl) ?_
      refine va_iald hx hb hK.1 hP 1 0 rfl rfl (vp_in_nI hi (by decide)) d_Mo_valueOf_31 ?_
      rw [hci]
      refine lv_iconst (v := 3) hx hb d_Mo_valueOf_32 (by decide) ?_
      refine lv_icmp_ne (tgt := 43) hx hb d_Mo_valueOf_33 (by decide) (fun c_10 => ?_) (fun c_10 => ?_)
      · refine lv_aload_n hx hb d_Mo_valueOf_43 rfl (lv_at hl 1 rfl) ?_
        refine z_get S zm_cls zm_in (hP 0 _ rfl) 6 (by decide) kg_432 (Or.inl rfl) rfl d_Mo_valueOf_44 ?_
        refine lv_iload_n hx hb d_Mo_valueOf_47 rfl (lv_at hl 2 rfl) ?_
        refine va_iald hx hb hK.1 hP 1 0 rfl rfl (vp_in_nI hi (by decide)) d_Mo_valueOf_48 ?_
        rw [hci]
        refine lv_iconst (v := 4) hx hb d_Mo_valueOf_49 (by decide) ?_
        refine lv_icmp_ge (tgt := 55) hx hb d_Mo_valueOf_50 (by decide) (fun c_11 => ?_) (fun c_11 => ?_)
        · refine lv_iload_n hx hb d_Mo_valueOf_55 rfl (lv_at hl 0 rfl) ?_
          refine lv_bipush (v := 10) hx hb d_Mo_valueOf_56 (by decide) ?_
          refine lv_idiv hx hb d_Mo_valueOf_58 (by decide) ?_
          refine lv_bipush (v := 10) hx hb d_Mo_valueOf_59 (by decide) ?_
          refine lv_imul hx hb d_Mo_valueOf_61 ?_
          refine lv_istore_n (lv' := [(3, .int (((lf i) / 10) * 10)), (0, .ref mo), (1, .int (nI i)), (2, .int t)]) hx hb d_Mo_valueOf_62 rfl hl (by decide) rfl (fun ls hl => ?_)
          refine lv_aload_n hx hb d_Mo_valueOf_63 rfl (lv_at hl 1 rfl) ?_
          refine lv_iload_n hx hb d_Mo_valueOf_64 rfl (lv_at hl 2 rfl) ?_
          refine z_q (z_D (n := 1) (C := "VoucherOfficeModel") (As := [.int (nI i)]) (rest := []) S (c_Mo_hasPoints l G _ mo a1 a2 a3 a4 a5 a6 a7 dy ams sp fe la n ko am lf fr pt so gn i hi) kg_500 kg_502 kp_Mo_hasPoints kg_503 ok_Mo_hasPoints pd_Mo_hasPoints (zrec hK (hP 0 _ rfl) zm_cls) ⟨rfl, hP, hD.weaken (fun _ _ _ _ => trivial)⟩ rfl hl.1 rfl (Nat.le_of_ble_eq_true rfl) ⟨(Nat.le_of_ble_eq_true rfl), (Nat.le_of_ble_eq_true rfl)⟩ ⟨Nat.zero_le _, Nat.zero_le _⟩ d_Mo_valueOf_65) ?_
          refine lv_if_eq (tgt := 80) hx hb d_Mo_valueOf_68 (by decide) (fun c_12 => ?_) (fun c_12 => ?_)
          · refine lv_aload_n hx hb d_Mo_valueOf_80 rfl (lv_at hl 1 rfl) ?_
            refine z_get S zm_cls zm_in (hP 0 _ rfl) 6 (by decide) kg_432 (Or.inl rfl) rfl d_Mo_valueOf_81 ?_
            refine lv_iload_n hx hb d_Mo_valueOf_84 rfl (lv_at hl 2 rfl) ?_
            refine va_iald hx hb hK.1 hP 1 0 rfl rfl (vp_in_nI hi (by decide)) d_Mo_valueOf_85 ?_
            rw [hci]
            refine lv_bipush (v := 7) hx hb d_Mo_valueOf_86 (by decide) ?_
            refine lv_icmp_ne (tgt := 104) hx hb d_Mo_valueOf_88 (by decide) (fun c_13 => ?_) (fun c_13 => ?_)
            · refine lv_iload_n hx hb d_Mo_valueOf_104 rfl (lv_at hl 0 rfl) ?_
              exact z_iret (v := mVal (ko i) (fr i) (lf i) (pt i) t) (tys := none) S hr hlk (by first | rfl | simp only [mVal, mVal2, mVal3, c_1, eq_true c_9, c_10, eq_true c_11, eq_true c_12, c_13, ↓reduceIte]) ⟨rfl, rfl⟩ z_nil d_Mo_valueOf_105
            · refine lv_iload_n hx hb d_Mo_valueOf_91 rfl (lv_at hl 3 rfl) ?_
              refine lv_bipush (v := 7) hx hb d_Mo_valueOf_92 (by decide) ?_
              refine lv_irem hx hb d_Mo_valueOf_94 (by decide) ?_
              refine lv_if_ne (tgt := 104) hx hb d_Mo_valueOf_95 (by decide) (fun c_14 => ?_) (fun c_14 => ?_)
              · refine lv_iload_n hx hb d_Mo_valueOf_104 rfl (lv_at hl 0 rfl) ?_
                exact z_iret (v := mVal (ko i) (fr i) (lf i) (pt i) t) (tys := none) S hr hlk (by first | rfl | simp only [mVal, mVal2, mVal3, c_1, eq_true c_9, c_10, eq_true c_11, eq_true c_12, eq_true c_13, c_14, ↓reduceIte]) ⟨rfl, rfl⟩ z_nil d_Mo_valueOf_105
              · refine lv_iconst (v := 2) hx hb d_Mo_valueOf_98 (by decide) ?_
                refine lv_iload_n hx hb d_Mo_valueOf_99 rfl (lv_at hl 0 rfl) ?_
                refine lv_imul hx hb d_Mo_valueOf_100 ?_
                refine lv_goto (tgt := 105) hx hb d_Mo_valueOf_101 (by decide) ?_
                exact z_iret (v := mVal (ko i) (fr i) (lf i) (pt i) t) (tys := none) S hr hlk (by first | rfl | simp only [mVal, mVal2, mVal3, c_1, eq_true c_9, c_10, eq_true c_11, eq_true c_12, eq_true c_13, eq_true c_14, ↓reduceIte]) ⟨rfl, rfl⟩ z_nil d_Mo_valueOf_105
          · refine lv_iload_n hx hb d_Mo_valueOf_71 rfl (lv_at hl 0 rfl) ?_
            refine lv_aload_n hx hb d_Mo_valueOf_72 rfl (lv_at hl 1 rfl) ?_
            refine z_get S zm_cls zm_in (hP 0 _ rfl) 10 (by decide) kg_436 (Or.inl rfl) rfl d_Mo_valueOf_73 ?_
            refine lv_iload_n hx hb d_Mo_valueOf_76 rfl (lv_at hl 2 rfl) ?_
            refine va_iald hx hb hK.1 hP 5 0 rfl rfl (vp_in_nI hi (by decide)) d_Mo_valueOf_77 ?_
            rw [hci]
            refine lv_iadd hx hb d_Mo_valueOf_78 ?_
            refine lv_istore_n (lv' := [(3, .int ((((lf i) / 10) * 10) + (pt i))), (0, .ref mo), (1, .int (nI i)), (2, .int t)]) hx hb d_Mo_valueOf_79 rfl hl (by decide) rfl (fun ls hl => ?_)
            refine lv_aload_n hx hb d_Mo_valueOf_80 rfl (lv_at hl 1 rfl) ?_
            refine z_get S zm_cls zm_in (hP 0 _ rfl) 6 (by decide) kg_432 (Or.inl rfl) rfl d_Mo_valueOf_81 ?_
            refine lv_iload_n hx hb d_Mo_valueOf_84 rfl (lv_at hl 2 rfl) ?_
            refine va_iald hx hb hK.1 hP 1 0 rfl rfl (vp_in_nI hi (by decide)) d_Mo_valueOf_85 ?_
            rw [hci]
            refine lv_bipush (v := 7) hx hb d_Mo_valueOf_86 (by decide) ?_
            refine lv_icmp_ne (tgt := 104) hx hb d_Mo_valueOf_88 (by decide) (fun c_15 => ?_) (fun c_15 => ?_)
            · refine lv_iload_n hx hb d_Mo_valueOf_104 rfl (lv_at hl 0 rfl) ?_
              exact z_iret (v := mVal (ko i) (fr i) (lf i) (pt i) t) (tys := none) S hr hlk (by first | rfl | simp only [mVal, mVal2, mVal3, c_1, eq_true c_9, c_10, eq_true c_11, c_12, c_15, ↓reduceIte]) ⟨rfl, rfl⟩ z_nil d_Mo_valueOf_105
            · refine lv_iload_n hx hb d_Mo_valueOf_91 rfl (lv_at hl 3 rfl) ?_
              refine lv_bipush (v := 7) hx hb d_Mo_valueOf_92 (by decide) ?_
              refine lv_irem hx hb d_Mo_valueOf_94 (by decide) ?_
              refine lv_if_ne (tgt := 104) hx hb d_Mo_valueOf_95 (by decide) (fun c_16 => ?_) (fun c_16 => ?_)
              · refine lv_iload_n hx hb d_Mo_valueOf_104 rfl (lv_at hl 0 rfl) ?_
                exact z_iret (v := mVal (ko i) (fr i) (lf i) (pt i) t) (tys := none) S hr hlk (by first | rfl | simp only [mVal, mVal2, mVal3, c_1, eq_true c_9, c_10, eq_true c_11, c_12, eq_true c_15, c_16, ↓reduceIte]) ⟨rfl, rfl⟩ z_nil d_Mo_valueOf_105
              · refine lv_iconst (v := 2) hx hb d_Mo_valueOf_98 (by decide) ?_
                refine lv_iload_n hx hb d_Mo_valueOf_99 rfl (lv_at hl 0 rfl) ?_
                refine lv_imul hx hb d_Mo_valueOf_100 ?_
                refine lv_goto (tgt := 105) hx hb d_Mo_valueOf_101 (by decide) ?_
                exact z_iret (v := mVal (ko i) (fr i) (lf i) (pt i) t) (tys := none) S hr hlk (by first | rfl | simp only [mVal, mVal2, mVal3, c_1, eq_true c_9, c_10, eq_true c_11, c_12, eq_true c_15, eq_true c_16, ↓reduceIte]) ⟨rfl, rfl⟩ z_nil d_Mo_valueOf_105
        · refine lv_iload_n hx hb d_Mo_valueOf_53 rfl (lv_at hl 0 rfl) ?_
          exact z_iret (v := mVal (ko i) (fr i) (lf i) (pt i) t) (tys := none) S hr hlk (by first | rfl | simp only [mVal, mVal2, mVal3, c_1, eq_true c_9, c_10, c_11, ↓reduceIte]) ⟨rfl, rfl⟩ z_nil d_Mo_valueOf_54
      · refine lv_iload_n hx hb d_Mo_valueOf_36 rfl (lv_at hl 0 rfl) ?_
        refine lv_iload_n hx hb d_Mo_valueOf_37 rfl (lv_at hl 0 rfl) ?_
        refine lv_bipush (v := 10) hx hb d_Mo_valueOf_38 (by decide) ?_
        refine lv_idiv hx hb d_Mo_valueOf_40 (by decide) ?_
        refine lv_isub hx hb d_Mo_valueOf_41 ?_
        exact z_iret (v := mVal (ko i) (fr i) (lf i) (pt i) t) (tys := none) S hr hlk (by first | rfl | simp only [mVal, mVal2, mVal3, c_1, eq_true c_9, eq_true c_10, ↓reduceIte]) ⟨rfl, rfl⟩ z_nil d_Mo_valueOf_42
    · refine lv_iconst (v := 0) hx hb d_Mo_valueOf_17 (by decide) ?_
      exact z_iret (v := mVal (ko i) (fr i) (lf i) (pt i) t) (tys := none) S hr hlk (by first | rfl | simp only [mVal, mVal2, mVal3, c_1, c_9, ↓reduceIte]) ⟨rfl, rfl⟩ z_nil d_Mo_valueOf_18
set_option maxHeartbeats 2000000 in
theorem c_Mo_feeOf (l : Launch) (G : ZG) (sz : Nat) (mo a1 a2 a3 a4 a5 a6 a7 : Nat) (dy ams sp fe la : Int32) (n : Nat) (ko am lf fr pt so gn : Nat → Int32) (i : Nat) (g : Int32) (hi : i < 40) : ZK l G y_Mo_feeOf 0 [.ref mo, .int (nI i), .int g] (OW G sz (wm G mo a1 a2 a3 a4 a5 a6 a7 dy (nI n) ams sp fe la ko am lf fr pt so gn)) (ZE (.int (mFee (ko i) (pt i) g))) 0 0 (fun _ => False) := by
  refine ZK.ofBody (cc := b_Mo_feeOf) (maxL := 4) (ret := (some FieldType.int)) kg_511 (by decide) (by decide) (Nat.le_of_ble_eq_true rfl) ?_
  intro p e s m below meth c S hr hlk hnm hp ls hl
  obtain ⟨⟨hx, hb, hml, hown, hts⟩, hK⟩ := id S
  obtain ⟨hsz, hP, hD⟩ := hp
  have hci : (nI i).toNatClampNeg = i := nI_clamp (by omega)
  have hl : lv_has ls 4 [(0, .ref mo), (1, .int (nI i)), (2, .int g)] := hl
  refine lv_iload_n hx hb d_Mo_feeOf_0 rfl (lv_at hl 2 rfl) ?_
  refine lv_bipush (v := 50) hx hb d_Mo_feeOf_1 (by decide) ?_
  refine lv_idiv hx hb d_Mo_feeOf_3 (by decide) ?_
  refine lv_iconst (v := 1) hx hb d_Mo_feeOf_4 (by decide) ?_
  refine lv_iadd hx hb d_Mo_feeOf_5 ?_
  refine lv_istore_n (lv' := [(3, .int ((g / 50) + 1)), (0, .ref mo), (1, .int (nI i)), (2, .int g)]) hx hb d_Mo_feeOf_6 rfl hl (by decide) rfl (fun ls hl => ?_)
  refine lv_aload_n hx hb d_Mo_feeOf_7 rfl (lv_at hl 1 rfl) ?_
  refine z_get S zm_cls zm_in (hP 0 _ rfl) 6 (by decide) kg_432 (Or.inl rfl) rfl d_Mo_feeOf_8 ?_
  refine lv_iload_n hx hb d_Mo_feeOf_11 rfl (lv_at hl 2 rfl) ?_
  refine va_iald hx hb hK.1 hP 1 0 rfl rfl (vp_in_nI hi (by decide)) d_Mo_feeOf_12 ?_
  rw [hci]
  refine lv_iconst (v := 3) hx hb d_Mo_feeOf_13 (by decide) ?_
  refine lv_icmp_ne (tgt := 21) hx hb d_Mo_feeOf_14 (by decide) (fun c_1 => ?_) (fun c_1 => ?_)
  · refine lv_aload_n hx hb d_Mo_feeOf_21 rfl (lv_at hl 1 rfl) ?_
    refine z_get S zm_cls zm_in (hP 0 _ rfl) 6 (by decide) kg_432 (Or.inl rfl) rfl d_Mo_feeOf_22 ?_
    refine lv_iload_n hx hb d_Mo_feeOf_25 rfl (lv_at hl 2 rfl) ?_
    refine va_iald hx hb hK.1 hP 1 0 rfl rfl (vp_in_nI hi (by decide)) d_Mo_feeOf_26 ?_
    rw [hci]
    refine lv_bipush (v := 7) hx hb d_Mo_feeOf_27 (by decide) ?_
    refine lv_icmp_eq (tgt := 34) hx hb d_Mo_feeOf_29 (by decide) (fun c_2 => ?_) (fun c_2 => ?_)
    · refine lv_iload_n hx hb d_Mo_feeOf_34 rfl (lv_at hl 0 rfl) ?_
      refine lv_aload_n hx hb d_Mo_feeOf_35 rfl (lv_at hl 1 rfl) ?_
      refine z_get S zm_cls zm_in (hP 0 _ rfl) 10 (by decide) kg_436 (Or.inl rfl) rfl d_Mo_feeOf_36 ?_
      refine lv_iload_n hx hb d_Mo_feeOf_39 rfl (lv_at hl 2 rfl) ?_
      refine va_iald hx hb hK.1 hP 5 0 rfl rfl (vp_in_nI hi (by decide)) d_Mo_feeOf_40 ?_
      rw [hci]
      refine lv_icmp_le (tgt := 55) hx hb d_Mo_feeOf_41 (by decide) (fun c_3 => ?_) (fun c_3 => ?_)
      · refine lv_iconst (v := 0) hx hb d_Mo_feeOf_55 (by decide) ?_
        exact z_iret (v := mFee (ko i) (pt i) g) (tys := none) S hr hlk (by first | rfl | simp only [mFee, c_1, eq_true c_2, eq_true c_3, ↓reduceIte]) ⟨rfl, rfl⟩ z_nil d_Mo_feeOf_56
      · refine lv_iload_n hx hb d_Mo_feeOf_44 rfl (lv_at hl 0 rfl) ?_
        refine lv_aload_n hx hb d_Mo_feeOf_45 rfl (lv_at hl 1 rfl) ?_
        refine z_get S zm_cls zm_in (hP 0 _ rfl) 10 (by decide) kg_436 (Or.inl rfl) rfl d_Mo_feeOf_46 ?_
        refine lv_iload_n hx hb d_Mo_feeOf_49 rfl (lv_at hl 2 rfl) ?_
        refine va_iald hx hb hK.1 hP 5 0 rfl rfl (vp_in_nI hi (by decide)) d_Mo_feeOf_50 ?_
        rw [hci]
        refine lv_isub hx hb d_Mo_feeOf_51 ?_
        refine lv_goto (tgt := 56) hx hb d_Mo_feeOf_52 (by decide) ?_
        exact z_iret (v := mFee (ko i) (pt i) g) (tys := none) S hr hlk (by first | rfl | simp only [mFee, c_1, eq_true c_2, c_3, ↓reduceIte]) ⟨rfl, rfl⟩ z_nil d_Mo_feeOf_56
    · refine lv_iload_n hx hb d_Mo_feeOf_32 rfl (lv_at hl 0 rfl) ?_
      exact z_iret (v := mFee (ko i) (pt i) g) (tys := none) S hr hlk (by first | rfl | simp only [mFee, c_1, c_2, ↓reduceIte]) ⟨rfl, rfl⟩ z_nil d_Mo_feeOf_33
  · refine lv_iload_n hx hb d_Mo_feeOf_17 rfl (lv_at hl 0 rfl) ?_
    refine lv_iconst (v := 2) hx hb d_Mo_feeOf_18 (by decide) ?_
    refine lv_idiv hx hb d_Mo_feeOf_19 (by decide) ?_
    exact z_iret (v := mFee (ko i) (pt i) g) (tys := none) S hr hlk (by first | rfl | simp only [mFee, eq_true c_1, ↓reduceIte]) ⟨rfl, rfl⟩ z_nil d_Mo_feeOf_20
set_option maxHeartbeats 2000000 in
theorem c_Mo_sealOf (l : Launch) (G : ZG) (sz : Nat) (mo a1 a2 a3 a4 a5 a6 a7 : Nat) (dy ams sp fe la : Int32) (n : Nat) (ko am lf fr pt so gn : Nat → Int32) (i : Nat) (hi : i < 40) : ZK l G y_Mo_sealOf 1 [.ref mo, .int (nI i)] (OW G sz (wm G mo a1 a2 a3 a4 a5 a6 a7 dy (nI n) ams sp fe la ko am lf fr pt so gn)) (ZE (.int (mSl (ko i) (fr i) (am i) (lf i) (pt i)))) 0 0 (fun _ => False) := by
  refine ZK.ofBody (cc := b_Mo_sealOf) (maxL := 3) (ret := (some FieldType.int)) kg_523 (by decide) (by decide) (Nat.le_of_ble_eq_true rfl) ?_
  intro p e s m below meth c S hr hlk hnm hp ls hl
  obtain ⟨⟨hx, hb, hml, hown, hts⟩, hK⟩ := id S
  obtain ⟨hsz, hP, hD⟩ := hp
  have hci : (nI i).toNatClampNeg = i := nI_clamp (by omega)
  have hl : lv_has ls 3 [(0, .ref mo), (1, .int (nI i))] := hl
  refine lv_aload_n hx hb d_Mo_sealOf_0 rfl (lv_at hl 0 rfl) ?_
  refine z_get S zm_cls zm_in (hP 0 _ rfl) 8 (by decide) kg_434 (Or.inl rfl) rfl d_Mo_sealOf_1 ?_
  refine lv_iload_n hx hb d_Mo_sealOf_4 rfl (lv_at hl 1 rfl) ?_
  refine va_iald hx hb hK.1 hP 3 0 rfl rfl (vp_in_nI hi (by decide)) d_Mo_sealOf_5 ?_
  rw [hci]
  refine lv_sipush (v := 961) hx hb d_Mo_sealOf_6 (by decide) ?_
  refine lv_imul hx hb d_Mo_sealOf_9 ?_
  refine lv_aload_n hx hb d_Mo_sealOf_10 rfl (lv_at hl 0 rfl) ?_
  refine z_get S zm_cls zm_in (hP 0 _ rfl) 9 (by decide) kg_435 (Or.inl rfl) rfl d_Mo_sealOf_11 ?_
  refine lv_iload_n hx hb d_Mo_sealOf_14 rfl (lv_at hl 1 rfl) ?_
  refine va_iald hx hb hK.1 hP 4 0 rfl rfl (vp_in_nI hi (by decide)) d_Mo_sealOf_15 ?_
  rw [hci]
  refine lv_bipush (v := 31) hx hb d_Mo_sealOf_16 (by decide) ?_
  refine lv_imul hx hb d_Mo_sealOf_18 ?_
  refine lv_iadd hx hb d_Mo_sealOf_19 ?_
  refine lv_aload_n hx hb d_Mo_sealOf_20 rfl (lv_at hl 0 rfl) ?_
  refine z_get S zm_cls zm_in (hP 0 _ rfl) 7 (by decide) kg_433 (Or.inl rfl) rfl d_Mo_sealOf_21 ?_
  refine lv_iload_n hx hb d_Mo_sealOf_24 rfl (lv_at hl 1 rfl) ?_
  refine va_iald hx hb hK.1 hP 2 0 rfl rfl (vp_in_nI hi (by decide)) d_Mo_sealOf_25 ?_
  rw [hci]
  refine lv_iadd hx hb d_Mo_sealOf_26 ?_
  refine lv_istore_n (lv' := [(2, .int ((((lf i) * 961) + ((fr i) * 31)) + (am i))), (0, .ref mo), (1, .int (nI i))]) hx hb d_Mo_sealOf_27 rfl hl (by decide) rfl (fun ls hl => ?_)
  refine lv_aload_n hx hb d_Mo_sealOf_28 rfl (lv_at hl 1 rfl) ?_
  refine lv_iload_n hx hb d_Mo_sealOf_29 rfl (lv_at hl 2 rfl) ?_
  refine z_q (z_D (n := 1) (C := "VoucherOfficeModel") (As := [.int (nI i)]) (rest := []) S (c_Mo_isDated l G _ mo a1 a2 a3 a4 a5 a6 a7 dy ams sp fe la n ko am lf fr pt so gn i hi) kg_492 kg_494 kp_Mo_isDated kg_495 ok_Mo_isDated pd_Mo_isDated (zrec hK (hP 0 _ rfl) zm_cls) ⟨rfl, hP, hD.weaken (fun _ _ _ _ => trivial)⟩ rfl hl.1 rfl (Nat.le_of_ble_eq_true rfl) ⟨(Nat.le_of_ble_eq_true rfl), (Nat.le_of_ble_eq_true rfl)⟩ ⟨Nat.zero_le _, Nat.zero_le _⟩ d_Mo_sealOf_30) ?_
  refine lv_if_eq (tgt := 44) hx hb d_Mo_sealOf_33 (by decide) (fun c_1 => ?_) (fun c_1 => ?_)
  · refine lv_aload_n hx hb d_Mo_sealOf_44 rfl (lv_at hl 1 rfl) ?_
    refine z_get S zm_cls zm_in (hP 0 _ rfl) 6 (by decide) kg_432 (Or.inl rfl) rfl d_Mo_sealOf_45 ?_
    refine lv_iload_n hx hb d_Mo_sealOf_48 rfl (lv_at hl 2 rfl) ?_
    refine va_iald hx hb hK.1 hP 1 0 rfl rfl (vp_in_nI hi (by decide)) d_Mo_sealOf_49 ?_
    rw [hci]
    refine lv_bipush (v := 7) hx hb d_Mo_sealOf_50 (by decide) ?_
    refine lv_icmp_ne (tgt := 66) hx hb d_Mo_sealOf_52 (by decide) (fun c_2 => ?_) (fun c_2 => ?_)
    · refine lv_iload_n hx hb d_Mo_sealOf_66 rfl (lv_at hl 0 rfl) ?_
      exact z_iret (v := mSl (ko i) (fr i) (am i) (lf i) (pt i)) (tys := none) S hr hlk (by first | rfl | simp only [mSl, mSl2, eq_true c_1, c_2, ↓reduceIte]) ⟨rfl, rfl⟩ z_nil d_Mo_sealOf_67
    · refine lv_iload_n hx hb d_Mo_sealOf_55 rfl (lv_at hl 0 rfl) ?_
      refine lv_iconst (v := 3) hx hb d_Mo_sealOf_56 (by decide) ?_
      refine lv_aload_n hx hb d_Mo_sealOf_57 rfl (lv_at hl 1 rfl) ?_
      refine z_get S zm_cls zm_in (hP 0 _ rfl) 10 (by decide) kg_436 (Or.inl rfl) rfl d_Mo_sealOf_58 ?_
      refine lv_iload_n hx hb d_Mo_sealOf_61 rfl (lv_at hl 2 rfl) ?_
      refine va_iald hx hb hK.1 hP 5 0 rfl rfl (vp_in_nI hi (by decide)) d_Mo_sealOf_62 ?_
      rw [hci]
      refine lv_imul hx hb d_Mo_sealOf_63 ?_
      refine lv_iadd hx hb d_Mo_sealOf_64 ?_
      refine lv_istore_n (lv' := [(2, .int (((((lf i) * 961) + ((fr i) * 31)) + (am i)) + (3 * (pt i)))), (0, .ref mo), (1, .int (nI i))]) hx hb d_Mo_sealOf_65 rfl hl (by decide) rfl (fun ls hl => ?_)
      refine lv_iload_n hx hb d_Mo_sealOf_66 rfl (lv_at hl 0 rfl) ?_
      exact z_iret (v := mSl (ko i) (fr i) (am i) (lf i) (pt i)) (tys := none) S hr hlk (by first | rfl | simp only [mSl, mSl2, eq_true c_1, eq_true c_2, ↓reduceIte]) ⟨rfl, rfl⟩ z_nil d_Mo_sealOf_67
  · refine lv_iload_n hx hb d_Mo_sealOf_36 rfl (lv_at hl 0 rfl) ?_
    refine lv_aload_n hx hb d_Mo_sealOf_37 rfl (lv_at hl 1 rfl) ?_
    refine lv_iload_n hx hb d_Mo_sealOf_38 rfl (lv_at hl 2 rfl) ?_
    refine z_q (z_D (n := 1) (C := "VoucherOfficeModel") (As := [.int (nI i)]) (rest := [.int ((((lf i) * 961) + ((fr i) * 31)) + (am i))]) S (c_Mo_lastDay l G _ mo a1 a2 a3 a4 a5 a6 a7 dy ams sp fe la n ko am lf fr pt so gn i hi) kg_496 kg_498 kp_Mo_lastDay kg_499 ok_Mo_lastDay pd_Mo_lastDay (zrec hK (hP 0 _ rfl) zm_cls) ⟨rfl, hP, hD.weaken (fun _ _ _ _ => trivial)⟩ rfl hl.1 rfl (Nat.le_of_ble_eq_true rfl) ⟨(Nat.le_of_ble_eq_true rfl), (Nat.le_of_ble_eq_true rfl)⟩ ⟨Nat.zero_le _, Nat.zero_le _⟩ d_Mo_sealOf_39) ?_
    refine lv_iadd hx hb d_Mo_sealOf_42 ?_
    refine lv_istore_n (lv' := [(2, .int (((((lf i) * 961) + ((fr i) * 31)) + (am i)) + (mLd (fr i) (ko i)))), (0, .ref mo), (1, .int (nI i))]) hx hb d_Mo_sealOf_43 rfl hl (by decide) rfl (fun ls hl => ?_)
    refine lv_aload_n hx hb d_Mo_sealOf_44 rfl (lv_at hl 1 rfl) ?_
    refine z_get S zm_cls zm_in (hP 0 _ rfl) 6 (by decide) kg_432 (Or.inl rfl) rfl d_Mo_sealOf_45 ?_
    refine lv_iload_n hx hb d_Mo_sealOf_48 rfl (lv_at hl 2 rfl) ?_
    refine va_iald hx hb hK.1 hP 1 0 rfl rfl (vp_in_nI hi (by decide)) d_Mo_sealOf_49 ?_
    rw [hci]
    refine lv_bipush (v := 7) hx hb d_Mo_sealOf_50 (by decide) ?_
    refine lv_icmp_ne (tgt := 66) hx hb d_Mo_sealOf_52 (by decide) (fun c_3 => ?_) (fun c_3 => ?_)
    · refine lv_iload_n hx hb d_Mo_sealOf_66 rfl (lv_at hl 0 rfl) ?_
      exact z_iret (v := mSl (ko i) (fr i) (am i) (lf i) (pt i)) (tys := none) S hr hlk (by first | rfl | simp only [mSl, mSl2, c_1, c_3, ↓reduceIte]) ⟨rfl, rfl⟩ z_nil d_Mo_sealOf_67
    · refine lv_iload_n hx hb d_Mo_sealOf_55 rfl (lv_at hl 0 rfl) ?_
      refine lv_iconst (v := 3) hx hb d_Mo_sealOf_56 (by decide) ?_
      refine lv_aload_n hx hb d_Mo_sealOf_57 rfl (lv_at hl 1 rfl) ?_
      refine z_get S zm_cls zm_in (hP 0 _ rfl) 10 (by decide) kg_436 (Or.inl rfl) rfl d_Mo_sealOf_58 ?_
      refine lv_iload_n hx hb d_Mo_sealOf_61 rfl (lv_at hl 2 rfl) ?_
      refine va_iald hx hb hK.1 hP 5 0 rfl rfl (vp_in_nI hi (by decide)) d_Mo_sealOf_62 ?_
      rw [hci]
      refine lv_imul hx hb d_Mo_sealOf_63 ?_
      refine lv_iadd hx hb d_Mo_sealOf_64 ?_
      refine lv_istore_n (lv' := [(2, .int ((((((lf i) * 961) + ((fr i) * 31)) + (am i)) + (mLd (fr i) (ko i))) + (3 * (pt i)))), (0, .ref mo), (1, .int (nI i))]) hx hb d_Mo_sealOf_65 rfl hl (by decide) rfl (fun ls hl => ?_)
      refine lv_iload_n hx hb d_Mo_sealOf_66 rfl (lv_at hl 0 rfl) ?_
      exact z_iret (v := mSl (ko i) (fr i) (am i) (lf i) (pt i)) (tys := none) S hr hlk (by first | rfl | simp only [mSl, mSl2, c_1, eq_true c_3, ↓reduceIte]) ⟨rfl, rfl⟩ z_nil d_Mo_sealOf_67
set_option maxHeartbeats 2000000 in
theorem c_Mo_isThere (l : Launch) (G : ZG) (sz : Nat) (mo a1 a2 a3 a4 a5 a6 a7 : Nat) (dy ams sp fe la : Int32) (n : Nat) (ko am lf fr pt so gn : Nat → Int32) (v : Int32) (hn40 : n ≤ 40) : ZK l G y_Mo_isThere 1 [.ref mo, .int v] (OW G sz (wm G mo a1 a2 a3 a4 a5 a6 a7 dy (nI n) ams sp fe la ko am lf fr pt so gn)) (ZE (.int (thV n (gB gn) v))) 0 0 (fun _ => False) := by
  refine ZK.ofBody (cc := b_Mo_isThere) (maxL := 2) (ret := (some FieldType.boolean)) kg_487 (by decide) (by decide) (Nat.le_of_ble_eq_true rfl) ?_
  intro p e s m below meth c S hr hlk hnm hp ls hl
  obtain ⟨⟨hx, hb, hml, hown, hts⟩, hK⟩ := id S
  obtain ⟨hsz, hP, hD⟩ := hp
  have hl : lv_has ls 2 [(0, .ref mo), (1, .int v)] := hl
  refine lv_iload_n hx hb d_Mo_isThere_0 rfl (lv_at hl 1 rfl) ?_
  refine lv_iconst (v := 0) hx hb d_Mo_isThere_1 (by decide) ?_
  refine lv_aload_n hx hb d_Mo_isThere_2 rfl (lv_at hl 0 rfl) ?_
  refine z_get S zm_cls zm_in (hP 0 _ rfl) 1 (by decide) kg_427 (Or.inl rfl) rfl d_Mo_isThere_3 ?_
  refine lv_iconst (v := 1) hx hb d_Mo_isThere_6 (by decide) ?_
  refine lv_isub hx hb d_Mo_isThere_7 ?_
  refine z_q (z_S (n := 3) (As := [.int v, .int 0, .int ((nI n) - 1)]) (rest := []) S (c_Mo_within l G v 0 ((nI n) - 1)) kg_472 kg_473 kg_2 kg_474 ok_Mo_within pd_Mo_within trivial rfl hl.1 rfl (Nat.le_of_ble_eq_true rfl) ⟨(Nat.le_of_ble_eq_true rfl), (Nat.le_of_ble_eq_true rfl)⟩ ⟨Nat.zero_le _, Nat.zero_le _⟩ d_Mo_isThere_8) ?_
  refine lv_if_eq (tgt := 27) hx hb d_Mo_isThere_11 (by decide) (fun c_1 => ?_) (fun c_1 => ?_)
  · refine lv_iconst (v := 0) hx hb d_Mo_isThere_27 (by decide) ?_
    exact z_zret (v := thV n (gB gn) v) S hr hlk rfl (by simp [thV, lkI, c_1]) ⟨rfl, rfl⟩ z_nil d_Mo_isThere_28
  · refine lv_aload_n hx hb d_Mo_isThere_14 rfl (lv_at hl 0 rfl) ?_
    refine z_get S zm_cls zm_in (hP 0 _ rfl) 12 (by decide) kg_438 (Or.inl rfl) rfl d_Mo_isThere_15 ?_
    refine lv_iload_n hx hb d_Mo_isThere_18 rfl (lv_at hl 1 rfl) ?_
    obtain ⟨i, hi, hvi⟩ := inV_in hn40 c_1
    have hci : v.toNatClampNeg = i := by rw [hvi]; exact nI_clamp (by omega)
    refine va_zald hx hb hK.1 hP 7 1 rfl rfl (by rw [hvi]; exact vp_in_nI (by omega) (by decide)) d_Mo_isThere_19 ?_
    rw [hci]
    refine lv_if_ne (tgt := 27) hx hb d_Mo_isThere_20 (by decide) (fun c_2 => ?_) (fun c_2 => ?_)
    · refine lv_iconst (v := 0) hx hb d_Mo_isThere_27 (by decide) ?_
      exact z_zret (v := thV n (gB gn) v) S hr hlk rfl (by simp [thV, lkI, c_1, c_2, hci]) ⟨rfl, rfl⟩ z_nil d_Mo_isThere_28
    · refine lv_iconst (v := 1) hx hb d_Mo_isThere_23 (by decide) ?_
      refine lv_goto (tgt := 28) hx hb d_Mo_isThere_24 (by decide) ?_
      exact z_zret (v := thV n (gB gn) v) S hr hlk rfl (by simp [thV, lkI, c_1, c_2, hci]) ⟨rfl, rfl⟩ z_nil d_Mo_isThere_28
theorem c_Mo_isThere_no (l : Launch) (G : ZG) (sz : Nat) (mo a1 a2 a3 a4 a5 a6 a7 : Nat) (dy ams sp fe la : Int32) (n : Nat) (ko am lf fr pt so gn : Nat → Int32) (v : Int32) (hn40 : n ≤ 40) (h : lkI n (gB gn) v = none) : ZK l G y_Mo_isThere 1 [.ref mo, .int v] (OW G sz (wm G mo a1 a2 a3 a4 a5 a6 a7 dy (nI n) ams sp fe la ko am lf fr pt so gn)) (ZE (.int 0)) 0 0 (fun _ => False) := by
  have h0 := c_Mo_isThere l G sz mo a1 a2 a3 a4 a5 a6 a7 dy ams sp fe la n ko am lf fr pt so gn v hn40
  rw [show thV n (gB gn) v = 0 from by simp only [thV, h]] at h0
  exact h0
theorem c_Mo_isThere_yes (l : Launch) (G : ZG) (sz : Nat) (mo a1 a2 a3 a4 a5 a6 a7 : Nat) (dy ams sp fe la : Int32) (n : Nat) (ko am lf fr pt so gn : Nat → Int32) (v : Int32) (hn40 : n ≤ 40) {i : Nat} (h : lkI n (gB gn) v = some i) : ZK l G y_Mo_isThere 1 [.ref mo, .int v] (OW G sz (wm G mo a1 a2 a3 a4 a5 a6 a7 dy (nI n) ams sp fe la ko am lf fr pt so gn)) (ZE (.int 1)) 0 0 (fun _ => False) := by
  have h0 := c_Mo_isThere l G sz mo a1 a2 a3 a4 a5 a6 a7 dy ams sp fe la n ko am lf fr pt so gn v hn40
  rw [show thV n (gB gn) v = 1 from by simp only [thV, h]] at h0
  exact h0
end
section
def mValue (n : Nat) (ko am lf fr pt so gn : Nat → Int32) (v on : Int32) : Int32 := match lkI n (gB gn) v with | none => -1 | some i => if inV on 0 20000 = 0 then -2 else mVal (ko i) (fr i) (lf i) (pt i) on
def mFeeP (n : Nat) (ko am lf fr pt so gn : Nat → Int32) (v g : Int32) : Int32 := match lkI n (gB gn) v with | none => -1 | some i => if inV g 1 100000 = 0 then -2 else mFee (ko i) (pt i) g
def mSeal (n : Nat) (ko am lf fr pt so gn : Nat → Int32) (v : Int32) : Int32 := match lkI n (gB gn) v with | none => -1 | some i => mSl (ko i) (fr i) (am i) (lf i) (pt i)
def mMark (n : Nat) (ko am lf fr pt so gn : Nat → Int32) (v g : Int32) : Int32 := match lkI n (gB gn) v with | none => -1 | some i => if inV g 0 999 = 0 then -2 else if ko i < 5 then -3 else mSl (ko i) (fr i) (am i) (lf i) (pt i) * 7 + g
def mDays (n : Nat) (ko am lf fr pt so gn : Nat → Int32) (v on : Int32) : Int32 := match lkI n (gB gn) v with | none => -1 | some i => if inV on 0 20000 = 0 then -2 else if mDated (ko i) = 0 then -3 else if mLd (fr i) (ko i) - on ≤ 0 then 0 else mLd (fr i) (ko i) - on
def mPaper (n : Nat) (ko am lf fr pt so gn : Nat → Int32) (v what : Int32) : Int32 := match lkI n (gB gn) v with | none => -1 | some i => if inV what 0 5 = 0 then -2 else if what = 0 then ko i else if what = 1 then am i else if what = 2 then lf i else if what = 3 then fr i else if what = 4 then pt i else if mDated (ko i) = 0 then -3 else mLd (fr i) (ko i)
set_option maxHeartbeats 2000000 in
theorem c_Mo_value (l : Launch) (G : ZG) (sz : Nat) (mo a1 a2 a3 a4 a5 a6 a7 : Nat) (dy ams sp fe la : Int32) (n : Nat) (ko am lf fr pt so gn : Nat → Int32) (v on : Int32) (hn40 : n ≤ 40) : ZK l G y_Mo_value 2 [.ref mo, .int v, .int on] (OW G sz (wm G mo a1 a2 a3 a4 a5 a6 a7 dy (nI n) ams sp fe la ko am lf fr pt so gn)) (ZE (.int (mValue n ko am lf fr pt so gn v on))) 0 0 (fun _ => False) := by
  refine ZK.ofBody (cc := b_Mo_value) (maxL := 3) (ret := (some FieldType.int)) kg_483 (by decide) (by decide) (Nat.le_of_ble_eq_true rfl) ?_
  intro p e s m below meth c S hr hlk hnm hp ls hl
  obtain ⟨⟨hx, hb, hml, hown, hts⟩, hK⟩ := id S
  obtain ⟨hsz, hP, hD⟩ := hp
  have hl : lv_has ls 3 [(0, .ref mo), (1, .int v), (2, .int on)] := hl
  rcases lk_cases hn40 (gB gn) v with hvk | ⟨i, hi, hvi, hgi, hvk⟩
  · refine lv_aload_n hx hb d_Mo_value_0 rfl (lv_at hl 0 rfl) ?_
    refine lv_iload_n hx hb d_Mo_value_1 rfl (lv_at hl 1 rfl) ?_
    refine z_q (z_D (n := 1) (C := "VoucherOfficeModel") (As := [.int v]) (rest := []) S (c_Mo_isThere_no l G _ mo a1 a2 a3 a4 a5 a6 a7 dy ams sp fe la n ko am lf fr pt so gn v hn40 hvk) kg_484 kg_486 kp_Mo_isThere kg_487 ok_Mo_isThere pd_Mo_isThere (zrec hK (hP 0 _ rfl) zm_cls) ⟨rfl, hP, hD.weaken (fun _ _ _ _ => trivial)⟩ rfl hl.1 rfl (Nat.le_of_ble_eq_true rfl) ⟨(Nat.le_of_ble_eq_true rfl), (Nat.le_of_ble_eq_true rfl)⟩ ⟨Nat.zero_le _, Nat.zero_le _⟩ d_Mo_value_2) ?_
    refine lv_if_ne (tgt := 10) hx hb d_Mo_value_5 (by decide) (fun c_1 => ?_) (fun c_1 => ?_)
    · exact absurd rfl c_1
    · refine lv_iconst (v := (-1)) hx hb d_Mo_value_8 (by decide) ?_
      exact z_iret (v := mValue n ko am lf fr pt so gn v on) (tys := none) S hr hlk (by simp only [mValue, hvk, ↓reduceIte]) ⟨rfl, rfl⟩ z_nil d_Mo_value_9
  · subst hvi
    have hci : (nI i).toNatClampNeg = i := nI_clamp (by omega)
    have hli : i < 40 := by omega
    refine lv_aload_n hx hb d_Mo_value_0 rfl (lv_at hl 0 rfl) ?_
    refine lv_iload_n hx hb d_Mo_value_1 rfl (lv_at hl 1 rfl) ?_
    refine z_q (z_D (n := 1) (C := "VoucherOfficeModel") (As := [.int (nI i)]) (rest := []) S (c_Mo_isThere_yes l G _ mo a1 a2 a3 a4 a5 a6 a7 dy ams sp fe la n ko am lf fr pt so gn (nI i) hn40 hvk) kg_484 kg_486 kp_Mo_isThere kg_487 ok_Mo_isThere pd_Mo_isThere (zrec hK (hP 0 _ rfl) zm_cls) ⟨rfl, hP, hD.weaken (fun _ _ _ _ => trivial)⟩ rfl hl.1 rfl (Nat.le_of_ble_eq_true rfl) ⟨(Nat.le_of_ble_eq_true rfl), (Nat.le_of_ble_eq_true rfl)⟩ ⟨Nat.zero_le _, Nat.zero_le _⟩ d_Mo_value_2) ?_
    refine lv_if_ne (tgt := 10) hx hb d_Mo_value_5 (by decide) (fun c_2 => ?_) (fun c_2 => ?_)
    · refine lv_iload_n hx hb d_Mo_value_10 rfl (lv_at hl 2 rfl) ?_
      refine lv_iconst (v := 0) hx hb d_Mo_value_11 (by decide) ?_
      refine lv_sipush (v := 20000) hx hb d_Mo_value_12 (by decide) ?_
      refine z_q (z_S (n := 3) (As := [.int on, .int 0, .int 20000]) (rest := []) S (c_Mo_within l G on 0 20000) kg_472 kg_473 kg_2 kg_474 ok_Mo_within pd_Mo_within trivial rfl hl.1 rfl (Nat.le_of_ble_eq_true rfl) ⟨(Nat.le_of_ble_eq_true rfl), (Nat.le_of_ble_eq_true rfl)⟩ ⟨Nat.zero_le _, Nat.zero_le _⟩ d_Mo_value_15) ?_
      refine lv_if_eq (tgt := 30) hx hb d_Mo_value_18 (by decide) (fun c_3 => ?_) (fun c_3 => ?_)
      · refine lv_bipush (v := (-2)) hx hb d_Mo_value_30 (by decide) ?_
        exact z_iret (v := mValue n ko am lf fr pt so gn (nI i) on) (tys := none) S hr hlk (by simp only [mValue, hvk, eq_true c_3, ↓reduceIte]) ⟨rfl, rfl⟩ z_nil d_Mo_value_32
      · refine lv_aload_n hx hb d_Mo_value_21 rfl (lv_at hl 0 rfl) ?_
        refine lv_iload_n hx hb d_Mo_value_22 rfl (lv_at hl 1 rfl) ?_
        refine lv_iload_n hx hb d_Mo_value_23 rfl (lv_at hl 2 rfl) ?_
        refine z_q (z_D (n := 2) (C := "VoucherOfficeModel") (As := [.int (nI i), .int on]) (rest := []) S (c_Mo_valueOf l G _ mo a1 a2 a3 a4 a5 a6 a7 dy ams sp fe la n ko am lf fr pt so gn i on hli) kg_488 kg_490 kp_Mo_valueOf kg_491 ok_Mo_valueOf pd_Mo_valueOf (zrec hK (hP 0 _ rfl) zm_cls) ⟨rfl, hP, hD.weaken (fun _ _ _ _ => trivial)⟩ rfl hl.1 rfl (Nat.le_of_ble_eq_true rfl) ⟨(Nat.le_of_ble_eq_true rfl), (Nat.le_of_ble_eq_true rfl)⟩ ⟨Nat.zero_le _, Nat.zero_le _⟩ d_Mo_value_24) ?_
        refine lv_goto (tgt := 32) hx hb d_Mo_value_27 (by decide) ?_
        exact z_iret (v := mValue n ko am lf fr pt so gn (nI i) on) (tys := none) S hr hlk (by simp only [mValue, hvk, c_3, ↓reduceIte]) ⟨rfl, rfl⟩ z_nil d_Mo_value_32
    · exact absurd c_2 (by decide)
set_option maxHeartbeats 2000000 in
theorem c_Mo_fee (l : Launch) (G : ZG) (sz : Nat) (mo a1 a2 a3 a4 a5 a6 a7 : Nat) (dy ams sp fe la : Int32) (n : Nat) (ko am lf fr pt so gn : Nat → Int32) (v g : Int32) (hn40 : n ≤ 40) : ZK l G y_Mo_fee 2 [.ref mo, .int v, .int g] (OW G sz (wm G mo a1 a2 a3 a4 a5 a6 a7 dy (nI n) ams sp fe la ko am lf fr pt so gn)) (ZE (.int (mFeeP n ko am lf fr pt so gn v g))) 0 0 (fun _ => False) := by
  refine ZK.ofBody (cc := b_Mo_fee) (maxL := 3) (ret := (some FieldType.int)) kg_507 (by decide) (by decide) (Nat.le_of_ble_eq_true rfl) ?_
  intro p e s m below meth c S hr hlk hnm hp ls hl
  obtain ⟨⟨hx, hb, hml, hown, hts⟩, hK⟩ := id S
  obtain ⟨hsz, hP, hD⟩ := hp
  have hl : lv_has ls 3 [(0, .ref mo), (1, .int v), (2, .int g)] := hl
  rcases lk_cases hn40 (gB gn) v with hvk | ⟨i, hi, hvi, hgi, hvk⟩
  · refine lv_aload_n hx hb d_Mo_fee_0 rfl (lv_at hl 0 rfl) ?_
    refine lv_iload_n hx hb d_Mo_fee_1 rfl (lv_at hl 1 rfl) ?_
    refine z_q (z_D (n := 1) (C := "VoucherOfficeModel") (As := [.int v]) (rest := []) S (c_Mo_isThere_no l G _ mo a1 a2 a3 a4 a5 a6 a7 dy ams sp fe la n ko am lf fr pt so gn v hn40 hvk) kg_484 kg_486 kp_Mo_isThere kg_487 ok_Mo_isThere pd_Mo_isThere (zrec hK (hP 0 _ rfl) zm_cls) ⟨rfl, hP, hD.weaken (fun _ _ _ _ => trivial)⟩ rfl hl.1 rfl (Nat.le_of_ble_eq_true rfl) ⟨(Nat.le_of_ble_eq_true rfl), (Nat.le_of_ble_eq_true rfl)⟩ ⟨Nat.zero_le _, Nat.zero_le _⟩ d_Mo_fee_2) ?_
    refine lv_if_ne (tgt := 10) hx hb d_Mo_fee_5 (by decide) (fun c_1 => ?_) (fun c_1 => ?_)
    · exact absurd rfl c_1
    · refine lv_iconst (v := (-1)) hx hb d_Mo_fee_8 (by decide) ?_
      exact z_iret (v := mFeeP n ko am lf fr pt so gn v g) (tys := none) S hr hlk (by simp only [mFeeP, hvk, ↓reduceIte]) ⟨rfl, rfl⟩ z_nil d_Mo_fee_9
  · subst hvi
    have hci : (nI i).toNatClampNeg = i := nI_clamp (by omega)
    have hli : i < 40 := by omega
    refine lv_aload_n hx hb d_Mo_fee_0 rfl (lv_at hl 0 rfl) ?_
    refine lv_iload_n hx hb d_Mo_fee_1 rfl (lv_at hl 1 rfl) ?_
    refine z_q (z_D (n := 1) (C := "VoucherOfficeModel") (As := [.int (nI i)]) (rest := []) S (c_Mo_isThere_yes l G _ mo a1 a2 a3 a4 a5 a6 a7 dy ams sp fe la n ko am lf fr pt so gn (nI i) hn40 hvk) kg_484 kg_486 kp_Mo_isThere kg_487 ok_Mo_isThere pd_Mo_isThere (zrec hK (hP 0 _ rfl) zm_cls) ⟨rfl, hP, hD.weaken (fun _ _ _ _ => trivial)⟩ rfl hl.1 rfl (Nat.le_of_ble_eq_true rfl) ⟨(Nat.le_of_ble_eq_true rfl), (Nat.le_of_ble_eq_true rfl)⟩ ⟨Nat.zero_le _, Nat.zero_le _⟩ d_Mo_fee_2) ?_
    refine lv_if_ne (tgt := 10) hx hb d_Mo_fee_5 (by decide) (fun c_2 => ?_) (fun c_2 => ?_)
    · refine lv_iload_n hx hb d_Mo_fee_10 rfl (lv_at hl 2 rfl) ?_
      refine lv_iconst (v := 1) hx hb d_Mo_fee_11 (by decide) ?_
      refine lv_ldc (v := 100000) hx hb hown (hts _ kg_475) d_Mo_fee_12 ?_
      refine z_q (z_S (n := 3) (As := [.int g, .int 1, .int 100000]) (rest := []) S (c_Mo_within l G g 1 100000) kg_472 kg_473 kg_2 kg_474 ok_Mo_within pd_Mo_within trivial rfl hl.1 rfl (Nat.le_of_ble_eq_true rfl) ⟨(Nat.le_of_ble_eq_true rfl), (Nat.le_of_ble_eq_true rfl)⟩ ⟨Nat.zero_le _, Nat.zero_le _⟩ d_Mo_fee_14) ?_
      refine lv_if_eq (tgt := 29) hx hb d_Mo_fee_17 (by decide) (fun c_3 => ?_) (fun c_3 => ?_)
      · refine lv_bipush (v := (-2)) hx hb d_Mo_fee_29 (by decide) ?_
        exact z_iret (v := mFeeP n ko am lf fr pt so gn (nI i) g) (tys := none) S hr hlk (by simp only [mFeeP, hvk, eq_true c_3, ↓reduceIte]) ⟨rfl, rfl⟩ z_nil d_Mo_fee_31
      · refine lv_aload_n hx hb d_Mo_fee_20 rfl (lv_at hl 0 rfl) ?_
        refine lv_iload_n hx hb d_Mo_fee_21 rfl (lv_at hl 1 rfl) ?_
        refine lv_iload_n hx hb d_Mo_fee_22 rfl (lv_at hl 2 rfl) ?_
        refine z_q (z_D (n := 2) (C := "VoucherOfficeModel") (As := [.int (nI i), .int g]) (rest := []) S (c_Mo_feeOf l G _ mo a1 a2 a3 a4 a5 a6 a7 dy ams sp fe la n ko am lf fr pt so gn i g hli) kg_508 kg_510 kp_Mo_feeOf kg_511 ok_Mo_feeOf pd_Mo_feeOf (zrec hK (hP 0 _ rfl) zm_cls) ⟨rfl, hP, hD.weaken (fun _ _ _ _ => trivial)⟩ rfl hl.1 rfl (Nat.le_of_ble_eq_true rfl) ⟨(Nat.le_of_ble_eq_true rfl), (Nat.le_of_ble_eq_true rfl)⟩ ⟨Nat.zero_le _, Nat.zero_le _⟩ d_Mo_fee_23) ?_
        refine lv_goto (tgt := 31) hx hb d_Mo_fee_26 (by decide) ?_
        exact z_iret (v := mFeeP n ko am lf fr pt so gn (nI i) g) (tys := none) S hr hlk (by simp only [mFeeP, hvk, c_3, ↓reduceIte]) ⟨rfl, rfl⟩ z_nil d_Mo_fee_31
    · exact absurd c_2 (by decide)
set_option maxHeartbeats 2000000 in
theorem c_Mo_seal (l : Launch) (G : ZG) (sz : Nat) (mo a1 a2 a3 a4 a5 a6 a7 : Nat) (dy ams sp fe la : Int32) (n : Nat) (ko am lf fr pt so gn : Nat → Int32) (v : Int32) (hn40 : n ≤ 40) : ZK l G y_Mo_seal 2 [.ref mo, .int v] (OW G sz (wm G mo a1 a2 a3 a4 a5 a6 a7 dy (nI n) ams sp fe la ko am lf fr pt so gn)) (ZE (.int (mSeal n ko am lf fr pt so gn v))) 0 0 (fun _ => False) := by
  refine ZK.ofBody (cc := b_Mo_seal) (maxL := 2) (ret := (some FieldType.int)) kg_519 (by decide) (by decide) (Nat.le_of_ble_eq_true rfl) ?_
  intro p e s m below meth c S hr hlk hnm hp ls hl
  obtain ⟨⟨hx, hb, hml, hown, hts⟩, hK⟩ := id S
  obtain ⟨hsz, hP, hD⟩ := hp
  have hl : lv_has ls 2 [(0, .ref mo), (1, .int v)] := hl
  rcases lk_cases hn40 (gB gn) v with hvk | ⟨i, hi, hvi, hgi, hvk⟩
  · refine lv_aload_n hx hb d_Mo_seal_0 rfl (lv_at hl 0 rfl) ?_
    refine lv_iload_n hx hb d_Mo_seal_1 rfl (lv_at hl 1 rfl) ?_
    refine z_q (z_D (n := 1) (C := "VoucherOfficeModel") (As := [.int v]) (rest := []) S (c_Mo_isThere_no l G _ mo a1 a2 a3 a4 a5 a6 a7 dy ams sp fe la n ko am lf fr pt so gn v hn40 hvk) kg_484 kg_486 kp_Mo_isThere kg_487 ok_Mo_isThere pd_Mo_isThere (zrec hK (hP 0 _ rfl) zm_cls) ⟨rfl, hP, hD.weaken (fun _ _ _ _ => trivial)⟩ rfl hl.1 rfl (Nat.le_of_ble_eq_true rfl) ⟨(Nat.le_of_ble_eq_true rfl), (Nat.le_of_ble_eq_true rfl)⟩ ⟨Nat.zero_le _, Nat.zero_le _⟩ d_Mo_seal_2) ?_
    refine lv_if_eq (tgt := 16) hx hb d_Mo_seal_5 (by decide) (fun c_1 => ?_) (fun c_1 => ?_)
    · refine lv_iconst (v := (-1)) hx hb d_Mo_seal_16 (by decide) ?_
      exact z_iret (v := mSeal n ko am lf fr pt so gn v) (tys := none) S hr hlk (by simp only [mSeal, hvk, ↓reduceIte]) ⟨rfl, rfl⟩ z_nil d_Mo_seal_17
    · exact absurd rfl c_1
  · subst hvi
    have hci : (nI i).toNatClampNeg = i := nI_clamp (by omega)
    have hli : i < 40 := by omega
    refine lv_aload_n hx hb d_Mo_seal_0 rfl (lv_at hl 0 rfl) ?_
    refine lv_iload_n hx hb d_Mo_seal_1 rfl (lv_at hl 1 rfl) ?_
    refine z_q (z_D (n := 1) (C := "VoucherOfficeModel") (As := [.int (nI i)]) (rest := []) S (c_Mo_isThere_yes l G _ mo a1 a2 a3 a4 a5 a6 a7 dy ams sp fe la n ko am lf fr pt so gn (nI i) hn40 hvk) kg_484 kg_486 kp_Mo_isThere kg_487 ok_Mo_isThere pd_Mo_isThere (zrec hK (hP 0 _ rfl) zm_cls) ⟨rfl, hP, hD.weaken (fun _ _ _ _ => trivial)⟩ rfl hl.1 rfl (Nat.le_of_ble_eq_true rfl) ⟨(Nat.le_of_ble_eq_true rfl), (Nat.le_of_ble_eq_true rfl)⟩ ⟨Nat.zero_le _, Nat.zero_le _⟩ d_Mo_seal_2) ?_
    refine lv_if_eq (tgt := 16) hx hb d_Mo_seal_5 (by decide) (fun c_2 => ?_) (fun c_2 => ?_)
    · exact absurd c_2 (by decide)
    · refine lv_aload_n hx hb d_Mo_seal_8 rfl (lv_at hl 0 rfl) ?_
      refine lv_iload_n hx hb d_Mo_seal_9 rfl (lv_at hl 1 rfl) ?_
      refine z_q (z_D (n := 1) (C := "VoucherOfficeModel") (As := [.int (nI i)]) (rest := []) S (c_Mo_sealOf l G _ mo a1 a2 a3 a4 a5 a6 a7 dy ams sp fe la n ko am lf fr pt so gn i hli) kg_520 kg_522 kp_Mo_sealOf kg_523 ok_Mo_sealOf pd_Mo_sealOf (zrec hK (hP 0 _ rfl) zm_cls) ⟨rfl, hP, hD.weaken (fun _ _ _ _ => trivial)⟩ rfl hl.1 rfl (Nat.le_of_ble_eq_true rfl) ⟨(Nat.le_of_ble_eq_true rfl), (Nat.le_of_ble_eq_true rfl)⟩ ⟨Nat.zero_le _, Nat.zero_le _⟩ d_Mo_seal_10) ?_
      refine lv_goto (tgt := 17) hx hb d_Mo_seal_13 (by decide) ?_
      exact z_iret (v := mSeal n ko am lf fr pt so gn (nI i)) (tys := none) S hr hlk (by simp only [mSeal, hvk, ↓reduceIte]) ⟨rfl, rfl⟩ z_nil d_Mo_seal_17
set_option maxHeartbeats 2000000 in
theorem c_Mo_mark (l : Launch) (G : ZG) (sz : Nat) (mo a1 a2 a3 a4 a5 a6 a7 : Nat) (dy ams sp fe la : Int32) (n : Nat) (ko am lf fr pt so gn : Nat → Int32) (v g : Int32) (hn40 : n ≤ 40) : ZK l G y_Mo_mark 2 [.ref mo, .int v, .int g] (OW G sz (wm G mo a1 a2 a3 a4 a5 a6 a7 dy (nI n) ams sp fe la ko am lf fr pt so gn)) (ZE (.int (mMark n ko am lf fr pt so gn v g))) 0 0 (fun _ => False) := by
  refine ZK.ofBody (cc := b_Mo_mark) (maxL := 3) (ret := (some FieldType.int)) kg_527 (by decide) (by decide) (Nat.le_of_ble_eq_true rfl) ?_
  intro p e s m below meth c S hr hlk hnm hp ls hl
  obtain ⟨⟨hx, hb, hml, hown, hts⟩, hK⟩ := id S
  obtain ⟨hsz, hP, hD⟩ := hp
  have hl : lv_has ls 3 [(0, .ref mo), (1, .int v), (2, .int g)] := hl
  rcases lk_cases hn40 (gB gn) v with hvk | ⟨i, hi, hvi, hgi, hvk⟩
  · refine lv_aload_n hx hb d_Mo_mark_0 rfl (lv_at hl 0 rfl) ?_
    refine lv_iload_n hx hb d_Mo_mark_1 rfl (lv_at hl 1 rfl) ?_
    refine z_q (z_D (n := 1) (C := "VoucherOfficeModel") (As := [.int v]) (rest := []) S (c_Mo_isThere_no l G _ mo a1 a2 a3 a4 a5 a6 a7 dy ams sp fe la n ko am lf fr pt so gn v hn40 hvk) kg_484 kg_486 kp_Mo_isThere kg_487 ok_Mo_isThere pd_Mo_isThere (zrec hK (hP 0 _ rfl) zm_cls) ⟨rfl, hP, hD.weaken (fun _ _ _ _ => trivial)⟩ rfl hl.1 rfl (Nat.le_of_ble_eq_true rfl) ⟨(Nat.le_of_ble_eq_true rfl), (Nat.le_of_ble_eq_true rfl)⟩ ⟨Nat.zero_le _, Nat.zero_le _⟩ d_Mo_mark_2) ?_
    refine lv_if_ne (tgt := 10) hx hb d_Mo_mark_5 (by decide) (fun c_1 => ?_) (fun c_1 => ?_)
    · exact absurd rfl c_1
    · refine lv_iconst (v := (-1)) hx hb d_Mo_mark_8 (by decide) ?_
      exact z_iret (v := mMark n ko am lf fr pt so gn v g) (tys := none) S hr hlk (by simp only [mMark, hvk, ↓reduceIte]) ⟨rfl, rfl⟩ z_nil d_Mo_mark_9
  · subst hvi
    have hci : (nI i).toNatClampNeg = i := nI_clamp (by omega)
    have hli : i < 40 := by omega
    refine lv_aload_n hx hb d_Mo_mark_0 rfl (lv_at hl 0 rfl) ?_
    refine lv_iload_n hx hb d_Mo_mark_1 rfl (lv_at hl 1 rfl) ?_
    refine z_q (z_D (n := 1) (C := "VoucherOfficeModel") (As := [.int (nI i)]) (rest := []) S (c_Mo_isThere_yes l G _ mo a1 a2 a3 a4 a5 a6 a7 dy ams sp fe la n ko am lf fr pt so gn (nI i) hn40 hvk) kg_484 kg_486 kp_Mo_isThere kg_487 ok_Mo_isThere pd_Mo_isThere (zrec hK (hP 0 _ rfl) zm_cls) ⟨rfl, hP, hD.weaken (fun _ _ _ _ => trivial)⟩ rfl hl.1 rfl (Nat.le_of_ble_eq_true rfl) ⟨(Nat.le_of_ble_eq_true rfl), (Nat.le_of_ble_eq_true rfl)⟩ ⟨Nat.zero_le _, Nat.zero_le _⟩ d_Mo_mark_2) ?_
    refine lv_if_ne (tgt := 10) hx hb d_Mo_mark_5 (by decide) (fun c_2 => ?_) (fun c_2 => ?_)
    · refine lv_iload_n hx hb d_Mo_mark_10 rfl (lv_at hl 2 rfl) ?_
      refine lv_iconst (v := 0) hx hb d_Mo_mark_11 (by decide) ?_
      refine lv_sipush (v := 999) hx hb d_Mo_mark_12 (by decide) ?_
      refine z_q (z_S (n := 3) (As := [.int g, .int 0, .int 999]) (rest := []) S (c_Mo_within l G g 0 999) kg_472 kg_473 kg_2 kg_474 ok_Mo_within pd_Mo_within trivial rfl hl.1 rfl (Nat.le_of_ble_eq_true rfl) ⟨(Nat.le_of_ble_eq_true rfl), (Nat.le_of_ble_eq_true rfl)⟩ ⟨Nat.zero_le _, Nat.zero_le _⟩ d_Mo_mark_15) ?_
      refine lv_if_ne (tgt := 24) hx hb d_Mo_mark_18 (by decide) (fun c_3 => ?_) (fun c_3 => ?_)
      · refine lv_aload_n hx hb d_Mo_mark_24 rfl (lv_at hl 0 rfl) ?_
        refine z_get S zm_cls zm_in (hP 0 _ rfl) 6 (by decide) kg_432 (Or.inl rfl) rfl d_Mo_mark_25 ?_
        refine lv_iload_n hx hb d_Mo_mark_28 rfl (lv_at hl 1 rfl) ?_
        refine va_iald hx hb hK.1 hP 1 0 rfl rfl (vp_in_nI hli (by decide)) d_Mo_mark_29 ?_
        rw [hci]
        refine lv_iconst (v := 5) hx hb d_Mo_mark_30 (by decide) ?_
        refine lv_icmp_lt (tgt := 47) hx hb d_Mo_mark_31 (by decide) (fun c_4 => ?_) (fun c_4 => ?_)
        · refine lv_bipush (v := (-3)) hx hb d_Mo_mark_47 (by decide) ?_
          exact z_iret (v := mMark n ko am lf fr pt so gn (nI i) g) (tys := none) S hr hlk (by simp only [mMark, hvk, c_3, eq_true c_4, ↓reduceIte]) ⟨rfl, rfl⟩ z_nil d_Mo_mark_49
        · refine lv_aload_n hx hb d_Mo_mark_34 rfl (lv_at hl 0 rfl) ?_
          refine lv_iload_n hx hb d_Mo_mark_35 rfl (lv_at hl 1 rfl) ?_
          refine z_q (z_D (n := 1) (C := "VoucherOfficeModel") (As := [.int (nI i)]) (rest := []) S (c_Mo_sealOf l G _ mo a1 a2 a3 a4 a5 a6 a7 dy ams sp fe la n ko am lf fr pt so gn i hli) kg_520 kg_522 kp_Mo_sealOf kg_523 ok_Mo_sealOf pd_Mo_sealOf (zrec hK (hP 0 _ rfl) zm_cls) ⟨rfl, hP, hD.weaken (fun _ _ _ _ => trivial)⟩ rfl hl.1 rfl (Nat.le_of_ble_eq_true rfl) ⟨(Nat.le_of_ble_eq_true rfl), (Nat.le_of_ble_eq_true rfl)⟩ ⟨Nat.zero_le _, Nat.zero_le _⟩ d_Mo_mark_36) ?_
          refine lv_bipush (v := 7) hx hb d_Mo_mark_39 (by decide) ?_
          refine lv_imul hx hb d_Mo_mark_41 ?_
          refine lv_iload_n hx hb d_Mo_mark_42 rfl (lv_at hl 2 rfl) ?_
          refine lv_iadd hx hb d_Mo_mark_43 ?_
          refine lv_goto (tgt := 49) hx hb d_Mo_mark_44 (by decide) ?_
          exact z_iret (v := mMark n ko am lf fr pt so gn (nI i) g) (tys := none) S hr hlk (by simp only [mMark, hvk, c_3, c_4, ↓reduceIte]) ⟨rfl, rfl⟩ z_nil d_Mo_mark_49
      · refine lv_bipush (v := (-2)) hx hb d_Mo_mark_21 (by decide) ?_
        exact z_iret (v := mMark n ko am lf fr pt so gn (nI i) g) (tys := none) S hr hlk (by simp only [mMark, hvk, eq_true c_3, ↓reduceIte]) ⟨rfl, rfl⟩ z_nil d_Mo_mark_23
    · exact absurd c_2 (by decide)
set_option maxHeartbeats 2000000 in
theorem c_Mo_daysLeft (l : Launch) (G : ZG) (sz : Nat) (mo a1 a2 a3 a4 a5 a6 a7 : Nat) (dy ams sp fe la : Int32) (n : Nat) (ko am lf fr pt so gn : Nat → Int32) (v on : Int32) (hn40 : n ≤ 40) : ZK l G y_Mo_daysLeft 2 [.ref mo, .int v, .int on] (OW G sz (wm G mo a1 a2 a3 a4 a5 a6 a7 dy (nI n) ams sp fe la ko am lf fr pt so gn)) (ZE (.int (mDays n ko am lf fr pt so gn v on))) 0 0 (fun _ => False) := by
  refine ZK.ofBody (cc := b_Mo_daysLeft) (maxL := 4) (ret := (some FieldType.int)) kg_531 (by decide) (by decide) (Nat.le_of_ble_eq_true rfl) ?_
  intro p e s m below meth c S hr hlk hnm hp ls hl
  obtain ⟨⟨hx, hb, hml, hown, hts⟩, hK⟩ := id S
  obtain ⟨hsz, hP, hD⟩ := hp
  have hl : lv_has ls 4 [(0, .ref mo), (1, .int v), (2, .int on)] := hl
  rcases lk_cases hn40 (gB gn) v with hvk | ⟨i, hi, hvi, hgi, hvk⟩
  · refine lv_aload_n hx hb d_Mo_daysLeft_0 rfl (lv_at hl 0 rfl) ?_
    refine lv_iload_n hx hb d_Mo_daysLeft_1 rfl (lv_at hl 1 rfl) ?_
    refine z_q (z_D (n := 1) (C := "VoucherOfficeModel") (As := [.int v]) (rest := []) S (c_Mo_isThere_no l G _ mo a1 a2 a3 a4 a5 a6 a7 dy ams sp fe la n ko am lf fr pt so gn v hn40 hvk) kg_484 kg_486 kp_Mo_isThere kg_487 ok_Mo_isThere pd_Mo_isThere (zrec hK (hP 0 _ rfl) zm_cls) ⟨rfl, hP, hD.weaken (fun _ _ _ _ => trivial)⟩ rfl hl.1 rfl (Nat.le_of_ble_eq_true rfl) ⟨(Nat.le_of_ble_eq_true rfl), (Nat.le_of_ble_eq_true rfl)⟩ ⟨Nat.zero_le _, Nat.zero_le _⟩ d_Mo_daysLeft_2) ?_
    refine lv_if_ne (tgt := 10) hx hb d_Mo_daysLeft_5 (by decide) (fun c_1 => ?_) (fun c_1 => ?_)
    · exact absurd rfl c_1
    · refine lv_iconst (v := (-1)) hx hb d_Mo_daysLeft_8 (by decide) ?_
      exact z_iret (v := mDays n ko am lf fr pt so gn v on) (tys := none) S hr hlk (by simp only [mDays, hvk, ↓reduceIte]) ⟨rfl, rfl⟩ z_nil d_Mo_daysLeft_9
  · subst hvi
    have hci : (nI i).toNatClampNeg = i := nI_clamp (by omega)
    have hli : i < 40 := by omega
    refine lv_aload_n hx hb d_Mo_daysLeft_0 rfl (lv_at hl 0 rfl) ?_
    refine lv_iload_n hx hb d_Mo_daysLeft_1 rfl (lv_at hl 1 rfl) ?_
    refine z_q (z_D (n := 1) (C := "VoucherOfficeModel") (As := [.int (nI i)]) (rest := []) S (c_Mo_isThere_yes l G _ mo a1 a2 a3 a4 a5 a6 a7 dy ams sp fe la n ko am lf fr pt so gn (nI i) hn40 hvk) kg_484 kg_486 kp_Mo_isThere kg_487 ok_Mo_isThere pd_Mo_isThere (zrec hK (hP 0 _ rfl) zm_cls) ⟨rfl, hP, hD.weaken (fun _ _ _ _ => trivial)⟩ rfl hl.1 rfl (Nat.le_of_ble_eq_true rfl) ⟨(Nat.le_of_ble_eq_true rfl), (Nat.le_of_ble_eq_true rfl)⟩ ⟨Nat.zero_le _, Nat.zero_le _⟩ d_Mo_daysLeft_2) ?_
    refine lv_if_ne (tgt := 10) hx hb d_Mo_daysLeft_5 (by decide) (fun c_2 => ?_) (fun c_2 => ?_)
    · refine lv_iload_n hx hb d_Mo_daysLeft_10 rfl (lv_at hl 2 rfl) ?_
      refine lv_iconst (v := 0) hx hb d_Mo_daysLeft_11 (by decide) ?_
      refine lv_sipush (v := 20000) hx hb d_Mo_daysLeft_12 (by decide) ?_
      refine z_q (z_S (n := 3) (As := [.int on, .int 0, .int 20000]) (rest := []) S (c_Mo_within l G on 0 20000) kg_472 kg_473 kg_2 kg_474 ok_Mo_within pd_Mo_within trivial rfl hl.1 rfl (Nat.le_of_ble_eq_true rfl) ⟨(Nat.le_of_ble_eq_true rfl), (Nat.le_of_ble_eq_true rfl)⟩ ⟨Nat.zero_le _, Nat.zero_le _⟩ d_Mo_daysLeft_15) ?_
      refine lv_if_ne (tgt := 24) hx hb d_Mo_daysLeft_18 (by decide) (fun c_3 => ?_) (fun c_3 => ?_)
      · refine lv_aload_n hx hb d_Mo_daysLeft_24 rfl (lv_at hl 0 rfl) ?_
        refine lv_iload_n hx hb d_Mo_daysLeft_25 rfl (lv_at hl 1 rfl) ?_
        refine z_q (z_D (n := 1) (C := "VoucherOfficeModel") (As := [.int (nI i)]) (rest := []) S (c_Mo_isDated l G _ mo a1 a2 a3 a4 a5 a6 a7 dy ams sp fe la n ko am lf fr pt so gn i hli) kg_492 kg_494 kp_Mo_isDated kg_495 ok_Mo_isDated pd_Mo_isDated (zrec hK (hP 0 _ rfl) zm_cls) ⟨rfl, hP, hD.weaken (fun _ _ _ _ => trivial)⟩ rfl hl.1 rfl (Nat.le_of_ble_eq_true rfl) ⟨(Nat.le_of_ble_eq_true rfl), (Nat.le_of_ble_eq_true rfl)⟩ ⟨Nat.zero_le _, Nat.zero_le _⟩ d_Mo_daysLeft_26) ?_
        refine lv_if_ne (tgt := 35) hx hb d_Mo_daysLeft_29 (by decide) (fun c_4 => ?_) (fun c_4 => ?_)
        · refine lv_aload_n hx hb d_Mo_daysLeft_35 rfl (lv_at hl 0 rfl) ?_
          refine lv_iload_n hx hb d_Mo_daysLeft_36 rfl (lv_at hl 1 rfl) ?_
          refine z_q (z_D (n := 1) (C := "VoucherOfficeModel") (As := [.int (nI i)]) (rest := []) S (c_Mo_lastDay l G _ mo a1 a2 a3 a4 a5 a6 a7 dy ams sp fe la n ko am lf fr pt so gn i hli) kg_496 kg_498 kp_Mo_lastDay kg_499 ok_Mo_lastDay pd_Mo_lastDay (zrec hK (hP 0 _ rfl) zm_cls) ⟨rfl, hP, hD.weaken (fun _ _ _ _ => trivial)⟩ rfl hl.1 rfl (Nat.le_of_ble_eq_true rfl) ⟨(Nat.le_of_ble_eq_true rfl), (Nat.le_of_ble_eq_true rfl)⟩ ⟨Nat.zero_le _, Nat.zero_le _⟩ d_Mo_daysLeft_37) ?_
          refine lv_iload_n hx hb d_Mo_daysLeft_40 rfl (lv_at hl 2 rfl) ?_
          refine lv_isub hx hb d_Mo_daysLeft_41 ?_
          refine lv_istore_n (lv' := [(3, .int ((mLd (fr i) (ko i)) - on)), (0, .ref mo), (1, .int (nI i)), (2, .int on)]) hx hb d_Mo_daysLeft_42 rfl hl (by decide) rfl (fun ls hl => ?_)
          refine lv_iload_n hx hb d_Mo_daysLeft_43 rfl (lv_at hl 0 rfl) ?_
          refine lv_if_le (tgt := 51) hx hb d_Mo_daysLeft_44 (by decide) (fun c_5 => ?_) (fun c_5 => ?_)
          · refine lv_iconst (v := 0) hx hb d_Mo_daysLeft_51 (by decide) ?_
            exact z_iret (v := mDays n ko am lf fr pt so gn (nI i) on) (tys := none) S hr hlk (by simp only [mDays, hvk, c_3, c_4, eq_true c_5, ↓reduceIte]) ⟨rfl, rfl⟩ z_nil d_Mo_daysLeft_52
          · refine lv_iload_n hx hb d_Mo_daysLeft_47 rfl (lv_at hl 0 rfl) ?_
            refine lv_goto (tgt := 52) hx hb d_Mo_daysLeft_48 (by decide) ?_
            exact z_iret (v := mDays n ko am lf fr pt so gn (nI i) on) (tys := none) S hr hlk (by simp only [mDays, hvk, c_3, c_4, c_5, ↓reduceIte]) ⟨rfl, rfl⟩ z_nil d_Mo_daysLeft_52
        · refine lv_bipush (v := (-3)) hx hb d_Mo_daysLeft_32 (by decide) ?_
          exact z_iret (v := mDays n ko am lf fr pt so gn (nI i) on) (tys := none) S hr hlk (by simp only [mDays, hvk, c_3, eq_true c_4, ↓reduceIte]) ⟨rfl, rfl⟩ z_nil d_Mo_daysLeft_34
      · refine lv_bipush (v := (-2)) hx hb d_Mo_daysLeft_21 (by decide) ?_
        exact z_iret (v := mDays n ko am lf fr pt so gn (nI i) on) (tys := none) S hr hlk (by simp only [mDays, hvk, eq_true c_3, ↓reduceIte]) ⟨rfl, rfl⟩ z_nil d_Mo_daysLeft_23
    · exact absurd c_2 (by decide)
set_option maxHeartbeats 2000000 in
theorem c_Mo_paper (l : Launch) (G : ZG) (sz : Nat) (mo a1 a2 a3 a4 a5 a6 a7 : Nat) (dy ams sp fe la : Int32) (n : Nat) (ko am lf fr pt so gn : Nat → Int32) (v what : Int32) (hn40 : n ≤ 40) : ZK l G y_Mo_paper 2 [.ref mo, .int v, .int what] (OW G sz (wm G mo a1 a2 a3 a4 a5 a6 a7 dy (nI n) ams sp fe la ko am lf fr pt so gn)) (ZE (.int (mPaper n ko am lf fr pt so gn v what))) 0 0 (fun _ => False) := by
  refine ZK.ofBody (cc := b_Mo_paper) (maxL := 3) (ret := (some FieldType.int)) kg_547 (by decide) (by decide) (Nat.le_of_ble_eq_true rfl) ?_
  intro p e s m below meth c S hr hlk hnm hp ls hl
  obtain ⟨⟨hx, hb, hml, hown, hts⟩, hK⟩ := id S
  obtain ⟨hsz, hP, hD⟩ := hp
  have hl : lv_has ls 3 [(0, .ref mo), (1, .int v), (2, .int what)] := hl
  rcases lk_cases hn40 (gB gn) v with hvk | ⟨i, hi, hvi, hgi, hvk⟩
  · refine lv_aload_n hx hb d_Mo_paper_0 rfl (lv_at hl 0 rfl) ?_
    refine lv_iload_n hx hb d_Mo_paper_1 rfl (lv_at hl 1 rfl) ?_
    refine z_q (z_D (n := 1) (C := "VoucherOfficeModel") (As := [.int v]) (rest := []) S (c_Mo_isThere_no l G _ mo a1 a2 a3 a4 a5 a6 a7 dy ams sp fe la n ko am lf fr pt so gn v hn40 hvk) kg_484 kg_486 kp_Mo_isThere kg_487 ok_Mo_isThere pd_Mo_isThere (zrec hK (hP 0 _ rfl) zm_cls) ⟨rfl, hP, hD.weaken (fun _ _ _ _ => trivial)⟩ rfl hl.1 rfl (Nat.le_of_ble_eq_true rfl) ⟨(Nat.le_of_ble_eq_true rfl), (Nat.le_of_ble_eq_true rfl)⟩ ⟨Nat.zero_le _, Nat.zero_le _⟩ d_Mo_paper_2) ?_
    refine lv_if_ne (tgt := 10) hx hb d_Mo_paper_5 (by decide) (fun c_1 => ?_) (fun c_1 => ?_)
    · exact absurd rfl c_1
    · refine lv_iconst (v := (-1)) hx hb d_Mo_paper_8 (by decide) ?_
      exact z_iret (v := mPaper n ko am lf fr pt so gn v what) (tys := none) S hr hlk (by simp only [mPaper, hvk, ↓reduceIte]) ⟨rfl, rfl⟩ z_nil d_Mo_paper_9
  · subst hvi
    have hci : (nI i).toNatClampNeg = i := nI_clamp (by omega)
    have hli : i < 40 := by omega
    refine lv_aload_n hx hb d_Mo_paper_0 rfl (lv_at hl 0 rfl) ?_
    refine lv_iload_n hx hb d_Mo_paper_1 rfl (lv_at hl 1 rfl) ?_
    refine z_q (z_D (n := 1) (C := "VoucherOfficeModel") (As := [.int (nI i)]) (rest := []) S (c_Mo_isThere_yes l G _ mo a1 a2 a3 a4 a5 a6 a7 dy ams sp fe la n ko am lf fr pt so gn (nI i) hn40 hvk) kg_484 kg_486 kp_Mo_isThere kg_487 ok_Mo_isThere pd_Mo_isThere (zrec hK (hP 0 _ rfl) zm_cls) ⟨rfl, hP, hD.weaken (fun _ _ _ _ => trivial)⟩ rfl hl.1 rfl (Nat.le_of_ble_eq_true rfl) ⟨(Nat.le_of_ble_eq_true rfl), (Nat.le_of_ble_eq_true rfl)⟩ ⟨Nat.zero_le _, Nat.zero_le _⟩ d_Mo_paper_2) ?_
    refine lv_if_ne (tgt := 10) hx hb d_Mo_paper_5 (by decide) (fun c_2 => ?_) (fun c_2 => ?_)
    · refine lv_iload_n hx hb d_Mo_paper_10 rfl (lv_at hl 2 rfl) ?_
      refine lv_iconst (v := 0) hx hb d_Mo_paper_11 (by decide) ?_
      refine lv_iconst (v := 5) hx hb d_Mo_paper_12 (by decide) ?_
      refine z_q (z_S (n := 3) (As := [.int what, .int 0, .int 5]) (rest := []) S (c_Mo_within l G what 0 5) kg_472 kg_473 kg_2 kg_474 ok_Mo_within pd_Mo_within trivial rfl hl.1 rfl (Nat.le_of_ble_eq_true rfl) ⟨(Nat.le_of_ble_eq_true rfl), (Nat.le_of_ble_eq_true rfl)⟩ ⟨Nat.zero_le _, Nat.zero_le _⟩ d_Mo_paper_13) ?_
      refine lv_if_ne (tgt := 22) hx hb d_Mo_paper_16 (by decide) (fun c_3 => ?_) (fun c_3 => ?_)
      · refine lv_iload_n hx hb d_Mo_paper_22 rfl (lv_at hl 2 rfl) ?_
        by_cases hw_4 : what = 0
        · refine zt_in (off := 33) (tgt := 56) hx hb hw_4 d_Mo_paper_23 (by decide) (by decide) rfl (by decide) ?_
          refine lv_aload_n hx hb d_Mo_paper_56 rfl (lv_at hl 0 rfl) ?_
          refine z_get S zm_cls zm_in (hP 0 _ rfl) 6 (by decide) kg_432 (Or.inl rfl) rfl d_Mo_paper_57 ?_
          refine lv_iload_n hx hb d_Mo_paper_60 rfl (lv_at hl 1 rfl) ?_
          refine va_iald hx hb hK.1 hP 1 0 rfl rfl (vp_in_nI hli (by decide)) d_Mo_paper_61 ?_
          rw [hci]
          exact z_iret (v := mPaper n ko am lf fr pt so gn (nI i) what) (tys := none) S hr hlk (by simp only [mPaper, hvk, c_3, ↓reduceIte]; rw [if_pos hw_4]) ⟨rfl, rfl⟩ z_nil d_Mo_paper_62
        by_cases hw_5 : what = 1
        · refine zt_in (off := 40) (tgt := 63) hx hb hw_5 d_Mo_paper_23 (by decide) (by decide) rfl (by decide) ?_
          refine lv_aload_n hx hb d_Mo_paper_63 rfl (lv_at hl 0 rfl) ?_
          refine z_get S zm_cls zm_in (hP 0 _ rfl) 7 (by decide) kg_433 (Or.inl rfl) rfl d_Mo_paper_64 ?_
          refine lv_iload_n hx hb d_Mo_paper_67 rfl (lv_at hl 1 rfl) ?_
          refine va_iald hx hb hK.1 hP 2 0 rfl rfl (vp_in_nI hli (by decide)) d_Mo_paper_68 ?_
          rw [hci]
          exact z_iret (v := mPaper n ko am lf fr pt so gn (nI i) what) (tys := none) S hr hlk (by simp only [mPaper, hvk, c_3, ↓reduceIte]; rw [if_neg hw_4, if_pos hw_5]) ⟨rfl, rfl⟩ z_nil d_Mo_paper_69
        by_cases hw_6 : what = 2
        · refine zt_in (off := 47) (tgt := 70) hx hb hw_6 d_Mo_paper_23 (by decide) (by decide) rfl (by decide) ?_
          refine lv_aload_n hx hb d_Mo_paper_70 rfl (lv_at hl 0 rfl) ?_
          refine z_get S zm_cls zm_in (hP 0 _ rfl) 8 (by decide) kg_434 (Or.inl rfl) rfl d_Mo_paper_71 ?_
          refine lv_iload_n hx hb d_Mo_paper_74 rfl (lv_at hl 1 rfl) ?_
          refine va_iald hx hb hK.1 hP 3 0 rfl rfl (vp_in_nI hli (by decide)) d_Mo_paper_75 ?_
          rw [hci]
          exact z_iret (v := mPaper n ko am lf fr pt so gn (nI i) what) (tys := none) S hr hlk (by simp only [mPaper, hvk, c_3, ↓reduceIte]; rw [if_neg hw_4, if_neg hw_5, if_pos hw_6]) ⟨rfl, rfl⟩ z_nil d_Mo_paper_76
        by_cases hw_7 : what = 3
        · refine zt_in (off := 54) (tgt := 77) hx hb hw_7 d_Mo_paper_23 (by decide) (by decide) rfl (by decide) ?_
          refine lv_aload_n hx hb d_Mo_paper_77 rfl (lv_at hl 0 rfl) ?_
          refine z_get S zm_cls zm_in (hP 0 _ rfl) 9 (by decide) kg_435 (Or.inl rfl) rfl d_Mo_paper_78 ?_
          refine lv_iload_n hx hb d_Mo_paper_81 rfl (lv_at hl 1 rfl) ?_
          refine va_iald hx hb hK.1 hP 4 0 rfl rfl (vp_in_nI hli (by decide)) d_Mo_paper_82 ?_
          rw [hci]
          exact z_iret (v := mPaper n ko am lf fr pt so gn (nI i) what) (tys := none) S hr hlk (by simp only [mPaper, hvk, c_3, ↓reduceIte]; rw [if_neg hw_4, if_neg hw_5, if_neg hw_6, if_pos hw_7]) ⟨rfl, rfl⟩ z_nil d_Mo_paper_83
        by_cases hw_8 : what = 4
        · refine zt_in (off := 61) (tgt := 84) hx hb hw_8 d_Mo_paper_23 (by decide) (by decide) rfl (by decide) ?_
          refine lv_aload_n hx hb d_Mo_paper_84 rfl (lv_at hl 0 rfl) ?_
          refine z_get S zm_cls zm_in (hP 0 _ rfl) 10 (by decide) kg_436 (Or.inl rfl) rfl d_Mo_paper_85 ?_
          refine lv_iload_n hx hb d_Mo_paper_88 rfl (lv_at hl 1 rfl) ?_
          refine va_iald hx hb hK.1 hP 5 0 rfl rfl (vp_in_nI hli (by decide)) d_Mo_paper_89 ?_
          rw [hci]
          exact z_iret (v := mPaper n ko am lf fr pt so gn (nI i) what) (tys := none) S hr hlk (by simp only [mPaper, hvk, c_3, ↓reduceIte]; rw [if_neg hw_4, if_neg hw_5, if_neg hw_6, if_neg hw_7, if_pos hw_8]) ⟨rfl, rfl⟩ z_nil d_Mo_paper_90
        have hso : (what).toInt < 0 ∨ 4 < (what).toInt := by
          have q0 := lv_neT (a := 0) hw_4 (by decide)
          have q1 := lv_neT (a := 1) hw_5 (by decide)
          have q2 := lv_neT (a := 2) hw_6 (by decide)
          have q3 := lv_neT (a := 3) hw_7 (by decide)
          have q4 := lv_neT (a := 4) hw_8 (by decide)
          omega
        refine lv_tableOut (tgt := 91) hx hb d_Mo_paper_23 hso (by decide) ?_
        refine lv_aload_n hx hb d_Mo_paper_91 rfl (lv_at hl 0 rfl) ?_
        refine lv_iload_n hx hb d_Mo_paper_92 rfl (lv_at hl 1 rfl) ?_
        refine z_q (z_D (n := 1) (C := "VoucherOfficeModel") (As := [.int (nI i)]) (rest := []) S (c_Mo_isDated l G _ mo a1 a2 a3 a4 a5 a6 a7 dy ams sp fe la n ko am lf fr pt so gn i hli) kg_492 kg_494 kp_Mo_isDated kg_495 ok_Mo_isDated pd_Mo_isDated (zrec hK (hP 0 _ rfl) zm_cls) ⟨rfl, hP, hD.weaken (fun _ _ _ _ => trivial)⟩ rfl hl.1 rfl (Nat.le_of_ble_eq_true rfl) ⟨(Nat.le_of_ble_eq_true rfl), (Nat.le_of_ble_eq_true rfl)⟩ ⟨Nat.zero_le _, Nat.zero_le _⟩ d_Mo_paper_93) ?_
        refine lv_if_eq (tgt := 107) hx hb d_Mo_paper_96 (by decide) (fun c_9 => ?_) (fun c_9 => ?_)
        · refine lv_bipush (v := (-3)) hx hb d_Mo_paper_107 (by decide) ?_
          exact z_iret (v := mPaper n ko am lf fr pt so gn (nI i) what) (tys := none) S hr hlk (by simp only [mPaper, hvk, c_3, ↓reduceIte]; rw [if_neg hw_4, if_neg hw_5, if_neg hw_6, if_neg hw_7, if_neg hw_8]; simp only [eq_true c_9, ↓reduceIte]) ⟨rfl, rfl⟩ z_nil d_Mo_paper_109
        · refine lv_aload_n hx hb d_Mo_paper_99 rfl (lv_at hl 0 rfl) ?_
          refine lv_iload_n hx hb d_Mo_paper_100 rfl (lv_at hl 1 rfl) ?_
          refine z_q (z_D (n := 1) (C := "VoucherOfficeModel") (As := [.int (nI i)]) (rest := []) S (c_Mo_lastDay l G _ mo a1 a2 a3 a4 a5 a6 a7 dy ams sp fe la n ko am lf fr pt so gn i hli) kg_496 kg_498 kp_Mo_lastDay kg_499 ok_Mo_lastDay pd_Mo_lastDay (zrec hK (hP 0 _ rfl) zm_cls) ⟨rfl, hP, hD.weaken (fun _ _ _ _ => trivial)⟩ rfl hl.1 rfl (Nat.le_of_ble_eq_true rfl) ⟨(Nat.le_of_ble_eq_true rfl), (Nat.le_of_ble_eq_true rfl)⟩ ⟨Nat.zero_le _, Nat.zero_le _⟩ d_Mo_paper_101) ?_
          refine lv_goto (tgt := 109) hx hb d_Mo_paper_104 (by decide) ?_
          exact z_iret (v := mPaper n ko am lf fr pt so gn (nI i) what) (tys := none) S hr hlk (by simp only [mPaper, hvk, c_3, ↓reduceIte]; rw [if_neg hw_4, if_neg hw_5, if_neg hw_6, if_neg hw_7, if_neg hw_8]; simp only [c_9, ↓reduceIte]) ⟨rfl, rfl⟩ z_nil d_Mo_paper_109
      · refine lv_bipush (v := (-2)) hx hb d_Mo_paper_19 (by decide) ?_
        exact z_iret (v := mPaper n ko am lf fr pt so gn (nI i) what) (tys := none) S hr hlk (by simp only [mPaper, hvk, eq_true c_3, ↓reduceIte]) ⟨rfl, rfl⟩ z_nil d_Mo_paper_21
    · exact absurd c_2 (by decide)
end
section
def mSumL (lf gn : Nat → Int32) : Nat → Int32
  | 0 => 0
  | j + 1 => if gn j = 0 then mSumL lf gn j + lf j else mSumL lf gn j + 0
def mSumW (ko lf fr pt gn : Nat → Int32) (on : Int32) : Nat → Int32
  | 0 => 0
  | j + 1 => if gn j = 0 then mSumW ko lf fr pt gn on j + mVal (ko j) (fr j) (lf j) (pt j) on else mSumW ko lf fr pt gn on j + 0
def mLapL (dy : Int32) (ko lf fr gn : Nat → Int32) : Nat → Nat → Int32
  | 0 => lf
  | j + 1 => if gn j = 0 then (if mDated (ko j) = 0 then mLapL dy ko lf fr gn j else if mLd (fr j) (ko j) < dy then upd (mLapL dy ko lf fr gn j) j 0 else mLapL dy ko lf fr gn j) else mLapL dy ko lf fr gn j
def mLapS (dy : Int32) (ko lf fr gn : Nat → Int32) : Nat → Int32
  | 0 => 0
  | j + 1 => if gn j = 0 then (if mDated (ko j) = 0 then mLapS dy ko lf fr gn j else if mLd (fr j) (ko j) < dy then mLapS dy ko lf fr gn j + mLapL dy ko lf fr gn j j else mLapS dy ko lf fr gn j) else mLapS dy ko lf fr gn j
set_option maxHeartbeats 2000000 in
theorem c_Mo_leftOfAll (l : Launch) (G : ZG) (sz : Nat) (mo a1 a2 a3 a4 a5 a6 a7 : Nat) (dy ams sp fe la : Int32) (n : Nat) (ko am lf fr pt so gn : Nat → Int32) (hn40 : n ≤ 40) : ZK l G y_Mo_leftOfAll 0 [.ref mo] (OW G sz (wm G mo a1 a2 a3 a4 a5 a6 a7 dy (nI n) ams sp fe la ko am lf fr pt so gn)) (ZE (.int (mSumL lf gn n))) 0 0 (fun _ => False) := by
  refine ZK.ofBody (cc := b_Mo_leftOfAll) (maxL := 3) (ret := (some FieldType.int)) kg_555 (by decide) (by decide) (Nat.le_of_ble_eq_true rfl) ?_
  intro p e s m below meth c S hr hlk hnm hp ls hl
  obtain ⟨⟨hx, hb, hml, hown, hts⟩, hK⟩ := id S
  obtain ⟨hsz, hP, hD⟩ := hp
  have loop : ∀ (f j : Nat), j ≤ n → n + 1 ≤ j + f → ∀ ls : Array Slot, lv_has ls 3 [(2, .int (nI j)), (1, .int (mSumL lf gn j)), (0, .ref mo)] → W p l e (zr 0 0 0) s m [.ref mo].toArray below meth c s.heap [] 0 0 (MQ below (ZQ (ZE (.int (mSumL lf gn n)))) [.ref mo].toArray s 0 0 (fun _ => False)) (F0 m 4 ls []) := by
    intro f
    induction f with
    | zero => intro j h1 h2; omega
    | succ f ih =>
      intro j hjn hjf ls hl
      have hcj : (nI j).toNatClampNeg = j := nI_clamp (by omega)
      refine lv_iload_n hx hb d_Mo_leftOfAll_4 rfl (lv_at hl 0 rfl) ?_
      refine lv_aload_n hx hb d_Mo_leftOfAll_5 rfl (lv_at hl 2 rfl) ?_
      refine z_get S zm_cls zm_in (hP 0 _ rfl) 1 (by decide) kg_427 (Or.inl rfl) rfl d_Mo_leftOfAll_6 ?_
      refine lv_icmp_ge (tgt := 40) hx hb d_Mo_leftOfAll_9 (by decide) (fun c_1 => ?_) (fun c_1 => ?_)
      · have hjn2 : j = n := by have := (nI_leI (by omega) (by omega)).mp c_1; omega
        refine lv_iload_n hx hb d_Mo_leftOfAll_40 rfl (lv_at hl 1 rfl) ?_
        exact z_iret (v := mSumL lf gn n) (tys := none) S hr hlk (by rw [hjn2]) ⟨rfl, rfl⟩ z_nil d_Mo_leftOfAll_41
      · have hlt : j < n := by
          rcases Nat.lt_or_ge j n with q | q
          · exact q
          · exact absurd (nI_le q (by omega)) c_1
        have hlj : j < 40 := by omega
        refine lv_iload_n hx hb d_Mo_leftOfAll_12 rfl (lv_at hl 1 rfl) ?_
        refine lv_aload_n hx hb d_Mo_leftOfAll_13 rfl (lv_at hl 2 rfl) ?_
        refine z_get S zm_cls zm_in (hP 0 _ rfl) 12 (by decide) kg_438 (Or.inl rfl) rfl d_Mo_leftOfAll_14 ?_
        refine lv_iload_n hx hb d_Mo_leftOfAll_17 rfl (lv_at hl 0 rfl) ?_
        refine va_zald hx hb hK.1 hP 7 1 rfl rfl (vp_in_nI hlj (by decide)) d_Mo_leftOfAll_18 ?_
        rw [hcj]
        refine lv_if_eq (tgt := 26) hx hb d_Mo_leftOfAll_19 (by decide) (fun c_2 => ?_) (fun c_2 => ?_)
        · refine lv_aload_n hx hb d_Mo_leftOfAll_26 rfl (lv_at hl 2 rfl) ?_
          refine z_get S zm_cls zm_in (hP 0 _ rfl) 8 (by decide) kg_434 (Or.inl rfl) rfl d_Mo_leftOfAll_27 ?_
          refine lv_iload_n hx hb d_Mo_leftOfAll_30 rfl (lv_at hl 0 rfl) ?_
          refine va_iald hx hb hK.1 hP 3 0 rfl rfl (vp_in_nI hlj (by decide)) d_Mo_leftOfAll_31 ?_
          rw [hcj]
          refine lv_iadd hx hb d_Mo_leftOfAll_32 ?_
          refine lv_istore_n (lv' := [(1, .int ((mSumL lf gn j) + (lf j))), (2, .int (nI j)), (0, .ref mo)]) hx hb d_Mo_leftOfAll_33 rfl hl (by decide) rfl (fun ls hl => ?_)
          refine lv_iinc (v := (nI j) + 1) (lv' := [(2, .int ((nI j) + 1)), (1, .int ((mSumL lf gn j) + (lf j))), (0, .ref mo)]) hx hb d_Mo_leftOfAll_34 hl (k := 1) rfl rfl (by decide) rfl (fun ls hl => ?_)
          refine lv_goto (tgt := 4) hx hb d_Mo_leftOfAll_37 (by decide) ?_
          have h9 := lv_sub (l' := [(2, .int ((nI j) + 1)), (1, .int ((mSumL lf gn j) + (lf j))), (0, .ref mo)]) hl [0, 1, 2] rfl
          rw [nI_1 j, show ((mSumL lf gn j) + (lf j)) = mSumL lf gn (j + 1) from by simp only [mSumL, eq_true c_2, ↓reduceIte]] at h9
          exact ih (j + 1) hlt (by omega) ls h9
        · refine lv_iconst (v := 0) hx hb d_Mo_leftOfAll_22 (by decide) ?_
          refine lv_goto (tgt := 32) hx hb d_Mo_leftOfAll_23 (by decide) ?_
          refine lv_iadd hx hb d_Mo_leftOfAll_32 ?_
          refine lv_istore_n (lv' := [(1, .int ((mSumL lf gn j) + 0)), (2, .int (nI j)), (0, .ref mo)]) hx hb d_Mo_leftOfAll_33 rfl hl (by decide) rfl (fun ls hl => ?_)
          refine lv_iinc (v := (nI j) + 1) (lv' := [(2, .int ((nI j) + 1)), (1, .int ((mSumL lf gn j) + 0)), (0, .ref mo)]) hx hb d_Mo_leftOfAll_34 hl (k := 1) rfl rfl (by decide) rfl (fun ls hl => ?_)
          refine lv_goto (tgt := 4) hx hb d_Mo_leftOfAll_37 (by decide) ?_
          have h9 := lv_sub (l' := [(2, .int ((nI j) + 1)), (1, .int ((mSumL lf gn j) + 0)), (0, .ref mo)]) hl [0, 1, 2] rfl
          rw [nI_1 j, show ((mSumL lf gn j) + 0) = mSumL lf gn (j + 1) from by simp only [mSumL, c_2, ↓reduceIte]] at h9
          exact ih (j + 1) hlt (by omega) ls h9
  have hl : lv_has ls 3 [(0, .ref mo)] := hl
  refine lv_iconst (v := 0) hx hb d_Mo_leftOfAll_0 (by decide) ?_
  refine lv_istore_n (lv' := [(1, .int 0), (0, .ref mo)]) hx hb d_Mo_leftOfAll_1 rfl hl (by decide) rfl (fun ls hl => ?_)
  refine lv_iconst (v := 0) hx hb d_Mo_leftOfAll_2 (by decide) ?_
  refine lv_istore_n (lv' := [(2, .int 0), (1, .int 0), (0, .ref mo)]) hx hb d_Mo_leftOfAll_3 rfl hl (by decide) rfl (fun ls hl => ?_)
  exact loop (n + 1) 0 (Nat.zero_le n) (by omega) ls (lv_sub hl [0, 1, 2] rfl)
def mTotal (n : Nat) (ko am lf fr pt so gn : Nat → Int32) (on : Int32) : Int32 := if inV on 0 20000 = 0 then -2 else mSumW ko lf fr pt gn on n
set_option maxHeartbeats 2000000 in
theorem c_Mo_total (l : Launch) (G : ZG) (sz : Nat) (mo a1 a2 a3 a4 a5 a6 a7 : Nat) (dy ams sp fe la : Int32) (n : Nat) (ko am lf fr pt so gn : Nat → Int32) (on : Int32) (hn40 : n ≤ 40) : ZK l G y_Mo_total 2 [.ref mo, .int on] (OW G sz (wm G mo a1 a2 a3 a4 a5 a6 a7 dy (nI n) ams sp fe la ko am lf fr pt so gn)) (ZE (.int (mTotal n ko am lf fr pt so gn on))) 0 0 (fun _ => False) := by
  refine ZK.ofBody (cc := b_Mo_total) (maxL := 4) (ret := (some FieldType.int)) kg_543 (by decide) (by decide) (Nat.le_of_ble_eq_true rfl) ?_
  intro p e s m below meth c S hr hlk hnm hp ls hl
  obtain ⟨⟨hx, hb, hml, hown, hts⟩, hK⟩ := id S
  obtain ⟨hsz, hP, hD⟩ := hp
  have hl : lv_has ls 4 [(0, .ref mo), (1, .int on)] := hl
  by_cases hin : inV on 0 20000 = 0
  · refine lv_iload_n hx hb d_Mo_total_0 rfl (lv_at hl 1 rfl) ?_
    refine lv_iconst (v := 0) hx hb d_Mo_total_1 (by decide) ?_
    refine lv_sipush (v := 20000) hx hb d_Mo_total_2 (by decide) ?_
    refine z_q (z_S (n := 3) (As := [.int on, .int 0, .int 20000]) (rest := []) S (c_Mo_within l G on 0 20000) kg_472 kg_473 kg_2 kg_474 ok_Mo_within pd_Mo_within trivial rfl hl.1 rfl (Nat.le_of_ble_eq_true rfl) ⟨(Nat.le_of_ble_eq_true rfl), (Nat.le_of_ble_eq_true rfl)⟩ ⟨Nat.zero_le _, Nat.zero_le _⟩ d_Mo_total_5) ?_
    refine lv_if_ne (tgt := 14) hx hb d_Mo_total_8 (by decide) (fun c_1 => ?_) (fun c_1 => ?_)
    · exact absurd hin c_1
    · refine lv_bipush (v := (-2)) hx hb d_Mo_total_11 (by decide) ?_
      exact z_iret (v := mTotal n ko am lf fr pt so gn on) (tys := none) S hr hlk (by simp only [mTotal, hin, ↓reduceIte]) ⟨rfl, rfl⟩ z_nil d_Mo_total_13
  · rw [show mTotal n ko am lf fr pt so gn on = mSumW ko lf fr pt gn on n from by simp only [mTotal, hin, ↓reduceIte]]
    have loop : ∀ (f j : Nat), j ≤ n → n + 1 ≤ j + f → ∀ ls : Array Slot, lv_has ls 4 [(3, .int (nI j)), (2, .int (mSumW ko lf fr pt gn on j)), (0, .ref mo), (1, .int on)] → W p l e (zr 2 0 0) s m [.ref mo, .int on].toArray below meth c s.heap [] 0 0 (MQ below (ZQ (ZE (.int (mSumW ko lf fr pt gn on n)))) [.ref mo, .int on].toArray s 0 0 (fun _ => False)) (F0 m 18 ls []) := by
      intro f
      induction f with
      | zero => intro j h1 h2; omega
      | succ f ih =>
        intro j hjn hjf ls hl
        have hcj : (nI j).toNatClampNeg = j := nI_clamp (by omega)
        refine lv_iload_n hx hb d_Mo_total_18 rfl (lv_at hl 0 rfl) ?_
        refine lv_aload_n hx hb d_Mo_total_19 rfl (lv_at hl 2 rfl) ?_
        refine z_get S zm_cls zm_in (hP 0 _ rfl) 1 (by decide) kg_427 (Or.inl rfl) rfl d_Mo_total_20 ?_
        refine lv_icmp_ge (tgt := 54) hx hb d_Mo_total_23 (by decide) (fun c_1 => ?_) (fun c_1 => ?_)
        · have hjn2 : j = n := by have := (nI_leI (by omega) (by omega)).mp c_1; omega
          refine lv_iload_n hx hb d_Mo_total_54 rfl (lv_at hl 1 rfl) ?_
          exact z_iret (v := mSumW ko lf fr pt gn on n) (tys := none) S hr hlk (by rw [hjn2]) ⟨rfl, rfl⟩ z_nil d_Mo_total_55
        · have hlt : j < n := by
            rcases Nat.lt_or_ge j n with q | q
            · exact q
            · exact absurd (nI_le q (by omega)) c_1
          have hlj : j < 40 := by omega
          refine lv_iload_n hx hb d_Mo_total_26 rfl (lv_at hl 1 rfl) ?_
          refine lv_aload_n hx hb d_Mo_total_27 rfl (lv_at hl 2 rfl) ?_
          refine z_get S zm_cls zm_in (hP 0 _ rfl) 12 (by decide) kg_438 (Or.inl rfl) rfl d_Mo_total_28 ?_
          refine lv_iload_n hx hb d_Mo_total_31 rfl (lv_at hl 0 rfl) ?_
          refine va_zald hx hb hK.1 hP 7 1 rfl rfl (vp_in_nI hlj (by decide)) d_Mo_total_32 ?_
          rw [hcj]
          refine lv_if_eq (tgt := 40) hx hb d_Mo_total_33 (by decide) (fun c_2 => ?_) (fun c_2 => ?_)
          · refine lv_aload_n hx hb d_Mo_total_40 rfl (lv_at hl 2 rfl) ?_
            refine lv_iload_n hx hb d_Mo_total_41 rfl (lv_at hl 0 rfl) ?_
            refine lv_iload_n hx hb d_Mo_total_42 rfl (lv_at hl 3 rfl) ?_
            refine z_q (z_D (n := 2) (C := "VoucherOfficeModel") (As := [.int (nI j), .int on]) (rest := [.int (mSumW ko lf fr pt gn on j)]) S (c_Mo_valueOf l G _ mo a1 a2 a3 a4 a5 a6 a7 dy ams sp fe la n ko am lf fr pt so gn j on hlj) kg_488 kg_490 kp_Mo_valueOf kg_491 ok_Mo_valueOf pd_Mo_valueOf (zrec hK (hP 0 _ rfl) zm_cls) ⟨rfl, hP, hD.weaken (fun _ _ _ _ => trivial)⟩ rfl hl.1 rfl (Nat.le_of_ble_eq_true rfl) ⟨(Nat.le_of_ble_eq_true rfl), (Nat.le_of_ble_eq_true rfl)⟩ ⟨Nat.zero_le _, Nat.zero_le _⟩ d_Mo_total_43) ?_
            refine lv_iadd hx hb d_Mo_total_46 ?_
            refine lv_istore_n (lv' := [(2, .int ((mSumW ko lf fr pt gn on j) + (mVal (ko j) (fr j) (lf j) (pt j) on))), (3, .int (nI j)), (0, .ref mo), (1, .int on)]) hx hb d_Mo_total_47 rfl hl (by decide) rfl (fun ls hl => ?_)
            refine lv_iinc (v := (nI j) + 1) (lv' := [(3, .int ((nI j) + 1)), (2, .int ((mSumW ko lf fr pt gn on j) + (mVal (ko j) (fr j) (lf j) (pt j) on))), (0, .ref mo), (1, .int on)]) hx hb d_Mo_total_48 hl (k := 1) rfl rfl (by decide) rfl (fun ls hl => ?_)
            refine lv_goto (tgt := 18) hx hb d_Mo_total_51 (by decide) ?_
            have h9 := lv_sub (l' := [(3, .int ((nI j) + 1)), (2, .int ((mSumW ko lf fr pt gn on j) + (mVal (ko j) (fr j) (lf j) (pt j) on))), (0, .ref mo), (1, .int on)]) hl [0, 1, 2, 3] rfl
            rw [nI_1 j, show ((mSumW ko lf fr pt gn on j) + (mVal (ko j) (fr j) (lf j) (pt j) on)) = mSumW ko lf fr pt gn on (j + 1) from by simp only [mSumW, eq_true c_2, ↓reduceIte]] at h9
            exact ih (j + 1) hlt (by omega) ls h9
          · refine lv_iconst (v := 0) hx hb d_Mo_total_36 (by decide) ?_
            refine lv_goto (tgt := 46) hx hb d_Mo_total_37 (by decide) ?_
            refine lv_iadd hx hb d_Mo_total_46 ?_
            refine lv_istore_n (lv' := [(2, .int ((mSumW ko lf fr pt gn on j) + 0)), (3, .int (nI j)), (0, .ref mo), (1, .int on)]) hx hb d_Mo_total_47 rfl hl (by decide) rfl (fun ls hl => ?_)
            refine lv_iinc (v := (nI j) + 1) (lv' := [(3, .int ((nI j) + 1)), (2, .int ((mSumW ko lf fr pt gn on j) + 0)), (0, .ref mo), (1, .int on)]) hx hb d_Mo_total_48 hl (k := 1) rfl rfl (by decide) rfl (fun ls hl => ?_)
            refine lv_goto (tgt := 18) hx hb d_Mo_total_51 (by decide) ?_
            have h9 := lv_sub (l' := [(3, .int ((nI j) + 1)), (2, .int ((mSumW ko lf fr pt gn on j) + 0)), (0, .ref mo), (1, .int on)]) hl [0, 1, 2, 3] rfl
            rw [nI_1 j, show ((mSumW ko lf fr pt gn on j) + 0) = mSumW ko lf fr pt gn on (j + 1) from by simp only [mSumW, c_2, ↓reduceIte]] at h9
            exact ih (j + 1) hlt (by omega) ls h9
    refine lv_iload_n hx hb d_Mo_total_0 rfl (lv_at hl 1 rfl) ?_
    refine lv_iconst (v := 0) hx hb d_Mo_total_1 (by decide) ?_
    refine lv_sipush (v := 20000) hx hb d_Mo_total_2 (by decide) ?_
    refine z_q (z_S (n := 3) (As := [.int on, .int 0, .int 20000]) (rest := []) S (c_Mo_within l G on 0 20000) kg_472 kg_473 kg_2 kg_474 ok_Mo_within pd_Mo_within trivial rfl hl.1 rfl (Nat.le_of_ble_eq_true rfl) ⟨(Nat.le_of_ble_eq_true rfl), (Nat.le_of_ble_eq_true rfl)⟩ ⟨Nat.zero_le _, Nat.zero_le _⟩ d_Mo_total_5) ?_
    refine lv_if_ne (tgt := 14) hx hb d_Mo_total_8 (by decide) (fun c_1 => ?_) (fun c_1 => ?_)
    · refine lv_iconst (v := 0) hx hb d_Mo_total_14 (by decide) ?_
      refine lv_istore_n (lv' := [(2, .int 0), (0, .ref mo), (1, .int on)]) hx hb d_Mo_total_15 rfl hl (by decide) rfl (fun ls hl => ?_)
      refine lv_iconst (v := 0) hx hb d_Mo_total_16 (by decide) ?_
      refine lv_istore_n (lv' := [(3, .int 0), (2, .int 0), (0, .ref mo), (1, .int on)]) hx hb d_Mo_total_17 rfl hl (by decide) rfl (fun ls hl => ?_)
      exact loop (n + 1) 0 (Nat.zero_le n) (by omega) ls (lv_sub hl [0, 1, 2, 3] rfl)
    · exact absurd c_1 hin
set_option maxHeartbeats 2000000 in
theorem c_Mo_lapse (l : Launch) (G : ZG) (sz : Nat) (mo a1 a2 a3 a4 a5 a6 a7 : Nat) (dy ams sp fe la : Int32) (n : Nat) (ko am lf fr pt so gn : Nat → Int32) (hn40 : n ≤ 40) : ZK l G y_Mo_lapse 1 [.ref mo] (OW G sz (wm G mo a1 a2 a3 a4 a5 a6 a7 dy (nI n) ams sp fe la ko am lf fr pt so gn)) (ZA (some (.int (mLapS dy ko lf fr gn n))) (OF G sz (wm G mo a1 a2 a3 a4 a5 a6 a7 dy (nI n) ams sp fe la ko am lf fr pt so gn) (wm G mo a1 a2 a3 a4 a5 a6 a7 dy (nI n) ams sp fe (la + mLapS dy ko lf fr gn n) ko am (mLapL dy ko lf fr gn n) fr pt so gn))) 0 0 (va_A (wm G mo a1 a2 a3 a4 a5 a6 a7 dy (nI n) ams sp fe la ko am lf fr pt so gn) sz) := by
  refine ZK.ofBody (cc := b_Mo_lapse) (maxL := 3) (ret := (some FieldType.int)) kg_535 (by decide) (by decide) (Nat.le_of_ble_eq_true rfl) ?_
  intro p e s m below meth c S hr hlk hnm hp ls hl
  obtain ⟨⟨hx, hb, hml, hown, hts⟩, hK⟩ := id S
  obtain ⟨hsz, hP, hD⟩ := hp
  subst hsz
  have hD := hD.self (sz := s.heap.size)
  have hS : va_S (va_A (wm G mo a1 a2 a3 a4 a5 a6 a7 dy (nI n) ams sp fe la ko am lf fr pt so gn) s.heap.size) s.heap s.heap [] := va_S.rf
  have loop : ∀ (f j : Nat), j ≤ n → n + 1 ≤ j + f → ∀ (H : Heap) (locs : List Loc), va_P G.1 classes (wm G mo a1 a2 a3 a4 a5 a6 a7 dy (nI n) ams sp fe la ko am (mLapL dy ko lf fr gn j) fr pt so gn) H → va_D (va_A (wm G mo a1 a2 a3 a4 a5 a6 a7 dy (nI n) ams sp fe la ko am lf fr pt so gn) s.heap.size) (wm G mo a1 a2 a3 a4 a5 a6 a7 dy (nI n) ams sp fe la ko am (mLapL dy ko lf fr gn j) fr pt so gn) → va_S (va_A (wm G mo a1 a2 a3 a4 a5 a6 a7 dy (nI n) ams sp fe la ko am lf fr pt so gn) s.heap.size) s.heap H locs → ∀ ls : Array Slot, lv_has ls 3 [(2, .int (nI j)), (1, .int (mLapS dy ko lf fr gn j)), (0, .ref mo)] → W p l e (zr 1 0 0) s m [.ref mo].toArray below meth c H locs 0 0 (MQ below (ZQ (ZA (some (.int (mLapS dy ko lf fr gn n))) (OF G s.heap.size (wm G mo a1 a2 a3 a4 a5 a6 a7 dy (nI n) ams sp fe la ko am lf fr pt so gn) (wm G mo a1 a2 a3 a4 a5 a6 a7 dy (nI n) ams sp fe (la + mLapS dy ko lf fr gn n) ko am (mLapL dy ko lf fr gn n) fr pt so gn)))) [.ref mo].toArray s 0 0 (va_A (wm G mo a1 a2 a3 a4 a5 a6 a7 dy (nI n) ams sp fe la ko am lf fr pt so gn) s.heap.size)) (F0 m 4 ls []) := by
    intro f
    induction f with
    | zero => intro j h1 h2; omega
    | succ f ih =>
      intro j hjn hjf H locs hP hD hS ls hl
      have hcj : (nI j).toNatClampNeg = j := nI_clamp (by omega)
      refine lv_iload_n hx hb d_Mo_lapse_4 rfl (lv_at hl 0 rfl) ?_
      refine lv_aload_n hx hb d_Mo_lapse_5 rfl (lv_at hl 2 rfl) ?_
      refine z_get S zm_cls zm_in (hP 0 _ rfl) 1 (by decide) kg_427 (Or.inl rfl) rfl d_Mo_lapse_6 ?_
      refine lv_icmp_ge (tgt := 66) hx hb d_Mo_lapse_9 (by decide) (fun c_1 => ?_) (fun c_1 => ?_)
      · have hjn2 : j = n := by have := (nI_leI (by omega) (by omega)).mp c_1; omega
        refine lv_aload_n hx hb d_Mo_lapse_66 rfl (lv_at hl 2 rfl) ?_
        refine lv_dup hx hb d_Mo_lapse_67 rfl ?_
        refine z_get S zm_cls zm_in (hP 0 _ rfl) 5 (by decide) kg_431 (Or.inl rfl) rfl d_Mo_lapse_68 ?_
        refine lv_iload_n hx hb d_Mo_lapse_71 rfl (lv_at hl 1 rfl) ?_
        refine lv_iadd hx hb d_Mo_lapse_72 ?_
        refine z_put (x := la + (mLapS dy ko lf fr gn j)) S zm_cls zm_in zm_ty zm_nm hP hD hS 0 rfl 5 (by decide) kg_431 (Or.inl rfl) rfl pI (Nat.le_of_ble_eq_true rfl) d_Mo_lapse_73 (fun H locs hP hD hS => ?_)
        have hP : va_P G.1 classes (wm G mo a1 a2 a3 a4 a5 a6 a7 dy (nI n) ams sp fe (la + (mLapS dy ko lf fr gn j)) ko am (mLapL dy ko lf fr gn j) fr pt so gn) H := hP
        have hD : va_D (va_A (wm G mo a1 a2 a3 a4 a5 a6 a7 dy (nI n) ams sp fe la ko am lf fr pt so gn) s.heap.size) (wm G mo a1 a2 a3 a4 a5 a6 a7 dy (nI n) ams sp fe (la + (mLapS dy ko lf fr gn j)) ko am (mLapL dy ko lf fr gn j) fr pt so gn) := hD
        refine lv_iload_n hx hb d_Mo_lapse_76 rfl (lv_at hl 1 rfl) ?_
        exact z_iret (v := mLapS dy ko lf fr gn n) (tys := none) S hr hlk (by rw [hjn2]) (OF.mk hP hD hS rfl (by rw [hjn2])) hS.2.2 d_Mo_lapse_77
      · have hlt : j < n := by
          rcases Nat.lt_or_ge j n with q | q
          · exact q
          · exact absurd (nI_le q (by omega)) c_1
        have hlj : j < 40 := by omega
        refine lv_aload_n hx hb d_Mo_lapse_12 rfl (lv_at hl 2 rfl) ?_
        refine z_get S zm_cls zm_in (hP 0 _ rfl) 12 (by decide) kg_438 (Or.inl rfl) rfl d_Mo_lapse_13 ?_
        refine lv_iload_n hx hb d_Mo_lapse_16 rfl (lv_at hl 0 rfl) ?_
        refine va_zald hx hb hK.1 hP 7 1 rfl rfl (vp_in_nI hlj (by decide)) d_Mo_lapse_17 ?_
        rw [hcj]
        refine lv_if_ne (tgt := 60) hx hb d_Mo_lapse_18 (by decide) (fun c_2 => ?_) (fun c_2 => ?_)
        · refine lv_iinc (v := (nI j) + 1) (lv' := [(2, .int ((nI j) + 1)), (1, .int (mLapS dy ko lf fr gn j)), (0, .ref mo)]) hx hb d_Mo_lapse_60 hl (k := 0) rfl rfl (by decide) rfl (fun ls hl => ?_)
          refine lv_goto (tgt := 4) hx hb d_Mo_lapse_63 (by decide) ?_
          have h9 := lv_sub (l' := [(2, .int ((nI j) + 1)), (1, .int (mLapS dy ko lf fr gn j)), (0, .ref mo)]) hl [0, 1, 2] rfl
          rw [nI_1 j, show (mLapS dy ko lf fr gn j) = mLapS dy ko lf fr gn (j + 1) from by simp only [mLapS, c_2, ↓reduceIte]] at h9
          have e9 : (mLapL dy ko lf fr gn (j + 1)) = (mLapL dy ko lf fr gn j) := by simp only [mLapL, c_2, ↓reduceIte]
          exact ih (j + 1) hlt (by omega) _ _ (by rw [e9]; exact hP) (by rw [e9]; exact hD) hS ls h9
        · refine lv_aload_n hx hb d_Mo_lapse_21 rfl (lv_at hl 2 rfl) ?_
          refine lv_iload_n hx hb d_Mo_lapse_22 rfl (lv_at hl 0 rfl) ?_
          refine z_q (z_D (n := 1) (C := "VoucherOfficeModel") (As := [.int (nI j)]) (rest := []) S (c_Mo_isDated l G _ mo a1 a2 a3 a4 a5 a6 a7 dy ams sp fe la n ko am (mLapL dy ko lf fr gn j) fr pt so gn j hlj) kg_492 kg_494 kp_Mo_isDated kg_495 ok_Mo_isDated pd_Mo_isDated (zrec hK (hP 0 _ rfl) zm_cls) ⟨rfl, hP, hD.weaken (fun _ _ _ _ => trivial)⟩ rfl hl.1 rfl (Nat.le_of_ble_eq_true rfl) ⟨(Nat.le_of_ble_eq_true rfl), (Nat.le_of_ble_eq_true rfl)⟩ ⟨Nat.zero_le _, Nat.zero_le _⟩ d_Mo_lapse_23) ?_
          refine lv_if_eq (tgt := 60) hx hb d_Mo_lapse_26 (by decide) (fun c_3 => ?_) (fun c_3 => ?_)
          · refine lv_iinc (v := (nI j) + 1) (lv' := [(2, .int ((nI j) + 1)), (1, .int (mLapS dy ko lf fr gn j)), (0, .ref mo)]) hx hb d_Mo_lapse_60 hl (k := 0) rfl rfl (by decide) rfl (fun ls hl => ?_)
            refine lv_goto (tgt := 4) hx hb d_Mo_lapse_63 (by decide) ?_
            have h9 := lv_sub (l' := [(2, .int ((nI j) + 1)), (1, .int (mLapS dy ko lf fr gn j)), (0, .ref mo)]) hl [0, 1, 2] rfl
            rw [nI_1 j, show (mLapS dy ko lf fr gn j) = mLapS dy ko lf fr gn (j + 1) from by simp only [mLapS, eq_true c_2, eq_true c_3, ↓reduceIte]] at h9
            have e9 : (mLapL dy ko lf fr gn (j + 1)) = (mLapL dy ko lf fr gn j) := by simp only [mLapL, eq_true c_2, eq_true c_3, ↓reduceIte]
            exact ih (j + 1) hlt (by omega) _ _ (by rw [e9]; exact hP) (by rw [e9]; exact hD) hS ls h9
          · refine lv_aload_n hx hb d_Mo_lapse_29 rfl (lv_at hl 2 rfl) ?_
            refine lv_iload_n hx hb d_Mo_lapse_30 rfl (lv_at hl 0 rfl) ?_
            refine z_q (z_D (n := 1) (C := "VoucherOfficeModel") (As := [.int (nI j)]) (rest := []) S (c_Mo_lastDay l G _ mo a1 a2 a3 a4 a5 a6 a7 dy ams sp fe la n ko am (mLapL dy ko lf fr gn j) fr pt so gn j hlj) kg_496 kg_498 kp_Mo_lastDay kg_499 ok_Mo_lastDay pd_Mo_lastDay (zrec hK (hP 0 _ rfl) zm_cls) ⟨rfl, hP, hD.weaken (fun _ _ _ _ => trivial)⟩ rfl hl.1 rfl (Nat.le_of_ble_eq_true rfl) ⟨(Nat.le_of_ble_eq_true rfl), (Nat.le_of_ble_eq_true rfl)⟩ ⟨Nat.zero_le _, Nat.zero_le _⟩ d_Mo_lapse_31) ?_
            refine lv_aload_n hx hb d_Mo_lapse_34 rfl (lv_at hl 2 rfl) ?_
            refine z_get S zm_cls zm_in (hP 0 _ rfl) 0 (by decide) kg_426 (Or.inl rfl) rfl d_Mo_lapse_35 ?_
            refine lv_icmp_lt (tgt := 44) hx hb d_Mo_lapse_38 (by decide) (fun c_4 => ?_) (fun c_4 => ?_)
            · refine lv_iload_n hx hb d_Mo_lapse_44 rfl (lv_at hl 1 rfl) ?_
              refine lv_aload_n hx hb d_Mo_lapse_45 rfl (lv_at hl 2 rfl) ?_
              refine z_get S zm_cls zm_in (hP 0 _ rfl) 8 (by decide) kg_434 (Or.inl rfl) rfl d_Mo_lapse_46 ?_
              refine lv_iload_n hx hb d_Mo_lapse_49 rfl (lv_at hl 0 rfl) ?_
              refine va_iald hx hb hK.1 hP 3 0 rfl rfl (vp_in_nI hlj (by decide)) d_Mo_lapse_50 ?_
              rw [hcj]
              refine lv_iadd hx hb d_Mo_lapse_51 ?_
              refine lv_istore_n (lv' := [(1, .int ((mLapS dy ko lf fr gn j) + ((mLapL dy ko lf fr gn j) j))), (2, .int (nI j)), (0, .ref mo)]) hx hb d_Mo_lapse_52 rfl hl (by decide) rfl (fun ls hl => ?_)
              refine lv_aload_n hx hb d_Mo_lapse_53 rfl (lv_at hl 2 rfl) ?_
              refine z_get S zm_cls zm_in (hP 0 _ rfl) 8 (by decide) kg_434 (Or.inl rfl) rfl d_Mo_lapse_54 ?_
              refine lv_iload_n hx hb d_Mo_lapse_57 rfl (lv_at hl 1 rfl) ?_
              refine lv_iconst (v := 0) hx hb d_Mo_lapse_58 (by decide) ?_
              refine va_iast hx hb hK.1 hP hD hS 3 0 rfl rfl (vp_in_nI hlj (by decide)) d_Mo_lapse_59 (fun H locs hP hD hS => ?_)
              rw [hcj] at hP hD
              have hP : va_P G.1 classes (wm G mo a1 a2 a3 a4 a5 a6 a7 dy (nI n) ams sp fe la ko am (upd (mLapL dy ko lf fr gn j) j 0) fr pt so gn) H := hP
              have hD : va_D (va_A (wm G mo a1 a2 a3 a4 a5 a6 a7 dy (nI n) ams sp fe la ko am lf fr pt so gn) s.heap.size) (wm G mo a1 a2 a3 a4 a5 a6 a7 dy (nI n) ams sp fe la ko am (upd (mLapL dy ko lf fr gn j) j 0) fr pt so gn) := hD
              refine lv_iinc (v := (nI j) + 1) (lv' := [(2, .int ((nI j) + 1)), (1, .int ((mLapS dy ko lf fr gn j) + ((mLapL dy ko lf fr gn j) j))), (0, .ref mo)]) hx hb d_Mo_lapse_60 hl (k := 1) rfl rfl (by decide) rfl (fun ls hl => ?_)
              refine lv_goto (tgt := 4) hx hb d_Mo_lapse_63 (by decide) ?_
              have h9 := lv_sub (l' := [(2, .int ((nI j) + 1)), (1, .int ((mLapS dy ko lf fr gn j) + ((mLapL dy ko lf fr gn j) j))), (0, .ref mo)]) hl [0, 1, 2] rfl
              rw [nI_1 j, show ((mLapS dy ko lf fr gn j) + ((mLapL dy ko lf fr gn j) j)) = mLapS dy ko lf fr gn (j + 1) from by simp only [mLapS, eq_true c_2, c_3, eq_true c_4, ↓reduceIte]] at h9
              have e9 : (mLapL dy ko lf fr gn (j + 1)) = upd (mLapL dy ko lf fr gn j) j 0 := by simp only [mLapL, eq_true c_2, c_3, eq_true c_4, ↓reduceIte]
              exact ih (j + 1) hlt (by omega) _ _ (by rw [e9]; exact hP) (by rw [e9]; exact hD) hS ls h9
            · refine lv_goto (tgt := 60) hx hb d_Mo_lapse_41 (by decide) ?_
              refine lv_iinc (v := (nI j) + 1) (lv' := [(2, .int ((nI j) + 1)), (1, .int (mLapS dy ko lf fr gn j)), (0, .ref mo)]) hx hb d_Mo_lapse_60 hl (k := 0) rfl rfl (by decide) rfl (fun ls hl => ?_)
              refine lv_goto (tgt := 4) hx hb d_Mo_lapse_63 (by decide) ?_
              have h9 := lv_sub (l' := [(2, .int ((nI j) + 1)), (1, .int (mLapS dy ko lf fr gn j)), (0, .ref mo)]) hl [0, 1, 2] rfl
              rw [nI_1 j, show (mLapS dy ko lf fr gn j) = mLapS dy ko lf fr gn (j + 1) from by simp only [mLapS, eq_true c_2, c_3, c_4, ↓reduceIte]] at h9
              have e9 : (mLapL dy ko lf fr gn (j + 1)) = (mLapL dy ko lf fr gn j) := by simp only [mLapL, eq_true c_2, c_3, c_4, ↓reduceIte]
              exact ih (j + 1) hlt (by omega) _ _ (by rw [e9]; exact hP) (by rw [e9]; exact hD) hS ls h9
  have hl : lv_has ls 3 [(0, .ref mo)] := hl
  refine lv_iconst (v := 0) hx hb d_Mo_lapse_0 (by decide) ?_
  refine lv_istore_n (lv' := [(1, .int 0), (0, .ref mo)]) hx hb d_Mo_lapse_1 rfl hl (by decide) rfl (fun ls hl => ?_)
  refine lv_iconst (v := 0) hx hb d_Mo_lapse_2 (by decide) ?_
  refine lv_istore_n (lv' := [(2, .int 0), (1, .int 0), (0, .ref mo)]) hx hb d_Mo_lapse_3 rfl hl (by decide) rfl (fun ls hl => ?_)
  exact loop (n + 1) 0 (Nat.zero_le n) (by omega) _ _ hP hD hS ls (lv_sub hl [0, 1, 2] rfl)
def mCount (n : Nat) (ko am lf fr pt so gn : Nat → Int32) (dy ams sp fe la what : Int32) : Int32 := if what = 0 then dy else if what = 1 then nI n else if what = 2 then ams else if what = 3 then sp else if what = 4 then fe else if what = 5 then la else if what = 6 then mSumL lf gn n else -2
set_option maxHeartbeats 2000000 in
theorem c_Mo_count (l : Launch) (G : ZG) (sz : Nat) (mo a1 a2 a3 a4 a5 a6 a7 : Nat) (dy ams sp fe la : Int32) (n : Nat) (ko am lf fr pt so gn : Nat → Int32) (what : Int32) (hn40 : n ≤ 40) : ZK l G y_Mo_count 1 [.ref mo, .int what] (OW G sz (wm G mo a1 a2 a3 a4 a5 a6 a7 dy (nI n) ams sp fe la ko am lf fr pt so gn)) (ZE (.int (mCount n ko am lf fr pt so gn dy ams sp fe la what))) 0 0 (fun _ => False) := by
  refine ZK.ofBody (cc := b_Mo_count) (maxL := 2) (ret := (some FieldType.int)) kg_551 (by decide) (by decide) (Nat.le_of_ble_eq_true rfl) ?_
  intro p e s m below meth c S hr hlk hnm hp ls hl
  obtain ⟨⟨hx, hb, hml, hown, hts⟩, hK⟩ := id S
  obtain ⟨hsz, hP, hD⟩ := hp
  have hl : lv_has ls 2 [(0, .ref mo), (1, .int what)] := hl
  refine lv_iload_n hx hb d_Mo_count_0 rfl (lv_at hl 1 rfl) ?_
  by_cases hw_1 : what = 0
  · refine zt_in (off := 43) (tgt := 44) hx hb hw_1 d_Mo_count_1 (by decide) (by decide) rfl (by decide) ?_
    refine lv_aload_n hx hb d_Mo_count_44 rfl (lv_at hl 0 rfl) ?_
    refine z_get S zm_cls zm_in (hP 0 _ rfl) 0 (by decide) kg_426 (Or.inl rfl) rfl d_Mo_count_45 ?_
    exact z_iret (v := mCount n ko am lf fr pt so gn dy ams sp fe la what) (tys := none) S hr hlk (by unfold mCount; rw [if_pos hw_1]) ⟨rfl, rfl⟩ z_nil d_Mo_count_48
  by_cases hw_2 : what = 1
  · refine zt_in (off := 48) (tgt := 49) hx hb hw_2 d_Mo_count_1 (by decide) (by decide) rfl (by decide) ?_
    refine lv_aload_n hx hb d_Mo_count_49 rfl (lv_at hl 0 rfl) ?_
    refine z_get S zm_cls zm_in (hP 0 _ rfl) 1 (by decide) kg_427 (Or.inl rfl) rfl d_Mo_count_50 ?_
    exact z_iret (v := mCount n ko am lf fr pt so gn dy ams sp fe la what) (tys := none) S hr hlk (by unfold mCount; rw [if_neg hw_1, if_pos hw_2]) ⟨rfl, rfl⟩ z_nil d_Mo_count_53
  by_cases hw_3 : what = 2
  · refine zt_in (off := 53) (tgt := 54) hx hb hw_3 d_Mo_count_1 (by decide) (by decide) rfl (by decide) ?_
    refine lv_aload_n hx hb d_Mo_count_54 rfl (lv_at hl 0 rfl) ?_
    refine z_get S zm_cls zm_in (hP 0 _ rfl) 2 (by decide) kg_428 (Or.inl rfl) rfl d_Mo_count_55 ?_
    exact z_iret (v := mCount n ko am lf fr pt so gn dy ams sp fe la what) (tys := none) S hr hlk (by unfold mCount; rw [if_neg hw_1, if_neg hw_2, if_pos hw_3]) ⟨rfl, rfl⟩ z_nil d_Mo_count_58
  by_cases hw_4 : what = 3
  · refine zt_in (off := 58) (tgt := 59) hx hb hw_4 d_Mo_count_1 (by decide) (by decide) rfl (by decide) ?_
    refine lv_aload_n hx hb d_Mo_count_59 rfl (lv_at hl 0 rfl) ?_
    refine z_get S zm_cls zm_in (hP 0 _ rfl) 3 (by decide) kg_429 (Or.inl rfl) rfl d_Mo_count_60 ?_
    exact z_iret (v := mCount n ko am lf fr pt so gn dy ams sp fe la what) (tys := none) S hr hlk (by unfold mCount; rw [if_neg hw_1, if_neg hw_2, if_neg hw_3, if_pos hw_4]) ⟨rfl, rfl⟩ z_nil d_Mo_count_63
  by_cases hw_5 : what = 4
  · refine zt_in (off := 63) (tgt := 64) hx hb hw_5 d_Mo_count_1 (by decide) (by decide) rfl (by decide) ?_
    refine lv_aload_n hx hb d_Mo_count_64 rfl (lv_at hl 0 rfl) ?_
    refine z_get S zm_cls zm_in (hP 0 _ rfl) 4 (by decide) kg_430 (Or.inl rfl) rfl d_Mo_count_65 ?_
    exact z_iret (v := mCount n ko am lf fr pt so gn dy ams sp fe la what) (tys := none) S hr hlk (by unfold mCount; rw [if_neg hw_1, if_neg hw_2, if_neg hw_3, if_neg hw_4, if_pos hw_5]) ⟨rfl, rfl⟩ z_nil d_Mo_count_68
  by_cases hw_6 : what = 5
  · refine zt_in (off := 68) (tgt := 69) hx hb hw_6 d_Mo_count_1 (by decide) (by decide) rfl (by decide) ?_
    refine lv_aload_n hx hb d_Mo_count_69 rfl (lv_at hl 0 rfl) ?_
    refine z_get S zm_cls zm_in (hP 0 _ rfl) 5 (by decide) kg_431 (Or.inl rfl) rfl d_Mo_count_70 ?_
    exact z_iret (v := mCount n ko am lf fr pt so gn dy ams sp fe la what) (tys := none) S hr hlk (by unfold mCount; rw [if_neg hw_1, if_neg hw_2, if_neg hw_3, if_neg hw_4, if_neg hw_5, if_pos hw_6]) ⟨rfl, rfl⟩ z_nil d_Mo_count_73
  by_cases hw_7 : what = 6
  · refine zt_in (off := 73) (tgt := 74) hx hb hw_7 d_Mo_count_1 (by decide) (by decide) rfl (by decide) ?_
    refine lv_aload_n hx hb d_Mo_count_74 rfl (lv_at hl 0 rfl) ?_
    refine z_q (z_D (n := 0) (C := "VoucherOfficeModel") (As := []) (rest := []) S (c_Mo_leftOfAll l G _ mo a1 a2 a3 a4 a5 a6 a7 dy ams sp fe la n ko am lf fr pt so gn hn40) kg_552 kg_554 kp_Mo_leftOfAll kg_555 ok_Mo_leftOfAll pd_Mo_leftOfAll (zrec hK (hP 0 _ rfl) zm_cls) ⟨rfl, hP, hD.weaken (fun _ _ _ _ => trivial)⟩ rfl hl.1 rfl (Nat.le_of_ble_eq_true rfl) ⟨(Nat.le_of_ble_eq_true rfl), (Nat.le_of_ble_eq_true rfl)⟩ ⟨Nat.zero_le _, Nat.zero_le _⟩ d_Mo_count_75) ?_
    exact z_iret (v := mCount n ko am lf fr pt so gn dy ams sp fe la what) (tys := none) S hr hlk (by unfold mCount; rw [if_neg hw_1, if_neg hw_2, if_neg hw_3, if_neg hw_4, if_neg hw_5, if_neg hw_6, if_pos hw_7]) ⟨rfl, rfl⟩ z_nil d_Mo_count_78
  have hso : (what).toInt < 0 ∨ 6 < (what).toInt := by
    have q0 := lv_neT (a := 0) hw_1 (by decide)
    have q1 := lv_neT (a := 1) hw_2 (by decide)
    have q2 := lv_neT (a := 2) hw_3 (by decide)
    have q3 := lv_neT (a := 3) hw_4 (by decide)
    have q4 := lv_neT (a := 4) hw_5 (by decide)
    have q5 := lv_neT (a := 5) hw_6 (by decide)
    have q6 := lv_neT (a := 6) hw_7 (by decide)
    omega
  refine lv_tableOut (tgt := 79) hx hb d_Mo_count_1 hso (by decide) ?_
  refine lv_bipush (v := (-2)) hx hb d_Mo_count_79 (by decide) ?_
  exact z_iret (v := mCount n ko am lf fr pt so gn dy ams sp fe la what) (tys := none) S hr hlk (by unfold mCount; rw [if_neg hw_1, if_neg hw_2, if_neg hw_3, if_neg hw_4, if_neg hw_5, if_neg hw_6, if_neg hw_7]) ⟨rfl, rfl⟩ z_nil d_Mo_count_81
end
section
set_option maxHeartbeats 2000000 in
theorem c_Mo_pass (l : Launch) (G : ZG) (sz : Nat) (mo a1 a2 a3 a4 a5 a6 a7 : Nat) (dy ams sp fe la : Int32) (n : Nat) (ko am lf fr pt so gn : Nat → Int32) (days : Int32) (hn40 : n ≤ 40) : ZK l G y_Mo_pass 1 [.ref mo, .int days] (OW G sz (wm G mo a1 a2 a3 a4 a5 a6 a7 dy (nI n) ams sp fe la ko am lf fr pt so gn)) (ZA (some (.int (oPassR dy days))) (OF G sz (wm G mo a1 a2 a3 a4 a5 a6 a7 dy (nI n) ams sp fe la ko am lf fr pt so gn) (wm G mo a1 a2 a3 a4 a5 a6 a7 (oPassT dy days) (nI n) ams sp fe la ko am lf fr pt so gn))) 0 0 (va_A (wm G mo a1 a2 a3 a4 a5 a6 a7 dy (nI n) ams sp fe la ko am lf fr pt so gn) sz) := by
  refine ZK.ofBody (cc := b_Mo_pass) (maxL := 2) (ret := (some FieldType.int)) kg_479 (by decide) (by decide) (Nat.le_of_ble_eq_true rfl) ?_
  intro p e s m below meth c S hr hlk hnm hp ls hl
  obtain ⟨⟨hx, hb, hml, hown, hts⟩, hK⟩ := id S
  obtain ⟨hsz, hP, hD⟩ := hp
  subst hsz
  have hD := hD.self (sz := s.heap.size)
  have hS : va_S (va_A (wm G mo a1 a2 a3 a4 a5 a6 a7 dy (nI n) ams sp fe la ko am lf fr pt so gn) s.heap.size) s.heap s.heap [] := va_S.rf
  have hl : lv_has ls 2 [(0, .ref mo), (1, .int days)] := hl
  refine lv_iload_n hx hb d_Mo_pass_0 rfl (lv_at hl 1 rfl) ?_
  refine lv_iconst (v := 1) hx hb d_Mo_pass_1 (by decide) ?_
  refine lv_sipush (v := 1000) hx hb d_Mo_pass_2 (by decide) ?_
  refine z_q (z_S (n := 3) (As := [.int days, .int 1, .int 1000]) (rest := []) S (c_Mo_within l G days 1 1000) kg_472 kg_473 kg_2 kg_474 ok_Mo_within pd_Mo_within trivial rfl hl.1 rfl (Nat.le_of_ble_eq_true rfl) ⟨(Nat.le_of_ble_eq_true rfl), (Nat.le_of_ble_eq_true rfl)⟩ ⟨Nat.zero_le _, Nat.zero_le _⟩ d_Mo_pass_5) ?_
  refine lv_if_ne (tgt := 14) hx hb d_Mo_pass_8 (by decide) (fun c_1 => ?_) (fun c_1 => ?_)
  · refine lv_aload_n hx hb d_Mo_pass_14 rfl (lv_at hl 0 rfl) ?_
    refine z_get S zm_cls zm_in (hP 0 _ rfl) 0 (by decide) kg_426 (Or.inl rfl) rfl d_Mo_pass_15 ?_
    refine lv_iload_n hx hb d_Mo_pass_18 rfl (lv_at hl 1 rfl) ?_
    refine lv_iadd hx hb d_Mo_pass_19 ?_
    refine lv_sipush (v := 20000) hx hb d_Mo_pass_20 (by decide) ?_
    refine lv_icmp_le (tgt := 29) hx hb d_Mo_pass_23 (by decide) (fun c_2 => ?_) (fun c_2 => ?_)
    · refine lv_aload_n hx hb d_Mo_pass_29 rfl (lv_at hl 0 rfl) ?_
      refine lv_dup hx hb d_Mo_pass_30 rfl ?_
      refine z_get S zm_cls zm_in (hP 0 _ rfl) 0 (by decide) kg_426 (Or.inl rfl) rfl d_Mo_pass_31 ?_
      refine lv_iload_n hx hb d_Mo_pass_34 rfl (lv_at hl 1 rfl) ?_
      refine lv_iadd hx hb d_Mo_pass_35 ?_
      refine z_put (x := dy + days) S zm_cls zm_in zm_ty zm_nm hP hD hS 0 rfl 0 (by decide) kg_426 (Or.inl rfl) rfl pI (Nat.le_of_ble_eq_true rfl) d_Mo_pass_36 (fun H locs hP hD hS => ?_)
      have hP : va_P G.1 classes (wm G mo a1 a2 a3 a4 a5 a6 a7 (dy + days) (nI n) ams sp fe la ko am lf fr pt so gn) H := hP
      have hD : va_D (va_A (wm G mo a1 a2 a3 a4 a5 a6 a7 dy (nI n) ams sp fe la ko am lf fr pt so gn) s.heap.size) (wm G mo a1 a2 a3 a4 a5 a6 a7 (dy + days) (nI n) ams sp fe la ko am lf fr pt so gn) := hD
      refine lv_aload_n hx hb d_Mo_pass_39 rfl (lv_at hl 0 rfl) ?_
      refine z_get S zm_cls zm_in (hP 0 _ rfl) 0 (by decide) kg_426 (Or.inl rfl) rfl d_Mo_pass_40 ?_
      exact z_iret (v := dy + days) (tys := none) S hr hlk rfl (OF.mk hP hD hS (by first | rfl | simp only [oPassR, oPassT, c_1, eq_true c_2, ↓reduceIte]) (by first | rfl | simp only [oPassR, oPassT, c_1, eq_true c_2, ↓reduceIte])) hS.2.2 d_Mo_pass_43
    · refine lv_bipush (v := (-4)) hx hb d_Mo_pass_26 (by decide) ?_
      exact z_iret (v := (-4)) (tys := none) S hr hlk rfl (OF.mk hP hD hS (by first | rfl | simp only [oPassR, oPassT, c_1, c_2, ↓reduceIte]) (by first | rfl | simp only [oPassR, oPassT, c_1, c_2, ↓reduceIte])) hS.2.2 d_Mo_pass_28
  · refine lv_bipush (v := (-2)) hx hb d_Mo_pass_11 (by decide) ?_
    exact z_iret (v := (-2)) (tys := none) S hr hlk rfl (OF.mk hP hD hS (by first | rfl | simp only [oPassR, oPassT, eq_true c_1, ↓reduceIte]) (by first | rfl | simp only [oPassR, oPassT, eq_true c_1, ↓reduceIte])) hS.2.2 d_Mo_pass_13
set_option maxHeartbeats 2000000 in
theorem c_Mo_issue_no (l : Launch) (G : ZG) (sz : Nat) (mo a1 a2 a3 a4 a5 a6 a7 : Nat) (dy ams sp fe la : Int32) (n : Nat) (ko am lf fr pt so gn : Nat → Int32) (kd av : Int32) (hno : inV kd 0 7 = 0 ∨ inV av 1 100000 = 0 ∨ nI n = 40) : ZK l G y_Mo_issue 1 [.ref mo, .int kd, .int av] (OW G sz (wm G mo a1 a2 a3 a4 a5 a6 a7 dy (nI n) ams sp fe la ko am lf fr pt so gn)) (ZE (.int (oIssN kd av))) 0 0 (fun _ => False) := by
  refine ZK.ofBody (cc := b_Mo_issue) (maxL := 4) (ret := (some FieldType.int)) kg_471 (by decide) (by decide) (Nat.le_of_ble_eq_true rfl) ?_
  intro p e s m below meth c S hr hlk hnm hp ls hl
  obtain ⟨⟨hx, hb, hml, hown, hts⟩, hK⟩ := id S
  obtain ⟨hsz, hP, hD⟩ := hp
  have hl : lv_has ls 4 [(0, .ref mo), (1, .int kd), (2, .int av)] := hl
  refine lv_iload_n hx hb d_Mo_issue_0 rfl (lv_at hl 1 rfl) ?_
  refine lv_iconst (v := 0) hx hb d_Mo_issue_1 (by decide) ?_
  refine lv_bipush (v := 7) hx hb d_Mo_issue_2 (by decide) ?_
  refine z_q (z_S (n := 3) (As := [.int kd, .int 0, .int 7]) (rest := []) S (c_Mo_within l G kd 0 7) kg_472 kg_473 kg_2 kg_474 ok_Mo_within pd_Mo_within trivial rfl hl.1 rfl (Nat.le_of_ble_eq_true rfl) ⟨(Nat.le_of_ble_eq_true rfl), (Nat.le_of_ble_eq_true rfl)⟩ ⟨Nat.zero_le _, Nat.zero_le _⟩ d_Mo_issue_4) ?_
  refine lv_if_eq (tgt := 20) hx hb d_Mo_issue_7 (by decide) (fun c_1 => ?_) (fun c_1 => ?_)
  · refine lv_bipush (v := (-2)) hx hb d_Mo_issue_20 (by decide) ?_
    exact z_iret (v := oIssN kd av) (tys := none) S hr hlk (by simp only [oIssN, c_1, ↓reduceIte]) ⟨rfl, rfl⟩ z_nil d_Mo_issue_22
  · refine lv_iload_n hx hb d_Mo_issue_10 rfl (lv_at hl 2 rfl) ?_
    refine lv_iconst (v := 1) hx hb d_Mo_issue_11 (by decide) ?_
    refine lv_ldc (v := 100000) hx hb hown (hts _ kg_475) d_Mo_issue_12 ?_
    refine z_q (z_S (n := 3) (As := [.int av, .int 1, .int 100000]) (rest := []) S (c_Mo_within l G av 1 100000) kg_472 kg_473 kg_2 kg_474 ok_Mo_within pd_Mo_within trivial rfl hl.1 rfl (Nat.le_of_ble_eq_true rfl) ⟨(Nat.le_of_ble_eq_true rfl), (Nat.le_of_ble_eq_true rfl)⟩ ⟨Nat.zero_le _, Nat.zero_le _⟩ d_Mo_issue_14) ?_
    refine lv_if_ne (tgt := 23) hx hb d_Mo_issue_17 (by decide) (fun c_2 => ?_) (fun c_2 => ?_)
    · refine lv_aload_n hx hb d_Mo_issue_23 rfl (lv_at hl 0 rfl) ?_
      refine z_get S zm_cls zm_in (hP 0 _ rfl) 1 (by decide) kg_427 (Or.inl rfl) rfl d_Mo_issue_24 ?_
      refine lv_bipush (v := 40) hx hb d_Mo_issue_27 (by decide) ?_
      refine lv_icmp_ne (tgt := 35) hx hb d_Mo_issue_29 (by decide) (fun c_3 => ?_) (fun c_3 => ?_)
      · exact (hno.elim (fun h => absurd h c_1) (fun h => h.elim (fun h => absurd h c_2) (fun h => absurd h c_3)))
      · refine lv_bipush (v := (-4)) hx hb d_Mo_issue_32 (by decide) ?_
        exact z_iret (v := oIssN kd av) (tys := none) S hr hlk (by simp only [oIssN, c_1, c_2, ↓reduceIte]) ⟨rfl, rfl⟩ z_nil d_Mo_issue_34
    · refine lv_bipush (v := (-2)) hx hb d_Mo_issue_20 (by decide) ?_
      exact z_iret (v := oIssN kd av) (tys := none) S hr hlk (by simp only [oIssN, c_1, c_2, ↓reduceIte]) ⟨rfl, rfl⟩ z_nil d_Mo_issue_22
set_option maxHeartbeats 2000000 in
theorem c_Mo_issue_yes (l : Launch) (G : ZG) (sz : Nat) (mo a1 a2 a3 a4 a5 a6 a7 : Nat) (dy ams sp fe la : Int32) (n : Nat) (ko am lf fr pt so gn : Nat → Int32) (kd av : Int32) (hkd : ¬ inV kd 0 7 = 0) (hav : ¬ inV av 1 100000 = 0) (hln : n < 40) : ZK l G y_Mo_issue 1 [.ref mo, .int kd, .int av] (OW G sz (wm G mo a1 a2 a3 a4 a5 a6 a7 dy (nI n) ams sp fe la ko am lf fr pt so gn)) (ZA (some (.int (nI n))) (OF G sz (wm G mo a1 a2 a3 a4 a5 a6 a7 dy (nI n) ams sp fe la ko am lf fr pt so gn) (wm G mo a1 a2 a3 a4 a5 a6 a7 dy (nI (n + 1)) (ams + av) sp fe la (upd ko n kd) (upd am n av) (upd lf n av) (upd fr n dy) pt so gn))) 0 0 (va_A (wm G mo a1 a2 a3 a4 a5 a6 a7 dy (nI n) ams sp fe la ko am lf fr pt so gn) sz) := by
  refine ZK.ofBody (cc := b_Mo_issue) (maxL := 4) (ret := (some FieldType.int)) kg_471 (by decide) (by decide) (Nat.le_of_ble_eq_true rfl) ?_
  intro p e s m below meth c S hr hlk hnm hp ls hl
  obtain ⟨⟨hx, hb, hml, hown, hts⟩, hK⟩ := id S
  obtain ⟨hsz, hP, hD⟩ := hp
  subst hsz
  have hD := hD.self (sz := s.heap.size)
  have hS : va_S (va_A (wm G mo a1 a2 a3 a4 a5 a6 a7 dy (nI n) ams sp fe la ko am lf fr pt so gn) s.heap.size) s.heap s.heap [] := va_S.rf
  have hcn : (nI n).toNatClampNeg = n := nI_clamp (by omega)
  have hne := ne40 hln
  have hl : lv_has ls 4 [(0, .ref mo), (1, .int kd), (2, .int av)] := hl
  refine lv_iload_n hx hb d_Mo_issue_0 rfl (lv_at hl 1 rfl) ?_
  refine lv_iconst (v := 0) hx hb d_Mo_issue_1 (by decide) ?_
  refine lv_bipush (v := 7) hx hb d_Mo_issue_2 (by decide) ?_
  refine z_q (z_S (n := 3) (As := [.int kd, .int 0, .int 7]) (rest := []) S (c_Mo_within l G kd 0 7) kg_472 kg_473 kg_2 kg_474 ok_Mo_within pd_Mo_within trivial rfl hl.1 rfl (Nat.le_of_ble_eq_true rfl) ⟨(Nat.le_of_ble_eq_true rfl), (Nat.le_of_ble_eq_true rfl)⟩ ⟨Nat.zero_le _, Nat.zero_le _⟩ d_Mo_issue_4) ?_
  refine lv_if_eq (tgt := 20) hx hb d_Mo_issue_7 (by decide) (fun c_1 => ?_) (fun c_1 => ?_)
  · exact absurd c_1 hkd
  · refine lv_iload_n hx hb d_Mo_issue_10 rfl (lv_at hl 2 rfl) ?_
    refine lv_iconst (v := 1) hx hb d_Mo_issue_11 (by decide) ?_
    refine lv_ldc (v := 100000) hx hb hown (hts _ kg_475) d_Mo_issue_12 ?_
    refine z_q (z_S (n := 3) (As := [.int av, .int 1, .int 100000]) (rest := []) S (c_Mo_within l G av 1 100000) kg_472 kg_473 kg_2 kg_474 ok_Mo_within pd_Mo_within trivial rfl hl.1 rfl (Nat.le_of_ble_eq_true rfl) ⟨(Nat.le_of_ble_eq_true rfl), (Nat.le_of_ble_eq_true rfl)⟩ ⟨Nat.zero_le _, Nat.zero_le _⟩ d_Mo_issue_14) ?_
    refine lv_if_ne (tgt := 23) hx hb d_Mo_issue_17 (by decide) (fun c_2 => ?_) (fun c_2 => ?_)
    · refine lv_aload_n hx hb d_Mo_issue_23 rfl (lv_at hl 0 rfl) ?_
      refine z_get S zm_cls zm_in (hP 0 _ rfl) 1 (by decide) kg_427 (Or.inl rfl) rfl d_Mo_issue_24 ?_
      refine lv_bipush (v := 40) hx hb d_Mo_issue_27 (by decide) ?_
      refine lv_icmp_ne (tgt := 35) hx hb d_Mo_issue_29 (by decide) (fun c_3 => ?_) (fun c_3 => ?_)
      · refine lv_aload_n hx hb d_Mo_issue_35 rfl (lv_at hl 0 rfl) ?_
        refine z_get S zm_cls zm_in (hP 0 _ rfl) 1 (by decide) kg_427 (Or.inl rfl) rfl d_Mo_issue_36 ?_
        refine lv_istore_n (lv' := [(3, .int (nI n)), (0, .ref mo), (1, .int kd), (2, .int av)]) hx hb d_Mo_issue_39 rfl hl (by decide) rfl (fun ls hl => ?_)
        refine lv_aload_n hx hb d_Mo_issue_40 rfl (lv_at hl 1 rfl) ?_
        refine z_get S zm_cls zm_in (hP 0 _ rfl) 6 (by decide) kg_432 (Or.inl rfl) rfl d_Mo_issue_41 ?_
        refine lv_iload_n hx hb d_Mo_issue_44 rfl (lv_at hl 0 rfl) ?_
        refine lv_iload_n hx hb d_Mo_issue_45 rfl (lv_at hl 2 rfl) ?_
        refine va_iast hx hb hK.1 hP hD hS 1 0 rfl rfl (vp_in_nI hln (by decide)) d_Mo_issue_46 (fun H locs hP hD hS => ?_)
        rw [hcn] at hP hD
        have hP : va_P G.1 classes (wm G mo a1 a2 a3 a4 a5 a6 a7 dy (nI n) ams sp fe la (upd ko n kd) am lf fr pt so gn) H := hP
        have hD : va_D (va_A (wm G mo a1 a2 a3 a4 a5 a6 a7 dy (nI n) ams sp fe la ko am lf fr pt so gn) s.heap.size) (wm G mo a1 a2 a3 a4 a5 a6 a7 dy (nI n) ams sp fe la (upd ko n kd) am lf fr pt so gn) := hD
        refine lv_aload_n hx hb d_Mo_issue_47 rfl (lv_at hl 1 rfl) ?_
        refine z_get S zm_cls zm_in (hP 0 _ rfl) 7 (by decide) kg_433 (Or.inl rfl) rfl d_Mo_issue_48 ?_
        refine lv_iload_n hx hb d_Mo_issue_51 rfl (lv_at hl 0 rfl) ?_
        refine lv_iload_n hx hb d_Mo_issue_52 rfl (lv_at hl 3 rfl) ?_
        refine va_iast hx hb hK.1 hP hD hS 2 0 rfl rfl (vp_in_nI hln (by decide)) d_Mo_issue_53 (fun H locs hP hD hS => ?_)
        rw [hcn] at hP hD
        have hP : va_P G.1 classes (wm G mo a1 a2 a3 a4 a5 a6 a7 dy (nI n) ams sp fe la (upd ko n kd) (upd am n av) lf fr pt so gn) H := hP
        have hD : va_D (va_A (wm G mo a1 a2 a3 a4 a5 a6 a7 dy (nI n) ams sp fe la ko am lf fr pt so gn) s.heap.size) (wm G mo a1 a2 a3 a4 a5 a6 a7 dy (nI n) ams sp fe la (upd ko n kd) (upd am n av) lf fr pt so gn) := hD
        refine lv_aload_n hx hb d_Mo_issue_54 rfl (lv_at hl 1 rfl) ?_
        refine z_get S zm_cls zm_in (hP 0 _ rfl) 8 (by decide) kg_434 (Or.inl rfl) rfl d_Mo_issue_55 ?_
        refine lv_iload_n hx hb d_Mo_issue_58 rfl (lv_at hl 0 rfl) ?_
        refine lv_iload_n hx hb d_Mo_issue_59 rfl (lv_at hl 3 rfl) ?_
        refine va_iast hx hb hK.1 hP hD hS 3 0 rfl rfl (vp_in_nI hln (by decide)) d_Mo_issue_60 (fun H locs hP hD hS => ?_)
        rw [hcn] at hP hD
        have hP : va_P G.1 classes (wm G mo a1 a2 a3 a4 a5 a6 a7 dy (nI n) ams sp fe la (upd ko n kd) (upd am n av) (upd lf n av) fr pt so gn) H := hP
        have hD : va_D (va_A (wm G mo a1 a2 a3 a4 a5 a6 a7 dy (nI n) ams sp fe la ko am lf fr pt so gn) s.heap.size) (wm G mo a1 a2 a3 a4 a5 a6 a7 dy (nI n) ams sp fe la (upd ko n kd) (upd am n av) (upd lf n av) fr pt so gn) := hD
        refine lv_aload_n hx hb d_Mo_issue_61 rfl (lv_at hl 1 rfl) ?_
        refine z_get S zm_cls zm_in (hP 0 _ rfl) 9 (by decide) kg_435 (Or.inl rfl) rfl d_Mo_issue_62 ?_
        refine lv_iload_n hx hb d_Mo_issue_65 rfl (lv_at hl 0 rfl) ?_
        refine lv_aload_n hx hb d_Mo_issue_66 rfl (lv_at hl 1 rfl) ?_
        refine z_get S zm_cls zm_in (hP 0 _ rfl) 0 (by decide) kg_426 (Or.inl rfl) rfl d_Mo_issue_67 ?_
        refine va_iast hx hb hK.1 hP hD hS 4 0 rfl rfl (vp_in_nI hln (by decide)) d_Mo_issue_70 (fun H locs hP hD hS => ?_)
        rw [hcn] at hP hD
        have hP : va_P G.1 classes (wm G mo a1 a2 a3 a4 a5 a6 a7 dy (nI n) ams sp fe la (upd ko n kd) (upd am n av) (upd lf n av) (upd fr n dy) pt so gn) H := hP
        have hD : va_D (va_A (wm G mo a1 a2 a3 a4 a5 a6 a7 dy (nI n) ams sp fe la ko am lf fr pt so gn) s.heap.size) (wm G mo a1 a2 a3 a4 a5 a6 a7 dy (nI n) ams sp fe la (upd ko n kd) (upd am n av) (upd lf n av) (upd fr n dy) pt so gn) := hD
        refine lv_aload_n hx hb d_Mo_issue_71 rfl (lv_at hl 1 rfl) ?_
        refine lv_dup hx hb d_Mo_issue_72 rfl ?_
        refine z_get S zm_cls zm_in (hP 0 _ rfl) 1 (by decide) kg_427 (Or.inl rfl) rfl d_Mo_issue_73 ?_
        refine lv_iconst (v := 1) hx hb d_Mo_issue_76 (by decide) ?_
        refine lv_iadd hx hb d_Mo_issue_77 ?_
        refine z_put (x := (nI n) + 1) S zm_cls zm_in zm_ty zm_nm hP hD hS 0 rfl 1 (by decide) kg_427 (Or.inl rfl) rfl pI (Nat.le_of_ble_eq_true rfl) d_Mo_issue_78 (fun H locs hP hD hS => ?_)
        have hP : va_P G.1 classes (wm G mo a1 a2 a3 a4 a5 a6 a7 dy ((nI n) + 1) ams sp fe la (upd ko n kd) (upd am n av) (upd lf n av) (upd fr n dy) pt so gn) H := hP
        have hD : va_D (va_A (wm G mo a1 a2 a3 a4 a5 a6 a7 dy (nI n) ams sp fe la ko am lf fr pt so gn) s.heap.size) (wm G mo a1 a2 a3 a4 a5 a6 a7 dy ((nI n) + 1) ams sp fe la (upd ko n kd) (upd am n av) (upd lf n av) (upd fr n dy) pt so gn) := hD
        refine lv_aload_n hx hb d_Mo_issue_81 rfl (lv_at hl 1 rfl) ?_
        refine lv_dup hx hb d_Mo_issue_82 rfl ?_
        refine z_get S zm_cls zm_in (hP 0 _ rfl) 2 (by decide) kg_428 (Or.inl rfl) rfl d_Mo_issue_83 ?_
        refine lv_iload_n hx hb d_Mo_issue_86 rfl (lv_at hl 3 rfl) ?_
        refine lv_iadd hx hb d_Mo_issue_87 ?_
        refine z_put (x := ams + av) S zm_cls zm_in zm_ty zm_nm hP hD hS 0 rfl 2 (by decide) kg_428 (Or.inl rfl) rfl pI (Nat.le_of_ble_eq_true rfl) d_Mo_issue_88 (fun H locs hP hD hS => ?_)
        have hP : va_P G.1 classes (wm G mo a1 a2 a3 a4 a5 a6 a7 dy ((nI n) + 1) (ams + av) sp fe la (upd ko n kd) (upd am n av) (upd lf n av) (upd fr n dy) pt so gn) H := hP
        have hD : va_D (va_A (wm G mo a1 a2 a3 a4 a5 a6 a7 dy (nI n) ams sp fe la ko am lf fr pt so gn) s.heap.size) (wm G mo a1 a2 a3 a4 a5 a6 a7 dy ((nI n) + 1) (ams + av) sp fe la (upd ko n kd) (upd am n av) (upd lf n av) (upd fr n dy) pt so gn) := hD
        refine lv_iload_n hx hb d_Mo_issue_91 rfl (lv_at hl 0 rfl) ?_
        exact z_iret (v := nI n) (tys := none) S hr hlk rfl (OF.mk hP hD hS rfl (by rw [nI_1])) hS.2.2 d_Mo_issue_92
      · exact absurd c_3 hne
    · exact absurd c_2 hav
def mSpB2 {α : Type} (dy k fr lf pt g : Int32) (short ok : α) : α := if mVal k fr lf pt dy < g then short else if g + mFee k pt g ≤ lf then ok else short
def mSpB {α : Type} (dy k fr lf pt so g : Int32) (again short ok : α) : α := if k = 3 then (if so = dy + 1 then again else mSpB2 dy k fr lf pt g short ok) else mSpB2 dy k fr lf pt g short ok
def mSpR (n : Nat) (ko am lf fr pt so gn : Nat → Int32) (dy v g : Int32) : Int32 := match lkI n (gB gn) v with | none => -1 | some i => if inV g 1 100000 = 0 then -2 else mSpB dy (ko i) (fr i) (lf i) (pt i) (so i) g (-6) (-5) (lf i - (g + mFee (ko i) (pt i) g))
def mSpL (n : Nat) (ko am lf fr pt so gn : Nat → Int32) (dy v g : Int32) : Nat → Int32 := match lkI n (gB gn) v with | none => lf | some i => if inV g 1 100000 = 0 then lf else mSpB dy (ko i) (fr i) (lf i) (pt i) (so i) g lf lf (upd lf i (lf i - (g + mFee (ko i) (pt i) g)))
def mSpO (n : Nat) (ko am lf fr pt so gn : Nat → Int32) (dy v g : Int32) : Nat → Int32 := match lkI n (gB gn) v with | none => so | some i => if inV g 1 100000 = 0 then so else mSpB dy (ko i) (fr i) (lf i) (pt i) (so i) g so so (upd so i (dy + 1))
def mSpS (n : Nat) (ko am lf fr pt so gn : Nat → Int32) (dy v g sp : Int32) : Int32 := match lkI n (gB gn) v with | none => sp | some i => if inV g 1 100000 = 0 then sp else mSpB dy (ko i) (fr i) (lf i) (pt i) (so i) g sp sp (sp + g)
def mSpF (n : Nat) (ko am lf fr pt so gn : Nat → Int32) (dy v g fe : Int32) : Int32 := match lkI n (gB gn) v with | none => fe | some i => if inV g 1 100000 = 0 then fe else mSpB dy (ko i) (fr i) (lf i) (pt i) (so i) g fe fe (fe + mFee (ko i) (pt i) g)
def mSpT (n : Nat) (ko am lf fr pt so gn : Nat → Int32) (dy v g : Int32) : Nat → Int32 := match lkI n (gB gn) v with | none => pt | some i => if inV g 1 100000 = 0 then pt else mSpB dy (ko i) (fr i) (lf i) (pt i) (so i) g pt pt (if mPts (ko i) = 0 then pt else upd pt i (pt i + g / 100))
set_option maxHeartbeats 2000000 in
theorem c_Mo_spend (l : Launch) (G : ZG) (sz : Nat) (mo a1 a2 a3 a4 a5 a6 a7 : Nat) (dy ams sp fe la : Int32) (n : Nat) (ko am lf fr pt so gn : Nat → Int32) (v g : Int32) (hn40 : n ≤ 40) : ZK l G y_Mo_spend 2 [.ref mo, .int v, .int g] (OW G sz (wm G mo a1 a2 a3 a4 a5 a6 a7 dy (nI n) ams sp fe la ko am lf fr pt so gn)) (ZA (some (.int (mSpR n ko am lf fr pt so gn dy v g))) (OF G sz (wm G mo a1 a2 a3 a4 a5 a6 a7 dy (nI n) ams sp fe la ko am lf fr pt so gn) (wm G mo a1 a2 a3 a4 a5 a6 a7 dy (nI n) ams (mSpS n ko am lf fr pt so gn dy v g sp) (mSpF n ko am lf fr pt so gn dy v g fe) la ko am (mSpL n ko am lf fr pt so gn dy v g) fr (mSpT n ko am lf fr pt so gn dy v g) (mSpO n ko am lf fr pt so gn dy v g) gn))) 0 0 (va_A (wm G mo a1 a2 a3 a4 a5 a6 a7 dy (nI n) ams sp fe la ko am lf fr pt so gn) sz) := by
  refine ZK.ofBody (cc := b_Mo_spend) (maxL := 4) (ret := (some FieldType.int)) kg_515 (by decide) (by decide) (Nat.le_of_ble_eq_true rfl) ?_
  intro p e s m below meth c S hr hlk hnm hp ls hl
  obtain ⟨⟨hx, hb, hml, hown, hts⟩, hK⟩ := id S
  obtain ⟨hsz, hP, hD⟩ := hp
  subst hsz
  have hD := hD.self (sz := s.heap.size)
  have hS : va_S (va_A (wm G mo a1 a2 a3 a4 a5 a6 a7 dy (nI n) ams sp fe la ko am lf fr pt so gn) s.heap.size) s.heap s.heap [] := va_S.rf
  have hl : lv_has ls 4 [(0, .ref mo), (1, .int v), (2, .int g)] := hl
  rcases lk_cases hn40 (gB gn) v with hvk | ⟨i, hi, hvi, hgi, hvk⟩
  · refine lv_aload_n hx hb d_Mo_spend_0 rfl (lv_at hl 0 rfl) ?_
    refine lv_iload_n hx hb d_Mo_spend_1 rfl (lv_at hl 1 rfl) ?_
    refine z_q (z_D (n := 1) (C := "VoucherOfficeModel") (As := [.int v]) (rest := []) S (c_Mo_isThere_no l G _ mo a1 a2 a3 a4 a5 a6 a7 dy ams sp fe la n ko am lf fr pt so gn v hn40 hvk) kg_484 kg_486 kp_Mo_isThere kg_487 ok_Mo_isThere pd_Mo_isThere (zrec hK (hP 0 _ rfl) zm_cls) ⟨rfl, hP, hD.weaken (fun _ _ _ _ => trivial)⟩ rfl hl.1 rfl (Nat.le_of_ble_eq_true rfl) ⟨(Nat.le_of_ble_eq_true rfl), (Nat.le_of_ble_eq_true rfl)⟩ ⟨Nat.zero_le _, Nat.zero_le _⟩ d_Mo_spend_2) ?_
    refine lv_if_ne (tgt := 10) hx hb d_Mo_spend_5 (by decide) (fun c_1 => ?_) (fun c_1 => ?_)
    · exact absurd rfl c_1
    · refine lv_iconst (v := (-1)) hx hb d_Mo_spend_8 (by decide) ?_
      exact z_iret (v := (-1)) (tys := none) S hr hlk rfl (OF.mk hP hD hS (by first | rfl | simp only [mSpR, mSpL, mSpO, mSpS, mSpF, mSpT, mSpB, mSpB2, hvk, ↓reduceIte]) (by first | rfl | simp only [mSpR, mSpL, mSpO, mSpS, mSpF, mSpT, mSpB, mSpB2, hvk, ↓reduceIte])) hS.2.2 d_Mo_spend_9
  · subst hvi
    have hci : (nI i).toNatClampNeg = i := nI_clamp (by omega)
    have hli : i < 40 := by omega
    refine lv_aload_n hx hb d_Mo_spend_0 rfl (lv_at hl 0 rfl) ?_
    refine lv_iload_n hx hb d_Mo_spend_1 rfl (lv_at hl 1 rfl) ?_
    refine z_q (z_D (n := 1) (C := "VoucherOfficeModel") (As := [.int (nI i)]) (rest := []) S (c_Mo_isThere_yes l G _ mo a1 a2 a3 a4 a5 a6 a7 dy ams sp fe la n ko am lf fr pt so gn (nI i) hn40 hvk) kg_484 kg_486 kp_Mo_isThere kg_487 ok_Mo_isThere pd_Mo_isThere (zrec hK (hP 0 _ rfl) zm_cls) ⟨rfl, hP, hD.weaken (fun _ _ _ _ => trivial)⟩ rfl hl.1 rfl (Nat.le_of_ble_eq_true rfl) ⟨(Nat.le_of_ble_eq_true rfl), (Nat.le_of_ble_eq_true rfl)⟩ ⟨Nat.zero_le _, Nat.zero_le _⟩ d_Mo_spend_2) ?_
    refine lv_if_ne (tgt := 10) hx hb d_Mo_spend_5 (by decide) (fun c_2 => ?_) (fun c_2 => ?_)
    · refine lv_iload_n hx hb d_Mo_spend_10 rfl (lv_at hl 2 rfl) ?_
      refine lv_iconst (v := 1) hx hb d_Mo_spend_11 (by decide) ?_
      refine lv_ldc (v := 100000) hx hb hown (hts _ kg_475) d_Mo_spend_12 ?_
      refine z_q (z_S (n := 3) (As := [.int g, .int 1, .int 100000]) (rest := []) S (c_Mo_within l G g 1 100000) kg_472 kg_473 kg_2 kg_474 ok_Mo_within pd_Mo_within trivial rfl hl.1 rfl (Nat.le_of_ble_eq_true rfl) ⟨(Nat.le_of_ble_eq_true rfl), (Nat.le_of_ble_eq_true rfl)⟩ ⟨Nat.zero_le _, Nat.zero_le _⟩ d_Mo_spend_14) ?_
      refine lv_if_ne (tgt := 23) hx hb d_Mo_spend_17 (by decide) (fun c_3 => ?_) (fun c_3 => ?_)
      · refine lv_aload_n hx hb d_Mo_spend_23 rfl (lv_at hl 0 rfl) ?_
        refine z_get S zm_cls zm_in (hP 0 _ rfl) 6 (by decide) kg_432 (Or.inl rfl) rfl d_Mo_spend_24 ?_
        refine lv_iload_n hx hb d_Mo_spend_27 rfl (lv_at hl 1 rfl) ?_
        refine va_iald hx hb hK.1 hP 1 0 rfl rfl (vp_in_nI hli (by decide)) d_Mo_spend_28 ?_
        rw [hci]
        refine lv_iconst (v := 3) hx hb d_Mo_spend_29 (by decide) ?_
        refine lv_icmp_ne (tgt := 51) hx hb d_Mo_spend_30 (by decide) (fun c_4 => ?_) (fun c_4 => ?_)
        · refine lv_aload_n hx hb d_Mo_spend_51 rfl (lv_at hl 0 rfl) ?_
          refine lv_iload_n hx hb d_Mo_spend_52 rfl (lv_at hl 1 rfl) ?_
          refine lv_iload_n hx hb d_Mo_spend_53 rfl (lv_at hl 2 rfl) ?_
          refine z_q (z_D (n := 2) (C := "VoucherOfficeModel") (As := [.int (nI i), .int g]) (rest := []) S (c_Mo_feeOf l G _ mo a1 a2 a3 a4 a5 a6 a7 dy ams sp fe la n ko am lf fr pt so gn i g hli) kg_508 kg_510 kp_Mo_feeOf kg_511 ok_Mo_feeOf pd_Mo_feeOf (zrec hK (hP 0 _ rfl) zm_cls) ⟨rfl, hP, hD.weaken (fun _ _ _ _ => trivial)⟩ rfl hl.1 rfl (Nat.le_of_ble_eq_true rfl) ⟨(Nat.le_of_ble_eq_true rfl), (Nat.le_of_ble_eq_true rfl)⟩ ⟨Nat.zero_le _, Nat.zero_le _⟩ d_Mo_spend_54) ?_
          refine lv_istore_n (lv' := [(3, .int (mFee (ko i) (pt i) g)), (0, .ref mo), (1, .int (nI i)), (2, .int g)]) hx hb d_Mo_spend_57 rfl hl (by decide) rfl (fun ls hl => ?_)
          refine lv_iload_n hx hb d_Mo_spend_58 rfl (lv_at hl 3 rfl) ?_
          refine lv_aload_n hx hb d_Mo_spend_59 rfl (lv_at hl 1 rfl) ?_
          refine lv_iload_n hx hb d_Mo_spend_60 rfl (lv_at hl 2 rfl) ?_
          refine lv_aload_n hx hb d_Mo_spend_61 rfl (lv_at hl 1 rfl) ?_
          refine z_get S zm_cls zm_in (hP 0 _ rfl) 0 (by decide) kg_426 (Or.inl rfl) rfl d_Mo_spend_62 ?_
          refine z_q (z_D (n := 2) (C := "VoucherOfficeModel") (As := [.int (nI i), .int dy]) (rest := [.int g]) S (c_Mo_valueOf l G _ mo a1 a2 a3 a4 a5 a6 a7 dy ams sp fe la n ko am lf fr pt so gn i dy hli) kg_488 kg_490 kp_Mo_valueOf kg_491 ok_Mo_valueOf pd_Mo_valueOf (zrec hK (hP 0 _ rfl) zm_cls) ⟨rfl, hP, hD.weaken (fun _ _ _ _ => trivial)⟩ rfl hl.1 rfl (Nat.le_of_ble_eq_true rfl) ⟨(Nat.le_of_ble_eq_true rfl), (Nat.le_of_ble_eq_true rfl)⟩ ⟨Nat.zero_le _, Nat.zero_le _⟩ d_Mo_spend_65) ?_
          refine lv_icmp_gt (tgt := 83) hx hb d_Mo_spend_68 (by decide) (fun c_5 => ?_) (fun c_5 => ?_)
          · refine lv_bipush (v := (-5)) hx hb d_Mo_spend_83 (by decide) ?_
            exact z_iret (v := (-5)) (tys := none) S hr hlk rfl (OF.mk hP hD hS (by first | rfl | simp only [mSpR, mSpL, mSpO, mSpS, mSpF, mSpT, mSpB, mSpB2, hvk, c_3, c_4, eq_true c_5, ↓reduceIte]) (by first | rfl | simp only [mSpR, mSpL, mSpO, mSpS, mSpF, mSpT, mSpB, mSpB2, hvk, c_3, c_4, eq_true c_5, ↓reduceIte])) hS.2.2 d_Mo_spend_85
          · refine lv_iload_n hx hb d_Mo_spend_71 rfl (lv_at hl 3 rfl) ?_
            refine lv_iload_n hx hb d_Mo_spend_72 rfl (lv_at hl 0 rfl) ?_
            refine lv_iadd hx hb d_Mo_spend_73 ?_
            refine lv_aload_n hx hb d_Mo_spend_74 rfl (lv_at hl 1 rfl) ?_
            refine z_get S zm_cls zm_in (hP 0 _ rfl) 8 (by decide) kg_434 (Or.inl rfl) rfl d_Mo_spend_75 ?_
            refine lv_iload_n hx hb d_Mo_spend_78 rfl (lv_at hl 2 rfl) ?_
            refine va_iald hx hb hK.1 hP 3 0 rfl rfl (vp_in_nI hli (by decide)) d_Mo_spend_79 ?_
            rw [hci]
            refine lv_icmp_le (tgt := 86) hx hb d_Mo_spend_80 (by decide) (fun c_6 => ?_) (fun c_6 => ?_)
            · refine lv_aload_n hx hb d_Mo_spend_86 rfl (lv_at hl 1 rfl) ?_
              refine z_get S zm_cls zm_in (hP 0 _ rfl) 8 (by decide) kg_434 (Or.inl rfl) rfl d_Mo_spend_87 ?_
              refine lv_iload_n hx hb d_Mo_spend_90 rfl (lv_at hl 2 rfl) ?_
              refine lv_dup2_11 hx hb d_Mo_spend_91 rfl rfl ?_
              refine va_iald hx hb hK.1 hP 3 0 rfl rfl (vp_in_nI hli (by decide)) d_Mo_spend_92 ?_
              rw [hci]
              refine lv_iload_n hx hb d_Mo_spend_93 rfl (lv_at hl 3 rfl) ?_
              refine lv_iload_n hx hb d_Mo_spend_94 rfl (lv_at hl 0 rfl) ?_
              refine lv_iadd hx hb d_Mo_spend_95 ?_
              refine lv_isub hx hb d_Mo_spend_96 ?_
              refine va_iast hx hb hK.1 hP hD hS 3 0 rfl rfl (vp_in_nI hli (by decide)) d_Mo_spend_97 (fun H locs hP hD hS => ?_)
              rw [hci] at hP hD
              have hP : va_P G.1 classes (wm G mo a1 a2 a3 a4 a5 a6 a7 dy (nI n) ams sp fe la ko am (upd lf i ((lf i) - (g + (mFee (ko i) (pt i) g)))) fr pt so gn) H := hP
              have hD : va_D (va_A (wm G mo a1 a2 a3 a4 a5 a6 a7 dy (nI n) ams sp fe la ko am lf fr pt so gn) s.heap.size) (wm G mo a1 a2 a3 a4 a5 a6 a7 dy (nI n) ams sp fe la ko am (upd lf i ((lf i) - (g + (mFee (ko i) (pt i) g)))) fr pt so gn) := hD
              refine lv_aload_n hx hb d_Mo_spend_98 rfl (lv_at hl 1 rfl) ?_
              refine z_get S zm_cls zm_in (hP 0 _ rfl) 11 (by decide) kg_437 (Or.inl rfl) rfl d_Mo_spend_99 ?_
              refine lv_iload_n hx hb d_Mo_spend_102 rfl (lv_at hl 2 rfl) ?_
              refine lv_aload_n hx hb d_Mo_spend_103 rfl (lv_at hl 1 rfl) ?_
              refine z_get S zm_cls zm_in (hP 0 _ rfl) 0 (by decide) kg_426 (Or.inl rfl) rfl d_Mo_spend_104 ?_
              refine lv_iconst (v := 1) hx hb d_Mo_spend_107 (by decide) ?_
              refine lv_iadd hx hb d_Mo_spend_108 ?_
              refine va_iast hx hb hK.1 hP hD hS 6 0 rfl rfl (vp_in_nI hli (by decide)) d_Mo_spend_109 (fun H locs hP hD hS => ?_)
              rw [hci] at hP hD
              have hP : va_P G.1 classes (wm G mo a1 a2 a3 a4 a5 a6 a7 dy (nI n) ams sp fe la ko am (upd lf i ((lf i) - (g + (mFee (ko i) (pt i) g)))) fr pt (upd so i (dy + 1)) gn) H := hP
              have hD : va_D (va_A (wm G mo a1 a2 a3 a4 a5 a6 a7 dy (nI n) ams sp fe la ko am lf fr pt so gn) s.heap.size) (wm G mo a1 a2 a3 a4 a5 a6 a7 dy (nI n) ams sp fe la ko am (upd lf i ((lf i) - (g + (mFee (ko i) (pt i) g)))) fr pt (upd so i (dy + 1)) gn) := hD
              refine lv_aload_n hx hb d_Mo_spend_110 rfl (lv_at hl 1 rfl) ?_
              refine lv_dup hx hb d_Mo_spend_111 rfl ?_
              refine z_get S zm_cls zm_in (hP 0 _ rfl) 3 (by decide) kg_429 (Or.inl rfl) rfl d_Mo_spend_112 ?_
              refine lv_iload_n hx hb d_Mo_spend_115 rfl (lv_at hl 3 rfl) ?_
              refine lv_iadd hx hb d_Mo_spend_116 ?_
              refine z_put (x := sp + g) S zm_cls zm_in zm_ty zm_nm hP hD hS 0 rfl 3 (by decide) kg_429 (Or.inl rfl) rfl pI (Nat.le_of_ble_eq_true rfl) d_Mo_spend_117 (fun H locs hP hD hS => ?_)
              have hP : va_P G.1 classes (wm G mo a1 a2 a3 a4 a5 a6 a7 dy (nI n) ams (sp + g) fe la ko am (upd lf i ((lf i) - (g + (mFee (ko i) (pt i) g)))) fr pt (upd so i (dy + 1)) gn) H := hP
              have hD : va_D (va_A (wm G mo a1 a2 a3 a4 a5 a6 a7 dy (nI n) ams sp fe la ko am lf fr pt so gn) s.heap.size) (wm G mo a1 a2 a3 a4 a5 a6 a7 dy (nI n) ams (sp + g) fe la ko am (upd lf i ((lf i) - (g + (mFee (ko i) (pt i) g)))) fr pt (upd so i (dy + 1)) gn) := hD
              refine lv_aload_n hx hb d_Mo_spend_120 rfl (lv_at hl 1 rfl) ?_
              refine lv_dup hx hb d_Mo_spend_121 rfl ?_
              refine z_get S zm_cls zm_in (hP 0 _ rfl) 4 (by decide) kg_430 (Or.inl rfl) rfl d_Mo_spend_122 ?_
              refine lv_iload_n hx hb d_Mo_spend_125 rfl (lv_at hl 0 rfl) ?_
              refine lv_iadd hx hb d_Mo_spend_126 ?_
              refine z_put (x := fe + (mFee (ko i) (pt i) g)) S zm_cls zm_in zm_ty zm_nm hP hD hS 0 rfl 4 (by decide) kg_430 (Or.inl rfl) rfl pI (Nat.le_of_ble_eq_true rfl) d_Mo_spend_127 (fun H locs hP hD hS => ?_)
              have hP : va_P G.1 classes (wm G mo a1 a2 a3 a4 a5 a6 a7 dy (nI n) ams (sp + g) (fe + (mFee (ko i) (pt i) g)) la ko am (upd lf i ((lf i) - (g + (mFee (ko i) (pt i) g)))) fr pt (upd so i (dy + 1)) gn) H := hP
              have hD : va_D (va_A (wm G mo a1 a2 a3 a4 a5 a6 a7 dy (nI n) ams sp fe la ko am lf fr pt so gn) s.heap.size) (wm G mo a1 a2 a3 a4 a5 a6 a7 dy (nI n) ams (sp + g) (fe + (mFee (ko i) (pt i) g)) la ko am (upd lf i ((lf i) - (g + (mFee (ko i) (pt i) g)))) fr pt (upd so i (dy + 1)) gn) := hD
              refine lv_aload_n hx hb d_Mo_spend_130 rfl (lv_at hl 1 rfl) ?_
              refine lv_iload_n hx hb d_Mo_spend_131 rfl (lv_at hl 2 rfl) ?_
              refine z_q (z_D (n := 1) (C := "VoucherOfficeModel") (As := [.int (nI i)]) (rest := []) S (c_Mo_hasPoints l G _ mo a1 a2 a3 a4 a5 a6 a7 dy ams (sp + g) (fe + (mFee (ko i) (pt i) g)) la n ko am (upd lf i ((lf i) - (g + (mFee (ko i) (pt i) g)))) fr pt (upd so i (dy + 1)) gn i hli) kg_500 kg_502 kp_Mo_hasPoints kg_503 ok_Mo_hasPoints pd_Mo_hasPoints (zrec hK (hP 0 _ rfl) zm_cls) ⟨rfl, hP, hD.weaken (fun _ _ _ _ => trivial)⟩ rfl hl.1 rfl (Nat.le_of_ble_eq_true rfl) ⟨(Nat.le_of_ble_eq_true rfl), (Nat.le_of_ble_eq_true rfl)⟩ ⟨Nat.zero_le _, Nat.zero_le _⟩ d_Mo_spend_132) ?_
              refine lv_if_eq (tgt := 151) hx hb d_Mo_spend_135 (by decide) (fun c_7 => ?_) (fun c_7 => ?_)
              · refine lv_aload_n hx hb d_Mo_spend_151 rfl (lv_at hl 1 rfl) ?_
                refine z_get S zm_cls zm_in (hP 0 _ rfl) 8 (by decide) kg_434 (Or.inl rfl) rfl d_Mo_spend_152 ?_
                refine lv_iload_n hx hb d_Mo_spend_155 rfl (lv_at hl 2 rfl) ?_
                refine va_iald hx hb hK.1 hP 3 0 rfl rfl (vp_in_nI hli (by decide)) d_Mo_spend_156 ?_
                rw [hci, pk_us]
                exact z_iret (v := (lf i) - (g + (mFee (ko i) (pt i) g))) (tys := none) S hr hlk rfl (OF.mk hP hD hS (by first | rfl | simp only [mSpR, mSpL, mSpO, mSpS, mSpF, mSpT, mSpB, mSpB2, hvk, c_3, c_4, c_5, eq_true c_6, eq_true c_7, ↓reduceIte]) (by first | rfl | simp only [mSpR, mSpL, mSpO, mSpS, mSpF, mSpT, mSpB, mSpB2, hvk, c_3, c_4, c_5, eq_true c_6, eq_true c_7, ↓reduceIte])) hS.2.2 d_Mo_spend_157
              · refine lv_aload_n hx hb d_Mo_spend_138 rfl (lv_at hl 1 rfl) ?_
                refine z_get S zm_cls zm_in (hP 0 _ rfl) 10 (by decide) kg_436 (Or.inl rfl) rfl d_Mo_spend_139 ?_
                refine lv_iload_n hx hb d_Mo_spend_142 rfl (lv_at hl 2 rfl) ?_
                refine lv_dup2_11 hx hb d_Mo_spend_143 rfl rfl ?_
                refine va_iald hx hb hK.1 hP 5 0 rfl rfl (vp_in_nI hli (by decide)) d_Mo_spend_144 ?_
                rw [hci]
                refine lv_iload_n hx hb d_Mo_spend_145 rfl (lv_at hl 3 rfl) ?_
                refine lv_bipush (v := 100) hx hb d_Mo_spend_146 (by decide) ?_
                refine lv_idiv hx hb d_Mo_spend_148 (by decide) ?_
                refine lv_iadd hx hb d_Mo_spend_149 ?_
                refine va_iast hx hb hK.1 hP hD hS 5 0 rfl rfl (vp_in_nI hli (by decide)) d_Mo_spend_150 (fun H locs hP hD hS => ?_)
                rw [hci] at hP hD
                have hP : va_P G.1 classes (wm G mo a1 a2 a3 a4 a5 a6 a7 dy (nI n) ams (sp + g) (fe + (mFee (ko i) (pt i) g)) la ko am (upd lf i ((lf i) - (g + (mFee (ko i) (pt i) g)))) fr (upd pt i ((pt i) + (g / 100))) (upd so i (dy + 1)) gn) H := hP
                have hD : va_D (va_A (wm G mo a1 a2 a3 a4 a5 a6 a7 dy (nI n) ams sp fe la ko am lf fr pt so gn) s.heap.size) (wm G mo a1 a2 a3 a4 a5 a6 a7 dy (nI n) ams (sp + g) (fe + (mFee (ko i) (pt i) g)) la ko am (upd lf i ((lf i) - (g + (mFee (ko i) (pt i) g)))) fr (upd pt i ((pt i) + (g / 100))) (upd so i (dy + 1)) gn) := hD
                refine lv_aload_n hx hb d_Mo_spend_151 rfl (lv_at hl 1 rfl) ?_
                refine z_get S zm_cls zm_in (hP 0 _ rfl) 8 (by decide) kg_434 (Or.inl rfl) rfl d_Mo_spend_152 ?_
                refine lv_iload_n hx hb d_Mo_spend_155 rfl (lv_at hl 2 rfl) ?_
                refine va_iald hx hb hK.1 hP 3 0 rfl rfl (vp_in_nI hli (by decide)) d_Mo_spend_156 ?_
                rw [hci, pk_us]
                exact z_iret (v := (lf i) - (g + (mFee (ko i) (pt i) g))) (tys := none) S hr hlk rfl (OF.mk hP hD hS (by first | rfl | simp only [mSpR, mSpL, mSpO, mSpS, mSpF, mSpT, mSpB, mSpB2, hvk, c_3, c_4, c_5, eq_true c_6, c_7, ↓reduceIte]) (by first | rfl | simp only [mSpR, mSpL, mSpO, mSpS, mSpF, mSpT, mSpB, mSpB2, hvk, c_3, c_4, c_5, eq_true c_6, c_7, ↓reduceIte])) hS.2.2 d_Mo_spend_157
            · refine lv_bipush (v := (-5)) hx hb d_Mo_spend_83 (by decide) ?_
              exact z_iret (v := (-5)) (tys := none) S hr hlk rfl (OF.mk hP hD hS (by first | rfl | simp only [mSpR, mSpL, mSpO, mSpS, mSpF, mSpT, mSpB, mSpB2, hvk, c_3, c_4, c_5, c_6, ↓reduceIte]) (by first | rfl | simp only [mSpR, mSpL, mSpO, mSpS, mSpF, mSpT, mSpB, mSpB2, hvk, c_3, c_4, c_5, c_6, ↓reduceIte])) hS.2.2 d_Mo_spend_85
        · refine lv_aload_n hx hb d_Mo_spend_33 rfl (lv_at hl 0 rfl) ?_
          refine z_get S zm_cls zm_in (hP 0 _ rfl) 11 (by decide) kg_437 (Or.inl rfl) rfl d_Mo_spend_34 ?_
          refine lv_iload_n hx hb d_Mo_spend_37 rfl (lv_at hl 1 rfl) ?_
          refine va_iald hx hb hK.1 hP 6 0 rfl rfl (vp_in_nI hli (by decide)) d_Mo_spend_38 ?_
          rw [hci]
          refine lv_aload_n hx hb d_Mo_spend_39 rfl (lv_at hl 0 rfl) ?_
          refine z_get S zm_cls zm_in (hP 0 _ rfl) 0 (by decide) kg_426 (Or.inl rfl) rfl d_Mo_spend_40 ?_
          refine lv_iconst (v := 1) hx hb d_Mo_spend_43 (by decide) ?_
          refine lv_iadd hx hb d_Mo_spend_44 ?_
          refine lv_icmp_ne (tgt := 51) hx hb d_Mo_spend_45 (by decide) (fun c_8 => ?_) (fun c_8 => ?_)
          · refine lv_aload_n hx hb d_Mo_spend_51 rfl (lv_at hl 0 rfl) ?_
            refine lv_iload_n hx hb d_Mo_spend_52 rfl (lv_at hl 1 rfl) ?_
            refine lv_iload_n hx hb d_Mo_spend_53 rfl (lv_at hl 2 rfl) ?_
            refine z_q (z_D (n := 2) (C := "VoucherOfficeModel") (As := [.int (nI i), .int g]) (rest := []) S (c_Mo_feeOf l G _ mo a1 a2 a3 a4 a5 a6 a7 dy ams sp fe la n ko am lf fr pt so gn i g hli) kg_508 kg_510 kp_Mo_feeOf kg_511 ok_Mo_feeOf pd_Mo_feeOf (zrec hK (hP 0 _ rfl) zm_cls) ⟨rfl, hP, hD.weaken (fun _ _ _ _ => trivial)⟩ rfl hl.1 rfl (Nat.le_of_ble_eq_true rfl) ⟨(Nat.le_of_ble_eq_true rfl), (Nat.le_of_ble_eq_true rfl)⟩ ⟨Nat.zero_le _, Nat.zero_le _⟩ d_Mo_spend_54) ?_
            refine lv_istore_n (lv' := [(3, .int (mFee (ko i) (pt i) g)), (0, .ref mo), (1, .int (nI i)), (2, .int g)]) hx hb d_Mo_spend_57 rfl hl (by decide) rfl (fun ls hl => ?_)
            refine lv_iload_n hx hb d_Mo_spend_58 rfl (lv_at hl 3 rfl) ?_
            refine lv_aload_n hx hb d_Mo_spend_59 rfl (lv_at hl 1 rfl) ?_
            refine lv_iload_n hx hb d_Mo_spend_60 rfl (lv_at hl 2 rfl) ?_
            refine lv_aload_n hx hb d_Mo_spend_61 rfl (lv_at hl 1 rfl) ?_
            refine z_get S zm_cls zm_in (hP 0 _ rfl) 0 (by decide) kg_426 (Or.inl rfl) rfl d_Mo_spend_62 ?_
            refine z_q (z_D (n := 2) (C := "VoucherOfficeModel") (As := [.int (nI i), .int dy]) (rest := [.int g]) S (c_Mo_valueOf l G _ mo a1 a2 a3 a4 a5 a6 a7 dy ams sp fe la n ko am lf fr pt so gn i dy hli) kg_488 kg_490 kp_Mo_valueOf kg_491 ok_Mo_valueOf pd_Mo_valueOf (zrec hK (hP 0 _ rfl) zm_cls) ⟨rfl, hP, hD.weaken (fun _ _ _ _ => trivial)⟩ rfl hl.1 rfl (Nat.le_of_ble_eq_true rfl) ⟨(Nat.le_of_ble_eq_true rfl), (Nat.le_of_ble_eq_true rfl)⟩ ⟨Nat.zero_le _, Nat.zero_le _⟩ d_Mo_spend_65) ?_
            refine lv_icmp_gt (tgt := 83) hx hb d_Mo_spend_68 (by decide) (fun c_9 => ?_) (fun c_9 => ?_)
            · refine lv_bipush (v := (-5)) hx hb d_Mo_spend_83 (by decide) ?_
              exact z_iret (v := (-5)) (tys := none) S hr hlk rfl (OF.mk hP hD hS (by first | rfl | simp only [mSpR, mSpL, mSpO, mSpS, mSpF, mSpT, mSpB, mSpB2, hvk, c_3, eq_true c_4, c_8, eq_true c_9, ↓reduceIte]) (by first | rfl | simp only [mSpR, mSpL, mSpO, mSpS, mSpF, mSpT, mSpB, mSpB2, hvk, c_3, eq_true c_4, c_8, eq_true c_9, ↓reduceIte])) hS.2.2 d_Mo_spend_85
            · refine lv_iload_n hx hb d_Mo_spend_71 rfl (lv_at hl 3 rfl) ?_
              refine lv_iload_n hx hb d_Mo_spend_72 rfl (lv_at hl 0 rfl) ?_
              refine lv_iadd hx hb d_Mo_spend_73 ?_
              refine lv_aload_n hx hb d_Mo_spend_74 rfl (lv_at hl 1 rfl) ?_
              refine z_get S zm_cls zm_in (hP 0 _ rfl) 8 (by decide) kg_434 (Or.inl rfl) rfl d_Mo_spend_75 ?_
              refine lv_iload_n hx hb d_Mo_spend_78 rfl (lv_at hl 2 rfl) ?_
              refine va_iald hx hb hK.1 hP 3 0 rfl rfl (vp_in_nI hli (by decide)) d_Mo_spend_79 ?_
              rw [hci]
              refine lv_icmp_le (tgt := 86) hx hb d_Mo_spend_80 (by decide) (fun c_10 => ?_) (fun c_10 => ?_)
              · refine lv_aload_n hx hb d_Mo_spend_86 rfl (lv_at hl 1 rfl) ?_
                refine z_get S zm_cls zm_in (hP 0 _ rfl) 8 (by decide) kg_434 (Or.inl rfl) rfl d_Mo_spend_87 ?_
                refine lv_iload_n hx hb d_Mo_spend_90 rfl (lv_at hl 2 rfl) ?_
                refine lv_dup2_11 hx hb d_Mo_spend_91 rfl rfl ?_
                refine va_iald hx hb hK.1 hP 3 0 rfl rfl (vp_in_nI hli (by decide)) d_Mo_spend_92 ?_
                rw [hci]
                refine lv_iload_n hx hb d_Mo_spend_93 rfl (lv_at hl 3 rfl) ?_
                refine lv_iload_n hx hb d_Mo_spend_94 rfl (lv_at hl 0 rfl) ?_
                refine lv_iadd hx hb d_Mo_spend_95 ?_
                refine lv_isub hx hb d_Mo_spend_96 ?_
                refine va_iast hx hb hK.1 hP hD hS 3 0 rfl rfl (vp_in_nI hli (by decide)) d_Mo_spend_97 (fun H locs hP hD hS => ?_)
                rw [hci] at hP hD
                have hP : va_P G.1 classes (wm G mo a1 a2 a3 a4 a5 a6 a7 dy (nI n) ams sp fe la ko am (upd lf i ((lf i) - (g + (mFee (ko i) (pt i) g)))) fr pt so gn) H := hP
                have hD : va_D (va_A (wm G mo a1 a2 a3 a4 a5 a6 a7 dy (nI n) ams sp fe la ko am lf fr pt so gn) s.heap.size) (wm G mo a1 a2 a3 a4 a5 a6 a7 dy (nI n) ams sp fe la ko am (upd lf i ((lf i) - (g + (mFee (ko i) (pt i) g)))) fr pt so gn) := hD
                refine lv_aload_n hx hb d_Mo_spend_98 rfl (lv_at hl 1 rfl) ?_
                refine z_get S zm_cls zm_in (hP 0 _ rfl) 11 (by decide) kg_437 (Or.inl rfl) rfl d_Mo_spend_99 ?_
                refine lv_iload_n hx hb d_Mo_spend_102 rfl (lv_at hl 2 rfl) ?_
                refine lv_aload_n hx hb d_Mo_spend_103 rfl (lv_at hl 1 rfl) ?_
                refine z_get S zm_cls zm_in (hP 0 _ rfl) 0 (by decide) kg_426 (Or.inl rfl) rfl d_Mo_spend_104 ?_
                refine lv_iconst (v := 1) hx hb d_Mo_spend_107 (by decide) ?_
                refine lv_iadd hx hb d_Mo_spend_108 ?_
                refine va_iast hx hb hK.1 hP hD hS 6 0 rfl rfl (vp_in_nI hli (by decide)) d_Mo_spend_109 (fun H locs hP hD hS => ?_)
                rw [hci] at hP hD
                have hP : va_P G.1 classes (wm G mo a1 a2 a3 a4 a5 a6 a7 dy (nI n) ams sp fe la ko am (upd lf i ((lf i) - (g + (mFee (ko i) (pt i) g)))) fr pt (upd so i (dy + 1)) gn) H := hP
                have hD : va_D (va_A (wm G mo a1 a2 a3 a4 a5 a6 a7 dy (nI n) ams sp fe la ko am lf fr pt so gn) s.heap.size) (wm G mo a1 a2 a3 a4 a5 a6 a7 dy (nI n) ams sp fe la ko am (upd lf i ((lf i) - (g + (mFee (ko i) (pt i) g)))) fr pt (upd so i (dy + 1)) gn) := hD
                refine lv_aload_n hx hb d_Mo_spend_110 rfl (lv_at hl 1 rfl) ?_
                refine lv_dup hx hb d_Mo_spend_111 rfl ?_
                refine z_get S zm_cls zm_in (hP 0 _ rfl) 3 (by decide) kg_429 (Or.inl rfl) rfl d_Mo_spend_112 ?_
                refine lv_iload_n hx hb d_Mo_spend_115 rfl (lv_at hl 3 rfl) ?_
                refine lv_iadd hx hb d_Mo_spend_116 ?_
                refine z_put (x := sp + g) S zm_cls zm_in zm_ty zm_nm hP hD hS 0 rfl 3 (by decide) kg_429 (Or.inl rfl) rfl pI (Nat.le_of_ble_eq_true rfl) d_Mo_spend_117 (fun H locs hP hD hS => ?_)
                have hP : va_P G.1 classes (wm G mo a1 a2 a3 a4 a5 a6 a7 dy (nI n) ams (sp + g) fe la ko am (upd lf i ((lf i) - (g + (mFee (ko i) (pt i) g)))) fr pt (upd so i (dy + 1)) gn) H := hP
                have hD : va_D (va_A (wm G mo a1 a2 a3 a4 a5 a6 a7 dy (nI n) ams sp fe la ko am lf fr pt so gn) s.heap.size) (wm G mo a1 a2 a3 a4 a5 a6 a7 dy (nI n) ams (sp + g) fe la ko am (upd lf i ((lf i) - (g + (mFee (ko i) (pt i) g)))) fr pt (upd so i (dy + 1)) gn) := hD
                refine lv_aload_n hx hb d_Mo_spend_120 rfl (lv_at hl 1 rfl) ?_
                refine lv_dup hx hb d_Mo_spend_121 rfl ?_
                refine z_get S zm_cls zm_in (hP 0 _ rfl) 4 (by decide) kg_430 (Or.inl rfl) rfl d_Mo_spend_122 ?_
                refine lv_iload_n hx hb d_Mo_spend_125 rfl (lv_at hl 0 rfl) ?_
                refine lv_iadd hx hb d_Mo_spend_126 ?_
                refine z_put (x := fe + (mFee (ko i) (pt i) g)) S zm_cls zm_in zm_ty zm_nm hP hD hS 0 rfl 4 (by decide) kg_430 (Or.inl rfl) rfl pI (Nat.le_of_ble_eq_true rfl) d_Mo_spend_127 (fun H locs hP hD hS => ?_)
                have hP : va_P G.1 classes (wm G mo a1 a2 a3 a4 a5 a6 a7 dy (nI n) ams (sp + g) (fe + (mFee (ko i) (pt i) g)) la ko am (upd lf i ((lf i) - (g + (mFee (ko i) (pt i) g)))) fr pt (upd so i (dy + 1)) gn) H := hP
                have hD : va_D (va_A (wm G mo a1 a2 a3 a4 a5 a6 a7 dy (nI n) ams sp fe la ko am lf fr pt so gn) s.heap.size) (wm G mo a1 a2 a3 a4 a5 a6 a7 dy (nI n) ams (sp + g) (fe + (mFee (ko i) (pt i) g)) la ko am (upd lf i ((lf i) - (g + (mFee (ko i) (pt i) g)))) fr pt (upd so i (dy + 1)) gn) := hD
                refine lv_aload_n hx hb d_Mo_spend_130 rfl (lv_at hl 1 rfl) ?_
                refine lv_iload_n hx hb d_Mo_spend_131 rfl (lv_at hl 2 rfl) ?_
                refine z_q (z_D (n := 1) (C := "VoucherOfficeModel") (As := [.int (nI i)]) (rest := []) S (c_Mo_hasPoints l G _ mo a1 a2 a3 a4 a5 a6 a7 dy ams (sp + g) (fe + (mFee (ko i) (pt i) g)) la n ko am (upd lf i ((lf i) - (g + (mFee (ko i) (pt i) g)))) fr pt (upd so i (dy + 1)) gn i hli) kg_500 kg_502 kp_Mo_hasPoints kg_503 ok_Mo_hasPoints pd_Mo_hasPoints (zrec hK (hP 0 _ rfl) zm_cls) ⟨rfl, hP, hD.weaken (fun _ _ _ _ => trivial)⟩ rfl hl.1 rfl (Nat.le_of_ble_eq_true rfl) ⟨(Nat.le_of_ble_eq_true rfl), (Nat.le_of_ble_eq_true rfl)⟩ ⟨Nat.zero_le _, Nat.zero_le _⟩ d_Mo_spend_132) ?_
                refine lv_if_eq (tgt := 151) hx hb d_Mo_spend_135 (by decide) (fun c_11 => ?_) (fun c_11 => ?_)
                · refine lv_aload_n hx hb d_Mo_spend_151 rfl (lv_at hl 1 rfl) ?_
                  refine z_get S zm_cls zm_in (hP 0 _ rfl) 8 (by decide) kg_434 (Or.inl rfl) rfl d_Mo_spend_152 ?_
                  refine lv_iload_n hx hb d_Mo_spend_155 rfl (lv_at hl 2 rfl) ?_
                  refine va_iald hx hb hK.1 hP 3 0 rfl rfl (vp_in_nI hli (by decide)) d_Mo_spend_156 ?_
                  rw [hci, pk_us]
                  exact z_iret (v := (lf i) - (g + (mFee (ko i) (pt i) g))) (tys := none) S hr hlk rfl (OF.mk hP hD hS (by first | rfl | simp only [mSpR, mSpL, mSpO, mSpS, mSpF, mSpT, mSpB, mSpB2, hvk, c_3, eq_true c_4, c_8, c_9, eq_true c_10, eq_true c_11, ↓reduceIte]) (by first | rfl | simp only [mSpR, mSpL, mSpO, mSpS, mSpF, mSpT, mSpB, mSpB2, hvk, c_3, eq_true c_4, c_8, c_9, eq_true c_10, eq_true c_11, ↓reduceIte])) hS.2.2 d_Mo_spend_157
                · refine lv_aload_n hx hb d_Mo_spend_138 rfl (lv_at hl 1 rfl) ?_
                  refine z_get S zm_cls zm_in (hP 0 _ rfl) 10 (by decide) kg_436 (Or.inl rfl) rfl d_Mo_spend_139 ?_
                  refine lv_iload_n hx hb d_Mo_spend_142 rfl (lv_at hl 2 rfl) ?_
                  refine lv_dup2_11 hx hb d_Mo_spend_143 rfl rfl ?_
                  refine va_iald hx hb hK.1 hP 5 0 rfl rfl (vp_in_nI hli (by decide)) d_Mo_spend_144 ?_
                  rw [hci]
                  refine lv_iload_n hx hb d_Mo_spend_145 rfl (lv_at hl 3 rfl) ?_
                  refine lv_bipush (v := 100) hx hb d_Mo_spend_146 (by decide) ?_
                  refine lv_idiv hx hb d_Mo_spend_148 (by decide) ?_
                  refine lv_iadd hx hb d_Mo_spend_149 ?_
                  refine va_iast hx hb hK.1 hP hD hS 5 0 rfl rfl (vp_in_nI hli (by decide)) d_Mo_spend_150 (fun H locs hP hD hS => ?_)
                  rw [hci] at hP hD
                  have hP : va_P G.1 classes (wm G mo a1 a2 a3 a4 a5 a6 a7 dy (nI n) ams (sp + g) (fe + (mFee (ko i) (pt i) g)) la ko am (upd lf i ((lf i) - (g + (mFee (ko i) (pt i) g)))) fr (upd pt i ((pt i) + (g / 100))) (upd so i (dy + 1)) gn) H := hP
                  have hD : va_D (va_A (wm G mo a1 a2 a3 a4 a5 a6 a7 dy (nI n) ams sp fe la ko am lf fr pt so gn) s.heap.size) (wm G mo a1 a2 a3 a4 a5 a6 a7 dy (nI n) ams (sp + g) (fe + (mFee (ko i) (pt i) g)) la ko am (upd lf i ((lf i) - (g + (mFee (ko i) (pt i) g)))) fr (upd pt i ((pt i) + (g / 100))) (upd so i (dy + 1)) gn) := hD
                  refine lv_aload_n hx hb d_Mo_spend_151 rfl (lv_at hl 1 rfl) ?_
                  refine z_get S zm_cls zm_in (hP 0 _ rfl) 8 (by decide) kg_434 (Or.inl rfl) rfl d_Mo_spend_152 ?_
                  refine lv_iload_n hx hb d_Mo_spend_155 rfl (lv_at hl 2 rfl) ?_
                  refine va_iald hx hb hK.1 hP 3 0 rfl rfl (vp_in_nI hli (by decide)) d_Mo_spend_156 ?_
                  rw [hci, pk_us]
                  exact z_iret (v := (lf i) - (g + (mFee (ko i) (pt i) g))) (tys := none) S hr hlk rfl (OF.mk hP hD hS (by first | rfl | simp only [mSpR, mSpL, mSpO, mSpS, mSpF, mSpT, mSpB, mSpB2, hvk, c_3, eq_true c_4, c_8, c_9, eq_true c_10, c_11, ↓reduceIte]) (by first | rfl | simp only [mSpR, mSpL, mSpO, mSpS, mSpF, mSpT, mSpB, mSpB2, hvk, c_3, eq_true c_4, c_8, c_9, eq_true c_10, c_11, ↓reduceIte])) hS.2.2 d_Mo_spend_157
              · refine lv_bipush (v := (-5)) hx hb d_Mo_spend_83 (by decide) ?_
                exact z_iret (v := (-5)) (tys := none) S hr hlk rfl (OF.mk hP hD hS (by first | rfl | simp only [mSpR, mSpL, mSpO, mSpS, mSpF, mSpT, mSpB, mSpB2, hvk, c_3, eq_true c_4, c_8, c_9, c_10, ↓reduceIte]) (by first | rfl | simp only [mSpR, mSpL, mSpO, mSpS, mSpF, mSpT, mSpB, mSpB2, hvk, c_3, eq_true c_4, c_8, c_9, c_10, ↓reduceIte])) hS.2.2 d_Mo_spend_85
          · refine lv_bipush (v := (-6)) hx hb d_Mo_spend_48 (by decide) ?_
            exact z_iret (v := (-6)) (tys := none) S hr hlk rfl (OF.mk hP hD hS (by first | rfl | simp only [mSpR, mSpL, mSpO, mSpS, mSpF, mSpT, mSpB, mSpB2, hvk, c_3, eq_true c_4, eq_true c_8, ↓reduceIte]) (by first | rfl | simp only [mSpR, mSpL, mSpO, mSpS, mSpF, mSpT, mSpB, mSpB2, hvk, c_3, eq_true c_4, eq_true c_8, ↓reduceIte])) hS.2.2 d_Mo_spend_50
      · refine lv_bipush (v := (-2)) hx hb d_Mo_spend_20 (by decide) ?_
        exact z_iret (v := (-2)) (tys := none) S hr hlk rfl (OF.mk hP hD hS (by first | rfl | simp only [mSpR, mSpL, mSpO, mSpS, mSpF, mSpT, mSpB, mSpB2, hvk, eq_true c_3, ↓reduceIte]) (by first | rfl | simp only [mSpR, mSpL, mSpO, mSpS, mSpF, mSpT, mSpB, mSpB2, hvk, eq_true c_3, ↓reduceIte])) hS.2.2 d_Mo_spend_22
    · exact absurd c_2 (by decide)
end
section
def mMgR (n : Nat) (ko am lf fr pt so gn : Nat → Int32) (v w : Int32) : Int32 := match lkI n (gB gn) v with | none => -1 | some i => match lkI n (gB gn) w with | none => -1 | some j => if v = w then -2 else if ko i = ko j then (if am i + am j ≤ 100000 then am i + am j else -4) else -3
def mMgA (n : Nat) (ko am lf fr pt so gn : Nat → Int32) (v w : Int32) : Nat → Int32 := match lkI n (gB gn) v with | none => am | some i => match lkI n (gB gn) w with | none => am | some j => if v = w then am else if ko i = ko j then (if am i + am j ≤ 100000 then upd am i (am i + am j) else am) else am
def mMgL (n : Nat) (ko am lf fr pt so gn : Nat → Int32) (v w : Int32) : Nat → Int32 := match lkI n (gB gn) v with | none => lf | some i => match lkI n (gB gn) w with | none => lf | some j => if v = w then lf else if ko i = ko j then (if am i + am j ≤ 100000 then upd lf i (lf i + lf j) else lf) else lf
def mMgT (n : Nat) (ko am lf fr pt so gn : Nat → Int32) (v w : Int32) : Nat → Int32 := match lkI n (gB gn) v with | none => pt | some i => match lkI n (gB gn) w with | none => pt | some j => if v = w then pt else if ko i = ko j then (if am i + am j ≤ 100000 then upd pt i (pt i + pt j) else pt) else pt
def mMgO (n : Nat) (ko am lf fr pt so gn : Nat → Int32) (v w : Int32) : Nat → Int32 := match lkI n (gB gn) v with | none => so | some i => match lkI n (gB gn) w with | none => so | some j => if v = w then so else if ko i = ko j then (if am i + am j ≤ 100000 then upd so i (if so j ≤ so i then so i else so j) else so) else so
def mMgG (n : Nat) (ko am lf fr pt so gn : Nat → Int32) (v w : Int32) : Nat → Int32 := match lkI n (gB gn) v with | none => gn | some i => match lkI n (gB gn) w with | none => gn | some j => if v = w then gn else if ko i = ko j then (if am i + am j ≤ 100000 then upd gn j 1 else gn) else gn
set_option maxHeartbeats 2000000 in
theorem c_Mo_merge (l : Launch) (G : ZG) (sz : Nat) (mo a1 a2 a3 a4 a5 a6 a7 : Nat) (dy ams sp fe la : Int32) (n : Nat) (ko am lf fr pt so gn : Nat → Int32) (v w : Int32) (hn40 : n ≤ 40) : ZK l G y_Mo_merge 2 [.ref mo, .int v, .int w] (OW G sz (wm G mo a1 a2 a3 a4 a5 a6 a7 dy (nI n) ams sp fe la ko am lf fr pt so gn)) (ZA (some (.int (mMgR n ko am lf fr pt so gn v w))) (OF G sz (wm G mo a1 a2 a3 a4 a5 a6 a7 dy (nI n) ams sp fe la ko am lf fr pt so gn) (wm G mo a1 a2 a3 a4 a5 a6 a7 dy (nI n) ams sp fe la ko (mMgA n ko am lf fr pt so gn v w) (mMgL n ko am lf fr pt so gn v w) fr (mMgT n ko am lf fr pt so gn v w) (mMgO n ko am lf fr pt so gn v w) (mMgG n ko am lf fr pt so gn v w)))) 0 0 (va_A (wm G mo a1 a2 a3 a4 a5 a6 a7 dy (nI n) ams sp fe la ko am lf fr pt so gn) sz) := by
  refine ZK.ofBody (cc := b_Mo_merge) (maxL := 3) (ret := (some FieldType.int)) kg_539 (by decide) (by decide) (Nat.le_of_ble_eq_true rfl) ?_
  intro p e s m below meth c S hr hlk hnm hp ls hl
  obtain ⟨⟨hx, hb, hml, hown, hts⟩, hK⟩ := id S
  obtain ⟨hsz, hP, hD⟩ := hp
  subst hsz
  have hD := hD.self (sz := s.heap.size)
  have hS : va_S (va_A (wm G mo a1 a2 a3 a4 a5 a6 a7 dy (nI n) ams sp fe la ko am lf fr pt so gn) s.heap.size) s.heap s.heap [] := va_S.rf
  have hl : lv_has ls 3 [(0, .ref mo), (1, .int v), (2, .int w)] := hl
  rcases lk_cases hn40 (gB gn) v with hvk | ⟨i, hi, hvi, hgi, hvk⟩
  · rcases lk_cases hn40 (gB gn) w with hwk | ⟨j, hj, hvj, hgj, hwk⟩
    · refine lv_aload_n hx hb d_Mo_merge_0 rfl (lv_at hl 0 rfl) ?_
      refine lv_iload_n hx hb d_Mo_merge_1 rfl (lv_at hl 1 rfl) ?_
      refine z_q (z_D (n := 1) (C := "VoucherOfficeModel") (As := [.int v]) (rest := []) S (c_Mo_isThere_no l G _ mo a1 a2 a3 a4 a5 a6 a7 dy ams sp fe la n ko am lf fr pt so gn v hn40 hvk) kg_484 kg_486 kp_Mo_isThere kg_487 ok_Mo_isThere pd_Mo_isThere (zrec hK (hP 0 _ rfl) zm_cls) ⟨rfl, hP, hD.weaken (fun _ _ _ _ => trivial)⟩ rfl hl.1 rfl (Nat.le_of_ble_eq_true rfl) ⟨(Nat.le_of_ble_eq_true rfl), (Nat.le_of_ble_eq_true rfl)⟩ ⟨Nat.zero_le _, Nat.zero_le _⟩ d_Mo_merge_2) ?_
      refine lv_if_eq (tgt := 16) hx hb d_Mo_merge_5 (by decide) (fun c_1 => ?_) (fun c_1 => ?_)
      · refine lv_iconst (v := (-1)) hx hb d_Mo_merge_16 (by decide) ?_
        exact z_iret (v := (-1)) (tys := none) S hr hlk rfl (OF.mk hP hD hS (by first | rfl | simp only [mMgR, mMgA, mMgL, mMgT, mMgO, mMgG, hvk, hwk, ↓reduceIte]) (by first | rfl | simp only [mMgR, mMgA, mMgL, mMgT, mMgO, mMgG, hvk, hwk, ↓reduceIte])) hS.2.2 d_Mo_merge_17
      · exact absurd rfl c_1
    · subst hvj
      have hcj : (nI j).toNatClampNeg = j := nI_clamp (by omega)
      have hlj : j < 40 := by omega
      refine lv_aload_n hx hb d_Mo_merge_0 rfl (lv_at hl 0 rfl) ?_
      refine lv_iload_n hx hb d_Mo_merge_1 rfl (lv_at hl 1 rfl) ?_
      refine z_q (z_D (n := 1) (C := "VoucherOfficeModel") (As := [.int v]) (rest := []) S (c_Mo_isThere_no l G _ mo a1 a2 a3 a4 a5 a6 a7 dy ams sp fe la n ko am lf fr pt so gn v hn40 hvk) kg_484 kg_486 kp_Mo_isThere kg_487 ok_Mo_isThere pd_Mo_isThere (zrec hK (hP 0 _ rfl) zm_cls) ⟨rfl, hP, hD.weaken (fun _ _ _ _ => trivial)⟩ rfl hl.1 rfl (Nat.le_of_ble_eq_true rfl) ⟨(Nat.le_of_ble_eq_true rfl), (Nat.le_of_ble_eq_true rfl)⟩ ⟨Nat.zero_le _, Nat.zero_le _⟩ d_Mo_merge_2) ?_
      refine lv_if_eq (tgt := 16) hx hb d_Mo_merge_5 (by decide) (fun c_2 => ?_) (fun c_2 => ?_)
      · refine lv_iconst (v := (-1)) hx hb d_Mo_merge_16 (by decide) ?_
        exact z_iret (v := (-1)) (tys := none) S hr hlk rfl (OF.mk hP hD hS (by first | rfl | simp only [mMgR, mMgA, mMgL, mMgT, mMgO, mMgG, hvk, hwk, ↓reduceIte]) (by first | rfl | simp only [mMgR, mMgA, mMgL, mMgT, mMgO, mMgG, hvk, hwk, ↓reduceIte])) hS.2.2 d_Mo_merge_17
      · exact absurd rfl c_2
  · subst hvi
    have hci : (nI i).toNatClampNeg = i := nI_clamp (by omega)
    have hli : i < 40 := by omega
    rcases lk_cases hn40 (gB gn) w with hwk | ⟨j, hj, hvj, hgj, hwk⟩
    · refine lv_aload_n hx hb d_Mo_merge_0 rfl (lv_at hl 0 rfl) ?_
      refine lv_iload_n hx hb d_Mo_merge_1 rfl (lv_at hl 1 rfl) ?_
      refine z_q (z_D (n := 1) (C := "VoucherOfficeModel") (As := [.int (nI i)]) (rest := []) S (c_Mo_isThere_yes l G _ mo a1 a2 a3 a4 a5 a6 a7 dy ams sp fe la n ko am lf fr pt so gn (nI i) hn40 hvk) kg_484 kg_486 kp_Mo_isThere kg_487 ok_Mo_isThere pd_Mo_isThere (zrec hK (hP 0 _ rfl) zm_cls) ⟨rfl, hP, hD.weaken (fun _ _ _ _ => trivial)⟩ rfl hl.1 rfl (Nat.le_of_ble_eq_true rfl) ⟨(Nat.le_of_ble_eq_true rfl), (Nat.le_of_ble_eq_true rfl)⟩ ⟨Nat.zero_le _, Nat.zero_le _⟩ d_Mo_merge_2) ?_
      refine lv_if_eq (tgt := 16) hx hb d_Mo_merge_5 (by decide) (fun c_3 => ?_) (fun c_3 => ?_)
      · exact absurd c_3 (by decide)
      · refine lv_aload_n hx hb d_Mo_merge_8 rfl (lv_at hl 0 rfl) ?_
        refine lv_iload_n hx hb d_Mo_merge_9 rfl (lv_at hl 2 rfl) ?_
        refine z_q (z_D (n := 1) (C := "VoucherOfficeModel") (As := [.int w]) (rest := []) S (c_Mo_isThere_no l G _ mo a1 a2 a3 a4 a5 a6 a7 dy ams sp fe la n ko am lf fr pt so gn w hn40 hwk) kg_484 kg_486 kp_Mo_isThere kg_487 ok_Mo_isThere pd_Mo_isThere (zrec hK (hP 0 _ rfl) zm_cls) ⟨rfl, hP, hD.weaken (fun _ _ _ _ => trivial)⟩ rfl hl.1 rfl (Nat.le_of_ble_eq_true rfl) ⟨(Nat.le_of_ble_eq_true rfl), (Nat.le_of_ble_eq_true rfl)⟩ ⟨Nat.zero_le _, Nat.zero_le _⟩ d_Mo_merge_10) ?_
        refine lv_if_ne (tgt := 18) hx hb d_Mo_merge_13 (by decide) (fun c_4 => ?_) (fun c_4 => ?_)
        · exact absurd rfl c_4
        · refine lv_iconst (v := (-1)) hx hb d_Mo_merge_16 (by decide) ?_
          exact z_iret (v := (-1)) (tys := none) S hr hlk rfl (OF.mk hP hD hS (by first | rfl | simp only [mMgR, mMgA, mMgL, mMgT, mMgO, mMgG, hvk, hwk, ↓reduceIte]) (by first | rfl | simp only [mMgR, mMgA, mMgL, mMgT, mMgO, mMgG, hvk, hwk, ↓reduceIte])) hS.2.2 d_Mo_merge_17
    · subst hvj
      have hcj : (nI j).toNatClampNeg = j := nI_clamp (by omega)
      have hlj : j < 40 := by omega
      refine lv_aload_n hx hb d_Mo_merge_0 rfl (lv_at hl 0 rfl) ?_
      refine lv_iload_n hx hb d_Mo_merge_1 rfl (lv_at hl 1 rfl) ?_
      refine z_q (z_D (n := 1) (C := "VoucherOfficeModel") (As := [.int (nI i)]) (rest := []) S (c_Mo_isThere_yes l G _ mo a1 a2 a3 a4 a5 a6 a7 dy ams sp fe la n ko am lf fr pt so gn (nI i) hn40 hvk) kg_484 kg_486 kp_Mo_isThere kg_487 ok_Mo_isThere pd_Mo_isThere (zrec hK (hP 0 _ rfl) zm_cls) ⟨rfl, hP, hD.weaken (fun _ _ _ _ => trivial)⟩ rfl hl.1 rfl (Nat.le_of_ble_eq_true rfl) ⟨(Nat.le_of_ble_eq_true rfl), (Nat.le_of_ble_eq_true rfl)⟩ ⟨Nat.zero_le _, Nat.zero_le _⟩ d_Mo_merge_2) ?_
      refine lv_if_eq (tgt := 16) hx hb d_Mo_merge_5 (by decide) (fun c_5 => ?_) (fun c_5 => ?_)
      · exact absurd c_5 (by decide)
      · refine lv_aload_n hx hb d_Mo_merge_8 rfl (lv_at hl 0 rfl) ?_
        refine lv_iload_n hx hb d_Mo_merge_9 rfl (lv_at hl 2 rfl) ?_
        refine z_q (z_D (n := 1) (C := "VoucherOfficeModel") (As := [.int (nI j)]) (rest := []) S (c_Mo_isThere_yes l G _ mo a1 a2 a3 a4 a5 a6 a7 dy ams sp fe la n ko am lf fr pt so gn (nI j) hn40 hwk) kg_484 kg_486 kp_Mo_isThere kg_487 ok_Mo_isThere pd_Mo_isThere (zrec hK (hP 0 _ rfl) zm_cls) ⟨rfl, hP, hD.weaken (fun _ _ _ _ => trivial)⟩ rfl hl.1 rfl (Nat.le_of_ble_eq_true rfl) ⟨(Nat.le_of_ble_eq_true rfl), (Nat.le_of_ble_eq_true rfl)⟩ ⟨Nat.zero_le _, Nat.zero_le _⟩ d_Mo_merge_10) ?_
        refine lv_if_ne (tgt := 18) hx hb d_Mo_merge_13 (by decide) (fun c_6 => ?_) (fun c_6 => ?_)
        · refine lv_iload_n hx hb d_Mo_merge_18 rfl (lv_at hl 1 rfl) ?_
          refine lv_iload_n hx hb d_Mo_merge_19 rfl (lv_at hl 2 rfl) ?_
          refine lv_icmp_ne (tgt := 26) hx hb d_Mo_merge_20 (by decide) (fun c_7 => ?_) (fun c_7 => ?_)
          · refine lv_aload_n hx hb d_Mo_merge_26 rfl (lv_at hl 0 rfl) ?_
            refine z_get S zm_cls zm_in (hP 0 _ rfl) 6 (by decide) kg_432 (Or.inl rfl) rfl d_Mo_merge_27 ?_
            refine lv_iload_n hx hb d_Mo_merge_30 rfl (lv_at hl 1 rfl) ?_
            refine va_iald hx hb hK.1 hP 1 0 rfl rfl (vp_in_nI hli (by decide)) d_Mo_merge_31 ?_
            rw [hci]
            refine lv_aload_n hx hb d_Mo_merge_32 rfl (lv_at hl 0 rfl) ?_
            refine z_get S zm_cls zm_in (hP 0 _ rfl) 6 (by decide) kg_432 (Or.inl rfl) rfl d_Mo_merge_33 ?_
            refine lv_iload_n hx hb d_Mo_merge_36 rfl (lv_at hl 2 rfl) ?_
            refine va_iald hx hb hK.1 hP 1 0 rfl rfl (vp_in_nI hlj (by decide)) d_Mo_merge_37 ?_
            rw [hcj]
            refine lv_icmp_eq (tgt := 44) hx hb d_Mo_merge_38 (by decide) (fun c_8 => ?_) (fun c_8 => ?_)
            · refine lv_aload_n hx hb d_Mo_merge_44 rfl (lv_at hl 0 rfl) ?_
              refine z_get S zm_cls zm_in (hP 0 _ rfl) 7 (by decide) kg_433 (Or.inl rfl) rfl d_Mo_merge_45 ?_
              refine lv_iload_n hx hb d_Mo_merge_48 rfl (lv_at hl 1 rfl) ?_
              refine va_iald hx hb hK.1 hP 2 0 rfl rfl (vp_in_nI hli (by decide)) d_Mo_merge_49 ?_
              rw [hci]
              refine lv_aload_n hx hb d_Mo_merge_50 rfl (lv_at hl 0 rfl) ?_
              refine z_get S zm_cls zm_in (hP 0 _ rfl) 7 (by decide) kg_433 (Or.inl rfl) rfl d_Mo_merge_51 ?_
              refine lv_iload_n hx hb d_Mo_merge_54 rfl (lv_at hl 2 rfl) ?_
              refine va_iald hx hb hK.1 hP 2 0 rfl rfl (vp_in_nI hlj (by decide)) d_Mo_merge_55 ?_
              rw [hcj]
              refine lv_iadd hx hb d_Mo_merge_56 ?_
              refine lv_ldc (v := 100000) hx hb hown (hts _ kg_475) d_Mo_merge_57 ?_
              refine lv_icmp_le (tgt := 65) hx hb d_Mo_merge_59 (by decide) (fun c_9 => ?_) (fun c_9 => ?_)
              · refine lv_aload_n hx hb d_Mo_merge_65 rfl (lv_at hl 0 rfl) ?_
                refine z_get S zm_cls zm_in (hP 0 _ rfl) 7 (by decide) kg_433 (Or.inl rfl) rfl d_Mo_merge_66 ?_
                refine lv_iload_n hx hb d_Mo_merge_69 rfl (lv_at hl 1 rfl) ?_
                refine lv_dup2_11 hx hb d_Mo_merge_70 rfl rfl ?_
                refine va_iald hx hb hK.1 hP 2 0 rfl rfl (vp_in_nI hli (by decide)) d_Mo_merge_71 ?_
                rw [hci]
                refine lv_aload_n hx hb d_Mo_merge_72 rfl (lv_at hl 0 rfl) ?_
                refine z_get S zm_cls zm_in (hP 0 _ rfl) 7 (by decide) kg_433 (Or.inl rfl) rfl d_Mo_merge_73 ?_
                refine lv_iload_n hx hb d_Mo_merge_76 rfl (lv_at hl 2 rfl) ?_
                refine va_iald hx hb hK.1 hP 2 0 rfl rfl (vp_in_nI hlj (by decide)) d_Mo_merge_77 ?_
                rw [hcj]
                refine lv_iadd hx hb d_Mo_merge_78 ?_
                refine va_iast hx hb hK.1 hP hD hS 2 0 rfl rfl (vp_in_nI hli (by decide)) d_Mo_merge_79 (fun H locs hP hD hS => ?_)
                rw [hci] at hP hD
                have hP : va_P G.1 classes (wm G mo a1 a2 a3 a4 a5 a6 a7 dy (nI n) ams sp fe la ko (upd am i ((am i) + (am j))) lf fr pt so gn) H := hP
                have hD : va_D (va_A (wm G mo a1 a2 a3 a4 a5 a6 a7 dy (nI n) ams sp fe la ko am lf fr pt so gn) s.heap.size) (wm G mo a1 a2 a3 a4 a5 a6 a7 dy (nI n) ams sp fe la ko (upd am i ((am i) + (am j))) lf fr pt so gn) := hD
                refine lv_aload_n hx hb d_Mo_merge_80 rfl (lv_at hl 0 rfl) ?_
                refine z_get S zm_cls zm_in (hP 0 _ rfl) 8 (by decide) kg_434 (Or.inl rfl) rfl d_Mo_merge_81 ?_
                refine lv_iload_n hx hb d_Mo_merge_84 rfl (lv_at hl 1 rfl) ?_
                refine lv_dup2_11 hx hb d_Mo_merge_85 rfl rfl ?_
                refine va_iald hx hb hK.1 hP 3 0 rfl rfl (vp_in_nI hli (by decide)) d_Mo_merge_86 ?_
                rw [hci]
                refine lv_aload_n hx hb d_Mo_merge_87 rfl (lv_at hl 0 rfl) ?_
                refine z_get S zm_cls zm_in (hP 0 _ rfl) 8 (by decide) kg_434 (Or.inl rfl) rfl d_Mo_merge_88 ?_
                refine lv_iload_n hx hb d_Mo_merge_91 rfl (lv_at hl 2 rfl) ?_
                refine va_iald hx hb hK.1 hP 3 0 rfl rfl (vp_in_nI hlj (by decide)) d_Mo_merge_92 ?_
                rw [hcj]
                refine lv_iadd hx hb d_Mo_merge_93 ?_
                refine va_iast hx hb hK.1 hP hD hS 3 0 rfl rfl (vp_in_nI hli (by decide)) d_Mo_merge_94 (fun H locs hP hD hS => ?_)
                rw [hci] at hP hD
                have hP : va_P G.1 classes (wm G mo a1 a2 a3 a4 a5 a6 a7 dy (nI n) ams sp fe la ko (upd am i ((am i) + (am j))) (upd lf i ((lf i) + (lf j))) fr pt so gn) H := hP
                have hD : va_D (va_A (wm G mo a1 a2 a3 a4 a5 a6 a7 dy (nI n) ams sp fe la ko am lf fr pt so gn) s.heap.size) (wm G mo a1 a2 a3 a4 a5 a6 a7 dy (nI n) ams sp fe la ko (upd am i ((am i) + (am j))) (upd lf i ((lf i) + (lf j))) fr pt so gn) := hD
                refine lv_aload_n hx hb d_Mo_merge_95 rfl (lv_at hl 0 rfl) ?_
                refine z_get S zm_cls zm_in (hP 0 _ rfl) 10 (by decide) kg_436 (Or.inl rfl) rfl d_Mo_merge_96 ?_
                refine lv_iload_n hx hb d_Mo_merge_99 rfl (lv_at hl 1 rfl) ?_
                refine lv_dup2_11 hx hb d_Mo_merge_100 rfl rfl ?_
                refine va_iald hx hb hK.1 hP 5 0 rfl rfl (vp_in_nI hli (by decide)) d_Mo_merge_101 ?_
                rw [hci]
                refine lv_aload_n hx hb d_Mo_merge_102 rfl (lv_at hl 0 rfl) ?_
                refine z_get S zm_cls zm_in (hP 0 _ rfl) 10 (by decide) kg_436 (Or.inl rfl) rfl d_Mo_merge_103 ?_
                refine lv_iload_n hx hb d_Mo_merge_106 rfl (lv_at hl 2 rfl) ?_
                refine va_iald hx hb hK.1 hP 5 0 rfl rfl (vp_in_nI hlj (by decide)) d_Mo_merge_107 ?_
                rw [hcj]
                refine lv_iadd hx hb d_Mo_merge_108 ?_
                refine va_iast hx hb hK.1 hP hD hS 5 0 rfl rfl (vp_in_nI hli (by decide)) d_Mo_merge_109 (fun H locs hP hD hS => ?_)
                rw [hci] at hP hD
                have hP : va_P G.1 classes (wm G mo a1 a2 a3 a4 a5 a6 a7 dy (nI n) ams sp fe la ko (upd am i ((am i) + (am j))) (upd lf i ((lf i) + (lf j))) fr (upd pt i ((pt i) + (pt j))) so gn) H := hP
                have hD : va_D (va_A (wm G mo a1 a2 a3 a4 a5 a6 a7 dy (nI n) ams sp fe la ko am lf fr pt so gn) s.heap.size) (wm G mo a1 a2 a3 a4 a5 a6 a7 dy (nI n) ams sp fe la ko (upd am i ((am i) + (am j))) (upd lf i ((lf i) + (lf j))) fr (upd pt i ((pt i) + (pt j))) so gn) := hD
                refine lv_aload_n hx hb d_Mo_merge_110 rfl (lv_at hl 0 rfl) ?_
                refine z_get S zm_cls zm_in (hP 0 _ rfl) 11 (by decide) kg_437 (Or.inl rfl) rfl d_Mo_merge_111 ?_
                refine lv_iload_n hx hb d_Mo_merge_114 rfl (lv_at hl 1 rfl) ?_
                refine lv_aload_n hx hb d_Mo_merge_115 rfl (lv_at hl 0 rfl) ?_
                refine z_get S zm_cls zm_in (hP 0 _ rfl) 11 (by decide) kg_437 (Or.inl rfl) rfl d_Mo_merge_116 ?_
                refine lv_iload_n hx hb d_Mo_merge_119 rfl (lv_at hl 2 rfl) ?_
                refine va_iald hx hb hK.1 hP 6 0 rfl rfl (vp_in_nI hlj (by decide)) d_Mo_merge_120 ?_
                rw [hcj]
                refine lv_aload_n hx hb d_Mo_merge_121 rfl (lv_at hl 0 rfl) ?_
                refine z_get S zm_cls zm_in (hP 0 _ rfl) 11 (by decide) kg_437 (Or.inl rfl) rfl d_Mo_merge_122 ?_
                refine lv_iload_n hx hb d_Mo_merge_125 rfl (lv_at hl 1 rfl) ?_
                refine va_iald hx hb hK.1 hP 6 0 rfl rfl (vp_in_nI hli (by decide)) d_Mo_merge_126 ?_
                rw [hci]
                refine lv_icmp_le (tgt := 139) hx hb d_Mo_merge_127 (by decide) (fun c_10 => ?_) (fun c_10 => ?_)
                · refine lv_aload_n hx hb d_Mo_merge_139 rfl (lv_at hl 0 rfl) ?_
                  refine z_get S zm_cls zm_in (hP 0 _ rfl) 11 (by decide) kg_437 (Or.inl rfl) rfl d_Mo_merge_140 ?_
                  refine lv_iload_n hx hb d_Mo_merge_143 rfl (lv_at hl 1 rfl) ?_
                  refine va_iald hx hb hK.1 hP 6 0 rfl rfl (vp_in_nI hli (by decide)) d_Mo_merge_144 ?_
                  rw [hci]
                  refine va_iast hx hb hK.1 hP hD hS 6 0 rfl rfl (vp_in_nI hli (by decide)) d_Mo_merge_145 (fun H locs hP hD hS => ?_)
                  rw [hci] at hP hD
                  have hP : va_P G.1 classes (wm G mo a1 a2 a3 a4 a5 a6 a7 dy (nI n) ams sp fe la ko (upd am i ((am i) + (am j))) (upd lf i ((lf i) + (lf j))) fr (upd pt i ((pt i) + (pt j))) (upd so i (so i)) gn) H := hP
                  have hD : va_D (va_A (wm G mo a1 a2 a3 a4 a5 a6 a7 dy (nI n) ams sp fe la ko am lf fr pt so gn) s.heap.size) (wm G mo a1 a2 a3 a4 a5 a6 a7 dy (nI n) ams sp fe la ko (upd am i ((am i) + (am j))) (upd lf i ((lf i) + (lf j))) fr (upd pt i ((pt i) + (pt j))) (upd so i (so i)) gn) := hD
                  refine lv_aload_n hx hb d_Mo_merge_146 rfl (lv_at hl 0 rfl) ?_
                  refine z_get S zm_cls zm_in (hP 0 _ rfl) 12 (by decide) kg_438 (Or.inl rfl) rfl d_Mo_merge_147 ?_
                  refine lv_iload_n hx hb d_Mo_merge_150 rfl (lv_at hl 2 rfl) ?_
                  refine lv_iconst (v := 1) hx hb d_Mo_merge_151 (by decide) ?_
                  refine va_zast hx hb hK.1 hP hD hS 7 1 rfl rfl (vp_in_nI hlj (by decide)) d_Mo_merge_152 (fun H locs hP hD hS => ?_)
                  rw [hcj, nar1] at hP hD
                  have hP : va_P G.1 classes (wm G mo a1 a2 a3 a4 a5 a6 a7 dy (nI n) ams sp fe la ko (upd am i ((am i) + (am j))) (upd lf i ((lf i) + (lf j))) fr (upd pt i ((pt i) + (pt j))) (upd so i (so i)) (upd gn j 1)) H := hP
                  have hD : va_D (va_A (wm G mo a1 a2 a3 a4 a5 a6 a7 dy (nI n) ams sp fe la ko am lf fr pt so gn) s.heap.size) (wm G mo a1 a2 a3 a4 a5 a6 a7 dy (nI n) ams sp fe la ko (upd am i ((am i) + (am j))) (upd lf i ((lf i) + (lf j))) fr (upd pt i ((pt i) + (pt j))) (upd so i (so i)) (upd gn j 1)) := hD
                  refine lv_aload_n hx hb d_Mo_merge_153 rfl (lv_at hl 0 rfl) ?_
                  refine z_get S zm_cls zm_in (hP 0 _ rfl) 7 (by decide) kg_433 (Or.inl rfl) rfl d_Mo_merge_154 ?_
                  refine lv_iload_n hx hb d_Mo_merge_157 rfl (lv_at hl 1 rfl) ?_
                  refine va_iald hx hb hK.1 hP 2 0 rfl rfl (vp_in_nI hli (by decide)) d_Mo_merge_158 ?_
                  rw [hci, pk_us]
                  exact z_iret (v := (am i) + (am j)) (tys := none) S hr hlk rfl (OF.mk hP hD hS (by first | rfl | simp only [mMgR, mMgA, mMgL, mMgT, mMgO, mMgG, hvk, hwk, c_7, eq_true c_8, eq_true c_9, eq_true c_10, ↓reduceIte]) (by first | rfl | simp only [mMgR, mMgA, mMgL, mMgT, mMgO, mMgG, hvk, hwk, c_7, eq_true c_8, eq_true c_9, eq_true c_10, ↓reduceIte])) hS.2.2 d_Mo_merge_159
                · refine lv_aload_n hx hb d_Mo_merge_130 rfl (lv_at hl 0 rfl) ?_
                  refine z_get S zm_cls zm_in (hP 0 _ rfl) 11 (by decide) kg_437 (Or.inl rfl) rfl d_Mo_merge_131 ?_
                  refine lv_iload_n hx hb d_Mo_merge_134 rfl (lv_at hl 2 rfl) ?_
                  refine va_iald hx hb hK.1 hP 6 0 rfl rfl (vp_in_nI hlj (by decide)) d_Mo_merge_135 ?_
                  rw [hcj]
                  refine lv_goto (tgt := 145) hx hb d_Mo_merge_136 (by decide) ?_
                  refine va_iast hx hb hK.1 hP hD hS 6 0 rfl rfl (vp_in_nI hli (by decide)) d_Mo_merge_145 (fun H locs hP hD hS => ?_)
                  rw [hci] at hP hD
                  have hP : va_P G.1 classes (wm G mo a1 a2 a3 a4 a5 a6 a7 dy (nI n) ams sp fe la ko (upd am i ((am i) + (am j))) (upd lf i ((lf i) + (lf j))) fr (upd pt i ((pt i) + (pt j))) (upd so i (so j)) gn) H := hP
                  have hD : va_D (va_A (wm G mo a1 a2 a3 a4 a5 a6 a7 dy (nI n) ams sp fe la ko am lf fr pt so gn) s.heap.size) (wm G mo a1 a2 a3 a4 a5 a6 a7 dy (nI n) ams sp fe la ko (upd am i ((am i) + (am j))) (upd lf i ((lf i) + (lf j))) fr (upd pt i ((pt i) + (pt j))) (upd so i (so j)) gn) := hD
                  refine lv_aload_n hx hb d_Mo_merge_146 rfl (lv_at hl 0 rfl) ?_
                  refine z_get S zm_cls zm_in (hP 0 _ rfl) 12 (by decide) kg_438 (Or.inl rfl) rfl d_Mo_merge_147 ?_
                  refine lv_iload_n hx hb d_Mo_merge_150 rfl (lv_at hl 2 rfl) ?_
                  refine lv_iconst (v := 1) hx hb d_Mo_merge_151 (by decide) ?_
                  refine va_zast hx hb hK.1 hP hD hS 7 1 rfl rfl (vp_in_nI hlj (by decide)) d_Mo_merge_152 (fun H locs hP hD hS => ?_)
                  rw [hcj, nar1] at hP hD
                  have hP : va_P G.1 classes (wm G mo a1 a2 a3 a4 a5 a6 a7 dy (nI n) ams sp fe la ko (upd am i ((am i) + (am j))) (upd lf i ((lf i) + (lf j))) fr (upd pt i ((pt i) + (pt j))) (upd so i (so j)) (upd gn j 1)) H := hP
                  have hD : va_D (va_A (wm G mo a1 a2 a3 a4 a5 a6 a7 dy (nI n) ams sp fe la ko am lf fr pt so gn) s.heap.size) (wm G mo a1 a2 a3 a4 a5 a6 a7 dy (nI n) ams sp fe la ko (upd am i ((am i) + (am j))) (upd lf i ((lf i) + (lf j))) fr (upd pt i ((pt i) + (pt j))) (upd so i (so j)) (upd gn j 1)) := hD
                  refine lv_aload_n hx hb d_Mo_merge_153 rfl (lv_at hl 0 rfl) ?_
                  refine z_get S zm_cls zm_in (hP 0 _ rfl) 7 (by decide) kg_433 (Or.inl rfl) rfl d_Mo_merge_154 ?_
                  refine lv_iload_n hx hb d_Mo_merge_157 rfl (lv_at hl 1 rfl) ?_
                  refine va_iald hx hb hK.1 hP 2 0 rfl rfl (vp_in_nI hli (by decide)) d_Mo_merge_158 ?_
                  rw [hci, pk_us]
                  exact z_iret (v := (am i) + (am j)) (tys := none) S hr hlk rfl (OF.mk hP hD hS (by first | rfl | simp only [mMgR, mMgA, mMgL, mMgT, mMgO, mMgG, hvk, hwk, c_7, eq_true c_8, eq_true c_9, c_10, ↓reduceIte]) (by first | rfl | simp only [mMgR, mMgA, mMgL, mMgT, mMgO, mMgG, hvk, hwk, c_7, eq_true c_8, eq_true c_9, c_10, ↓reduceIte])) hS.2.2 d_Mo_merge_159
              · refine lv_bipush (v := (-4)) hx hb d_Mo_merge_62 (by decide) ?_
                exact z_iret (v := (-4)) (tys := none) S hr hlk rfl (OF.mk hP hD hS (by first | rfl | simp only [mMgR, mMgA, mMgL, mMgT, mMgO, mMgG, hvk, hwk, c_7, eq_true c_8, c_9, ↓reduceIte]) (by first | rfl | simp only [mMgR, mMgA, mMgL, mMgT, mMgO, mMgG, hvk, hwk, c_7, eq_true c_8, c_9, ↓reduceIte])) hS.2.2 d_Mo_merge_64
            · refine lv_bipush (v := (-3)) hx hb d_Mo_merge_41 (by decide) ?_
              exact z_iret (v := (-3)) (tys := none) S hr hlk rfl (OF.mk hP hD hS (by first | rfl | simp only [mMgR, mMgA, mMgL, mMgT, mMgO, mMgG, hvk, hwk, c_7, c_8, ↓reduceIte]) (by first | rfl | simp only [mMgR, mMgA, mMgL, mMgT, mMgO, mMgG, hvk, hwk, c_7, c_8, ↓reduceIte])) hS.2.2 d_Mo_merge_43
          · refine lv_bipush (v := (-2)) hx hb d_Mo_merge_23 (by decide) ?_
            exact z_iret (v := (-2)) (tys := none) S hr hlk rfl (OF.mk hP hD hS (by first | rfl | simp only [mMgR, mMgA, mMgL, mMgT, mMgO, mMgG, hvk, hwk, eq_true c_7, ↓reduceIte]) (by first | rfl | simp only [mMgR, mMgA, mMgL, mMgT, mMgO, mMgG, hvk, hwk, eq_true c_7, ↓reduceIte])) hS.2.2 d_Mo_merge_25
        · exact absurd c_6 (by decide)
set_option maxHeartbeats 4000000 in
theorem c_Mo_init (l : Launch) (G : ZG) (sz mo : Nat) : ZK l G y_Mo_init 1 [.ref mo] (OW G sz [(mo, .inr (9, [.int 0, .int 0, .int 0, .int 0, .int 0, .int 0, .null, .null, .null, .null, .null, .null, .null]))]) (ZA none (fun H H1 => ∃ a1 a2 a3 a4 a5 a6 a7 : Nat, OF G sz [(mo, .inr (9, [.int 0, .int 0, .int 0, .int 0, .int 0, .int 0, .null, .null, .null, .null, .null, .null, .null]))] (wm G mo a1 a2 a3 a4 a5 a6 a7 0 (nI 0) 0 0 0 0 (fun _ => 0) (fun _ => 0) (fun _ => 0) (fun _ => 0) (fun _ => 0) (fun _ => 0) (fun _ => 0)) H H1)) 7 280 (va_A [(mo, .inr (9, [.int 0, .int 0, .int 0, .int 0, .int 0, .int 0, .null, .null, .null, .null, .null, .null, .null]))] sz) := by
  refine ZK.ofBody (cc := b_Mo_init) (maxL := 1) (ret := none) kg_424 (by decide) (by decide) (Nat.le_of_ble_eq_true rfl) ?_
  intro p e s m below meth c S hr hlk hnm hp ls hl
  obtain ⟨⟨hx, hb, hml, hown, hts⟩, hK⟩ := id S
  obtain ⟨hsz, hP, hD⟩ := hp
  subst hsz
  have hD := hD.self (sz := s.heap.size)
  have hS : va_S (va_A [(mo, .inr (9, [.int 0, .int 0, .int 0, .int 0, .int 0, .int 0, .null, .null, .null, .null, .null, .null, .null]))] s.heap.size) s.heap s.heap [] := va_S.rf
  have hA : ∀ q : Nat, s.heap.size ≤ q → (va_A [(mo, .inr (9, [.int 0, .int 0, .int 0, .int 0, .int 0, .int 0, .null, .null, .null, .null, .null, .null, .null]))] s.heap.size) q := fun q h => Or.inr h
  have hl : lv_has ls 1 [(0, .ref mo)] := hl
  refine lv_aload_n hx hb d_Mo_init_0 rfl (lv_at hl 0 rfl) ?_
  refine W.objInit hx hb hown (hts _ kg_425) (hts _ kg_17) (hts _ kg_18) rfl (by rw [hml]; exact hl.1) rfl d_Mo_init_1 (Nat.le_of_ble_eq_true rfl) (Nat.le_of_ble_eq_true rfl) ?_
  refine W.eq (g2 := F0 m 4 ls []) rfl ?_
  refine lv_aload_n hx hb d_Mo_init_4 rfl (lv_at hl 0 rfl) ?_
  refine lv_bipush (v := 40) hx hb d_Mo_init_5 (by decide) ?_
  refine va_newa (atype := .int) (ty := .int) (a0 := (40, .inl (fun _ => 0))) hx hb (hts _ kg_466) rfl hK.1 hP hD hS hA (fun _ => rfl) (by decide) (by decide) (Nat.le_of_ble_eq_true rfl) (Nat.le_of_ble_eq_true rfl) (Nat.le_of_ble_eq_true rfl) d_Mo_init_7 (fun a1 cA H hKn hP hD hS => ?_)
  have e9 := arr_i hK hKn
  subst e9
  clear hKn
  refine z_putF (x := .ref a1) (ty := .array .int) S zm_cls zm_in zm_ty zm_nm hP hD hS 0 rfl 6 (by decide) kg_432 rfl rfl hnm rfl (by decide +kernel) rfl rfl (Nat.le_of_ble_eq_true rfl) d_Mo_init_9 (fun H locs hP hD hS => ?_)
  have hP : va_P G.1 classes ([(mo, .inr (9, [.int 0, .int 0, .int 0, .int 0, .int 0, .int 0, .ref a1, .null, .null, .null, .null, .null, .null])), (a1, .inl (G.2.1, 40, .inl (fun _ => 0)))]) H := hP
  have hD : va_D (va_A [(mo, .inr (9, [.int 0, .int 0, .int 0, .int 0, .int 0, .int 0, .null, .null, .null, .null, .null, .null, .null]))] s.heap.size) ([(mo, .inr (9, [.int 0, .int 0, .int 0, .int 0, .int 0, .int 0, .ref a1, .null, .null, .null, .null, .null, .null])), (a1, .inl (G.2.1, 40, .inl (fun _ => 0)))]) := hD
  refine lv_aload_n hx hb d_Mo_init_12 rfl (lv_at hl 0 rfl) ?_
  refine lv_bipush (v := 40) hx hb d_Mo_init_13 (by decide) ?_
  refine va_newa (atype := .int) (ty := .int) (a0 := (40, .inl (fun _ => 0))) hx hb (hts _ kg_466) rfl hK.1 hP hD hS hA (fun _ => rfl) (by decide) (by decide) (Nat.le_of_ble_eq_true rfl) (Nat.le_of_ble_eq_true rfl) (Nat.le_of_ble_eq_true rfl) d_Mo_init_15 (fun a2 cA H hKn hP hD hS => ?_)
  have e9 := arr_i hK hKn
  subst e9
  clear hKn
  refine z_putF (x := .ref a2) (ty := .array .int) S zm_cls zm_in zm_ty zm_nm hP hD hS 0 rfl 7 (by decide) kg_433 rfl rfl hnm rfl (by decide +kernel) rfl rfl (Nat.le_of_ble_eq_true rfl) d_Mo_init_17 (fun H locs hP hD hS => ?_)
  have hP : va_P G.1 classes ([(mo, .inr (9, [.int 0, .int 0, .int 0, .int 0, .int 0, .int 0, .ref a1, .ref a2, .null, .null, .null, .null, .null])), (a1, .inl (G.2.1, 40, .inl (fun _ => 0))), (a2, .inl (G.2.1, 40, .inl (fun _ => 0)))]) H := hP
  have hD : va_D (va_A [(mo, .inr (9, [.int 0, .int 0, .int 0, .int 0, .int 0, .int 0, .null, .null, .null, .null, .null, .null, .null]))] s.heap.size) ([(mo, .inr (9, [.int 0, .int 0, .int 0, .int 0, .int 0, .int 0, .ref a1, .ref a2, .null, .null, .null, .null, .null])), (a1, .inl (G.2.1, 40, .inl (fun _ => 0))), (a2, .inl (G.2.1, 40, .inl (fun _ => 0)))]) := hD
  refine lv_aload_n hx hb d_Mo_init_20 rfl (lv_at hl 0 rfl) ?_
  refine lv_bipush (v := 40) hx hb d_Mo_init_21 (by decide) ?_
  refine va_newa (atype := .int) (ty := .int) (a0 := (40, .inl (fun _ => 0))) hx hb (hts _ kg_466) rfl hK.1 hP hD hS hA (fun _ => rfl) (by decide) (by decide) (Nat.le_of_ble_eq_true rfl) (Nat.le_of_ble_eq_true rfl) (Nat.le_of_ble_eq_true rfl) d_Mo_init_23 (fun a3 cA H hKn hP hD hS => ?_)
  have e9 := arr_i hK hKn
  subst e9
  clear hKn
  refine z_putF (x := .ref a3) (ty := .array .int) S zm_cls zm_in zm_ty zm_nm hP hD hS 0 rfl 8 (by decide) kg_434 rfl rfl hnm rfl (by decide +kernel) rfl rfl (Nat.le_of_ble_eq_true rfl) d_Mo_init_25 (fun H locs hP hD hS => ?_)
  have hP : va_P G.1 classes ([(mo, .inr (9, [.int 0, .int 0, .int 0, .int 0, .int 0, .int 0, .ref a1, .ref a2, .ref a3, .null, .null, .null, .null])), (a1, .inl (G.2.1, 40, .inl (fun _ => 0))), (a2, .inl (G.2.1, 40, .inl (fun _ => 0))), (a3, .inl (G.2.1, 40, .inl (fun _ => 0)))]) H := hP
  have hD : va_D (va_A [(mo, .inr (9, [.int 0, .int 0, .int 0, .int 0, .int 0, .int 0, .null, .null, .null, .null, .null, .null, .null]))] s.heap.size) ([(mo, .inr (9, [.int 0, .int 0, .int 0, .int 0, .int 0, .int 0, .ref a1, .ref a2, .ref a3, .null, .null, .null, .null])), (a1, .inl (G.2.1, 40, .inl (fun _ => 0))), (a2, .inl (G.2.1, 40, .inl (fun _ => 0))), (a3, .inl (G.2.1, 40, .inl (fun _ => 0)))]) := hD
  refine lv_aload_n hx hb d_Mo_init_28 rfl (lv_at hl 0 rfl) ?_
  refine lv_bipush (v := 40) hx hb d_Mo_init_29 (by decide) ?_
  refine va_newa (atype := .int) (ty := .int) (a0 := (40, .inl (fun _ => 0))) hx hb (hts _ kg_466) rfl hK.1 hP hD hS hA (fun _ => rfl) (by decide) (by decide) (Nat.le_of_ble_eq_true rfl) (Nat.le_of_ble_eq_true rfl) (Nat.le_of_ble_eq_true rfl) d_Mo_init_31 (fun a4 cA H hKn hP hD hS => ?_)
  have e9 := arr_i hK hKn
  subst e9
  clear hKn
  refine z_putF (x := .ref a4) (ty := .array .int) S zm_cls zm_in zm_ty zm_nm hP hD hS 0 rfl 9 (by decide) kg_435 rfl rfl hnm rfl (by decide +kernel) rfl rfl (Nat.le_of_ble_eq_true rfl) d_Mo_init_33 (fun H locs hP hD hS => ?_)
  have hP : va_P G.1 classes ([(mo, .inr (9, [.int 0, .int 0, .int 0, .int 0, .int 0, .int 0, .ref a1, .ref a2, .ref a3, .ref a4, .null, .null, .null])), (a1, .inl (G.2.1, 40, .inl (fun _ => 0))), (a2, .inl (G.2.1, 40, .inl (fun _ => 0))), (a3, .inl (G.2.1, 40, .inl (fun _ => 0))), (a4, .inl (G.2.1, 40, .inl (fun _ => 0)))]) H := hP
  have hD : va_D (va_A [(mo, .inr (9, [.int 0, .int 0, .int 0, .int 0, .int 0, .int 0, .null, .null, .null, .null, .null, .null, .null]))] s.heap.size) ([(mo, .inr (9, [.int 0, .int 0, .int 0, .int 0, .int 0, .int 0, .ref a1, .ref a2, .ref a3, .ref a4, .null, .null, .null])), (a1, .inl (G.2.1, 40, .inl (fun _ => 0))), (a2, .inl (G.2.1, 40, .inl (fun _ => 0))), (a3, .inl (G.2.1, 40, .inl (fun _ => 0))), (a4, .inl (G.2.1, 40, .inl (fun _ => 0)))]) := hD
  refine lv_aload_n hx hb d_Mo_init_36 rfl (lv_at hl 0 rfl) ?_
  refine lv_bipush (v := 40) hx hb d_Mo_init_37 (by decide) ?_
  refine va_newa (atype := .int) (ty := .int) (a0 := (40, .inl (fun _ => 0))) hx hb (hts _ kg_466) rfl hK.1 hP hD hS hA (fun _ => rfl) (by decide) (by decide) (Nat.le_of_ble_eq_true rfl) (Nat.le_of_ble_eq_true rfl) (Nat.le_of_ble_eq_true rfl) d_Mo_init_39 (fun a5 cA H hKn hP hD hS => ?_)
  have e9 := arr_i hK hKn
  subst e9
  clear hKn
  refine z_putF (x := .ref a5) (ty := .array .int) S zm_cls zm_in zm_ty zm_nm hP hD hS 0 rfl 10 (by decide) kg_436 rfl rfl hnm rfl (by decide +kernel) rfl rfl (Nat.le_of_ble_eq_true rfl) d_Mo_init_41 (fun H locs hP hD hS => ?_)
  have hP : va_P G.1 classes ([(mo, .inr (9, [.int 0, .int 0, .int 0, .int 0, .int 0, .int 0, .ref a1, .ref a2, .ref a3, .ref a4, .ref a5, .null, .null])), (a1, .inl (G.2.1, 40, .inl (fun _ => 0))), (a2, .inl (G.2.1, 40, .inl (fun _ => 0))), (a3, .inl (G.2.1, 40, .inl (fun _ => 0))), (a4, .inl (G.2.1, 40, .inl (fun _ => 0))), (a5, .inl (G.2.1, 40, .inl (fun _ => 0)))]) H := hP
  have hD : va_D (va_A [(mo, .inr (9, [.int 0, .int 0, .int 0, .int 0, .int 0, .int 0, .null, .null, .null, .null, .null, .null, .null]))] s.heap.size) ([(mo, .inr (9, [.int 0, .int 0, .int 0, .int 0, .int 0, .int 0, .ref a1, .ref a2, .ref a3, .ref a4, .ref a5, .null, .null])), (a1, .inl (G.2.1, 40, .inl (fun _ => 0))), (a2, .inl (G.2.1, 40, .inl (fun _ => 0))), (a3, .inl (G.2.1, 40, .inl (fun _ => 0))), (a4, .inl (G.2.1, 40, .inl (fun _ => 0))), (a5, .inl (G.2.1, 40, .inl (fun _ => 0)))]) := hD
  refine lv_aload_n hx hb d_Mo_init_44 rfl (lv_at hl 0 rfl) ?_
  refine lv_bipush (v := 40) hx hb d_Mo_init_45 (by decide) ?_
  refine va_newa (atype := .int) (ty := .int) (a0 := (40, .inl (fun _ => 0))) hx hb (hts _ kg_466) rfl hK.1 hP hD hS hA (fun _ => rfl) (by decide) (by decide) (Nat.le_of_ble_eq_true rfl) (Nat.le_of_ble_eq_true rfl) (Nat.le_of_ble_eq_true rfl) d_Mo_init_47 (fun a6 cA H hKn hP hD hS => ?_)
  have e9 := arr_i hK hKn
  subst e9
  clear hKn
  refine z_putF (x := .ref a6) (ty := .array .int) S zm_cls zm_in zm_ty zm_nm hP hD hS 0 rfl 11 (by decide) kg_437 rfl rfl hnm rfl (by decide +kernel) rfl rfl (Nat.le_of_ble_eq_true rfl) d_Mo_init_49 (fun H locs hP hD hS => ?_)
  have hP : va_P G.1 classes ([(mo, .inr (9, [.int 0, .int 0, .int 0, .int 0, .int 0, .int 0, .ref a1, .ref a2, .ref a3, .ref a4, .ref a5, .ref a6, .null])), (a1, .inl (G.2.1, 40, .inl (fun _ => 0))), (a2, .inl (G.2.1, 40, .inl (fun _ => 0))), (a3, .inl (G.2.1, 40, .inl (fun _ => 0))), (a4, .inl (G.2.1, 40, .inl (fun _ => 0))), (a5, .inl (G.2.1, 40, .inl (fun _ => 0))), (a6, .inl (G.2.1, 40, .inl (fun _ => 0)))]) H := hP
  have hD : va_D (va_A [(mo, .inr (9, [.int 0, .int 0, .int 0, .int 0, .int 0, .int 0, .null, .null, .null, .null, .null, .null, .null]))] s.heap.size) ([(mo, .inr (9, [.int 0, .int 0, .int 0, .int 0, .int 0, .int 0, .ref a1, .ref a2, .ref a3, .ref a4, .ref a5, .ref a6, .null])), (a1, .inl (G.2.1, 40, .inl (fun _ => 0))), (a2, .inl (G.2.1, 40, .inl (fun _ => 0))), (a3, .inl (G.2.1, 40, .inl (fun _ => 0))), (a4, .inl (G.2.1, 40, .inl (fun _ => 0))), (a5, .inl (G.2.1, 40, .inl (fun _ => 0))), (a6, .inl (G.2.1, 40, .inl (fun _ => 0)))]) := hD
  refine lv_aload_n hx hb d_Mo_init_52 rfl (lv_at hl 0 rfl) ?_
  refine lv_bipush (v := 40) hx hb d_Mo_init_53 (by decide) ?_
  refine va_newa (atype := .boolean) (ty := .boolean) (a0 := (40, .inl (fun _ => 0))) hx hb (hts _ kg_467) rfl hK.1 hP hD hS hA (fun _ => rfl) (by decide) (by decide) (Nat.le_of_ble_eq_true rfl) (Nat.le_of_ble_eq_true rfl) (Nat.le_of_ble_eq_true rfl) d_Mo_init_55 (fun a7 cA H hKn hP hD hS => ?_)
  have e9 := arr_z hK hKn
  subst e9
  clear hKn
  refine z_putF (x := .ref a7) (ty := .array .boolean) S zm_cls zm_in zm_ty zm_nm hP hD hS 0 rfl 12 (by decide) kg_438 rfl rfl hnm rfl (by decide +kernel) rfl rfl (Nat.le_of_ble_eq_true rfl) d_Mo_init_57 (fun H locs hP hD hS => ?_)
  have hP : va_P G.1 classes (wm G mo a1 a2 a3 a4 a5 a6 a7 0 (nI 0) 0 0 0 0 (fun _ => 0) (fun _ => 0) (fun _ => 0) (fun _ => 0) (fun _ => 0) (fun _ => 0) (fun _ => 0)) H := hP
  have hD : va_D (va_A [(mo, .inr (9, [.int 0, .int 0, .int 0, .int 0, .int 0, .int 0, .null, .null, .null, .null, .null, .null, .null]))] s.heap.size) (wm G mo a1 a2 a3 a4 a5 a6 a7 0 (nI 0) 0 0 0 0 (fun _ => 0) (fun _ => 0) (fun _ => 0) (fun _ => 0) (fun _ => 0) (fun _ => 0) (fun _ => 0)) := hD
  exact z_vret S hr hlk ⟨rfl, a1, a2, a3, a4, a5, a6, a7, (OF.mk (v := none) hP hD hS rfl rfl).2⟩ hS.2.2 d_Mo_init_60
end
section
-- ===== the plain law: office and reference answer alike =====
theorem nI0 : nI 0 = 0 := by decide +kernel
theorem nI1 : nI 1 = 1 := by decide +kernel
theorem nI2 : nI 2 = 2 := by decide +kernel
theorem nI3 : nI 3 = 3 := by decide +kernel
theorem nI4 : nI 4 = 4 := by decide +kernel
theorem nI5 : nI 5 = 5 := by decide +kernel
theorem nI6 : nI 6 = 6 := by decide +kernel
theorem nI7 : nI 7 = 7 := by decide +kernel
theorem ss (a b : Int32) : a - (a - b) = b := by grind
theorem rd_eq (lf : Int32) : rdV lf = lf / 10 * 10 := ss _ _
theorem dat_k {k : Nat} (hk : k < 8) : mDated (nI k) = isD k := zk_all (P := fun k => mDated (nI k) = isD k) (by decide +kernel) (by decide +kernel) (by decide +kernel) (by decide +kernel) (by decide +kernel) (by decide +kernel) (by decide +kernel) (by decide +kernel) hk
theorem sea_k {k : Nat} (hk : k < 8) : nI k < 5 ↔ isS k = 0 := zk_all (P := fun k => nI k < 5 ↔ isS k = 0) (by decide +kernel) (by decide +kernel) (by decide +kernel) (by decide +kernel) (by decide +kernel) (by decide +kernel) (by decide +kernel) (by decide +kernel) hk
theorem pts_k {k : Nat} (hk : k < 8) : mPts (nI k) = (if 6 ≤ k then 1 else 0) := zk_all (P := fun k => mPts (nI k) = (if 6 ≤ k then 1 else 0)) (by decide +kernel) (by decide +kernel) (by decide +kernel) (by decide +kernel) (by decide +kernel) (by decide +kernel) (by decide +kernel) (by decide +kernel) hk
theorem ld_k {k : Nat} (hk : k < 8) (fr : Int32) : mLd fr (nI k) = ldV k fr := by
  match k, hk with
  | 0, _ => simp [mLd, ldV, nI0]
  | 1, _ => simp [mLd, ldV, nI1]
  | 2, _ => simp [mLd, ldV, nI2]
  | 3, _ => simp [mLd, ldV, nI3]
  | 4, _ => simp [mLd, ldV, nI4]
  | 5, _ => simp [mLd, ldV, nI5]
  | 6, _ => simp [mLd, ldV, nI6]
  | 7, _ => simp [mLd, ldV, nI7]
theorem val_k {k : Nat} (hk : k < 8) (fr lf ex t : Int32) : mVal (nI k) fr lf (ptV k ex) t = wV k fr lf ex t := by
  match k, hk with
  | 0, _ => simp [mVal, mVal2, mDated, wV, nI0]
  | 1, _ => simp [mVal, mVal2, mDated, wV, nI1]
  | 2, _ =>
    simp only [mVal, mVal2, mDated, wV, swV, ovV, ldV, mLd, nI2]
    by_cases h : t ≤ fr + 90 <;> simp [h]
  | 3, _ =>
    simp only [mVal, mVal2, mDated, wV, swV, ovV, ldV, mLd, nI3]
    by_cases h : t ≤ fr + 30 <;> simp [h]
  | 4, _ => simp [mVal, mVal2, mVal3, mDated, mPts, wV, nI4, rd_eq]
  | 5, _ => simp [mVal, mVal2, mVal3, mDated, mPts, wV, nI5, rd_eq]
  | 6, _ => simp [mVal, mVal2, mVal3, mDated, mPts, wV, nI6, rd_eq, ptV]
  | 7, _ => simp [mVal, mVal2, mVal3, mDated, mPts, wV, nI7, rd_eq, ptV]
theorem sl_b (fr am lf : Int32) : lf * 961 + fr * 31 + am = sbV fr am lf := by unfold sbV; grind
theorem sl_k {k : Nat} (hk : k < 8) (fr am lf ex : Int32) : mSl (nI k) fr am lf (ptV k ex) = slV k fr am lf ex := by
  match k, hk with
  | 0, _ => simp [mSl, mSl2, mDated, slV, nI0, sl_b]
  | 1, _ => simp [mSl, mSl2, mDated, slV, nI1, sl_b]
  | 2, _ => simp [mSl, mSl2, mDated, slV, nI2, sl_b, mLd, ldV]
  | 3, _ => simp [mSl, mSl2, mDated, slV, nI3, sl_b, mLd, ldV]
  | 4, _ => simp [mSl, mSl2, mDated, slV, nI4, sl_b]
  | 5, _ => simp [mSl, mSl2, mDated, slV, nI5, sl_b]
  | 6, _ => simp [mSl, mSl2, mDated, slV, nI6, sl_b]
  | 7, _ => simp [mSl, mSl2, mDated, slV, nI7, sl_b, ptV]
/-- what holds of a paper by itself -/
def okV (v : Pv) : Prop := v.1 < 8 ∧ (∃ t : Nat, t ≤ 20000 ∧ v.2.1 = nI t) ∧ (v.1 = 3 → ∃ u : Nat, u ≤ 20001 ∧ v.2.2.2.2 + 1 = nI u) ∧ (6 ≤ v.1 → ∃ e a b : Nat, v.2.2.2.2 = nI e ∧ v.2.2.2.1 = nI a ∧ v.2.2.1 = nI b ∧ 100 * e + a ≤ b ∧ b ≤ 100000)
def RelV (v : Pv) (ko am lf fr pt so : Int32) : Prop := ko = nI v.1 ∧ am = v.2.2.1 ∧ lf = v.2.2.2.1 ∧ fr = v.2.1 ∧ pt = ptV v.1 v.2.2.2.2 ∧ (v.1 = 3 → so = v.2.2.2.2 + 1)
def Inv (n : Nat) (gn : Nat → Bool) (pv : Nat → Pv) (td : Int32) (ko am lf fr pt so gM : Nat → Int32) : Prop :=
  n ≤ 40 ∧ (∃ t : Nat, t ≤ 20000 ∧ td = nI t) ∧ (∀ i, i < n → okV (pv i) ∧ RelV (pv i) (ko i) (am i) (lf i) (fr i) (pt i) (so i) ∧ gM i = if gn i = true then 1 else 0) ∧ ∀ i, n ≤ i → i < 40 → gn i = false ∧ pt i = 0 ∧ so i = 0 ∧ gM i = 0
theorem in_range {g : Int32} {M : Int32} {n : Nat} (hM : M.toInt = n) (h : ¬ inV g 1 M = 0) : ∃ j : Nat, 1 ≤ j ∧ j ≤ n ∧ g = nI j := by
  unfold inV at h
  by_cases h1 : g < 1
  · simp [h1] at h
  · by_cases h2 : M < g
    · simp [h1, h2] at h
    · have h0 : ¬ g < 0 := by
        intro h3
        apply h1
        rw [Int32.lt_iff_toInt_lt] at h3 ⊢
        have e0 : (0 : Int32).toInt = 0 := by decide +kernel
        have e1 : (1 : Int32).toInt = 1 := by decide +kernel
        omega
      obtain ⟨j, hj, rfl⟩ := nI_of h0
      rw [Int32.lt_iff_toInt_lt] at h1 h2
      rw [nI_toInt hj] at h1 h2
      have e1 : (1 : Int32).toInt = 1 := by decide +kernel
      exact ⟨j, by omega, by omega, rfl⟩
theorem in_range0 {g : Int32} {M : Int32} {n : Nat} (hM : M.toInt = n) (h : ¬ inV g 0 M = 0) : ∃ j : Nat, j ≤ n ∧ g = nI j := by
  unfold inV at h
  by_cases h1 : g < 0
  · simp [h1] at h
  · by_cases h2 : M < g
    · simp [h1, h2] at h
    · obtain ⟨j, hj, rfl⟩ := nI_of h1
      rw [Int32.lt_iff_toInt_lt] at h2
      rw [nI_toInt hj] at h2
      exact ⟨j, by omega, rfl⟩
theorem fb_nI {g : Nat} (hg : g ≤ 100000) : fbV (nI g) = nI (g / 50 + 1) := by
  unfold fbV
  have e0 : (50 : Int32) = nI 50 := by decide +kernel
  rw [e0, pk_div (by omega) (by decide) (by decide), nI_1]
theorem fee_k {k : Nat} (hk : k < 8) {ex : Int32} {g : Nat} (hg : g ≤ 100000) (hex : 6 ≤ k → ∃ e : Nat, ex = nI e ∧ e ≤ 1000) : mFee (nI k) (ptV k ex) (nI g) = fV k ex (nI g) := by
  match k, hk with
  | 0, _ => simp [mFee, fV, fbV, nI0]
  | 1, _ => simp [mFee, fV, fbV, nI1]
  | 2, _ => simp [mFee, fV, fbV, nI2]
  | 3, _ => simp [mFee, fV, fbV, nI3]
  | 4, _ => simp [mFee, fV, fbV, nI4]
  | 5, _ => simp [mFee, fV, fbV, nI5]
  | 6, _ => simp [mFee, fV, fbV, nI6]
  | 7, _ =>
    obtain ⟨e, rfl, he⟩ := hex (by decide)
    have hb := fb_nI hg
    have hb' : nI g / 50 + 1 = nI (g / 50 + 1) := hb
    simp only [mFee, fV, ptV, nI7, Int32.zero_add, hb, hb']
    have e7 : ¬ (7 : Int32) = 3 := by decide
    rw [if_neg e7, if_pos trivial]
    by_cases h : g / 50 + 1 ≤ e
    · rw [if_pos (nI_le h (by omega))]
      by_cases h2 : g / 50 + 1 = e
      · rw [h2]; simp
      · rw [if_neg]
        intro h3
        have h4 := pk_sneg (a := g / 50 + 1) (b := e) (by omega) (by omega)
        rw [Int32.lt_iff_toInt_lt] at h4
        rw [Int32.le_iff_toInt_le] at h3
        omega
    · rw [if_neg (by rw [nI_leI (by omega) (by omega)]; exact h), pk_sub (by omega), if_pos (nI_pos' (by omega))]
/-- fees of a voucher with points -/
theorem fee_N {k : Nat} (hk : k < 8) (hk6 : 6 ≤ k) {e g : Nat} (hg : g ≤ 100000) (he : e ≤ 1000) : ∃ f : Nat, f ≤ 2001 ∧ fV k (nI e) (nI g) = nI f := by
  have hb := fb_nI hg
  rcases (show k = 6 ∨ k = 7 by omega) with rfl | rfl
  · exact ⟨g / 50 + 1, by omega, hb⟩
  · simp only [fV, Int32.zero_add, hb]
    by_cases h : g / 50 + 1 < e
    · refine ⟨0, by omega, ?_⟩
      rw [if_neg, nI0]
      intro h3
      have h4 := pk_sneg (a := g / 50 + 1) (b := e) (by omega) h
      rw [Int32.lt_iff_toInt_lt] at h4
      rw [Int32.le_iff_toInt_le] at h3
      omega
    · refine ⟨g / 50 + 1 - e, by omega, ?_⟩
      rw [pk_sub (by omega), if_pos (nI_pos' (by omega))]
section PLAIN
variable {n : Nat} {gn : Nat → Bool} {pv : Nat → Pv} {td : Int32} {ko am lf fr pt so gM : Nat → Int32}
theorem Inv.lk (h : Inv n gn pv td ko am lf fr pt so gM) (v : Int32) : lkI n (gB gM) v = lkI n gn v := by
  obtain ⟨h40, -, h3, -⟩ := h
  unfold lkI
  by_cases h1 : inV v 0 (nI n - 1) = 0
  · simp [h1]
  · obtain ⟨i, hi, rfl⟩ := inV_in h40 h1
    have hc : (nI i).toNatClampNeg = i := nI_clamp (by omega)
    have hg := (h3 i hi).2.2
    simp only [h1, if_false, hc, gB, hg]
    cases gn i <;> simp
theorem Inv.at (h : Inv n gn pv td ko am lf fr pt so gM) {v : Int32} {i : Nat} (hl : lkI n gn v = some i) : i < n ∧ v = nI i ∧ gn i = false := by
  rcases lk_cases h.1 gn v with h0 | ⟨j, h1, h2, h3, h4⟩
  · rw [h0] at hl; cases hl
  · rw [h4] at hl; cases hl; exact ⟨h1, h2, h3⟩
theorem Inv.value (h : Inv n gn pv td ko am lf fr pt so gM) (v day : Int32) : mValue n ko am lf fr pt so gM v day = oValue n gn pv v day := by
  unfold mValue oValue
  rw [h.lk]
  cases hl : lkI n gn v with
  | none => rfl
  | some i =>
    obtain ⟨⟨hk, -⟩, ⟨e1, -, e3, e4, e5, -⟩, -⟩ := h.2.2.1 i (h.at hl).1
    simp only [e1, e3, e4, e5, val_k hk]
theorem Inv.fee (h : Inv n gn pv td ko am lf fr pt so gM) (v g : Int32) : mFeeP n ko am lf fr pt so gM v g = oFee n gn pv v g := by
  unfold mFeeP oFee
  rw [h.lk]
  cases hl : lkI n gn v with
  | none => rfl
  | some i =>
    obtain ⟨⟨hk, -, -, h6⟩, ⟨e1, -, e3, e4, e5, -⟩, -⟩ := h.2.2.1 i (h.at hl).1
    by_cases hg : inV g 1 100000 = 0
    · simp [hg]
    · obtain ⟨j, -, hj, rfl⟩ := in_range (n := 100000) (by decide +kernel) hg
      simp only [hg, if_false, e1, e5]
      exact fee_k hk hj (fun q => by obtain ⟨e, a, b, w1, -, -, w4, w5⟩ := h6 q; exact ⟨e, w1, by omega⟩)
theorem Inv.seal (h : Inv n gn pv td ko am lf fr pt so gM) (v : Int32) : mSeal n ko am lf fr pt so gM v = oSeal n gn pv v := by
  unfold mSeal oSeal
  rw [h.lk]
  cases hl : lkI n gn v with
  | none => rfl
  | some i =>
    obtain ⟨⟨hk, -⟩, ⟨e1, e2, e3, e4, e5, -⟩, -⟩ := h.2.2.1 i (h.at hl).1
    simp only [e1, e2, e3, e4, e5, sl_k hk]
theorem Inv.mark (h : Inv n gn pv td ko am lf fr pt so gM) (v g : Int32) : mMark n ko am lf fr pt so gM v g = oMark n gn pv v g := by
  unfold mMark oMark
  rw [h.lk]
  cases hl : lkI n gn v with
  | none => rfl
  | some i =>
    obtain ⟨⟨hk, -⟩, ⟨e1, e2, e3, e4, e5, -⟩, -⟩ := h.2.2.1 i (h.at hl).1
    simp only [e1, e2, e3, e4, e5, sl_k hk, sea_k hk, Int32.mul_comm]
theorem Inv.days (h : Inv n gn pv td ko am lf fr pt so gM) (v day : Int32) : mDays n ko am lf fr pt so gM v day = oDays n gn pv v day := by
  unfold mDays oDays
  rw [h.lk]
  cases hl : lkI n gn v with
  | none => rfl
  | some i =>
    obtain ⟨⟨hk, ⟨t, ht, htr⟩, -⟩, ⟨e1, e2, e3, e4, e5, -⟩, -⟩ := h.2.2.1 i (h.at hl).1
    by_cases hg : inV day 0 20000 = 0
    · simp [hg]
    · obtain ⟨j, hj, rfl⟩ := in_range0 (n := 20000) (by decide +kernel) hg
      simp only [hg, if_false, e1, e4, dat_k hk, ld_k hk]
      by_cases hd : isD (pv i).1 = 0
      · simp [hd]
      · simp only [hd, if_false, dlV]
        obtain ⟨u, hu, hul⟩ : ∃ u : Nat, ldV (pv i).1 (pv i).2.1 = nI u ∧ u ≤ 20090 := by
          rcases isD_yes hk hd with h2 | h3
          · refine ⟨t + 90, ?_, by omega⟩
            rw [h2, htr]; show nI t + 90 = _
            rw [show (90 : Int32) = nI 90 by decide +kernel, nI_add]
          · refine ⟨t + 30, ?_, by omega⟩
            rw [h3, htr]; show nI t + 30 = _
            rw [show (30 : Int32) = nI 30 by decide +kernel, nI_add]
        have ho : ovV (pv i).1 (pv i).2.1 (nI j) = if nI j ≤ nI u then 0 else 1 := by unfold ovV; rw [hu]
        rw [ho, hu]
        by_cases hle : j ≤ u
        · rw [if_pos (nI_le hle (by omega)), if_pos rfl, pk_sub hle]
          by_cases he : u - j = 0
          · rw [he, nI0]; simp
          · rw [if_neg (nI_nle (by omega) (by omega))]
        · have hlt := pk_sneg (a := u) (b := j) (by omega) (by omega)
          have h1 : ¬ nI j ≤ nI u := by rw [nI_leI (by omega) (by omega)]; exact hle
          have h2 : nI u - nI j ≤ 0 := by
            rw [Int32.lt_iff_toInt_lt] at hlt
            rw [Int32.le_iff_toInt_le]
            omega
          rw [if_neg h1, if_pos h2, if_neg (show ¬ (1 : Int32) = 0 by decide)]
theorem what5 {w : Int32} (h : ¬ inV w 0 5 = 0) : w = 0 ∨ w = 1 ∨ w = 2 ∨ w = 3 ∨ w = 4 ∨ w = 5 := by
  obtain ⟨j, hj, rfl⟩ := in_range0 (n := 5) (by decide +kernel) h
  rcases (show j = 0 ∨ j = 1 ∨ j = 2 ∨ j = 3 ∨ j = 4 ∨ j = 5 by omega) with rfl | rfl | rfl | rfl | rfl | rfl
  · exact Or.inl nI0
  · exact Or.inr (Or.inl nI1)
  · exact Or.inr (Or.inr (Or.inl nI2))
  · exact Or.inr (Or.inr (Or.inr (Or.inl nI3)))
  · exact Or.inr (Or.inr (Or.inr (Or.inr (Or.inl nI4))))
  · exact Or.inr (Or.inr (Or.inr (Or.inr (Or.inr nI5))))
theorem Inv.paper (h : Inv n gn pv td ko am lf fr pt so gM) (v w : Int32) : mPaper n ko am lf fr pt so gM v w = oPaper n gn pv v w := by
  unfold mPaper oPaper
  rw [h.lk]
  cases hl : lkI n gn v with
  | none => rfl
  | some i =>
    obtain ⟨⟨hk, -⟩, ⟨e1, e2, e3, e4, e5, -⟩, -⟩ := h.2.2.1 i (h.at hl).1
    by_cases hg : inV w 0 5 = 0
    · have hne : ∀ c : Int32, ¬ inV c 0 5 = 0 → ¬ w = c := fun c hc e0 => hc (e0 ▸ hg)
      simp only [hg, if_true, if_neg (hne 0 (by decide +kernel)), if_neg (hne 1 (by decide +kernel)), if_neg (hne 2 (by decide +kernel)), if_neg (hne 3 (by decide +kernel)), if_neg (hne 4 (by decide +kernel)), if_neg (hne 5 (by decide +kernel))]
    · simp only [hg, if_false, e1, e2, e3, e4, e5, dat_k hk, ld_k hk]
      rcases what5 hg with rfl | rfl | rfl | rfl | rfl | rfl <;> simp
theorem Inv.sum_W (h : Inv n gn pv td ko am lf fr pt so gM) (day : Int32) : ∀ j, j ≤ n → mSumW ko lf fr pt gM day j = sumW gn pv day j := by
  intro j
  induction j with
  | zero => intro _; rfl
  | succ j ih =>
    intro hj
    obtain ⟨⟨hk, -⟩, ⟨e1, e2, e3, e4, e5, -⟩, e6⟩ := h.2.2.1 j hj
    unfold mSumW sumW
    rw [ih (by omega), e6]
    cases gn j <;> simp [e1, e3, e4, e5, val_k hk]
theorem Inv.sum_L (h : Inv n gn pv td ko am lf fr pt so gM) : ∀ j, j ≤ n → mSumL lf gM j = sumL gn pv j := by
  intro j
  induction j with
  | zero => intro _; rfl
  | succ j ih =>
    intro hj
    obtain ⟨⟨hk, -⟩, ⟨e1, e2, e3, e4, e5, -⟩, e6⟩ := h.2.2.1 j hj
    unfold mSumL sumL
    rw [ih (by omega), e6]
    cases gn j <;> simp [e3]
end PLAIN
end
section
section PLAIN2
variable {n : Nat} {gn : Nat → Bool} {pv : Nat → Pv} {td : Int32} {ko am lf fr pt so gM : Nat → Int32}
theorem Inv.total (h : Inv n gn pv td ko am lf fr pt so gM) (day : Int32) : mTotal n ko am lf fr pt so gM day = oTotal n gn pv day := by
  unfold mTotal oTotal
  rw [h.sum_W day n (Nat.le_refl n)]
theorem Inv.count (h : Inv n gn pv td ko am lf fr pt so gM) (iss sp fe la w : Int32) : mCount n ko am lf fr pt so gM td iss sp fe la w = oCount n gn pv td iss sp fe la w := by
  unfold mCount oCount
  rw [h.sum_L n (Nat.le_refl n)]
theorem Inv.pass (h : Inv n gn pv td ko am lf fr pt so gM) (days : Int32) : Inv n gn pv (oPassT td days) ko am lf fr pt so gM := by
  refine ⟨h.1, ?_, h.2.2.1, h.2.2.2⟩
  obtain ⟨t, ht, rfl⟩ := h.2.1
  unfold oPassT
  by_cases h1 : inV days 1 1000 = 0
  · exact ⟨t, ht, by simp [h1]⟩
  · obtain ⟨j, -, hj, rfl⟩ := in_range (n := 1000) (by decide +kernel) h1
    by_cases h2 : nI t + nI j ≤ 20000
    · refine ⟨t + j, ?_, by simp only [h1, h2, if_false, if_true]; exact nI_add t j⟩
      rw [nI_add, show (20000 : Int32) = nI 20000 by decide +kernel, nI_leI (by omega) (by decide)] at h2
      exact h2
    · exact ⟨t, ht, by simp only [h1, h2, if_false]⟩
theorem Inv.issue (h : Inv n gn pv td ko am lf fr pt so gM) {k : Nat} (hk : k < 8) {av : Int32} (hav : ¬ inV av 1 100000 = 0) (hn : n < 40) : Inv (n + 1) gn (va_up pv n (k, td, av, av, x0 k)) td (upd ko n (nI k)) (upd am n av) (upd lf n av) (upd fr n td) pt so gM := by
  obtain ⟨h40, htd, h3, h4⟩ := h
  obtain ⟨hg, hp, hs, hm⟩ := h4 n (Nat.le_refl n) hn
  refine ⟨hn, htd, fun i hi => ?_, fun i h1 h2 => h4 i (by omega) h2⟩
  by_cases e : i = n
  · subst e
    rw [va_up_self, pk_us, pk_us, pk_us, pk_us]
    obtain ⟨b, hb1, hb2, rfl⟩ := in_range (n := 100000) (by decide +kernel) hav
    refine ⟨⟨hk, htd, fun e3 => ⟨0, by omega, ?_⟩, fun e6 => ⟨0, b, b, ?_, rfl, rfl, by omega, hb2⟩⟩, ⟨rfl, rfl, rfl, rfl, ?_, fun e3 => ?_⟩, ?_⟩
    · have e3' : k = 3 := e3
      subst e3'
      show x0 3 + 1 = nI 0
      decide +kernel
    · have e6' : 6 ≤ k := e6
      rcases (show k = 6 ∨ k = 7 by omega) with rfl | rfl <;> exact nI0.symm
    · rw [hp]
      show (0 : Int32) = ptV k (x0 k)
      exact zk_all (P := fun k => (0 : Int32) = ptV k (x0 k)) (by decide +kernel) (by decide +kernel) (by decide +kernel) (by decide +kernel) (by decide +kernel) (by decide +kernel) (by decide +kernel) (by decide +kernel) hk
    · have e3' : k = 3 := e3
      subst e3'
      rw [hs]
      show (0 : Int32) = x0 3 + 1
      decide +kernel
    · rw [hm, hg]; rfl
  · rw [va_up_ne _ _ e, pk_un e, pk_un e, pk_un e, pk_un e]
    exact h3 i (by omega)
/-- one voucher changes on both sides -/
theorem Inv.one (h : Inv n gn pv td ko am lf fr pt so gM) {i : Nat} (hi : i < n) {w : Pv} {am' lf' pt' so' : Int32} (hw : okV w) (hr : RelV w (ko i) am' lf' (fr i) pt' so') : Inv n gn (va_up pv i w) td ko (upd am i am') (upd lf i lf') fr (upd pt i pt') (upd so i so') gM := by
  obtain ⟨h40, htd, h3, h4⟩ := h
  refine ⟨h40, htd, fun j hj => ?_, fun j h1 h2 => ?_⟩
  · by_cases e : j = i
    · subst e
      rw [va_up_self, pk_us, pk_us, pk_us, pk_us]
      exact ⟨hw, hr, (h3 j hj).2.2⟩
    · rw [va_up_ne _ _ e, pk_un e, pk_un e, pk_un e, pk_un e]
      exact h3 j hj
  · have e : j ≠ i := by omega
    rw [pk_un e, pk_un e]
    exact h4 j h1 h2
theorem upd_id (f : Nat → Int32) (i : Nat) : upd f i (f i) = f := by
  funext j
  by_cases e : j = i
  · subst e; exact pk_us
  · exact pk_un e
theorem up_id {α : Type} (f : Nat → α) (i : Nat) : va_up f i (f i) = f := by
  funext j
  by_cases e : j = i
  · subst e; exact va_up_self _ _ _
  · exact va_up_ne _ _ e
theorem neg6 : ¬ (0 : Int32) ≤ -6 := by decide +kernel
theorem neg5 : ¬ (0 : Int32) ≤ -5 := by decide +kernel
theorem sa_ne3 {k : Nat} (h : k ≠ 3) (fr lf ex g day : Int32) : saV k fr lf ex g day = spR k fr lf ex g day ∧ snL k fr lf ex g day = spL k fr lf ex g day := by
  unfold saV snL
  constructor <;> (split <;> first | (exact absurd rfl h) | rfl)
theorem snX_ne3 {k : Nat} (hk : k < 8) (h : k ≠ 3) (fr lf ex g day : Int32) : snX k fr lf ex g day = (if spR k fr lf ex g day = 0 then (if 6 ≤ k then ex + g / 100 else ex) else ex) := by
  have hall := zk_all (P := fun k => k ≠ 3 → snX k fr lf ex g day = (if spR k fr lf ex g day = 0 then (if 6 ≤ k then ex + g / 100 else ex) else ex)) (fun _ => by simp [snX]) (fun _ => by simp [snX]) (fun _ => by simp [snX]) (fun q => absurd rfl q) (fun _ => by simp [snX]) (fun _ => by simp [snX]) (fun _ => by simp [snX]) (fun _ => by simp [snX]) hk
  exact hall h
/-- a spend: what comes of it, in one sum; again, short or done -/
theorem sp_cases {k : Nat} (hk : k < 8) (fr lf ex g day so : Int32) (hso : k = 3 → so = ex + 1) (hf : mFee (nI k) (ptV k ex) g = fV k ex g) :
    (saV k fr lf ex g day = -6 ∧ snL k fr lf ex g day = lf ∧ snX k fr lf ex g day = ex ∧ ∀ {α : Type} (A B C : α), mSpB day (nI k) fr lf (ptV k ex) so g A B C = A) ∨
    (saV k fr lf ex g day = -5 ∧ snL k fr lf ex g day = lf ∧ snX k fr lf ex g day = ex ∧ ∀ {α : Type} (A B C : α), mSpB day (nI k) fr lf (ptV k ex) so g A B C = B) ∨
    (saV k fr lf ex g day = 0 ∧ snL k fr lf ex g day = lf - (g + fV k ex g) ∧ g + fV k ex g ≤ lf ∧ snX k fr lf ex g day = (if k = 3 then day else if 6 ≤ k then ex + g / 100 else ex) ∧ ∀ {α : Type} (A B C : α), mSpB day (nI k) fr lf (ptV k ex) so g A B C = C) := by
  have hv := val_k hk fr lf ex day
  have n05 : ¬ (-5 : Int32) = 0 := by decide +kernel
  have key : ∀ {α : Type} (B C : α), mSpB2 day (nI k) fr lf (ptV k ex) g B C = (if wV k fr lf ex day < g then B else if g + fV k ex g ≤ lf then C else B) := by
    intro α B C
    unfold mSpB2; rw [hv, hf]
  by_cases h3 : k = 3
  · subst h3
    have hso' := hso rfl
    subst hso'
    have e3 : nI 3 = 3 := nI3
    by_cases he : ex = day
    · left
      refine ⟨by simp [saV, he], by simp [snL, he], by simp [snX, he], fun A B C => ?_⟩
      unfold mSpB
      rw [if_pos e3, if_pos (by rw [he])]
    · have he2 : ¬ ex + 1 = day + 1 := fun q => he (by
        have := congrArg (fun z => z - 1) q
        simpa using this)
      right
      have e4 : ∀ {α : Type} (A B C : α), mSpB day (nI 3) fr lf (ptV 3 ex) (ex + 1) g A B C = (if wV 3 fr lf ex day < g then B else if g + fV 3 ex g ≤ lf then C else B) := by
        intro α A B C
        unfold mSpB; rw [if_pos e3, if_neg he2, key]
      by_cases h1 : wV 3 fr lf ex day < g
      · left; exact ⟨by simp [saV, spR, he, h1], by simp [snL, spL, he, h1], by simp [snX, spR, he, h1], fun A B C => by rw [e4, if_pos h1]⟩
      · by_cases h2 : g + fV 3 ex g ≤ lf
        · right; exact ⟨by simp [saV, spR, he, h1, h2], by simp [snL, spL, he, h1, h2], h2, by simp [snX, spR, he, h1, h2], fun A B C => by rw [e4, if_neg h1, if_pos h2]⟩
        · left; exact ⟨by simp [saV, spR, he, h1, h2], by simp [snL, spL, he, h1, h2], by simp [snX, spR, he, h1, h2], fun A B C => by rw [e4, if_neg h1, if_neg h2]⟩
  · right
    have e3 : ¬ nI k = 3 := fun q => h3 (nI_kind hk (by decide) (q.trans nI3.symm))
    obtain ⟨a1, a2⟩ := sa_ne3 h3 fr lf ex g day
    have e4 : ∀ {α : Type} (A B C : α), mSpB day (nI k) fr lf (ptV k ex) so g A B C = (if wV k fr lf ex day < g then B else if g + fV k ex g ≤ lf then C else B) := by
      intro α A B C
      unfold mSpB; rw [if_neg e3, key]
    rw [a1, a2]
    have hx : ∀ r : Int32, spR k fr lf ex g day = r → snX k fr lf ex g day = (if r = 0 then (if 6 ≤ k then ex + g / 100 else ex) else ex) := by
      intro r hr
      rw [snX_ne3 hk h3, hr]
    by_cases h1 : wV k fr lf ex day < g
    · left
      have hr : spR k fr lf ex g day = -5 := by simp [spR, h1]
      refine ⟨hr, by simp [spL, h1], ?_, fun A B C => by rw [e4, if_pos h1]⟩
      rw [hx _ hr, if_neg n05]
    · by_cases h2 : g + fV k ex g ≤ lf
      · right
        have hr : spR k fr lf ex g day = 0 := by simp [spR, h1, h2]
        refine ⟨hr, by simp [spL, h1, h2], h2, ?_, fun A B C => by rw [e4, if_neg h1, if_pos h2]⟩
        rw [hx _ hr, if_pos rfl, if_neg h3]
      · left
        have hr : spR k fr lf ex g day = -5 := by simp [spR, h1, h2]
        refine ⟨hr, by simp [spL, h1, h2], ?_, fun A B C => by rw [e4, if_neg h1, if_neg h2]⟩
        rw [hx _ hr, if_neg n05]
end PLAIN2
end
section
section PLAIN3
variable {n : Nat} {gn : Nat → Bool} {pv : Nat → Pv} {td : Int32} {ko am lf fr pt so gM : Nat → Int32}
theorem ptV_lo {k : Nat} (hk : k < 8) (h : ¬ 6 ≤ k) (ex : Int32) : ptV k ex = 0 := by
  have hall := zk_all (P := fun k => ¬ 6 ≤ k → ptV k ex = 0) (fun _ => rfl) (fun _ => rfl) (fun _ => rfl) (fun _ => rfl) (fun _ => rfl) (fun _ => rfl) (fun q => absurd (by decide) q) (fun q => absurd (by decide) q) hk
  exact hall h
theorem ptV_hi {k : Nat} (hk : k < 8) (h : 6 ≤ k) (ex : Int32) : ptV k ex = ex := by
  rcases (show k = 6 ∨ k = 7 by omega) with rfl | rfl <;> simp [ptV]
theorem fees_ring (fe lf g f : Int32) : fe + (lf - (lf - (g + f)) - g) = fe + f := by grind
/-- a paper that was spent from -/
theorem okV.spent {k : Nat} {fr am lf ex : Int32} (h : okV (k, fr, am, lf, ex)) {g t : Nat} (hg : g ≤ 100000) (ht : t ≤ 20000) (hle : nI g + fV k ex (nI g) ≤ lf) : okV (k, fr, am, lf - (nI g + fV k ex (nI g)), if k = 3 then nI t else if 6 ≤ k then ex + nI g / 100 else ex) := by
  obtain ⟨hk, h1, h2, h3⟩ := h
  refine ⟨hk, h1, fun e3 => ⟨t + 1, by omega, ?_⟩, fun e6 => ?_⟩
  · have e3' : k = 3 := e3
    show (if k = 3 then nI t else if 6 ≤ k then ex + nI g / 100 else ex) + 1 = _
    rw [if_pos e3', nI_1]
  · have e6' : 6 ≤ k := e6
    have hk' : k < 8 := hk
    obtain ⟨e, a, b, w1, w2, w3, w4, w5⟩ := h3 e6
    have w1' : ex = nI e := w1
    have w2' : lf = nI a := w2
    have w3' : am = nI b := w3
    subst w1' w2' w3'
    obtain ⟨f, hf, hfe⟩ := fee_N hk' e6' (e := e) hg (by omega)
    rw [hfe, nI_add, nI_leI (by omega) (by omega)] at hle
    refine ⟨e + g / 100, a - (g + f), b, ?_, ?_, rfl, by omega, w5⟩
    · show (if k = 3 then nI t else if 6 ≤ k then nI e + nI g / 100 else nI e) = _
      rw [if_neg (by omega), if_pos e6', show (100 : Int32) = nI 100 by decide +kernel, pk_div (by omega) (by decide) (by decide), nI_add]
    · show nI a - (nI g + fV k (nI e) (nI g)) = _
      rw [hfe, nI_add, pk_sub hle]
theorem Inv.spend (h : Inv n gn pv td ko am lf fr pt so gM) (v g sp fe : Int32) :
    mSpR n ko am lf fr pt so gM td v g = oSpR n gn pv td v g ∧ mSpS n ko am lf fr pt so gM td v g sp = oSpS n gn pv td v g sp ∧ mSpF n ko am lf fr pt so gM td v g fe = oSpF n gn pv td v g fe ∧
    Inv n gn (oSpP n gn pv td v g) td ko am (mSpL n ko am lf fr pt so gM td v g) fr (mSpT n ko am lf fr pt so gM td v g) (mSpO n ko am lf fr pt so gM td v g) gM := by
  unfold mSpR mSpS mSpF mSpL mSpT mSpO oSpR oSpS oSpF oSpP
  rw [h.lk]
  cases hl : lkI n gn v with
  | none => exact ⟨rfl, rfl, rfl, h⟩
  | some i =>
    have hi := (h.at hl).1
    by_cases hg : inV g 1 100000 = 0
    · simp only [hg, if_true]
      exact ⟨trivial, trivial, trivial, h⟩
    · obtain ⟨j, -, hj, rfl⟩ := in_range (n := 100000) (by decide +kernel) hg
      obtain ⟨t, ht, htd⟩ := h.2.1
      obtain ⟨hokv, ⟨e1, e2, e3, e4, e5, e6⟩, -⟩ := h.2.2.1 i hi
      obtain ⟨hk, -, -, h6⟩ := id hokv
      have hfee : mFee (nI (pv i).1) (ptV (pv i).1 (pv i).2.2.2.2) (nI j) = fV (pv i).1 (pv i).2.2.2.2 (nI j) := fee_k hk hj (fun q => by obtain ⟨e, a, b, w1, -, -, w4, w5⟩ := h6 q; exact ⟨e, w1, by omega⟩)
      simp only [hg, if_false, e1, e3, e4, e5]
      have n6 := neg6
      have n5 := neg5
      rcases sp_cases hk (pv i).2.1 (pv i).2.2.2.1 (pv i).2.2.2.2 (nI j) td (so i) e6 hfee with ⟨a1, a2, a3, a4⟩ | ⟨a1, a2, a3, a4⟩ | ⟨a1, a2, a5, a3, a4⟩
      · simp only [a1, a2, a3, a4, n6, if_false]
        refine ⟨trivial, trivial, trivial, ?_⟩
        rw [show ((pv i).1, (pv i).2.1, (pv i).2.2.1, (pv i).2.2.2.1, (pv i).2.2.2.2) = pv i from rfl, up_id]
        exact h
      · simp only [a1, a2, a3, a4, n5, if_false]
        refine ⟨trivial, trivial, trivial, ?_⟩
        rw [show ((pv i).1, (pv i).2.1, (pv i).2.2.1, (pv i).2.2.2.1, (pv i).2.2.2.2) = pv i from rfl, up_id]
        exact h
      · simp only [a1, a2, a3, a4, hfee, fees_ring]
        refine ⟨by simp, by simp, by simp, ?_⟩
        have hw : okV ((pv i).1, (pv i).2.1, (pv i).2.2.1, (pv i).2.2.2.1 - (nI j + fV (pv i).1 (pv i).2.2.2.2 (nI j)), if (pv i).1 = 3 then td else if 6 ≤ (pv i).1 then (pv i).2.2.2.2 + nI j / 100 else (pv i).2.2.2.2) := by
          rw [htd]
          exact okV.spent (k := (pv i).1) (fr := (pv i).2.1) (am := (pv i).2.2.1) (lf := (pv i).2.2.2.1) (ex := (pv i).2.2.2.2) hokv hj ht a5
        have hone := h.one hi (am' := am i) (lf' := (pv i).2.2.2.1 - (nI j + fV (pv i).1 (pv i).2.2.2.2 (nI j))) (pt' := if mPts (nI (pv i).1) = 0 then pt i else pt i + nI j / 100) (so' := td + 1) hw ⟨e1, e2, rfl, e4, ?_, ?_⟩
        · rw [upd_id] at hone
          have e7 : (if mPts (nI (pv i).1) = 0 then pt else upd pt i (ptV (pv i).1 (pv i).2.2.2.2 + nI j / 100)) = upd pt i (if mPts (nI (pv i).1) = 0 then pt i else pt i + nI j / 100) := by
            by_cases hp : mPts (nI (pv i).1) = 0
            · simp only [hp, if_true, upd_id]
            · simp only [hp, if_false, e5]
          rw [e7]
          exact hone
        · show (if mPts (nI (pv i).1) = 0 then pt i else pt i + nI j / 100) = ptV (pv i).1 (if (pv i).1 = 3 then td else if 6 ≤ (pv i).1 then (pv i).2.2.2.2 + nI j / 100 else (pv i).2.2.2.2)
          rw [pts_k hk, e5]
          by_cases h66 : 6 ≤ (pv i).1
          · have h33 : ¬ (pv i).1 = 3 := by omega
            rw [if_pos h66, if_pos h66, if_neg h33, if_neg (show ¬ (1 : Int32) = 0 by decide), ptV_hi hk h66, ptV_hi hk h66]
          · rw [if_neg h66, if_pos rfl, ptV_lo hk h66, ptV_lo hk h66]
        · intro e33
          have e33' : (pv i).1 = 3 := e33
          show td + 1 = (if (pv i).1 = 3 then td else if 6 ≤ (pv i).1 then (pv i).2.2.2.2 + nI j / 100 else (pv i).2.2.2.2) + 1
          rw [if_pos e33']
theorem lapP_succ (td : Int32) (gn : Nat → Bool) (pv : Nat → Pv) (j : Nat) : lapP td gn pv (j + 1) = if gn j = true then lapP td gn pv j else if isD (lapP td gn pv j j).1 = 0 then lapP td gn pv j else if ovV (lapP td gn pv j j).1 (lapP td gn pv j j).2.1 td = 0 then lapP td gn pv j else va_up (lapP td gn pv j) j ((lapP td gn pv j j).1, (lapP td gn pv j j).2.1, (lapP td gn pv j j).2.2.1, 0, (lapP td gn pv j j).2.2.2.2) := rfl
theorem lapS_succ (td : Int32) (gn : Nat → Bool) (pv : Nat → Pv) (j : Nat) : lapS td gn pv (j + 1) = if gn j = true then lapS td gn pv j else if isD (lapP td gn pv j j).1 = 0 then lapS td gn pv j else if ovV (lapP td gn pv j j).1 (lapP td gn pv j j).2.1 td = 0 then lapS td gn pv j else lapS td gn pv j + (lapP td gn pv j j).2.2.2.1 := rfl
theorem mLapL_succ (dy : Int32) (ko lf fr gn : Nat → Int32) (j : Nat) : mLapL dy ko lf fr gn (j + 1) = if gn j = 0 then (if mDated (ko j) = 0 then mLapL dy ko lf fr gn j else if mLd (fr j) (ko j) < dy then upd (mLapL dy ko lf fr gn j) j 0 else mLapL dy ko lf fr gn j) else mLapL dy ko lf fr gn j := rfl
theorem mLapS_succ (dy : Int32) (ko lf fr gn : Nat → Int32) (j : Nat) : mLapS dy ko lf fr gn (j + 1) = if gn j = 0 then (if mDated (ko j) = 0 then mLapS dy ko lf fr gn j else if mLd (fr j) (ko j) < dy then mLapS dy ko lf fr gn j + mLapL dy ko lf fr gn j j else mLapS dy ko lf fr gn j) else mLapS dy ko lf fr gn j := rfl
theorem Inv.lapse (h : Inv n gn pv td ko am lf fr pt so gM) : ∀ j, j ≤ n → mLapS td ko lf fr gM j = lapS td gn pv j ∧ Inv n gn (lapP td gn pv j) td ko am (mLapL td ko lf fr gM j) fr pt so gM := by
  intro j
  induction j with
  | zero => intro _; exact ⟨rfl, h⟩
  | succ j ih =>
    intro hj
    obtain ⟨i1, i2⟩ := ih (by omega)
    obtain ⟨hokv, ⟨e1, e2, e3, e4, e5, e6⟩, e7⟩ := i2.2.2.1 j hj
    have hk := hokv.1
    rw [mLapS_succ, lapS_succ, mLapL_succ, lapP_succ, e7, i1]
    cases hg : gn j with
    | true => simp only [if_true]; exact ⟨by simp, by simpa using i2⟩
    | false =>
      simp only [if_true, Bool.false_eq_true, if_false]
      by_cases hd : isD (lapP td gn pv j j).1 = 0
      · have hd' : mDated (ko j) = 0 := by rw [e1, dat_k hk]; exact hd
        simp only [hd, hd', if_true]
        exact ⟨trivial, i2⟩
      · have hd' : ¬ mDated (ko j) = 0 := by rw [e1, dat_k hk]; exact hd
        have hld : mLd (fr j) (ko j) = ldV (lapP td gn pv j j).1 (lapP td gn pv j j).2.1 := by rw [e1, e4, ld_k hk]
        by_cases ho : ovV (lapP td gn pv j j).1 (lapP td gn pv j j).2.1 td = 0
        · have ho' : ¬ mLd (fr j) (ko j) < td := by
            rw [hld]
            intro q
            unfold ovV at ho
            rw [if_neg (by rw [Int32.not_le]; exact q)] at ho
            exact absurd ho (by decide)
          simp only [hd, hd', ho, ho', if_true, if_false]
          exact ⟨trivial, i2⟩
        · have ho' : mLd (fr j) (ko j) < td := by
            rw [hld]
            rw [← Int32.not_le]
            intro q
            exact ho (by unfold ovV; rw [if_pos q])
          simp only [hd, hd', ho, ho', if_true, if_false, e3]
          refine ⟨trivial, ?_⟩
          have hk23 := isD_yes hk hd
          have hone := i2.one hj (w := ((lapP td gn pv j j).1, (lapP td gn pv j j).2.1, (lapP td gn pv j j).2.2.1, 0, (lapP td gn pv j j).2.2.2.2)) (am' := am j) (lf' := 0) (pt' := pt j) (so' := so j) ⟨hk, hokv.2.1, hokv.2.2.1, fun q => ?_⟩ ⟨e1, e2, rfl, e4, e5, e6⟩
          · rw [upd_id, upd_id, upd_id] at hone
            exact hone
          · have q' : 6 ≤ (lapP td gn pv j j).1 := q
            omega
theorem Inv.gone (h : Inv n gn pv td ko am lf fr pt so gM) {j : Nat} (hj : j < n) : Inv n (va_up gn j true) pv td ko am lf fr pt so (upd gM j 1) := by
  obtain ⟨h40, htd, h3, h4⟩ := h
  refine ⟨h40, htd, fun i hi => ?_, fun i h1 h2 => ?_⟩
  · by_cases e : i = j
    · subst e
      rw [va_up_self, pk_us]
      exact ⟨(h3 i hi).1, (h3 i hi).2.1, rfl⟩
    · rw [va_up_ne _ _ e, pk_un e]
      exact h3 i hi
  · have e : i ≠ j := by omega
    rw [va_up_ne _ _ e, pk_un e]
    exact h4 i h1 h2
theorem so_le {ex ex2 : Int32} {u u2 : Nat} (hu : u ≤ 20001) (hu2 : u2 ≤ 20001) (h : ex + 1 = nI u) (h2 : ex2 + 1 = nI u2) : ex2 + 1 ≤ ex + 1 ↔ ex2 ≤ ex := by
  have a : ∀ {e : Int32} {w : Nat}, w ≤ 20001 → e + 1 = nI w → e.toInt = (w : Int) - 1 := by
    intro e w hw he
    have e1 : e = nI w - nI 1 := by rw [← he, nI1]; grind
    rw [e1, pk_sub_toInt (by omega) (by decide)]
    rfl
  rw [h, h2, nI_leI (by omega) (by omega), Int32.le_iff_toInt_le, a hu h, a hu2 h2]
  omega
theorem Inv.merge (h : Inv n gn pv td ko am lf fr pt so gM) (v w : Int32) :
    mMgR n ko am lf fr pt so gM v w = oMgR n gn pv v w ∧ Inv n (oMgG n gn pv v w) (oMgP n gn pv v w) td ko (mMgA n ko am lf fr pt so gM v w) (mMgL n ko am lf fr pt so gM v w) fr (mMgT n ko am lf fr pt so gM v w) (mMgO n ko am lf fr pt so gM v w) (mMgG n ko am lf fr pt so gM v w) := by
  unfold mMgR mMgA mMgL mMgT mMgO mMgG oMgR oMgG oMgP
  rw [h.lk, h.lk]
  cases hl : lkI n gn v with
  | none => exact ⟨rfl, h⟩
  | some i =>
    cases hl2 : lkI n gn w with
    | none => exact ⟨rfl, h⟩
    | some j =>
      obtain ⟨hi, hvi, -⟩ := h.at hl
      obtain ⟨hj, hvj, -⟩ := h.at hl2
      obtain ⟨hokv, ⟨e1, e2, e3, e4, e5, e6⟩, -⟩ := h.2.2.1 i hi
      obtain ⟨hokw, ⟨f1, f2, f3, f4, f5, f6⟩, -⟩ := h.2.2.1 j hj
      obtain ⟨hk, hfr, h3, h66⟩ := id hokv
      obtain ⟨hk2, -, h32, h662⟩ := id hokw
      by_cases hvw : v = w
      · simp only [hvw, if_true]; exact ⟨trivial, h⟩
      · simp only [hvw, if_false, e1, e2, f1, f2]
        by_cases hkk : nI (pv i).1 = nI (pv j).1
        · simp only [hkk, if_true]
          have hkk' := nI_kind hk hk2 hkk
          by_cases ha : (pv i).2.2.1 + (pv j).2.2.1 ≤ 100000
          · simp only [ha, if_true]
            refine ⟨trivial, ?_⟩
            have hone := h.one hi (w := ((pv i).1, (pv i).2.1, (pv i).2.2.1 + (pv j).2.2.1, (pv i).2.2.2.1 + (pv j).2.2.2.1, tkX (pv i).1 (pv i).2.2.2.2 (pv j).2.2.2.2)) (am' := (pv i).2.2.1 + (pv j).2.2.1) (lf' := lf i + lf j) (pt' := pt i + pt j) (so' := if so j ≤ so i then so i else so j) ?_ ⟨e1, rfl, by rw [e3, f3], e4, ?_, ?_⟩
            · exact hone.gone hj
            · refine ⟨hk, hfr, fun q3 => ?_, fun q6 => ?_⟩
              · have q3' : (pv i).1 = 3 := q3
                obtain ⟨u, hu, hu1⟩ := h3 q3
                obtain ⟨u2, hu2, hu21⟩ := h32 (hkk' ▸ q3')
                show ∃ u : Nat, u ≤ 20001 ∧ tkX (pv i).1 (pv i).2.2.2.2 (pv j).2.2.2.2 + 1 = nI u
                rw [q3']
                by_cases hle : (pv j).2.2.2.2 ≤ (pv i).2.2.2.2
                · exact ⟨u, hu, by simp only [tkX, hle, if_true]; exact hu1⟩
                · exact ⟨u2, hu2, by simp only [tkX, hle, if_false]; exact hu21⟩
              · have q6' : 6 ≤ (pv i).1 := q6
                obtain ⟨e, a, b, w1, w2, w3, w4, w5⟩ := h66 q6
                obtain ⟨e', a', b', z1, z2, z3, z4, z5⟩ := h662 (hkk' ▸ q6')
                rw [w3, z3, nI_add, show (100000 : Int32) = nI 100000 by decide +kernel, nI_leI (by omega) (by decide)] at ha
                refine ⟨e + e', a + a', b + b', ?_, by show (pv i).2.2.2.1 + (pv j).2.2.2.1 = _; rw [w2, z2, nI_add], by show (pv i).2.2.1 + (pv j).2.2.1 = _; rw [w3, z3, nI_add], by omega, ha⟩
                show tkX (pv i).1 (pv i).2.2.2.2 (pv j).2.2.2.2 = _
                rcases (show (pv i).1 = 6 ∨ (pv i).1 = 7 by omega) with q | q <;> rw [q] <;> simp only [tkX, ptV, w1, z1, Int32.zero_add, nI_add]
            · show pt i + pt j = ptV (pv i).1 (tkX (pv i).1 (pv i).2.2.2.2 (pv j).2.2.2.2)
              rw [e5, f5, ← hkk']
              by_cases q6 : 6 ≤ (pv i).1
              · rcases (show (pv i).1 = 6 ∨ (pv i).1 = 7 by omega) with q | q <;> rw [q] <;> simp only [tkX, ptV, Int32.zero_add]
              · rw [ptV_lo hk q6, ptV_lo hk q6, ptV_lo hk q6]; rfl
            · intro q3
              have q3' : (pv i).1 = 3 := q3
              obtain ⟨u, hu, hu1⟩ := h3 q3
              obtain ⟨u2, hu2, hu21⟩ := h32 (hkk' ▸ q3')
              show (if so j ≤ so i then so i else so j) = tkX (pv i).1 (pv i).2.2.2.2 (pv j).2.2.2.2 + 1
              rw [e6 q3, f6 (hkk' ▸ q3'), q3']
              have hs := so_le hu hu2 hu1 hu21
              by_cases hle : (pv j).2.2.2.2 ≤ (pv i).2.2.2.2
              · rw [if_pos (hs.mpr hle)]; simp only [tkX, hle, if_true]
              · rw [if_neg (fun q => hle (hs.mp q))]; simp only [tkX, hle, if_false]
          · simp only [ha, if_false]; exact ⟨trivial, h⟩
        · simp only [hkk, if_false]; exact ⟨trivial, h⟩
end PLAIN3
end
section
/-! THE CLAIM OUT OF ONE WALK OF THE LAW'S BODY. Your part is whole_start (and what it stands on); all else here is the same for every law, but numbers. -/
def R_law : String := "VoucherOfficeLaw"
def lw_P (b : Addr) (xs : List Int32) (args : Array Value) (s : State) : Prop := args = #[.ref b] ∧ s.IntsAt b xs ∧ xs.length ≤ 1536 ∧ (Jvm.Cond.and given_1 narrow_1).before args s = true
def lw_Q (_ : Array Value) (s : State) (o : Outcome) (t : State) : Prop := o = .returned (some (.int 1)) ∧ Framed s o t [] 775734 6775046
def lw_Z (below : List Frame) (a : Array Value) (s : State) : State → Prop := fun t => ∃ o, t.status = .running ∧ Ended t below o ∧ lw_Q a s o t
/-- the law's own end, with 1 on the stack, nothing written that was there before, its room as the claim has it -/
theorem lw_ret {p : Program} {l : Launch} {e : Env} {s : State} {m : MethodId} {below : List Frame} {meth : Method} {c : Code} {b : Nat} (hx : p.tables.exec = Jvm.exec) (hb : c.code = code) (hr : meth.sig.returnType = ret) (hlocks : meth.locks = false) {pc : Nat} {H : Heap} {ls : Array Slot} (hdg : decode code pc = .ok (.ireturn, 1)) : W p l e room_1 s m #[Value.ref b] below meth c H [] 775734 6775046 (lw_Z below #[Value.ref b] s) (F0 m pc ls [.int 1]) := by
  intro T hT X
  obtain ⟨fs, hret, hrun, hended, hW, hframe⟩ := X.leave (v := some (.int 1)) (hlocks := hlocks) (fun h => by rw [hr] at h; cases h)
  have hmeth' : T.vm.method? m = some meth := X.method'
  refine ⟨T.setFrames fs, ?_, .returned (some (.int 1)), hrun, hended, rfl, ⟨_, rfl⟩, hW, hframe⟩
  jvm_step X.here [X.here.top, hx, hb, hdg, hmeth', hr, ret, narrow_b1]
  (try refine ⟨rfl, ?_⟩); (try refine ⟨rfl, ?_⟩)
  first | (intro acts; rw [hret _ acts rfl rfl rfl]) | rw [hret _ _ rfl rfl rfl]
  exact Steps.refl _
/-- what holds at the law's entry: the machine, the code, the tables' words (any of lw_tbl by 'hts w (by decide +kernel)'), the script of L ints xs at the cell b, what the Statement gives of the start (any of its parts by flat_of_before) -/
def lw_At (p : Program) (s : State) (m : MethodId) (meth : Method) (c : Code) (b L : Nat) (xs : Nat → Int32) : Prop :=
  p.tables.exec = Jvm.exec ∧ c.code = code ∧ meth.sig.returnType = ret ∧ c.maxLocals = 4 ∧ s.vm.findClass R_law = some m.cls ∧ (∀ w ∈ lw_tbl, w.before #[Value.ref b] s = true) ∧ va_X b L xs s s.heap ∧ b < s.heap.size ∧ meth.locks = false ∧ (Jvm.Cond.and given_1 narrow_1).before #[Value.ref b] s = true
-- two worlds side by side
theorem va_Pl {D : va_G} {cl : List vw_C} {wa wb : va_W} {H : Heap} (h : va_P D cl (wa ++ wb) H) : va_P D cl wa H := fun k q hk => h k q (by rw [List.getElem?_append_left (List.getElem?_eq_some_iff.mp hk).1]; exact hk)
theorem va_Pr {D : va_G} {cl : List vw_C} {wa wb : va_W} {H : Heap} (h : va_P D cl (wa ++ wb) H) : va_P D cl wb H := fun k q hk => h (wa.length + k) q (by rw [List.getElem?_append_right (by omega), Nat.add_sub_cancel_left]; exact hk)
theorem va_Dl {A : Nat → Prop} {wa wb : va_W} (h : va_D A (wa ++ wb)) : va_D A wa := by
  have g : ∀ (k : Nat) (q : Nat × va_E), wa[k]? = some q → (wa ++ wb)[k]? = some q := fun k q hk => by rw [List.getElem?_append_left (List.getElem?_eq_some_iff.mp hk).1]; exact hk
  exact ⟨fun i j p q hi hj e => h.1 i j p q (g i p hi) (g j q hj) e, fun k q hk => h.2 k q (g k q hk)⟩
theorem va_Dr {A : Nat → Prop} {wa wb : va_W} (h : va_D A (wa ++ wb)) : va_D A wb := by
  have g : ∀ (k : Nat) (q : Nat × va_E), wb[k]? = some q → (wa ++ wb)[wa.length + k]? = some q := fun k q hk => by rw [List.getElem?_append_right (by omega), Nat.add_sub_cancel_left]; exact hk
  exact ⟨fun i j p q hi hj e => by have := h.1 _ _ p q (g i p hi) (g j q hj) e; omega, fun k q hk => h.2 _ q (g k q hk)⟩
theorem va_Dx {A : Nat → Prop} {wa wb : va_W} (h : va_D A (wa ++ wb)) {i j : Nat} {p q : Nat × va_E} (hi : wa[i]? = some p) (hj : wb[j]? = some q) : p.1 ≠ q.1 := by
  intro e
  have hl := (List.getElem?_eq_some_iff.mp hi).1
  have := h.1 i (wa.length + j) p q (by rw [List.getElem?_append_left hl]; exact hi) (by rw [List.getElem?_append_right (by omega), Nat.add_sub_cancel_left]; exact hj) e
  omega
theorem jo_f {A : Nat → Prop} {ws : va_W} {sz : Nat} (hD : va_D A ws) (hA : ∀ q, sz ≤ q → A q) : ∀ q, va_A ws sz q → A q := by
  intro q h
  rcases h with ⟨k, e, hk⟩ | h
  · exact hD.2 k (q, e) hk
  · exact hA q h
theorem jo_l {G : ZG} {A : Nat → Prop} {wa wb wa' : va_W} {H H1 : Heap} (hP : va_P G.1 classes (wa ++ wb) H) (hD : va_D A (wa ++ wb)) (hA : ∀ q, H.size ≤ q → A q) (hF : OF G H.size wa wa' H H1) : va_P G.1 classes (wa' ++ wb) H1 ∧ va_D A (wa' ++ wb) := by
  obtain ⟨f1, f2, f3, f4⟩ := hF
  have hout : ∀ (k : Nat) (q : Nat × va_E), wb[k]? = some q → q.1 < H.size ∧ ¬ va_A wa H.size q.1 := by
    intro k q hk
    have hlt := (va_Pr hP k q hk).lt
    refine ⟨hlt, fun h => ?_⟩
    rcases h with ⟨i, e, hi⟩ | h
    · exact va_Dx hD hi hk rfl
    · omega
  exact ⟨va_P.app f3 ((va_Pr hP).kept (fun k q hk => f2 q.1 (hout k q hk).1 (hout k q hk).2)), va_D.app (f4.weaken (fun k q _ h => jo_f (va_Dl hD) hA q.1 h)) (va_Dr hD) (fun i j x y hx hy hxy => (hout j y hy).2 (hxy ▸ f4.2 i x hx))⟩
theorem jo_r {G : ZG} {A : Nat → Prop} {wa wb wb' : va_W} {H H1 : Heap} (hP : va_P G.1 classes (wa ++ wb) H) (hD : va_D A (wa ++ wb)) (hA : ∀ q, H.size ≤ q → A q) (hF : OF G H.size wb wb' H H1) : va_P G.1 classes (wa ++ wb') H1 ∧ va_D A (wa ++ wb') := by
  obtain ⟨f1, f2, f3, f4⟩ := hF
  have hout : ∀ (k : Nat) (q : Nat × va_E), wa[k]? = some q → q.1 < H.size ∧ ¬ va_A wb H.size q.1 := by
    intro k q hk
    have hlt := (va_Pl hP k q hk).lt
    refine ⟨hlt, fun h => ?_⟩
    rcases h with ⟨i, e, hi⟩ | h
    · exact va_Dx hD hk hi rfl
    · omega
  exact ⟨va_P.app ((va_Pl hP).kept (fun k q hk => f2 q.1 (hout k q hk).1 (hout k q hk).2)) f3, va_D.app (va_Dl hD) (f4.weaken (fun k q _ h => jo_f (va_Dr hD) hA q.1 h)) (fun i j x y hx hy hxy => (hout i x hx).2 (hxy ▸ f4.2 j y hy))⟩
theorem jo_S {G : ZG} {A : Nat → Prop} {ws ws' : va_W} {H0 H H1 : Heap} {locs L : List Loc} (hS : va_S A H0 H locs) (hf : ∀ q, va_A ws H.size q → A q) (hF : OF G H.size ws ws' H H1) (hL : ∀ q ∈ L, va_A ws H.size q.base) : va_S A H0 H1 (locs ++ L) := by
  obtain ⟨f1, f2, -, -⟩ := hF
  refine ⟨Nat.le_trans hS.1 f1, fun q h1 h2 => ?_, fun q hq => ?_⟩
  · rw [f2 q (Nat.lt_of_lt_of_le h1 hS.1) (fun h => h2 (hf q h))]
    exact hS.2.1 q h1 h2
  · rcases List.mem_append.mp hq with h | h
    · exact hS.2.2 q h
    · exact hf _ (hL q h)
-- what is known of the tables, at the law's entry
theorem ld_of {args : Array Value} {s : State} {C : String} {x : MethodName} (h : (Cond.landsInDefault C x x).before args s = true) (hi : (Cond.interfaceMethod x.cls x.cls x.name x.desc).before args s = true) : Ld C x s := by
  obtain ⟨cL, kL, r1, hcL, hkL, hiL, hfound, hn1⟩ := Cond.interfaceMethod_spec hi
  have hn : s.methodNamed? x = some r1 := hn1
  simp only [Cond.before, Cond.holds, Cond.value] at h
  cases hc : s.vm.findClass C with
  | none => simp [hc] at h
  | some cc =>
    cases hrm : s.vm.method? r1 with
    | none => simp [hc, hfound, hn, hrm] at h
    | some rm =>
      simp only [hc, hfound, hn, hrm, Option.map_some, beq_iff_eq, Option.some.injEq] at h
      split at h
      · rename_i m' hsel
        simp only [Bool.and_eq_true, decide_eq_true_eq] at h
        obtain ⟨⟨⟨⟨e0, -⟩, -⟩, -⟩, -⟩ := h
        subst e0
        exact ⟨cc, m', hc, hn, hsel⟩
      · cases h
end
section
set_option maxHeartbeats 4000000 in
theorem law_KZ {p : Program} {s : State} {m : MethodId} {meth : Method} {c : Code} {b L : Nat} {xs : Nat → Int32} (C0 : lw_At p s m meth c b L xs) : ∃ G : ZG, KZ G s := by
  obtain ⟨hx, hb, hr, hml, hown, hts0, hX, hbl, hlocks, hgv⟩ := C0
  have hts : ∀ w ∈ gw, w.before #[Value.ref b] s = true := fun w hw => hts0 w (gw_tbl hw)
  obtain ⟨c0, i0, hK0⟩ := u_known (C := Rk 0) (T := Fk 0) (N := Nk 0) (n := 4) hts zk_in0 (hts _ kg_55)
  obtain ⟨c1, i1, hK1⟩ := u_known (C := Rk 1) (T := Fk 1) (N := Nk 1) (n := 4) hts zk_in1 (hts _ kg_82)
  obtain ⟨c2, i2, hK2⟩ := u_known (C := Rk 2) (T := Fk 2) (N := Nk 2) (n := 4) hts zk_in2 (hts _ kg_93)
  obtain ⟨c3, i3, hK3⟩ := u_known (C := Rk 3) (T := Fk 3) (N := Nk 3) (n := 5) hts zk_in3 (hts _ kg_104)
  obtain ⟨c4, i4, hK4⟩ := u_known (C := Rk 4) (T := Fk 4) (N := Nk 4) (n := 4) hts zk_in4 (hts _ kg_118)
  obtain ⟨c5, i5, hK5⟩ := u_known (C := Rk 5) (T := Fk 5) (N := Nk 5) (n := 4) hts zk_in5 (hts _ kg_129)
  obtain ⟨c6, i6, hK6⟩ := u_known (C := Rk 6) (T := Fk 6) (N := Nk 6) (n := 5) hts zk_in6 (hts _ kg_140)
  obtain ⟨c7, i7, hK7⟩ := u_known (C := Rk 7) (T := Fk 7) (N := Nk 7) (n := 5) hts zk_in7 (hts _ kg_154)
  obtain ⟨c8, i8, hK8⟩ := u_known (C := "VoucherOffice") (T := F_Of) (N := 7) (n := 7) hts zo_in (hts _ kg_12)
  obtain ⟨c9, i9, hK9⟩ := u_known (C := "VoucherOfficeModel") (T := F_Mo) (N := 13) (n := 13) hts zm_in (hts _ kg_421)
  obtain ⟨cI, kI, pI0, q1, q2, q3⟩ := Cond.arrayClass_spec (hts _ kg_466)
  obtain ⟨cZ, kZ, pZ0, r1, r2, r3⟩ := Cond.arrayClass_spec (hts _ kg_467)
  have hao := hts0 (.arrayOver (.object "VoucherOffice$Paper")) (tb_1 (List.mem_of_getElem? (i := 20) rfl))
  obtain ⟨pP0, cP, kP, t1, t2, t3, t4, t5⟩ := Cond.arrayOver_spec hao
  refine ⟨((fun k => if k = 0 then c0 else if k = 1 then c1 else if k = 2 then c2 else if k = 3 then c3 else if k = 4 then c4 else if k = 5 then c5 else if k = 6 then c6 else if k = 7 then c7 else if k = 8 then c8 else c9, fun k => if k = 0 then i0 else if k = 1 then i1 else if k = 2 then i2 else if k = 3 then i3 else if k = 4 then i4 else if k = 5 then i5 else if k = 6 then i6 else if k = 7 then i7 else if k = 8 then i8 else i9), cI, cZ, cP), ⟨?_, ?_⟩, fun w hw hf => va_any (face_tab hf) (hts0 w hw), ?_, ?_, hao⟩
  · intro k q hq
    match k, hq with
    | 0, hq => cases hq; exact hK0
    | 1, hq => cases hq; exact hK1
    | 2, hq => cases hq; exact hK2
    | 3, hq => cases hq; exact hK3
    | 4, hq => cases hq; exact hK4
    | 5, hq => cases hq; exact hK5
    | 6, hq => cases hq; exact hK6
    | 7, hq => cases hq; exact hK7
    | 8, hq => cases hq; exact hK8
    | 9, hq => cases hq; exact hK9
    | k + 10, hq => simp [classes] at hq
  · intro k q hq
    match k, hq with
    | 0, hq => cases hq; exact ⟨fun N z => ⟨(fun k h => by cases h), kI, q2, pI0, q3⟩, q1⟩
    | 1, hq => cases hq; exact ⟨fun N z => ⟨(fun k h => by cases h), kZ, r2, pZ0, r3⟩, r1⟩
    | 2, hq => cases hq; exact ⟨fun N z => ⟨(fun k h => by cases h), kP, t3, pP0, t4⟩, kP, pP0, t3, t4, t1, t5⟩
    | k + 3, hq => simp [tz] at hq
  · have hs := flat_of_before _ hgv
    intro q hq
    simp only [nz, List.mem_cons, List.not_mem_nil, or_false] at hq
    rcases hq with rfl | rfl | rfl | rfl | rfl | rfl | rfl | rfl | rfl | rfl | rfl
    · exact va_Nc.of (hs (.not (.castable "VoucherOffice$Paper" "VoucherOffice$Sealed")) (by decide +kernel))
    · exact va_Nc.of (hs (.not (.castable "VoucherOffice$Gift" "VoucherOffice$Sealed")) (by decide +kernel))
    · exact va_Nc.of (hs (.not (.castable "VoucherOffice$Season" "VoucherOffice$Sealed")) (by decide +kernel))
    · exact va_Nc.of (hs (.not (.castable "VoucherOffice$Staff" "VoucherOffice$Sealed")) (by decide +kernel))
    · exact va_Nc.of (hs (.not (.castable "VoucherOffice$Rounded" "VoucherOffice$Sealed")) (by decide +kernel))
    · exact va_Nc.of (hs (.not (.castable "VoucherOffice$Paper" "VoucherOffice$Dated")) (by decide +kernel))
    · exact va_Nc.of (hs (.not (.castable "VoucherOffice$Gift" "VoucherOffice$Dated")) (by decide +kernel))
    · exact va_Nc.of (hs (.not (.castable "VoucherOffice$Rounded" "VoucherOffice$Dated")) (by decide +kernel))
    · exact va_Nc.of (hs (.not (.castable "VoucherOffice$Club" "VoucherOffice$Dated")) (by decide +kernel))
    · exact va_Nc.of (hs (.not (.castable "VoucherOffice$House" "VoucherOffice$Dated")) (by decide +kernel))
    · exact va_Nc.of (hs (.not (.castable "VoucherOffice$Crest" "VoucherOffice$Dated")) (by decide +kernel))
  · have hs := flat_of_before _ hgv
    intro q hq
    simp only [dz, List.mem_cons, List.not_mem_nil, or_false] at hq
    rcases hq with rfl | rfl | rfl | rfl | rfl | rfl | rfl
    · exact ld_of (hs (.landsInDefault "VoucherOffice$Season" y_Da_isOver y_Da_isOver) (by decide +kernel)) (hts0 _ kf_202)
    · exact ld_of (hs (.landsInDefault "VoucherOffice$Staff" y_Da_isOver y_Da_isOver) (by decide +kernel)) (hts0 _ kf_202)
    · exact ld_of (hs (.landsInDefault "VoucherOffice$Season" y_Da_daysLeft y_Da_daysLeft) (by decide +kernel)) (hts0 _ kf_359)
    · exact ld_of (hs (.landsInDefault "VoucherOffice$Staff" y_Da_daysLeft y_Da_daysLeft) (by decide +kernel)) (hts0 _ kf_359)
    · exact ld_of (hs (.landsInDefault "VoucherOffice$Club" y_Sl_mark y_Sl_mark) (by decide +kernel)) (hts0 _ kf_329)
    · exact ld_of (hs (.landsInDefault "VoucherOffice$House" y_Sl_mark y_Sl_mark) (by decide +kernel)) (hts0 _ kf_329)
    · exact ld_of (hs (.landsInDefault "VoucherOffice$Crest" y_Sl_mark y_Sl_mark) (by decide +kernel)) (hts0 _ kf_329)
end
section
/-- the law's own picture: the office, the reference, and they agree -/
def LwS (G : ZG) (s : State) (x mo : Nat) (H : Heap) (locs : List Loc) : Prop := ∃ (ra a1 a2 a3 a4 a5 a6 a7 : Nat) (td iss sp fe la : Int32) (pf : Nat → Option Nat) (n : Nat) (gn : Nat → Bool) (ad : Nat → Nat) (pv : Nat → Pv) (ko am lf fr pt so gM : Nat → Int32), Inv n gn pv td ko am lf fr pt so gM ∧ (∀ i, i < n → pf i = if gn i = true then none else some (ad i)) ∧ va_P G.1 classes ((wo G x ra (nI n) td iss sp fe la pf n ad pv) ++ (wm G mo a1 a2 a3 a4 a5 a6 a7 td (nI n) iss sp fe la ko am lf fr pt so gM)) H ∧ va_D (fun q : Nat => s.heap.size ≤ q) ((wo G x ra (nI n) td iss sp fe la pf n ad pv) ++ (wm G mo a1 a2 a3 a4 a5 a6 a7 td (nI n) iss sp fe la ko am lf fr pt so gM)) ∧ va_S (fun q : Nat => s.heap.size ≤ q) s.heap H locs
theorem okP_of {n : Nat} {gn : Nat → Bool} {pv : Nat → Pv} {td : Int32} {ko am lf fr pt so gM : Nat → Int32} {pf : Nat → Option Nat} {ad : Nat → Nat} (h : Inv n gn pv td ko am lf fr pt so gM) (hpf : ∀ i, i < n → pf i = if gn i = true then none else some (ad i)) : okP n gn pf ad pv := ⟨h.1, fun i hi => (h.2.2.1 i hi).1.1, hpf⟩
theorem pf_merge {n : Nat} {gn : Nat → Bool} {pv : Nat → Pv} {pf : Nat → Option Nat} {ad : Nat → Nat} (v w : Int32) (hpf : ∀ i, i < n → pf i = if gn i = true then none else some (ad i)) : ∀ i, i < n → oMgF n gn pv v w pf i = if oMgG n gn pv v w i = true then none else some (ad i) := by
  intro i hi
  unfold oMgF oMgG
  cases lkI n gn v with
  | none => exact hpf i hi
  | some a =>
    cases lkI n gn w with
    | none => exact hpf i hi
    | some b =>
      simp only
      split
      · exact hpf i hi
      · split
        · split
          · by_cases e : i = b
            · subst e; rw [va_up_self, va_up_self]; rfl
            · rw [va_up_ne _ _ e, va_up_ne _ _ e]; exact hpf i hi
          · exact hpf i hi
        · exact hpf i hi
theorem pf_issue {n q : Nat} {gn : Nat → Bool} {pf : Nat → Option Nat} {ad : Nat → Nat} (hg : gn n = false) (hpf : ∀ i, i < n → pf i = if gn i = true then none else some (ad i)) : ∀ i, i < n + 1 → va_up pf n (some q) i = if gn i = true then none else some (va_up ad n q i) := by
  intro i hi
  by_cases e : i = n
  · subst e; rw [va_up_self, va_up_self, hg]; rfl
  · rw [va_up_ne _ _ e, va_up_ne _ _ e]; exact hpf i (by omega)
theorem lt40 {n : Nat} (h : n ≤ 40) (h2 : ¬ nI n = 40) : n < 40 := by
  rcases Nat.lt_or_ge n 40 with q | q
  · exact q
  · have e : n = 40 := by omega
    subst e
    exact absurd (by decide +kernel) h2
set_option maxHeartbeats 2000000 in
theorem law_c2 {p : Program} {l : Launch} {e : Env} {s : State} {m : MethodId} {below : List Frame} {meth : Method} {c : Code} {G : ZG} {b L : Nat} {xs : Nat → Int32} {x mo : Nat} {H : Heap} {locs : List Loc} {cells slots : Nat} {Q : State → Prop} {i : Nat} {ls : Array Slot} (hL : L ≤ 1536) (C0 : lw_At p s m meth c b L xs) (hK : KZ G s) (hLS : LwS G s x mo H locs) (hi : i + 2 < L) (hl : lv_has ls 4 [(3, .int (nI i)), (2, .ref mo), (1, .ref x), (0, .ref b)]) (hcs : cells + 1 ≤ 775734 ∧ slots + 5 ≤ 6775046) (kk : ∀ (H1 : Heap) (locs1 : List Loc), LwS G s x mo H1 locs1 → W p l e room_1 s m #[Value.ref b] below meth c H1 locs1 (cells + 1) (slots + 5) Q (F0 m 469 ls [])) : W p l e room_1 s m #[Value.ref b] below meth c H locs cells slots Q (F0 m 156 ls []) := by
  obtain ⟨hx, hb, hr, hml, hown, hts0, hX, hbl, hlocks, hgv⟩ := id C0
  have hts : ∀ w ∈ gw, w.before #[Value.ref b] s = true := fun w hw => hts0 w (gw_tbl hw)
  have S : ZC p m c code 4 s #[Value.ref b] "VoucherOfficeLaw" G := ⟨⟨hx, hb, hml, hown, hts⟩, hK⟩
  have hbA : ¬ (fun q : Nat => s.heap.size ≤ q) b := Nat.not_le.mpr hbl
  obtain ⟨ra, a1, a2, a3, a4, a5, a6, a7, td, iss, sp, fe, la, pf, n, gn, ad, pv, ko, am, lf, fr, pt, so, gM, hinv, hpf, hP, hD, hS⟩ := hLS
  have hok := okP_of hinv hpf
  have hn40 : n ≤ 40 := hinv.1
  have hAH : ∀ q : Nat, H.size ≤ q → (fun q : Nat => s.heap.size ≤ q) q := fun q h => Nat.le_trans hS.1 h
  have hAh : ∀ {H2 : Heap} {locs2 : List Loc}, va_S (fun q : Nat => s.heap.size ≤ q) s.heap H2 locs2 → ∀ q : Nat, H2.size ≤ q → (fun q : Nat => s.heap.size ≤ q) q := fun hS2 q h => Nat.le_trans hS2.1 h
  obtain ⟨hcs1, hcs2⟩ := hcs
  obtain ⟨v, hv⟩ : ∃ v : Int32, v = xs (i + 1) := ⟨_, rfl⟩
  obtain ⟨w, hw⟩ : ∃ w : Int32, w = xs (i + 2) := ⟨_, rfl⟩
  have e1 : nI i + 1 = nI (i + 1) := nI_1 i
  have e2 : nI i + 2 = nI (i + 2) := by rw [← nI2, nI_add]
  have hc1 : (nI (i + 1)).toNatClampNeg = i + 1 := nI_clamp (by omega)
  have hc2 : (nI (i + 2)).toNatClampNeg = i + 2 := nI_clamp (by omega)
  refine lv_aload_n hx hb d_Law_law_156 rfl (lv_at hl 2 rfl) ?_
  refine lv_aload_n hx hb d_Law_law_157 rfl (lv_at hl 3 rfl) ?_
  refine lv_iload_n hx hb d_Law_law_158 rfl (lv_at hl 0 rfl) ?_
  refine lv_iconst (v := 1) hx hb d_Law_law_159 (by decide) ?_
  refine lv_iadd hx hb d_Law_law_160 ?_
  rw [e1]
  refine va_sld hx hb hX hbl hbA hS (vp_in_nI (show i + 1 < L by omega) (by omega)) d_Law_law_161 ?_
  rw [hc1, ← hv]
  refine lv_aload_n hx hb d_Law_law_162 rfl (lv_at hl 3 rfl) ?_
  refine lv_iload_n hx hb d_Law_law_163 rfl (lv_at hl 0 rfl) ?_
  refine lv_iconst (v := 2) hx hb d_Law_law_164 (by decide) ?_
  refine lv_iadd hx hb d_Law_law_165 ?_
  rw [e2]
  refine va_sld hx hb hX hbl hbA hS (vp_in_nI (show i + 2 < L by omega) (by omega)) d_Law_law_166 ?_
  rw [hc2, ← hw]
  refine z_q (z_D (n := 2) (C := "VoucherOffice") (As := [.int v, .int w]) (rest := []) S (c_Of_value l G _ x ra td iss sp fe la pf n gn ad pv v w hok) kg_169 kg_170 kg_171 kg_172 ok_Of_value pd_Of_value (zrec hK (va_Pl hP 0 _ rfl) zo_cls) ⟨rfl, va_Pl hP, (va_Dl hD).weaken (fun _ _ _ _ => trivial)⟩ rfl hl.1 rfl (Nat.le_of_ble_eq_true rfl) ⟨(Nat.le_of_ble_eq_true rfl), (Nat.le_of_ble_eq_true rfl)⟩ ⟨by show cells + 0 ≤ 775734; omega, by show slots + 0 ≤ 6775046; omega⟩ d_Law_law_167) ?_
  refine lv_aload_n hx hb d_Law_law_170 rfl (lv_at hl 1 rfl) ?_
  refine lv_aload_n hx hb d_Law_law_171 rfl (lv_at hl 3 rfl) ?_
  refine lv_iload_n hx hb d_Law_law_172 rfl (lv_at hl 0 rfl) ?_
  refine lv_iconst (v := 1) hx hb d_Law_law_173 (by decide) ?_
  refine lv_iadd hx hb d_Law_law_174 ?_
  rw [e1]
  refine va_sld hx hb hX hbl hbA hS (vp_in_nI (show i + 1 < L by omega) (by omega)) d_Law_law_175 ?_
  rw [hc1, ← hv]
  refine lv_aload_n hx hb d_Law_law_176 rfl (lv_at hl 3 rfl) ?_
  refine lv_iload_n hx hb d_Law_law_177 rfl (lv_at hl 0 rfl) ?_
  refine lv_iconst (v := 2) hx hb d_Law_law_178 (by decide) ?_
  refine lv_iadd hx hb d_Law_law_179 ?_
  rw [e2]
  refine va_sld hx hb hX hbl hbA hS (vp_in_nI (show i + 2 < L by omega) (by omega)) d_Law_law_180 ?_
  rw [hc2, ← hw]
  refine z_q (z_D (n := 2) (C := "VoucherOfficeModel") (As := [.int v, .int w]) (rest := [.int (oValue n gn pv v w)]) S (c_Mo_value l G _ mo a1 a2 a3 a4 a5 a6 a7 td iss sp fe la n ko am lf fr pt so gM v w hn40) kg_480 kg_481 kg_482 kg_483 ok_Mo_value pd_Mo_value (zrec hK (va_Pr hP 0 _ rfl) zm_cls) ⟨rfl, va_Pr hP, (va_Dr hD).weaken (fun _ _ _ _ => trivial)⟩ rfl hl.1 rfl (Nat.le_of_ble_eq_true rfl) ⟨(Nat.le_of_ble_eq_true rfl), (Nat.le_of_ble_eq_true rfl)⟩ ⟨by show cells + 0 ≤ 775734; omega, by show slots + 0 ≤ 6775046; omega⟩ d_Law_law_181) ?_
  refine lv_icmp_eq (tgt := 469) hx hb d_Law_law_184 (by decide) (fun c_1 => ?_) (fun c_1 => ?_)
  · refine W.widen (k := cells + 1) (n := slots + 5) (by omega) (by omega) ?_
    exact kk _ _ ⟨ra, a1, a2, a3, a4, a5, a6, a7, td, iss, sp, fe, la, pf, n, gn, ad, pv, ko, am, lf, fr, pt, so, gM, hinv, hpf, hP, hD, hS⟩
  · exact absurd (hinv.value v w).symm c_1
set_option maxHeartbeats 2000000 in
theorem law_c3 {p : Program} {l : Launch} {e : Env} {s : State} {m : MethodId} {below : List Frame} {meth : Method} {c : Code} {G : ZG} {b L : Nat} {xs : Nat → Int32} {x mo : Nat} {H : Heap} {locs : List Loc} {cells slots : Nat} {Q : State → Prop} {i : Nat} {ls : Array Slot} (hL : L ≤ 1536) (C0 : lw_At p s m meth c b L xs) (hK : KZ G s) (hLS : LwS G s x mo H locs) (hi : i + 2 < L) (hl : lv_has ls 4 [(3, .int (nI i)), (2, .ref mo), (1, .ref x), (0, .ref b)]) (hcs : cells + 1 ≤ 775734 ∧ slots + 5 ≤ 6775046) (kk : ∀ (H1 : Heap) (locs1 : List Loc), LwS G s x mo H1 locs1 → W p l e room_1 s m #[Value.ref b] below meth c H1 locs1 (cells + 1) (slots + 5) Q (F0 m 469 ls [])) : W p l e room_1 s m #[Value.ref b] below meth c H locs cells slots Q (F0 m 189 ls []) := by
  obtain ⟨hx, hb, hr, hml, hown, hts0, hX, hbl, hlocks, hgv⟩ := id C0
  have hts : ∀ w ∈ gw, w.before #[Value.ref b] s = true := fun w hw => hts0 w (gw_tbl hw)
  have S : ZC p m c code 4 s #[Value.ref b] "VoucherOfficeLaw" G := ⟨⟨hx, hb, hml, hown, hts⟩, hK⟩
  have hbA : ¬ (fun q : Nat => s.heap.size ≤ q) b := Nat.not_le.mpr hbl
  obtain ⟨ra, a1, a2, a3, a4, a5, a6, a7, td, iss, sp, fe, la, pf, n, gn, ad, pv, ko, am, lf, fr, pt, so, gM, hinv, hpf, hP, hD, hS⟩ := hLS
  have hok := okP_of hinv hpf
  have hn40 : n ≤ 40 := hinv.1
  have hAH : ∀ q : Nat, H.size ≤ q → (fun q : Nat => s.heap.size ≤ q) q := fun q h => Nat.le_trans hS.1 h
  have hAh : ∀ {H2 : Heap} {locs2 : List Loc}, va_S (fun q : Nat => s.heap.size ≤ q) s.heap H2 locs2 → ∀ q : Nat, H2.size ≤ q → (fun q : Nat => s.heap.size ≤ q) q := fun hS2 q h => Nat.le_trans hS2.1 h
  obtain ⟨hcs1, hcs2⟩ := hcs
  obtain ⟨v, hv⟩ : ∃ v : Int32, v = xs (i + 1) := ⟨_, rfl⟩
  obtain ⟨w, hw⟩ : ∃ w : Int32, w = xs (i + 2) := ⟨_, rfl⟩
  have e1 : nI i + 1 = nI (i + 1) := nI_1 i
  have e2 : nI i + 2 = nI (i + 2) := by rw [← nI2, nI_add]
  have hc1 : (nI (i + 1)).toNatClampNeg = i + 1 := nI_clamp (by omega)
  have hc2 : (nI (i + 2)).toNatClampNeg = i + 2 := nI_clamp (by omega)
  refine lv_aload_n hx hb d_Law_law_189 rfl (lv_at hl 2 rfl) ?_
  refine lv_aload_n hx hb d_Law_law_190 rfl (lv_at hl 3 rfl) ?_
  refine lv_iload_n hx hb d_Law_law_191 rfl (lv_at hl 0 rfl) ?_
  refine lv_iconst (v := 1) hx hb d_Law_law_192 (by decide) ?_
  refine lv_iadd hx hb d_Law_law_193 ?_
  rw [e1]
  refine va_sld hx hb hX hbl hbA hS (vp_in_nI (show i + 1 < L by omega) (by omega)) d_Law_law_194 ?_
  rw [hc1, ← hv]
  refine lv_aload_n hx hb d_Law_law_195 rfl (lv_at hl 3 rfl) ?_
  refine lv_iload_n hx hb d_Law_law_196 rfl (lv_at hl 0 rfl) ?_
  refine lv_iconst (v := 2) hx hb d_Law_law_197 (by decide) ?_
  refine lv_iadd hx hb d_Law_law_198 ?_
  rw [e2]
  refine va_sld hx hb hX hbl hbA hS (vp_in_nI (show i + 2 < L by omega) (by omega)) d_Law_law_199 ?_
  rw [hc2, ← hw]
  refine z_q (z_D (n := 2) (C := "VoucherOffice") (As := [.int v, .int w]) (rest := []) S (c_Of_fee l G _ x ra td iss sp fe la pf n gn ad pv v w hok) kg_233 kg_234 kg_235 kg_236 ok_Of_fee pd_Of_fee (zrec hK (va_Pl hP 0 _ rfl) zo_cls) ⟨rfl, va_Pl hP, (va_Dl hD).weaken (fun _ _ _ _ => trivial)⟩ rfl hl.1 rfl (Nat.le_of_ble_eq_true rfl) ⟨(Nat.le_of_ble_eq_true rfl), (Nat.le_of_ble_eq_true rfl)⟩ ⟨by show cells + 0 ≤ 775734; omega, by show slots + 0 ≤ 6775046; omega⟩ d_Law_law_200) ?_
  refine lv_aload_n hx hb d_Law_law_203 rfl (lv_at hl 1 rfl) ?_
  refine lv_aload_n hx hb d_Law_law_204 rfl (lv_at hl 3 rfl) ?_
  refine lv_iload_n hx hb d_Law_law_205 rfl (lv_at hl 0 rfl) ?_
  refine lv_iconst (v := 1) hx hb d_Law_law_206 (by decide) ?_
  refine lv_iadd hx hb d_Law_law_207 ?_
  rw [e1]
  refine va_sld hx hb hX hbl hbA hS (vp_in_nI (show i + 1 < L by omega) (by omega)) d_Law_law_208 ?_
  rw [hc1, ← hv]
  refine lv_aload_n hx hb d_Law_law_209 rfl (lv_at hl 3 rfl) ?_
  refine lv_iload_n hx hb d_Law_law_210 rfl (lv_at hl 0 rfl) ?_
  refine lv_iconst (v := 2) hx hb d_Law_law_211 (by decide) ?_
  refine lv_iadd hx hb d_Law_law_212 ?_
  rw [e2]
  refine va_sld hx hb hX hbl hbA hS (vp_in_nI (show i + 2 < L by omega) (by omega)) d_Law_law_213 ?_
  rw [hc2, ← hw]
  refine z_q (z_D (n := 2) (C := "VoucherOfficeModel") (As := [.int v, .int w]) (rest := [.int (oFee n gn pv v w)]) S (c_Mo_fee l G _ mo a1 a2 a3 a4 a5 a6 a7 td iss sp fe la n ko am lf fr pt so gM v w hn40) kg_504 kg_505 kg_506 kg_507 ok_Mo_fee pd_Mo_fee (zrec hK (va_Pr hP 0 _ rfl) zm_cls) ⟨rfl, va_Pr hP, (va_Dr hD).weaken (fun _ _ _ _ => trivial)⟩ rfl hl.1 rfl (Nat.le_of_ble_eq_true rfl) ⟨(Nat.le_of_ble_eq_true rfl), (Nat.le_of_ble_eq_true rfl)⟩ ⟨by show cells + 0 ≤ 775734; omega, by show slots + 0 ≤ 6775046; omega⟩ d_Law_law_214) ?_
  refine lv_icmp_eq (tgt := 469) hx hb d_Law_law_217 (by decide) (fun c_1 => ?_) (fun c_1 => ?_)
  · refine W.widen (k := cells + 1) (n := slots + 5) (by omega) (by omega) ?_
    exact kk _ _ ⟨ra, a1, a2, a3, a4, a5, a6, a7, td, iss, sp, fe, la, pf, n, gn, ad, pv, ko, am, lf, fr, pt, so, gM, hinv, hpf, hP, hD, hS⟩
  · exact absurd (hinv.fee v w).symm c_1
set_option maxHeartbeats 2000000 in
theorem law_c5 {p : Program} {l : Launch} {e : Env} {s : State} {m : MethodId} {below : List Frame} {meth : Method} {c : Code} {G : ZG} {b L : Nat} {xs : Nat → Int32} {x mo : Nat} {H : Heap} {locs : List Loc} {cells slots : Nat} {Q : State → Prop} {i : Nat} {ls : Array Slot} (hL : L ≤ 1536) (C0 : lw_At p s m meth c b L xs) (hK : KZ G s) (hLS : LwS G s x mo H locs) (hi : i + 2 < L) (hl : lv_has ls 4 [(3, .int (nI i)), (2, .ref mo), (1, .ref x), (0, .ref b)]) (hcs : cells + 1 ≤ 775734 ∧ slots + 5 ≤ 6775046) (kk : ∀ (H1 : Heap) (locs1 : List Loc), LwS G s x mo H1 locs1 → W p l e room_1 s m #[Value.ref b] below meth c H1 locs1 (cells + 1) (slots + 5) Q (F0 m 469 ls [])) : W p l e room_1 s m #[Value.ref b] below meth c H locs cells slots Q (F0 m 255 ls []) := by
  obtain ⟨hx, hb, hr, hml, hown, hts0, hX, hbl, hlocks, hgv⟩ := id C0
  have hts : ∀ w ∈ gw, w.before #[Value.ref b] s = true := fun w hw => hts0 w (gw_tbl hw)
  have S : ZC p m c code 4 s #[Value.ref b] "VoucherOfficeLaw" G := ⟨⟨hx, hb, hml, hown, hts⟩, hK⟩
  have hbA : ¬ (fun q : Nat => s.heap.size ≤ q) b := Nat.not_le.mpr hbl
  obtain ⟨ra, a1, a2, a3, a4, a5, a6, a7, td, iss, sp, fe, la, pf, n, gn, ad, pv, ko, am, lf, fr, pt, so, gM, hinv, hpf, hP, hD, hS⟩ := hLS
  have hok := okP_of hinv hpf
  have hn40 : n ≤ 40 := hinv.1
  have hAH : ∀ q : Nat, H.size ≤ q → (fun q : Nat => s.heap.size ≤ q) q := fun q h => Nat.le_trans hS.1 h
  have hAh : ∀ {H2 : Heap} {locs2 : List Loc}, va_S (fun q : Nat => s.heap.size ≤ q) s.heap H2 locs2 → ∀ q : Nat, H2.size ≤ q → (fun q : Nat => s.heap.size ≤ q) q := fun hS2 q h => Nat.le_trans hS2.1 h
  obtain ⟨hcs1, hcs2⟩ := hcs
  obtain ⟨v, hv⟩ : ∃ v : Int32, v = xs (i + 1) := ⟨_, rfl⟩
  obtain ⟨w, hw⟩ : ∃ w : Int32, w = xs (i + 2) := ⟨_, rfl⟩
  have e1 : nI i + 1 = nI (i + 1) := nI_1 i
  have e2 : nI i + 2 = nI (i + 2) := by rw [← nI2, nI_add]
  have hc1 : (nI (i + 1)).toNatClampNeg = i + 1 := nI_clamp (by omega)
  have hc2 : (nI (i + 2)).toNatClampNeg = i + 2 := nI_clamp (by omega)
  refine lv_aload_n hx hb d_Law_law_255 rfl (lv_at hl 2 rfl) ?_
  refine lv_aload_n hx hb d_Law_law_256 rfl (lv_at hl 3 rfl) ?_
  refine lv_iload_n hx hb d_Law_law_257 rfl (lv_at hl 0 rfl) ?_
  refine lv_iconst (v := 1) hx hb d_Law_law_258 (by decide) ?_
  refine lv_iadd hx hb d_Law_law_259 ?_
  rw [e1]
  refine va_sld hx hb hX hbl hbA hS (vp_in_nI (show i + 1 < L by omega) (by omega)) d_Law_law_260 ?_
  rw [hc1, ← hv]
  refine z_q (z_D (n := 1) (C := "VoucherOffice") (As := [.int v]) (rest := []) S (c_Of_seal l G _ x ra td iss sp fe la pf n gn ad pv v hok) kg_296 kg_297 kg_298 kg_299 ok_Of_seal pd_Of_seal (zrec hK (va_Pl hP 0 _ rfl) zo_cls) ⟨rfl, va_Pl hP, (va_Dl hD).weaken (fun _ _ _ _ => trivial)⟩ rfl hl.1 rfl (Nat.le_of_ble_eq_true rfl) ⟨(Nat.le_of_ble_eq_true rfl), (Nat.le_of_ble_eq_true rfl)⟩ ⟨by show cells + 0 ≤ 775734; omega, by show slots + 0 ≤ 6775046; omega⟩ d_Law_law_261) ?_
  refine lv_aload_n hx hb d_Law_law_264 rfl (lv_at hl 1 rfl) ?_
  refine lv_aload_n hx hb d_Law_law_265 rfl (lv_at hl 3 rfl) ?_
  refine lv_iload_n hx hb d_Law_law_266 rfl (lv_at hl 0 rfl) ?_
  refine lv_iconst (v := 1) hx hb d_Law_law_267 (by decide) ?_
  refine lv_iadd hx hb d_Law_law_268 ?_
  rw [e1]
  refine va_sld hx hb hX hbl hbA hS (vp_in_nI (show i + 1 < L by omega) (by omega)) d_Law_law_269 ?_
  rw [hc1, ← hv]
  refine z_q (z_D (n := 1) (C := "VoucherOfficeModel") (As := [.int v]) (rest := [.int (oSeal n gn pv v)]) S (c_Mo_seal l G _ mo a1 a2 a3 a4 a5 a6 a7 td iss sp fe la n ko am lf fr pt so gM v hn40) kg_516 kg_517 kg_518 kg_519 ok_Mo_seal pd_Mo_seal (zrec hK (va_Pr hP 0 _ rfl) zm_cls) ⟨rfl, va_Pr hP, (va_Dr hD).weaken (fun _ _ _ _ => trivial)⟩ rfl hl.1 rfl (Nat.le_of_ble_eq_true rfl) ⟨(Nat.le_of_ble_eq_true rfl), (Nat.le_of_ble_eq_true rfl)⟩ ⟨by show cells + 0 ≤ 775734; omega, by show slots + 0 ≤ 6775046; omega⟩ d_Law_law_270) ?_
  refine lv_icmp_eq (tgt := 469) hx hb d_Law_law_273 (by decide) (fun c_1 => ?_) (fun c_1 => ?_)
  · refine W.widen (k := cells + 1) (n := slots + 5) (by omega) (by omega) ?_
    exact kk _ _ ⟨ra, a1, a2, a3, a4, a5, a6, a7, td, iss, sp, fe, la, pf, n, gn, ad, pv, ko, am, lf, fr, pt, so, gM, hinv, hpf, hP, hD, hS⟩
  · exact absurd (hinv.seal v).symm c_1
set_option maxHeartbeats 2000000 in
theorem law_c6 {p : Program} {l : Launch} {e : Env} {s : State} {m : MethodId} {below : List Frame} {meth : Method} {c : Code} {G : ZG} {b L : Nat} {xs : Nat → Int32} {x mo : Nat} {H : Heap} {locs : List Loc} {cells slots : Nat} {Q : State → Prop} {i : Nat} {ls : Array Slot} (hL : L ≤ 1536) (C0 : lw_At p s m meth c b L xs) (hK : KZ G s) (hLS : LwS G s x mo H locs) (hi : i + 2 < L) (hl : lv_has ls 4 [(3, .int (nI i)), (2, .ref mo), (1, .ref x), (0, .ref b)]) (hcs : cells + 1 ≤ 775734 ∧ slots + 5 ≤ 6775046) (kk : ∀ (H1 : Heap) (locs1 : List Loc), LwS G s x mo H1 locs1 → W p l e room_1 s m #[Value.ref b] below meth c H1 locs1 (cells + 1) (slots + 5) Q (F0 m 469 ls [])) : W p l e room_1 s m #[Value.ref b] below meth c H locs cells slots Q (F0 m 278 ls []) := by
  obtain ⟨hx, hb, hr, hml, hown, hts0, hX, hbl, hlocks, hgv⟩ := id C0
  have hts : ∀ w ∈ gw, w.before #[Value.ref b] s = true := fun w hw => hts0 w (gw_tbl hw)
  have S : ZC p m c code 4 s #[Value.ref b] "VoucherOfficeLaw" G := ⟨⟨hx, hb, hml, hown, hts⟩, hK⟩
  have hbA : ¬ (fun q : Nat => s.heap.size ≤ q) b := Nat.not_le.mpr hbl
  obtain ⟨ra, a1, a2, a3, a4, a5, a6, a7, td, iss, sp, fe, la, pf, n, gn, ad, pv, ko, am, lf, fr, pt, so, gM, hinv, hpf, hP, hD, hS⟩ := hLS
  have hok := okP_of hinv hpf
  have hn40 : n ≤ 40 := hinv.1
  have hAH : ∀ q : Nat, H.size ≤ q → (fun q : Nat => s.heap.size ≤ q) q := fun q h => Nat.le_trans hS.1 h
  have hAh : ∀ {H2 : Heap} {locs2 : List Loc}, va_S (fun q : Nat => s.heap.size ≤ q) s.heap H2 locs2 → ∀ q : Nat, H2.size ≤ q → (fun q : Nat => s.heap.size ≤ q) q := fun hS2 q h => Nat.le_trans hS2.1 h
  obtain ⟨hcs1, hcs2⟩ := hcs
  obtain ⟨v, hv⟩ : ∃ v : Int32, v = xs (i + 1) := ⟨_, rfl⟩
  obtain ⟨w, hw⟩ : ∃ w : Int32, w = xs (i + 2) := ⟨_, rfl⟩
  have e1 : nI i + 1 = nI (i + 1) := nI_1 i
  have e2 : nI i + 2 = nI (i + 2) := by rw [← nI2, nI_add]
  have hc1 : (nI (i + 1)).toNatClampNeg = i + 1 := nI_clamp (by omega)
  have hc2 : (nI (i + 2)).toNatClampNeg = i + 2 := nI_clamp (by omega)
  refine lv_aload_n hx hb d_Law_law_278 rfl (lv_at hl 2 rfl) ?_
  refine lv_aload_n hx hb d_Law_law_279 rfl (lv_at hl 3 rfl) ?_
  refine lv_iload_n hx hb d_Law_law_280 rfl (lv_at hl 0 rfl) ?_
  refine lv_iconst (v := 1) hx hb d_Law_law_281 (by decide) ?_
  refine lv_iadd hx hb d_Law_law_282 ?_
  rw [e1]
  refine va_sld hx hb hX hbl hbA hS (vp_in_nI (show i + 1 < L by omega) (by omega)) d_Law_law_283 ?_
  rw [hc1, ← hv]
  refine lv_aload_n hx hb d_Law_law_284 rfl (lv_at hl 3 rfl) ?_
  refine lv_iload_n hx hb d_Law_law_285 rfl (lv_at hl 0 rfl) ?_
  refine lv_iconst (v := 2) hx hb d_Law_law_286 (by decide) ?_
  refine lv_iadd hx hb d_Law_law_287 ?_
  rw [e2]
  refine va_sld hx hb hX hbl hbA hS (vp_in_nI (show i + 2 < L by omega) (by omega)) d_Law_law_288 ?_
  rw [hc2, ← hw]
  refine z_q (z_D (n := 2) (C := "VoucherOffice") (As := [.int v, .int w]) (rest := []) S (c_Of_mark l G _ x ra td iss sp fe la pf n gn ad pv v w hok) kg_322 kg_323 kg_324 kg_325 ok_Of_mark pd_Of_mark (zrec hK (va_Pl hP 0 _ rfl) zo_cls) ⟨rfl, va_Pl hP, (va_Dl hD).weaken (fun _ _ _ _ => trivial)⟩ rfl hl.1 rfl (Nat.le_of_ble_eq_true rfl) ⟨(Nat.le_of_ble_eq_true rfl), (Nat.le_of_ble_eq_true rfl)⟩ ⟨by show cells + 0 ≤ 775734; omega, by show slots + 0 ≤ 6775046; omega⟩ d_Law_law_289) ?_
  refine lv_aload_n hx hb d_Law_law_292 rfl (lv_at hl 1 rfl) ?_
  refine lv_aload_n hx hb d_Law_law_293 rfl (lv_at hl 3 rfl) ?_
  refine lv_iload_n hx hb d_Law_law_294 rfl (lv_at hl 0 rfl) ?_
  refine lv_iconst (v := 1) hx hb d_Law_law_295 (by decide) ?_
  refine lv_iadd hx hb d_Law_law_296 ?_
  rw [e1]
  refine va_sld hx hb hX hbl hbA hS (vp_in_nI (show i + 1 < L by omega) (by omega)) d_Law_law_297 ?_
  rw [hc1, ← hv]
  refine lv_aload_n hx hb d_Law_law_298 rfl (lv_at hl 3 rfl) ?_
  refine lv_iload_n hx hb d_Law_law_299 rfl (lv_at hl 0 rfl) ?_
  refine lv_iconst (v := 2) hx hb d_Law_law_300 (by decide) ?_
  refine lv_iadd hx hb d_Law_law_301 ?_
  rw [e2]
  refine va_sld hx hb hX hbl hbA hS (vp_in_nI (show i + 2 < L by omega) (by omega)) d_Law_law_302 ?_
  rw [hc2, ← hw]
  refine z_q (z_D (n := 2) (C := "VoucherOfficeModel") (As := [.int v, .int w]) (rest := [.int (oMark n gn pv v w)]) S (c_Mo_mark l G _ mo a1 a2 a3 a4 a5 a6 a7 td iss sp fe la n ko am lf fr pt so gM v w hn40) kg_524 kg_525 kg_526 kg_527 ok_Mo_mark pd_Mo_mark (zrec hK (va_Pr hP 0 _ rfl) zm_cls) ⟨rfl, va_Pr hP, (va_Dr hD).weaken (fun _ _ _ _ => trivial)⟩ rfl hl.1 rfl (Nat.le_of_ble_eq_true rfl) ⟨(Nat.le_of_ble_eq_true rfl), (Nat.le_of_ble_eq_true rfl)⟩ ⟨by show cells + 0 ≤ 775734; omega, by show slots + 0 ≤ 6775046; omega⟩ d_Law_law_303) ?_
  refine lv_icmp_eq (tgt := 469) hx hb d_Law_law_306 (by decide) (fun c_1 => ?_) (fun c_1 => ?_)
  · refine W.widen (k := cells + 1) (n := slots + 5) (by omega) (by omega) ?_
    exact kk _ _ ⟨ra, a1, a2, a3, a4, a5, a6, a7, td, iss, sp, fe, la, pf, n, gn, ad, pv, ko, am, lf, fr, pt, so, gM, hinv, hpf, hP, hD, hS⟩
  · exact absurd (hinv.mark v w).symm c_1
set_option maxHeartbeats 2000000 in
theorem law_c7 {p : Program} {l : Launch} {e : Env} {s : State} {m : MethodId} {below : List Frame} {meth : Method} {c : Code} {G : ZG} {b L : Nat} {xs : Nat → Int32} {x mo : Nat} {H : Heap} {locs : List Loc} {cells slots : Nat} {Q : State → Prop} {i : Nat} {ls : Array Slot} (hL : L ≤ 1536) (C0 : lw_At p s m meth c b L xs) (hK : KZ G s) (hLS : LwS G s x mo H locs) (hi : i + 2 < L) (hl : lv_has ls 4 [(3, .int (nI i)), (2, .ref mo), (1, .ref x), (0, .ref b)]) (hcs : cells + 1 ≤ 775734 ∧ slots + 5 ≤ 6775046) (kk : ∀ (H1 : Heap) (locs1 : List Loc), LwS G s x mo H1 locs1 → W p l e room_1 s m #[Value.ref b] below meth c H1 locs1 (cells + 1) (slots + 5) Q (F0 m 469 ls [])) : W p l e room_1 s m #[Value.ref b] below meth c H locs cells slots Q (F0 m 311 ls []) := by
  obtain ⟨hx, hb, hr, hml, hown, hts0, hX, hbl, hlocks, hgv⟩ := id C0
  have hts : ∀ w ∈ gw, w.before #[Value.ref b] s = true := fun w hw => hts0 w (gw_tbl hw)
  have S : ZC p m c code 4 s #[Value.ref b] "VoucherOfficeLaw" G := ⟨⟨hx, hb, hml, hown, hts⟩, hK⟩
  have hbA : ¬ (fun q : Nat => s.heap.size ≤ q) b := Nat.not_le.mpr hbl
  obtain ⟨ra, a1, a2, a3, a4, a5, a6, a7, td, iss, sp, fe, la, pf, n, gn, ad, pv, ko, am, lf, fr, pt, so, gM, hinv, hpf, hP, hD, hS⟩ := hLS
  have hok := okP_of hinv hpf
  have hn40 : n ≤ 40 := hinv.1
  have hAH : ∀ q : Nat, H.size ≤ q → (fun q : Nat => s.heap.size ≤ q) q := fun q h => Nat.le_trans hS.1 h
  have hAh : ∀ {H2 : Heap} {locs2 : List Loc}, va_S (fun q : Nat => s.heap.size ≤ q) s.heap H2 locs2 → ∀ q : Nat, H2.size ≤ q → (fun q : Nat => s.heap.size ≤ q) q := fun hS2 q h => Nat.le_trans hS2.1 h
  obtain ⟨hcs1, hcs2⟩ := hcs
  obtain ⟨v, hv⟩ : ∃ v : Int32, v = xs (i + 1) := ⟨_, rfl⟩
  obtain ⟨w, hw⟩ : ∃ w : Int32, w = xs (i + 2) := ⟨_, rfl⟩
  have e1 : nI i + 1 = nI (i + 1) := nI_1 i
  have e2 : nI i + 2 = nI (i + 2) := by rw [← nI2, nI_add]
  have hc1 : (nI (i + 1)).toNatClampNeg = i + 1 := nI_clamp (by omega)
  have hc2 : (nI (i + 2)).toNatClampNeg = i + 2 := nI_clamp (by omega)
  refine lv_aload_n hx hb d_Law_law_311 rfl (lv_at hl 2 rfl) ?_
  refine lv_aload_n hx hb d_Law_law_312 rfl (lv_at hl 3 rfl) ?_
  refine lv_iload_n hx hb d_Law_law_313 rfl (lv_at hl 0 rfl) ?_
  refine lv_iconst (v := 1) hx hb d_Law_law_314 (by decide) ?_
  refine lv_iadd hx hb d_Law_law_315 ?_
  rw [e1]
  refine va_sld hx hb hX hbl hbA hS (vp_in_nI (show i + 1 < L by omega) (by omega)) d_Law_law_316 ?_
  rw [hc1, ← hv]
  refine lv_aload_n hx hb d_Law_law_317 rfl (lv_at hl 3 rfl) ?_
  refine lv_iload_n hx hb d_Law_law_318 rfl (lv_at hl 0 rfl) ?_
  refine lv_iconst (v := 2) hx hb d_Law_law_319 (by decide) ?_
  refine lv_iadd hx hb d_Law_law_320 ?_
  rw [e2]
  refine va_sld hx hb hX hbl hbA hS (vp_in_nI (show i + 2 < L by omega) (by omega)) d_Law_law_321 ?_
  rw [hc2, ← hw]
  refine z_q (z_D (n := 2) (C := "VoucherOffice") (As := [.int v, .int w]) (rest := []) S (c_Of_daysLeft l G _ x ra td iss sp fe la pf n gn ad pv v w hok) kg_352 kg_353 kg_354 kg_355 ok_Of_daysLeft pd_Of_daysLeft (zrec hK (va_Pl hP 0 _ rfl) zo_cls) ⟨rfl, va_Pl hP, (va_Dl hD).weaken (fun _ _ _ _ => trivial)⟩ rfl hl.1 rfl (Nat.le_of_ble_eq_true rfl) ⟨(Nat.le_of_ble_eq_true rfl), (Nat.le_of_ble_eq_true rfl)⟩ ⟨by show cells + 0 ≤ 775734; omega, by show slots + 0 ≤ 6775046; omega⟩ d_Law_law_322) ?_
  refine lv_aload_n hx hb d_Law_law_325 rfl (lv_at hl 1 rfl) ?_
  refine lv_aload_n hx hb d_Law_law_326 rfl (lv_at hl 3 rfl) ?_
  refine lv_iload_n hx hb d_Law_law_327 rfl (lv_at hl 0 rfl) ?_
  refine lv_iconst (v := 1) hx hb d_Law_law_328 (by decide) ?_
  refine lv_iadd hx hb d_Law_law_329 ?_
  rw [e1]
  refine va_sld hx hb hX hbl hbA hS (vp_in_nI (show i + 1 < L by omega) (by omega)) d_Law_law_330 ?_
  rw [hc1, ← hv]
  refine lv_aload_n hx hb d_Law_law_331 rfl (lv_at hl 3 rfl) ?_
  refine lv_iload_n hx hb d_Law_law_332 rfl (lv_at hl 0 rfl) ?_
  refine lv_iconst (v := 2) hx hb d_Law_law_333 (by decide) ?_
  refine lv_iadd hx hb d_Law_law_334 ?_
  rw [e2]
  refine va_sld hx hb hX hbl hbA hS (vp_in_nI (show i + 2 < L by omega) (by omega)) d_Law_law_335 ?_
  rw [hc2, ← hw]
  refine z_q (z_D (n := 2) (C := "VoucherOfficeModel") (As := [.int v, .int w]) (rest := [.int (oDays n gn pv v w)]) S (c_Mo_daysLeft l G _ mo a1 a2 a3 a4 a5 a6 a7 td iss sp fe la n ko am lf fr pt so gM v w hn40) kg_528 kg_529 kg_530 kg_531 ok_Mo_daysLeft pd_Mo_daysLeft (zrec hK (va_Pr hP 0 _ rfl) zm_cls) ⟨rfl, va_Pr hP, (va_Dr hD).weaken (fun _ _ _ _ => trivial)⟩ rfl hl.1 rfl (Nat.le_of_ble_eq_true rfl) ⟨(Nat.le_of_ble_eq_true rfl), (Nat.le_of_ble_eq_true rfl)⟩ ⟨by show cells + 0 ≤ 775734; omega, by show slots + 0 ≤ 6775046; omega⟩ d_Law_law_336) ?_
  refine lv_icmp_eq (tgt := 469) hx hb d_Law_law_339 (by decide) (fun c_1 => ?_) (fun c_1 => ?_)
  · refine W.widen (k := cells + 1) (n := slots + 5) (by omega) (by omega) ?_
    exact kk _ _ ⟨ra, a1, a2, a3, a4, a5, a6, a7, td, iss, sp, fe, la, pf, n, gn, ad, pv, ko, am, lf, fr, pt, so, gM, hinv, hpf, hP, hD, hS⟩
  · exact absurd (hinv.days v w).symm c_1
set_option maxHeartbeats 2000000 in
theorem law_c10 {p : Program} {l : Launch} {e : Env} {s : State} {m : MethodId} {below : List Frame} {meth : Method} {c : Code} {G : ZG} {b L : Nat} {xs : Nat → Int32} {x mo : Nat} {H : Heap} {locs : List Loc} {cells slots : Nat} {Q : State → Prop} {i : Nat} {ls : Array Slot} (hL : L ≤ 1536) (C0 : lw_At p s m meth c b L xs) (hK : KZ G s) (hLS : LwS G s x mo H locs) (hi : i + 2 < L) (hl : lv_has ls 4 [(3, .int (nI i)), (2, .ref mo), (1, .ref x), (0, .ref b)]) (hcs : cells + 1 ≤ 775734 ∧ slots + 5 ≤ 6775046) (kk : ∀ (H1 : Heap) (locs1 : List Loc), LwS G s x mo H1 locs1 → W p l e room_1 s m #[Value.ref b] below meth c H1 locs1 (cells + 1) (slots + 5) Q (F0 m 469 ls [])) : W p l e room_1 s m #[Value.ref b] below meth c H locs cells slots Q (F0 m 390 ls []) := by
  obtain ⟨hx, hb, hr, hml, hown, hts0, hX, hbl, hlocks, hgv⟩ := id C0
  have hts : ∀ w ∈ gw, w.before #[Value.ref b] s = true := fun w hw => hts0 w (gw_tbl hw)
  have S : ZC p m c code 4 s #[Value.ref b] "VoucherOfficeLaw" G := ⟨⟨hx, hb, hml, hown, hts⟩, hK⟩
  have hbA : ¬ (fun q : Nat => s.heap.size ≤ q) b := Nat.not_le.mpr hbl
  obtain ⟨ra, a1, a2, a3, a4, a5, a6, a7, td, iss, sp, fe, la, pf, n, gn, ad, pv, ko, am, lf, fr, pt, so, gM, hinv, hpf, hP, hD, hS⟩ := hLS
  have hok := okP_of hinv hpf
  have hn40 : n ≤ 40 := hinv.1
  have hAH : ∀ q : Nat, H.size ≤ q → (fun q : Nat => s.heap.size ≤ q) q := fun q h => Nat.le_trans hS.1 h
  have hAh : ∀ {H2 : Heap} {locs2 : List Loc}, va_S (fun q : Nat => s.heap.size ≤ q) s.heap H2 locs2 → ∀ q : Nat, H2.size ≤ q → (fun q : Nat => s.heap.size ≤ q) q := fun hS2 q h => Nat.le_trans hS2.1 h
  obtain ⟨hcs1, hcs2⟩ := hcs
  obtain ⟨v, hv⟩ : ∃ v : Int32, v = xs (i + 1) := ⟨_, rfl⟩
  obtain ⟨w, hw⟩ : ∃ w : Int32, w = xs (i + 2) := ⟨_, rfl⟩
  have e1 : nI i + 1 = nI (i + 1) := nI_1 i
  have e2 : nI i + 2 = nI (i + 2) := by rw [← nI2, nI_add]
  have hc1 : (nI (i + 1)).toNatClampNeg = i + 1 := nI_clamp (by omega)
  have hc2 : (nI (i + 2)).toNatClampNeg = i + 2 := nI_clamp (by omega)
  refine lv_aload_n hx hb d_Law_law_390 rfl (lv_at hl 2 rfl) ?_
  refine lv_aload_n hx hb d_Law_law_391 rfl (lv_at hl 3 rfl) ?_
  refine lv_iload_n hx hb d_Law_law_392 rfl (lv_at hl 0 rfl) ?_
  refine lv_iconst (v := 1) hx hb d_Law_law_393 (by decide) ?_
  refine lv_iadd hx hb d_Law_law_394 ?_
  rw [e1]
  refine va_sld hx hb hX hbl hbA hS (vp_in_nI (show i + 1 < L by omega) (by omega)) d_Law_law_395 ?_
  rw [hc1, ← hv]
  refine z_q (z_D (n := 1) (C := "VoucherOffice") (As := [.int v]) (rest := []) S (c_Of_total l G _ x ra td iss sp fe la pf n gn ad pv v hok) kg_401 kg_402 kg_403 kg_404 ok_Of_total pd_Of_total (zrec hK (va_Pl hP 0 _ rfl) zo_cls) ⟨rfl, va_Pl hP, (va_Dl hD).weaken (fun _ _ _ _ => trivial)⟩ rfl hl.1 rfl (Nat.le_of_ble_eq_true rfl) ⟨(Nat.le_of_ble_eq_true rfl), (Nat.le_of_ble_eq_true rfl)⟩ ⟨by show cells + 0 ≤ 775734; omega, by show slots + 0 ≤ 6775046; omega⟩ d_Law_law_396) ?_
  refine lv_aload_n hx hb d_Law_law_399 rfl (lv_at hl 1 rfl) ?_
  refine lv_aload_n hx hb d_Law_law_400 rfl (lv_at hl 3 rfl) ?_
  refine lv_iload_n hx hb d_Law_law_401 rfl (lv_at hl 0 rfl) ?_
  refine lv_iconst (v := 1) hx hb d_Law_law_402 (by decide) ?_
  refine lv_iadd hx hb d_Law_law_403 ?_
  rw [e1]
  refine va_sld hx hb hX hbl hbA hS (vp_in_nI (show i + 1 < L by omega) (by omega)) d_Law_law_404 ?_
  rw [hc1, ← hv]
  refine z_q (z_D (n := 1) (C := "VoucherOfficeModel") (As := [.int v]) (rest := [.int (oTotal n gn pv v)]) S (c_Mo_total l G _ mo a1 a2 a3 a4 a5 a6 a7 td iss sp fe la n ko am lf fr pt so gM v hn40) kg_540 kg_541 kg_542 kg_543 ok_Mo_total pd_Mo_total (zrec hK (va_Pr hP 0 _ rfl) zm_cls) ⟨rfl, va_Pr hP, (va_Dr hD).weaken (fun _ _ _ _ => trivial)⟩ rfl hl.1 rfl (Nat.le_of_ble_eq_true rfl) ⟨(Nat.le_of_ble_eq_true rfl), (Nat.le_of_ble_eq_true rfl)⟩ ⟨by show cells + 0 ≤ 775734; omega, by show slots + 0 ≤ 6775046; omega⟩ d_Law_law_405) ?_
  refine lv_icmp_eq (tgt := 469) hx hb d_Law_law_408 (by decide) (fun c_1 => ?_) (fun c_1 => ?_)
  · refine W.widen (k := cells + 1) (n := slots + 5) (by omega) (by omega) ?_
    exact kk _ _ ⟨ra, a1, a2, a3, a4, a5, a6, a7, td, iss, sp, fe, la, pf, n, gn, ad, pv, ko, am, lf, fr, pt, so, gM, hinv, hpf, hP, hD, hS⟩
  · exact absurd (hinv.total v).symm c_1
set_option maxHeartbeats 2000000 in
theorem law_c11 {p : Program} {l : Launch} {e : Env} {s : State} {m : MethodId} {below : List Frame} {meth : Method} {c : Code} {G : ZG} {b L : Nat} {xs : Nat → Int32} {x mo : Nat} {H : Heap} {locs : List Loc} {cells slots : Nat} {Q : State → Prop} {i : Nat} {ls : Array Slot} (hL : L ≤ 1536) (C0 : lw_At p s m meth c b L xs) (hK : KZ G s) (hLS : LwS G s x mo H locs) (hi : i + 2 < L) (hl : lv_has ls 4 [(3, .int (nI i)), (2, .ref mo), (1, .ref x), (0, .ref b)]) (hcs : cells + 1 ≤ 775734 ∧ slots + 5 ≤ 6775046) (kk : ∀ (H1 : Heap) (locs1 : List Loc), LwS G s x mo H1 locs1 → W p l e room_1 s m #[Value.ref b] below meth c H1 locs1 (cells + 1) (slots + 5) Q (F0 m 469 ls [])) : W p l e room_1 s m #[Value.ref b] below meth c H locs cells slots Q (F0 m 413 ls []) := by
  obtain ⟨hx, hb, hr, hml, hown, hts0, hX, hbl, hlocks, hgv⟩ := id C0
  have hts : ∀ w ∈ gw, w.before #[Value.ref b] s = true := fun w hw => hts0 w (gw_tbl hw)
  have S : ZC p m c code 4 s #[Value.ref b] "VoucherOfficeLaw" G := ⟨⟨hx, hb, hml, hown, hts⟩, hK⟩
  have hbA : ¬ (fun q : Nat => s.heap.size ≤ q) b := Nat.not_le.mpr hbl
  obtain ⟨ra, a1, a2, a3, a4, a5, a6, a7, td, iss, sp, fe, la, pf, n, gn, ad, pv, ko, am, lf, fr, pt, so, gM, hinv, hpf, hP, hD, hS⟩ := hLS
  have hok := okP_of hinv hpf
  have hn40 : n ≤ 40 := hinv.1
  have hAH : ∀ q : Nat, H.size ≤ q → (fun q : Nat => s.heap.size ≤ q) q := fun q h => Nat.le_trans hS.1 h
  have hAh : ∀ {H2 : Heap} {locs2 : List Loc}, va_S (fun q : Nat => s.heap.size ≤ q) s.heap H2 locs2 → ∀ q : Nat, H2.size ≤ q → (fun q : Nat => s.heap.size ≤ q) q := fun hS2 q h => Nat.le_trans hS2.1 h
  obtain ⟨hcs1, hcs2⟩ := hcs
  obtain ⟨v, hv⟩ : ∃ v : Int32, v = xs (i + 1) := ⟨_, rfl⟩
  obtain ⟨w, hw⟩ : ∃ w : Int32, w = xs (i + 2) := ⟨_, rfl⟩
  have e1 : nI i + 1 = nI (i + 1) := nI_1 i
  have e2 : nI i + 2 = nI (i + 2) := by rw [← nI2, nI_add]
  have hc1 : (nI (i + 1)).toNatClampNeg = i + 1 := nI_clamp (by omega)
  have hc2 : (nI (i + 2)).toNatClampNeg = i + 2 := nI_clamp (by omega)
  refine lv_aload_n hx hb d_Law_law_413 rfl (lv_at hl 2 rfl) ?_
  refine lv_aload_n hx hb d_Law_law_414 rfl (lv_at hl 3 rfl) ?_
  refine lv_iload_n hx hb d_Law_law_415 rfl (lv_at hl 0 rfl) ?_
  refine lv_iconst (v := 1) hx hb d_Law_law_416 (by decide) ?_
  refine lv_iadd hx hb d_Law_law_417 ?_
  rw [e1]
  refine va_sld hx hb hX hbl hbA hS (vp_in_nI (show i + 1 < L by omega) (by omega)) d_Law_law_418 ?_
  rw [hc1, ← hv]
  refine lv_aload_n hx hb d_Law_law_419 rfl (lv_at hl 3 rfl) ?_
  refine lv_iload_n hx hb d_Law_law_420 rfl (lv_at hl 0 rfl) ?_
  refine lv_iconst (v := 2) hx hb d_Law_law_421 (by decide) ?_
  refine lv_iadd hx hb d_Law_law_422 ?_
  rw [e2]
  refine va_sld hx hb hX hbl hbA hS (vp_in_nI (show i + 2 < L by omega) (by omega)) d_Law_law_423 ?_
  rw [hc2, ← hw]
  refine z_q (z_D (n := 2) (C := "VoucherOffice") (As := [.int v, .int w]) (rest := []) S (c_Of_paper l G _ x ra td iss sp fe la pf n gn ad pv v w hok) kg_405 kg_406 kg_407 kg_408 ok_Of_paper pd_Of_paper (zrec hK (va_Pl hP 0 _ rfl) zo_cls) ⟨rfl, va_Pl hP, (va_Dl hD).weaken (fun _ _ _ _ => trivial)⟩ rfl hl.1 rfl (Nat.le_of_ble_eq_true rfl) ⟨(Nat.le_of_ble_eq_true rfl), (Nat.le_of_ble_eq_true rfl)⟩ ⟨by show cells + 0 ≤ 775734; omega, by show slots + 0 ≤ 6775046; omega⟩ d_Law_law_424) ?_
  refine lv_aload_n hx hb d_Law_law_427 rfl (lv_at hl 1 rfl) ?_
  refine lv_aload_n hx hb d_Law_law_428 rfl (lv_at hl 3 rfl) ?_
  refine lv_iload_n hx hb d_Law_law_429 rfl (lv_at hl 0 rfl) ?_
  refine lv_iconst (v := 1) hx hb d_Law_law_430 (by decide) ?_
  refine lv_iadd hx hb d_Law_law_431 ?_
  rw [e1]
  refine va_sld hx hb hX hbl hbA hS (vp_in_nI (show i + 1 < L by omega) (by omega)) d_Law_law_432 ?_
  rw [hc1, ← hv]
  refine lv_aload_n hx hb d_Law_law_433 rfl (lv_at hl 3 rfl) ?_
  refine lv_iload_n hx hb d_Law_law_434 rfl (lv_at hl 0 rfl) ?_
  refine lv_iconst (v := 2) hx hb d_Law_law_435 (by decide) ?_
  refine lv_iadd hx hb d_Law_law_436 ?_
  rw [e2]
  refine va_sld hx hb hX hbl hbA hS (vp_in_nI (show i + 2 < L by omega) (by omega)) d_Law_law_437 ?_
  rw [hc2, ← hw]
  refine z_q (z_D (n := 2) (C := "VoucherOfficeModel") (As := [.int v, .int w]) (rest := [.int (oPaper n gn pv v w)]) S (c_Mo_paper l G _ mo a1 a2 a3 a4 a5 a6 a7 td iss sp fe la n ko am lf fr pt so gM v w hn40) kg_544 kg_545 kg_546 kg_547 ok_Mo_paper pd_Mo_paper (zrec hK (va_Pr hP 0 _ rfl) zm_cls) ⟨rfl, va_Pr hP, (va_Dr hD).weaken (fun _ _ _ _ => trivial)⟩ rfl hl.1 rfl (Nat.le_of_ble_eq_true rfl) ⟨(Nat.le_of_ble_eq_true rfl), (Nat.le_of_ble_eq_true rfl)⟩ ⟨by show cells + 0 ≤ 775734; omega, by show slots + 0 ≤ 6775046; omega⟩ d_Law_law_438) ?_
  refine lv_icmp_eq (tgt := 469) hx hb d_Law_law_441 (by decide) (fun c_1 => ?_) (fun c_1 => ?_)
  · refine W.widen (k := cells + 1) (n := slots + 5) (by omega) (by omega) ?_
    exact kk _ _ ⟨ra, a1, a2, a3, a4, a5, a6, a7, td, iss, sp, fe, la, pf, n, gn, ad, pv, ko, am, lf, fr, pt, so, gM, hinv, hpf, hP, hD, hS⟩
  · exact absurd (hinv.paper v w).symm c_1
set_option maxHeartbeats 2000000 in
theorem law_c12 {p : Program} {l : Launch} {e : Env} {s : State} {m : MethodId} {below : List Frame} {meth : Method} {c : Code} {G : ZG} {b L : Nat} {xs : Nat → Int32} {x mo : Nat} {H : Heap} {locs : List Loc} {cells slots : Nat} {Q : State → Prop} {i : Nat} {ls : Array Slot} (hL : L ≤ 1536) (C0 : lw_At p s m meth c b L xs) (hK : KZ G s) (hLS : LwS G s x mo H locs) (hi : i + 2 < L) (hl : lv_has ls 4 [(3, .int (nI i)), (2, .ref mo), (1, .ref x), (0, .ref b)]) (hcs : cells + 1 ≤ 775734 ∧ slots + 5 ≤ 6775046) (kk : ∀ (H1 : Heap) (locs1 : List Loc), LwS G s x mo H1 locs1 → W p l e room_1 s m #[Value.ref b] below meth c H1 locs1 (cells + 1) (slots + 5) Q (F0 m 469 ls [])) : W p l e room_1 s m #[Value.ref b] below meth c H locs cells slots Q (F0 m 446 ls []) := by
  obtain ⟨hx, hb, hr, hml, hown, hts0, hX, hbl, hlocks, hgv⟩ := id C0
  have hts : ∀ w ∈ gw, w.before #[Value.ref b] s = true := fun w hw => hts0 w (gw_tbl hw)
  have S : ZC p m c code 4 s #[Value.ref b] "VoucherOfficeLaw" G := ⟨⟨hx, hb, hml, hown, hts⟩, hK⟩
  have hbA : ¬ (fun q : Nat => s.heap.size ≤ q) b := Nat.not_le.mpr hbl
  obtain ⟨ra, a1, a2, a3, a4, a5, a6, a7, td, iss, sp, fe, la, pf, n, gn, ad, pv, ko, am, lf, fr, pt, so, gM, hinv, hpf, hP, hD, hS⟩ := hLS
  have hok := okP_of hinv hpf
  have hn40 : n ≤ 40 := hinv.1
  have hAH : ∀ q : Nat, H.size ≤ q → (fun q : Nat => s.heap.size ≤ q) q := fun q h => Nat.le_trans hS.1 h
  have hAh : ∀ {H2 : Heap} {locs2 : List Loc}, va_S (fun q : Nat => s.heap.size ≤ q) s.heap H2 locs2 → ∀ q : Nat, H2.size ≤ q → (fun q : Nat => s.heap.size ≤ q) q := fun hS2 q h => Nat.le_trans hS2.1 h
  obtain ⟨hcs1, hcs2⟩ := hcs
  obtain ⟨v, hv⟩ : ∃ v : Int32, v = xs (i + 1) := ⟨_, rfl⟩
  obtain ⟨w, hw⟩ : ∃ w : Int32, w = xs (i + 2) := ⟨_, rfl⟩
  have e1 : nI i + 1 = nI (i + 1) := nI_1 i
  have e2 : nI i + 2 = nI (i + 2) := by rw [← nI2, nI_add]
  have hc1 : (nI (i + 1)).toNatClampNeg = i + 1 := nI_clamp (by omega)
  have hc2 : (nI (i + 2)).toNatClampNeg = i + 2 := nI_clamp (by omega)
  refine lv_aload_n hx hb d_Law_law_446 rfl (lv_at hl 2 rfl) ?_
  refine lv_aload_n hx hb d_Law_law_447 rfl (lv_at hl 3 rfl) ?_
  refine lv_iload_n hx hb d_Law_law_448 rfl (lv_at hl 0 rfl) ?_
  refine lv_iconst (v := 1) hx hb d_Law_law_449 (by decide) ?_
  refine lv_iadd hx hb d_Law_law_450 ?_
  rw [e1]
  refine va_sld hx hb hX hbl hbA hS (vp_in_nI (show i + 1 < L by omega) (by omega)) d_Law_law_451 ?_
  rw [hc1, ← hv]
  refine z_q (z_D (n := 1) (C := "VoucherOffice") (As := [.int v]) (rest := []) S (c_Of_count l G _ x ra td iss sp fe la pf n gn ad pv v hok) kg_412 kg_413 kg_414 kg_415 ok_Of_count pd_Of_count (zrec hK (va_Pl hP 0 _ rfl) zo_cls) ⟨rfl, va_Pl hP, (va_Dl hD).weaken (fun _ _ _ _ => trivial)⟩ rfl hl.1 rfl (Nat.le_of_ble_eq_true rfl) ⟨(Nat.le_of_ble_eq_true rfl), (Nat.le_of_ble_eq_true rfl)⟩ ⟨by show cells + 0 ≤ 775734; omega, by show slots + 0 ≤ 6775046; omega⟩ d_Law_law_452) ?_
  refine lv_aload_n hx hb d_Law_law_455 rfl (lv_at hl 1 rfl) ?_
  refine lv_aload_n hx hb d_Law_law_456 rfl (lv_at hl 3 rfl) ?_
  refine lv_iload_n hx hb d_Law_law_457 rfl (lv_at hl 0 rfl) ?_
  refine lv_iconst (v := 1) hx hb d_Law_law_458 (by decide) ?_
  refine lv_iadd hx hb d_Law_law_459 ?_
  rw [e1]
  refine va_sld hx hb hX hbl hbA hS (vp_in_nI (show i + 1 < L by omega) (by omega)) d_Law_law_460 ?_
  rw [hc1, ← hv]
  refine z_q (z_D (n := 1) (C := "VoucherOfficeModel") (As := [.int v]) (rest := [.int (oCount n gn pv td iss sp fe la v)]) S (c_Mo_count l G _ mo a1 a2 a3 a4 a5 a6 a7 td iss sp fe la n ko am lf fr pt so gM v hn40) kg_548 kg_549 kg_550 kg_551 ok_Mo_count pd_Mo_count (zrec hK (va_Pr hP 0 _ rfl) zm_cls) ⟨rfl, va_Pr hP, (va_Dr hD).weaken (fun _ _ _ _ => trivial)⟩ rfl hl.1 rfl (Nat.le_of_ble_eq_true rfl) ⟨(Nat.le_of_ble_eq_true rfl), (Nat.le_of_ble_eq_true rfl)⟩ ⟨by show cells + 0 ≤ 775734; omega, by show slots + 0 ≤ 6775046; omega⟩ d_Law_law_461) ?_
  refine lv_icmp_eq (tgt := 469) hx hb d_Law_law_464 (by decide) (fun c_1 => ?_) (fun c_1 => ?_)
  · refine W.widen (k := cells + 1) (n := slots + 5) (by omega) (by omega) ?_
    exact kk _ _ ⟨ra, a1, a2, a3, a4, a5, a6, a7, td, iss, sp, fe, la, pf, n, gn, ad, pv, ko, am, lf, fr, pt, so, gM, hinv, hpf, hP, hD, hS⟩
  · exact absurd (hinv.count iss sp fe la v).symm c_1
end
section
set_option maxHeartbeats 2000000 in
theorem law_c1 {p : Program} {l : Launch} {e : Env} {s : State} {m : MethodId} {below : List Frame} {meth : Method} {c : Code} {G : ZG} {b L : Nat} {xs : Nat → Int32} {x mo : Nat} {H : Heap} {locs : List Loc} {cells slots : Nat} {Q : State → Prop} {i : Nat} {ls : Array Slot} (hL : L ≤ 1536) (C0 : lw_At p s m meth c b L xs) (hK : KZ G s) (hLS : LwS G s x mo H locs) (hi : i + 2 < L) (hl : lv_has ls 4 [(3, .int (nI i)), (2, .ref mo), (1, .ref x), (0, .ref b)]) (hcs : cells + 1 ≤ 775734 ∧ slots + 5 ≤ 6775046) (kk : ∀ (H1 : Heap) (locs1 : List Loc), LwS G s x mo H1 locs1 → W p l e room_1 s m #[Value.ref b] below meth c H1 locs1 (cells + 1) (slots + 5) Q (F0 m 469 ls [])) : W p l e room_1 s m #[Value.ref b] below meth c H locs cells slots Q (F0 m 133 ls []) := by
  obtain ⟨hx, hb, hr, hml, hown, hts0, hX, hbl, hlocks, hgv⟩ := id C0
  have hts : ∀ w ∈ gw, w.before #[Value.ref b] s = true := fun w hw => hts0 w (gw_tbl hw)
  have S : ZC p m c code 4 s #[Value.ref b] "VoucherOfficeLaw" G := ⟨⟨hx, hb, hml, hown, hts⟩, hK⟩
  have hbA : ¬ (fun q : Nat => s.heap.size ≤ q) b := Nat.not_le.mpr hbl
  obtain ⟨ra, a1, a2, a3, a4, a5, a6, a7, td, iss, sp, fe, la, pf, n, gn, ad, pv, ko, am, lf, fr, pt, so, gM, hinv, hpf, hP, hD, hS⟩ := hLS
  have hok := okP_of hinv hpf
  have hn40 : n ≤ 40 := hinv.1
  have hAH : ∀ q : Nat, H.size ≤ q → (fun q : Nat => s.heap.size ≤ q) q := fun q h => Nat.le_trans hS.1 h
  have hAh : ∀ {H2 : Heap} {locs2 : List Loc}, va_S (fun q : Nat => s.heap.size ≤ q) s.heap H2 locs2 → ∀ q : Nat, H2.size ≤ q → (fun q : Nat => s.heap.size ≤ q) q := fun hS2 q h => Nat.le_trans hS2.1 h
  obtain ⟨hcs1, hcs2⟩ := hcs
  obtain ⟨v, hv⟩ : ∃ v : Int32, v = xs (i + 1) := ⟨_, rfl⟩
  obtain ⟨w, hw⟩ : ∃ w : Int32, w = xs (i + 2) := ⟨_, rfl⟩
  have e1 : nI i + 1 = nI (i + 1) := nI_1 i
  have e2 : nI i + 2 = nI (i + 2) := by rw [← nI2, nI_add]
  have hc1 : (nI (i + 1)).toNatClampNeg = i + 1 := nI_clamp (by omega)
  have hc2 : (nI (i + 2)).toNatClampNeg = i + 2 := nI_clamp (by omega)
  refine lv_aload_n hx hb d_Law_law_133 rfl (lv_at hl 2 rfl) ?_
  refine lv_aload_n hx hb d_Law_law_134 rfl (lv_at hl 3 rfl) ?_
  refine lv_iload_n hx hb d_Law_law_135 rfl (lv_at hl 0 rfl) ?_
  refine lv_iconst (v := 1) hx hb d_Law_law_136 (by decide) ?_
  refine lv_iadd hx hb d_Law_law_137 ?_
  rw [e1]
  refine va_sld hx hb hX hbl hbA hS (vp_in_nI (show i + 1 < L by omega) (by omega)) d_Law_law_138 ?_
  rw [hc1, ← hv]
  refine z_mi (z_D (n := 1) (C := "VoucherOffice") (As := [.int v]) (rest := []) S (c_Of_pass l G _ x ra td iss sp fe la pf n gn ad pv v hok) kg_165 kg_166 kg_167 kg_168 ok_Of_pass pd_Of_pass (zrec hK (va_Pl hP 0 _ rfl) zo_cls) ⟨rfl, va_Pl hP, (va_Dl hD).weaken (fun _ _ _ _ => trivial)⟩ rfl hl.1 rfl (Nat.le_of_ble_eq_true rfl) ⟨(Nat.le_of_ble_eq_true rfl), (Nat.le_of_ble_eq_true rfl)⟩ ⟨by show cells + 0 ≤ 775734; omega, by show slots + 0 ≤ 6775046; omega⟩ d_Law_law_139) (fun H1 L1 hF hL1 => ?_)
  have hS := jo_S hS (jo_f (va_Dl hD) (hAh hS)) hF hL1
  obtain ⟨hP, hD⟩ := jo_l hP hD hAH hF
  have hAH : ∀ q : Nat, H1.size ≤ q → (fun q : Nat => s.heap.size ≤ q) q := fun q h => Nat.le_trans hS.1 h
  generalize H1 = H at hP hS hAH ⊢
  refine lv_aload_n hx hb d_Law_law_142 rfl (lv_at hl 1 rfl) ?_
  refine lv_aload_n hx hb d_Law_law_143 rfl (lv_at hl 3 rfl) ?_
  refine lv_iload_n hx hb d_Law_law_144 rfl (lv_at hl 0 rfl) ?_
  refine lv_iconst (v := 1) hx hb d_Law_law_145 (by decide) ?_
  refine lv_iadd hx hb d_Law_law_146 ?_
  rw [e1]
  refine va_sld hx hb hX hbl hbA hS (vp_in_nI (show i + 1 < L by omega) (by omega)) d_Law_law_147 ?_
  rw [hc1, ← hv]
  refine z_mi (z_D (n := 1) (C := "VoucherOfficeModel") (As := [.int v]) (rest := [.int (oPassR td v)]) S (c_Mo_pass l G _ mo a1 a2 a3 a4 a5 a6 a7 td iss sp fe la n ko am lf fr pt so gM v hn40) kg_476 kg_477 kg_478 kg_479 ok_Mo_pass pd_Mo_pass (zrec hK (va_Pr hP 0 _ rfl) zm_cls) ⟨rfl, va_Pr hP, (va_Dr hD).weaken (fun _ _ _ _ => trivial)⟩ rfl hl.1 rfl (Nat.le_of_ble_eq_true rfl) ⟨(Nat.le_of_ble_eq_true rfl), (Nat.le_of_ble_eq_true rfl)⟩ ⟨by show cells + 0 ≤ 775734; omega, by show slots + 0 ≤ 6775046; omega⟩ d_Law_law_148) (fun H1 L1 hF hL1 => ?_)
  have hS := jo_S hS (jo_f (va_Dr hD) (hAh hS)) hF hL1
  obtain ⟨hP, hD⟩ := jo_r hP hD hAH hF
  have hAH : ∀ q : Nat, H1.size ≤ q → (fun q : Nat => s.heap.size ≤ q) q := fun q h => Nat.le_trans hS.1 h
  generalize H1 = H at hP hS hAH ⊢
  refine lv_icmp_eq (tgt := 469) hx hb d_Law_law_151 (by decide) (fun c_1 => ?_) (fun c_1 => ?_)
  · refine W.widen (k := cells + 1) (n := slots + 5) (by omega) (by omega) ?_
    exact kk _ _ ⟨ra, a1, a2, a3, a4, a5, a6, a7, oPassT td v, iss, sp, fe, la, pf, n, gn, ad, pv, ko, am, lf, fr, pt, so, gM, hinv.pass v, hpf, hP, hD, hS⟩
  · exact absurd rfl c_1
set_option maxHeartbeats 2000000 in
theorem law_c4 {p : Program} {l : Launch} {e : Env} {s : State} {m : MethodId} {below : List Frame} {meth : Method} {c : Code} {G : ZG} {b L : Nat} {xs : Nat → Int32} {x mo : Nat} {H : Heap} {locs : List Loc} {cells slots : Nat} {Q : State → Prop} {i : Nat} {ls : Array Slot} (hL : L ≤ 1536) (C0 : lw_At p s m meth c b L xs) (hK : KZ G s) (hLS : LwS G s x mo H locs) (hi : i + 2 < L) (hl : lv_has ls 4 [(3, .int (nI i)), (2, .ref mo), (1, .ref x), (0, .ref b)]) (hcs : cells + 1 ≤ 775734 ∧ slots + 5 ≤ 6775046) (kk : ∀ (H1 : Heap) (locs1 : List Loc), LwS G s x mo H1 locs1 → W p l e room_1 s m #[Value.ref b] below meth c H1 locs1 (cells + 1) (slots + 5) Q (F0 m 469 ls [])) : W p l e room_1 s m #[Value.ref b] below meth c H locs cells slots Q (F0 m 222 ls []) := by
  obtain ⟨hx, hb, hr, hml, hown, hts0, hX, hbl, hlocks, hgv⟩ := id C0
  have hts : ∀ w ∈ gw, w.before #[Value.ref b] s = true := fun w hw => hts0 w (gw_tbl hw)
  have S : ZC p m c code 4 s #[Value.ref b] "VoucherOfficeLaw" G := ⟨⟨hx, hb, hml, hown, hts⟩, hK⟩
  have hbA : ¬ (fun q : Nat => s.heap.size ≤ q) b := Nat.not_le.mpr hbl
  obtain ⟨ra, a1, a2, a3, a4, a5, a6, a7, td, iss, sp, fe, la, pf, n, gn, ad, pv, ko, am, lf, fr, pt, so, gM, hinv, hpf, hP, hD, hS⟩ := hLS
  have hok := okP_of hinv hpf
  have hn40 : n ≤ 40 := hinv.1
  have hAH : ∀ q : Nat, H.size ≤ q → (fun q : Nat => s.heap.size ≤ q) q := fun q h => Nat.le_trans hS.1 h
  have hAh : ∀ {H2 : Heap} {locs2 : List Loc}, va_S (fun q : Nat => s.heap.size ≤ q) s.heap H2 locs2 → ∀ q : Nat, H2.size ≤ q → (fun q : Nat => s.heap.size ≤ q) q := fun hS2 q h => Nat.le_trans hS2.1 h
  obtain ⟨hcs1, hcs2⟩ := hcs
  obtain ⟨v, hv⟩ : ∃ v : Int32, v = xs (i + 1) := ⟨_, rfl⟩
  obtain ⟨w, hw⟩ : ∃ w : Int32, w = xs (i + 2) := ⟨_, rfl⟩
  have e1 : nI i + 1 = nI (i + 1) := nI_1 i
  have e2 : nI i + 2 = nI (i + 2) := by rw [← nI2, nI_add]
  have hc1 : (nI (i + 1)).toNatClampNeg = i + 1 := nI_clamp (by omega)
  have hc2 : (nI (i + 2)).toNatClampNeg = i + 2 := nI_clamp (by omega)
  have hsp := hinv.spend v w sp fe
  refine lv_aload_n hx hb d_Law_law_222 rfl (lv_at hl 2 rfl) ?_
  refine lv_aload_n hx hb d_Law_law_223 rfl (lv_at hl 3 rfl) ?_
  refine lv_iload_n hx hb d_Law_law_224 rfl (lv_at hl 0 rfl) ?_
  refine lv_iconst (v := 1) hx hb d_Law_law_225 (by decide) ?_
  refine lv_iadd hx hb d_Law_law_226 ?_
  rw [e1]
  refine va_sld hx hb hX hbl hbA hS (vp_in_nI (show i + 1 < L by omega) (by omega)) d_Law_law_227 ?_
  rw [hc1, ← hv]
  refine lv_aload_n hx hb d_Law_law_228 rfl (lv_at hl 3 rfl) ?_
  refine lv_iload_n hx hb d_Law_law_229 rfl (lv_at hl 0 rfl) ?_
  refine lv_iconst (v := 2) hx hb d_Law_law_230 (by decide) ?_
  refine lv_iadd hx hb d_Law_law_231 ?_
  rw [e2]
  refine va_sld hx hb hX hbl hbA hS (vp_in_nI (show i + 2 < L by omega) (by omega)) d_Law_law_232 ?_
  rw [hc2, ← hw]
  refine z_mi (z_D (n := 2) (C := "VoucherOffice") (As := [.int v, .int w]) (rest := []) S (c_Of_spend l G _ x ra td iss sp fe la pf n gn ad pv v w hok) kg_269 kg_270 kg_271 kg_272 ok_Of_spend pd_Of_spend (zrec hK (va_Pl hP 0 _ rfl) zo_cls) ⟨rfl, va_Pl hP, (va_Dl hD).weaken (fun _ _ _ _ => trivial)⟩ rfl hl.1 rfl (Nat.le_of_ble_eq_true rfl) ⟨(Nat.le_of_ble_eq_true rfl), (Nat.le_of_ble_eq_true rfl)⟩ ⟨by show cells + 0 ≤ 775734; omega, by show slots + 0 ≤ 6775046; omega⟩ d_Law_law_233) (fun H1 L1 hF hL1 => ?_)
  have hS := jo_S hS (jo_f (va_Dl hD) (hAh hS)) hF hL1
  obtain ⟨hP, hD⟩ := jo_l hP hD hAH hF
  have hAH : ∀ q : Nat, H1.size ≤ q → (fun q : Nat => s.heap.size ≤ q) q := fun q h => Nat.le_trans hS.1 h
  generalize H1 = H at hP hS hAH ⊢
  refine lv_aload_n hx hb d_Law_law_236 rfl (lv_at hl 1 rfl) ?_
  refine lv_aload_n hx hb d_Law_law_237 rfl (lv_at hl 3 rfl) ?_
  refine lv_iload_n hx hb d_Law_law_238 rfl (lv_at hl 0 rfl) ?_
  refine lv_iconst (v := 1) hx hb d_Law_law_239 (by decide) ?_
  refine lv_iadd hx hb d_Law_law_240 ?_
  rw [e1]
  refine va_sld hx hb hX hbl hbA hS (vp_in_nI (show i + 1 < L by omega) (by omega)) d_Law_law_241 ?_
  rw [hc1, ← hv]
  refine lv_aload_n hx hb d_Law_law_242 rfl (lv_at hl 3 rfl) ?_
  refine lv_iload_n hx hb d_Law_law_243 rfl (lv_at hl 0 rfl) ?_
  refine lv_iconst (v := 2) hx hb d_Law_law_244 (by decide) ?_
  refine lv_iadd hx hb d_Law_law_245 ?_
  rw [e2]
  refine va_sld hx hb hX hbl hbA hS (vp_in_nI (show i + 2 < L by omega) (by omega)) d_Law_law_246 ?_
  rw [hc2, ← hw]
  refine z_mi (z_D (n := 2) (C := "VoucherOfficeModel") (As := [.int v, .int w]) (rest := [.int (oSpR n gn pv td v w)]) S (c_Mo_spend l G _ mo a1 a2 a3 a4 a5 a6 a7 td iss sp fe la n ko am lf fr pt so gM v w hn40) kg_512 kg_513 kg_514 kg_515 ok_Mo_spend pd_Mo_spend (zrec hK (va_Pr hP 0 _ rfl) zm_cls) ⟨rfl, va_Pr hP, (va_Dr hD).weaken (fun _ _ _ _ => trivial)⟩ rfl hl.1 rfl (Nat.le_of_ble_eq_true rfl) ⟨(Nat.le_of_ble_eq_true rfl), (Nat.le_of_ble_eq_true rfl)⟩ ⟨by show cells + 0 ≤ 775734; omega, by show slots + 0 ≤ 6775046; omega⟩ d_Law_law_247) (fun H1 L1 hF hL1 => ?_)
  have hS := jo_S hS (jo_f (va_Dr hD) (hAh hS)) hF hL1
  obtain ⟨hP, hD⟩ := jo_r hP hD hAH hF
  have hAH : ∀ q : Nat, H1.size ≤ q → (fun q : Nat => s.heap.size ≤ q) q := fun q h => Nat.le_trans hS.1 h
  generalize H1 = H at hP hS hAH ⊢
  refine lv_icmp_eq (tgt := 469) hx hb d_Law_law_250 (by decide) (fun c_1 => ?_) (fun c_1 => ?_)
  · rw [hsp.2.1, hsp.2.2.1] at hP hD
    refine W.widen (k := cells + 1) (n := slots + 5) (by omega) (by omega) ?_
    exact kk _ _ ⟨ra, a1, a2, a3, a4, a5, a6, a7, td, iss, oSpS n gn pv td v w sp, oSpF n gn pv td v w fe, la, pf, n, gn, ad, oSpP n gn pv td v w, ko, am, mSpL n ko am lf fr pt so gM td v w, fr, mSpT n ko am lf fr pt so gM td v w, mSpO n ko am lf fr pt so gM td v w, gM, hsp.2.2.2, hpf, hP, hD, hS⟩
  · exact absurd hsp.1.symm c_1
set_option maxHeartbeats 2000000 in
theorem law_c8 {p : Program} {l : Launch} {e : Env} {s : State} {m : MethodId} {below : List Frame} {meth : Method} {c : Code} {G : ZG} {b L : Nat} {xs : Nat → Int32} {x mo : Nat} {H : Heap} {locs : List Loc} {cells slots : Nat} {Q : State → Prop} {i : Nat} {ls : Array Slot} (hL : L ≤ 1536) (C0 : lw_At p s m meth c b L xs) (hK : KZ G s) (hLS : LwS G s x mo H locs) (hi : i + 2 < L) (hl : lv_has ls 4 [(3, .int (nI i)), (2, .ref mo), (1, .ref x), (0, .ref b)]) (hcs : cells + 1 ≤ 775734 ∧ slots + 5 ≤ 6775046) (kk : ∀ (H1 : Heap) (locs1 : List Loc), LwS G s x mo H1 locs1 → W p l e room_1 s m #[Value.ref b] below meth c H1 locs1 (cells + 1) (slots + 5) Q (F0 m 469 ls [])) : W p l e room_1 s m #[Value.ref b] below meth c H locs cells slots Q (F0 m 344 ls []) := by
  obtain ⟨hx, hb, hr, hml, hown, hts0, hX, hbl, hlocks, hgv⟩ := id C0
  have hts : ∀ w ∈ gw, w.before #[Value.ref b] s = true := fun w hw => hts0 w (gw_tbl hw)
  have S : ZC p m c code 4 s #[Value.ref b] "VoucherOfficeLaw" G := ⟨⟨hx, hb, hml, hown, hts⟩, hK⟩
  have hbA : ¬ (fun q : Nat => s.heap.size ≤ q) b := Nat.not_le.mpr hbl
  obtain ⟨ra, a1, a2, a3, a4, a5, a6, a7, td, iss, sp, fe, la, pf, n, gn, ad, pv, ko, am, lf, fr, pt, so, gM, hinv, hpf, hP, hD, hS⟩ := hLS
  have hok := okP_of hinv hpf
  have hn40 : n ≤ 40 := hinv.1
  have hAH : ∀ q : Nat, H.size ≤ q → (fun q : Nat => s.heap.size ≤ q) q := fun q h => Nat.le_trans hS.1 h
  have hAh : ∀ {H2 : Heap} {locs2 : List Loc}, va_S (fun q : Nat => s.heap.size ≤ q) s.heap H2 locs2 → ∀ q : Nat, H2.size ≤ q → (fun q : Nat => s.heap.size ≤ q) q := fun hS2 q h => Nat.le_trans hS2.1 h
  obtain ⟨hcs1, hcs2⟩ := hcs
  obtain ⟨v, hv⟩ : ∃ v : Int32, v = xs (i + 1) := ⟨_, rfl⟩
  obtain ⟨w, hw⟩ : ∃ w : Int32, w = xs (i + 2) := ⟨_, rfl⟩
  have e1 : nI i + 1 = nI (i + 1) := nI_1 i
  have e2 : nI i + 2 = nI (i + 2) := by rw [← nI2, nI_add]
  have hc1 : (nI (i + 1)).toNatClampNeg = i + 1 := nI_clamp (by omega)
  have hc2 : (nI (i + 2)).toNatClampNeg = i + 2 := nI_clamp (by omega)
  have hlp := hinv.lapse n (Nat.le_refl n)
  refine lv_aload_n hx hb d_Law_law_344 rfl (lv_at hl 2 rfl) ?_
  refine z_mi (z_D (n := 0) (C := "VoucherOffice") (As := []) (rest := []) S (c_Of_lapse l G _ x ra td iss sp fe la pf n gn ad pv hok) kg_368 kg_369 kg_370 kg_371 ok_Of_lapse pd_Of_lapse (zrec hK (va_Pl hP 0 _ rfl) zo_cls) ⟨rfl, va_Pl hP, (va_Dl hD).weaken (fun _ _ _ _ => trivial)⟩ rfl hl.1 rfl (Nat.le_of_ble_eq_true rfl) ⟨(Nat.le_of_ble_eq_true rfl), (Nat.le_of_ble_eq_true rfl)⟩ ⟨by show cells + 0 ≤ 775734; omega, by show slots + 0 ≤ 6775046; omega⟩ d_Law_law_345) (fun H1 L1 hF hL1 => ?_)
  have hS := jo_S hS (jo_f (va_Dl hD) (hAh hS)) hF hL1
  obtain ⟨hP, hD⟩ := jo_l hP hD hAH hF
  have hAH : ∀ q : Nat, H1.size ≤ q → (fun q : Nat => s.heap.size ≤ q) q := fun q h => Nat.le_trans hS.1 h
  generalize H1 = H at hP hS hAH ⊢
  refine lv_aload_n hx hb d_Law_law_348 rfl (lv_at hl 1 rfl) ?_
  refine z_mi (z_D (n := 0) (C := "VoucherOfficeModel") (As := []) (rest := [.int (lapS td gn pv n)]) S (c_Mo_lapse l G _ mo a1 a2 a3 a4 a5 a6 a7 td iss sp fe la n ko am lf fr pt so gM hn40) kg_532 kg_533 kg_534 kg_535 ok_Mo_lapse pd_Mo_lapse (zrec hK (va_Pr hP 0 _ rfl) zm_cls) ⟨rfl, va_Pr hP, (va_Dr hD).weaken (fun _ _ _ _ => trivial)⟩ rfl hl.1 rfl (Nat.le_of_ble_eq_true rfl) ⟨(Nat.le_of_ble_eq_true rfl), (Nat.le_of_ble_eq_true rfl)⟩ ⟨by show cells + 0 ≤ 775734; omega, by show slots + 0 ≤ 6775046; omega⟩ d_Law_law_349) (fun H1 L1 hF hL1 => ?_)
  have hS := jo_S hS (jo_f (va_Dr hD) (hAh hS)) hF hL1
  obtain ⟨hP, hD⟩ := jo_r hP hD hAH hF
  have hAH : ∀ q : Nat, H1.size ≤ q → (fun q : Nat => s.heap.size ≤ q) q := fun q h => Nat.le_trans hS.1 h
  generalize H1 = H at hP hS hAH ⊢
  refine lv_icmp_eq (tgt := 469) hx hb d_Law_law_352 (by decide) (fun c_1 => ?_) (fun c_1 => ?_)
  · rw [hlp.1] at hP hD
    refine W.widen (k := cells + 1) (n := slots + 5) (by omega) (by omega) ?_
    exact kk _ _ ⟨ra, a1, a2, a3, a4, a5, a6, a7, td, iss, sp, fe, la + lapS td gn pv n, pf, n, gn, ad, lapP td gn pv n, ko, am, mLapL td ko lf fr gM n, fr, pt, so, gM, hlp.2, hpf, hP, hD, hS⟩
  · exact absurd hlp.1.symm c_1
set_option maxHeartbeats 2000000 in
theorem law_c9 {p : Program} {l : Launch} {e : Env} {s : State} {m : MethodId} {below : List Frame} {meth : Method} {c : Code} {G : ZG} {b L : Nat} {xs : Nat → Int32} {x mo : Nat} {H : Heap} {locs : List Loc} {cells slots : Nat} {Q : State → Prop} {i : Nat} {ls : Array Slot} (hL : L ≤ 1536) (C0 : lw_At p s m meth c b L xs) (hK : KZ G s) (hLS : LwS G s x mo H locs) (hi : i + 2 < L) (hl : lv_has ls 4 [(3, .int (nI i)), (2, .ref mo), (1, .ref x), (0, .ref b)]) (hcs : cells + 1 ≤ 775734 ∧ slots + 5 ≤ 6775046) (kk : ∀ (H1 : Heap) (locs1 : List Loc), LwS G s x mo H1 locs1 → W p l e room_1 s m #[Value.ref b] below meth c H1 locs1 (cells + 1) (slots + 5) Q (F0 m 469 ls [])) : W p l e room_1 s m #[Value.ref b] below meth c H locs cells slots Q (F0 m 357 ls []) := by
  obtain ⟨hx, hb, hr, hml, hown, hts0, hX, hbl, hlocks, hgv⟩ := id C0
  have hts : ∀ w ∈ gw, w.before #[Value.ref b] s = true := fun w hw => hts0 w (gw_tbl hw)
  have S : ZC p m c code 4 s #[Value.ref b] "VoucherOfficeLaw" G := ⟨⟨hx, hb, hml, hown, hts⟩, hK⟩
  have hbA : ¬ (fun q : Nat => s.heap.size ≤ q) b := Nat.not_le.mpr hbl
  obtain ⟨ra, a1, a2, a3, a4, a5, a6, a7, td, iss, sp, fe, la, pf, n, gn, ad, pv, ko, am, lf, fr, pt, so, gM, hinv, hpf, hP, hD, hS⟩ := hLS
  have hok := okP_of hinv hpf
  have hn40 : n ≤ 40 := hinv.1
  have hAH : ∀ q : Nat, H.size ≤ q → (fun q : Nat => s.heap.size ≤ q) q := fun q h => Nat.le_trans hS.1 h
  have hAh : ∀ {H2 : Heap} {locs2 : List Loc}, va_S (fun q : Nat => s.heap.size ≤ q) s.heap H2 locs2 → ∀ q : Nat, H2.size ≤ q → (fun q : Nat => s.heap.size ≤ q) q := fun hS2 q h => Nat.le_trans hS2.1 h
  obtain ⟨hcs1, hcs2⟩ := hcs
  obtain ⟨v, hv⟩ : ∃ v : Int32, v = xs (i + 1) := ⟨_, rfl⟩
  obtain ⟨w, hw⟩ : ∃ w : Int32, w = xs (i + 2) := ⟨_, rfl⟩
  have e1 : nI i + 1 = nI (i + 1) := nI_1 i
  have e2 : nI i + 2 = nI (i + 2) := by rw [← nI2, nI_add]
  have hc1 : (nI (i + 1)).toNatClampNeg = i + 1 := nI_clamp (by omega)
  have hc2 : (nI (i + 2)).toNatClampNeg = i + 2 := nI_clamp (by omega)
  have hmg := hinv.merge v w
  refine lv_aload_n hx hb d_Law_law_357 rfl (lv_at hl 2 rfl) ?_
  refine lv_aload_n hx hb d_Law_law_358 rfl (lv_at hl 3 rfl) ?_
  refine lv_iload_n hx hb d_Law_law_359 rfl (lv_at hl 0 rfl) ?_
  refine lv_iconst (v := 1) hx hb d_Law_law_360 (by decide) ?_
  refine lv_iadd hx hb d_Law_law_361 ?_
  rw [e1]
  refine va_sld hx hb hX hbl hbA hS (vp_in_nI (show i + 1 < L by omega) (by omega)) d_Law_law_362 ?_
  rw [hc1, ← hv]
  refine lv_aload_n hx hb d_Law_law_363 rfl (lv_at hl 3 rfl) ?_
  refine lv_iload_n hx hb d_Law_law_364 rfl (lv_at hl 0 rfl) ?_
  refine lv_iconst (v := 2) hx hb d_Law_law_365 (by decide) ?_
  refine lv_iadd hx hb d_Law_law_366 ?_
  rw [e2]
  refine va_sld hx hb hX hbl hbA hS (vp_in_nI (show i + 2 < L by omega) (by omega)) d_Law_law_367 ?_
  rw [hc2, ← hw]
  refine z_mi (z_D (n := 2) (C := "VoucherOffice") (As := [.int v, .int w]) (rest := []) S (c_Of_merge l G _ x ra td iss sp fe la pf n gn ad pv v w hok) kg_374 kg_375 kg_376 kg_377 ok_Of_merge pd_Of_merge (zrec hK (va_Pl hP 0 _ rfl) zo_cls) ⟨rfl, va_Pl hP, (va_Dl hD).weaken (fun _ _ _ _ => trivial)⟩ rfl hl.1 rfl (Nat.le_of_ble_eq_true rfl) ⟨(Nat.le_of_ble_eq_true rfl), (Nat.le_of_ble_eq_true rfl)⟩ ⟨by show cells + 0 ≤ 775734; omega, by show slots + 0 ≤ 6775046; omega⟩ d_Law_law_368) (fun H1 L1 hF hL1 => ?_)
  have hS := jo_S hS (jo_f (va_Dl hD) (hAh hS)) hF hL1
  obtain ⟨hP, hD⟩ := jo_l hP hD hAH hF
  have hAH : ∀ q : Nat, H1.size ≤ q → (fun q : Nat => s.heap.size ≤ q) q := fun q h => Nat.le_trans hS.1 h
  generalize H1 = H at hP hS hAH ⊢
  refine lv_aload_n hx hb d_Law_law_371 rfl (lv_at hl 1 rfl) ?_
  refine lv_aload_n hx hb d_Law_law_372 rfl (lv_at hl 3 rfl) ?_
  refine lv_iload_n hx hb d_Law_law_373 rfl (lv_at hl 0 rfl) ?_
  refine lv_iconst (v := 1) hx hb d_Law_law_374 (by decide) ?_
  refine lv_iadd hx hb d_Law_law_375 ?_
  rw [e1]
  refine va_sld hx hb hX hbl hbA hS (vp_in_nI (show i + 1 < L by omega) (by omega)) d_Law_law_376 ?_
  rw [hc1, ← hv]
  refine lv_aload_n hx hb d_Law_law_377 rfl (lv_at hl 3 rfl) ?_
  refine lv_iload_n hx hb d_Law_law_378 rfl (lv_at hl 0 rfl) ?_
  refine lv_iconst (v := 2) hx hb d_Law_law_379 (by decide) ?_
  refine lv_iadd hx hb d_Law_law_380 ?_
  rw [e2]
  refine va_sld hx hb hX hbl hbA hS (vp_in_nI (show i + 2 < L by omega) (by omega)) d_Law_law_381 ?_
  rw [hc2, ← hw]
  refine z_mi (z_D (n := 2) (C := "VoucherOfficeModel") (As := [.int v, .int w]) (rest := [.int (oMgR n gn pv v w)]) S (c_Mo_merge l G _ mo a1 a2 a3 a4 a5 a6 a7 td iss sp fe la n ko am lf fr pt so gM v w hn40) kg_536 kg_537 kg_538 kg_539 ok_Mo_merge pd_Mo_merge (zrec hK (va_Pr hP 0 _ rfl) zm_cls) ⟨rfl, va_Pr hP, (va_Dr hD).weaken (fun _ _ _ _ => trivial)⟩ rfl hl.1 rfl (Nat.le_of_ble_eq_true rfl) ⟨(Nat.le_of_ble_eq_true rfl), (Nat.le_of_ble_eq_true rfl)⟩ ⟨by show cells + 0 ≤ 775734; omega, by show slots + 0 ≤ 6775046; omega⟩ d_Law_law_382) (fun H1 L1 hF hL1 => ?_)
  have hS := jo_S hS (jo_f (va_Dr hD) (hAh hS)) hF hL1
  obtain ⟨hP, hD⟩ := jo_r hP hD hAH hF
  have hAH : ∀ q : Nat, H1.size ≤ q → (fun q : Nat => s.heap.size ≤ q) q := fun q h => Nat.le_trans hS.1 h
  generalize H1 = H at hP hS hAH ⊢
  refine lv_icmp_eq (tgt := 469) hx hb d_Law_law_385 (by decide) (fun c_1 => ?_) (fun c_1 => ?_)
  · refine W.widen (k := cells + 1) (n := slots + 5) (by omega) (by omega) ?_
    exact kk _ _ ⟨ra, a1, a2, a3, a4, a5, a6, a7, td, iss, sp, fe, la, oMgF n gn pv v w pf, n, oMgG n gn pv v w, ad, oMgP n gn pv v w, ko, mMgA n ko am lf fr pt so gM v w, mMgL n ko am lf fr pt so gM v w, fr, mMgT n ko am lf fr pt so gM v w, mMgO n ko am lf fr pt so gM v w, mMgG n ko am lf fr pt so gM v w, hmg.2, pf_merge v w hpf, hP, hD, hS⟩
  · exact absurd hmg.1.symm c_1
set_option maxHeartbeats 2000000 in
theorem law_c0 {p : Program} {l : Launch} {e : Env} {s : State} {m : MethodId} {below : List Frame} {meth : Method} {c : Code} {G : ZG} {b L : Nat} {xs : Nat → Int32} {x mo : Nat} {H : Heap} {locs : List Loc} {cells slots : Nat} {Q : State → Prop} {i : Nat} {ls : Array Slot} (hL : L ≤ 1536) (C0 : lw_At p s m meth c b L xs) (hK : KZ G s) (hLS : LwS G s x mo H locs) (hi : i + 2 < L) (hl : lv_has ls 4 [(3, .int (nI i)), (2, .ref mo), (1, .ref x), (0, .ref b)]) (hcs : cells + 1 ≤ 775734 ∧ slots + 5 ≤ 6775046) (kk : ∀ (H1 : Heap) (locs1 : List Loc), LwS G s x mo H1 locs1 → W p l e room_1 s m #[Value.ref b] below meth c H1 locs1 (cells + 1) (slots + 5) Q (F0 m 469 ls [])) : W p l e room_1 s m #[Value.ref b] below meth c H locs cells slots Q (F0 m 100 ls []) := by
  obtain ⟨hx, hb, hr, hml, hown, hts0, hX, hbl, hlocks, hgv⟩ := id C0
  have hts : ∀ w ∈ gw, w.before #[Value.ref b] s = true := fun w hw => hts0 w (gw_tbl hw)
  have S : ZC p m c code 4 s #[Value.ref b] "VoucherOfficeLaw" G := ⟨⟨hx, hb, hml, hown, hts⟩, hK⟩
  have hbA : ¬ (fun q : Nat => s.heap.size ≤ q) b := Nat.not_le.mpr hbl
  obtain ⟨ra, a1, a2, a3, a4, a5, a6, a7, td, iss, sp, fe, la, pf, n, gn, ad, pv, ko, am, lf, fr, pt, so, gM, hinv, hpf, hP, hD, hS⟩ := hLS
  have hok := okP_of hinv hpf
  have hn40 : n ≤ 40 := hinv.1
  have hAH : ∀ q : Nat, H.size ≤ q → (fun q : Nat => s.heap.size ≤ q) q := fun q h => Nat.le_trans hS.1 h
  have hAh : ∀ {H2 : Heap} {locs2 : List Loc}, va_S (fun q : Nat => s.heap.size ≤ q) s.heap H2 locs2 → ∀ q : Nat, H2.size ≤ q → (fun q : Nat => s.heap.size ≤ q) q := fun hS2 q h => Nat.le_trans hS2.1 h
  obtain ⟨hcs1, hcs2⟩ := hcs
  obtain ⟨v, hv⟩ : ∃ v : Int32, v = xs (i + 1) := ⟨_, rfl⟩
  obtain ⟨w, hw⟩ : ∃ w : Int32, w = xs (i + 2) := ⟨_, rfl⟩
  have e1 : nI i + 1 = nI (i + 1) := nI_1 i
  have e2 : nI i + 2 = nI (i + 2) := by rw [← nI2, nI_add]
  have hc1 : (nI (i + 1)).toNatClampNeg = i + 1 := nI_clamp (by omega)
  have hc2 : (nI (i + 2)).toNatClampNeg = i + 2 := nI_clamp (by omega)
  by_cases hno : inV v 0 7 = 0 ∨ inV w 1 100000 = 0 ∨ nI n = 40
  · refine lv_aload_n hx hb d_Law_law_100 rfl (lv_at hl 2 rfl) ?_
    refine lv_aload_n hx hb d_Law_law_101 rfl (lv_at hl 3 rfl) ?_
    refine lv_iload_n hx hb d_Law_law_102 rfl (lv_at hl 0 rfl) ?_
    refine lv_iconst (v := 1) hx hb d_Law_law_103 (by decide) ?_
    refine lv_iadd hx hb d_Law_law_104 ?_
    rw [e1]
    refine va_sld hx hb hX hbl hbA hS (vp_in_nI (show i + 1 < L by omega) (by omega)) d_Law_law_105 ?_
    rw [hc1, ← hv]
    refine lv_aload_n hx hb d_Law_law_106 rfl (lv_at hl 3 rfl) ?_
    refine lv_iload_n hx hb d_Law_law_107 rfl (lv_at hl 0 rfl) ?_
    refine lv_iconst (v := 2) hx hb d_Law_law_108 (by decide) ?_
    refine lv_iadd hx hb d_Law_law_109 ?_
    rw [e2]
    refine va_sld hx hb hX hbl hbA hS (vp_in_nI (show i + 2 < L by omega) (by omega)) d_Law_law_110 ?_
    rw [hc2, ← hw]
    refine z_q (z_D (n := 2) (C := "VoucherOffice") (As := [.int v, .int w]) (rest := []) S (c_Of_issue_no l G _ x ra td iss sp fe la pf n gn ad pv v w hno) kg_43 kg_44 kg_45 kg_46 ok_Of_issue pd_Of_issue (zrec hK (va_Pl hP 0 _ rfl) zo_cls) ⟨rfl, va_Pl hP, (va_Dl hD).weaken (fun _ _ _ _ => trivial)⟩ rfl hl.1 rfl (Nat.le_of_ble_eq_true rfl) ⟨(Nat.le_of_ble_eq_true rfl), (Nat.le_of_ble_eq_true rfl)⟩ ⟨by show cells + 0 ≤ 775734; omega, by show slots + 0 ≤ 6775046; omega⟩ d_Law_law_111) ?_
    refine lv_aload_n hx hb d_Law_law_114 rfl (lv_at hl 1 rfl) ?_
    refine lv_aload_n hx hb d_Law_law_115 rfl (lv_at hl 3 rfl) ?_
    refine lv_iload_n hx hb d_Law_law_116 rfl (lv_at hl 0 rfl) ?_
    refine lv_iconst (v := 1) hx hb d_Law_law_117 (by decide) ?_
    refine lv_iadd hx hb d_Law_law_118 ?_
    rw [e1]
    refine va_sld hx hb hX hbl hbA hS (vp_in_nI (show i + 1 < L by omega) (by omega)) d_Law_law_119 ?_
    rw [hc1, ← hv]
    refine lv_aload_n hx hb d_Law_law_120 rfl (lv_at hl 3 rfl) ?_
    refine lv_iload_n hx hb d_Law_law_121 rfl (lv_at hl 0 rfl) ?_
    refine lv_iconst (v := 2) hx hb d_Law_law_122 (by decide) ?_
    refine lv_iadd hx hb d_Law_law_123 ?_
    rw [e2]
    refine va_sld hx hb hX hbl hbA hS (vp_in_nI (show i + 2 < L by omega) (by omega)) d_Law_law_124 ?_
    rw [hc2, ← hw]
    refine z_q (z_D (n := 2) (C := "VoucherOfficeModel") (As := [.int v, .int w]) (rest := [.int (oIssN v w)]) S (c_Mo_issue_no l G _ mo a1 a2 a3 a4 a5 a6 a7 td iss sp fe la n ko am lf fr pt so gM v w hno) kg_468 kg_469 kg_470 kg_471 ok_Mo_issue pd_Mo_issue (zrec hK (va_Pr hP 0 _ rfl) zm_cls) ⟨rfl, va_Pr hP, (va_Dr hD).weaken (fun _ _ _ _ => trivial)⟩ rfl hl.1 rfl (Nat.le_of_ble_eq_true rfl) ⟨(Nat.le_of_ble_eq_true rfl), (Nat.le_of_ble_eq_true rfl)⟩ ⟨by show cells + 0 ≤ 775734; omega, by show slots + 0 ≤ 6775046; omega⟩ d_Law_law_125) ?_
    refine lv_icmp_eq (tgt := 469) hx hb d_Law_law_128 (by decide) (fun c_1 => ?_) (fun c_1 => ?_)
    · refine W.widen (k := cells + 1) (n := slots + 5) (by omega) (by omega) ?_
      exact kk _ _ ⟨ra, a1, a2, a3, a4, a5, a6, a7, td, iss, sp, fe, la, pf, n, gn, ad, pv, ko, am, lf, fr, pt, so, gM, hinv, hpf, hP, hD, hS⟩
    · exact absurd rfl c_1
  · have hno1 : ¬ inV v 0 7 = 0 := fun h => hno (Or.inl h)
    have hno2 : ¬ inV w 1 100000 = 0 := fun h => hno (Or.inr (Or.inl h))
    have hn : n < 40 := lt40 hn40 (fun h => hno (Or.inr (Or.inr h)))
    obtain ⟨k, hk7, hvk⟩ := in_range0 (n := 7) (by decide +kernel) hno1
    subst hvk
    have hk : k < 8 := by omega
    have hin7 := in7 hk
    refine lv_aload_n hx hb d_Law_law_100 rfl (lv_at hl 2 rfl) ?_
    refine lv_aload_n hx hb d_Law_law_101 rfl (lv_at hl 3 rfl) ?_
    refine lv_iload_n hx hb d_Law_law_102 rfl (lv_at hl 0 rfl) ?_
    refine lv_iconst (v := 1) hx hb d_Law_law_103 (by decide) ?_
    refine lv_iadd hx hb d_Law_law_104 ?_
    rw [e1]
    refine va_sld hx hb hX hbl hbA hS (vp_in_nI (show i + 1 < L by omega) (by omega)) d_Law_law_105 ?_
    rw [hc1, ← hv]
    refine lv_aload_n hx hb d_Law_law_106 rfl (lv_at hl 3 rfl) ?_
    refine lv_iload_n hx hb d_Law_law_107 rfl (lv_at hl 0 rfl) ?_
    refine lv_iconst (v := 2) hx hb d_Law_law_108 (by decide) ?_
    refine lv_iadd hx hb d_Law_law_109 ?_
    rw [e2]
    refine va_sld hx hb hX hbl hbA hS (vp_in_nI (show i + 2 < L by omega) (by omega)) d_Law_law_110 ?_
    rw [hc2, ← hw]
    refine z_mi (z_D (n := 2) (C := "VoucherOffice") (As := [.int (nI k), .int w]) (rest := []) S (c_Of_issue_yes l G _ x ra td iss sp fe la pf n gn ad pv k w hok hk hno2 hn) kg_43 kg_44 kg_45 kg_46 ok_Of_issue pd_Of_issue (zrec hK (va_Pl hP 0 _ rfl) zo_cls) ⟨rfl, va_Pl hP, (va_Dl hD).weaken (fun _ _ _ _ => trivial)⟩ rfl hl.1 rfl (Nat.le_of_ble_eq_true rfl) ⟨(Nat.le_of_ble_eq_true rfl), (Nat.le_of_ble_eq_true rfl)⟩ ⟨by show cells + 1 ≤ 775734; omega, by show slots + 5 ≤ 6775046; omega⟩ d_Law_law_111) (fun H1 L1 hF hL1 => ?_)
    obtain ⟨q, hF⟩ := hF
    have hS := jo_S hS (jo_f (va_Dl hD) (hAh hS)) hF hL1
    obtain ⟨hP, hD⟩ := jo_l hP hD hAH hF
    have hAH : ∀ q : Nat, H1.size ≤ q → (fun q : Nat => s.heap.size ≤ q) q := fun q h => Nat.le_trans hS.1 h
    generalize H1 = H at hP hS hAH ⊢
    refine lv_aload_n hx hb d_Law_law_114 rfl (lv_at hl 1 rfl) ?_
    refine lv_aload_n hx hb d_Law_law_115 rfl (lv_at hl 3 rfl) ?_
    refine lv_iload_n hx hb d_Law_law_116 rfl (lv_at hl 0 rfl) ?_
    refine lv_iconst (v := 1) hx hb d_Law_law_117 (by decide) ?_
    refine lv_iadd hx hb d_Law_law_118 ?_
    rw [e1]
    refine va_sld hx hb hX hbl hbA hS (vp_in_nI (show i + 1 < L by omega) (by omega)) d_Law_law_119 ?_
    rw [hc1, ← hv]
    refine lv_aload_n hx hb d_Law_law_120 rfl (lv_at hl 3 rfl) ?_
    refine lv_iload_n hx hb d_Law_law_121 rfl (lv_at hl 0 rfl) ?_
    refine lv_iconst (v := 2) hx hb d_Law_law_122 (by decide) ?_
    refine lv_iadd hx hb d_Law_law_123 ?_
    rw [e2]
    refine va_sld hx hb hX hbl hbA hS (vp_in_nI (show i + 2 < L by omega) (by omega)) d_Law_law_124 ?_
    rw [hc2, ← hw]
    refine z_mi (z_D (n := 2) (C := "VoucherOfficeModel") (As := [.int (nI k), .int w]) (rest := [.int (nI n)]) S (c_Mo_issue_yes l G _ mo a1 a2 a3 a4 a5 a6 a7 td iss sp fe la n ko am lf fr pt so gM (nI k) w hin7 hno2 hn) kg_468 kg_469 kg_470 kg_471 ok_Mo_issue pd_Mo_issue (zrec hK (va_Pr hP 0 _ rfl) zm_cls) ⟨rfl, va_Pr hP, (va_Dr hD).weaken (fun _ _ _ _ => trivial)⟩ rfl hl.1 rfl (Nat.le_of_ble_eq_true rfl) ⟨(Nat.le_of_ble_eq_true rfl), (Nat.le_of_ble_eq_true rfl)⟩ ⟨by show cells + 1 + 0 ≤ 775734; omega, by show slots + 5 + 0 ≤ 6775046; omega⟩ d_Law_law_125) (fun H1 L1 hF hL1 => ?_)
    have hS := jo_S hS (jo_f (va_Dr hD) (hAh hS)) hF hL1
    obtain ⟨hP, hD⟩ := jo_r hP hD hAH hF
    have hAH : ∀ q : Nat, H1.size ≤ q → (fun q : Nat => s.heap.size ≤ q) q := fun q h => Nat.le_trans hS.1 h
    generalize H1 = H at hP hS hAH ⊢
    refine lv_icmp_eq (tgt := 469) hx hb d_Law_law_128 (by decide) (fun c_1 => ?_) (fun c_1 => ?_)
    · refine W.widen (k := cells + 1) (n := slots + 5) (by omega) (by omega) ?_
      exact kk _ _ ⟨ra, a1, a2, a3, a4, a5, a6, a7, td, iss + w, sp, fe, la, va_up pf n (some q), n + 1, gn, va_up ad n q, va_up pv n (k, td, w, w, x0 k), upd ko n (nI k), upd am n w, upd lf n w, upd fr n td, pt, so, gM, hinv.issue hk hno2 hn, pf_issue (hinv.2.2.2 n (Nat.le_refl n) hn).1 hpf, hP, hD, hS⟩
    · exact absurd rfl c_1
end
section
set_option maxHeartbeats 4000000 in
/-- THE LAW'S LOOP -/
theorem law_loop {p : Program} {l : Launch} {e : Env} {s : State} {m : MethodId} {below : List Frame} {meth : Method} {c : Code} {G : ZG} {b L : Nat} {xs : Nat → Int32} (hL : L ≤ 1536) (C0 : lw_At p s m meth c b L xs) (hK : KZ G s) : ∀ (f i : Nat), i ≤ L + 3 → L + 4 ≤ i + f → ∀ (x mo : Nat) (H : Heap) (locs : List Loc), LwS G s x mo H locs → ∀ ls : Array Slot, lv_has ls 4 [(3, .int (nI i)), (2, .ref mo), (1, .ref x), (0, .ref b)] → W p l e room_1 s m #[Value.ref b] below meth c H locs (10 + i) (340 + 5 * i) (lw_Z below #[Value.ref b] s) (F0 m 18 ls []) := by
  obtain ⟨hx, hb, hr, hml, hown, hts0, hX, hbl, hlocks, hgv⟩ := id C0
  have hbA : ¬ (fun q : Nat => s.heap.size ≤ q) b := Nat.not_le.mpr hbl
  intro f
  induction f with
  | zero => intro i h1 h2; omega
  | succ f ih =>
    intro i hi1 hi2 x mo H locs hLS ls hl
    have hS : va_S (fun q : Nat => s.heap.size ≤ q) s.heap H locs := by
      obtain ⟨_, _, _, _, _, _, _, _, _, _, _, _, _, _, _, _, _, _, _, _, _, _, _, _, _, -, -, -, -, hS⟩ := hLS
      exact hS
    refine lv_iload_n hx hb d_Law_law_18 rfl (lv_at hl 0 rfl) ?_
    refine lv_aload_n hx hb d_Law_law_19 rfl (lv_at hl 3 rfl) ?_
    refine va_slen hx hb hX hbl hbA hS d_Law_law_20 ?_
    refine lv_iconst (v := 3) hx hb d_Law_law_21 (by decide) ?_
    refine lv_isub hx hb d_Law_law_22 ?_
    refine lv_icmp_gt (tgt := 475) hx hb d_Law_law_23 (by decide) (fun c1 => ?_) (fun c1 => ?_)
    · refine lv_iconst (v := 1) hx hb d_Law_law_475 (by decide) ?_
      refine va_forget (fun q hq => hS.2.2 q hq) ?_
      refine W.widen (k := 775734) (n := 6775046) (by omega) (by omega) ?_
      exact lw_ret hx hb hr hlocks d_Law_law_476
    · have hlt : i + 2 < L := by
        rcases Nat.lt_or_ge (i + 2) L with q | q
        · exact q
        · exfalso
          apply c1
          show nI L - 3 < nI i
          rw [← nI3, Int32.lt_iff_toInt_lt, pk_sub_toInt (by omega) (by decide), nI_toInt (by omega)]
          omega
      have hci : (nI i).toNatClampNeg = i := nI_clamp (by omega)
      have tail : ∀ (H1 : Heap) (locs1 : List Loc), LwS G s x mo H1 locs1 → W p l e room_1 s m #[Value.ref b] below meth c H1 locs1 (10 + i + 1) (340 + 5 * i + 5) (lw_Z below #[Value.ref b] s) (F0 m 469 ls []) := by
        intro H1 locs1 h1
        refine lv_iinc (v := nI (i + 3)) (lv' := [(3, .int (nI (i + 3))), (2, .ref mo), (1, .ref x), (0, .ref b)]) hx hb d_Law_law_469 hl (k := 0) rfl (by rw [show Int32.ofInt 3 = nI 3 by decide +kernel, nI_add]) (by decide) rfl (fun ls hl => ?_)
        refine lv_goto (tgt := 18) hx hb d_Law_law_472 (by decide) ?_
        refine W.widen (k := 10 + (i + 3)) (n := 340 + 5 * (i + 3)) (by omega) (by omega) ?_
        exact ih (i + 3) (by omega) (by omega) x mo H1 locs1 h1 ls hl
      refine lv_aload_n hx hb d_Law_law_26 rfl (lv_at hl 3 rfl) ?_
      refine lv_iload_n hx hb d_Law_law_27 rfl (lv_at hl 0 rfl) ?_
      refine va_sld hx hb hX hbl hbA hS (vp_in_nI (show i < L by omega) (by omega)) d_Law_law_28 ?_
      refine lv_bipush (v := 15) hx hb d_Law_law_29 (by decide) ?_
      refine lv_iand hx hb d_Law_law_31 ?_
      obtain ⟨j, hj, hjj⟩ := pk_andE (xs (nI i).toNatClampNeg) (m := 15) 4 (by decide +kernel)
      rw [hjj]
      have hj16 : j < 16 := hj
      have hcs : 10 + i + 1 ≤ 775734 ∧ 340 + 5 * i + 5 ≤ 6775046 := ⟨by omega, by omega⟩
      rcases (show j = 0 ∨ j = 1 ∨ j = 2 ∨ j = 3 ∨ j = 4 ∨ j = 5 ∨ j = 6 ∨ j = 7 ∨ j = 8 ∨ j = 9 ∨ j = 10 ∨ j = 11 ∨ j = 12 ∨ j = 13 ∨ j = 14 ∨ j = 15 by omega) with rfl | rfl | rfl | rfl | rfl | rfl | rfl | rfl | rfl | rfl | rfl | rfl | rfl | rfl | rfl | rfl
      · refine zt_in (j := 0) (off := 68) (tgt := 100) hx hb (by decide +kernel) d_Law_law_32 (by decide) (by decide) rfl (by decide) ?_
        exact law_c0 hL C0 hK hLS hlt hl hcs tail
      · refine zt_in (j := 1) (off := 101) (tgt := 133) hx hb (by decide +kernel) d_Law_law_32 (by decide) (by decide) rfl (by decide) ?_
        exact law_c1 hL C0 hK hLS hlt hl hcs tail
      · refine zt_in (j := 2) (off := 124) (tgt := 156) hx hb (by decide +kernel) d_Law_law_32 (by decide) (by decide) rfl (by decide) ?_
        exact law_c2 hL C0 hK hLS hlt hl hcs tail
      · refine zt_in (j := 3) (off := 157) (tgt := 189) hx hb (by decide +kernel) d_Law_law_32 (by decide) (by decide) rfl (by decide) ?_
        exact law_c3 hL C0 hK hLS hlt hl hcs tail
      · refine zt_in (j := 4) (off := 190) (tgt := 222) hx hb (by decide +kernel) d_Law_law_32 (by decide) (by decide) rfl (by decide) ?_
        exact law_c4 hL C0 hK hLS hlt hl hcs tail
      · refine zt_in (j := 5) (off := 223) (tgt := 255) hx hb (by decide +kernel) d_Law_law_32 (by decide) (by decide) rfl (by decide) ?_
        exact law_c5 hL C0 hK hLS hlt hl hcs tail
      · refine zt_in (j := 6) (off := 246) (tgt := 278) hx hb (by decide +kernel) d_Law_law_32 (by decide) (by decide) rfl (by decide) ?_
        exact law_c6 hL C0 hK hLS hlt hl hcs tail
      · refine zt_in (j := 7) (off := 279) (tgt := 311) hx hb (by decide +kernel) d_Law_law_32 (by decide) (by decide) rfl (by decide) ?_
        exact law_c7 hL C0 hK hLS hlt hl hcs tail
      · refine zt_in (j := 8) (off := 312) (tgt := 344) hx hb (by decide +kernel) d_Law_law_32 (by decide) (by decide) rfl (by decide) ?_
        exact law_c8 hL C0 hK hLS hlt hl hcs tail
      · refine zt_in (j := 9) (off := 325) (tgt := 357) hx hb (by decide +kernel) d_Law_law_32 (by decide) (by decide) rfl (by decide) ?_
        exact law_c9 hL C0 hK hLS hlt hl hcs tail
      · refine zt_in (j := 10) (off := 358) (tgt := 390) hx hb (by decide +kernel) d_Law_law_32 (by decide) (by decide) rfl (by decide) ?_
        exact law_c10 hL C0 hK hLS hlt hl hcs tail
      · refine zt_in (j := 11) (off := 381) (tgt := 413) hx hb (by decide +kernel) d_Law_law_32 (by decide) (by decide) rfl (by decide) ?_
        exact law_c11 hL C0 hK hLS hlt hl hcs tail
      · refine zt_in (j := 12) (off := 414) (tgt := 446) hx hb (by decide +kernel) d_Law_law_32 (by decide) (by decide) rfl (by decide) ?_
        exact law_c12 hL C0 hK hLS hlt hl hcs tail
      · refine lv_tableOut (tgt := 469) hx hb d_Law_law_32 (Or.inr (by decide +kernel)) (by decide) ?_
        refine W.widen (k := 10 + i + 1) (n := 340 + 5 * i + 5) (by omega) (by omega) ?_
        exact tail H locs hLS
      · refine lv_tableOut (tgt := 469) hx hb d_Law_law_32 (Or.inr (by decide +kernel)) (by decide) ?_
        refine W.widen (k := 10 + i + 1) (n := 340 + 5 * i + 5) (by omega) (by omega) ?_
        exact tail H locs hLS
      · refine lv_tableOut (tgt := 469) hx hb d_Law_law_32 (Or.inr (by decide +kernel)) (by decide) ?_
        refine W.widen (k := 10 + i + 1) (n := 340 + 5 * i + 5) (by omega) (by omega) ?_
        exact tail H locs hLS
set_option maxHeartbeats 4000000 in
/-- THE LAW, from its entry -/
theorem whole_start {p : Program} {e : Env} {s : State} {m : MethodId} {below : List Frame} {meth : Method} {c : Code} (l : Launch) {b L : Nat} {xs : Nat → Int32} (hL : L ≤ 1536) (C0 : lw_At p s m meth c b L xs) : W p l e room_1 s m #[Value.ref b] below meth c s.heap [] 0 0 (lw_Z below #[Value.ref b] s) (entryFrame m ([Value.ref b] : List Value).toArray 4) := by
  obtain ⟨hx, hb, hr, hml, hown, hts0, hX, hbl, hlocks, hgv⟩ := id C0
  obtain ⟨G, hK⟩ := law_KZ C0
  have hts : ∀ w ∈ gw, w.before #[Value.ref b] s = true := fun w hw => hts0 w (gw_tbl hw)
  have S : ZC p m c code 4 s #[Value.ref b] "VoucherOfficeLaw" G := ⟨⟨hx, hb, hml, hown, hts⟩, hK⟩
  have hA : ∀ q : Nat, s.heap.size ≤ q → (fun q : Nat => s.heap.size ≤ q) q := fun _ h => h
  have hS : va_S (fun q : Nat => s.heap.size ≤ q) s.heap s.heap [] := va_S.rf
  have hl := lv_entry ([.ref b]) (n := 4) (Nat.le_of_ble_eq_true rfl)
  rw [lg_entry_eq]
  generalize (lg_sl ([.ref b]) ++ List.replicate (4 - (lg_sl ([.ref b])).length) Slot.unset).toArray = ls at hl ⊢
  have hl : lv_has ls 4 [(0, .ref b)] := hl
  refine va_new (ci := 8) (fs := [.null, .int 0, .int 0, .int 0, .int 0, .int 0, .int 0]) (C := "VoucherOffice") (T := F_Of) (N := 7) hx hb hts zo_in t_Of zo_ty hown (hts _ kg_11) (hts _ kg_12) (hts _ kg_1) hK.1 zPe zDe hS hA zo_cls (fun j hj => by rcases (show j = 0 ∨ j = 1 ∨ j = 2 ∨ j = 3 ∨ j = 4 ∨ j = 5 ∨ j = 6 by omega) with rfl | rfl | rfl | rfl | rfl | rfl | rfl <;> rfl) (Nat.le_of_ble_eq_true rfl) (Nat.le_of_ble_eq_true rfl) d_Law_law_0 (fun x H hP hD hS => ?_)
  have hP : va_P G.1 classes ([(x, .inr (8, [.null, .int 0, .int 0, .int 0, .int 0, .int 0, .int 0]))] ++ []) H := hP
  have hD : va_D (fun q : Nat => s.heap.size ≤ q) ([(x, .inr (8, [.null, .int 0, .int 0, .int 0, .int 0, .int 0, .int 0]))] ++ []) := hD
  refine lv_dup hx hb d_Law_law_3 rfl ?_
  refine z_mv (z_I (n := 0) (As := []) (rest := [.ref x]) S (c_Of_init l G _ x (fun _ => 0) (fun _ => (0, 0, 0, 0, 0))) rfl kg_13 kg_14 kg_15 ok_Of_init pd_Of_init ⟨rfl, va_Pl hP, (va_Dl hD).weaken (fun _ _ _ _ => trivial)⟩ rfl hl.1 rfl (Nat.le_of_ble_eq_true rfl) ⟨(Nat.le_of_ble_eq_true rfl), (Nat.le_of_ble_eq_true rfl)⟩ ⟨(Nat.le_of_ble_eq_true rfl), (Nat.le_of_ble_eq_true rfl)⟩ d_Law_law_4) (fun H1 L1 hF hL1 => ?_)
  obtain ⟨ra, hF⟩ := hF
  have hAH : ∀ q : Nat, H.size ≤ q → (fun q : Nat => s.heap.size ≤ q) q := fun q h => Nat.le_trans hS.1 h
  have hS := jo_S hS (jo_f (va_Dl hD) hAH) hF hL1
  obtain ⟨hP, hD⟩ := jo_l hP hD hAH hF
  rw [List.append_nil] at hP hD
  generalize H1 = H at hP hS ⊢
  refine lv_astore_n (lv' := [(1, .ref x), (0, .ref b)]) hx hb d_Law_law_7 rfl hl (by decide) rfl (fun ls hl => ?_)
  refine va_new (ci := 9) (fs := [.int 0, .int 0, .int 0, .int 0, .int 0, .int 0, .null, .null, .null, .null, .null, .null, .null]) (C := "VoucherOfficeModel") (T := F_Mo) (N := 13) hx hb hts zm_in t_Mo zm_ty hown (hts _ kg_420) (hts _ kg_421) (hts _ kg_2) hK.1 hP hD hS hA zm_cls (fun j hj => by rcases (show j = 0 ∨ j = 1 ∨ j = 2 ∨ j = 3 ∨ j = 4 ∨ j = 5 ∨ j = 6 ∨ j = 7 ∨ j = 8 ∨ j = 9 ∨ j = 10 ∨ j = 11 ∨ j = 12 by omega) with rfl | rfl | rfl | rfl | rfl | rfl | rfl | rfl | rfl | rfl | rfl | rfl | rfl <;> rfl) (Nat.le_of_ble_eq_true rfl) (Nat.le_of_ble_eq_true rfl) d_Law_law_8 (fun mo H hP hD hS => ?_)
  refine lv_dup hx hb d_Law_law_11 rfl ?_
  refine z_mv (z_I (n := 0) (As := []) (rest := [.ref mo]) S (c_Mo_init l G _ mo) rfl kg_422 kg_423 kg_424 ok_Mo_init pd_Mo_init ⟨rfl, va_Pr hP, (va_Dr hD).weaken (fun _ _ _ _ => trivial)⟩ rfl hl.1 rfl (Nat.le_of_ble_eq_true rfl) ⟨(Nat.le_of_ble_eq_true rfl), (Nat.le_of_ble_eq_true rfl)⟩ ⟨(Nat.le_of_ble_eq_true rfl), (Nat.le_of_ble_eq_true rfl)⟩ d_Law_law_12) (fun H1 L1 hF hL1 => ?_)
  obtain ⟨a1, a2, a3, a4, a5, a6, a7, hF⟩ := hF
  have hAH : ∀ q : Nat, H.size ≤ q → (fun q : Nat => s.heap.size ≤ q) q := fun q h => Nat.le_trans hS.1 h
  have hS := jo_S hS (jo_f (va_Dr hD) hAH) hF hL1
  obtain ⟨hP, hD⟩ := jo_r hP hD hAH hF
  generalize H1 = H at hP hS ⊢
  refine lv_astore_n (lv' := [(2, .ref mo), (1, .ref x), (0, .ref b)]) hx hb d_Law_law_15 rfl hl (by decide) rfl (fun ls hl => ?_)
  refine lv_iconst (v := 0) hx hb d_Law_law_16 (by decide) ?_
  refine lv_istore_n (lv' := [(3, .int 0), (2, .ref mo), (1, .ref x), (0, .ref b)]) hx hb d_Law_law_17 rfl hl (by decide) rfl (fun ls hl => ?_)
  refine W.widen (k := 10 + 0) (n := 340 + 5 * 0) (Nat.le_of_ble_eq_true rfl) (Nat.le_of_ble_eq_true rfl) ?_
  have hinv : Inv 0 (fun _ => false) (fun _ => (0, 0, 0, 0, 0)) 0 (fun _ => 0) (fun _ => 0) (fun _ => 0) (fun _ => 0) (fun _ => 0) (fun _ => 0) (fun _ => 0) := ⟨Nat.zero_le _, ⟨0, Nat.zero_le _, nI0.symm⟩, fun i hi => absurd hi (Nat.not_lt_zero i), fun i _ _ => ⟨rfl, rfl, rfl, rfl⟩⟩
  exact law_loop hL C0 hK (L + 4) 0 (Nat.zero_le _) (by omega) x mo H _ ⟨ra, a1, a2, a3, a4, a5, a6, a7, 0, 0, 0, 0, 0, fun _ => none, 0, fun _ => false, fun _ => 0, fun _ => (0, 0, 0, 0, 0), fun _ => 0, fun _ => 0, fun _ => 0, fun _ => 0, fun _ => 0, fun _ => 0, fun _ => 0, hinv, fun i hi => absurd hi (Nat.not_lt_zero i), hP, hD, hS⟩ ls (by rw [nI0]; exact hl)
end
section
-- ===== YOUR PART ENDS =====
set_option maxHeartbeats 4000000 in
theorem lw_walk (l : Launch) (b : Addr) (xs : List Int32) : MetFree l x (headSpec (Jvm.Cond.code x code maxLocals ret :: tables_1) room_1) (lw_P b xs) (fun _ _ _ _ _ => True) lw_Q := by
  refine MetFree.of_bodyS (code := code) (maxLocals := maxLocals) (ret := ret) (by decide) ?_ ?_
  · intro args s m h hn
    obtain ⟨meth, c, h1, h2, h3, h4, h5, h6, -, -⟩ := Cond.code_spec hn (atoms_spec (ws := Jvm.Cond.code x code maxLocals ret :: tables_1) h _ List.mem_cons_self)
    exact ⟨meth, c, h1, h2, h3, h4, h5, h6⟩
  · intro p e s m args below meth c s₁ B hml0 hP _
    obtain ⟨rfl, hx, hbd, hgv⟩ := hP
    obtain ⟨scr, harrAt, hlist, hof, hsmall⟩ := hx
    obtain ⟨hcb, hkn, -, -⟩ := State.arrayAt?_spec harrAt
    have hown : s.vm.findClass R_law = some m.cls := findClass_of_methodNamed B.named
    have hts0 : ∀ c ∈ (Jvm.Cond.code x code maxLocals ret :: tables_1), c.before #[Value.ref b] s = true := atoms_spec (ws := Jvm.Cond.code x code maxLocals ret :: tables_1) B.pre
    have hts : ∀ w ∈ lw_tbl, w.before #[Value.ref b] s = true := k2_hts_sels lw_privs (fun w hw => hts0 w (List.mem_cons_of_mem _ hw)) lw_privs_ok
    have hml : c.maxLocals = 4 := B.maxLocals_eq (hts0 _ List.mem_cons_self)
    have X₀ : Stand p l e room_1 s m #[Value.ref b] below meth c s₁ [] 0 0 := Stand.of_body B
    have hh0 : s₁.heap = s.heap := by rw [B.state]; rfl
    have hsz : scr.slots.size = xs.length := by rw [← Array.length_toList, hlist, List.length_map]
    have hval : ∀ j : Nat, j < xs.length → scr.slots[j]? = some (.int (xs.getD j 0)) := fun j hj => by
      rw [← Array.getElem?_toList, hlist]
      simp [hj]
    have hbl : b < s.heap.size := (Array.getElem?_eq_some_iff.mp hcb).1
    have hX : va_X b xs.length (fun j => xs.getD j 0) s s.heap := ⟨scr, hcb, hof, hkn, hsz, hval⟩
    have K : W p l e room_1 s m #[Value.ref b] below meth c s₁.heap [] 0 0 (lw_Z below #[Value.ref b] s) (entryFrame m ([Value.ref b] : List Value).toArray 4) := by
      rw [hh0]
      exact whole_start l hbd ⟨B.exec, B.bytes, B.returns, hml, hown, hts, hX, hbl, B.notSynchronized, hgv⟩
    obtain ⟨t, a1, o, b1, b2, b3⟩ := K s₁ rfl X₀
    exact ⟨t, o, a1, b1, b2, b3⟩
theorem lw_pre_spec {args : Array Value} {s : State} (h : (Jvm.Cond.and given_1 narrow_1).before args s = true) (hr : rest_1_c.before args s = true) : ∃ (b : Addr) (xs : List Int32), lw_P b xs args s := by
  have hs := flat_of_before _ h
  have hq := flat_of_before _ hr
  have hc : (Cond.count 1).before args s = true := hs _ (by decide +kernel)
  have harr : (Cond.arrayOf (.arg 0) .int).before args s = true := hs _ (by decide +kernel)
  have hle : (Cond.le (.length (.arg 0)) (.int 1536)).before args s = true := hs _ (by decide +kernel)
  have hlen : (Cond.isInt (.length (.arg 0))).before args s = true := hq _ (by decide +kernel)
  have hall : (Cond.all (.arg 0) (.isInt (.elem (.arg 0) (.index 0)))).before args s = true := hq _ (by decide +kernel)
  obtain ⟨b, xs, hb, hx⟩ := State.ints_of_pre rfl harr hlen hall
  have hsm : xs.length < 2 ^ 31 := hx.choose_spec.2.2.2
  have hev : (Term.length (.arg 0)).eval args s none [] s = some (.int xs.length.toInt32) := hx.length_eval hb
  have hv := Cond.le_ints hev (show (Term.int 1536).eval args s none [] s = some (.int 1536) from rfl)
  have hd : xs.length.toInt32 ≤ 1536 := by
    simpa [Cond.before, Cond.holds, hv] using hle
  have hN : xs.length ≤ 1536 := (Int32.ofNat_le_ofNat hsm (by decide)).mp (show Int32.ofNat xs.length ≤ Int32.ofNat 1536 from hd)
  exact ⟨b, xs, Cond.one_arg hc (show args[0]? = some (.ref b) from hb), hx, hN, h⟩
theorem lw_comes (l : Launch) : Comes l x (Jvm.Cond.code x code maxLocals ret :: tables_1) room_1 (fun tb e args s => Calls_1 tb e args s ∧ rest_1 tb e args s ∧ Pre_1 tb e args s)
    (fun _ _ args s o t => lw_Q args s o t) := by
  intro p e ha hc hk s m args below hf hfit hheap happ hpre
  obtain ⟨b, xs, hP⟩ := lw_pre_spec hpre.2.2 hpre.2.1
  obtain ⟨k, o, h1, h2, h3, hQ⟩ := lw_walk l b xs p e ha hc hk s m args below hf ((Spec.applies_iff_loose hf).mp happ).1 hP trivial
  exact ⟨k, o, h1, h2, h3, hQ⟩
theorem lw_frame {s t : State} {o : Outcome} {args : Array Value} (h : Framed s o t [] 775734 6775046) :
    Framed s o t (fieldLocs frame_1_writes args s ++ arrayLocs frame_1_arrays args s ++ staticLocs frame_1_statics s) 775734 6775046 := h
theorem lw_limb (L : Cond) (hL : ∀ (args : Array Value) (s t : State), L.after args s (.returned (some (.int 1))) t = true) :
    ArmFor flags0 classFile x code maxLocals ret World_1 tables_1 room_1 Calls_1 rest_1 Pre_1
      (fun tb e a s o t => postC L tb e a s o t ∧ Framed s o t (fieldLocs frame_1_writes a s ++ arrayLocs frame_1_arrays a s ++ staticLocs frame_1_statics s) 775734 6775046) := by
  intro l _ _ _ p e ha hc hk s m args below hf hfit hheap happ hpre
  obtain ⟨k, o, h1, h2, h3, rfl, hF⟩ := lw_comes l p e ha hc hk s m args below hf hfit hheap happ hpre
  exact ⟨k, _, h1, h2, h3, hL args s _, lw_frame hF⟩
theorem i_vc : Claimed_1_1 ∧ Claimed_1_2 := ⟨lw_limb limb_1_1 (fun args s t => by simp [limb_1_1, Cond.after, Cond.holds, Cond.value]), lw_limb limb_1_2 (fun args s t => Cond.after_iff.mpr (by
  first | (rw [show limb_1_2 = Cond.eq .result (.int 1) from rfl, Cond.eq_ints (x := 1) (y := 1) rfl rfl]; simp; done) | (simp [limb_1_2, Cond.value, Term.eval]; done)))⟩
end
