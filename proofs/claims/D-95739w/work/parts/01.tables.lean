-- ===== PART A: goes FIRST, ahead of the names: the tables' words, and 'selects' of the private methods out of them =====
/-- a private method of a class that the tables say can be made, by its rows of tables_1 -/
def lw_okq (q : MethodName × Nat) : Prop := (q.1.cls ≠ "java/lang/invoke/MethodHandle" ∧ q.1.cls ≠ "java/lang/invoke/VarHandle") ∧ Cond.instantiable q.1.cls q.2 ∈ tables_1 ∧ Cond.privateMethod q.1 ∈ tables_1 ∧ Cond.instanceMethod q.1 ∈ tables_1
set_option maxRecDepth 100000
theorem lw_t1 {w : Cond} (h : w ∈ tables_1_1) : w ∈ tables_1 := List.mem_append_left _ h
theorem lw_t2 {w : Cond} (h : w ∈ tables_1_2) : w ∈ tables_1 := List.mem_append_right _ (List.mem_append_left _ h)
theorem lw_t3 {w : Cond} (h : w ∈ tables_1_3) : w ∈ tables_1 := List.mem_append_right _ (List.mem_append_right _ (List.mem_append_left _ h))
theorem lw_t4 {w : Cond} (h : w ∈ tables_1_4) : w ∈ tables_1 := List.mem_append_right _ (List.mem_append_right _ (List.mem_append_right _ (List.mem_append_left _ h)))
theorem lw_t5 {w : Cond} (h : w ∈ tables_1_5) : w ∈ tables_1 := List.mem_append_right _ (List.mem_append_right _ (List.mem_append_right _ (List.mem_append_right _ (List.mem_append_left _ h))))
theorem lw_t6 {w : Cond} (h : w ∈ tables_1_6) : w ∈ tables_1 := List.mem_append_right _ (List.mem_append_right _ (List.mem_append_right _ (List.mem_append_right _ (List.mem_append_right _ (List.mem_append_left _ h)))))
theorem lw_t7 {w : Cond} (h : w ∈ tables_1_7) : w ∈ tables_1 := List.mem_append_right _ (List.mem_append_right _ (List.mem_append_right _ (List.mem_append_right _ (List.mem_append_right _ (List.mem_append_right _ h)))))
theorem lw_p0 : lw_okq (⟨"FewKeys$Reader", "here", "()I"⟩, 5) := ⟨⟨by decide +kernel, by decide +kernel⟩, lw_t1 (List.mem_of_getElem? (i := 171) rfl), lw_t1 (List.mem_of_getElem? (i := 199) rfl), lw_t1 (List.mem_of_getElem? (i := 200) rfl)⟩
theorem lw_p1 : lw_okq (⟨"FewKeys$Reader", "dial", "()V"⟩, 5) := ⟨⟨by decide +kernel, by decide +kernel⟩, lw_t1 (List.mem_of_getElem? (i := 171) rfl), lw_t1 (List.mem_of_getElem? (i := 203) rfl), lw_t1 (List.mem_of_getElem? (i := 204) rfl)⟩
theorem lw_p2 : lw_okq (⟨"FewKeys$Reader", "word", "()Ljava/lang/String;"⟩, 5) := ⟨⟨by decide +kernel, by decide +kernel⟩, lw_t1 (List.mem_of_getElem? (i := 171) rfl), lw_t1 (List.mem_of_getElem? (i := 207) rfl), lw_t1 (List.mem_of_getElem? (i := 208) rfl)⟩
theorem lw_p3 : lw_okq (⟨"java/lang/Throwable", "fillInStackTrace", "(I)Ljava/lang/Throwable;"⟩, 6) := ⟨⟨by decide +kernel, by decide +kernel⟩, lw_t2 (List.mem_of_getElem? (i := 207) rfl), lw_t2 (List.mem_of_getElem? (i := 205) rfl), lw_t2 (List.mem_of_getElem? (i := 206) rfl)⟩
theorem lw_p4 : lw_okq (⟨"FewKeys$Reader", "number", "(II)I"⟩, 5) := ⟨⟨by decide +kernel, by decide +kernel⟩, lw_t1 (List.mem_of_getElem? (i := 171) rfl), lw_t3 (List.mem_of_getElem? (i := 2) rfl), lw_t3 (List.mem_of_getElem? (i := 3) rfl)⟩
theorem lw_p5 : lw_okq (⟨"FewKeys$Reader", "end", "()V"⟩, 5) := ⟨⟨by decide +kernel, by decide +kernel⟩, lw_t1 (List.mem_of_getElem? (i := 171) rfl), lw_t3 (List.mem_of_getElem? (i := 32) rfl), lw_t3 (List.mem_of_getElem? (i := 33) rfl)⟩
theorem lw_p6 : lw_okq (⟨"FewKeys$Reader", "key", "(Ljava/lang/String;I)LFewKeys$Key;"⟩, 5) := ⟨⟨by decide +kernel, by decide +kernel⟩, lw_t1 (List.mem_of_getElem? (i := 171) rfl), lw_t3 (List.mem_of_getElem? (i := 47) rfl), lw_t3 (List.mem_of_getElem? (i := 48) rfl)⟩
theorem lw_p7 : lw_okq (⟨"FewKeys$Reader", "figure", "()I"⟩, 5) := ⟨⟨by decide +kernel, by decide +kernel⟩, lw_t1 (List.mem_of_getElem? (i := 171) rfl), lw_t3 (List.mem_of_getElem? (i := 104) rfl), lw_t3 (List.mem_of_getElem? (i := 105) rfl)⟩
theorem lw_p8 : lw_okq (⟨"FewKeys$Reader", "cost", "()I"⟩, 5) := ⟨⟨by decide +kernel, by decide +kernel⟩, lw_t1 (List.mem_of_getElem? (i := 171) rfl), lw_t3 (List.mem_of_getElem? (i := 110) rfl), lw_t3 (List.mem_of_getElem? (i := 111) rfl)⟩
theorem lw_p9 : lw_okq (⟨"FewKeys$Reader", "now", "()LFewKeys$Key;"⟩, 5) := ⟨⟨by decide +kernel, by decide +kernel⟩, lw_t1 (List.mem_of_getElem? (i := 171) rfl), lw_t3 (List.mem_of_getElem? (i := 160) rfl), lw_t3 (List.mem_of_getElem? (i := 161) rfl)⟩
theorem lw_p10 : lw_okq (⟨"FewKeys$Reader", "sign", "(Ljava/lang/String;I)I"⟩, 5) := ⟨⟨by decide +kernel, by decide +kernel⟩, lw_t1 (List.mem_of_getElem? (i := 171) rfl), lw_t3 (List.mem_of_getElem? (i := 164) rfl), lw_t3 (List.mem_of_getElem? (i := 165) rfl)⟩
theorem lw_p11 : lw_okq (⟨"FewKeys$Reader", "stuck", "()LFewKeys$Key;"⟩, 5) := ⟨⟨by decide +kernel, by decide +kernel⟩, lw_t1 (List.mem_of_getElem? (i := 171) rfl), lw_t3 (List.mem_of_getElem? (i := 183) rfl), lw_t3 (List.mem_of_getElem? (i := 184) rfl)⟩
theorem lw_p12 : lw_okq (⟨"FewKeys", "many", "()I"⟩, 20) := ⟨⟨by decide +kernel, by decide +kernel⟩, lw_t1 (List.mem_of_getElem? (i := 29) rfl), lw_t3 (List.mem_of_getElem? (i := 216) rfl), lw_t3 (List.mem_of_getElem? (i := 217) rfl)⟩
theorem lw_p13 : lw_okq (⟨"FewKeys", "isNone", "()Z"⟩, 20) := ⟨⟨by decide +kernel, by decide +kernel⟩, lw_t1 (List.mem_of_getElem? (i := 29) rfl), lw_t3 (List.mem_of_getElem? (i := 220) rfl), lw_t3 (List.mem_of_getElem? (i := 221) rfl)⟩
theorem lw_p14 : lw_okq (⟨"FewKeys", "shown", "(I)I"⟩, 20) := ⟨⟨by decide +kernel, by decide +kernel⟩, lw_t1 (List.mem_of_getElem? (i := 29) rfl), lw_t3 (List.mem_of_getElem? (i := 232) rfl), lw_t3 (List.mem_of_getElem? (i := 233) rfl)⟩
theorem lw_p15 : lw_okq (⟨"FewKeys", "isKey", "(I)Z"⟩, 20) := ⟨⟨by decide +kernel, by decide +kernel⟩, lw_t1 (List.mem_of_getElem? (i := 29) rfl), lw_t4 (List.mem_of_getElem? (i := 12) rfl), lw_t4 (List.mem_of_getElem? (i := 13) rfl)⟩
def lw_privs_1 : List (MethodName × Nat) := [(⟨"FewKeys$Reader", "here", "()I"⟩, 5), (⟨"FewKeys$Reader", "dial", "()V"⟩, 5), (⟨"FewKeys$Reader", "word", "()Ljava/lang/String;"⟩, 5), (⟨"java/lang/Throwable", "fillInStackTrace", "(I)Ljava/lang/Throwable;"⟩, 6), (⟨"FewKeys$Reader", "number", "(II)I"⟩, 5), (⟨"FewKeys$Reader", "end", "()V"⟩, 5), (⟨"FewKeys$Reader", "key", "(Ljava/lang/String;I)LFewKeys$Key;"⟩, 5), (⟨"FewKeys$Reader", "figure", "()I"⟩, 5), (⟨"FewKeys$Reader", "cost", "()I"⟩, 5), (⟨"FewKeys$Reader", "now", "()LFewKeys$Key;"⟩, 5), (⟨"FewKeys$Reader", "sign", "(Ljava/lang/String;I)I"⟩, 5), (⟨"FewKeys$Reader", "stuck", "()LFewKeys$Key;"⟩, 5), (⟨"FewKeys", "many", "()I"⟩, 20), (⟨"FewKeys", "isNone", "()Z"⟩, 20), (⟨"FewKeys", "shown", "(I)I"⟩, 20), (⟨"FewKeys", "isKey", "(I)Z"⟩, 20)]
theorem lw_r1 : ∀ q ∈ lw_privs_1, lw_okq q := List.forall_mem_cons.mpr ⟨lw_p0, List.forall_mem_cons.mpr ⟨lw_p1, List.forall_mem_cons.mpr ⟨lw_p2, List.forall_mem_cons.mpr ⟨lw_p3, List.forall_mem_cons.mpr ⟨lw_p4, List.forall_mem_cons.mpr ⟨lw_p5, List.forall_mem_cons.mpr ⟨lw_p6, List.forall_mem_cons.mpr ⟨lw_p7, List.forall_mem_cons.mpr ⟨lw_p8, List.forall_mem_cons.mpr ⟨lw_p9, List.forall_mem_cons.mpr ⟨lw_p10, List.forall_mem_cons.mpr ⟨lw_p11, List.forall_mem_cons.mpr ⟨lw_p12, List.forall_mem_cons.mpr ⟨lw_p13, List.forall_mem_cons.mpr ⟨lw_p14, List.forall_mem_cons.mpr ⟨lw_p15, fun _ h => absurd h List.not_mem_nil⟩⟩⟩⟩⟩⟩⟩⟩⟩⟩⟩⟩⟩⟩⟩⟩
theorem lw_p16 : lw_okq (⟨"FewKeys", "strikeNow", "(I)V"⟩, 20) := ⟨⟨by decide +kernel, by decide +kernel⟩, lw_t1 (List.mem_of_getElem? (i := 29) rfl), lw_t4 (List.mem_of_getElem? (i := 70) rfl), lw_t4 (List.mem_of_getElem? (i := 71) rfl)⟩
theorem lw_p17 : lw_okq (⟨"FewKeys", "isNumber", "(I)Z"⟩, 20) := ⟨⟨by decide +kernel, by decide +kernel⟩, lw_t1 (List.mem_of_getElem? (i := 29) rfl), lw_t4 (List.mem_of_getElem? (i := 141) rfl), lw_t4 (List.mem_of_getElem? (i := 142) rfl)⟩
theorem lw_p18 : lw_okq (⟨"FewKeys", "spread", "(II)V"⟩, 20) := ⟨⟨by decide +kernel, by decide +kernel⟩, lw_t1 (List.mem_of_getElem? (i := 29) rfl), lw_t4 (List.mem_of_getElem? (i := 145) rfl), lw_t4 (List.mem_of_getElem? (i := 146) rfl)⟩
theorem lw_p19 : lw_okq (⟨"FewKeys", "fewestTo", "(I)I"⟩, 20) := ⟨⟨by decide +kernel, by decide +kernel⟩, lw_t1 (List.mem_of_getElem? (i := 29) rfl), lw_t4 (List.mem_of_getElem? (i := 162) rfl), lw_t4 (List.mem_of_getElem? (i := 163) rfl)⟩
theorem lw_p20 : lw_okq (⟨"FewKeys", "spreadCosts", "()V"⟩, 20) := ⟨⟨by decide +kernel, by decide +kernel⟩, lw_t1 (List.mem_of_getElem? (i := 29) rfl), lw_t4 (List.mem_of_getElem? (i := 174) rfl), lw_t4 (List.mem_of_getElem? (i := 175) rfl)⟩
theorem lw_p21 : lw_okq (⟨"FewKeys", "candidate", "(I)LFewKeys$Key;"⟩, 20) := ⟨⟨by decide +kernel, by decide +kernel⟩, lw_t1 (List.mem_of_getElem? (i := 29) rfl), lw_t4 (List.mem_of_getElem? (i := 208) rfl), lw_t4 (List.mem_of_getElem? (i := 209) rfl)⟩
theorem lw_p22 : lw_okq (⟨"FewKeys", "sumWith", "(I)I"⟩, 20) := ⟨⟨by decide +kernel, by decide +kernel⟩, lw_t1 (List.mem_of_getElem? (i := 29) rfl), lw_t4 (List.mem_of_getElem? (i := 218) rfl), lw_t4 (List.mem_of_getElem? (i := 219) rfl)⟩
theorem lw_p23 : lw_okq (⟨"FewKeys", "goOn", "()V"⟩, 20) := ⟨⟨by decide +kernel, by decide +kernel⟩, lw_t1 (List.mem_of_getElem? (i := 29) rfl), lw_t4 (List.mem_of_getElem? (i := 226) rfl), lw_t4 (List.mem_of_getElem? (i := 227) rfl)⟩
theorem lw_p24 : lw_okq (⟨"FewKeys", "rowsTo", "(III)I"⟩, 20) := ⟨⟨by decide +kernel, by decide +kernel⟩, lw_t1 (List.mem_of_getElem? (i := 29) rfl), lw_t5 (List.mem_of_getElem? (i := 1) rfl), lw_t5 (List.mem_of_getElem? (i := 2) rfl)⟩
theorem lw_p25 : lw_okq (⟨"FewKeys", "parts", "(III)Z"⟩, 20) := ⟨⟨by decide +kernel, by decide +kernel⟩, lw_t1 (List.mem_of_getElem? (i := 29) rfl), lw_t5 (List.mem_of_getElem? (i := 19) rfl), lw_t5 (List.mem_of_getElem? (i := 20) rfl)⟩
theorem lw_p26 : lw_okq (⟨"FewKeys", "worth", "(III)I"⟩, 20) := ⟨⟨by decide +kernel, by decide +kernel⟩, lw_t1 (List.mem_of_getElem? (i := 29) rfl), lw_t5 (List.mem_of_getElem? (i := 27) rfl), lw_t5 (List.mem_of_getElem? (i := 28) rfl)⟩
theorem lw_p27 : lw_okq (⟨"FewKeysModel", "isRead", "()Z"⟩, 41) := ⟨⟨by decide +kernel, by decide +kernel⟩, lw_t5 (List.mem_of_getElem? (i := 73) rfl), lw_t5 (List.mem_of_getElem? (i := 219) rfl), lw_t5 (List.mem_of_getElem? (i := 220) rfl)⟩
theorem lw_p28 : lw_okq (⟨"FewKeysModel", "nextToken", "()V"⟩, 41) := ⟨⟨by decide +kernel, by decide +kernel⟩, lw_t5 (List.mem_of_getElem? (i := 73) rfl), lw_t5 (List.mem_of_getElem? (i := 223) rfl), lw_t5 (List.mem_of_getElem? (i := 224) rfl)⟩
theorem lw_p29 : lw_okq (⟨"FewKeysModel", "fails", "(I)Z"⟩, 41) := ⟨⟨by decide +kernel, by decide +kernel⟩, lw_t5 (List.mem_of_getElem? (i := 73) rfl), lw_t5 (List.mem_of_getElem? (i := 234) rfl), lw_t5 (List.mem_of_getElem? (i := 235) rfl)⟩
theorem lw_p30 : lw_okq (⟨"FewKeysModel", "isDial", "()Z"⟩, 41) := ⟨⟨by decide +kernel, by decide +kernel⟩, lw_t5 (List.mem_of_getElem? (i := 73) rfl), lw_t5 (List.mem_of_getElem? (i := 238) rfl), lw_t5 (List.mem_of_getElem? (i := 239) rfl)⟩
theorem lw_p31 : lw_okq (⟨"FewKeysModel", "isNext", "(III)Z"⟩, 41) := ⟨⟨by decide +kernel, by decide +kernel⟩, lw_t5 (List.mem_of_getElem? (i := 73) rfl), lw_t6 (List.mem_of_getElem? (i := 4) rfl), lw_t6 (List.mem_of_getElem? (i := 5) rfl)⟩
def lw_privs_2 : List (MethodName × Nat) := [(⟨"FewKeys", "strikeNow", "(I)V"⟩, 20), (⟨"FewKeys", "isNumber", "(I)Z"⟩, 20), (⟨"FewKeys", "spread", "(II)V"⟩, 20), (⟨"FewKeys", "fewestTo", "(I)I"⟩, 20), (⟨"FewKeys", "spreadCosts", "()V"⟩, 20), (⟨"FewKeys", "candidate", "(I)LFewKeys$Key;"⟩, 20), (⟨"FewKeys", "sumWith", "(I)I"⟩, 20), (⟨"FewKeys", "goOn", "()V"⟩, 20), (⟨"FewKeys", "rowsTo", "(III)I"⟩, 20), (⟨"FewKeys", "parts", "(III)Z"⟩, 20), (⟨"FewKeys", "worth", "(III)I"⟩, 20), (⟨"FewKeysModel", "isRead", "()Z"⟩, 41), (⟨"FewKeysModel", "nextToken", "()V"⟩, 41), (⟨"FewKeysModel", "fails", "(I)Z"⟩, 41), (⟨"FewKeysModel", "isDial", "()Z"⟩, 41), (⟨"FewKeysModel", "isNext", "(III)Z"⟩, 41)]
theorem lw_r2 : ∀ q ∈ lw_privs_2, lw_okq q := List.forall_mem_cons.mpr ⟨lw_p16, List.forall_mem_cons.mpr ⟨lw_p17, List.forall_mem_cons.mpr ⟨lw_p18, List.forall_mem_cons.mpr ⟨lw_p19, List.forall_mem_cons.mpr ⟨lw_p20, List.forall_mem_cons.mpr ⟨lw_p21, List.forall_mem_cons.mpr ⟨lw_p22, List.forall_mem_cons.mpr ⟨lw_p23, List.forall_mem_cons.mpr ⟨lw_p24, List.forall_mem_cons.mpr ⟨lw_p25, List.forall_mem_cons.mpr ⟨lw_p26, List.forall_mem_cons.mpr ⟨lw_p27, List.forall_mem_cons.mpr ⟨lw_p28, List.forall_mem_cons.mpr ⟨lw_p29, List.forall_mem_cons.mpr ⟨lw_p30, List.forall_mem_cons.mpr ⟨lw_p31, fun _ h => absurd h List.not_mem_nil⟩⟩⟩⟩⟩⟩⟩⟩⟩⟩⟩⟩⟩⟩⟩⟩
theorem lw_p32 : lw_okq (⟨"FewKeysModel", "ends", "()Z"⟩, 41) := ⟨⟨by decide +kernel, by decide +kernel⟩, lw_t5 (List.mem_of_getElem? (i := 73) rfl), lw_t6 (List.mem_of_getElem? (i := 8) rfl), lw_t6 (List.mem_of_getElem? (i := 9) rfl)⟩
theorem lw_p33 : lw_okq (⟨"FewKeysModel", "isKey", "()Z"⟩, 41) := ⟨⟨by decide +kernel, by decide +kernel⟩, lw_t5 (List.mem_of_getElem? (i := 73) rfl), lw_t6 (List.mem_of_getElem? (i := 12) rfl), lw_t6 (List.mem_of_getElem? (i := 13) rfl)⟩
theorem lw_p34 : lw_okq (⟨"FewKeysModel", "isNow", "(I)Z"⟩, 41) := ⟨⟨by decide +kernel, by decide +kernel⟩, lw_t5 (List.mem_of_getElem? (i := 73) rfl), lw_t6 (List.mem_of_getElem? (i := 24) rfl), lw_t6 (List.mem_of_getElem? (i := 25) rfl)⟩
theorem lw_p35 : lw_okq (⟨"FewKeysModel", "isCost", "(I)Z"⟩, 41) := ⟨⟨by decide +kernel, by decide +kernel⟩, lw_t5 (List.mem_of_getElem? (i := 73) rfl), lw_t6 (List.mem_of_getElem? (i := 28) rfl), lw_t6 (List.mem_of_getElem? (i := 29) rfl)⟩
theorem lw_p36 : lw_okq (⟨"FewKeysModel", "start", "()V"⟩, 41) := ⟨⟨by decide +kernel, by decide +kernel⟩, lw_t5 (List.mem_of_getElem? (i := 73) rfl), lw_t6 (List.mem_of_getElem? (i := 32) rfl), lw_t6 (List.mem_of_getElem? (i := 33) rfl)⟩
theorem lw_p37 : lw_okq (⟨"FewKeysModel", "doStroke", "(I)V"⟩, 41) := ⟨⟨by decide +kernel, by decide +kernel⟩, lw_t5 (List.mem_of_getElem? (i := 73) rfl), lw_t6 (List.mem_of_getElem? (i := 53) rfl), lw_t6 (List.mem_of_getElem? (i := 54) rfl)⟩
theorem lw_p38 : lw_okq (⟨"FewKeysModel", "figure", "(I)V"⟩, 41) := ⟨⟨by decide +kernel, by decide +kernel⟩, lw_t5 (List.mem_of_getElem? (i := 73) rfl), lw_t6 (List.mem_of_getElem? (i := 57) rfl), lw_t6 (List.mem_of_getElem? (i := 58) rfl)⟩
theorem lw_p39 : lw_okq (⟨"FewKeysModel", "reckon", "(III)I"⟩, 41) := ⟨⟨by decide +kernel, by decide +kernel⟩, lw_t5 (List.mem_of_getElem? (i := 73) rfl), lw_t6 (List.mem_of_getElem? (i := 61) rfl), lw_t6 (List.mem_of_getElem? (i := 62) rfl)⟩
theorem lw_p40 : lw_okq (⟨"FewKeysModel", "bound", "(I)I"⟩, 41) := ⟨⟨by decide +kernel, by decide +kernel⟩, lw_t5 (List.mem_of_getElem? (i := 73) rfl), lw_t6 (List.mem_of_getElem? (i := 65) rfl), lw_t6 (List.mem_of_getElem? (i := 66) rfl)⟩
theorem lw_p41 : lw_okq (⟨"FewKeysModel", "isNumber", "(I)Z"⟩, 41) := ⟨⟨by decide +kernel, by decide +kernel⟩, lw_t5 (List.mem_of_getElem? (i := 73) rfl), lw_t6 (List.mem_of_getElem? (i := 77) rfl), lw_t6 (List.mem_of_getElem? (i := 78) rfl)⟩
theorem lw_p42 : lw_okq (⟨"FewKeysModel", "layFewest", "(I)V"⟩, 41) := ⟨⟨by decide +kernel, by decide +kernel⟩, lw_t5 (List.mem_of_getElem? (i := 73) rfl), lw_t6 (List.mem_of_getElem? (i := 81) rfl), lw_t6 (List.mem_of_getElem? (i := 82) rfl)⟩
theorem lw_p43 : lw_okq (⟨"FewKeysModel", "stateNow", "()I"⟩, 41) := ⟨⟨by decide +kernel, by decide +kernel⟩, lw_t5 (List.mem_of_getElem? (i := 73) rfl), lw_t6 (List.mem_of_getElem? (i := 85) rfl), lw_t6 (List.mem_of_getElem? (i := 86) rfl)⟩
theorem lw_p44 : lw_okq (⟨"FewKeysModel", "states", "()I"⟩, 41) := ⟨⟨by decide +kernel, by decide +kernel⟩, lw_t5 (List.mem_of_getElem? (i := 73) rfl), lw_t6 (List.mem_of_getElem? (i := 89) rfl), lw_t6 (List.mem_of_getElem? (i := 90) rfl)⟩
theorem lw_p45 : lw_okq (⟨"FewKeysModel", "shownIn", "(I)I"⟩, 41) := ⟨⟨by decide +kernel, by decide +kernel⟩, lw_t5 (List.mem_of_getElem? (i := 73) rfl), lw_t6 (List.mem_of_getElem? (i := 93) rfl), lw_t6 (List.mem_of_getElem? (i := 94) rfl)⟩
theorem lw_p46 : lw_okq (⟨"FewKeysModel", "behind", "(II)I"⟩, 41) := ⟨⟨by decide +kernel, by decide +kernel⟩, lw_t5 (List.mem_of_getElem? (i := 73) rfl), lw_t6 (List.mem_of_getElem? (i := 97) rfl), lw_t6 (List.mem_of_getElem? (i := 98) rfl)⟩
theorem lw_p47 : lw_okq (⟨"FewKeysModel", "setState", "(I)V"⟩, 41) := ⟨⟨by decide +kernel, by decide +kernel⟩, lw_t5 (List.mem_of_getElem? (i := 73) rfl), lw_t6 (List.mem_of_getElem? (i := 101) rfl), lw_t6 (List.mem_of_getElem? (i := 102) rfl)⟩
def lw_privs_3 : List (MethodName × Nat) := [(⟨"FewKeysModel", "ends", "()Z"⟩, 41), (⟨"FewKeysModel", "isKey", "()Z"⟩, 41), (⟨"FewKeysModel", "isNow", "(I)Z"⟩, 41), (⟨"FewKeysModel", "isCost", "(I)Z"⟩, 41), (⟨"FewKeysModel", "start", "()V"⟩, 41), (⟨"FewKeysModel", "doStroke", "(I)V"⟩, 41), (⟨"FewKeysModel", "figure", "(I)V"⟩, 41), (⟨"FewKeysModel", "reckon", "(III)I"⟩, 41), (⟨"FewKeysModel", "bound", "(I)I"⟩, 41), (⟨"FewKeysModel", "isNumber", "(I)Z"⟩, 41), (⟨"FewKeysModel", "layFewest", "(I)V"⟩, 41), (⟨"FewKeysModel", "stateNow", "()I"⟩, 41), (⟨"FewKeysModel", "states", "()I"⟩, 41), (⟨"FewKeysModel", "shownIn", "(I)I"⟩, 41), (⟨"FewKeysModel", "behind", "(II)I"⟩, 41), (⟨"FewKeysModel", "setState", "(I)V"⟩, 41)]
theorem lw_r3 : ∀ q ∈ lw_privs_3, lw_okq q := List.forall_mem_cons.mpr ⟨lw_p32, List.forall_mem_cons.mpr ⟨lw_p33, List.forall_mem_cons.mpr ⟨lw_p34, List.forall_mem_cons.mpr ⟨lw_p35, List.forall_mem_cons.mpr ⟨lw_p36, List.forall_mem_cons.mpr ⟨lw_p37, List.forall_mem_cons.mpr ⟨lw_p38, List.forall_mem_cons.mpr ⟨lw_p39, List.forall_mem_cons.mpr ⟨lw_p40, List.forall_mem_cons.mpr ⟨lw_p41, List.forall_mem_cons.mpr ⟨lw_p42, List.forall_mem_cons.mpr ⟨lw_p43, List.forall_mem_cons.mpr ⟨lw_p44, List.forall_mem_cons.mpr ⟨lw_p45, List.forall_mem_cons.mpr ⟨lw_p46, List.forall_mem_cons.mpr ⟨lw_p47, fun _ h => absurd h List.not_mem_nil⟩⟩⟩⟩⟩⟩⟩⟩⟩⟩⟩⟩⟩⟩⟩⟩
theorem lw_p48 : lw_okq (⟨"FewKeysModel", "leastOf", "(I)I"⟩, 41) := ⟨⟨by decide +kernel, by decide +kernel⟩, lw_t5 (List.mem_of_getElem? (i := 73) rfl), lw_t6 (List.mem_of_getElem? (i := 113) rfl), lw_t6 (List.mem_of_getElem? (i := 114) rfl)⟩
theorem lw_p49 : lw_okq (⟨"FewKeysModel", "putIn", "(I)V"⟩, 41) := ⟨⟨by decide +kernel, by decide +kernel⟩, lw_t5 (List.mem_of_getElem? (i := 73) rfl), lw_t6 (List.mem_of_getElem? (i := 117) rfl), lw_t6 (List.mem_of_getElem? (i := 118) rfl)⟩
theorem lw_p50 : lw_okq (⟨"FewKeysModel", "takeOut", "(I)V"⟩, 41) := ⟨⟨by decide +kernel, by decide +kernel⟩, lw_t5 (List.mem_of_getElem? (i := 73) rfl), lw_t6 (List.mem_of_getElem? (i := 121) rfl), lw_t6 (List.mem_of_getElem? (i := 122) rfl)⟩
theorem lw_p51 : lw_okq (⟨"FewKeysModel", "allFewest", "(I)I"⟩, 41) := ⟨⟨by decide +kernel, by decide +kernel⟩, lw_t5 (List.mem_of_getElem? (i := 73) rfl), lw_t6 (List.mem_of_getElem? (i := 150) rfl), lw_t6 (List.mem_of_getElem? (i := 151) rfl)⟩
theorem lw_p52 : lw_okq (⟨"FewKeysModel", "listOf", "()I"⟩, 41) := ⟨⟨by decide +kernel, by decide +kernel⟩, lw_t5 (List.mem_of_getElem? (i := 73) rfl), lw_t6 (List.mem_of_getElem? (i := 158) rfl), lw_t6 (List.mem_of_getElem? (i := 159) rfl)⟩
theorem lw_p53 : lw_okq (⟨"FewKeysModel", "goOn", "(II)I"⟩, 41) := ⟨⟨by decide +kernel, by decide +kernel⟩, lw_t5 (List.mem_of_getElem? (i := 73) rfl), lw_t6 (List.mem_of_getElem? (i := 162) rfl), lw_t6 (List.mem_of_getElem? (i := 163) rfl)⟩
theorem lw_p54 : lw_okq (⟨"FewKeysModel", "insert", "(III)V"⟩, 41) := ⟨⟨by decide +kernel, by decide +kernel⟩, lw_t5 (List.mem_of_getElem? (i := 73) rfl), lw_t6 (List.mem_of_getElem? (i := 166) rfl), lw_t6 (List.mem_of_getElem? (i := 167) rfl)⟩
theorem lw_p55 : lw_okq (⟨"FewKeysModel", "rowsTo", "(III)I"⟩, 41) := ⟨⟨by decide +kernel, by decide +kernel⟩, lw_t5 (List.mem_of_getElem? (i := 73) rfl), lw_t6 (List.mem_of_getElem? (i := 178) rfl), lw_t6 (List.mem_of_getElem? (i := 179) rfl)⟩
theorem lw_p56 : lw_okq (⟨"FewKeysModel", "tells", "(IIII)Z"⟩, 41) := ⟨⟨by decide +kernel, by decide +kernel⟩, lw_t5 (List.mem_of_getElem? (i := 73) rfl), lw_t6 (List.mem_of_getElem? (i := 189) rfl), lw_t6 (List.mem_of_getElem? (i := 190) rfl)⟩
theorem lw_p57 : lw_okq (⟨"FewKeysModel", "shownBy", "(III)J"⟩, 41) := ⟨⟨by decide +kernel, by decide +kernel⟩, lw_t5 (List.mem_of_getElem? (i := 73) rfl), lw_t6 (List.mem_of_getElem? (i := 196) rfl), lw_t6 (List.mem_of_getElem? (i := 197) rfl)⟩
theorem lw_p58 : lw_okq (⟨"FewKeysModel", "layGame", "(II)V"⟩, 41) := ⟨⟨by decide +kernel, by decide +kernel⟩, lw_t5 (List.mem_of_getElem? (i := 73) rfl), lw_t6 (List.mem_of_getElem? (i := 205) rfl), lw_t6 (List.mem_of_getElem? (i := 206) rfl)⟩
theorem lw_p59 : lw_okq (⟨"FewKeysModel", "worth", "(II)I"⟩, 41) := ⟨⟨by decide +kernel, by decide +kernel⟩, lw_t5 (List.mem_of_getElem? (i := 73) rfl), lw_t6 (List.mem_of_getElem? (i := 209) rfl), lw_t6 (List.mem_of_getElem? (i := 210) rfl)⟩
def lw_privs_4 : List (MethodName × Nat) := [(⟨"FewKeysModel", "leastOf", "(I)I"⟩, 41), (⟨"FewKeysModel", "putIn", "(I)V"⟩, 41), (⟨"FewKeysModel", "takeOut", "(I)V"⟩, 41), (⟨"FewKeysModel", "allFewest", "(I)I"⟩, 41), (⟨"FewKeysModel", "listOf", "()I"⟩, 41), (⟨"FewKeysModel", "goOn", "(II)I"⟩, 41), (⟨"FewKeysModel", "insert", "(III)V"⟩, 41), (⟨"FewKeysModel", "rowsTo", "(III)I"⟩, 41), (⟨"FewKeysModel", "tells", "(IIII)Z"⟩, 41), (⟨"FewKeysModel", "shownBy", "(III)J"⟩, 41), (⟨"FewKeysModel", "layGame", "(II)V"⟩, 41), (⟨"FewKeysModel", "worth", "(II)I"⟩, 41)]
theorem lw_r4 : ∀ q ∈ lw_privs_4, lw_okq q := List.forall_mem_cons.mpr ⟨lw_p48, List.forall_mem_cons.mpr ⟨lw_p49, List.forall_mem_cons.mpr ⟨lw_p50, List.forall_mem_cons.mpr ⟨lw_p51, List.forall_mem_cons.mpr ⟨lw_p52, List.forall_mem_cons.mpr ⟨lw_p53, List.forall_mem_cons.mpr ⟨lw_p54, List.forall_mem_cons.mpr ⟨lw_p55, List.forall_mem_cons.mpr ⟨lw_p56, List.forall_mem_cons.mpr ⟨lw_p57, List.forall_mem_cons.mpr ⟨lw_p58, List.forall_mem_cons.mpr ⟨lw_p59, fun _ h => absurd h List.not_mem_nil⟩⟩⟩⟩⟩⟩⟩⟩⟩⟩⟩⟩
def lw_privs : List (MethodName × Nat) := lw_privs_1 ++ (lw_privs_2 ++ (lw_privs_3 ++ (lw_privs_4)))
def lw_tbl : List Cond := k2_sels lw_privs ++ tables_1
theorem lw_privs_ok : ∀ q ∈ lw_privs, lw_okq q := by
  show ∀ q ∈ lw_privs_1 ++ (lw_privs_2 ++ (lw_privs_3 ++ (lw_privs_4))), lw_okq q
  exact List.forall_mem_append.mpr ⟨lw_r1, List.forall_mem_append.mpr ⟨lw_r2, List.forall_mem_append.mpr ⟨lw_r3, lw_r4⟩⟩⟩
-- ===== ONE list of words for every method: the tables' words that hold all through a run =====
def lw_all : List Cond := lw_tbl.filter goodWord
/-- a word of the tables by its place: claim/WORDS.tsv -/
theorem lw_w {w : Cond} (i : Nat) (h : lw_tbl[i]? = some w) (g : goodWord w = true) : w ∈ lw_all := List.mem_filter.mpr ⟨List.mem_of_getElem? h, g⟩
theorem lw_all_tbl {w : Cond} (h : w ∈ lw_all) : w ∈ lw_tbl := (List.mem_filter.mp h).1
theorem lw_self : GoodIn lw_all lw_all := fun w h => ⟨h, good_of_word (List.mem_filter.mp h).2⟩
/-- a class's field words, by their places -/
theorem lw_in (ws : List Cond) (ps : List Nat) (hp : ws = ps.filterMap (fun i => lw_tbl[i]?)) (hg : ws.all goodWord = true) : ∀ w ∈ ws, w ∈ lw_all := by
  intro w h
  have h1 := List.all_eq_true.mp hg w h
  rw [hp] at h
  obtain ⟨i, -, hi⟩ := List.mem_filterMap.mp h
  exact lw_w i hi h1
/-- the words of a contract for the method y with code b, L locals, answer r -/
abbrev ws_ (y : MethodName) (b : ByteArray) (L : Nat) (r : Option FieldType) : List Cond := Cond.code y b L r :: lw_all
theorem lw_meth {y : MethodName} {b : ByteArray} {L : Nat} {r : Option FieldType} (h : Cond.code y b L r ∈ lw_all) : GoodIn lw_all (ws_ y b L r) := by
  intro w hw
  rcases List.mem_cons.mp hw with e | e
  · rw [e]
    exact lw_self _ h
  · exact lw_self _ e
theorem lw_app {a c : List Cond} (ha : ∀ w ∈ a, w ∈ lw_all) (hc : GoodIn lw_all c) : GoodIn lw_all (a ++ c) := by
  intro w hw
  rcases List.mem_append.mp hw with e | e
  · exact lw_self w (ha w e)
  · exact hc w e
/-- what a call through an object asks: cwV n hts (lw_V ..) -/
theorem lw_V {own : String} {idx : Nat} {C : String} {y : MethodName} {b : ByteArray} {L : Nat} {r : Option FieldType} (h1 : Cond.methodLink own idx y ∈ lw_all) (h2 : Cond.instanceMethod y ∈ lw_all) (h3 : Cond.selects C y y ∈ lw_all) (h4 : Cond.initialized C ∈ lw_all) (h5 : Cond.code y b L r ∈ lw_all) : GoodIn lw_all (wsV own idx C y (ws_ y b L r)) := by
  refine lw_app ?_ (lw_meth h5)
  intro w hw
  simp only [List.mem_cons, List.not_mem_nil, or_false] at hw
  rcases hw with e | e | e | e
  · rw [e]; exact h1
  · rw [e]; exact h2
  · rw [e]; exact h3
  · rw [e]; exact h4
/-- what a static call asks: va_cwS n hts (lw_S ..) -/
theorem lw_S {own : String} {idx : Nat} {y : MethodName} {b : ByteArray} {L : Nat} {r : Option FieldType} (h1 : Cond.methodLink own idx y ∈ lw_all) (h2 : Cond.static y ∈ lw_all) (h3 : Cond.initialized y.cls ∈ lw_all) (h4 : Cond.code y b L r ∈ lw_all) : GoodIn lw_all (va_wsS own idx y (ws_ y b L r)) := by
  refine lw_app ?_ (lw_meth h4)
  intro w hw
  simp only [List.mem_cons, List.not_mem_nil, or_false] at hw
  rcases hw with e | e | e
  · rw [e]; exact h1
  · rw [e]; exact h2
  · rw [e]; exact h3
/-- the words of a contract for a method WITH HANDLERS (hh: its table) -/
abbrev wsW_ (y : MethodName) (b : ByteArray) (L : Nat) (r : Option FieldType) (hh : List (Nat × Nat × Nat × Nat)) : List Cond := Cond.codeWith y b L r hh :: lw_all
theorem lw_methW {y : MethodName} {b : ByteArray} {L : Nat} {r : Option FieldType} {hh : List (Nat × Nat × Nat × Nat)} (h : Cond.codeWith y b L r hh ∈ lw_all) : GoodIn lw_all (wsW_ y b L r hh) := by
  intro w hw
  rcases List.mem_cons.mp hw with e | e
  · rw [e]
    exact lw_self _ h
  · exact lw_self _ e
/-- any list of words by their places (lw_in), good -/
theorem lw_good {ws : List Cond} (h : ∀ w ∈ ws, w ∈ lw_all) : GoodIn lw_all ws := fun w hw => lw_self w (h w hw)
/-- what a call of a method with handlers asks: vx_cwVW n hts (lw_VW ..), vx_cwSW n hts (lw_SW ..) -/
theorem lw_VW {own : String} {idx : Nat} {C : String} {y : MethodName} {b : ByteArray} {L : Nat} {r : Option FieldType} {hh : List (Nat × Nat × Nat × Nat)} (h1 : Cond.methodLink own idx y ∈ lw_all) (h2 : Cond.instanceMethod y ∈ lw_all) (h3 : Cond.selects C y y ∈ lw_all) (h4 : Cond.initialized C ∈ lw_all) (h5 : Cond.codeWith y b L r hh ∈ lw_all) : GoodIn lw_all (wsV own idx C y (wsW_ y b L r hh)) := by
  refine lw_app ?_ (lw_methW h5)
  intro w hw
  simp only [List.mem_cons, List.not_mem_nil, or_false] at hw
  rcases hw with e | e | e | e
  · rw [e]; exact h1
  · rw [e]; exact h2
  · rw [e]; exact h3
  · rw [e]; exact h4
theorem lw_SW {own : String} {idx : Nat} {y : MethodName} {b : ByteArray} {L : Nat} {r : Option FieldType} {hh : List (Nat × Nat × Nat × Nat)} (h1 : Cond.methodLink own idx y ∈ lw_all) (h2 : Cond.static y ∈ lw_all) (h3 : Cond.initialized y.cls ∈ lw_all) (h4 : Cond.codeWith y b L r hh ∈ lw_all) : GoodIn lw_all (va_wsS own idx y (wsW_ y b L r hh)) := by
  refine lw_app ?_ (lw_methW h4)
  intro w hw
  simp only [List.mem_cons, List.not_mem_nil, or_false] at hw
  rcases hw with e | e | e
  · rw [e]; exact h1
  · rw [e]; exact h2
  · rw [e]; exact h3
/-- a word by its place in its run of the tables -/
theorem lw_at {r : List Cond} (hr : ∀ w ∈ r, w ∈ lw_tbl) {w : Cond} (i : Nat) (h : r[i]? = some w) : w ∈ lw_tbl := hr w (List.mem_of_getElem? h)
theorem lw_g {w : Cond} (h : w ∈ lw_tbl) (g : goodWord w = true) : w ∈ lw_all := List.mem_filter.mpr ⟨h, g⟩
theorem lw_ms : ∀ w ∈ k2_sels lw_privs, w ∈ lw_tbl := fun w h => show w ∈ k2_sels lw_privs ++ tables_1 from List.mem_append_left _ h
theorem lw_m1 : ∀ w ∈ tables_1_1, w ∈ lw_tbl := fun w h => show w ∈ k2_sels lw_privs ++ tables_1 from List.mem_append_right (k2_sels lw_privs) (show w ∈ tables_1 from List.mem_append_left _ h)
theorem lw_m2 : ∀ w ∈ tables_1_2, w ∈ lw_tbl := fun w h => show w ∈ k2_sels lw_privs ++ tables_1 from List.mem_append_right (k2_sels lw_privs) (show w ∈ tables_1 from List.mem_append_right _ (List.mem_append_left _ h))
theorem lw_m3 : ∀ w ∈ tables_1_3, w ∈ lw_tbl := fun w h => show w ∈ k2_sels lw_privs ++ tables_1 from List.mem_append_right (k2_sels lw_privs) (show w ∈ tables_1 from List.mem_append_right _ (List.mem_append_right _ (List.mem_append_left _ h)))
theorem lw_m4 : ∀ w ∈ tables_1_4, w ∈ lw_tbl := fun w h => show w ∈ k2_sels lw_privs ++ tables_1 from List.mem_append_right (k2_sels lw_privs) (show w ∈ tables_1 from List.mem_append_right _ (List.mem_append_right _ (List.mem_append_right _ (List.mem_append_left _ h))))
theorem lw_m5 : ∀ w ∈ tables_1_5, w ∈ lw_tbl := fun w h => show w ∈ k2_sels lw_privs ++ tables_1 from List.mem_append_right (k2_sels lw_privs) (show w ∈ tables_1 from List.mem_append_right _ (List.mem_append_right _ (List.mem_append_right _ (List.mem_append_right _ (List.mem_append_left _ h)))))
theorem lw_m6 : ∀ w ∈ tables_1_6, w ∈ lw_tbl := fun w h => show w ∈ k2_sels lw_privs ++ tables_1 from List.mem_append_right (k2_sels lw_privs) (show w ∈ tables_1 from List.mem_append_right _ (List.mem_append_right _ (List.mem_append_right _ (List.mem_append_right _ (List.mem_append_right _ (List.mem_append_left _ h))))))
theorem lw_m7 : ∀ w ∈ tables_1_7, w ∈ lw_tbl := fun w h => show w ∈ k2_sels lw_privs ++ tables_1 from List.mem_append_right (k2_sels lw_privs) (show w ∈ tables_1 from List.mem_append_right _ (List.mem_append_right _ (List.mem_append_right _ (List.mem_append_right _ (List.mem_append_right _ (List.mem_append_right _ h))))))
theorem qs0 : (Cond.selects "FewKeys$Reader" ⟨"FewKeys$Reader", "here", "()I"⟩ ⟨"FewKeys$Reader", "here", "()I"⟩) ∈ lw_all := lw_g (lw_at lw_ms 0 rfl) rfl
theorem qs1 : (Cond.selects "FewKeys$Reader" ⟨"FewKeys$Reader", "dial", "()V"⟩ ⟨"FewKeys$Reader", "dial", "()V"⟩) ∈ lw_all := lw_g (lw_at lw_ms 1 rfl) rfl
theorem qs2 : (Cond.selects "FewKeys$Reader" ⟨"FewKeys$Reader", "word", "()Ljava/lang/String;"⟩ ⟨"FewKeys$Reader", "word", "()Ljava/lang/String;"⟩) ∈ lw_all := lw_g (lw_at lw_ms 2 rfl) rfl
theorem qs3 : (Cond.selects "java/lang/Throwable" ⟨"java/lang/Throwable", "fillInStackTrace", "(I)Ljava/lang/Throwable;"⟩ ⟨"java/lang/Throwable", "fillInStackTrace", "(I)Ljava/lang/Throwable;"⟩) ∈ lw_all := lw_g (lw_at lw_ms 3 rfl) rfl
theorem qs4 : (Cond.selects "FewKeys$Reader" ⟨"FewKeys$Reader", "number", "(II)I"⟩ ⟨"FewKeys$Reader", "number", "(II)I"⟩) ∈ lw_all := lw_g (lw_at lw_ms 4 rfl) rfl
theorem qs5 : (Cond.selects "FewKeys$Reader" ⟨"FewKeys$Reader", "end", "()V"⟩ ⟨"FewKeys$Reader", "end", "()V"⟩) ∈ lw_all := lw_g (lw_at lw_ms 5 rfl) rfl
theorem qs6 : (Cond.selects "FewKeys$Reader" ⟨"FewKeys$Reader", "key", "(Ljava/lang/String;I)LFewKeys$Key;"⟩ ⟨"FewKeys$Reader", "key", "(Ljava/lang/String;I)LFewKeys$Key;"⟩) ∈ lw_all := lw_g (lw_at lw_ms 6 rfl) rfl
theorem qs7 : (Cond.selects "FewKeys$Reader" ⟨"FewKeys$Reader", "figure", "()I"⟩ ⟨"FewKeys$Reader", "figure", "()I"⟩) ∈ lw_all := lw_g (lw_at lw_ms 7 rfl) rfl
theorem qs8 : (Cond.selects "FewKeys$Reader" ⟨"FewKeys$Reader", "cost", "()I"⟩ ⟨"FewKeys$Reader", "cost", "()I"⟩) ∈ lw_all := lw_g (lw_at lw_ms 8 rfl) rfl
theorem qs9 : (Cond.selects "FewKeys$Reader" ⟨"FewKeys$Reader", "now", "()LFewKeys$Key;"⟩ ⟨"FewKeys$Reader", "now", "()LFewKeys$Key;"⟩) ∈ lw_all := lw_g (lw_at lw_ms 9 rfl) rfl
theorem qs10 : (Cond.selects "FewKeys$Reader" ⟨"FewKeys$Reader", "sign", "(Ljava/lang/String;I)I"⟩ ⟨"FewKeys$Reader", "sign", "(Ljava/lang/String;I)I"⟩) ∈ lw_all := lw_g (lw_at lw_ms 10 rfl) rfl
theorem qs11 : (Cond.selects "FewKeys$Reader" ⟨"FewKeys$Reader", "stuck", "()LFewKeys$Key;"⟩ ⟨"FewKeys$Reader", "stuck", "()LFewKeys$Key;"⟩) ∈ lw_all := lw_g (lw_at lw_ms 11 rfl) rfl
theorem qs12 : (Cond.selects "FewKeys" ⟨"FewKeys", "many", "()I"⟩ ⟨"FewKeys", "many", "()I"⟩) ∈ lw_all := lw_g (lw_at lw_ms 12 rfl) rfl
theorem qs13 : (Cond.selects "FewKeys" ⟨"FewKeys", "isNone", "()Z"⟩ ⟨"FewKeys", "isNone", "()Z"⟩) ∈ lw_all := lw_g (lw_at lw_ms 13 rfl) rfl
theorem qs14 : (Cond.selects "FewKeys" ⟨"FewKeys", "shown", "(I)I"⟩ ⟨"FewKeys", "shown", "(I)I"⟩) ∈ lw_all := lw_g (lw_at lw_ms 14 rfl) rfl
theorem qs15 : (Cond.selects "FewKeys" ⟨"FewKeys", "isKey", "(I)Z"⟩ ⟨"FewKeys", "isKey", "(I)Z"⟩) ∈ lw_all := lw_g (lw_at lw_ms 15 rfl) rfl
theorem qs16 : (Cond.selects "FewKeys" ⟨"FewKeys", "strikeNow", "(I)V"⟩ ⟨"FewKeys", "strikeNow", "(I)V"⟩) ∈ lw_all := lw_g (lw_at lw_ms 16 rfl) rfl
theorem qs17 : (Cond.selects "FewKeys" ⟨"FewKeys", "isNumber", "(I)Z"⟩ ⟨"FewKeys", "isNumber", "(I)Z"⟩) ∈ lw_all := lw_g (lw_at lw_ms 17 rfl) rfl
theorem qs18 : (Cond.selects "FewKeys" ⟨"FewKeys", "spread", "(II)V"⟩ ⟨"FewKeys", "spread", "(II)V"⟩) ∈ lw_all := lw_g (lw_at lw_ms 18 rfl) rfl
theorem qs19 : (Cond.selects "FewKeys" ⟨"FewKeys", "fewestTo", "(I)I"⟩ ⟨"FewKeys", "fewestTo", "(I)I"⟩) ∈ lw_all := lw_g (lw_at lw_ms 19 rfl) rfl
theorem qs20 : (Cond.selects "FewKeys" ⟨"FewKeys", "spreadCosts", "()V"⟩ ⟨"FewKeys", "spreadCosts", "()V"⟩) ∈ lw_all := lw_g (lw_at lw_ms 20 rfl) rfl
theorem qs21 : (Cond.selects "FewKeys" ⟨"FewKeys", "candidate", "(I)LFewKeys$Key;"⟩ ⟨"FewKeys", "candidate", "(I)LFewKeys$Key;"⟩) ∈ lw_all := lw_g (lw_at lw_ms 21 rfl) rfl
theorem qs22 : (Cond.selects "FewKeys" ⟨"FewKeys", "sumWith", "(I)I"⟩ ⟨"FewKeys", "sumWith", "(I)I"⟩) ∈ lw_all := lw_g (lw_at lw_ms 22 rfl) rfl
theorem qs23 : (Cond.selects "FewKeys" ⟨"FewKeys", "goOn", "()V"⟩ ⟨"FewKeys", "goOn", "()V"⟩) ∈ lw_all := lw_g (lw_at lw_ms 23 rfl) rfl
theorem qs24 : (Cond.selects "FewKeys" ⟨"FewKeys", "rowsTo", "(III)I"⟩ ⟨"FewKeys", "rowsTo", "(III)I"⟩) ∈ lw_all := lw_g (lw_at lw_ms 24 rfl) rfl
theorem qs25 : (Cond.selects "FewKeys" ⟨"FewKeys", "parts", "(III)Z"⟩ ⟨"FewKeys", "parts", "(III)Z"⟩) ∈ lw_all := lw_g (lw_at lw_ms 25 rfl) rfl
theorem qs26 : (Cond.selects "FewKeys" ⟨"FewKeys", "worth", "(III)I"⟩ ⟨"FewKeys", "worth", "(III)I"⟩) ∈ lw_all := lw_g (lw_at lw_ms 26 rfl) rfl
theorem qs27 : (Cond.selects "FewKeysModel" ⟨"FewKeysModel", "isRead", "()Z"⟩ ⟨"FewKeysModel", "isRead", "()Z"⟩) ∈ lw_all := lw_g (lw_at lw_ms 27 rfl) rfl
theorem qs28 : (Cond.selects "FewKeysModel" ⟨"FewKeysModel", "nextToken", "()V"⟩ ⟨"FewKeysModel", "nextToken", "()V"⟩) ∈ lw_all := lw_g (lw_at lw_ms 28 rfl) rfl
theorem qs29 : (Cond.selects "FewKeysModel" ⟨"FewKeysModel", "fails", "(I)Z"⟩ ⟨"FewKeysModel", "fails", "(I)Z"⟩) ∈ lw_all := lw_g (lw_at lw_ms 29 rfl) rfl
theorem qs30 : (Cond.selects "FewKeysModel" ⟨"FewKeysModel", "isDial", "()Z"⟩ ⟨"FewKeysModel", "isDial", "()Z"⟩) ∈ lw_all := lw_g (lw_at lw_ms 30 rfl) rfl
theorem qs31 : (Cond.selects "FewKeysModel" ⟨"FewKeysModel", "isNext", "(III)Z"⟩ ⟨"FewKeysModel", "isNext", "(III)Z"⟩) ∈ lw_all := lw_g (lw_at lw_ms 31 rfl) rfl
theorem qs32 : (Cond.selects "FewKeysModel" ⟨"FewKeysModel", "ends", "()Z"⟩ ⟨"FewKeysModel", "ends", "()Z"⟩) ∈ lw_all := lw_g (lw_at lw_ms 32 rfl) rfl
theorem qs33 : (Cond.selects "FewKeysModel" ⟨"FewKeysModel", "isKey", "()Z"⟩ ⟨"FewKeysModel", "isKey", "()Z"⟩) ∈ lw_all := lw_g (lw_at lw_ms 33 rfl) rfl
theorem qs34 : (Cond.selects "FewKeysModel" ⟨"FewKeysModel", "isNow", "(I)Z"⟩ ⟨"FewKeysModel", "isNow", "(I)Z"⟩) ∈ lw_all := lw_g (lw_at lw_ms 34 rfl) rfl
theorem qs35 : (Cond.selects "FewKeysModel" ⟨"FewKeysModel", "isCost", "(I)Z"⟩ ⟨"FewKeysModel", "isCost", "(I)Z"⟩) ∈ lw_all := lw_g (lw_at lw_ms 35 rfl) rfl
theorem qs36 : (Cond.selects "FewKeysModel" ⟨"FewKeysModel", "start", "()V"⟩ ⟨"FewKeysModel", "start", "()V"⟩) ∈ lw_all := lw_g (lw_at lw_ms 36 rfl) rfl
theorem qs37 : (Cond.selects "FewKeysModel" ⟨"FewKeysModel", "doStroke", "(I)V"⟩ ⟨"FewKeysModel", "doStroke", "(I)V"⟩) ∈ lw_all := lw_g (lw_at lw_ms 37 rfl) rfl
theorem qs38 : (Cond.selects "FewKeysModel" ⟨"FewKeysModel", "figure", "(I)V"⟩ ⟨"FewKeysModel", "figure", "(I)V"⟩) ∈ lw_all := lw_g (lw_at lw_ms 38 rfl) rfl
theorem qs39 : (Cond.selects "FewKeysModel" ⟨"FewKeysModel", "reckon", "(III)I"⟩ ⟨"FewKeysModel", "reckon", "(III)I"⟩) ∈ lw_all := lw_g (lw_at lw_ms 39 rfl) rfl
theorem qs40 : (Cond.selects "FewKeysModel" ⟨"FewKeysModel", "bound", "(I)I"⟩ ⟨"FewKeysModel", "bound", "(I)I"⟩) ∈ lw_all := lw_g (lw_at lw_ms 40 rfl) rfl
theorem qs41 : (Cond.selects "FewKeysModel" ⟨"FewKeysModel", "isNumber", "(I)Z"⟩ ⟨"FewKeysModel", "isNumber", "(I)Z"⟩) ∈ lw_all := lw_g (lw_at lw_ms 41 rfl) rfl
theorem qs42 : (Cond.selects "FewKeysModel" ⟨"FewKeysModel", "layFewest", "(I)V"⟩ ⟨"FewKeysModel", "layFewest", "(I)V"⟩) ∈ lw_all := lw_g (lw_at lw_ms 42 rfl) rfl
theorem qs43 : (Cond.selects "FewKeysModel" ⟨"FewKeysModel", "stateNow", "()I"⟩ ⟨"FewKeysModel", "stateNow", "()I"⟩) ∈ lw_all := lw_g (lw_at lw_ms 43 rfl) rfl
theorem qs44 : (Cond.selects "FewKeysModel" ⟨"FewKeysModel", "states", "()I"⟩ ⟨"FewKeysModel", "states", "()I"⟩) ∈ lw_all := lw_g (lw_at lw_ms 44 rfl) rfl
theorem qs45 : (Cond.selects "FewKeysModel" ⟨"FewKeysModel", "shownIn", "(I)I"⟩ ⟨"FewKeysModel", "shownIn", "(I)I"⟩) ∈ lw_all := lw_g (lw_at lw_ms 45 rfl) rfl
theorem qs46 : (Cond.selects "FewKeysModel" ⟨"FewKeysModel", "behind", "(II)I"⟩ ⟨"FewKeysModel", "behind", "(II)I"⟩) ∈ lw_all := lw_g (lw_at lw_ms 46 rfl) rfl
theorem qs47 : (Cond.selects "FewKeysModel" ⟨"FewKeysModel", "setState", "(I)V"⟩ ⟨"FewKeysModel", "setState", "(I)V"⟩) ∈ lw_all := lw_g (lw_at lw_ms 47 rfl) rfl
theorem qs48 : (Cond.selects "FewKeysModel" ⟨"FewKeysModel", "leastOf", "(I)I"⟩ ⟨"FewKeysModel", "leastOf", "(I)I"⟩) ∈ lw_all := lw_g (lw_at lw_ms 48 rfl) rfl
theorem qs49 : (Cond.selects "FewKeysModel" ⟨"FewKeysModel", "putIn", "(I)V"⟩ ⟨"FewKeysModel", "putIn", "(I)V"⟩) ∈ lw_all := lw_g (lw_at lw_ms 49 rfl) rfl
theorem qs50 : (Cond.selects "FewKeysModel" ⟨"FewKeysModel", "takeOut", "(I)V"⟩ ⟨"FewKeysModel", "takeOut", "(I)V"⟩) ∈ lw_all := lw_g (lw_at lw_ms 50 rfl) rfl
theorem qs51 : (Cond.selects "FewKeysModel" ⟨"FewKeysModel", "allFewest", "(I)I"⟩ ⟨"FewKeysModel", "allFewest", "(I)I"⟩) ∈ lw_all := lw_g (lw_at lw_ms 51 rfl) rfl
theorem qs52 : (Cond.selects "FewKeysModel" ⟨"FewKeysModel", "listOf", "()I"⟩ ⟨"FewKeysModel", "listOf", "()I"⟩) ∈ lw_all := lw_g (lw_at lw_ms 52 rfl) rfl
theorem qs53 : (Cond.selects "FewKeysModel" ⟨"FewKeysModel", "goOn", "(II)I"⟩ ⟨"FewKeysModel", "goOn", "(II)I"⟩) ∈ lw_all := lw_g (lw_at lw_ms 53 rfl) rfl
theorem qs54 : (Cond.selects "FewKeysModel" ⟨"FewKeysModel", "insert", "(III)V"⟩ ⟨"FewKeysModel", "insert", "(III)V"⟩) ∈ lw_all := lw_g (lw_at lw_ms 54 rfl) rfl
theorem qs55 : (Cond.selects "FewKeysModel" ⟨"FewKeysModel", "rowsTo", "(III)I"⟩ ⟨"FewKeysModel", "rowsTo", "(III)I"⟩) ∈ lw_all := lw_g (lw_at lw_ms 55 rfl) rfl
theorem qs56 : (Cond.selects "FewKeysModel" ⟨"FewKeysModel", "tells", "(IIII)Z"⟩ ⟨"FewKeysModel", "tells", "(IIII)Z"⟩) ∈ lw_all := lw_g (lw_at lw_ms 56 rfl) rfl
theorem qs57 : (Cond.selects "FewKeysModel" ⟨"FewKeysModel", "shownBy", "(III)J"⟩ ⟨"FewKeysModel", "shownBy", "(III)J"⟩) ∈ lw_all := lw_g (lw_at lw_ms 57 rfl) rfl
theorem qs58 : (Cond.selects "FewKeysModel" ⟨"FewKeysModel", "layGame", "(II)V"⟩ ⟨"FewKeysModel", "layGame", "(II)V"⟩) ∈ lw_all := lw_g (lw_at lw_ms 58 rfl) rfl
theorem qs59 : (Cond.selects "FewKeysModel" ⟨"FewKeysModel", "worth", "(II)I"⟩ ⟨"FewKeysModel", "worth", "(II)I"⟩) ∈ lw_all := lw_g (lw_at lw_ms 59 rfl) rfl
