-- ===== PART A: goes FIRST, ahead of the names: the tables' words, and 'selects' of the private methods out of them =====
/-- a private method of a class that the tables say can be made, by its rows of tables_1 -/
def lw_okq (q : MethodName × Nat) : Prop := (q.1.cls ≠ "java/lang/invoke/MethodHandle" ∧ q.1.cls ≠ "java/lang/invoke/VarHandle") ∧ Cond.instantiable q.1.cls q.2 ∈ tables_1 ∧ Cond.privateMethod q.1 ∈ tables_1 ∧ Cond.instanceMethod q.1 ∈ tables_1
set_option maxRecDepth 100000
theorem lw_t1 {w : Cond} (h : w ∈ tables_1_1) : w ∈ tables_1 := List.mem_append_left _ h
theorem lw_t2 {w : Cond} (h : w ∈ tables_1_2) : w ∈ tables_1 := List.mem_append_right _ (List.mem_append_left _ h)
theorem lw_t3 {w : Cond} (h : w ∈ tables_1_3) : w ∈ tables_1 := List.mem_append_right _ (List.mem_append_right _ (List.mem_append_left _ h))
theorem lw_t4 {w : Cond} (h : w ∈ tables_1_4) : w ∈ tables_1 := List.mem_append_right _ (List.mem_append_right _ (List.mem_append_right _ (List.mem_append_left _ h)))
theorem lw_t5 {w : Cond} (h : w ∈ tables_1_5) : w ∈ tables_1 := List.mem_append_right _ (List.mem_append_right _ (List.mem_append_right _ (List.mem_append_right _ (List.mem_append_left _ h))))
theorem lw_t6 {w : Cond} (h : w ∈ tables_1_6) : w ∈ tables_1 := List.mem_append_right _ (List.mem_append_right _ (List.mem_append_right _ (List.mem_append_right _ (List.mem_append_right _ (List.mem_append_left _ h)))))
theorem lw_t7 {w : Cond} (h : w ∈ tables_1_7) : w ∈ tables_1 := List.mem_append_right _ (List.mem_append_right _ (List.mem_append_right _ (List.mem_append_right _ (List.mem_append_right _ (List.mem_append_right _ (List.mem_append_left _ h))))))
theorem lw_t8 {w : Cond} (h : w ∈ tables_1_8) : w ∈ tables_1 := List.mem_append_right _ (List.mem_append_right _ (List.mem_append_right _ (List.mem_append_right _ (List.mem_append_right _ (List.mem_append_right _ (List.mem_append_right _ (List.mem_append_left _ h)))))))
theorem lw_t9 {w : Cond} (h : w ∈ tables_1_9) : w ∈ tables_1 := List.mem_append_right _ (List.mem_append_right _ (List.mem_append_right _ (List.mem_append_right _ (List.mem_append_right _ (List.mem_append_right _ (List.mem_append_right _ (List.mem_append_right _ (List.mem_append_left _ h))))))))
theorem lw_t10 {w : Cond} (h : w ∈ tables_1_10) : w ∈ tables_1 := List.mem_append_right _ (List.mem_append_right _ (List.mem_append_right _ (List.mem_append_right _ (List.mem_append_right _ (List.mem_append_right _ (List.mem_append_right _ (List.mem_append_right _ (List.mem_append_right _ h))))))))
theorem lw_p0 : lw_okq (⟨"java/lang/NullPointerException", "getExtendedNPEMessage", "()Ljava/lang/String;"⟩, 8) := ⟨⟨by decide +kernel, by decide +kernel⟩, lw_t1 (List.mem_of_getElem? (i := 84) rfl), lw_t1 (List.mem_of_getElem? (i := 82) rfl), lw_t1 (List.mem_of_getElem? (i := 83) rfl)⟩
theorem lw_p1 : lw_okq (⟨"java/lang/Throwable", "fillInStackTrace", "(I)Ljava/lang/Throwable;"⟩, 6) := ⟨⟨by decide +kernel, by decide +kernel⟩, lw_t1 (List.mem_of_getElem? (i := 96) rfl), lw_t1 (List.mem_of_getElem? (i := 94) rfl), lw_t1 (List.mem_of_getElem? (i := 95) rfl)⟩
theorem lw_p2 : lw_okq (⟨"QuotedRiver$Slot", "put", "(IJ)V"⟩, 1) := ⟨⟨by decide +kernel, by decide +kernel⟩, lw_t1 (List.mem_of_getElem? (i := 197) rfl), lw_t1 (List.mem_of_getElem? (i := 195) rfl), lw_t1 (List.mem_of_getElem? (i := 196) rfl)⟩
theorem lw_p3 : lw_okq (⟨"QuotedRiver$Slot", "putWider", "(IJ)V"⟩, 1) := ⟨⟨by decide +kernel, by decide +kernel⟩, lw_t1 (List.mem_of_getElem? (i := 197) rfl), lw_t1 (List.mem_of_getElem? (i := 202) rfl), lw_t1 (List.mem_of_getElem? (i := 203) rfl)⟩
theorem lw_p4 : lw_okq (⟨"QuotedRiver$Slot", "width", "()I"⟩, 1) := ⟨⟨by decide +kernel, by decide +kernel⟩, lw_t1 (List.mem_of_getElem? (i := 197) rfl), lw_t1 (List.mem_of_getElem? (i := 231) rfl), lw_t1 (List.mem_of_getElem? (i := 232) rfl)⟩
theorem lw_p5 : lw_okq (⟨"QuotedRiver$Reader", "next", "()V"⟩, 7) := ⟨⟨by decide +kernel, by decide +kernel⟩, lw_t3 (List.mem_of_getElem? (i := 44) rfl), lw_t3 (List.mem_of_getElem? (i := 52) rfl), lw_t3 (List.mem_of_getElem? (i := 53) rfl)⟩
theorem lw_p6 : lw_okq (⟨"QuotedRiver$Reader", "isAt", "(II)Z"⟩, 7) := ⟨⟨by decide +kernel, by decide +kernel⟩, lw_t3 (List.mem_of_getElem? (i := 44) rfl), lw_t3 (List.mem_of_getElem? (i := 56) rfl), lw_t3 (List.mem_of_getElem? (i := 57) rfl)⟩
theorem lw_p7 : lw_okq (⟨"QuotedRiver$Reader", "riversLine", "()V"⟩, 7) := ⟨⟨by decide +kernel, by decide +kernel⟩, lw_t3 (List.mem_of_getElem? (i := 44) rfl), lw_t3 (List.mem_of_getElem? (i := 91) rfl), lw_t3 (List.mem_of_getElem? (i := 92) rfl)⟩
theorem lw_p8 : lw_okq (⟨"QuotedRiver$Reader", "asks", "(Ljava/lang/String;)V"⟩, 7) := ⟨⟨by decide +kernel, by decide +kernel⟩, lw_t3 (List.mem_of_getElem? (i := 44) rfl), lw_t3 (List.mem_of_getElem? (i := 96) rfl), lw_t3 (List.mem_of_getElem? (i := 97) rfl)⟩
theorem lw_p9 : lw_okq (⟨"QuotedRiver$Reader", "takes", "(Ljava/lang/String;)Z"⟩, 7) := ⟨⟨by decide +kernel, by decide +kernel⟩, lw_t3 (List.mem_of_getElem? (i := 44) rfl), lw_t3 (List.mem_of_getElem? (i := 100) rfl), lw_t3 (List.mem_of_getElem? (i := 101) rfl)⟩
theorem lw_p10 : lw_okq (⟨"QuotedRiver$Reader", "is", "(Ljava/lang/String;)Z"⟩, 7) := ⟨⟨by decide +kernel, by decide +kernel⟩, lw_t3 (List.mem_of_getElem? (i := 44) rfl), lw_t3 (List.mem_of_getElem? (i := 104) rfl), lw_t3 (List.mem_of_getElem? (i := 105) rfl)⟩
theorem lw_p11 : lw_okq (⟨"QuotedRiver$Reader", "fault", "(I)LQuotedRiver$Fault;"⟩, 7) := ⟨⟨by decide +kernel, by decide +kernel⟩, lw_t3 (List.mem_of_getElem? (i := 44) rfl), lw_t3 (List.mem_of_getElem? (i := 156) rfl), lw_t3 (List.mem_of_getElem? (i := 157) rfl)⟩
theorem lw_p12 : lw_okq (⟨"QuotedRiver$Reader", "number", "(Ljava/lang/String;II)I"⟩, 7) := ⟨⟨by decide +kernel, by decide +kernel⟩, lw_t3 (List.mem_of_getElem? (i := 44) rfl), lw_t3 (List.mem_of_getElem? (i := 192) rfl), lw_t3 (List.mem_of_getElem? (i := 193) rfl)⟩
theorem lw_p13 : lw_okq (⟨"QuotedRiver$Reader", "number", "(II)I"⟩, 7) := ⟨⟨by decide +kernel, by decide +kernel⟩, lw_t3 (List.mem_of_getElem? (i := 44) rfl), lw_t3 (List.mem_of_getElem? (i := 196) rfl), lw_t3 (List.mem_of_getElem? (i := 197) rfl)⟩
theorem lw_p14 : lw_okq (⟨"QuotedRiver$Reader", "told", "()V"⟩, 7) := ⟨⟨by decide +kernel, by decide +kernel⟩, lw_t3 (List.mem_of_getElem? (i := 44) rfl), lw_t3 (List.mem_of_getElem? (i := 202) rfl), lw_t3 (List.mem_of_getElem? (i := 203) rfl)⟩
theorem lw_p15 : lw_okq (⟨"QuotedRiver$Reader", "line", "(Ljava/lang/String;Ljava/util/List;I)Z"⟩, 7) := ⟨⟨by decide +kernel, by decide +kernel⟩, lw_t3 (List.mem_of_getElem? (i := 44) rfl), lw_t3 (List.mem_of_getElem? (i := 207) rfl), lw_t3 (List.mem_of_getElem? (i := 208) rfl)⟩
def lw_privs_1 : List (MethodName × Nat) := [(⟨"java/lang/NullPointerException", "getExtendedNPEMessage", "()Ljava/lang/String;"⟩, 8), (⟨"java/lang/Throwable", "fillInStackTrace", "(I)Ljava/lang/Throwable;"⟩, 6), (⟨"QuotedRiver$Slot", "put", "(IJ)V"⟩, 1), (⟨"QuotedRiver$Slot", "putWider", "(IJ)V"⟩, 1), (⟨"QuotedRiver$Slot", "width", "()I"⟩, 1), (⟨"QuotedRiver$Reader", "next", "()V"⟩, 7), (⟨"QuotedRiver$Reader", "isAt", "(II)Z"⟩, 7), (⟨"QuotedRiver$Reader", "riversLine", "()V"⟩, 7), (⟨"QuotedRiver$Reader", "asks", "(Ljava/lang/String;)V"⟩, 7), (⟨"QuotedRiver$Reader", "takes", "(Ljava/lang/String;)Z"⟩, 7), (⟨"QuotedRiver$Reader", "is", "(Ljava/lang/String;)Z"⟩, 7), (⟨"QuotedRiver$Reader", "fault", "(I)LQuotedRiver$Fault;"⟩, 7), (⟨"QuotedRiver$Reader", "number", "(Ljava/lang/String;II)I"⟩, 7), (⟨"QuotedRiver$Reader", "number", "(II)I"⟩, 7), (⟨"QuotedRiver$Reader", "told", "()V"⟩, 7), (⟨"QuotedRiver$Reader", "line", "(Ljava/lang/String;Ljava/util/List;I)Z"⟩, 7)]
theorem lw_r1 : ∀ q ∈ lw_privs_1, lw_okq q := List.forall_mem_cons.mpr ⟨lw_p0, List.forall_mem_cons.mpr ⟨lw_p1, List.forall_mem_cons.mpr ⟨lw_p2, List.forall_mem_cons.mpr ⟨lw_p3, List.forall_mem_cons.mpr ⟨lw_p4, List.forall_mem_cons.mpr ⟨lw_p5, List.forall_mem_cons.mpr ⟨lw_p6, List.forall_mem_cons.mpr ⟨lw_p7, List.forall_mem_cons.mpr ⟨lw_p8, List.forall_mem_cons.mpr ⟨lw_p9, List.forall_mem_cons.mpr ⟨lw_p10, List.forall_mem_cons.mpr ⟨lw_p11, List.forall_mem_cons.mpr ⟨lw_p12, List.forall_mem_cons.mpr ⟨lw_p13, List.forall_mem_cons.mpr ⟨lw_p14, List.forall_mem_cons.mpr ⟨lw_p15, fun _ h => absurd h List.not_mem_nil⟩⟩⟩⟩⟩⟩⟩⟩⟩⟩⟩⟩⟩⟩⟩⟩
theorem lw_p16 : lw_okq (⟨"QuotedRiver$Reader", "reachLine", "()V"⟩, 7) := ⟨⟨by decide +kernel, by decide +kernel⟩, lw_t3 (List.mem_of_getElem? (i := 44) rfl), lw_t3 (List.mem_of_getElem? (i := 221) rfl), lw_t3 (List.mem_of_getElem? (i := 222) rfl)⟩
theorem lw_p17 : lw_okq (⟨"java/util/ArrayList", "add", "(Ljava/lang/Object;[Ljava/lang/Object;I)V"⟩, 3) := ⟨⟨by decide +kernel, by decide +kernel⟩, lw_t2 (List.mem_of_getElem? (i := 21) rfl), lw_t4 (List.mem_of_getElem? (i := 23) rfl), lw_t4 (List.mem_of_getElem? (i := 24) rfl)⟩
theorem lw_p18 : lw_okq (⟨"java/util/ArrayList", "grow", "()[Ljava/lang/Object;"⟩, 3) := ⟨⟨by decide +kernel, by decide +kernel⟩, lw_t2 (List.mem_of_getElem? (i := 21) rfl), lw_t4 (List.mem_of_getElem? (i := 27) rfl), lw_t4 (List.mem_of_getElem? (i := 28) rfl)⟩
theorem lw_p19 : lw_okq (⟨"java/util/ArrayList", "grow", "(I)[Ljava/lang/Object;"⟩, 3) := ⟨⟨by decide +kernel, by decide +kernel⟩, lw_t2 (List.mem_of_getElem? (i := 21) rfl), lw_t4 (List.mem_of_getElem? (i := 31) rfl), lw_t4 (List.mem_of_getElem? (i := 32) rfl)⟩
theorem lw_p20 : lw_okq (⟨"QuotedRiver$Reader", "joinLine", "()V"⟩, 7) := ⟨⟨by decide +kernel, by decide +kernel⟩, lw_t3 (List.mem_of_getElem? (i := 44) rfl), lw_t4 (List.mem_of_getElem? (i := 80) rfl), lw_t4 (List.mem_of_getElem? (i := 81) rfl)⟩
theorem lw_p21 : lw_okq (⟨"QuotedRiver$Reader", "reach", "()I"⟩, 7) := ⟨⟨by decide +kernel, by decide +kernel⟩, lw_t3 (List.mem_of_getElem? (i := 44) rfl), lw_t4 (List.mem_of_getElem? (i := 111) rfl), lw_t4 (List.mem_of_getElem? (i := 112) rfl)⟩
theorem lw_p22 : lw_okq (⟨"QuotedRiver", "isReach", "(J)Z"⟩, 15) := ⟨⟨by decide +kernel, by decide +kernel⟩, lw_t1 (List.mem_of_getElem? (i := 238) rfl), lw_t4 (List.mem_of_getElem? (i := 198) rfl), lw_t4 (List.mem_of_getElem? (i := 199) rfl)⟩
theorem lw_p23 : lw_okq (⟨"QuotedRiver", "reaches", "()I"⟩, 15) := ⟨⟨by decide +kernel, by decide +kernel⟩, lw_t1 (List.mem_of_getElem? (i := 238) rfl), lw_t4 (List.mem_of_getElem? (i := 202) rfl), lw_t4 (List.mem_of_getElem? (i := 203) rfl)⟩
theorem lw_p24 : lw_okq (⟨"QuotedRiver", "one", "(I)LQuotedRiver$Reach;"⟩, 15) := ⟨⟨by decide +kernel, by decide +kernel⟩, lw_t1 (List.mem_of_getElem? (i := 238) rfl), lw_t4 (List.mem_of_getElem? (i := 209) rfl), lw_t4 (List.mem_of_getElem? (i := 210) rfl)⟩
theorem lw_p25 : lw_okq (⟨"QuotedRiver", "isJoin", "(I)Z"⟩, 15) := ⟨⟨by decide +kernel, by decide +kernel⟩, lw_t1 (List.mem_of_getElem? (i := 238) rfl), lw_t4 (List.mem_of_getElem? (i := 235) rfl), lw_t4 (List.mem_of_getElem? (i := 236) rfl)⟩
theorem lw_p26 : lw_okq (⟨"QuotedRiver", "joinOf", "(I)LQuotedRiver$Join;"⟩, 15) := ⟨⟨by decide +kernel, by decide +kernel⟩, lw_t1 (List.mem_of_getElem? (i := 238) rfl), lw_t4 (List.mem_of_getElem? (i := 239) rfl), lw_t5 (List.mem_of_getElem? (i := 0) rfl)⟩
theorem lw_p27 : lw_okq (⟨"QuotedRiver$Water", "pours", "(LQuotedRiver$Rain;)V"⟩, 9) := ⟨⟨by decide +kernel, by decide +kernel⟩, lw_t2 (List.mem_of_getElem? (i := 104) rfl), lw_t5 (List.mem_of_getElem? (i := 20) rfl), lw_t5 (List.mem_of_getElem? (i := 21) rfl)⟩
theorem lw_p28 : lw_okq (⟨"QuotedRiver", "areReaches", "(II)Z"⟩, 15) := ⟨⟨by decide +kernel, by decide +kernel⟩, lw_t1 (List.mem_of_getElem? (i := 238) rfl), lw_t5 (List.mem_of_getElem? (i := 39) rfl), lw_t5 (List.mem_of_getElem? (i := 40) rfl)⟩
theorem lw_p29 : lw_okq (⟨"QuotedRiver", "put", "(II)LQuotedRiver$Stick;"⟩, 15) := ⟨⟨by decide +kernel, by decide +kernel⟩, lw_t1 (List.mem_of_getElem? (i := 238) rfl), lw_t5 (List.mem_of_getElem? (i := 43) rfl), lw_t5 (List.mem_of_getElem? (i := 44) rfl)⟩
theorem lw_p30 : lw_okq (⟨"QuotedRiver$Stick", "isNew", "(I)Z"⟩, 9) := ⟨⟨by decide +kernel, by decide +kernel⟩, lw_t2 (List.mem_of_getElem? (i := 147) rfl), lw_t5 (List.mem_of_getElem? (i := 55) rfl), lw_t5 (List.mem_of_getElem? (i := 56) rfl)⟩
theorem lw_p31 : lw_okq (⟨"QuotedRiver", "isStep", "(J)Z"⟩, 15) := ⟨⟨by decide +kernel, by decide +kernel⟩, lw_t1 (List.mem_of_getElem? (i := 238) rfl), lw_t5 (List.mem_of_getElem? (i := 72) rfl), lw_t5 (List.mem_of_getElem? (i := 73) rfl)⟩
def lw_privs_2 : List (MethodName × Nat) := [(⟨"QuotedRiver$Reader", "reachLine", "()V"⟩, 7), (⟨"java/util/ArrayList", "add", "(Ljava/lang/Object;[Ljava/lang/Object;I)V"⟩, 3), (⟨"java/util/ArrayList", "grow", "()[Ljava/lang/Object;"⟩, 3), (⟨"java/util/ArrayList", "grow", "(I)[Ljava/lang/Object;"⟩, 3), (⟨"QuotedRiver$Reader", "joinLine", "()V"⟩, 7), (⟨"QuotedRiver$Reader", "reach", "()I"⟩, 7), (⟨"QuotedRiver", "isReach", "(J)Z"⟩, 15), (⟨"QuotedRiver", "reaches", "()I"⟩, 15), (⟨"QuotedRiver", "one", "(I)LQuotedRiver$Reach;"⟩, 15), (⟨"QuotedRiver", "isJoin", "(I)Z"⟩, 15), (⟨"QuotedRiver", "joinOf", "(I)LQuotedRiver$Join;"⟩, 15), (⟨"QuotedRiver$Water", "pours", "(LQuotedRiver$Rain;)V"⟩, 9), (⟨"QuotedRiver", "areReaches", "(II)Z"⟩, 15), (⟨"QuotedRiver", "put", "(II)LQuotedRiver$Stick;"⟩, 15), (⟨"QuotedRiver$Stick", "isNew", "(I)Z"⟩, 9), (⟨"QuotedRiver", "isStep", "(J)Z"⟩, 15)]
theorem lw_r2 : ∀ q ∈ lw_privs_2, lw_okq q := List.forall_mem_cons.mpr ⟨lw_p16, List.forall_mem_cons.mpr ⟨lw_p17, List.forall_mem_cons.mpr ⟨lw_p18, List.forall_mem_cons.mpr ⟨lw_p19, List.forall_mem_cons.mpr ⟨lw_p20, List.forall_mem_cons.mpr ⟨lw_p21, List.forall_mem_cons.mpr ⟨lw_p22, List.forall_mem_cons.mpr ⟨lw_p23, List.forall_mem_cons.mpr ⟨lw_p24, List.forall_mem_cons.mpr ⟨lw_p25, List.forall_mem_cons.mpr ⟨lw_p26, List.forall_mem_cons.mpr ⟨lw_p27, List.forall_mem_cons.mpr ⟨lw_p28, List.forall_mem_cons.mpr ⟨lw_p29, List.forall_mem_cons.mpr ⟨lw_p30, List.forall_mem_cons.mpr ⟨lw_p31, fun _ h => absurd h List.not_mem_nil⟩⟩⟩⟩⟩⟩⟩⟩⟩⟩⟩⟩⟩⟩⟩⟩
theorem lw_p32 : lw_okq (⟨"QuotedRiver", "isStick", "(II)Z"⟩, 15) := ⟨⟨by decide +kernel, by decide +kernel⟩, lw_t1 (List.mem_of_getElem? (i := 238) rfl), lw_t5 (List.mem_of_getElem? (i := 81) rfl), lw_t5 (List.mem_of_getElem? (i := 82) rfl)⟩
theorem lw_p33 : lw_okq (⟨"QuotedRiver", "depthOf", "(I)I"⟩, 15) := ⟨⟨by decide +kernel, by decide +kernel⟩, lw_t1 (List.mem_of_getElem? (i := 238) rfl), lw_t5 (List.mem_of_getElem? (i := 114) rfl), lw_t5 (List.mem_of_getElem? (i := 115) rfl)⟩
theorem lw_p34 : lw_okq (⟨"QuotedRiver", "laysLikely", "(I)V"⟩, 15) := ⟨⟨by decide +kernel, by decide +kernel⟩, lw_t1 (List.mem_of_getElem? (i := 238) rfl), lw_t5 (List.mem_of_getElem? (i := 179) rfl), lw_t5 (List.mem_of_getElem? (i := 180) rfl)⟩
theorem lw_p35 : lw_okq (⟨"QuotedRiver", "quickOf", "(II)I"⟩, 15) := ⟨⟨by decide +kernel, by decide +kernel⟩, lw_t1 (List.mem_of_getElem? (i := 238) rfl), lw_t6 (List.mem_of_getElem? (i := 29) rfl), lw_t6 (List.mem_of_getElem? (i := 30) rfl)⟩
theorem lw_p36 : lw_okq (⟨"QuotedRiver", "stopsOf", "(II)I"⟩, 15) := ⟨⟨by decide +kernel, by decide +kernel⟩, lw_t1 (List.mem_of_getElem? (i := 238) rfl), lw_t6 (List.mem_of_getElem? (i := 49) rfl), lw_t6 (List.mem_of_getElem? (i := 50) rfl)⟩
theorem lw_p37 : lw_okq (⟨"QuotedRiver", "isStopped", "(III)Z"⟩, 15) := ⟨⟨by decide +kernel, by decide +kernel⟩, lw_t1 (List.mem_of_getElem? (i := 238) rfl), lw_t6 (List.mem_of_getElem? (i := 53) rfl), lw_t6 (List.mem_of_getElem? (i := 54) rfl)⟩
theorem lw_p38 : lw_okq (⟨"QuotedRiver", "whyNot", "(I)I"⟩, 15) := ⟨⟨by decide +kernel, by decide +kernel⟩, lw_t1 (List.mem_of_getElem? (i := 238) rfl), lw_t6 (List.mem_of_getElem? (i := 77) rfl), lw_t6 (List.mem_of_getElem? (i := 78) rfl)⟩
theorem lw_p39 : lw_okq (⟨"QuotedRiver", "isSeen", "(LQuotedRiver$Slot;)Z"⟩, 15) := ⟨⟨by decide +kernel, by decide +kernel⟩, lw_t1 (List.mem_of_getElem? (i := 238) rfl), lw_t6 (List.mem_of_getElem? (i := 97) rfl), lw_t6 (List.mem_of_getElem? (i := 98) rfl)⟩
theorem lw_p40 : lw_okq (⟨"QuotedRiver$Seen", "adds", "(II)V"⟩, 7) := ⟨⟨by decide +kernel, by decide +kernel⟩, lw_t2 (List.mem_of_getElem? (i := 188) rfl), lw_t6 (List.mem_of_getElem? (i := 101) rfl), lw_t6 (List.mem_of_getElem? (i := 102) rfl)⟩
theorem lw_p41 : lw_okq (⟨"QuotedRiver$Seen", "asks", "()V"⟩, 7) := ⟨⟨by decide +kernel, by decide +kernel⟩, lw_t2 (List.mem_of_getElem? (i := 188) rfl), lw_t6 (List.mem_of_getElem? (i := 105) rfl), lw_t6 (List.mem_of_getElem? (i := 106) rfl)⟩
theorem lw_p42 : lw_okq (⟨"QuotedRiver", "whyNotTurn", "(III)I"⟩, 15) := ⟨⟨by decide +kernel, by decide +kernel⟩, lw_t1 (List.mem_of_getElem? (i := 238) rfl), lw_t6 (List.mem_of_getElem? (i := 130) rfl), lw_t6 (List.mem_of_getElem? (i := 131) rfl)⟩
theorem lw_p43 : lw_okq (⟨"QuotedRiver", "turnsOf", "(LQuotedRiver$Slot;II)I"⟩, 15) := ⟨⟨by decide +kernel, by decide +kernel⟩, lw_t1 (List.mem_of_getElem? (i := 238) rfl), lw_t6 (List.mem_of_getElem? (i := 134) rfl), lw_t6 (List.mem_of_getElem? (i := 135) rfl)⟩
theorem lw_p44 : lw_okq (⟨"QuotedRiver", "weightFrom", "(I)J"⟩, 15) := ⟨⟨by decide +kernel, by decide +kernel⟩, lw_t1 (List.mem_of_getElem? (i := 238) rfl), lw_t6 (List.mem_of_getElem? (i := 167) rfl), lw_t6 (List.mem_of_getElem? (i := 168) rfl)⟩
theorem lw_p45 : lw_okq (⟨"QuotedRiver", "acts", "(LQuotedRiver$Act;I)I"⟩, 15) := ⟨⟨by decide +kernel, by decide +kernel⟩, lw_t1 (List.mem_of_getElem? (i := 238) rfl), lw_t6 (List.mem_of_getElem? (i := 199) rfl), lw_t6 (List.mem_of_getElem? (i := 200) rfl)⟩
theorem lw_p46 : lw_okq (⟨"java/util/ArrayList", "fastRemove", "([Ljava/lang/Object;I)V"⟩, 3) := ⟨⟨by decide +kernel, by decide +kernel⟩, lw_t2 (List.mem_of_getElem? (i := 21) rfl), lw_t6 (List.mem_of_getElem? (i := 233) rfl), lw_t6 (List.mem_of_getElem? (i := 234) rfl)⟩
theorem lw_p47 : lw_okq (⟨"QuotedRiverModel", "advance", "()V"⟩, 42) := ⟨⟨by decide +kernel, by decide +kernel⟩, lw_t7 (List.mem_of_getElem? (i := 90) rfl), lw_t8 (List.mem_of_getElem? (i := 12) rfl), lw_t8 (List.mem_of_getElem? (i := 13) rfl)⟩
def lw_privs_3 : List (MethodName × Nat) := [(⟨"QuotedRiver", "isStick", "(II)Z"⟩, 15), (⟨"QuotedRiver", "depthOf", "(I)I"⟩, 15), (⟨"QuotedRiver", "laysLikely", "(I)V"⟩, 15), (⟨"QuotedRiver", "quickOf", "(II)I"⟩, 15), (⟨"QuotedRiver", "stopsOf", "(II)I"⟩, 15), (⟨"QuotedRiver", "isStopped", "(III)Z"⟩, 15), (⟨"QuotedRiver", "whyNot", "(I)I"⟩, 15), (⟨"QuotedRiver", "isSeen", "(LQuotedRiver$Slot;)Z"⟩, 15), (⟨"QuotedRiver$Seen", "adds", "(II)V"⟩, 7), (⟨"QuotedRiver$Seen", "asks", "()V"⟩, 7), (⟨"QuotedRiver", "whyNotTurn", "(III)I"⟩, 15), (⟨"QuotedRiver", "turnsOf", "(LQuotedRiver$Slot;II)I"⟩, 15), (⟨"QuotedRiver", "weightFrom", "(I)J"⟩, 15), (⟨"QuotedRiver", "acts", "(LQuotedRiver$Act;I)I"⟩, 15), (⟨"java/util/ArrayList", "fastRemove", "([Ljava/lang/Object;I)V"⟩, 3), (⟨"QuotedRiverModel", "advance", "()V"⟩, 42)]
theorem lw_r3 : ∀ q ∈ lw_privs_3, lw_okq q := List.forall_mem_cons.mpr ⟨lw_p32, List.forall_mem_cons.mpr ⟨lw_p33, List.forall_mem_cons.mpr ⟨lw_p34, List.forall_mem_cons.mpr ⟨lw_p35, List.forall_mem_cons.mpr ⟨lw_p36, List.forall_mem_cons.mpr ⟨lw_p37, List.forall_mem_cons.mpr ⟨lw_p38, List.forall_mem_cons.mpr ⟨lw_p39, List.forall_mem_cons.mpr ⟨lw_p40, List.forall_mem_cons.mpr ⟨lw_p41, List.forall_mem_cons.mpr ⟨lw_p42, List.forall_mem_cons.mpr ⟨lw_p43, List.forall_mem_cons.mpr ⟨lw_p44, List.forall_mem_cons.mpr ⟨lw_p45, List.forall_mem_cons.mpr ⟨lw_p46, List.forall_mem_cons.mpr ⟨lw_p47, fun _ h => absurd h List.not_mem_nil⟩⟩⟩⟩⟩⟩⟩⟩⟩⟩⟩⟩⟩⟩⟩⟩
theorem lw_p48 : lw_okq (⟨"QuotedRiverModel", "see", "(I)I"⟩, 42) := ⟨⟨by decide +kernel, by decide +kernel⟩, lw_t7 (List.mem_of_getElem? (i := 90) rfl), lw_t8 (List.mem_of_getElem? (i := 16) rfl), lw_t8 (List.mem_of_getElem? (i := 17) rfl)⟩
theorem lw_p49 : lw_okq (⟨"QuotedRiverModel", "good", "()Z"⟩, 42) := ⟨⟨by decide +kernel, by decide +kernel⟩, lw_t7 (List.mem_of_getElem? (i := 90) rfl), lw_t8 (List.mem_of_getElem? (i := 26) rfl), lw_t8 (List.mem_of_getElem? (i := 27) rfl)⟩
theorem lw_p50 : lw_okq (⟨"QuotedRiverModel", "readLine", "()V"⟩, 42) := ⟨⟨by decide +kernel, by decide +kernel⟩, lw_t7 (List.mem_of_getElem? (i := 90) rfl), lw_t8 (List.mem_of_getElem? (i := 30) rfl), lw_t8 (List.mem_of_getElem? (i := 31) rfl)⟩
theorem lw_p51 : lw_okq (⟨"QuotedRiverModel", "readFirst", "()V"⟩, 42) := ⟨⟨by decide +kernel, by decide +kernel⟩, lw_t7 (List.mem_of_getElem? (i := 90) rfl), lw_t8 (List.mem_of_getElem? (i := 34) rfl), lw_t8 (List.mem_of_getElem? (i := 35) rfl)⟩
theorem lw_p52 : lw_okq (⟨"QuotedRiverModel", "needs", "(Ljava/lang/String;)V"⟩, 42) := ⟨⟨by decide +kernel, by decide +kernel⟩, lw_t7 (List.mem_of_getElem? (i := 90) rfl), lw_t8 (List.mem_of_getElem? (i := 39) rfl), lw_t8 (List.mem_of_getElem? (i := 40) rfl)⟩
theorem lw_p53 : lw_okq (⟨"QuotedRiverModel", "takes", "(Ljava/lang/String;)Z"⟩, 42) := ⟨⟨by decide +kernel, by decide +kernel⟩, lw_t7 (List.mem_of_getElem? (i := 90) rfl), lw_t8 (List.mem_of_getElem? (i := 43) rfl), lw_t8 (List.mem_of_getElem? (i := 44) rfl)⟩
theorem lw_p54 : lw_okq (⟨"QuotedRiverModel", "is", "(Ljava/lang/String;)Z"⟩, 42) := ⟨⟨by decide +kernel, by decide +kernel⟩, lw_t7 (List.mem_of_getElem? (i := 90) rfl), lw_t8 (List.mem_of_getElem? (i := 47) rfl), lw_t8 (List.mem_of_getElem? (i := 48) rfl)⟩
theorem lw_p55 : lw_okq (⟨"QuotedRiverModel", "errs", "(I)V"⟩, 42) := ⟨⟨by decide +kernel, by decide +kernel⟩, lw_t7 (List.mem_of_getElem? (i := 90) rfl), lw_t8 (List.mem_of_getElem? (i := 53) rfl), lw_t8 (List.mem_of_getElem? (i := 54) rfl)⟩
theorem lw_p56 : lw_okq (⟨"QuotedRiverModel", "told", "(Ljava/lang/String;II)I"⟩, 42) := ⟨⟨by decide +kernel, by decide +kernel⟩, lw_t7 (List.mem_of_getElem? (i := 90) rfl), lw_t8 (List.mem_of_getElem? (i := 58) rfl), lw_t8 (List.mem_of_getElem? (i := 59) rfl)⟩
theorem lw_p57 : lw_okq (⟨"QuotedRiverModel", "number", "(II)I"⟩, 42) := ⟨⟨by decide +kernel, by decide +kernel⟩, lw_t7 (List.mem_of_getElem? (i := 90) rfl), lw_t8 (List.mem_of_getElem? (i := 62) rfl), lw_t8 (List.mem_of_getElem? (i := 63) rfl)⟩
theorem lw_p58 : lw_okq (⟨"QuotedRiverModel", "readNext", "()V"⟩, 42) := ⟨⟨by decide +kernel, by decide +kernel⟩, lw_t7 (List.mem_of_getElem? (i := 90) rfl), lw_t8 (List.mem_of_getElem? (i := 68) rfl), lw_t8 (List.mem_of_getElem? (i := 69) rfl)⟩
theorem lw_p59 : lw_okq (⟨"QuotedRiverModel", "readReach", "()V"⟩, 42) := ⟨⟨by decide +kernel, by decide +kernel⟩, lw_t7 (List.mem_of_getElem? (i := 90) rfl), lw_t8 (List.mem_of_getElem? (i := 75) rfl), lw_t8 (List.mem_of_getElem? (i := 76) rfl)⟩
theorem lw_p60 : lw_okq (⟨"QuotedRiverModel", "readJoin", "()V"⟩, 42) := ⟨⟨by decide +kernel, by decide +kernel⟩, lw_t7 (List.mem_of_getElem? (i := 90) rfl), lw_t8 (List.mem_of_getElem? (i := 83) rfl), lw_t8 (List.mem_of_getElem? (i := 84) rfl)⟩
theorem lw_p61 : lw_okq (⟨"QuotedRiverModel", "readRain", "()V"⟩, 42) := ⟨⟨by decide +kernel, by decide +kernel⟩, lw_t7 (List.mem_of_getElem? (i := 90) rfl), lw_t8 (List.mem_of_getElem? (i := 89) rfl), lw_t8 (List.mem_of_getElem? (i := 90) rfl)⟩
theorem lw_p62 : lw_okq (⟨"QuotedRiverModel", "isReach", "(J)Z"⟩, 42) := ⟨⟨by decide +kernel, by decide +kernel⟩, lw_t7 (List.mem_of_getElem? (i := 90) rfl), lw_t8 (List.mem_of_getElem? (i := 97) rfl), lw_t8 (List.mem_of_getElem? (i := 98) rfl)⟩
theorem lw_p63 : lw_okq (⟨"QuotedRiverModel", "of", "(II)I"⟩, 42) := ⟨⟨by decide +kernel, by decide +kernel⟩, lw_t7 (List.mem_of_getElem? (i := 90) rfl), lw_t8 (List.mem_of_getElem? (i := 101) rfl), lw_t8 (List.mem_of_getElem? (i := 102) rfl)⟩
def lw_privs_4 : List (MethodName × Nat) := [(⟨"QuotedRiverModel", "see", "(I)I"⟩, 42), (⟨"QuotedRiverModel", "good", "()Z"⟩, 42), (⟨"QuotedRiverModel", "readLine", "()V"⟩, 42), (⟨"QuotedRiverModel", "readFirst", "()V"⟩, 42), (⟨"QuotedRiverModel", "needs", "(Ljava/lang/String;)V"⟩, 42), (⟨"QuotedRiverModel", "takes", "(Ljava/lang/String;)Z"⟩, 42), (⟨"QuotedRiverModel", "is", "(Ljava/lang/String;)Z"⟩, 42), (⟨"QuotedRiverModel", "errs", "(I)V"⟩, 42), (⟨"QuotedRiverModel", "told", "(Ljava/lang/String;II)I"⟩, 42), (⟨"QuotedRiverModel", "number", "(II)I"⟩, 42), (⟨"QuotedRiverModel", "readNext", "()V"⟩, 42), (⟨"QuotedRiverModel", "readReach", "()V"⟩, 42), (⟨"QuotedRiverModel", "readJoin", "()V"⟩, 42), (⟨"QuotedRiverModel", "readRain", "()V"⟩, 42), (⟨"QuotedRiverModel", "isReach", "(J)Z"⟩, 42), (⟨"QuotedRiverModel", "of", "(II)I"⟩, 42)]
theorem lw_r4 : ∀ q ∈ lw_privs_4, lw_okq q := List.forall_mem_cons.mpr ⟨lw_p48, List.forall_mem_cons.mpr ⟨lw_p49, List.forall_mem_cons.mpr ⟨lw_p50, List.forall_mem_cons.mpr ⟨lw_p51, List.forall_mem_cons.mpr ⟨lw_p52, List.forall_mem_cons.mpr ⟨lw_p53, List.forall_mem_cons.mpr ⟨lw_p54, List.forall_mem_cons.mpr ⟨lw_p55, List.forall_mem_cons.mpr ⟨lw_p56, List.forall_mem_cons.mpr ⟨lw_p57, List.forall_mem_cons.mpr ⟨lw_p58, List.forall_mem_cons.mpr ⟨lw_p59, List.forall_mem_cons.mpr ⟨lw_p60, List.forall_mem_cons.mpr ⟨lw_p61, List.forall_mem_cons.mpr ⟨lw_p62, List.forall_mem_cons.mpr ⟨lw_p63, fun _ h => absurd h List.not_mem_nil⟩⟩⟩⟩⟩⟩⟩⟩⟩⟩⟩⟩⟩⟩⟩⟩
theorem lw_p64 : lw_okq (⟨"QuotedRiverModel", "isJoin", "(I)Z"⟩, 42) := ⟨⟨by decide +kernel, by decide +kernel⟩, lw_t7 (List.mem_of_getElem? (i := 90) rfl), lw_t8 (List.mem_of_getElem? (i := 113) rfl), lw_t8 (List.mem_of_getElem? (i := 114) rfl)⟩
theorem lw_p65 : lw_okq (⟨"QuotedRiverModel", "ofJoin", "(II)I"⟩, 42) := ⟨⟨by decide +kernel, by decide +kernel⟩, lw_t7 (List.mem_of_getElem? (i := 90) rfl), lw_t8 (List.mem_of_getElem? (i := 118) rfl), lw_t8 (List.mem_of_getElem? (i := 119) rfl)⟩
theorem lw_p66 : lw_okq (⟨"QuotedRiverModel", "asksRivers", "()Z"⟩, 42) := ⟨⟨by decide +kernel, by decide +kernel⟩, lw_t7 (List.mem_of_getElem? (i := 90) rfl), lw_t8 (List.mem_of_getElem? (i := 126) rfl), lw_t8 (List.mem_of_getElem? (i := 127) rfl)⟩
theorem lw_p67 : lw_okq (⟨"QuotedRiverModel", "asItIs", "()V"⟩, 42) := ⟨⟨by decide +kernel, by decide +kernel⟩, lw_t7 (List.mem_of_getElem? (i := 90) rfl), lw_t8 (List.mem_of_getElem? (i := 130) rfl), lw_t8 (List.mem_of_getElem? (i := 131) rfl)⟩
theorem lw_p68 : lw_okq (⟨"QuotedRiverModel", "layLevels", "()V"⟩, 42) := ⟨⟨by decide +kernel, by decide +kernel⟩, lw_t7 (List.mem_of_getElem? (i := 90) rfl), lw_t8 (List.mem_of_getElem? (i := 134) rfl), lw_t8 (List.mem_of_getElem? (i := 135) rfl)⟩
theorem lw_p69 : lw_okq (⟨"QuotedRiverModel", "isRivers", "()Z"⟩, 42) := ⟨⟨by decide +kernel, by decide +kernel⟩, lw_t7 (List.mem_of_getElem? (i := 90) rfl), lw_t8 (List.mem_of_getElem? (i := 139) rfl), lw_t8 (List.mem_of_getElem? (i := 140) rfl)⟩
theorem lw_p70 : lw_okq (⟨"QuotedRiverModel", "asksReach", "(I)Z"⟩, 42) := ⟨⟨by decide +kernel, by decide +kernel⟩, lw_t7 (List.mem_of_getElem? (i := 90) rfl), lw_t8 (List.mem_of_getElem? (i := 155) rfl), lw_t8 (List.mem_of_getElem? (i := 156) rfl)⟩
theorem lw_p71 : lw_okq (⟨"QuotedRiverModel", "lowestOf", "()I"⟩, 42) := ⟨⟨by decide +kernel, by decide +kernel⟩, lw_t7 (List.mem_of_getElem? (i := 90) rfl), lw_t8 (List.mem_of_getElem? (i := 182) rfl), lw_t8 (List.mem_of_getElem? (i := 183) rfl)⟩
theorem lw_p72 : lw_okq (⟨"QuotedRiverModel", "putsIn", "(II)Z"⟩, 42) := ⟨⟨by decide +kernel, by decide +kernel⟩, lw_t7 (List.mem_of_getElem? (i := 90) rfl), lw_t8 (List.mem_of_getElem? (i := 214) rfl), lw_t8 (List.mem_of_getElem? (i := 215) rfl)⟩
theorem lw_p73 : lw_okq (⟨"QuotedRiverModel", "goStick", "(II)V"⟩, 42) := ⟨⟨by decide +kernel, by decide +kernel⟩, lw_t7 (List.mem_of_getElem? (i := 90) rfl), lw_t8 (List.mem_of_getElem? (i := 218) rfl), lw_t8 (List.mem_of_getElem? (i := 219) rfl)⟩
theorem lw_p74 : lw_okq (⟨"QuotedRiverModel", "joinFrom", "(II)I"⟩, 42) := ⟨⟨by decide +kernel, by decide +kernel⟩, lw_t7 (List.mem_of_getElem? (i := 90) rfl), lw_t8 (List.mem_of_getElem? (i := 222) rfl), lw_t8 (List.mem_of_getElem? (i := 223) rfl)⟩
theorem lw_p75 : lw_okq (⟨"QuotedRiverModel", "comesOf", "(II)I"⟩, 42) := ⟨⟨by decide +kernel, by decide +kernel⟩, lw_t7 (List.mem_of_getElem? (i := 90) rfl), lw_t8 (List.mem_of_getElem? (i := 230) rfl), lw_t8 (List.mem_of_getElem? (i := 231) rfl)⟩
theorem lw_p76 : lw_okq (⟨"QuotedRiverModel", "areTwo", "(II)Z"⟩, 42) := ⟨⟨by decide +kernel, by decide +kernel⟩, lw_t7 (List.mem_of_getElem? (i := 90) rfl), lw_t9 (List.mem_of_getElem? (i := 59) rfl), lw_t9 (List.mem_of_getElem? (i := 60) rfl)⟩
theorem lw_p77 : lw_okq (⟨"QuotedRiverModel", "quickOf", "(II)I"⟩, 42) := ⟨⟨by decide +kernel, by decide +kernel⟩, lw_t7 (List.mem_of_getElem? (i := 90) rfl), lw_t9 (List.mem_of_getElem? (i := 68) rfl), lw_t9 (List.mem_of_getElem? (i := 69) rfl)⟩
theorem lw_p78 : lw_okq (⟨"QuotedRiverModel", "oftenOf", "(II)I"⟩, 42) := ⟨⟨by decide +kernel, by decide +kernel⟩, lw_t7 (List.mem_of_getElem? (i := 90) rfl), lw_t9 (List.mem_of_getElem? (i := 88) rfl), lw_t9 (List.mem_of_getElem? (i := 89) rfl)⟩
theorem lw_p79 : lw_okq (⟨"QuotedRiverModel", "stopsOf", "(II)I"⟩, 42) := ⟨⟨by decide +kernel, by decide +kernel⟩, lw_t7 (List.mem_of_getElem? (i := 90) rfl), lw_t9 (List.mem_of_getElem? (i := 96) rfl), lw_t9 (List.mem_of_getElem? (i := 97) rfl)⟩
def lw_privs_5 : List (MethodName × Nat) := [(⟨"QuotedRiverModel", "isJoin", "(I)Z"⟩, 42), (⟨"QuotedRiverModel", "ofJoin", "(II)I"⟩, 42), (⟨"QuotedRiverModel", "asksRivers", "()Z"⟩, 42), (⟨"QuotedRiverModel", "asItIs", "()V"⟩, 42), (⟨"QuotedRiverModel", "layLevels", "()V"⟩, 42), (⟨"QuotedRiverModel", "isRivers", "()Z"⟩, 42), (⟨"QuotedRiverModel", "asksReach", "(I)Z"⟩, 42), (⟨"QuotedRiverModel", "lowestOf", "()I"⟩, 42), (⟨"QuotedRiverModel", "putsIn", "(II)Z"⟩, 42), (⟨"QuotedRiverModel", "goStick", "(II)V"⟩, 42), (⟨"QuotedRiverModel", "joinFrom", "(II)I"⟩, 42), (⟨"QuotedRiverModel", "comesOf", "(II)I"⟩, 42), (⟨"QuotedRiverModel", "areTwo", "(II)Z"⟩, 42), (⟨"QuotedRiverModel", "quickOf", "(II)I"⟩, 42), (⟨"QuotedRiverModel", "oftenOf", "(II)I"⟩, 42), (⟨"QuotedRiverModel", "stopsOf", "(II)I"⟩, 42)]
theorem lw_r5 : ∀ q ∈ lw_privs_5, lw_okq q := List.forall_mem_cons.mpr ⟨lw_p64, List.forall_mem_cons.mpr ⟨lw_p65, List.forall_mem_cons.mpr ⟨lw_p66, List.forall_mem_cons.mpr ⟨lw_p67, List.forall_mem_cons.mpr ⟨lw_p68, List.forall_mem_cons.mpr ⟨lw_p69, List.forall_mem_cons.mpr ⟨lw_p70, List.forall_mem_cons.mpr ⟨lw_p71, List.forall_mem_cons.mpr ⟨lw_p72, List.forall_mem_cons.mpr ⟨lw_p73, List.forall_mem_cons.mpr ⟨lw_p74, List.forall_mem_cons.mpr ⟨lw_p75, List.forall_mem_cons.mpr ⟨lw_p76, List.forall_mem_cons.mpr ⟨lw_p77, List.forall_mem_cons.mpr ⟨lw_p78, List.forall_mem_cons.mpr ⟨lw_p79, fun _ h => absurd h List.not_mem_nil⟩⟩⟩⟩⟩⟩⟩⟩⟩⟩⟩⟩⟩⟩⟩⟩
theorem lw_p80 : lw_okq (⟨"QuotedRiverModel", "seaOf", "(II)I"⟩, 42) := ⟨⟨by decide +kernel, by decide +kernel⟩, lw_t7 (List.mem_of_getElem? (i := 90) rfl), lw_t9 (List.mem_of_getElem? (i := 111) rfl), lw_t9 (List.mem_of_getElem? (i := 112) rfl)⟩
theorem lw_p81 : lw_okq (⟨"QuotedRiverModel", "layPairs", "(I)I"⟩, 42) := ⟨⟨by decide +kernel, by decide +kernel⟩, lw_t7 (List.mem_of_getElem? (i := 90) rfl), lw_t9 (List.mem_of_getElem? (i := 123) rfl), lw_t9 (List.mem_of_getElem? (i := 124) rfl)⟩
theorem lw_p82 : lw_okq (⟨"QuotedRiverModel", "askSeen", "(IZ)I"⟩, 42) := ⟨⟨by decide +kernel, by decide +kernel⟩, lw_t7 (List.mem_of_getElem? (i := 90) rfl), lw_t9 (List.mem_of_getElem? (i := 127) rfl), lw_t9 (List.mem_of_getElem? (i := 128) rfl)⟩
theorem lw_p83 : lw_okq (⟨"QuotedRiverModel", "numberAt", "(II)J"⟩, 42) := ⟨⟨by decide +kernel, by decide +kernel⟩, lw_t7 (List.mem_of_getElem? (i := 90) rfl), lw_t9 (List.mem_of_getElem? (i := 134) rfl), lw_t9 (List.mem_of_getElem? (i := 135) rfl)⟩
theorem lw_p84 : lw_okq (⟨"QuotedRiverModel", "isSeen", "(I)Z"⟩, 42) := ⟨⟨by decide +kernel, by decide +kernel⟩, lw_t7 (List.mem_of_getElem? (i := 90) rfl), lw_t9 (List.mem_of_getElem? (i := 138) rfl), lw_t9 (List.mem_of_getElem? (i := 139) rfl)⟩
theorem lw_p85 : lw_okq (⟨"QuotedRiverModel", "askOf", "()I"⟩, 42) := ⟨⟨by decide +kernel, by decide +kernel⟩, lw_t7 (List.mem_of_getElem? (i := 90) rfl), lw_t9 (List.mem_of_getElem? (i := 154) rfl), lw_t9 (List.mem_of_getElem? (i := 155) rfl)⟩
theorem lw_p86 : lw_okq (⟨"QuotedRiverModel", "layTurns", "(III)I"⟩, 42) := ⟨⟨by decide +kernel, by decide +kernel⟩, lw_t7 (List.mem_of_getElem? (i := 90) rfl), lw_t9 (List.mem_of_getElem? (i := 166) rfl), lw_t9 (List.mem_of_getElem? (i := 167) rfl)⟩
theorem lw_p87 : lw_okq (⟨"QuotedRiverModel", "startWeights", "()V"⟩, 42) := ⟨⟨by decide +kernel, by decide +kernel⟩, lw_t7 (List.mem_of_getElem? (i := 90) rfl), lw_t9 (List.mem_of_getElem? (i := 208) rfl), lw_t9 (List.mem_of_getElem? (i := 209) rfl)⟩
theorem lw_p88 : lw_okq (⟨"QuotedRiverModel", "stepWeights", "(I)V"⟩, 42) := ⟨⟨by decide +kernel, by decide +kernel⟩, lw_t7 (List.mem_of_getElem? (i := 90) rfl), lw_t9 (List.mem_of_getElem? (i := 212) rfl), lw_t9 (List.mem_of_getElem? (i := 213) rfl)⟩
theorem lw_p89 : lw_okq (⟨"QuotedRiverModel", "weightFrom", "(II)J"⟩, 42) := ⟨⟨by decide +kernel, by decide +kernel⟩, lw_t7 (List.mem_of_getElem? (i := 90) rfl), lw_t9 (List.mem_of_getElem? (i := 216) rfl), lw_t9 (List.mem_of_getElem? (i := 217) rfl)⟩
theorem lw_p90 : lw_okq (⟨"QuotedRiverModel", "keepAct", "(I)I"⟩, 42) := ⟨⟨by decide +kernel, by decide +kernel⟩, lw_t7 (List.mem_of_getElem? (i := 90) rfl), lw_t9 (List.mem_of_getElem? (i := 236) rfl), lw_t9 (List.mem_of_getElem? (i := 237) rfl)⟩
theorem lw_p91 : lw_okq (⟨"QuotedRiverModel", "goDrawn", "(J)V"⟩, 42) := ⟨⟨by decide +kernel, by decide +kernel⟩, lw_t7 (List.mem_of_getElem? (i := 90) rfl), lw_t10 (List.mem_of_getElem? (i := 21) rfl), lw_t10 (List.mem_of_getElem? (i := 22) rfl)⟩
def lw_privs_6 : List (MethodName × Nat) := [(⟨"QuotedRiverModel", "seaOf", "(II)I"⟩, 42), (⟨"QuotedRiverModel", "layPairs", "(I)I"⟩, 42), (⟨"QuotedRiverModel", "askSeen", "(IZ)I"⟩, 42), (⟨"QuotedRiverModel", "numberAt", "(II)J"⟩, 42), (⟨"QuotedRiverModel", "isSeen", "(I)Z"⟩, 42), (⟨"QuotedRiverModel", "askOf", "()I"⟩, 42), (⟨"QuotedRiverModel", "layTurns", "(III)I"⟩, 42), (⟨"QuotedRiverModel", "startWeights", "()V"⟩, 42), (⟨"QuotedRiverModel", "stepWeights", "(I)V"⟩, 42), (⟨"QuotedRiverModel", "weightFrom", "(II)J"⟩, 42), (⟨"QuotedRiverModel", "keepAct", "(I)I"⟩, 42), (⟨"QuotedRiverModel", "goDrawn", "(J)V"⟩, 42)]
theorem lw_r6 : ∀ q ∈ lw_privs_6, lw_okq q := List.forall_mem_cons.mpr ⟨lw_p80, List.forall_mem_cons.mpr ⟨lw_p81, List.forall_mem_cons.mpr ⟨lw_p82, List.forall_mem_cons.mpr ⟨lw_p83, List.forall_mem_cons.mpr ⟨lw_p84, List.forall_mem_cons.mpr ⟨lw_p85, List.forall_mem_cons.mpr ⟨lw_p86, List.forall_mem_cons.mpr ⟨lw_p87, List.forall_mem_cons.mpr ⟨lw_p88, List.forall_mem_cons.mpr ⟨lw_p89, List.forall_mem_cons.mpr ⟨lw_p90, List.forall_mem_cons.mpr ⟨lw_p91, fun _ h => absurd h List.not_mem_nil⟩⟩⟩⟩⟩⟩⟩⟩⟩⟩⟩⟩
def lw_privs : List (MethodName × Nat) := lw_privs_1 ++ (lw_privs_2 ++ (lw_privs_3 ++ (lw_privs_4 ++ (lw_privs_5 ++ (lw_privs_6)))))
def lw_tbl : List Cond := k2_sels lw_privs ++ tables_1
theorem lw_privs_ok : ∀ q ∈ lw_privs, lw_okq q := by
  show ∀ q ∈ lw_privs_1 ++ (lw_privs_2 ++ (lw_privs_3 ++ (lw_privs_4 ++ (lw_privs_5 ++ (lw_privs_6))))), lw_okq q
  exact List.forall_mem_append.mpr ⟨lw_r1, List.forall_mem_append.mpr ⟨lw_r2, List.forall_mem_append.mpr ⟨lw_r3, List.forall_mem_append.mpr ⟨lw_r4, List.forall_mem_append.mpr ⟨lw_r5, lw_r6⟩⟩⟩⟩⟩
-- ===== ONE list of words for every method: the tables' words that hold all through a run =====
def lw_all : List Cond := lw_tbl.filter goodWord
/-- a word of the tables by its place: claim/WORDS.tsv -/
theorem lw_w {w : Cond} (i : Nat) (h : lw_tbl[i]? = some w) (g : goodWord w = true) : w ∈ lw_all := List.mem_filter.mpr ⟨List.mem_of_getElem? h, g⟩
theorem lw_all_tbl {w : Cond} (h : w ∈ lw_all) : w ∈ lw_tbl := (List.mem_filter.mp h).1
theorem lw_self : GoodIn lw_all lw_all := fun w h => ⟨h, good_of_word (List.mem_filter.mp h).2⟩
/-- a class's field words, by their places -/
theorem lw_in (ws : List Cond) (ps : List Nat) (hp : ws = ps.filterMap (fun i => lw_tbl[i]?)) (hg : ws.all goodWord = true) : ∀ w ∈ ws, w ∈ lw_all := by
  intro w h
  have h1 := List.all_eq_true.mp hg w h
  rw [hp] at h
  obtain ⟨i, -, hi⟩ := List.mem_filterMap.mp h
  exact lw_w i hi h1
/-- the words of a contract for the method y with code b, L locals, answer r -/
abbrev ws_ (y : MethodName) (b : ByteArray) (L : Nat) (r : Option FieldType) : List Cond := Cond.code y b L r :: lw_all
theorem lw_meth {y : MethodName} {b : ByteArray} {L : Nat} {r : Option FieldType} (h : Cond.code y b L r ∈ lw_all) : GoodIn lw_all (ws_ y b L r) := by
  intro w hw
  rcases List.mem_cons.mp hw with e | e
  · rw [e]
    exact lw_self _ h
  · exact lw_self _ e
theorem lw_app {a c : List Cond} (ha : ∀ w ∈ a, w ∈ lw_all) (hc : GoodIn lw_all c) : GoodIn lw_all (a ++ c) := by
  intro w hw
  rcases List.mem_append.mp hw with e | e
  · exact lw_self w (ha w e)
  · exact hc w e
/-- what a call through an object asks: cwV n hts (lw_V ..) -/
theorem lw_V {own : String} {idx : Nat} {C : String} {y : MethodName} {b : ByteArray} {L : Nat} {r : Option FieldType} (h1 : Cond.methodLink own idx y ∈ lw_all) (h2 : Cond.instanceMethod y ∈ lw_all) (h3 : Cond.selects C y y ∈ lw_all) (h4 : Cond.initialized C ∈ lw_all) (h5 : Cond.code y b L r ∈ lw_all) : GoodIn lw_all (wsV own idx C y (ws_ y b L r)) := by
  refine lw_app ?_ (lw_meth h5)
  intro w hw
  simp only [List.mem_cons, List.not_mem_nil, or_false] at hw
  rcases hw with e | e | e | e
  · rw [e]; exact h1
  · rw [e]; exact h2
  · rw [e]; exact h3
  · rw [e]; exact h4
/-- what a static call asks: va_cwS n hts (lw_S ..) -/
theorem lw_S {own : String} {idx : Nat} {y : MethodName} {b : ByteArray} {L : Nat} {r : Option FieldType} (h1 : Cond.methodLink own idx y ∈ lw_all) (h2 : Cond.static y ∈ lw_all) (h3 : Cond.initialized y.cls ∈ lw_all) (h4 : Cond.code y b L r ∈ lw_all) : GoodIn lw_all (va_wsS own idx y (ws_ y b L r)) := by
  refine lw_app ?_ (lw_meth h4)
  intro w hw
  simp only [List.mem_cons, List.not_mem_nil, or_false] at hw
  rcases hw with e | e | e
  · rw [e]; exact h1
  · rw [e]; exact h2
  · rw [e]; exact h3
/-- the words of a contract for a method WITH HANDLERS (hh: its table) -/
abbrev wsW_ (y : MethodName) (b : ByteArray) (L : Nat) (r : Option FieldType) (hh : List (Nat × Nat × Nat × Nat)) : List Cond := Cond.codeWith y b L r hh :: lw_all
theorem lw_methW {y : MethodName} {b : ByteArray} {L : Nat} {r : Option FieldType} {hh : List (Nat × Nat × Nat × Nat)} (h : Cond.codeWith y b L r hh ∈ lw_all) : GoodIn lw_all (wsW_ y b L r hh) := by
  intro w hw
  rcases List.mem_cons.mp hw with e | e
  · rw [e]
    exact lw_self _ h
  · exact lw_self _ e
/-- any list of words by their places (lw_in), good -/
theorem lw_good {ws : List Cond} (h : ∀ w ∈ ws, w ∈ lw_all) : GoodIn lw_all ws := fun w hw => lw_self w (h w hw)
/-- what a call of a method with handlers asks: vx_cwVW n hts (lw_VW ..), vx_cwSW n hts (lw_SW ..) -/
theorem lw_VW {own : String} {idx : Nat} {C : String} {y : MethodName} {b : ByteArray} {L : Nat} {r : Option FieldType} {hh : List (Nat × Nat × Nat × Nat)} (h1 : Cond.methodLink own idx y ∈ lw_all) (h2 : Cond.instanceMethod y ∈ lw_all) (h3 : Cond.selects C y y ∈ lw_all) (h4 : Cond.initialized C ∈ lw_all) (h5 : Cond.codeWith y b L r hh ∈ lw_all) : GoodIn lw_all (wsV own idx C y (wsW_ y b L r hh)) := by
  refine lw_app ?_ (lw_methW h5)
  intro w hw
  simp only [List.mem_cons, List.not_mem_nil, or_false] at hw
  rcases hw with e | e | e | e
  · rw [e]; exact h1
  · rw [e]; exact h2
  · rw [e]; exact h3
  · rw [e]; exact h4
theorem lw_SW {own : String} {idx : Nat} {y : MethodName} {b : ByteArray} {L : Nat} {r : Option FieldType} {hh : List (Nat × Nat × Nat × Nat)} (h1 : Cond.methodLink own idx y ∈ lw_all) (h2 : Cond.static y ∈ lw_all) (h3 : Cond.initialized y.cls ∈ lw_all) (h4 : Cond.codeWith y b L r hh ∈ lw_all) : GoodIn lw_all (va_wsS own idx y (wsW_ y b L r hh)) := by
  refine lw_app ?_ (lw_methW h4)
  intro w hw
  simp only [List.mem_cons, List.not_mem_nil, or_false] at hw
  rcases hw with e | e | e
  · rw [e]; exact h1
  · rw [e]; exact h2
  · rw [e]; exact h3
/-- a word by its place in its run of the tables -/
theorem lw_at {r : List Cond} (hr : ∀ w ∈ r, w ∈ lw_tbl) {w : Cond} (i : Nat) (h : r[i]? = some w) : w ∈ lw_tbl := hr w (List.mem_of_getElem? h)
theorem lw_g {w : Cond} (h : w ∈ lw_tbl) (g : goodWord w = true) : w ∈ lw_all := List.mem_filter.mpr ⟨h, g⟩
theorem lw_ms : ∀ w ∈ k2_sels lw_privs, w ∈ lw_tbl := fun w h => show w ∈ k2_sels lw_privs ++ tables_1 from List.mem_append_left _ h
theorem lw_m1 : ∀ w ∈ tables_1_1, w ∈ lw_tbl := fun w h => show w ∈ k2_sels lw_privs ++ tables_1 from List.mem_append_right (k2_sels lw_privs) (show w ∈ tables_1 from List.mem_append_left _ h)
theorem lw_m2 : ∀ w ∈ tables_1_2, w ∈ lw_tbl := fun w h => show w ∈ k2_sels lw_privs ++ tables_1 from List.mem_append_right (k2_sels lw_privs) (show w ∈ tables_1 from List.mem_append_right _ (List.mem_append_left _ h))
theorem lw_m3 : ∀ w ∈ tables_1_3, w ∈ lw_tbl := fun w h => show w ∈ k2_sels lw_privs ++ tables_1 from List.mem_append_right (k2_sels lw_privs) (show w ∈ tables_1 from List.mem_append_right _ (List.mem_append_right _ (List.mem_append_left _ h)))
theorem lw_m4 : ∀ w ∈ tables_1_4, w ∈ lw_tbl := fun w h => show w ∈ k2_sels lw_privs ++ tables_1 from List.mem_append_right (k2_sels lw_privs) (show w ∈ tables_1 from List.mem_append_right _ (List.mem_append_right _ (List.mem_append_right _ (List.mem_append_left _ h))))
theorem lw_m5 : ∀ w ∈ tables_1_5, w ∈ lw_tbl := fun w h => show w ∈ k2_sels lw_privs ++ tables_1 from List.mem_append_right (k2_sels lw_privs) (show w ∈ tables_1 from List.mem_append_right _ (List.mem_append_right _ (List.mem_append_right _ (List.mem_append_right _ (List.mem_append_left _ h)))))
theorem lw_m6 : ∀ w ∈ tables_1_6, w ∈ lw_tbl := fun w h => show w ∈ k2_sels lw_privs ++ tables_1 from List.mem_append_right (k2_sels lw_privs) (show w ∈ tables_1 from List.mem_append_right _ (List.mem_append_right _ (List.mem_append_right _ (List.mem_append_right _ (List.mem_append_right _ (List.mem_append_left _ h))))))
theorem lw_m7 : ∀ w ∈ tables_1_7, w ∈ lw_tbl := fun w h => show w ∈ k2_sels lw_privs ++ tables_1 from List.mem_append_right (k2_sels lw_privs) (show w ∈ tables_1 from List.mem_append_right _ (List.mem_append_right _ (List.mem_append_right _ (List.mem_append_right _ (List.mem_append_right _ (List.mem_append_right _ (List.mem_append_left _ h)))))))
theorem lw_m8 : ∀ w ∈ tables_1_8, w ∈ lw_tbl := fun w h => show w ∈ k2_sels lw_privs ++ tables_1 from List.mem_append_right (k2_sels lw_privs) (show w ∈ tables_1 from List.mem_append_right _ (List.mem_append_right _ (List.mem_append_right _ (List.mem_append_right _ (List.mem_append_right _ (List.mem_append_right _ (List.mem_append_right _ (List.mem_append_left _ h))))))))
theorem lw_m9 : ∀ w ∈ tables_1_9, w ∈ lw_tbl := fun w h => show w ∈ k2_sels lw_privs ++ tables_1 from List.mem_append_right (k2_sels lw_privs) (show w ∈ tables_1 from List.mem_append_right _ (List.mem_append_right _ (List.mem_append_right _ (List.mem_append_right _ (List.mem_append_right _ (List.mem_append_right _ (List.mem_append_right _ (List.mem_append_right _ (List.mem_append_left _ h)))))))))
theorem lw_m10 : ∀ w ∈ tables_1_10, w ∈ lw_tbl := fun w h => show w ∈ k2_sels lw_privs ++ tables_1 from List.mem_append_right (k2_sels lw_privs) (show w ∈ tables_1 from List.mem_append_right _ (List.mem_append_right _ (List.mem_append_right _ (List.mem_append_right _ (List.mem_append_right _ (List.mem_append_right _ (List.mem_append_right _ (List.mem_append_right _ (List.mem_append_right _ h)))))))))
theorem qs0 : (Cond.selects "java/lang/NullPointerException" ⟨"java/lang/NullPointerException", "getExtendedNPEMessage", "()Ljava/lang/String;"⟩ ⟨"java/lang/NullPointerException", "getExtendedNPEMessage", "()Ljava/lang/String;"⟩) ∈ lw_all := lw_g (lw_at lw_ms 0 rfl) rfl
theorem qs1 : (Cond.selects "java/lang/Throwable" ⟨"java/lang/Throwable", "fillInStackTrace", "(I)Ljava/lang/Throwable;"⟩ ⟨"java/lang/Throwable", "fillInStackTrace", "(I)Ljava/lang/Throwable;"⟩) ∈ lw_all := lw_g (lw_at lw_ms 1 rfl) rfl
theorem qs2 : (Cond.selects "QuotedRiver$Slot" ⟨"QuotedRiver$Slot", "put", "(IJ)V"⟩ ⟨"QuotedRiver$Slot", "put", "(IJ)V"⟩) ∈ lw_all := lw_g (lw_at lw_ms 2 rfl) rfl
theorem qs3 : (Cond.selects "QuotedRiver$Slot" ⟨"QuotedRiver$Slot", "putWider", "(IJ)V"⟩ ⟨"QuotedRiver$Slot", "putWider", "(IJ)V"⟩) ∈ lw_all := lw_g (lw_at lw_ms 3 rfl) rfl
theorem qs4 : (Cond.selects "QuotedRiver$Slot" ⟨"QuotedRiver$Slot", "width", "()I"⟩ ⟨"QuotedRiver$Slot", "width", "()I"⟩) ∈ lw_all := lw_g (lw_at lw_ms 4 rfl) rfl
theorem qs5 : (Cond.selects "QuotedRiver$Reader" ⟨"QuotedRiver$Reader", "next", "()V"⟩ ⟨"QuotedRiver$Reader", "next", "()V"⟩) ∈ lw_all := lw_g (lw_at lw_ms 5 rfl) rfl
theorem qs6 : (Cond.selects "QuotedRiver$Reader" ⟨"QuotedRiver$Reader", "isAt", "(II)Z"⟩ ⟨"QuotedRiver$Reader", "isAt", "(II)Z"⟩) ∈ lw_all := lw_g (lw_at lw_ms 6 rfl) rfl
theorem qs7 : (Cond.selects "QuotedRiver$Reader" ⟨"QuotedRiver$Reader", "riversLine", "()V"⟩ ⟨"QuotedRiver$Reader", "riversLine", "()V"⟩) ∈ lw_all := lw_g (lw_at lw_ms 7 rfl) rfl
theorem qs8 : (Cond.selects "QuotedRiver$Reader" ⟨"QuotedRiver$Reader", "asks", "(Ljava/lang/String;)V"⟩ ⟨"QuotedRiver$Reader", "asks", "(Ljava/lang/String;)V"⟩) ∈ lw_all := lw_g (lw_at lw_ms 8 rfl) rfl
theorem qs9 : (Cond.selects "QuotedRiver$Reader" ⟨"QuotedRiver$Reader", "takes", "(Ljava/lang/String;)Z"⟩ ⟨"QuotedRiver$Reader", "takes", "(Ljava/lang/String;)Z"⟩) ∈ lw_all := lw_g (lw_at lw_ms 9 rfl) rfl
theorem qs10 : (Cond.selects "QuotedRiver$Reader" ⟨"QuotedRiver$Reader", "is", "(Ljava/lang/String;)Z"⟩ ⟨"QuotedRiver$Reader", "is", "(Ljava/lang/String;)Z"⟩) ∈ lw_all := lw_g (lw_at lw_ms 10 rfl) rfl
theorem qs11 : (Cond.selects "QuotedRiver$Reader" ⟨"QuotedRiver$Reader", "fault", "(I)LQuotedRiver$Fault;"⟩ ⟨"QuotedRiver$Reader", "fault", "(I)LQuotedRiver$Fault;"⟩) ∈ lw_all := lw_g (lw_at lw_ms 11 rfl) rfl
theorem qs12 : (Cond.selects "QuotedRiver$Reader" ⟨"QuotedRiver$Reader", "number", "(Ljava/lang/String;II)I"⟩ ⟨"QuotedRiver$Reader", "number", "(Ljava/lang/String;II)I"⟩) ∈ lw_all := lw_g (lw_at lw_ms 12 rfl) rfl
theorem qs13 : (Cond.selects "QuotedRiver$Reader" ⟨"QuotedRiver$Reader", "number", "(II)I"⟩ ⟨"QuotedRiver$Reader", "number", "(II)I"⟩) ∈ lw_all := lw_g (lw_at lw_ms 13 rfl) rfl
theorem qs14 : (Cond.selects "QuotedRiver$Reader" ⟨"QuotedRiver$Reader", "told", "()V"⟩ ⟨"QuotedRiver$Reader", "told", "()V"⟩) ∈ lw_all := lw_g (lw_at lw_ms 14 rfl) rfl
theorem qs15 : (Cond.selects "QuotedRiver$Reader" ⟨"QuotedRiver$Reader", "line", "(Ljava/lang/String;Ljava/util/List;I)Z"⟩ ⟨"QuotedRiver$Reader", "line", "(Ljava/lang/String;Ljava/util/List;I)Z"⟩) ∈ lw_all := lw_g (lw_at lw_ms 15 rfl) rfl
theorem qs16 : (Cond.selects "QuotedRiver$Reader" ⟨"QuotedRiver$Reader", "reachLine", "()V"⟩ ⟨"QuotedRiver$Reader", "reachLine", "()V"⟩) ∈ lw_all := lw_g (lw_at lw_ms 16 rfl) rfl
theorem qs17 : (Cond.selects "java/util/ArrayList" ⟨"java/util/ArrayList", "add", "(Ljava/lang/Object;[Ljava/lang/Object;I)V"⟩ ⟨"java/util/ArrayList", "add", "(Ljava/lang/Object;[Ljava/lang/Object;I)V"⟩) ∈ lw_all := lw_g (lw_at lw_ms 17 rfl) rfl
theorem qs18 : (Cond.selects "java/util/ArrayList" ⟨"java/util/ArrayList", "grow", "()[Ljava/lang/Object;"⟩ ⟨"java/util/ArrayList", "grow", "()[Ljava/lang/Object;"⟩) ∈ lw_all := lw_g (lw_at lw_ms 18 rfl) rfl
theorem qs19 : (Cond.selects "java/util/ArrayList" ⟨"java/util/ArrayList", "grow", "(I)[Ljava/lang/Object;"⟩ ⟨"java/util/ArrayList", "grow", "(I)[Ljava/lang/Object;"⟩) ∈ lw_all := lw_g (lw_at lw_ms 19 rfl) rfl
theorem qs20 : (Cond.selects "QuotedRiver$Reader" ⟨"QuotedRiver$Reader", "joinLine", "()V"⟩ ⟨"QuotedRiver$Reader", "joinLine", "()V"⟩) ∈ lw_all := lw_g (lw_at lw_ms 20 rfl) rfl
theorem qs21 : (Cond.selects "QuotedRiver$Reader" ⟨"QuotedRiver$Reader", "reach", "()I"⟩ ⟨"QuotedRiver$Reader", "reach", "()I"⟩) ∈ lw_all := lw_g (lw_at lw_ms 21 rfl) rfl
theorem qs22 : (Cond.selects "QuotedRiver" ⟨"QuotedRiver", "isReach", "(J)Z"⟩ ⟨"QuotedRiver", "isReach", "(J)Z"⟩) ∈ lw_all := lw_g (lw_at lw_ms 22 rfl) rfl
theorem qs23 : (Cond.selects "QuotedRiver" ⟨"QuotedRiver", "reaches", "()I"⟩ ⟨"QuotedRiver", "reaches", "()I"⟩) ∈ lw_all := lw_g (lw_at lw_ms 23 rfl) rfl
theorem qs24 : (Cond.selects "QuotedRiver" ⟨"QuotedRiver", "one", "(I)LQuotedRiver$Reach;"⟩ ⟨"QuotedRiver", "one", "(I)LQuotedRiver$Reach;"⟩) ∈ lw_all := lw_g (lw_at lw_ms 24 rfl) rfl
theorem qs25 : (Cond.selects "QuotedRiver" ⟨"QuotedRiver", "isJoin", "(I)Z"⟩ ⟨"QuotedRiver", "isJoin", "(I)Z"⟩) ∈ lw_all := lw_g (lw_at lw_ms 25 rfl) rfl
theorem qs26 : (Cond.selects "QuotedRiver" ⟨"QuotedRiver", "joinOf", "(I)LQuotedRiver$Join;"⟩ ⟨"QuotedRiver", "joinOf", "(I)LQuotedRiver$Join;"⟩) ∈ lw_all := lw_g (lw_at lw_ms 26 rfl) rfl
theorem qs27 : (Cond.selects "QuotedRiver$Water" ⟨"QuotedRiver$Water", "pours", "(LQuotedRiver$Rain;)V"⟩ ⟨"QuotedRiver$Water", "pours", "(LQuotedRiver$Rain;)V"⟩) ∈ lw_all := lw_g (lw_at lw_ms 27 rfl) rfl
theorem qs28 : (Cond.selects "QuotedRiver" ⟨"QuotedRiver", "areReaches", "(II)Z"⟩ ⟨"QuotedRiver", "areReaches", "(II)Z"⟩) ∈ lw_all := lw_g (lw_at lw_ms 28 rfl) rfl
theorem qs29 : (Cond.selects "QuotedRiver" ⟨"QuotedRiver", "put", "(II)LQuotedRiver$Stick;"⟩ ⟨"QuotedRiver", "put", "(II)LQuotedRiver$Stick;"⟩) ∈ lw_all := lw_g (lw_at lw_ms 29 rfl) rfl
theorem qs30 : (Cond.selects "QuotedRiver$Stick" ⟨"QuotedRiver$Stick", "isNew", "(I)Z"⟩ ⟨"QuotedRiver$Stick", "isNew", "(I)Z"⟩) ∈ lw_all := lw_g (lw_at lw_ms 30 rfl) rfl
theorem qs31 : (Cond.selects "QuotedRiver" ⟨"QuotedRiver", "isStep", "(J)Z"⟩ ⟨"QuotedRiver", "isStep", "(J)Z"⟩) ∈ lw_all := lw_g (lw_at lw_ms 31 rfl) rfl
theorem qs32 : (Cond.selects "QuotedRiver" ⟨"QuotedRiver", "isStick", "(II)Z"⟩ ⟨"QuotedRiver", "isStick", "(II)Z"⟩) ∈ lw_all := lw_g (lw_at lw_ms 32 rfl) rfl
theorem qs33 : (Cond.selects "QuotedRiver" ⟨"QuotedRiver", "depthOf", "(I)I"⟩ ⟨"QuotedRiver", "depthOf", "(I)I"⟩) ∈ lw_all := lw_g (lw_at lw_ms 33 rfl) rfl
theorem qs34 : (Cond.selects "QuotedRiver" ⟨"QuotedRiver", "laysLikely", "(I)V"⟩ ⟨"QuotedRiver", "laysLikely", "(I)V"⟩) ∈ lw_all := lw_g (lw_at lw_ms 34 rfl) rfl
theorem qs35 : (Cond.selects "QuotedRiver" ⟨"QuotedRiver", "quickOf", "(II)I"⟩ ⟨"QuotedRiver", "quickOf", "(II)I"⟩) ∈ lw_all := lw_g (lw_at lw_ms 35 rfl) rfl
theorem qs36 : (Cond.selects "QuotedRiver" ⟨"QuotedRiver", "stopsOf", "(II)I"⟩ ⟨"QuotedRiver", "stopsOf", "(II)I"⟩) ∈ lw_all := lw_g (lw_at lw_ms 36 rfl) rfl
theorem qs37 : (Cond.selects "QuotedRiver" ⟨"QuotedRiver", "isStopped", "(III)Z"⟩ ⟨"QuotedRiver", "isStopped", "(III)Z"⟩) ∈ lw_all := lw_g (lw_at lw_ms 37 rfl) rfl
theorem qs38 : (Cond.selects "QuotedRiver" ⟨"QuotedRiver", "whyNot", "(I)I"⟩ ⟨"QuotedRiver", "whyNot", "(I)I"⟩) ∈ lw_all := lw_g (lw_at lw_ms 38 rfl) rfl
theorem qs39 : (Cond.selects "QuotedRiver" ⟨"QuotedRiver", "isSeen", "(LQuotedRiver$Slot;)Z"⟩ ⟨"QuotedRiver", "isSeen", "(LQuotedRiver$Slot;)Z"⟩) ∈ lw_all := lw_g (lw_at lw_ms 39 rfl) rfl
theorem qs40 : (Cond.selects "QuotedRiver$Seen" ⟨"QuotedRiver$Seen", "adds", "(II)V"⟩ ⟨"QuotedRiver$Seen", "adds", "(II)V"⟩) ∈ lw_all := lw_g (lw_at lw_ms 40 rfl) rfl
theorem qs41 : (Cond.selects "QuotedRiver$Seen" ⟨"QuotedRiver$Seen", "asks", "()V"⟩ ⟨"QuotedRiver$Seen", "asks", "()V"⟩) ∈ lw_all := lw_g (lw_at lw_ms 41 rfl) rfl
theorem qs42 : (Cond.selects "QuotedRiver" ⟨"QuotedRiver", "whyNotTurn", "(III)I"⟩ ⟨"QuotedRiver", "whyNotTurn", "(III)I"⟩) ∈ lw_all := lw_g (lw_at lw_ms 42 rfl) rfl
theorem qs43 : (Cond.selects "QuotedRiver" ⟨"QuotedRiver", "turnsOf", "(LQuotedRiver$Slot;II)I"⟩ ⟨"QuotedRiver", "turnsOf", "(LQuotedRiver$Slot;II)I"⟩) ∈ lw_all := lw_g (lw_at lw_ms 43 rfl) rfl
theorem qs44 : (Cond.selects "QuotedRiver" ⟨"QuotedRiver", "weightFrom", "(I)J"⟩ ⟨"QuotedRiver", "weightFrom", "(I)J"⟩) ∈ lw_all := lw_g (lw_at lw_ms 44 rfl) rfl
theorem qs45 : (Cond.selects "QuotedRiver" ⟨"QuotedRiver", "acts", "(LQuotedRiver$Act;I)I"⟩ ⟨"QuotedRiver", "acts", "(LQuotedRiver$Act;I)I"⟩) ∈ lw_all := lw_g (lw_at lw_ms 45 rfl) rfl
theorem qs46 : (Cond.selects "java/util/ArrayList" ⟨"java/util/ArrayList", "fastRemove", "([Ljava/lang/Object;I)V"⟩ ⟨"java/util/ArrayList", "fastRemove", "([Ljava/lang/Object;I)V"⟩) ∈ lw_all := lw_g (lw_at lw_ms 46 rfl) rfl
theorem qs47 : (Cond.selects "QuotedRiverModel" ⟨"QuotedRiverModel", "advance", "()V"⟩ ⟨"QuotedRiverModel", "advance", "()V"⟩) ∈ lw_all := lw_g (lw_at lw_ms 47 rfl) rfl
theorem qs48 : (Cond.selects "QuotedRiverModel" ⟨"QuotedRiverModel", "see", "(I)I"⟩ ⟨"QuotedRiverModel", "see", "(I)I"⟩) ∈ lw_all := lw_g (lw_at lw_ms 48 rfl) rfl
theorem qs49 : (Cond.selects "QuotedRiverModel" ⟨"QuotedRiverModel", "good", "()Z"⟩ ⟨"QuotedRiverModel", "good", "()Z"⟩) ∈ lw_all := lw_g (lw_at lw_ms 49 rfl) rfl
theorem qs50 : (Cond.selects "QuotedRiverModel" ⟨"QuotedRiverModel", "readLine", "()V"⟩ ⟨"QuotedRiverModel", "readLine", "()V"⟩) ∈ lw_all := lw_g (lw_at lw_ms 50 rfl) rfl
theorem qs51 : (Cond.selects "QuotedRiverModel" ⟨"QuotedRiverModel", "readFirst", "()V"⟩ ⟨"QuotedRiverModel", "readFirst", "()V"⟩) ∈ lw_all := lw_g (lw_at lw_ms 51 rfl) rfl
theorem qs52 : (Cond.selects "QuotedRiverModel" ⟨"QuotedRiverModel", "needs", "(Ljava/lang/String;)V"⟩ ⟨"QuotedRiverModel", "needs", "(Ljava/lang/String;)V"⟩) ∈ lw_all := lw_g (lw_at lw_ms 52 rfl) rfl
theorem qs53 : (Cond.selects "QuotedRiverModel" ⟨"QuotedRiverModel", "takes", "(Ljava/lang/String;)Z"⟩ ⟨"QuotedRiverModel", "takes", "(Ljava/lang/String;)Z"⟩) ∈ lw_all := lw_g (lw_at lw_ms 53 rfl) rfl
theorem qs54 : (Cond.selects "QuotedRiverModel" ⟨"QuotedRiverModel", "is", "(Ljava/lang/String;)Z"⟩ ⟨"QuotedRiverModel", "is", "(Ljava/lang/String;)Z"⟩) ∈ lw_all := lw_g (lw_at lw_ms 54 rfl) rfl
theorem qs55 : (Cond.selects "QuotedRiverModel" ⟨"QuotedRiverModel", "errs", "(I)V"⟩ ⟨"QuotedRiverModel", "errs", "(I)V"⟩) ∈ lw_all := lw_g (lw_at lw_ms 55 rfl) rfl
theorem qs56 : (Cond.selects "QuotedRiverModel" ⟨"QuotedRiverModel", "told", "(Ljava/lang/String;II)I"⟩ ⟨"QuotedRiverModel", "told", "(Ljava/lang/String;II)I"⟩) ∈ lw_all := lw_g (lw_at lw_ms 56 rfl) rfl
theorem qs57 : (Cond.selects "QuotedRiverModel" ⟨"QuotedRiverModel", "number", "(II)I"⟩ ⟨"QuotedRiverModel", "number", "(II)I"⟩) ∈ lw_all := lw_g (lw_at lw_ms 57 rfl) rfl
theorem qs58 : (Cond.selects "QuotedRiverModel" ⟨"QuotedRiverModel", "readNext", "()V"⟩ ⟨"QuotedRiverModel", "readNext", "()V"⟩) ∈ lw_all := lw_g (lw_at lw_ms 58 rfl) rfl
theorem qs59 : (Cond.selects "QuotedRiverModel" ⟨"QuotedRiverModel", "readReach", "()V"⟩ ⟨"QuotedRiverModel", "readReach", "()V"⟩) ∈ lw_all := lw_g (lw_at lw_ms 59 rfl) rfl
theorem qs60 : (Cond.selects "QuotedRiverModel" ⟨"QuotedRiverModel", "readJoin", "()V"⟩ ⟨"QuotedRiverModel", "readJoin", "()V"⟩) ∈ lw_all := lw_g (lw_at lw_ms 60 rfl) rfl
theorem qs61 : (Cond.selects "QuotedRiverModel" ⟨"QuotedRiverModel", "readRain", "()V"⟩ ⟨"QuotedRiverModel", "readRain", "()V"⟩) ∈ lw_all := lw_g (lw_at lw_ms 61 rfl) rfl
theorem qs62 : (Cond.selects "QuotedRiverModel" ⟨"QuotedRiverModel", "isReach", "(J)Z"⟩ ⟨"QuotedRiverModel", "isReach", "(J)Z"⟩) ∈ lw_all := lw_g (lw_at lw_ms 62 rfl) rfl
theorem qs63 : (Cond.selects "QuotedRiverModel" ⟨"QuotedRiverModel", "of", "(II)I"⟩ ⟨"QuotedRiverModel", "of", "(II)I"⟩) ∈ lw_all := lw_g (lw_at lw_ms 63 rfl) rfl
theorem qs64 : (Cond.selects "QuotedRiverModel" ⟨"QuotedRiverModel", "isJoin", "(I)Z"⟩ ⟨"QuotedRiverModel", "isJoin", "(I)Z"⟩) ∈ lw_all := lw_g (lw_at lw_ms 64 rfl) rfl
theorem qs65 : (Cond.selects "QuotedRiverModel" ⟨"QuotedRiverModel", "ofJoin", "(II)I"⟩ ⟨"QuotedRiverModel", "ofJoin", "(II)I"⟩) ∈ lw_all := lw_g (lw_at lw_ms 65 rfl) rfl
theorem qs66 : (Cond.selects "QuotedRiverModel" ⟨"QuotedRiverModel", "asksRivers", "()Z"⟩ ⟨"QuotedRiverModel", "asksRivers", "()Z"⟩) ∈ lw_all := lw_g (lw_at lw_ms 66 rfl) rfl
theorem qs67 : (Cond.selects "QuotedRiverModel" ⟨"QuotedRiverModel", "asItIs", "()V"⟩ ⟨"QuotedRiverModel", "asItIs", "()V"⟩) ∈ lw_all := lw_g (lw_at lw_ms 67 rfl) rfl
theorem qs68 : (Cond.selects "QuotedRiverModel" ⟨"QuotedRiverModel", "layLevels", "()V"⟩ ⟨"QuotedRiverModel", "layLevels", "()V"⟩) ∈ lw_all := lw_g (lw_at lw_ms 68 rfl) rfl
theorem qs69 : (Cond.selects "QuotedRiverModel" ⟨"QuotedRiverModel", "isRivers", "()Z"⟩ ⟨"QuotedRiverModel", "isRivers", "()Z"⟩) ∈ lw_all := lw_g (lw_at lw_ms 69 rfl) rfl
theorem qs70 : (Cond.selects "QuotedRiverModel" ⟨"QuotedRiverModel", "asksReach", "(I)Z"⟩ ⟨"QuotedRiverModel", "asksReach", "(I)Z"⟩) ∈ lw_all := lw_g (lw_at lw_ms 70 rfl) rfl
theorem qs71 : (Cond.selects "QuotedRiverModel" ⟨"QuotedRiverModel", "lowestOf", "()I"⟩ ⟨"QuotedRiverModel", "lowestOf", "()I"⟩) ∈ lw_all := lw_g (lw_at lw_ms 71 rfl) rfl
theorem qs72 : (Cond.selects "QuotedRiverModel" ⟨"QuotedRiverModel", "putsIn", "(II)Z"⟩ ⟨"QuotedRiverModel", "putsIn", "(II)Z"⟩) ∈ lw_all := lw_g (lw_at lw_ms 72 rfl) rfl
theorem qs73 : (Cond.selects "QuotedRiverModel" ⟨"QuotedRiverModel", "goStick", "(II)V"⟩ ⟨"QuotedRiverModel", "goStick", "(II)V"⟩) ∈ lw_all := lw_g (lw_at lw_ms 73 rfl) rfl
theorem qs74 : (Cond.selects "QuotedRiverModel" ⟨"QuotedRiverModel", "joinFrom", "(II)I"⟩ ⟨"QuotedRiverModel", "joinFrom", "(II)I"⟩) ∈ lw_all := lw_g (lw_at lw_ms 74 rfl) rfl
theorem qs75 : (Cond.selects "QuotedRiverModel" ⟨"QuotedRiverModel", "comesOf", "(II)I"⟩ ⟨"QuotedRiverModel", "comesOf", "(II)I"⟩) ∈ lw_all := lw_g (lw_at lw_ms 75 rfl) rfl
theorem qs76 : (Cond.selects "QuotedRiverModel" ⟨"QuotedRiverModel", "areTwo", "(II)Z"⟩ ⟨"QuotedRiverModel", "areTwo", "(II)Z"⟩) ∈ lw_all := lw_g (lw_at lw_ms 76 rfl) rfl
theorem qs77 : (Cond.selects "QuotedRiverModel" ⟨"QuotedRiverModel", "quickOf", "(II)I"⟩ ⟨"QuotedRiverModel", "quickOf", "(II)I"⟩) ∈ lw_all := lw_g (lw_at lw_ms 77 rfl) rfl
theorem qs78 : (Cond.selects "QuotedRiverModel" ⟨"QuotedRiverModel", "oftenOf", "(II)I"⟩ ⟨"QuotedRiverModel", "oftenOf", "(II)I"⟩) ∈ lw_all := lw_g (lw_at lw_ms 78 rfl) rfl
theorem qs79 : (Cond.selects "QuotedRiverModel" ⟨"QuotedRiverModel", "stopsOf", "(II)I"⟩ ⟨"QuotedRiverModel", "stopsOf", "(II)I"⟩) ∈ lw_all := lw_g (lw_at lw_ms 79 rfl) rfl
theorem qs80 : (Cond.selects "QuotedRiverModel" ⟨"QuotedRiverModel", "seaOf", "(II)I"⟩ ⟨"QuotedRiverModel", "seaOf", "(II)I"⟩) ∈ lw_all := lw_g (lw_at lw_ms 80 rfl) rfl
theorem qs81 : (Cond.selects "QuotedRiverModel" ⟨"QuotedRiverModel", "layPairs", "(I)I"⟩ ⟨"QuotedRiverModel", "layPairs", "(I)I"⟩) ∈ lw_all := lw_g (lw_at lw_ms 81 rfl) rfl
theorem qs82 : (Cond.selects "QuotedRiverModel" ⟨"QuotedRiverModel", "askSeen", "(IZ)I"⟩ ⟨"QuotedRiverModel", "askSeen", "(IZ)I"⟩) ∈ lw_all := lw_g (lw_at lw_ms 82 rfl) rfl
theorem qs83 : (Cond.selects "QuotedRiverModel" ⟨"QuotedRiverModel", "numberAt", "(II)J"⟩ ⟨"QuotedRiverModel", "numberAt", "(II)J"⟩) ∈ lw_all := lw_g (lw_at lw_ms 83 rfl) rfl
theorem qs84 : (Cond.selects "QuotedRiverModel" ⟨"QuotedRiverModel", "isSeen", "(I)Z"⟩ ⟨"QuotedRiverModel", "isSeen", "(I)Z"⟩) ∈ lw_all := lw_g (lw_at lw_ms 84 rfl) rfl
theorem qs85 : (Cond.selects "QuotedRiverModel" ⟨"QuotedRiverModel", "askOf", "()I"⟩ ⟨"QuotedRiverModel", "askOf", "()I"⟩) ∈ lw_all := lw_g (lw_at lw_ms 85 rfl) rfl
theorem qs86 : (Cond.selects "QuotedRiverModel" ⟨"QuotedRiverModel", "layTurns", "(III)I"⟩ ⟨"QuotedRiverModel", "layTurns", "(III)I"⟩) ∈ lw_all := lw_g (lw_at lw_ms 86 rfl) rfl
theorem qs87 : (Cond.selects "QuotedRiverModel" ⟨"QuotedRiverModel", "startWeights", "()V"⟩ ⟨"QuotedRiverModel", "startWeights", "()V"⟩) ∈ lw_all := lw_g (lw_at lw_ms 87 rfl) rfl
theorem qs88 : (Cond.selects "QuotedRiverModel" ⟨"QuotedRiverModel", "stepWeights", "(I)V"⟩ ⟨"QuotedRiverModel", "stepWeights", "(I)V"⟩) ∈ lw_all := lw_g (lw_at lw_ms 88 rfl) rfl
theorem qs89 : (Cond.selects "QuotedRiverModel" ⟨"QuotedRiverModel", "weightFrom", "(II)J"⟩ ⟨"QuotedRiverModel", "weightFrom", "(II)J"⟩) ∈ lw_all := lw_g (lw_at lw_ms 89 rfl) rfl
theorem qs90 : (Cond.selects "QuotedRiverModel" ⟨"QuotedRiverModel", "keepAct", "(I)I"⟩ ⟨"QuotedRiverModel", "keepAct", "(I)I"⟩) ∈ lw_all := lw_g (lw_at lw_ms 90 rfl) rfl
theorem qs91 : (Cond.selects "QuotedRiverModel" ⟨"QuotedRiverModel", "goDrawn", "(J)V"⟩ ⟨"QuotedRiverModel", "goDrawn", "(J)V"⟩) ∈ lw_all := lw_g (lw_at lw_ms 91 rfl) rfl
