-- ===== PART A: goes FIRST, ahead of the names: the tables' words, and 'selects' of the private methods out of them =====
/-- a private method of a class that the tables say can be made, by its rows of tables_1 -/
def lw_okq (q : MethodName × Nat) : Prop := (q.1.cls ≠ "java/lang/invoke/MethodHandle" ∧ q.1.cls ≠ "java/lang/invoke/VarHandle") ∧ Cond.instantiable q.1.cls q.2 ∈ tables_1 ∧ Cond.privateMethod q.1 ∈ tables_1 ∧ Cond.instanceMethod q.1 ∈ tables_1
set_option maxRecDepth 100000
theorem lw_t1 {w : Cond} (h : w ∈ tables_1_1) : w ∈ tables_1 := List.mem_append_left _ h
theorem lw_t2 {w : Cond} (h : w ∈ tables_1_2) : w ∈ tables_1 := List.mem_append_right _ (List.mem_append_left _ h)
theorem lw_t3 {w : Cond} (h : w ∈ tables_1_3) : w ∈ tables_1 := List.mem_append_right _ (List.mem_append_right _ (List.mem_append_left _ h))
theorem lw_t4 {w : Cond} (h : w ∈ tables_1_4) : w ∈ tables_1 := List.mem_append_right _ (List.mem_append_right _ (List.mem_append_right _ (List.mem_append_left _ h)))
theorem lw_t5 {w : Cond} (h : w ∈ tables_1_5) : w ∈ tables_1 := List.mem_append_right _ (List.mem_append_right _ (List.mem_append_right _ (List.mem_append_right _ (List.mem_append_left _ h))))
theorem lw_t6 {w : Cond} (h : w ∈ tables_1_6) : w ∈ tables_1 := List.mem_append_right _ (List.mem_append_right _ (List.mem_append_right _ (List.mem_append_right _ (List.mem_append_right _ (List.mem_append_left _ h)))))
theorem lw_t7 {w : Cond} (h : w ∈ tables_1_7) : w ∈ tables_1 := List.mem_append_right _ (List.mem_append_right _ (List.mem_append_right _ (List.mem_append_right _ (List.mem_append_right _ (List.mem_append_right _ (List.mem_append_left _ h))))))
theorem lw_t8 {w : Cond} (h : w ∈ tables_1_8) : w ∈ tables_1 := List.mem_append_right _ (List.mem_append_right _ (List.mem_append_right _ (List.mem_append_right _ (List.mem_append_right _ (List.mem_append_right _ (List.mem_append_right _ (List.mem_append_left _ h)))))))
theorem lw_t9 {w : Cond} (h : w ∈ tables_1_9) : w ∈ tables_1 := List.mem_append_right _ (List.mem_append_right _ (List.mem_append_right _ (List.mem_append_right _ (List.mem_append_right _ (List.mem_append_right _ (List.mem_append_right _ (List.mem_append_right _ h)))))))
theorem lw_p0 : lw_okq (⟨"SomebodysLift", "liftOf", "(III)LSomebodysLift$Lift;"⟩, 40) := ⟨⟨by decide +kernel, by decide +kernel⟩, lw_t1 (List.mem_of_getElem? (i := 44) rfl), lw_t2 (List.mem_of_getElem? (i := 76) rfl), lw_t2 (List.mem_of_getElem? (i := 77) rfl)⟩
theorem lw_p1 : lw_okq (⟨"SomebodysLift", "isLift", "(I)Z"⟩, 40) := ⟨⟨by decide +kernel, by decide +kernel⟩, lw_t1 (List.mem_of_getElem? (i := 44) rfl), lw_t2 (List.mem_of_getElem? (i := 197) rfl), lw_t2 (List.mem_of_getElem? (i := 198) rfl)⟩
theorem lw_p2 : lw_okq (⟨"SomebodysLift", "gainOf", "(LSomebodysLift$Time;I)I"⟩, 40) := ⟨⟨by decide +kernel, by decide +kernel⟩, lw_t1 (List.mem_of_getElem? (i := 44) rfl), lw_t2 (List.mem_of_getElem? (i := 224) rfl), lw_t2 (List.mem_of_getElem? (i := 225) rfl)⟩
theorem lw_p3 : lw_okq (⟨"SomebodysLift", "climbOf", "(LSomebodysLift$Time;I)I"⟩, 40) := ⟨⟨by decide +kernel, by decide +kernel⟩, lw_t1 (List.mem_of_getElem? (i := 44) rfl), lw_t3 (List.mem_of_getElem? (i := 35) rfl), lw_t3 (List.mem_of_getElem? (i := 36) rfl)⟩
theorem lw_p4 : lw_okq (⟨"SomebodysLift$Reader", "clause", "()V"⟩, 5) := ⟨⟨by decide +kernel, by decide +kernel⟩, lw_t3 (List.mem_of_getElem? (i := 85) rfl), lw_t3 (List.mem_of_getElem? (i := 113) rfl), lw_t3 (List.mem_of_getElem? (i := 114) rfl)⟩
theorem lw_p5 : lw_okq (⟨"SomebodysLift$Reader", "here", "()I"⟩, 5) := ⟨⟨by decide +kernel, by decide +kernel⟩, lw_t3 (List.mem_of_getElem? (i := 85) rfl), lw_t3 (List.mem_of_getElem? (i := 117) rfl), lw_t3 (List.mem_of_getElem? (i := 118) rfl)⟩
theorem lw_p6 : lw_okq (⟨"SomebodysLift$Reader", "tested", "(Ljava/lang/String;I)V"⟩, 5) := ⟨⟨by decide +kernel, by decide +kernel⟩, lw_t3 (List.mem_of_getElem? (i := 85) rfl), lw_t3 (List.mem_of_getElem? (i := 122) rfl), lw_t3 (List.mem_of_getElem? (i := 123) rfl)⟩
theorem lw_p7 : lw_okq (⟨"SomebodysLift$Reader", "word", "(Ljava/lang/String;)V"⟩, 5) := ⟨⟨by decide +kernel, by decide +kernel⟩, lw_t3 (List.mem_of_getElem? (i := 85) rfl), lw_t3 (List.mem_of_getElem? (i := 126) rfl), lw_t3 (List.mem_of_getElem? (i := 127) rfl)⟩
theorem lw_p8 : lw_okq (⟨"SomebodysLift$Reader", "must", "(I)V"⟩, 5) := ⟨⟨by decide +kernel, by decide +kernel⟩, lw_t3 (List.mem_of_getElem? (i := 85) rfl), lw_t3 (List.mem_of_getElem? (i := 176) rfl), lw_t3 (List.mem_of_getElem? (i := 177) rfl)⟩
theorem lw_p9 : lw_okq (⟨"SomebodysLift$Reader", "off", "()LSomebodysLift$Off;"⟩, 5) := ⟨⟨by decide +kernel, by decide +kernel⟩, lw_t3 (List.mem_of_getElem? (i := 85) rfl), lw_t3 (List.mem_of_getElem? (i := 180) rfl), lw_t3 (List.mem_of_getElem? (i := 181) rfl)⟩
theorem lw_p10 : lw_okq (⟨"java/lang/NullPointerException", "getExtendedNPEMessage", "()Ljava/lang/String;"⟩, 8) := ⟨⟨by decide +kernel, by decide +kernel⟩, lw_t3 (List.mem_of_getElem? (i := 226) rfl), lw_t3 (List.mem_of_getElem? (i := 224) rfl), lw_t3 (List.mem_of_getElem? (i := 225) rfl)⟩
theorem lw_p11 : lw_okq (⟨"java/lang/Throwable", "fillInStackTrace", "(I)Ljava/lang/Throwable;"⟩, 6) := ⟨⟨by decide +kernel, by decide +kernel⟩, lw_t3 (List.mem_of_getElem? (i := 238) rfl), lw_t3 (List.mem_of_getElem? (i := 236) rfl), lw_t3 (List.mem_of_getElem? (i := 237) rfl)⟩
theorem lw_p12 : lw_okq (⟨"SomebodysLift$Reader", "number", "()I"⟩, 5) := ⟨⟨by decide +kernel, by decide +kernel⟩, lw_t3 (List.mem_of_getElem? (i := 85) rfl), lw_t4 (List.mem_of_getElem? (i := 28) rfl), lw_t4 (List.mem_of_getElem? (i := 29) rfl)⟩
theorem lw_p13 : lw_okq (⟨"SomebodysLift$Reader", "some", "()LSomebodysLift$Test;"⟩, 5) := ⟨⟨by decide +kernel, by decide +kernel⟩, lw_t3 (List.mem_of_getElem? (i := 85) rfl), lw_t4 (List.mem_of_getElem? (i := 35) rfl), lw_t4 (List.mem_of_getElem? (i := 36) rfl)⟩
theorem lw_p14 : lw_okq (⟨"SomebodysLift$Reader", "all", "()LSomebodysLift$Test;"⟩, 5) := ⟨⟨by decide +kernel, by decide +kernel⟩, lw_t3 (List.mem_of_getElem? (i := 85) rfl), lw_t4 (List.mem_of_getElem? (i := 58) rfl), lw_t4 (List.mem_of_getElem? (i := 59) rfl)⟩
theorem lw_p15 : lw_okq (⟨"SomebodysLift$Reader", "factor", "()LSomebodysLift$Test;"⟩, 5) := ⟨⟨by decide +kernel, by decide +kernel⟩, lw_t3 (List.mem_of_getElem? (i := 85) rfl), lw_t4 (List.mem_of_getElem? (i := 62) rfl), lw_t4 (List.mem_of_getElem? (i := 63) rfl)⟩
def lw_privs_1 : List (MethodName × Nat) := [(⟨"SomebodysLift", "liftOf", "(III)LSomebodysLift$Lift;"⟩, 40), (⟨"SomebodysLift", "isLift", "(I)Z"⟩, 40), (⟨"SomebodysLift", "gainOf", "(LSomebodysLift$Time;I)I"⟩, 40), (⟨"SomebodysLift", "climbOf", "(LSomebodysLift$Time;I)I"⟩, 40), (⟨"SomebodysLift$Reader", "clause", "()V"⟩, 5), (⟨"SomebodysLift$Reader", "here", "()I"⟩, 5), (⟨"SomebodysLift$Reader", "tested", "(Ljava/lang/String;I)V"⟩, 5), (⟨"SomebodysLift$Reader", "word", "(Ljava/lang/String;)V"⟩, 5), (⟨"SomebodysLift$Reader", "must", "(I)V"⟩, 5), (⟨"SomebodysLift$Reader", "off", "()LSomebodysLift$Off;"⟩, 5), (⟨"java/lang/NullPointerException", "getExtendedNPEMessage", "()Ljava/lang/String;"⟩, 8), (⟨"java/lang/Throwable", "fillInStackTrace", "(I)Ljava/lang/Throwable;"⟩, 6), (⟨"SomebodysLift$Reader", "number", "()I"⟩, 5), (⟨"SomebodysLift$Reader", "some", "()LSomebodysLift$Test;"⟩, 5), (⟨"SomebodysLift$Reader", "all", "()LSomebodysLift$Test;"⟩, 5), (⟨"SomebodysLift$Reader", "factor", "()LSomebodysLift$Test;"⟩, 5)]
theorem lw_r1 : ∀ q ∈ lw_privs_1, lw_okq q := List.forall_mem_cons.mpr ⟨lw_p0, List.forall_mem_cons.mpr ⟨lw_p1, List.forall_mem_cons.mpr ⟨lw_p2, List.forall_mem_cons.mpr ⟨lw_p3, List.forall_mem_cons.mpr ⟨lw_p4, List.forall_mem_cons.mpr ⟨lw_p5, List.forall_mem_cons.mpr ⟨lw_p6, List.forall_mem_cons.mpr ⟨lw_p7, List.forall_mem_cons.mpr ⟨lw_p8, List.forall_mem_cons.mpr ⟨lw_p9, List.forall_mem_cons.mpr ⟨lw_p10, List.forall_mem_cons.mpr ⟨lw_p11, List.forall_mem_cons.mpr ⟨lw_p12, List.forall_mem_cons.mpr ⟨lw_p13, List.forall_mem_cons.mpr ⟨lw_p14, List.forall_mem_cons.mpr ⟨lw_p15, fun _ h => absurd h List.not_mem_nil⟩⟩⟩⟩⟩⟩⟩⟩⟩⟩⟩⟩⟩⟩⟩⟩
theorem lw_p16 : lw_okq (⟨"SomebodysLift$Reader", "deeper", "()V"⟩, 5) := ⟨⟨by decide +kernel, by decide +kernel⟩, lw_t3 (List.mem_of_getElem? (i := 85) rfl), lw_t4 (List.mem_of_getElem? (i := 66) rfl), lw_t4 (List.mem_of_getElem? (i := 67) rfl)⟩
theorem lw_p17 : lw_okq (⟨"java/util/ArrayList", "add", "(Ljava/lang/Object;[Ljava/lang/Object;I)V"⟩, 3) := ⟨⟨by decide +kernel, by decide +kernel⟩, lw_t1 (List.mem_of_getElem? (i := 84) rfl), lw_t4 (List.mem_of_getElem? (i := 100) rfl), lw_t4 (List.mem_of_getElem? (i := 101) rfl)⟩
theorem lw_p18 : lw_okq (⟨"java/util/ArrayList", "grow", "()[Ljava/lang/Object;"⟩, 3) := ⟨⟨by decide +kernel, by decide +kernel⟩, lw_t1 (List.mem_of_getElem? (i := 84) rfl), lw_t4 (List.mem_of_getElem? (i := 104) rfl), lw_t4 (List.mem_of_getElem? (i := 105) rfl)⟩
theorem lw_p19 : lw_okq (⟨"java/util/ArrayList", "grow", "(I)[Ljava/lang/Object;"⟩, 3) := ⟨⟨by decide +kernel, by decide +kernel⟩, lw_t1 (List.mem_of_getElem? (i := 84) rfl), lw_t4 (List.mem_of_getElem? (i := 108) rfl), lw_t4 (List.mem_of_getElem? (i := 109) rfl)⟩
theorem lw_p20 : lw_okq (⟨"SomebodysLift$Reader", "told", "(Ljava/lang/String;)I"⟩, 5) := ⟨⟨by decide +kernel, by decide +kernel⟩, lw_t3 (List.mem_of_getElem? (i := 85) rfl), lw_t4 (List.mem_of_getElem? (i := 182) rfl), lw_t4 (List.mem_of_getElem? (i := 183) rfl)⟩
theorem lw_p21 : lw_okq (⟨"SomebodysLift", "turns", "(LSomebodysLift$Time;II)V"⟩, 40) := ⟨⟨by decide +kernel, by decide +kernel⟩, lw_t1 (List.mem_of_getElem? (i := 44) rfl), lw_t4 (List.mem_of_getElem? (i := 216) rfl), lw_t4 (List.mem_of_getElem? (i := 217) rfl)⟩
theorem lw_p22 : lw_okq (⟨"SomebodysLift", "minutesBy", "(II)I"⟩, 40) := ⟨⟨by decide +kernel, by decide +kernel⟩, lw_t1 (List.mem_of_getElem? (i := 44) rfl), lw_t5 (List.mem_of_getElem? (i := 50) rfl), lw_t5 (List.mem_of_getElem? (i := 51) rfl)⟩
theorem lw_p23 : lw_okq (⟨"SomebodysLift", "climbsTill", "(IIII)Z"⟩, 40) := ⟨⟨by decide +kernel, by decide +kernel⟩, lw_t1 (List.mem_of_getElem? (i := 44) rfl), lw_t5 (List.mem_of_getElem? (i := 54) rfl), lw_t5 (List.mem_of_getElem? (i := 55) rfl)⟩
theorem lw_p24 : lw_okq (⟨"SomebodysLift", "minutesStraight", "(I)I"⟩, 40) := ⟨⟨by decide +kernel, by decide +kernel⟩, lw_t1 (List.mem_of_getElem? (i := 44) rfl), lw_t5 (List.mem_of_getElem? (i := 62) rfl), lw_t5 (List.mem_of_getElem? (i := 63) rfl)⟩
theorem lw_p25 : lw_okq (⟨"SomebodysLift", "fewestBut", "(I)I"⟩, 40) := ⟨⟨by decide +kernel, by decide +kernel⟩, lw_t1 (List.mem_of_getElem? (i := 44) rfl), lw_t5 (List.mem_of_getElem? (i := 70) rfl), lw_t5 (List.mem_of_getElem? (i := 71) rfl)⟩
theorem lw_p26 : lw_okq (⟨"SomebodysLift", "minutesByTwo", "(III)I"⟩, 40) := ⟨⟨by decide +kernel, by decide +kernel⟩, lw_t1 (List.mem_of_getElem? (i := 44) rfl), lw_t5 (List.mem_of_getElem? (i := 78) rfl), lw_t5 (List.mem_of_getElem? (i := 79) rfl)⟩
theorem lw_p27 : lw_okq (⟨"SomebodysLift", "flies", "(I)Z"⟩, 40) := ⟨⟨by decide +kernel, by decide +kernel⟩, lw_t1 (List.mem_of_getElem? (i := 44) rfl), lw_t5 (List.mem_of_getElem? (i := 97) rfl), lw_t5 (List.mem_of_getElem? (i := 98) rfl)⟩
theorem lw_p28 : lw_okq (⟨"SomebodysLift", "isAsSeen", "(I)Z"⟩, 40) := ⟨⟨by decide +kernel, by decide +kernel⟩, lw_t1 (List.mem_of_getElem? (i := 44) rfl), lw_t5 (List.mem_of_getElem? (i := 109) rfl), lw_t5 (List.mem_of_getElem? (i := 110) rfl)⟩
theorem lw_p29 : lw_okq (⟨"SomebodysLift", "firstOther", "([BI)I"⟩, 40) := ⟨⟨by decide +kernel, by decide +kernel⟩, lw_t1 (List.mem_of_getElem? (i := 44) rfl), lw_t5 (List.mem_of_getElem? (i := 172) rfl), lw_t5 (List.mem_of_getElem? (i := 173) rfl)⟩
theorem lw_p30 : lw_okq (⟨"SomebodysLift$Tape", "has", "(I)V"⟩, 1) := ⟨⟨by decide +kernel, by decide +kernel⟩, lw_t1 (List.mem_of_getElem? (i := 174) rfl), lw_t6 (List.mem_of_getElem? (i := 91) rfl), lw_t6 (List.mem_of_getElem? (i := 92) rfl)⟩
theorem lw_p31 : lw_okq (⟨"SomebodysLift$Tape", "size", "()I"⟩, 1) := ⟨⟨by decide +kernel, by decide +kernel⟩, lw_t1 (List.mem_of_getElem? (i := 174) rfl), lw_t6 (List.mem_of_getElem? (i := 97) rfl), lw_t6 (List.mem_of_getElem? (i := 98) rfl)⟩
def lw_privs_2 : List (MethodName × Nat) := [(⟨"SomebodysLift$Reader", "deeper", "()V"⟩, 5), (⟨"java/util/ArrayList", "add", "(Ljava/lang/Object;[Ljava/lang/Object;I)V"⟩, 3), (⟨"java/util/ArrayList", "grow", "()[Ljava/lang/Object;"⟩, 3), (⟨"java/util/ArrayList", "grow", "(I)[Ljava/lang/Object;"⟩, 3), (⟨"SomebodysLift$Reader", "told", "(Ljava/lang/String;)I"⟩, 5), (⟨"SomebodysLift", "turns", "(LSomebodysLift$Time;II)V"⟩, 40), (⟨"SomebodysLift", "minutesBy", "(II)I"⟩, 40), (⟨"SomebodysLift", "climbsTill", "(IIII)Z"⟩, 40), (⟨"SomebodysLift", "minutesStraight", "(I)I"⟩, 40), (⟨"SomebodysLift", "fewestBut", "(I)I"⟩, 40), (⟨"SomebodysLift", "minutesByTwo", "(III)I"⟩, 40), (⟨"SomebodysLift", "flies", "(I)Z"⟩, 40), (⟨"SomebodysLift", "isAsSeen", "(I)Z"⟩, 40), (⟨"SomebodysLift", "firstOther", "([BI)I"⟩, 40), (⟨"SomebodysLift$Tape", "has", "(I)V"⟩, 1), (⟨"SomebodysLift$Tape", "size", "()I"⟩, 1)]
theorem lw_r2 : ∀ q ∈ lw_privs_2, lw_okq q := List.forall_mem_cons.mpr ⟨lw_p16, List.forall_mem_cons.mpr ⟨lw_p17, List.forall_mem_cons.mpr ⟨lw_p18, List.forall_mem_cons.mpr ⟨lw_p19, List.forall_mem_cons.mpr ⟨lw_p20, List.forall_mem_cons.mpr ⟨lw_p21, List.forall_mem_cons.mpr ⟨lw_p22, List.forall_mem_cons.mpr ⟨lw_p23, List.forall_mem_cons.mpr ⟨lw_p24, List.forall_mem_cons.mpr ⟨lw_p25, List.forall_mem_cons.mpr ⟨lw_p26, List.forall_mem_cons.mpr ⟨lw_p27, List.forall_mem_cons.mpr ⟨lw_p28, List.forall_mem_cons.mpr ⟨lw_p29, List.forall_mem_cons.mpr ⟨lw_p30, List.forall_mem_cons.mpr ⟨lw_p31, fun _ h => absurd h List.not_mem_nil⟩⟩⟩⟩⟩⟩⟩⟩⟩⟩⟩⟩⟩⟩⟩⟩
theorem lw_p32 : lw_okq (⟨"SomebodysLiftModel", "in", "(III)Z"⟩, 71) := ⟨⟨by decide +kernel, by decide +kernel⟩, lw_t6 (List.mem_of_getElem? (i := 153) rfl), lw_t7 (List.mem_of_getElem? (i := 137) rfl), lw_t7 (List.mem_of_getElem? (i := 138) rfl)⟩
theorem lw_p33 : lw_okq (⟨"SomebodysLiftModel", "isMile", "(I)Z"⟩, 71) := ⟨⟨by decide +kernel, by decide +kernel⟩, lw_t6 (List.mem_of_getElem? (i := 153) rfl), lw_t7 (List.mem_of_getElem? (i := 141) rfl), lw_t7 (List.mem_of_getElem? (i := 142) rfl)⟩
theorem lw_p34 : lw_okq (⟨"SomebodysLiftModel", "isLift", "(I)Z"⟩, 71) := ⟨⟨by decide +kernel, by decide +kernel⟩, lw_t6 (List.mem_of_getElem? (i := 153) rfl), lw_t7 (List.mem_of_getElem? (i := 149) rfl), lw_t7 (List.mem_of_getElem? (i := 150) rfl)⟩
theorem lw_p35 : lw_okq (⟨"SomebodysLiftModel", "goesText", "(I)Z"⟩, 71) := ⟨⟨by decide +kernel, by decide +kernel⟩, lw_t6 (List.mem_of_getElem? (i := 153) rfl), lw_t7 (List.mem_of_getElem? (i := 173) rfl), lw_t7 (List.mem_of_getElem? (i := 174) rfl)⟩
theorem lw_p36 : lw_okq (⟨"SomebodysLiftModel", "takesClause", "(I)Z"⟩, 71) := ⟨⟨by decide +kernel, by decide +kernel⟩, lw_t6 (List.mem_of_getElem? (i := 153) rfl), lw_t7 (List.mem_of_getElem? (i := 177) rfl), lw_t7 (List.mem_of_getElem? (i := 178) rfl)⟩
theorem lw_p37 : lw_okq (⟨"SomebodysLiftModel", "takesHead", "(I)Z"⟩, 71) := ⟨⟨by decide +kernel, by decide +kernel⟩, lw_t6 (List.mem_of_getElem? (i := 153) rfl), lw_t7 (List.mem_of_getElem? (i := 181) rfl), lw_t7 (List.mem_of_getElem? (i := 182) rfl)⟩
theorem lw_p38 : lw_okq (⟨"SomebodysLiftModel", "peek", "()I"⟩, 71) := ⟨⟨by decide +kernel, by decide +kernel⟩, lw_t6 (List.mem_of_getElem? (i := 153) rfl), lw_t7 (List.mem_of_getElem? (i := 185) rfl), lw_t7 (List.mem_of_getElem? (i := 186) rfl)⟩
theorem lw_p39 : lw_okq (⟨"SomebodysLiftModel", "takesWord", "(II)Z"⟩, 71) := ⟨⟨by decide +kernel, by decide +kernel⟩, lw_t6 (List.mem_of_getElem? (i := 153) rfl), lw_t7 (List.mem_of_getElem? (i := 189) rfl), lw_t7 (List.mem_of_getElem? (i := 190) rfl)⟩
theorem lw_p40 : lw_okq (⟨"SomebodysLiftModel", "takes", "(I)Z"⟩, 71) := ⟨⟨by decide +kernel, by decide +kernel⟩, lw_t6 (List.mem_of_getElem? (i := 153) rfl), lw_t7 (List.mem_of_getElem? (i := 193) rfl), lw_t7 (List.mem_of_getElem? (i := 194) rfl)⟩
theorem lw_p41 : lw_okq (⟨"SomebodysLiftModel", "takesNumber", "()Z"⟩, 71) := ⟨⟨by decide +kernel, by decide +kernel⟩, lw_t6 (List.mem_of_getElem? (i := 153) rfl), lw_t7 (List.mem_of_getElem? (i := 197) rfl), lw_t7 (List.mem_of_getElem? (i := 198) rfl)⟩
theorem lw_p42 : lw_okq (⟨"SomebodysLiftModel", "isDigit", "()Z"⟩, 71) := ⟨⟨by decide +kernel, by decide +kernel⟩, lw_t6 (List.mem_of_getElem? (i := 153) rfl), lw_t7 (List.mem_of_getElem? (i := 201) rfl), lw_t7 (List.mem_of_getElem? (i := 202) rfl)⟩
theorem lw_p43 : lw_okq (⟨"SomebodysLiftModel", "takesE", "(I)Z"⟩, 71) := ⟨⟨by decide +kernel, by decide +kernel⟩, lw_t6 (List.mem_of_getElem? (i := 153) rfl), lw_t7 (List.mem_of_getElem? (i := 205) rfl), lw_t7 (List.mem_of_getElem? (i := 206) rfl)⟩
theorem lw_p44 : lw_okq (⟨"SomebodysLiftModel", "takesTest", "()Z"⟩, 71) := ⟨⟨by decide +kernel, by decide +kernel⟩, lw_t6 (List.mem_of_getElem? (i := 153) rfl), lw_t7 (List.mem_of_getElem? (i := 209) rfl), lw_t7 (List.mem_of_getElem? (i := 210) rfl)⟩
theorem lw_p45 : lw_okq (⟨"SomebodysLiftModel", "place", "(I)I"⟩, 71) := ⟨⟨by decide +kernel, by decide +kernel⟩, lw_t6 (List.mem_of_getElem? (i := 153) rfl), lw_t7 (List.mem_of_getElem? (i := 213) rfl), lw_t7 (List.mem_of_getElem? (i := 214) rfl)⟩
theorem lw_p46 : lw_okq (⟨"SomebodysLiftModel", "emits", "(I)V"⟩, 71) := ⟨⟨by decide +kernel, by decide +kernel⟩, lw_t6 (List.mem_of_getElem? (i := 153) rfl), lw_t7 (List.mem_of_getElem? (i := 217) rfl), lw_t7 (List.mem_of_getElem? (i := 218) rfl)⟩
theorem lw_p47 : lw_okq (⟨"SomebodysLiftModel", "whole", "()V"⟩, 71) := ⟨⟨by decide +kernel, by decide +kernel⟩, lw_t6 (List.mem_of_getElem? (i := 153) rfl), lw_t7 (List.mem_of_getElem? (i := 221) rfl), lw_t7 (List.mem_of_getElem? (i := 222) rfl)⟩
def lw_privs_3 : List (MethodName × Nat) := [(⟨"SomebodysLiftModel", "in", "(III)Z"⟩, 71), (⟨"SomebodysLiftModel", "isMile", "(I)Z"⟩, 71), (⟨"SomebodysLiftModel", "isLift", "(I)Z"⟩, 71), (⟨"SomebodysLiftModel", "goesText", "(I)Z"⟩, 71), (⟨"SomebodysLiftModel", "takesClause", "(I)Z"⟩, 71), (⟨"SomebodysLiftModel", "takesHead", "(I)Z"⟩, 71), (⟨"SomebodysLiftModel", "peek", "()I"⟩, 71), (⟨"SomebodysLiftModel", "takesWord", "(II)Z"⟩, 71), (⟨"SomebodysLiftModel", "takes", "(I)Z"⟩, 71), (⟨"SomebodysLiftModel", "takesNumber", "()Z"⟩, 71), (⟨"SomebodysLiftModel", "isDigit", "()Z"⟩, 71), (⟨"SomebodysLiftModel", "takesE", "(I)Z"⟩, 71), (⟨"SomebodysLiftModel", "takesTest", "()Z"⟩, 71), (⟨"SomebodysLiftModel", "place", "(I)I"⟩, 71), (⟨"SomebodysLiftModel", "emits", "(I)V"⟩, 71), (⟨"SomebodysLiftModel", "whole", "()V"⟩, 71)]
theorem lw_r3 : ∀ q ∈ lw_privs_3, lw_okq q := List.forall_mem_cons.mpr ⟨lw_p32, List.forall_mem_cons.mpr ⟨lw_p33, List.forall_mem_cons.mpr ⟨lw_p34, List.forall_mem_cons.mpr ⟨lw_p35, List.forall_mem_cons.mpr ⟨lw_p36, List.forall_mem_cons.mpr ⟨lw_p37, List.forall_mem_cons.mpr ⟨lw_p38, List.forall_mem_cons.mpr ⟨lw_p39, List.forall_mem_cons.mpr ⟨lw_p40, List.forall_mem_cons.mpr ⟨lw_p41, List.forall_mem_cons.mpr ⟨lw_p42, List.forall_mem_cons.mpr ⟨lw_p43, List.forall_mem_cons.mpr ⟨lw_p44, List.forall_mem_cons.mpr ⟨lw_p45, List.forall_mem_cons.mpr ⟨lw_p46, List.forall_mem_cons.mpr ⟨lw_p47, fun _ h => absurd h List.not_mem_nil⟩⟩⟩⟩⟩⟩⟩⟩⟩⟩⟩⟩⟩⟩⟩⟩
theorem lw_p48 : lw_okq (⟨"SomebodysLiftModel", "settle", "(I)V"⟩, 71) := ⟨⟨by decide +kernel, by decide +kernel⟩, lw_t6 (List.mem_of_getElem? (i := 153) rfl), lw_t7 (List.mem_of_getElem? (i := 225) rfl), lw_t7 (List.mem_of_getElem? (i := 226) rfl)⟩
theorem lw_p49 : lw_okq (⟨"SomebodysLiftModel", "gain", "(I)I"⟩, 71) := ⟨⟨by decide +kernel, by decide +kernel⟩, lw_t6 (List.mem_of_getElem? (i := 153) rfl), lw_t7 (List.mem_of_getElem? (i := 233) rfl), lw_t7 (List.mem_of_getElem? (i := 234) rfl)⟩
theorem lw_p50 : lw_okq (⟨"SomebodysLiftModel", "begin", "()I"⟩, 71) := ⟨⟨by decide +kernel, by decide +kernel⟩, lw_t6 (List.mem_of_getElem? (i := 153) rfl), lw_t7 (List.mem_of_getElem? (i := 237) rfl), lw_t7 (List.mem_of_getElem? (i := 238) rfl)⟩
theorem lw_p51 : lw_okq (⟨"SomebodysLiftModel", "behind", "()I"⟩, 71) := ⟨⟨by decide +kernel, by decide +kernel⟩, lw_t6 (List.mem_of_getElem? (i := 153) rfl), lw_t8 (List.mem_of_getElem? (i := 1) rfl), lw_t8 (List.mem_of_getElem? (i := 2) rfl)⟩
theorem lw_p52 : lw_okq (⟨"SomebodysLiftModel", "holds", "(II)Z"⟩, 71) := ⟨⟨by decide +kernel, by decide +kernel⟩, lw_t6 (List.mem_of_getElem? (i := 153) rfl), lw_t8 (List.mem_of_getElem? (i := 5) rfl), lw_t8 (List.mem_of_getElem? (i := 6) rfl)⟩
theorem lw_p53 : lw_okq (⟨"SomebodysLiftModel", "factOf", "(II)I"⟩, 71) := ⟨⟨by decide +kernel, by decide +kernel⟩, lw_t6 (List.mem_of_getElem? (i := 153) rfl), lw_t8 (List.mem_of_getElem? (i := 9) rfl), lw_t8 (List.mem_of_getElem? (i := 10) rfl)⟩
theorem lw_p54 : lw_okq (⟨"SomebodysLiftModel", "climb", "(I)I"⟩, 71) := ⟨⟨by decide +kernel, by decide +kernel⟩, lw_t6 (List.mem_of_getElem? (i := 153) rfl), lw_t8 (List.mem_of_getElem? (i := 13) rfl), lw_t8 (List.mem_of_getElem? (i := 14) rfl)⟩
theorem lw_p55 : lw_okq (⟨"SomebodysLiftModel", "base", "()I"⟩, 71) := ⟨⟨by decide +kernel, by decide +kernel⟩, lw_t6 (List.mem_of_getElem? (i := 153) rfl), lw_t8 (List.mem_of_getElem? (i := 21) rfl), lw_t8 (List.mem_of_getElem? (i := 22) rfl)⟩
theorem lw_p56 : lw_okq (⟨"SomebodysLiftModel", "lastOf", "(II)I"⟩, 71) := ⟨⟨by decide +kernel, by decide +kernel⟩, lw_t6 (List.mem_of_getElem? (i := 153) rfl), lw_t8 (List.mem_of_getElem? (i := 25) rfl), lw_t8 (List.mem_of_getElem? (i := 26) rfl)⟩
theorem lw_p57 : lw_okq (⟨"SomebodysLiftModel", "safe", "()I"⟩, 71) := ⟨⟨by decide +kernel, by decide +kernel⟩, lw_t6 (List.mem_of_getElem? (i := 153) rfl), lw_t8 (List.mem_of_getElem? (i := 29) rfl), lw_t8 (List.mem_of_getElem? (i := 30) rfl)⟩
theorem lw_p58 : lw_okq (⟨"SomebodysLiftModel", "isTime", "(I)Z"⟩, 71) := ⟨⟨by decide +kernel, by decide +kernel⟩, lw_t6 (List.mem_of_getElem? (i := 153) rfl), lw_t8 (List.mem_of_getElem? (i := 41) rfl), lw_t8 (List.mem_of_getElem? (i := 42) rfl)⟩
theorem lw_p59 : lw_okq (⟨"SomebodysLiftModel", "goMinute", "(I)V"⟩, 71) := ⟨⟨by decide +kernel, by decide +kernel⟩, lw_t6 (List.mem_of_getElem? (i := 153) rfl), lw_t8 (List.mem_of_getElem? (i := 45) rfl), lw_t8 (List.mem_of_getElem? (i := 46) rfl)⟩
theorem lw_p60 : lw_okq (⟨"SomebodysLiftModel", "isPace", "(I)Z"⟩, 71) := ⟨⟨by decide +kernel, by decide +kernel⟩, lw_t6 (List.mem_of_getElem? (i := 153) rfl), lw_t8 (List.mem_of_getElem? (i := 53) rfl), lw_t8 (List.mem_of_getElem? (i := 54) rfl)⟩
theorem lw_p61 : lw_okq (⟨"SomebodysLiftModel", "apart", "(II)I"⟩, 71) := ⟨⟨by decide +kernel, by decide +kernel⟩, lw_t6 (List.mem_of_getElem? (i := 153) rfl), lw_t8 (List.mem_of_getElem? (i := 57) rfl), lw_t8 (List.mem_of_getElem? (i := 58) rfl)⟩
theorem lw_p62 : lw_okq (⟨"SomebodysLiftModel", "goGlide", "(II)Z"⟩, 71) := ⟨⟨by decide +kernel, by decide +kernel⟩, lw_t6 (List.mem_of_getElem? (i := 153) rfl), lw_t8 (List.mem_of_getElem? (i := 61) rfl), lw_t8 (List.mem_of_getElem? (i := 62) rfl)⟩
theorem lw_p63 : lw_okq (⟨"SomebodysLiftModel", "falls", "(III)I"⟩, 71) := ⟨⟨by decide +kernel, by decide +kernel⟩, lw_t6 (List.mem_of_getElem? (i := 153) rfl), lw_t8 (List.mem_of_getElem? (i := 65) rfl), lw_t8 (List.mem_of_getElem? (i := 66) rfl)⟩
def lw_privs_4 : List (MethodName × Nat) := [(⟨"SomebodysLiftModel", "settle", "(I)V"⟩, 71), (⟨"SomebodysLiftModel", "gain", "(I)I"⟩, 71), (⟨"SomebodysLiftModel", "begin", "()I"⟩, 71), (⟨"SomebodysLiftModel", "behind", "()I"⟩, 71), (⟨"SomebodysLiftModel", "holds", "(II)Z"⟩, 71), (⟨"SomebodysLiftModel", "factOf", "(II)I"⟩, 71), (⟨"SomebodysLiftModel", "climb", "(I)I"⟩, 71), (⟨"SomebodysLiftModel", "base", "()I"⟩, 71), (⟨"SomebodysLiftModel", "lastOf", "(II)I"⟩, 71), (⟨"SomebodysLiftModel", "safe", "()I"⟩, 71), (⟨"SomebodysLiftModel", "isTime", "(I)Z"⟩, 71), (⟨"SomebodysLiftModel", "goMinute", "(I)V"⟩, 71), (⟨"SomebodysLiftModel", "isPace", "(I)Z"⟩, 71), (⟨"SomebodysLiftModel", "apart", "(II)I"⟩, 71), (⟨"SomebodysLiftModel", "goGlide", "(II)Z"⟩, 71), (⟨"SomebodysLiftModel", "falls", "(III)I"⟩, 71)]
theorem lw_r4 : ∀ q ∈ lw_privs_4, lw_okq q := List.forall_mem_cons.mpr ⟨lw_p48, List.forall_mem_cons.mpr ⟨lw_p49, List.forall_mem_cons.mpr ⟨lw_p50, List.forall_mem_cons.mpr ⟨lw_p51, List.forall_mem_cons.mpr ⟨lw_p52, List.forall_mem_cons.mpr ⟨lw_p53, List.forall_mem_cons.mpr ⟨lw_p54, List.forall_mem_cons.mpr ⟨lw_p55, List.forall_mem_cons.mpr ⟨lw_p56, List.forall_mem_cons.mpr ⟨lw_p57, List.forall_mem_cons.mpr ⟨lw_p58, List.forall_mem_cons.mpr ⟨lw_p59, List.forall_mem_cons.mpr ⟨lw_p60, List.forall_mem_cons.mpr ⟨lw_p61, List.forall_mem_cons.mpr ⟨lw_p62, List.forall_mem_cons.mpr ⟨lw_p63, fun _ h => absurd h List.not_mem_nil⟩⟩⟩⟩⟩⟩⟩⟩⟩⟩⟩⟩⟩⟩⟩⟩
theorem lw_p64 : lw_okq (⟨"SomebodysLiftModel", "upOf", "(II)I"⟩, 71) := ⟨⟨by decide +kernel, by decide +kernel⟩, lw_t6 (List.mem_of_getElem? (i := 153) rfl), lw_t8 (List.mem_of_getElem? (i := 73) rfl), lw_t8 (List.mem_of_getElem? (i := 74) rfl)⟩
theorem lw_p65 : lw_okq (⟨"SomebodysLiftModel", "save", "()V"⟩, 71) := ⟨⟨by decide +kernel, by decide +kernel⟩, lw_t6 (List.mem_of_getElem? (i := 153) rfl), lw_t8 (List.mem_of_getElem? (i := 77) rfl), lw_t8 (List.mem_of_getElem? (i := 78) rfl)⟩
theorem lw_p66 : lw_okq (⟨"SomebodysLiftModel", "putBack", "()V"⟩, 71) := ⟨⟨by decide +kernel, by decide +kernel⟩, lw_t6 (List.mem_of_getElem? (i := 153) rfl), lw_t8 (List.mem_of_getElem? (i := 81) rfl), lw_t8 (List.mem_of_getElem? (i := 82) rfl)⟩
theorem lw_p67 : lw_okq (⟨"SomebodysLiftModel", "canReach", "(II)Z"⟩, 71) := ⟨⟨by decide +kernel, by decide +kernel⟩, lw_t6 (List.mem_of_getElem? (i := 153) rfl), lw_t8 (List.mem_of_getElem? (i := 101) rfl), lw_t8 (List.mem_of_getElem? (i := 102) rfl)⟩
theorem lw_p68 : lw_okq (⟨"SomebodysLiftModel", "byOf", "(III)I"⟩, 71) := ⟨⟨by decide +kernel, by decide +kernel⟩, lw_t6 (List.mem_of_getElem? (i := 153) rfl), lw_t8 (List.mem_of_getElem? (i := 117) rfl), lw_t8 (List.mem_of_getElem? (i := 118) rfl)⟩
theorem lw_p69 : lw_okq (⟨"SomebodysLiftModel", "rises", "(IIII)Z"⟩, 71) := ⟨⟨by decide +kernel, by decide +kernel⟩, lw_t6 (List.mem_of_getElem? (i := 153) rfl), lw_t8 (List.mem_of_getElem? (i := 121) rfl), lw_t8 (List.mem_of_getElem? (i := 122) rfl)⟩
theorem lw_p70 : lw_okq (⟨"SomebodysLiftModel", "straightOf", "(I)I"⟩, 71) := ⟨⟨by decide +kernel, by decide +kernel⟩, lw_t6 (List.mem_of_getElem? (i := 153) rfl), lw_t8 (List.mem_of_getElem? (i := 129) rfl), lw_t8 (List.mem_of_getElem? (i := 130) rfl)⟩
theorem lw_p71 : lw_okq (⟨"SomebodysLiftModel", "layBest", "(I)V"⟩, 71) := ⟨⟨by decide +kernel, by decide +kernel⟩, lw_t6 (List.mem_of_getElem? (i := 153) rfl), lw_t8 (List.mem_of_getElem? (i := 137) rfl), lw_t8 (List.mem_of_getElem? (i := 138) rfl)⟩
theorem lw_p72 : lw_okq (⟨"SomebodysLiftModel", "takesBest", "(III)V"⟩, 71) := ⟨⟨by decide +kernel, by decide +kernel⟩, lw_t6 (List.mem_of_getElem? (i := 153) rfl), lw_t8 (List.mem_of_getElem? (i := 141) rfl), lw_t8 (List.mem_of_getElem? (i := 142) rfl)⟩
theorem lw_p73 : lw_okq (⟨"SomebodysLiftModel", "isSeen", "(I)Z"⟩, 71) := ⟨⟨by decide +kernel, by decide +kernel⟩, lw_t6 (List.mem_of_getElem? (i := 153) rfl), lw_t8 (List.mem_of_getElem? (i := 169) rfl), lw_t8 (List.mem_of_getElem? (i := 170) rfl)⟩
theorem lw_p74 : lw_okq (⟨"SomebodysLiftModel", "lowestTerms", "(III)J"⟩, 71) := ⟨⟨by decide +kernel, by decide +kernel⟩, lw_t6 (List.mem_of_getElem? (i := 153) rfl), lw_t8 (List.mem_of_getElem? (i := 178) rfl), lw_t8 (List.mem_of_getElem? (i := 179) rfl)⟩
theorem lw_p75 : lw_okq (⟨"SomebodysLiftModel", "divisor", "(II)I"⟩, 71) := ⟨⟨by decide +kernel, by decide +kernel⟩, lw_t6 (List.mem_of_getElem? (i := 153) rfl), lw_t8 (List.mem_of_getElem? (i := 182) rfl), lw_t8 (List.mem_of_getElem? (i := 183) rfl)⟩
theorem lw_p76 : lw_okq (⟨"SomebodysLiftModel", "isTape", "(I)Z"⟩, 71) := ⟨⟨by decide +kernel, by decide +kernel⟩, lw_t6 (List.mem_of_getElem? (i := 153) rfl), lw_t8 (List.mem_of_getElem? (i := 202) rfl), lw_t8 (List.mem_of_getElem? (i := 203) rfl)⟩
theorem lw_p77 : lw_okq (⟨"SomebodysLiftModel", "turnsAct", "(II)I"⟩, 71) := ⟨⟨by decide +kernel, by decide +kernel⟩, lw_t6 (List.mem_of_getElem? (i := 153) rfl), lw_t8 (List.mem_of_getElem? (i := 218) rfl), lw_t8 (List.mem_of_getElem? (i := 219) rfl)⟩
theorem lw_p78 : lw_okq (⟨"SomebodysLiftModel", "body", "(I)V"⟩, 71) := ⟨⟨by decide +kernel, by decide +kernel⟩, lw_t6 (List.mem_of_getElem? (i := 153) rfl), lw_t8 (List.mem_of_getElem? (i := 222) rfl), lw_t8 (List.mem_of_getElem? (i := 223) rfl)⟩
theorem lw_p79 : lw_okq (⟨"SomebodysLiftModel", "liftTurns", "(II)I"⟩, 71) := ⟨⟨by decide +kernel, by decide +kernel⟩, lw_t6 (List.mem_of_getElem? (i := 153) rfl), lw_t8 (List.mem_of_getElem? (i := 226) rfl), lw_t8 (List.mem_of_getElem? (i := 227) rfl)⟩
def lw_privs_5 : List (MethodName × Nat) := [(⟨"SomebodysLiftModel", "upOf", "(II)I"⟩, 71), (⟨"SomebodysLiftModel", "save", "()V"⟩, 71), (⟨"SomebodysLiftModel", "putBack", "()V"⟩, 71), (⟨"SomebodysLiftModel", "canReach", "(II)Z"⟩, 71), (⟨"SomebodysLiftModel", "byOf", "(III)I"⟩, 71), (⟨"SomebodysLiftModel", "rises", "(IIII)Z"⟩, 71), (⟨"SomebodysLiftModel", "straightOf", "(I)I"⟩, 71), (⟨"SomebodysLiftModel", "layBest", "(I)V"⟩, 71), (⟨"SomebodysLiftModel", "takesBest", "(III)V"⟩, 71), (⟨"SomebodysLiftModel", "isSeen", "(I)Z"⟩, 71), (⟨"SomebodysLiftModel", "lowestTerms", "(III)J"⟩, 71), (⟨"SomebodysLiftModel", "divisor", "(II)I"⟩, 71), (⟨"SomebodysLiftModel", "isTape", "(I)Z"⟩, 71), (⟨"SomebodysLiftModel", "turnsAct", "(II)I"⟩, 71), (⟨"SomebodysLiftModel", "body", "(I)V"⟩, 71), (⟨"SomebodysLiftModel", "liftTurns", "(II)I"⟩, 71)]
theorem lw_r5 : ∀ q ∈ lw_privs_5, lw_okq q := List.forall_mem_cons.mpr ⟨lw_p64, List.forall_mem_cons.mpr ⟨lw_p65, List.forall_mem_cons.mpr ⟨lw_p66, List.forall_mem_cons.mpr ⟨lw_p67, List.forall_mem_cons.mpr ⟨lw_p68, List.forall_mem_cons.mpr ⟨lw_p69, List.forall_mem_cons.mpr ⟨lw_p70, List.forall_mem_cons.mpr ⟨lw_p71, List.forall_mem_cons.mpr ⟨lw_p72, List.forall_mem_cons.mpr ⟨lw_p73, List.forall_mem_cons.mpr ⟨lw_p74, List.forall_mem_cons.mpr ⟨lw_p75, List.forall_mem_cons.mpr ⟨lw_p76, List.forall_mem_cons.mpr ⟨lw_p77, List.forall_mem_cons.mpr ⟨lw_p78, List.forall_mem_cons.mpr ⟨lw_p79, fun _ h => absurd h List.not_mem_nil⟩⟩⟩⟩⟩⟩⟩⟩⟩⟩⟩⟩⟩⟩⟩⟩
theorem lw_p80 : lw_okq (⟨"SomebodysLiftModel", "climbsAct", "(II)I"⟩, 71) := ⟨⟨by decide +kernel, by decide +kernel⟩, lw_t6 (List.mem_of_getElem? (i := 153) rfl), lw_t8 (List.mem_of_getElem? (i := 230) rfl), lw_t8 (List.mem_of_getElem? (i := 231) rfl)⟩
theorem lw_p81 : lw_okq (⟨"SomebodysLiftModel", "strongClimbs", "(II)I"⟩, 71) := ⟨⟨by decide +kernel, by decide +kernel⟩, lw_t6 (List.mem_of_getElem? (i := 153) rfl), lw_t8 (List.mem_of_getElem? (i := 234) rfl), lw_t8 (List.mem_of_getElem? (i := 235) rfl)⟩
theorem lw_p82 : lw_okq (⟨"SomebodysLiftModel", "liftClimbs", "(II)I"⟩, 71) := ⟨⟨by decide +kernel, by decide +kernel⟩, lw_t6 (List.mem_of_getElem? (i := 153) rfl), lw_t8 (List.mem_of_getElem? (i := 238) rfl), lw_t8 (List.mem_of_getElem? (i := 239) rfl)⟩
theorem lw_p83 : lw_okq (⟨"SomebodysLiftModel", "tellsAct", "(II)I"⟩, 71) := ⟨⟨by decide +kernel, by decide +kernel⟩, lw_t6 (List.mem_of_getElem? (i := 153) rfl), lw_t9 (List.mem_of_getElem? (i := 2) rfl), lw_t9 (List.mem_of_getElem? (i := 3) rfl)⟩
theorem lw_p84 : lw_okq (⟨"SomebodysLiftModel", "liftTells", "(II)I"⟩, 71) := ⟨⟨by decide +kernel, by decide +kernel⟩, lw_t6 (List.mem_of_getElem? (i := 153) rfl), lw_t9 (List.mem_of_getElem? (i := 6) rfl), lw_t9 (List.mem_of_getElem? (i := 7) rfl)⟩
theorem lw_p85 : lw_okq (⟨"SomebodysLiftModel", "narrow", "(IJ)J"⟩, 71) := ⟨⟨by decide +kernel, by decide +kernel⟩, lw_t6 (List.mem_of_getElem? (i := 153) rfl), lw_t9 (List.mem_of_getElem? (i := 30) rfl), lw_t9 (List.mem_of_getElem? (i := 31) rfl)⟩
def lw_privs_6 : List (MethodName × Nat) := [(⟨"SomebodysLiftModel", "climbsAct", "(II)I"⟩, 71), (⟨"SomebodysLiftModel", "strongClimbs", "(II)I"⟩, 71), (⟨"SomebodysLiftModel", "liftClimbs", "(II)I"⟩, 71), (⟨"SomebodysLiftModel", "tellsAct", "(II)I"⟩, 71), (⟨"SomebodysLiftModel", "liftTells", "(II)I"⟩, 71), (⟨"SomebodysLiftModel", "narrow", "(IJ)J"⟩, 71)]
theorem lw_r6 : ∀ q ∈ lw_privs_6, lw_okq q := List.forall_mem_cons.mpr ⟨lw_p80, List.forall_mem_cons.mpr ⟨lw_p81, List.forall_mem_cons.mpr ⟨lw_p82, List.forall_mem_cons.mpr ⟨lw_p83, List.forall_mem_cons.mpr ⟨lw_p84, List.forall_mem_cons.mpr ⟨lw_p85, fun _ h => absurd h List.not_mem_nil⟩⟩⟩⟩⟩⟩
def lw_privs : List (MethodName × Nat) := lw_privs_1 ++ (lw_privs_2 ++ (lw_privs_3 ++ (lw_privs_4 ++ (lw_privs_5 ++ (lw_privs_6)))))
def lw_tbl : List Cond := k2_sels lw_privs ++ tables_1
theorem lw_privs_ok : ∀ q ∈ lw_privs, lw_okq q := by
  show ∀ q ∈ lw_privs_1 ++ (lw_privs_2 ++ (lw_privs_3 ++ (lw_privs_4 ++ (lw_privs_5 ++ (lw_privs_6))))), lw_okq q
  exact List.forall_mem_append.mpr ⟨lw_r1, List.forall_mem_append.mpr ⟨lw_r2, List.forall_mem_append.mpr ⟨lw_r3, List.forall_mem_append.mpr ⟨lw_r4, List.forall_mem_append.mpr ⟨lw_r5, lw_r6⟩⟩⟩⟩⟩
-- ===== ONE list of words for every method: the tables' words that hold all through a run =====
def lw_all : List Cond := lw_tbl.filter goodWord
/-- a word of the tables by its place: claim/WORDS.tsv -/
theorem lw_w {w : Cond} (i : Nat) (h : lw_tbl[i]? = some w) (g : goodWord w = true) : w ∈ lw_all := List.mem_filter.mpr ⟨List.mem_of_getElem? h, g⟩
theorem lw_all_tbl {w : Cond} (h : w ∈ lw_all) : w ∈ lw_tbl := (List.mem_filter.mp h).1
theorem lw_self : GoodIn lw_all lw_all := fun w h => ⟨h, good_of_word (List.mem_filter.mp h).2⟩
/-- a class's field words, by their places -/
theorem lw_in (ws : List Cond) (ps : List Nat) (hp : ws = ps.filterMap (fun i => lw_tbl[i]?)) (hg : ws.all goodWord = true) : ∀ w ∈ ws, w ∈ lw_all := by
  intro w h
  have h1 := List.all_eq_true.mp hg w h
  rw [hp] at h
  obtain ⟨i, -, hi⟩ := List.mem_filterMap.mp h
  exact lw_w i hi h1
/-- the words of a contract for the method y with code b, L locals, answer r -/
abbrev ws_ (y : MethodName) (b : ByteArray) (L : Nat) (r : Option FieldType) : List Cond := Cond.code y b L r :: lw_all
theorem lw_meth {y : MethodName} {b : ByteArray} {L : Nat} {r : Option FieldType} (h : Cond.code y b L r ∈ lw_all) : GoodIn lw_all (ws_ y b L r) := by
  intro w hw
  rcases List.mem_cons.mp hw with e | e
  · rw [e]
    exact lw_self _ h
  · exact lw_self _ e
theorem lw_app {a c : List Cond} (ha : ∀ w ∈ a, w ∈ lw_all) (hc : GoodIn lw_all c) : GoodIn lw_all (a ++ c) := by
  intro w hw
  rcases List.mem_append.mp hw with e | e
  · exact lw_self w (ha w e)
  · exact hc w e
/-- what a call through an object asks: cwV n hts (lw_V ..) -/
theorem lw_V {own : String} {idx : Nat} {C : String} {y : MethodName} {b : ByteArray} {L : Nat} {r : Option FieldType} (h1 : Cond.methodLink own idx y ∈ lw_all) (h2 : Cond.instanceMethod y ∈ lw_all) (h3 : Cond.selects C y y ∈ lw_all) (h4 : Cond.initialized C ∈ lw_all) (h5 : Cond.code y b L r ∈ lw_all) : GoodIn lw_all (wsV own idx C y (ws_ y b L r)) := by
  refine lw_app ?_ (lw_meth h5)
  intro w hw
  simp only [List.mem_cons, List.not_mem_nil, or_false] at hw
  rcases hw with e | e | e | e
  · rw [e]; exact h1
  · rw [e]; exact h2
  · rw [e]; exact h3
  · rw [e]; exact h4
/-- what a static call asks: va_cwS n hts (lw_S ..) -/
theorem lw_S {own : String} {idx : Nat} {y : MethodName} {b : ByteArray} {L : Nat} {r : Option FieldType} (h1 : Cond.methodLink own idx y ∈ lw_all) (h2 : Cond.static y ∈ lw_all) (h3 : Cond.initialized y.cls ∈ lw_all) (h4 : Cond.code y b L r ∈ lw_all) : GoodIn lw_all (va_wsS own idx y (ws_ y b L r)) := by
  refine lw_app ?_ (lw_meth h4)
  intro w hw
  simp only [List.mem_cons, List.not_mem_nil, or_false] at hw
  rcases hw with e | e | e
  · rw [e]; exact h1
  · rw [e]; exact h2
  · rw [e]; exact h3
/-- the words of a contract for a method WITH HANDLERS (hh: its table) -/
abbrev wsW_ (y : MethodName) (b : ByteArray) (L : Nat) (r : Option FieldType) (hh : List (Nat × Nat × Nat × Nat)) : List Cond := Cond.codeWith y b L r hh :: lw_all
theorem lw_methW {y : MethodName} {b : ByteArray} {L : Nat} {r : Option FieldType} {hh : List (Nat × Nat × Nat × Nat)} (h : Cond.codeWith y b L r hh ∈ lw_all) : GoodIn lw_all (wsW_ y b L r hh) := by
  intro w hw
  rcases List.mem_cons.mp hw with e | e
  · rw [e]
    exact lw_self _ h
  · exact lw_self _ e
/-- any list of words by their places (lw_in), good -/
theorem lw_good {ws : List Cond} (h : ∀ w ∈ ws, w ∈ lw_all) : GoodIn lw_all ws := fun w hw => lw_self w (h w hw)
/-- what a call of a method with handlers asks: vx_cwVW n hts (lw_VW ..), vx_cwSW n hts (lw_SW ..) -/
theorem lw_VW {own : String} {idx : Nat} {C : String} {y : MethodName} {b : ByteArray} {L : Nat} {r : Option FieldType} {hh : List (Nat × Nat × Nat × Nat)} (h1 : Cond.methodLink own idx y ∈ lw_all) (h2 : Cond.instanceMethod y ∈ lw_all) (h3 : Cond.selects C y y ∈ lw_all) (h4 : Cond.initialized C ∈ lw_all) (h5 : Cond.codeWith y b L r hh ∈ lw_all) : GoodIn lw_all (wsV own idx C y (wsW_ y b L r hh)) := by
  refine lw_app ?_ (lw_methW h5)
  intro w hw
  simp only [List.mem_cons, List.not_mem_nil, or_false] at hw
  rcases hw with e | e | e | e
  · rw [e]; exact h1
  · rw [e]; exact h2
  · rw [e]; exact h3
  · rw [e]; exact h4
theorem lw_SW {own : String} {idx : Nat} {y : MethodName} {b : ByteArray} {L : Nat} {r : Option FieldType} {hh : List (Nat × Nat × Nat × Nat)} (h1 : Cond.methodLink own idx y ∈ lw_all) (h2 : Cond.static y ∈ lw_all) (h3 : Cond.initialized y.cls ∈ lw_all) (h4 : Cond.codeWith y b L r hh ∈ lw_all) : GoodIn lw_all (va_wsS own idx y (wsW_ y b L r hh)) := by
  refine lw_app ?_ (lw_methW h4)
  intro w hw
  simp only [List.mem_cons, List.not_mem_nil, or_false] at hw
  rcases hw with e | e | e
  · rw [e]; exact h1
  · rw [e]; exact h2
  · rw [e]; exact h3
/-- a word by its place in its run of the tables -/
theorem lw_at {r : List Cond} (hr : ∀ w ∈ r, w ∈ lw_tbl) {w : Cond} (i : Nat) (h : r[i]? = some w) : w ∈ lw_tbl := hr w (List.mem_of_getElem? h)
theorem lw_g {w : Cond} (h : w ∈ lw_tbl) (g : goodWord w = true) : w ∈ lw_all := List.mem_filter.mpr ⟨h, g⟩
theorem lw_ms : ∀ w ∈ k2_sels lw_privs, w ∈ lw_tbl := fun w h => show w ∈ k2_sels lw_privs ++ tables_1 from List.mem_append_left _ h
theorem lw_m1 : ∀ w ∈ tables_1_1, w ∈ lw_tbl := fun w h => show w ∈ k2_sels lw_privs ++ tables_1 from List.mem_append_right (k2_sels lw_privs) (show w ∈ tables_1 from List.mem_append_left _ h)
theorem lw_m2 : ∀ w ∈ tables_1_2, w ∈ lw_tbl := fun w h => show w ∈ k2_sels lw_privs ++ tables_1 from List.mem_append_right (k2_sels lw_privs) (show w ∈ tables_1 from List.mem_append_right _ (List.mem_append_left _ h))
theorem lw_m3 : ∀ w ∈ tables_1_3, w ∈ lw_tbl := fun w h => show w ∈ k2_sels lw_privs ++ tables_1 from List.mem_append_right (k2_sels lw_privs) (show w ∈ tables_1 from List.mem_append_right _ (List.mem_append_right _ (List.mem_append_left _ h)))
theorem lw_m4 : ∀ w ∈ tables_1_4, w ∈ lw_tbl := fun w h => show w ∈ k2_sels lw_privs ++ tables_1 from List.mem_append_right (k2_sels lw_privs) (show w ∈ tables_1 from List.mem_append_right _ (List.mem_append_right _ (List.mem_append_right _ (List.mem_append_left _ h))))
theorem lw_m5 : ∀ w ∈ tables_1_5, w ∈ lw_tbl := fun w h => show w ∈ k2_sels lw_privs ++ tables_1 from List.mem_append_right (k2_sels lw_privs) (show w ∈ tables_1 from List.mem_append_right _ (List.mem_append_right _ (List.mem_append_right _ (List.mem_append_right _ (List.mem_append_left _ h)))))
theorem lw_m6 : ∀ w ∈ tables_1_6, w ∈ lw_tbl := fun w h => show w ∈ k2_sels lw_privs ++ tables_1 from List.mem_append_right (k2_sels lw_privs) (show w ∈ tables_1 from List.mem_append_right _ (List.mem_append_right _ (List.mem_append_right _ (List.mem_append_right _ (List.mem_append_right _ (List.mem_append_left _ h))))))
theorem lw_m7 : ∀ w ∈ tables_1_7, w ∈ lw_tbl := fun w h => show w ∈ k2_sels lw_privs ++ tables_1 from List.mem_append_right (k2_sels lw_privs) (show w ∈ tables_1 from List.mem_append_right _ (List.mem_append_right _ (List.mem_append_right _ (List.mem_append_right _ (List.mem_append_right _ (List.mem_append_right _ (List.mem_append_left _ h)))))))
theorem lw_m8 : ∀ w ∈ tables_1_8, w ∈ lw_tbl := fun w h => show w ∈ k2_sels lw_privs ++ tables_1 from List.mem_append_right (k2_sels lw_privs) (show w ∈ tables_1 from List.mem_append_right _ (List.mem_append_right _ (List.mem_append_right _ (List.mem_append_right _ (List.mem_append_right _ (List.mem_append_right _ (List.mem_append_right _ (List.mem_append_left _ h))))))))
theorem lw_m9 : ∀ w ∈ tables_1_9, w ∈ lw_tbl := fun w h => show w ∈ k2_sels lw_privs ++ tables_1 from List.mem_append_right (k2_sels lw_privs) (show w ∈ tables_1 from List.mem_append_right _ (List.mem_append_right _ (List.mem_append_right _ (List.mem_append_right _ (List.mem_append_right _ (List.mem_append_right _ (List.mem_append_right _ (List.mem_append_right _ h))))))))
theorem qs0 : (Cond.selects "SomebodysLift" ⟨"SomebodysLift", "liftOf", "(III)LSomebodysLift$Lift;"⟩ ⟨"SomebodysLift", "liftOf", "(III)LSomebodysLift$Lift;"⟩) ∈ lw_all := lw_g (lw_at lw_ms 0 rfl) rfl
theorem qs1 : (Cond.selects "SomebodysLift" ⟨"SomebodysLift", "isLift", "(I)Z"⟩ ⟨"SomebodysLift", "isLift", "(I)Z"⟩) ∈ lw_all := lw_g (lw_at lw_ms 1 rfl) rfl
theorem qs2 : (Cond.selects "SomebodysLift" ⟨"SomebodysLift", "gainOf", "(LSomebodysLift$Time;I)I"⟩ ⟨"SomebodysLift", "gainOf", "(LSomebodysLift$Time;I)I"⟩) ∈ lw_all := lw_g (lw_at lw_ms 2 rfl) rfl
theorem qs3 : (Cond.selects "SomebodysLift" ⟨"SomebodysLift", "climbOf", "(LSomebodysLift$Time;I)I"⟩ ⟨"SomebodysLift", "climbOf", "(LSomebodysLift$Time;I)I"⟩) ∈ lw_all := lw_g (lw_at lw_ms 3 rfl) rfl
theorem qs4 : (Cond.selects "SomebodysLift$Reader" ⟨"SomebodysLift$Reader", "clause", "()V"⟩ ⟨"SomebodysLift$Reader", "clause", "()V"⟩) ∈ lw_all := lw_g (lw_at lw_ms 4 rfl) rfl
theorem qs5 : (Cond.selects "SomebodysLift$Reader" ⟨"SomebodysLift$Reader", "here", "()I"⟩ ⟨"SomebodysLift$Reader", "here", "()I"⟩) ∈ lw_all := lw_g (lw_at lw_ms 5 rfl) rfl
theorem qs6 : (Cond.selects "SomebodysLift$Reader" ⟨"SomebodysLift$Reader", "tested", "(Ljava/lang/String;I)V"⟩ ⟨"SomebodysLift$Reader", "tested", "(Ljava/lang/String;I)V"⟩) ∈ lw_all := lw_g (lw_at lw_ms 6 rfl) rfl
theorem qs7 : (Cond.selects "SomebodysLift$Reader" ⟨"SomebodysLift$Reader", "word", "(Ljava/lang/String;)V"⟩ ⟨"SomebodysLift$Reader", "word", "(Ljava/lang/String;)V"⟩) ∈ lw_all := lw_g (lw_at lw_ms 7 rfl) rfl
theorem qs8 : (Cond.selects "SomebodysLift$Reader" ⟨"SomebodysLift$Reader", "must", "(I)V"⟩ ⟨"SomebodysLift$Reader", "must", "(I)V"⟩) ∈ lw_all := lw_g (lw_at lw_ms 8 rfl) rfl
theorem qs9 : (Cond.selects "SomebodysLift$Reader" ⟨"SomebodysLift$Reader", "off", "()LSomebodysLift$Off;"⟩ ⟨"SomebodysLift$Reader", "off", "()LSomebodysLift$Off;"⟩) ∈ lw_all := lw_g (lw_at lw_ms 9 rfl) rfl
theorem qs10 : (Cond.selects "java/lang/NullPointerException" ⟨"java/lang/NullPointerException", "getExtendedNPEMessage", "()Ljava/lang/String;"⟩ ⟨"java/lang/NullPointerException", "getExtendedNPEMessage", "()Ljava/lang/String;"⟩) ∈ lw_all := lw_g (lw_at lw_ms 10 rfl) rfl
theorem qs11 : (Cond.selects "java/lang/Throwable" ⟨"java/lang/Throwable", "fillInStackTrace", "(I)Ljava/lang/Throwable;"⟩ ⟨"java/lang/Throwable", "fillInStackTrace", "(I)Ljava/lang/Throwable;"⟩) ∈ lw_all := lw_g (lw_at lw_ms 11 rfl) rfl
theorem qs12 : (Cond.selects "SomebodysLift$Reader" ⟨"SomebodysLift$Reader", "number", "()I"⟩ ⟨"SomebodysLift$Reader", "number", "()I"⟩) ∈ lw_all := lw_g (lw_at lw_ms 12 rfl) rfl
theorem qs13 : (Cond.selects "SomebodysLift$Reader" ⟨"SomebodysLift$Reader", "some", "()LSomebodysLift$Test;"⟩ ⟨"SomebodysLift$Reader", "some", "()LSomebodysLift$Test;"⟩) ∈ lw_all := lw_g (lw_at lw_ms 13 rfl) rfl
theorem qs14 : (Cond.selects "SomebodysLift$Reader" ⟨"SomebodysLift$Reader", "all", "()LSomebodysLift$Test;"⟩ ⟨"SomebodysLift$Reader", "all", "()LSomebodysLift$Test;"⟩) ∈ lw_all := lw_g (lw_at lw_ms 14 rfl) rfl
theorem qs15 : (Cond.selects "SomebodysLift$Reader" ⟨"SomebodysLift$Reader", "factor", "()LSomebodysLift$Test;"⟩ ⟨"SomebodysLift$Reader", "factor", "()LSomebodysLift$Test;"⟩) ∈ lw_all := lw_g (lw_at lw_ms 15 rfl) rfl
theorem qs16 : (Cond.selects "SomebodysLift$Reader" ⟨"SomebodysLift$Reader", "deeper", "()V"⟩ ⟨"SomebodysLift$Reader", "deeper", "()V"⟩) ∈ lw_all := lw_g (lw_at lw_ms 16 rfl) rfl
theorem qs17 : (Cond.selects "java/util/ArrayList" ⟨"java/util/ArrayList", "add", "(Ljava/lang/Object;[Ljava/lang/Object;I)V"⟩ ⟨"java/util/ArrayList", "add", "(Ljava/lang/Object;[Ljava/lang/Object;I)V"⟩) ∈ lw_all := lw_g (lw_at lw_ms 17 rfl) rfl
theorem qs18 : (Cond.selects "java/util/ArrayList" ⟨"java/util/ArrayList", "grow", "()[Ljava/lang/Object;"⟩ ⟨"java/util/ArrayList", "grow", "()[Ljava/lang/Object;"⟩) ∈ lw_all := lw_g (lw_at lw_ms 18 rfl) rfl
theorem qs19 : (Cond.selects "java/util/ArrayList" ⟨"java/util/ArrayList", "grow", "(I)[Ljava/lang/Object;"⟩ ⟨"java/util/ArrayList", "grow", "(I)[Ljava/lang/Object;"⟩) ∈ lw_all := lw_g (lw_at lw_ms 19 rfl) rfl
theorem qs20 : (Cond.selects "SomebodysLift$Reader" ⟨"SomebodysLift$Reader", "told", "(Ljava/lang/String;)I"⟩ ⟨"SomebodysLift$Reader", "told", "(Ljava/lang/String;)I"⟩) ∈ lw_all := lw_g (lw_at lw_ms 20 rfl) rfl
theorem qs21 : (Cond.selects "SomebodysLift" ⟨"SomebodysLift", "turns", "(LSomebodysLift$Time;II)V"⟩ ⟨"SomebodysLift", "turns", "(LSomebodysLift$Time;II)V"⟩) ∈ lw_all := lw_g (lw_at lw_ms 21 rfl) rfl
theorem qs22 : (Cond.selects "SomebodysLift" ⟨"SomebodysLift", "minutesBy", "(II)I"⟩ ⟨"SomebodysLift", "minutesBy", "(II)I"⟩) ∈ lw_all := lw_g (lw_at lw_ms 22 rfl) rfl
theorem qs23 : (Cond.selects "SomebodysLift" ⟨"SomebodysLift", "climbsTill", "(IIII)Z"⟩ ⟨"SomebodysLift", "climbsTill", "(IIII)Z"⟩) ∈ lw_all := lw_g (lw_at lw_ms 23 rfl) rfl
theorem qs24 : (Cond.selects "SomebodysLift" ⟨"SomebodysLift", "minutesStraight", "(I)I"⟩ ⟨"SomebodysLift", "minutesStraight", "(I)I"⟩) ∈ lw_all := lw_g (lw_at lw_ms 24 rfl) rfl
theorem qs25 : (Cond.selects "SomebodysLift" ⟨"SomebodysLift", "fewestBut", "(I)I"⟩ ⟨"SomebodysLift", "fewestBut", "(I)I"⟩) ∈ lw_all := lw_g (lw_at lw_ms 25 rfl) rfl
theorem qs26 : (Cond.selects "SomebodysLift" ⟨"SomebodysLift", "minutesByTwo", "(III)I"⟩ ⟨"SomebodysLift", "minutesByTwo", "(III)I"⟩) ∈ lw_all := lw_g (lw_at lw_ms 26 rfl) rfl
theorem qs27 : (Cond.selects "SomebodysLift" ⟨"SomebodysLift", "flies", "(I)Z"⟩ ⟨"SomebodysLift", "flies", "(I)Z"⟩) ∈ lw_all := lw_g (lw_at lw_ms 27 rfl) rfl
theorem qs28 : (Cond.selects "SomebodysLift" ⟨"SomebodysLift", "isAsSeen", "(I)Z"⟩ ⟨"SomebodysLift", "isAsSeen", "(I)Z"⟩) ∈ lw_all := lw_g (lw_at lw_ms 28 rfl) rfl
theorem qs29 : (Cond.selects "SomebodysLift" ⟨"SomebodysLift", "firstOther", "([BI)I"⟩ ⟨"SomebodysLift", "firstOther", "([BI)I"⟩) ∈ lw_all := lw_g (lw_at lw_ms 29 rfl) rfl
theorem qs30 : (Cond.selects "SomebodysLift$Tape" ⟨"SomebodysLift$Tape", "has", "(I)V"⟩ ⟨"SomebodysLift$Tape", "has", "(I)V"⟩) ∈ lw_all := lw_g (lw_at lw_ms 30 rfl) rfl
theorem qs31 : (Cond.selects "SomebodysLift$Tape" ⟨"SomebodysLift$Tape", "size", "()I"⟩ ⟨"SomebodysLift$Tape", "size", "()I"⟩) ∈ lw_all := lw_g (lw_at lw_ms 31 rfl) rfl
theorem qs32 : (Cond.selects "SomebodysLiftModel" ⟨"SomebodysLiftModel", "in", "(III)Z"⟩ ⟨"SomebodysLiftModel", "in", "(III)Z"⟩) ∈ lw_all := lw_g (lw_at lw_ms 32 rfl) rfl
theorem qs33 : (Cond.selects "SomebodysLiftModel" ⟨"SomebodysLiftModel", "isMile", "(I)Z"⟩ ⟨"SomebodysLiftModel", "isMile", "(I)Z"⟩) ∈ lw_all := lw_g (lw_at lw_ms 33 rfl) rfl
theorem qs34 : (Cond.selects "SomebodysLiftModel" ⟨"SomebodysLiftModel", "isLift", "(I)Z"⟩ ⟨"SomebodysLiftModel", "isLift", "(I)Z"⟩) ∈ lw_all := lw_g (lw_at lw_ms 34 rfl) rfl
theorem qs35 : (Cond.selects "SomebodysLiftModel" ⟨"SomebodysLiftModel", "goesText", "(I)Z"⟩ ⟨"SomebodysLiftModel", "goesText", "(I)Z"⟩) ∈ lw_all := lw_g (lw_at lw_ms 35 rfl) rfl
theorem qs36 : (Cond.selects "SomebodysLiftModel" ⟨"SomebodysLiftModel", "takesClause", "(I)Z"⟩ ⟨"SomebodysLiftModel", "takesClause", "(I)Z"⟩) ∈ lw_all := lw_g (lw_at lw_ms 36 rfl) rfl
theorem qs37 : (Cond.selects "SomebodysLiftModel" ⟨"SomebodysLiftModel", "takesHead", "(I)Z"⟩ ⟨"SomebodysLiftModel", "takesHead", "(I)Z"⟩) ∈ lw_all := lw_g (lw_at lw_ms 37 rfl) rfl
theorem qs38 : (Cond.selects "SomebodysLiftModel" ⟨"SomebodysLiftModel", "peek", "()I"⟩ ⟨"SomebodysLiftModel", "peek", "()I"⟩) ∈ lw_all := lw_g (lw_at lw_ms 38 rfl) rfl
theorem qs39 : (Cond.selects "SomebodysLiftModel" ⟨"SomebodysLiftModel", "takesWord", "(II)Z"⟩ ⟨"SomebodysLiftModel", "takesWord", "(II)Z"⟩) ∈ lw_all := lw_g (lw_at lw_ms 39 rfl) rfl
theorem qs40 : (Cond.selects "SomebodysLiftModel" ⟨"SomebodysLiftModel", "takes", "(I)Z"⟩ ⟨"SomebodysLiftModel", "takes", "(I)Z"⟩) ∈ lw_all := lw_g (lw_at lw_ms 40 rfl) rfl
theorem qs41 : (Cond.selects "SomebodysLiftModel" ⟨"SomebodysLiftModel", "takesNumber", "()Z"⟩ ⟨"SomebodysLiftModel", "takesNumber", "()Z"⟩) ∈ lw_all := lw_g (lw_at lw_ms 41 rfl) rfl
theorem qs42 : (Cond.selects "SomebodysLiftModel" ⟨"SomebodysLiftModel", "isDigit", "()Z"⟩ ⟨"SomebodysLiftModel", "isDigit", "()Z"⟩) ∈ lw_all := lw_g (lw_at lw_ms 42 rfl) rfl
theorem qs43 : (Cond.selects "SomebodysLiftModel" ⟨"SomebodysLiftModel", "takesE", "(I)Z"⟩ ⟨"SomebodysLiftModel", "takesE", "(I)Z"⟩) ∈ lw_all := lw_g (lw_at lw_ms 43 rfl) rfl
theorem qs44 : (Cond.selects "SomebodysLiftModel" ⟨"SomebodysLiftModel", "takesTest", "()Z"⟩ ⟨"SomebodysLiftModel", "takesTest", "()Z"⟩) ∈ lw_all := lw_g (lw_at lw_ms 44 rfl) rfl
theorem qs45 : (Cond.selects "SomebodysLiftModel" ⟨"SomebodysLiftModel", "place", "(I)I"⟩ ⟨"SomebodysLiftModel", "place", "(I)I"⟩) ∈ lw_all := lw_g (lw_at lw_ms 45 rfl) rfl
theorem qs46 : (Cond.selects "SomebodysLiftModel" ⟨"SomebodysLiftModel", "emits", "(I)V"⟩ ⟨"SomebodysLiftModel", "emits", "(I)V"⟩) ∈ lw_all := lw_g (lw_at lw_ms 46 rfl) rfl
theorem qs47 : (Cond.selects "SomebodysLiftModel" ⟨"SomebodysLiftModel", "whole", "()V"⟩ ⟨"SomebodysLiftModel", "whole", "()V"⟩) ∈ lw_all := lw_g (lw_at lw_ms 47 rfl) rfl
theorem qs48 : (Cond.selects "SomebodysLiftModel" ⟨"SomebodysLiftModel", "settle", "(I)V"⟩ ⟨"SomebodysLiftModel", "settle", "(I)V"⟩) ∈ lw_all := lw_g (lw_at lw_ms 48 rfl) rfl
theorem qs49 : (Cond.selects "SomebodysLiftModel" ⟨"SomebodysLiftModel", "gain", "(I)I"⟩ ⟨"SomebodysLiftModel", "gain", "(I)I"⟩) ∈ lw_all := lw_g (lw_at lw_ms 49 rfl) rfl
theorem qs50 : (Cond.selects "SomebodysLiftModel" ⟨"SomebodysLiftModel", "begin", "()I"⟩ ⟨"SomebodysLiftModel", "begin", "()I"⟩) ∈ lw_all := lw_g (lw_at lw_ms 50 rfl) rfl
theorem qs51 : (Cond.selects "SomebodysLiftModel" ⟨"SomebodysLiftModel", "behind", "()I"⟩ ⟨"SomebodysLiftModel", "behind", "()I"⟩) ∈ lw_all := lw_g (lw_at lw_ms 51 rfl) rfl
theorem qs52 : (Cond.selects "SomebodysLiftModel" ⟨"SomebodysLiftModel", "holds", "(II)Z"⟩ ⟨"SomebodysLiftModel", "holds", "(II)Z"⟩) ∈ lw_all := lw_g (lw_at lw_ms 52 rfl) rfl
theorem qs53 : (Cond.selects "SomebodysLiftModel" ⟨"SomebodysLiftModel", "factOf", "(II)I"⟩ ⟨"SomebodysLiftModel", "factOf", "(II)I"⟩) ∈ lw_all := lw_g (lw_at lw_ms 53 rfl) rfl
theorem qs54 : (Cond.selects "SomebodysLiftModel" ⟨"SomebodysLiftModel", "climb", "(I)I"⟩ ⟨"SomebodysLiftModel", "climb", "(I)I"⟩) ∈ lw_all := lw_g (lw_at lw_ms 54 rfl) rfl
theorem qs55 : (Cond.selects "SomebodysLiftModel" ⟨"SomebodysLiftModel", "base", "()I"⟩ ⟨"SomebodysLiftModel", "base", "()I"⟩) ∈ lw_all := lw_g (lw_at lw_ms 55 rfl) rfl
theorem qs56 : (Cond.selects "SomebodysLiftModel" ⟨"SomebodysLiftModel", "lastOf", "(II)I"⟩ ⟨"SomebodysLiftModel", "lastOf", "(II)I"⟩) ∈ lw_all := lw_g (lw_at lw_ms 56 rfl) rfl
theorem qs57 : (Cond.selects "SomebodysLiftModel" ⟨"SomebodysLiftModel", "safe", "()I"⟩ ⟨"SomebodysLiftModel", "safe", "()I"⟩) ∈ lw_all := lw_g (lw_at lw_ms 57 rfl) rfl
theorem qs58 : (Cond.selects "SomebodysLiftModel" ⟨"SomebodysLiftModel", "isTime", "(I)Z"⟩ ⟨"SomebodysLiftModel", "isTime", "(I)Z"⟩) ∈ lw_all := lw_g (lw_at lw_ms 58 rfl) rfl
theorem qs59 : (Cond.selects "SomebodysLiftModel" ⟨"SomebodysLiftModel", "goMinute", "(I)V"⟩ ⟨"SomebodysLiftModel", "goMinute", "(I)V"⟩) ∈ lw_all := lw_g (lw_at lw_ms 59 rfl) rfl
theorem qs60 : (Cond.selects "SomebodysLiftModel" ⟨"SomebodysLiftModel", "isPace", "(I)Z"⟩ ⟨"SomebodysLiftModel", "isPace", "(I)Z"⟩) ∈ lw_all := lw_g (lw_at lw_ms 60 rfl) rfl
theorem qs61 : (Cond.selects "SomebodysLiftModel" ⟨"SomebodysLiftModel", "apart", "(II)I"⟩ ⟨"SomebodysLiftModel", "apart", "(II)I"⟩) ∈ lw_all := lw_g (lw_at lw_ms 61 rfl) rfl
theorem qs62 : (Cond.selects "SomebodysLiftModel" ⟨"SomebodysLiftModel", "goGlide", "(II)Z"⟩ ⟨"SomebodysLiftModel", "goGlide", "(II)Z"⟩) ∈ lw_all := lw_g (lw_at lw_ms 62 rfl) rfl
theorem qs63 : (Cond.selects "SomebodysLiftModel" ⟨"SomebodysLiftModel", "falls", "(III)I"⟩ ⟨"SomebodysLiftModel", "falls", "(III)I"⟩) ∈ lw_all := lw_g (lw_at lw_ms 63 rfl) rfl
theorem qs64 : (Cond.selects "SomebodysLiftModel" ⟨"SomebodysLiftModel", "upOf", "(II)I"⟩ ⟨"SomebodysLiftModel", "upOf", "(II)I"⟩) ∈ lw_all := lw_g (lw_at lw_ms 64 rfl) rfl
theorem qs65 : (Cond.selects "SomebodysLiftModel" ⟨"SomebodysLiftModel", "save", "()V"⟩ ⟨"SomebodysLiftModel", "save", "()V"⟩) ∈ lw_all := lw_g (lw_at lw_ms 65 rfl) rfl
theorem qs66 : (Cond.selects "SomebodysLiftModel" ⟨"SomebodysLiftModel", "putBack", "()V"⟩ ⟨"SomebodysLiftModel", "putBack", "()V"⟩) ∈ lw_all := lw_g (lw_at lw_ms 66 rfl) rfl
theorem qs67 : (Cond.selects "SomebodysLiftModel" ⟨"SomebodysLiftModel", "canReach", "(II)Z"⟩ ⟨"SomebodysLiftModel", "canReach", "(II)Z"⟩) ∈ lw_all := lw_g (lw_at lw_ms 67 rfl) rfl
theorem qs68 : (Cond.selects "SomebodysLiftModel" ⟨"SomebodysLiftModel", "byOf", "(III)I"⟩ ⟨"SomebodysLiftModel", "byOf", "(III)I"⟩) ∈ lw_all := lw_g (lw_at lw_ms 68 rfl) rfl
theorem qs69 : (Cond.selects "SomebodysLiftModel" ⟨"SomebodysLiftModel", "rises", "(IIII)Z"⟩ ⟨"SomebodysLiftModel", "rises", "(IIII)Z"⟩) ∈ lw_all := lw_g (lw_at lw_ms 69 rfl) rfl
theorem qs70 : (Cond.selects "SomebodysLiftModel" ⟨"SomebodysLiftModel", "straightOf", "(I)I"⟩ ⟨"SomebodysLiftModel", "straightOf", "(I)I"⟩) ∈ lw_all := lw_g (lw_at lw_ms 70 rfl) rfl
theorem qs71 : (Cond.selects "SomebodysLiftModel" ⟨"SomebodysLiftModel", "layBest", "(I)V"⟩ ⟨"SomebodysLiftModel", "layBest", "(I)V"⟩) ∈ lw_all := lw_g (lw_at lw_ms 71 rfl) rfl
theorem qs72 : (Cond.selects "SomebodysLiftModel" ⟨"SomebodysLiftModel", "takesBest", "(III)V"⟩ ⟨"SomebodysLiftModel", "takesBest", "(III)V"⟩) ∈ lw_all := lw_g (lw_at lw_ms 72 rfl) rfl
theorem qs73 : (Cond.selects "SomebodysLiftModel" ⟨"SomebodysLiftModel", "isSeen", "(I)Z"⟩ ⟨"SomebodysLiftModel", "isSeen", "(I)Z"⟩) ∈ lw_all := lw_g (lw_at lw_ms 73 rfl) rfl
theorem qs74 : (Cond.selects "SomebodysLiftModel" ⟨"SomebodysLiftModel", "lowestTerms", "(III)J"⟩ ⟨"SomebodysLiftModel", "lowestTerms", "(III)J"⟩) ∈ lw_all := lw_g (lw_at lw_ms 74 rfl) rfl
theorem qs75 : (Cond.selects "SomebodysLiftModel" ⟨"SomebodysLiftModel", "divisor", "(II)I"⟩ ⟨"SomebodysLiftModel", "divisor", "(II)I"⟩) ∈ lw_all := lw_g (lw_at lw_ms 75 rfl) rfl
theorem qs76 : (Cond.selects "SomebodysLiftModel" ⟨"SomebodysLiftModel", "isTape", "(I)Z"⟩ ⟨"SomebodysLiftModel", "isTape", "(I)Z"⟩) ∈ lw_all := lw_g (lw_at lw_ms 76 rfl) rfl
theorem qs77 : (Cond.selects "SomebodysLiftModel" ⟨"SomebodysLiftModel", "turnsAct", "(II)I"⟩ ⟨"SomebodysLiftModel", "turnsAct", "(II)I"⟩) ∈ lw_all := lw_g (lw_at lw_ms 77 rfl) rfl
theorem qs78 : (Cond.selects "SomebodysLiftModel" ⟨"SomebodysLiftModel", "body", "(I)V"⟩ ⟨"SomebodysLiftModel", "body", "(I)V"⟩) ∈ lw_all := lw_g (lw_at lw_ms 78 rfl) rfl
theorem qs79 : (Cond.selects "SomebodysLiftModel" ⟨"SomebodysLiftModel", "liftTurns", "(II)I"⟩ ⟨"SomebodysLiftModel", "liftTurns", "(II)I"⟩) ∈ lw_all := lw_g (lw_at lw_ms 79 rfl) rfl
theorem qs80 : (Cond.selects "SomebodysLiftModel" ⟨"SomebodysLiftModel", "climbsAct", "(II)I"⟩ ⟨"SomebodysLiftModel", "climbsAct", "(II)I"⟩) ∈ lw_all := lw_g (lw_at lw_ms 80 rfl) rfl
theorem qs81 : (Cond.selects "SomebodysLiftModel" ⟨"SomebodysLiftModel", "strongClimbs", "(II)I"⟩ ⟨"SomebodysLiftModel", "strongClimbs", "(II)I"⟩) ∈ lw_all := lw_g (lw_at lw_ms 81 rfl) rfl
theorem qs82 : (Cond.selects "SomebodysLiftModel" ⟨"SomebodysLiftModel", "liftClimbs", "(II)I"⟩ ⟨"SomebodysLiftModel", "liftClimbs", "(II)I"⟩) ∈ lw_all := lw_g (lw_at lw_ms 82 rfl) rfl
theorem qs83 : (Cond.selects "SomebodysLiftModel" ⟨"SomebodysLiftModel", "tellsAct", "(II)I"⟩ ⟨"SomebodysLiftModel", "tellsAct", "(II)I"⟩) ∈ lw_all := lw_g (lw_at lw_ms 83 rfl) rfl
theorem qs84 : (Cond.selects "SomebodysLiftModel" ⟨"SomebodysLiftModel", "liftTells", "(II)I"⟩ ⟨"SomebodysLiftModel", "liftTells", "(II)I"⟩) ∈ lw_all := lw_g (lw_at lw_ms 84 rfl) rfl
theorem qs85 : (Cond.selects "SomebodysLiftModel" ⟨"SomebodysLiftModel", "narrow", "(IJ)J"⟩ ⟨"SomebodysLiftModel", "narrow", "(IJ)J"⟩) ∈ lw_all := lw_g (lw_at lw_ms 85 rfl) rfl
-- ===== end of PART A; then your names; then what follows =====
