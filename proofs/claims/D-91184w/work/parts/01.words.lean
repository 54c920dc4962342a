-- ===== PART A: goes FIRST, ahead of the names: the tables' words, and 'selects' of the private methods out of them =====
/-- a private method of a class that the tables say can be made, by its rows of tables_1 -/
def lw_okq (q : MethodName × Nat) : Prop := (q.1.cls ≠ "java/lang/invoke/MethodHandle" ∧ q.1.cls ≠ "java/lang/invoke/VarHandle") ∧ Cond.instantiable q.1.cls q.2 ∈ tables_1 ∧ Cond.privateMethod q.1 ∈ tables_1 ∧ Cond.instanceMethod q.1 ∈ tables_1
set_option maxRecDepth 100000
theorem lw_t1 {w : Cond} (h : w ∈ tables_1_1) : w ∈ tables_1 := List.mem_append_left _ h
theorem lw_t2 {w : Cond} (h : w ∈ tables_1_2) : w ∈ tables_1 := List.mem_append_right _ (List.mem_append_left _ h)
theorem lw_t3 {w : Cond} (h : w ∈ tables_1_3) : w ∈ tables_1 := List.mem_append_right _ (List.mem_append_right _ (List.mem_append_left _ h))
theorem lw_t4 {w : Cond} (h : w ∈ tables_1_4) : w ∈ tables_1 := List.mem_append_right _ (List.mem_append_right _ (List.mem_append_right _ h))
theorem lw_p0 : lw_okq (⟨"WicketBoard", "four", "(I)V"⟩, 27) := ⟨⟨by decide +kernel, by decide +kernel⟩, lw_t1 (List.mem_of_getElem? (i := 25) rfl), lw_t1 (List.mem_of_getElem? (i := 23) rfl), lw_t1 (List.mem_of_getElem? (i := 24) rfl)⟩
theorem lw_p1 : lw_okq (⟨"WicketBoard", "readRules", "()I"⟩, 27) := ⟨⟨by decide +kernel, by decide +kernel⟩, lw_t1 (List.mem_of_getElem? (i := 25) rfl), lw_t1 (List.mem_of_getElem? (i := 37) rfl), lw_t1 (List.mem_of_getElem? (i := 38) rfl)⟩
theorem lw_p2 : lw_okq (⟨"WicketBoard", "nextToken", "()V"⟩, 27) := ⟨⟨by decide +kernel, by decide +kernel⟩, lw_t1 (List.mem_of_getElem? (i := 25) rfl), lw_t1 (List.mem_of_getElem? (i := 41) rfl), lw_t1 (List.mem_of_getElem? (i := 42) rfl)⟩
theorem lw_p3 : lw_okq (⟨"WicketBoard", "peek", "()I"⟩, 27) := ⟨⟨by decide +kernel, by decide +kernel⟩, lw_t1 (List.mem_of_getElem? (i := 25) rfl), lw_t1 (List.mem_of_getElem? (i := 45) rfl), lw_t1 (List.mem_of_getElem? (i := 46) rfl)⟩
theorem lw_p4 : lw_okq (⟨"WicketBoard", "wrong", "(I)LWicketBoard$Fault;"⟩, 27) := ⟨⟨by decide +kernel, by decide +kernel⟩, lw_t1 (List.mem_of_getElem? (i := 25) rfl), lw_t1 (List.mem_of_getElem? (i := 107) rfl), lw_t1 (List.mem_of_getElem? (i := 108) rfl)⟩
theorem lw_p5 : lw_okq (⟨"java/lang/Throwable", "fillInStackTrace", "(I)Ljava/lang/Throwable;"⟩, 6) := ⟨⟨by decide +kernel, by decide +kernel⟩, lw_t1 (List.mem_of_getElem? (i := 196) rfl), lw_t1 (List.mem_of_getElem? (i := 194) rfl), lw_t1 (List.mem_of_getElem? (i := 195) rfl)⟩
theorem lw_p6 : lw_okq (⟨"WicketBoard", "isUmpire", "(I)Z"⟩, 27) := ⟨⟨by decide +kernel, by decide +kernel⟩, lw_t1 (List.mem_of_getElem? (i := 25) rfl), lw_t2 (List.mem_of_getElem? (i := 135) rfl), lw_t2 (List.mem_of_getElem? (i := 136) rfl)⟩
theorem lw_p7 : lw_okq (⟨"WicketBoard", "isSeat", "(I)Z"⟩, 27) := ⟨⟨by decide +kernel, by decide +kernel⟩, lw_t1 (List.mem_of_getElem? (i := 25) rfl), lw_t2 (List.mem_of_getElem? (i := 169) rfl), lw_t2 (List.mem_of_getElem? (i := 170) rfl)⟩
theorem lw_p8 : lw_okq (⟨"WicketBoard", "mayHave", "(LWicketBoard$Umpire;I)Z"⟩, 27) := ⟨⟨by decide +kernel, by decide +kernel⟩, lw_t1 (List.mem_of_getElem? (i := 25) rfl), lw_t2 (List.mem_of_getElem? (i := 173) rfl), lw_t2 (List.mem_of_getElem? (i := 174) rfl)⟩
theorem lw_p9 : lw_okq (⟨"WicketBoard", "isTired", "(LWicketBoard$Umpire;)Z"⟩, 27) := ⟨⟨by decide +kernel, by decide +kernel⟩, lw_t1 (List.mem_of_getElem? (i := 25) rfl), lw_t2 (List.mem_of_getElem? (i := 183) rfl), lw_t2 (List.mem_of_getElem? (i := 184) rfl)⟩
theorem lw_p10 : lw_okq (⟨"WicketBoard", "costOf", "(LWicketBoard$Umpire;I)I"⟩, 27) := ⟨⟨by decide +kernel, by decide +kernel⟩, lw_t1 (List.mem_of_getElem? (i := 25) rfl), lw_t2 (List.mem_of_getElem? (i := 194) rfl), lw_t2 (List.mem_of_getElem? (i := 195) rfl)⟩
theorem lw_p11 : lw_okq (⟨"WicketBoard", "sit", "(II)V"⟩, 27) := ⟨⟨by decide +kernel, by decide +kernel⟩, lw_t1 (List.mem_of_getElem? (i := 25) rfl), lw_t2 (List.mem_of_getElem? (i := 202) rfl), lw_t2 (List.mem_of_getElem? (i := 203) rfl)⟩
theorem lw_p12 : lw_okq (⟨"WicketBoard", "solve", "(II)J"⟩, 27) := ⟨⟨by decide +kernel, by decide +kernel⟩, lw_t1 (List.mem_of_getElem? (i := 25) rfl), lw_t2 (List.mem_of_getElem? (i := 208) rfl), lw_t2 (List.mem_of_getElem? (i := 209) rfl)⟩
theorem lw_p13 : lw_okq (⟨"WicketBoard", "enter", "(II)V"⟩, 27) := ⟨⟨by decide +kernel, by decide +kernel⟩, lw_t1 (List.mem_of_getElem? (i := 25) rfl), lw_t2 (List.mem_of_getElem? (i := 212) rfl), lw_t2 (List.mem_of_getElem? (i := 213) rfl)⟩
theorem lw_p14 : lw_okq (⟨"WicketBoard", "holds", "(IIIIJ)Z"⟩, 27) := ⟨⟨by decide +kernel, by decide +kernel⟩, lw_t1 (List.mem_of_getElem? (i := 25) rfl), lw_t2 (List.mem_of_getElem? (i := 217) rfl), lw_t2 (List.mem_of_getElem? (i := 218) rfl)⟩
theorem lw_p15 : lw_okq (⟨"WicketBoard", "cheapest", "(I)I"⟩, 27) := ⟨⟨by decide +kernel, by decide +kernel⟩, lw_t1 (List.mem_of_getElem? (i := 25) rfl), lw_t2 (List.mem_of_getElem? (i := 225) rfl), lw_t2 (List.mem_of_getElem? (i := 226) rfl)⟩
def lw_privs_1 : List (MethodName × Nat) := [(⟨"WicketBoard", "four", "(I)V"⟩, 27), (⟨"WicketBoard", "readRules", "()I"⟩, 27), (⟨"WicketBoard", "nextToken", "()V"⟩, 27), (⟨"WicketBoard", "peek", "()I"⟩, 27), (⟨"WicketBoard", "wrong", "(I)LWicketBoard$Fault;"⟩, 27), (⟨"java/lang/Throwable", "fillInStackTrace", "(I)Ljava/lang/Throwable;"⟩, 6), (⟨"WicketBoard", "isUmpire", "(I)Z"⟩, 27), (⟨"WicketBoard", "isSeat", "(I)Z"⟩, 27), (⟨"WicketBoard", "mayHave", "(LWicketBoard$Umpire;I)Z"⟩, 27), (⟨"WicketBoard", "isTired", "(LWicketBoard$Umpire;)Z"⟩, 27), (⟨"WicketBoard", "costOf", "(LWicketBoard$Umpire;I)I"⟩, 27), (⟨"WicketBoard", "sit", "(II)V"⟩, 27), (⟨"WicketBoard", "solve", "(II)J"⟩, 27), (⟨"WicketBoard", "enter", "(II)V"⟩, 27), (⟨"WicketBoard", "holds", "(IIIIJ)Z"⟩, 27), (⟨"WicketBoard", "cheapest", "(I)I"⟩, 27)]
theorem lw_r1 : ∀ q ∈ lw_privs_1, lw_okq q := List.forall_mem_cons.mpr ⟨lw_p0, List.forall_mem_cons.mpr ⟨lw_p1, List.forall_mem_cons.mpr ⟨lw_p2, List.forall_mem_cons.mpr ⟨lw_p3, List.forall_mem_cons.mpr ⟨lw_p4, List.forall_mem_cons.mpr ⟨lw_p5, List.forall_mem_cons.mpr ⟨lw_p6, List.forall_mem_cons.mpr ⟨lw_p7, List.forall_mem_cons.mpr ⟨lw_p8, List.forall_mem_cons.mpr ⟨lw_p9, List.forall_mem_cons.mpr ⟨lw_p10, List.forall_mem_cons.mpr ⟨lw_p11, List.forall_mem_cons.mpr ⟨lw_p12, List.forall_mem_cons.mpr ⟨lw_p13, List.forall_mem_cons.mpr ⟨lw_p14, List.forall_mem_cons.mpr ⟨lw_p15, fun _ h => absurd h List.not_mem_nil⟩⟩⟩⟩⟩⟩⟩⟩⟩⟩⟩⟩⟩⟩⟩⟩
theorem lw_p16 : lw_okq (⟨"WicketBoard", "grade", "(LWicketBoard$Umpire;)V"⟩, 27) := ⟨⟨by decide +kernel, by decide +kernel⟩, lw_t1 (List.mem_of_getElem? (i := 25) rfl), lw_t3 (List.mem_of_getElem? (i := 1) rfl), lw_t3 (List.mem_of_getElem? (i := 2) rfl)⟩
theorem lw_p17 : lw_okq (⟨"WicketBoardModel", "come", "(I)V"⟩, 46) := ⟨⟨by decide +kernel, by decide +kernel⟩, lw_t3 (List.mem_of_getElem? (i := 58) rfl), lw_t3 (List.mem_of_getElem? (i := 211) rfl), lw_t3 (List.mem_of_getElem? (i := 212) rfl)⟩
theorem lw_p18 : lw_okq (⟨"WicketBoardModel", "go", "()V"⟩, 46) := ⟨⟨by decide +kernel, by decide +kernel⟩, lw_t3 (List.mem_of_getElem? (i := 58) rfl), lw_t3 (List.mem_of_getElem? (i := 223) rfl), lw_t3 (List.mem_of_getElem? (i := 224) rfl)⟩
theorem lw_p19 : lw_okq (⟨"WicketBoardModel", "byteAt", "(I)I"⟩, 46) := ⟨⟨by decide +kernel, by decide +kernel⟩, lw_t3 (List.mem_of_getElem? (i := 58) rfl), lw_t3 (List.mem_of_getElem? (i := 233) rfl), lw_t3 (List.mem_of_getElem? (i := 234) rfl)⟩
theorem lw_p20 : lw_okq (⟨"WicketBoardModel", "readRule", "()Z"⟩, 46) := ⟨⟨by decide +kernel, by decide +kernel⟩, lw_t3 (List.mem_of_getElem? (i := 58) rfl), lw_t4 (List.mem_of_getElem? (i := 0) rfl), lw_t4 (List.mem_of_getElem? (i := 1) rfl)⟩
theorem lw_p21 : lw_okq (⟨"WicketBoardModel", "ruleAtHand", "()I"⟩, 46) := ⟨⟨by decide +kernel, by decide +kernel⟩, lw_t3 (List.mem_of_getElem? (i := 58) rfl), lw_t4 (List.mem_of_getElem? (i := 4) rfl), lw_t4 (List.mem_of_getElem? (i := 5) rfl)⟩
theorem lw_p22 : lw_okq (⟨"WicketBoardModel", "isKey", "(J)Z"⟩, 46) := ⟨⟨by decide +kernel, by decide +kernel⟩, lw_t3 (List.mem_of_getElem? (i := 58) rfl), lw_t4 (List.mem_of_getElem? (i := 11) rfl), lw_t4 (List.mem_of_getElem? (i := 12) rfl)⟩
theorem lw_p23 : lw_okq (⟨"WicketBoardModel", "bad", "(I)Z"⟩, 46) := ⟨⟨by decide +kernel, by decide +kernel⟩, lw_t3 (List.mem_of_getElem? (i := 58) rfl), lw_t4 (List.mem_of_getElem? (i := 16) rfl), lw_t4 (List.mem_of_getElem? (i := 17) rfl)⟩
theorem lw_p24 : lw_okq (⟨"WicketBoardModel", "isUmpire", "(I)Z"⟩, 46) := ⟨⟨by decide +kernel, by decide +kernel⟩, lw_t3 (List.mem_of_getElem? (i := 58) rfl), lw_t4 (List.mem_of_getElem? (i := 39) rfl), lw_t4 (List.mem_of_getElem? (i := 40) rfl)⟩
theorem lw_p25 : lw_okq (⟨"WicketBoardModel", "seatOf", "(I)I"⟩, 46) := ⟨⟨by decide +kernel, by decide +kernel⟩, lw_t3 (List.mem_of_getElem? (i := 58) rfl), lw_t4 (List.mem_of_getElem? (i := 43) rfl), lw_t4 (List.mem_of_getElem? (i := 44) rfl)⟩
theorem lw_p26 : lw_okq (⟨"WicketBoardModel", "isSeat", "(I)Z"⟩, 46) := ⟨⟨by decide +kernel, by decide +kernel⟩, lw_t3 (List.mem_of_getElem? (i := 58) rfl), lw_t4 (List.mem_of_getElem? (i := 55) rfl), lw_t4 (List.mem_of_getElem? (i := 56) rfl)⟩
theorem lw_p27 : lw_okq (⟨"WicketBoardModel", "mayHave", "(II)Z"⟩, 46) := ⟨⟨by decide +kernel, by decide +kernel⟩, lw_t3 (List.mem_of_getElem? (i := 58) rfl), lw_t4 (List.mem_of_getElem? (i := 59) rfl), lw_t4 (List.mem_of_getElem? (i := 60) rfl)⟩
theorem lw_p28 : lw_okq (⟨"WicketBoardModel", "miles", "(II)I"⟩, 46) := ⟨⟨by decide +kernel, by decide +kernel⟩, lw_t3 (List.mem_of_getElem? (i := 58) rfl), lw_t4 (List.mem_of_getElem? (i := 63) rfl), lw_t4 (List.mem_of_getElem? (i := 64) rfl)⟩
theorem lw_p29 : lw_okq (⟨"WicketBoardModel", "costOf", "(II)I"⟩, 46) := ⟨⟨by decide +kernel, by decide +kernel⟩, lw_t3 (List.mem_of_getElem? (i := 58) rfl), lw_t4 (List.mem_of_getElem? (i := 74) rfl), lw_t4 (List.mem_of_getElem? (i := 75) rfl)⟩
theorem lw_p30 : lw_okq (⟨"WicketBoardModel", "settle", "()V"⟩, 46) := ⟨⟨by decide +kernel, by decide +kernel⟩, lw_t3 (List.mem_of_getElem? (i := 58) rfl), lw_t4 (List.mem_of_getElem? (i := 82) rfl), lw_t4 (List.mem_of_getElem? (i := 83) rfl)⟩
theorem lw_p31 : lw_okq (⟨"WicketBoardModel", "seek", "(I)V"⟩, 46) := ⟨⟨by decide +kernel, by decide +kernel⟩, lw_t3 (List.mem_of_getElem? (i := 58) rfl), lw_t4 (List.mem_of_getElem? (i := 87) rfl), lw_t4 (List.mem_of_getElem? (i := 88) rfl)⟩
def lw_privs_2 : List (MethodName × Nat) := [(⟨"WicketBoard", "grade", "(LWicketBoard$Umpire;)V"⟩, 27), (⟨"WicketBoardModel", "come", "(I)V"⟩, 46), (⟨"WicketBoardModel", "go", "()V"⟩, 46), (⟨"WicketBoardModel", "byteAt", "(I)I"⟩, 46), (⟨"WicketBoardModel", "readRule", "()Z"⟩, 46), (⟨"WicketBoardModel", "ruleAtHand", "()I"⟩, 46), (⟨"WicketBoardModel", "isKey", "(J)Z"⟩, 46), (⟨"WicketBoardModel", "bad", "(I)Z"⟩, 46), (⟨"WicketBoardModel", "isUmpire", "(I)Z"⟩, 46), (⟨"WicketBoardModel", "seatOf", "(I)I"⟩, 46), (⟨"WicketBoardModel", "isSeat", "(I)Z"⟩, 46), (⟨"WicketBoardModel", "mayHave", "(II)Z"⟩, 46), (⟨"WicketBoardModel", "miles", "(II)I"⟩, 46), (⟨"WicketBoardModel", "costOf", "(II)I"⟩, 46), (⟨"WicketBoardModel", "settle", "()V"⟩, 46), (⟨"WicketBoardModel", "seek", "(I)V"⟩, 46)]
theorem lw_r2 : ∀ q ∈ lw_privs_2, lw_okq q := List.forall_mem_cons.mpr ⟨lw_p16, List.forall_mem_cons.mpr ⟨lw_p17, List.forall_mem_cons.mpr ⟨lw_p18, List.forall_mem_cons.mpr ⟨lw_p19, List.forall_mem_cons.mpr ⟨lw_p20, List.forall_mem_cons.mpr ⟨lw_p21, List.forall_mem_cons.mpr ⟨lw_p22, List.forall_mem_cons.mpr ⟨lw_p23, List.forall_mem_cons.mpr ⟨lw_p24, List.forall_mem_cons.mpr ⟨lw_p25, List.forall_mem_cons.mpr ⟨lw_p26, List.forall_mem_cons.mpr ⟨lw_p27, List.forall_mem_cons.mpr ⟨lw_p28, List.forall_mem_cons.mpr ⟨lw_p29, List.forall_mem_cons.mpr ⟨lw_p30, List.forall_mem_cons.mpr ⟨lw_p31, fun _ h => absurd h List.not_mem_nil⟩⟩⟩⟩⟩⟩⟩⟩⟩⟩⟩⟩⟩⟩⟩⟩
theorem lw_p32 : lw_okq (⟨"WicketBoardModel", "pays", "(I)I"⟩, 46) := ⟨⟨by decide +kernel, by decide +kernel⟩, lw_t3 (List.mem_of_getElem? (i := 58) rfl), lw_t4 (List.mem_of_getElem? (i := 92) rfl), lw_t4 (List.mem_of_getElem? (i := 93) rfl)⟩
theorem lw_p33 : lw_okq (⟨"WicketBoardModel", "change", "(I)V"⟩, 46) := ⟨⟨by decide +kernel, by decide +kernel⟩, lw_t3 (List.mem_of_getElem? (i := 58) rfl), lw_t4 (List.mem_of_getElem? (i := 96) rfl), lw_t4 (List.mem_of_getElem? (i := 97) rfl)⟩
theorem lw_p34 : lw_okq (⟨"WicketBoardModel", "lessen", "(II)V"⟩, 46) := ⟨⟨by decide +kernel, by decide +kernel⟩, lw_t3 (List.mem_of_getElem? (i := 58) rfl), lw_t4 (List.mem_of_getElem? (i := 100) rfl), lw_t4 (List.mem_of_getElem? (i := 101) rfl)⟩
theorem lw_p35 : lw_okq (⟨"WicketBoardModel", "placeOf", "(I)I"⟩, 46) := ⟨⟨by decide +kernel, by decide +kernel⟩, lw_t3 (List.mem_of_getElem? (i := 58) rfl), lw_t4 (List.mem_of_getElem? (i := 104) rfl), lw_t4 (List.mem_of_getElem? (i := 105) rfl)⟩
theorem lw_p36 : lw_okq (⟨"WicketBoardModel", "ways", "(III)V"⟩, 46) := ⟨⟨by decide +kernel, by decide +kernel⟩, lw_t3 (List.mem_of_getElem? (i := 58) rfl), lw_t4 (List.mem_of_getElem? (i := 108) rfl), lw_t4 (List.mem_of_getElem? (i := 109) rfl)⟩
theorem lw_p37 : lw_okq (⟨"WicketBoardModel", "moves", "(I)V"⟩, 46) := ⟨⟨by decide +kernel, by decide +kernel⟩, lw_t3 (List.mem_of_getElem? (i := 58) rfl), lw_t4 (List.mem_of_getElem? (i := 112) rfl), lw_t4 (List.mem_of_getElem? (i := 113) rfl)⟩
theorem lw_p38 : lw_okq (⟨"WicketBoardModel", "offer", "(IIII)V"⟩, 46) := ⟨⟨by decide +kernel, by decide +kernel⟩, lw_t3 (List.mem_of_getElem? (i := 58) rfl), lw_t4 (List.mem_of_getElem? (i := 116) rfl), lw_t4 (List.mem_of_getElem? (i := 117) rfl)⟩
theorem lw_p39 : lw_okq (⟨"WicketBoardModel", "filled", "()I"⟩, 46) := ⟨⟨by decide +kernel, by decide +kernel⟩, lw_t3 (List.mem_of_getElem? (i := 58) rfl), lw_t4 (List.mem_of_getElem? (i := 120) rfl), lw_t4 (List.mem_of_getElem? (i := 121) rfl)⟩
theorem lw_p40 : lw_okq (⟨"WicketBoardModel", "spare", "(I)I"⟩, 46) := ⟨⟨by decide +kernel, by decide +kernel⟩, lw_t3 (List.mem_of_getElem? (i := 58) rfl), lw_t4 (List.mem_of_getElem? (i := 128) rfl), lw_t4 (List.mem_of_getElem? (i := 129) rfl)⟩
theorem lw_p41 : lw_okq (⟨"WicketBoardModel", "refuse", "()I"⟩, 46) := ⟨⟨by decide +kernel, by decide +kernel⟩, lw_t3 (List.mem_of_getElem? (i := 58) rfl), lw_t4 (List.mem_of_getElem? (i := 148) rfl), lw_t4 (List.mem_of_getElem? (i := 149) rfl)⟩
def lw_privs_3 : List (MethodName × Nat) := [(⟨"WicketBoardModel", "pays", "(I)I"⟩, 46), (⟨"WicketBoardModel", "change", "(I)V"⟩, 46), (⟨"WicketBoardModel", "lessen", "(II)V"⟩, 46), (⟨"WicketBoardModel", "placeOf", "(I)I"⟩, 46), (⟨"WicketBoardModel", "ways", "(III)V"⟩, 46), (⟨"WicketBoardModel", "moves", "(I)V"⟩, 46), (⟨"WicketBoardModel", "offer", "(IIII)V"⟩, 46), (⟨"WicketBoardModel", "filled", "()I"⟩, 46), (⟨"WicketBoardModel", "spare", "(I)I"⟩, 46), (⟨"WicketBoardModel", "refuse", "()I"⟩, 46)]
theorem lw_r3 : ∀ q ∈ lw_privs_3, lw_okq q := List.forall_mem_cons.mpr ⟨lw_p32, List.forall_mem_cons.mpr ⟨lw_p33, List.forall_mem_cons.mpr ⟨lw_p34, List.forall_mem_cons.mpr ⟨lw_p35, List.forall_mem_cons.mpr ⟨lw_p36, List.forall_mem_cons.mpr ⟨lw_p37, List.forall_mem_cons.mpr ⟨lw_p38, List.forall_mem_cons.mpr ⟨lw_p39, List.forall_mem_cons.mpr ⟨lw_p40, List.forall_mem_cons.mpr ⟨lw_p41, fun _ h => absurd h List.not_mem_nil⟩⟩⟩⟩⟩⟩⟩⟩⟩⟩
def lw_privs : List (MethodName × Nat) := lw_privs_1 ++ (lw_privs_2 ++ (lw_privs_3))
def lw_tbl : List Cond := k2_sels lw_privs ++ tables_1
theorem lw_privs_ok : ∀ q ∈ lw_privs, lw_okq q := by
  show ∀ q ∈ lw_privs_1 ++ (lw_privs_2 ++ (lw_privs_3)), lw_okq q
  exact List.forall_mem_append.mpr ⟨lw_r1, List.forall_mem_append.mpr ⟨lw_r2, lw_r3⟩⟩
-- ===== ONE list of words for every method: the tables' words that hold all through a run =====
def lw_all : List Cond := lw_tbl.filter goodWord
/-- a word of the tables by its place: claim/WORDS.tsv -/
theorem lw_w {w : Cond} (i : Nat) (h : lw_tbl[i]? = some w) (g : goodWord w = true) : w ∈ lw_all := List.mem_filter.mpr ⟨List.mem_of_getElem? h, g⟩
theorem lw_all_tbl {w : Cond} (h : w ∈ lw_all) : w ∈ lw_tbl := (List.mem_filter.mp h).1
theorem lw_self : GoodIn lw_all lw_all := fun w h => ⟨h, good_of_word (List.mem_filter.mp h).2⟩
/-- a class's field words, by their places -/
theorem lw_in (ws : List Cond) (ps : List Nat) (hp : ws = ps.filterMap (fun i => lw_tbl[i]?)) (hg : ws.all goodWord = true) : ∀ w ∈ ws, w ∈ lw_all := by
  intro w h
  have h1 := List.all_eq_true.mp hg w h
  rw [hp] at h
  obtain ⟨i, -, hi⟩ := List.mem_filterMap.mp h
  exact lw_w i hi h1
/-- the words of a contract for the method y with code b, L locals, answer r -/
abbrev ws_ (y : MethodName) (b : ByteArray) (L : Nat) (r : Option FieldType) : List Cond := Cond.code y b L r :: lw_all
theorem lw_meth {y : MethodName} {b : ByteArray} {L : Nat} {r : Option FieldType} (h : Cond.code y b L r ∈ lw_all) : GoodIn lw_all (ws_ y b L r) := by
  intro w hw
  rcases List.mem_cons.mp hw with e | e
  · rw [e]
    exact lw_self _ h
  · exact lw_self _ e
theorem lw_app {a c : List Cond} (ha : ∀ w ∈ a, w ∈ lw_all) (hc : GoodIn lw_all c) : GoodIn lw_all (a ++ c) := by
  intro w hw
  rcases List.mem_append.mp hw with e | e
  · exact lw_self w (ha w e)
  · exact hc w e
/-- what a call through an object asks: cwV n hts (lw_V ..) -/
theorem lw_V {own : String} {idx : Nat} {C : String} {y : MethodName} {b : ByteArray} {L : Nat} {r : Option FieldType} (h1 : Cond.methodLink own idx y ∈ lw_all) (h2 : Cond.instanceMethod y ∈ lw_all) (h3 : Cond.selects C y y ∈ lw_all) (h4 : Cond.initialized C ∈ lw_all) (h5 : Cond.code y b L r ∈ lw_all) : GoodIn lw_all (wsV own idx C y (ws_ y b L r)) := by
  refine lw_app ?_ (lw_meth h5)
  intro w hw
  simp only [List.mem_cons, List.not_mem_nil, or_false] at hw
  rcases hw with e | e | e | e
  · rw [e]; exact h1
  · rw [e]; exact h2
  · rw [e]; exact h3
  · rw [e]; exact h4
/-- what a static call asks: va_cwS n hts (lw_S ..) -/
theorem lw_S {own : String} {idx : Nat} {y : MethodName} {b : ByteArray} {L : Nat} {r : Option FieldType} (h1 : Cond.methodLink own idx y ∈ lw_all) (h2 : Cond.static y ∈ lw_all) (h3 : Cond.initialized y.cls ∈ lw_all) (h4 : Cond.code y b L r ∈ lw_all) : GoodIn lw_all (va_wsS own idx y (ws_ y b L r)) := by
  refine lw_app ?_ (lw_meth h4)
  intro w hw
  simp only [List.mem_cons, List.not_mem_nil, or_false] at hw
  rcases hw with e | e | e
  · rw [e]; exact h1
  · rw [e]; exact h2
  · rw [e]; exact h3
/-- the words of a contract for a method WITH HANDLERS (hh: its table) -/
abbrev wsW_ (y : MethodName) (b : ByteArray) (L : Nat) (r : Option FieldType) (hh : List (Nat × Nat × Nat × Nat)) : List Cond := Cond.codeWith y b L r hh :: lw_all
theorem lw_methW {y : MethodName} {b : ByteArray} {L : Nat} {r : Option FieldType} {hh : List (Nat × Nat × Nat × Nat)} (h : Cond.codeWith y b L r hh ∈ lw_all) : GoodIn lw_all (wsW_ y b L r hh) := by
  intro w hw
  rcases List.mem_cons.mp hw with e | e
  · rw [e]
    exact lw_self _ h
  · exact lw_self _ e
/-- any list of words by their places (lw_in), good -/
theorem lw_good {ws : List Cond} (h : ∀ w ∈ ws, w ∈ lw_all) : GoodIn lw_all ws := fun w hw => lw_self w (h w hw)
/-- what a call of a method with handlers asks: vx_cwVW n hts (lw_VW ..), vx_cwSW n hts (lw_SW ..) -/
theorem lw_VW {own : String} {idx : Nat} {C : String} {y : MethodName} {b : ByteArray} {L : Nat} {r : Option FieldType} {hh : List (Nat × Nat × Nat × Nat)} (h1 : Cond.methodLink own idx y ∈ lw_all) (h2 : Cond.instanceMethod y ∈ lw_all) (h3 : Cond.selects C y y ∈ lw_all) (h4 : Cond.initialized C ∈ lw_all) (h5 : Cond.codeWith y b L r hh ∈ lw_all) : GoodIn lw_all (wsV own idx C y (wsW_ y b L r hh)) := by
  refine lw_app ?_ (lw_methW h5)
  intro w hw
  simp only [List.mem_cons, List.not_mem_nil, or_false] at hw
  rcases hw with e | e | e | e
  · rw [e]; exact h1
  · rw [e]; exact h2
  · rw [e]; exact h3
  · rw [e]; exact h4
theorem lw_SW {own : String} {idx : Nat} {y : MethodName} {b : ByteArray} {L : Nat} {r : Option FieldType} {hh : List (Nat × Nat × Nat × Nat)} (h1 : Cond.methodLink own idx y ∈ lw_all) (h2 : Cond.static y ∈ lw_all) (h3 : Cond.initialized y.cls ∈ lw_all) (h4 : Cond.codeWith y b L r hh ∈ lw_all) : GoodIn lw_all (va_wsS own idx y (wsW_ y b L r hh)) := by
  refine lw_app ?_ (lw_methW h4)
  intro w hw
  simp only [List.mem_cons, List.not_mem_nil, or_false] at hw
  rcases hw with e | e | e
  · rw [e]; exact h1
  · rw [e]; exact h2
  · rw [e]; exact h3
/-- a word by its place in its run of the tables -/
theorem lw_at {r : List Cond} (hr : ∀ w ∈ r, w ∈ lw_tbl) {w : Cond} (i : Nat) (h : r[i]? = some w) : w ∈ lw_tbl := hr w (List.mem_of_getElem? h)
theorem lw_g {w : Cond} (h : w ∈ lw_tbl) (g : goodWord w = true) : w ∈ lw_all := List.mem_filter.mpr ⟨h, g⟩
theorem lw_ms : ∀ w ∈ k2_sels lw_privs, w ∈ lw_tbl := fun w h => show w ∈ k2_sels lw_privs ++ tables_1 from List.mem_append_left _ h
theorem lw_m1 : ∀ w ∈ tables_1_1, w ∈ lw_tbl := fun w h => show w ∈ k2_sels lw_privs ++ tables_1 from List.mem_append_right (k2_sels lw_privs) (show w ∈ tables_1 from List.mem_append_left _ h)
theorem lw_m2 : ∀ w ∈ tables_1_2, w ∈ lw_tbl := fun w h => show w ∈ k2_sels lw_privs ++ tables_1 from List.mem_append_right (k2_sels lw_privs) (show w ∈ tables_1 from List.mem_append_right _ (List.mem_append_left _ h))
theorem lw_m3 : ∀ w ∈ tables_1_3, w ∈ lw_tbl := fun w h => show w ∈ k2_sels lw_privs ++ tables_1 from List.mem_append_right (k2_sels lw_privs) (show w ∈ tables_1 from List.mem_append_right _ (List.mem_append_right _ (List.mem_append_left _ h)))
theorem lw_m4 : ∀ w ∈ tables_1_4, w ∈ lw_tbl := fun w h => show w ∈ k2_sels lw_privs ++ tables_1 from List.mem_append_right (k2_sels lw_privs) (show w ∈ tables_1 from List.mem_append_right _ (List.mem_append_right _ (List.mem_append_right _ h)))
theorem qs0 : (Cond.selects "WicketBoard" ⟨"WicketBoard", "four", "(I)V"⟩ ⟨"WicketBoard", "four", "(I)V"⟩) ∈ lw_all := lw_g (lw_at lw_ms 0 rfl) rfl
theorem qs1 : (Cond.selects "WicketBoard" ⟨"WicketBoard", "readRules", "()I"⟩ ⟨"WicketBoard", "readRules", "()I"⟩) ∈ lw_all := lw_g (lw_at lw_ms 1 rfl) rfl
theorem qs2 : (Cond.selects "WicketBoard" ⟨"WicketBoard", "nextToken", "()V"⟩ ⟨"WicketBoard", "nextToken", "()V"⟩) ∈ lw_all := lw_g (lw_at lw_ms 2 rfl) rfl
theorem qs3 : (Cond.selects "WicketBoard" ⟨"WicketBoard", "peek", "()I"⟩ ⟨"WicketBoard", "peek", "()I"⟩) ∈ lw_all := lw_g (lw_at lw_ms 3 rfl) rfl
theorem qs4 : (Cond.selects "WicketBoard" ⟨"WicketBoard", "wrong", "(I)LWicketBoard$Fault;"⟩ ⟨"WicketBoard", "wrong", "(I)LWicketBoard$Fault;"⟩) ∈ lw_all := lw_g (lw_at lw_ms 4 rfl) rfl
theorem qs5 : (Cond.selects "java/lang/Throwable" ⟨"java/lang/Throwable", "fillInStackTrace", "(I)Ljava/lang/Throwable;"⟩ ⟨"java/lang/Throwable", "fillInStackTrace", "(I)Ljava/lang/Throwable;"⟩) ∈ lw_all := lw_g (lw_at lw_ms 5 rfl) rfl
theorem qs6 : (Cond.selects "WicketBoard" ⟨"WicketBoard", "isUmpire", "(I)Z"⟩ ⟨"WicketBoard", "isUmpire", "(I)Z"⟩) ∈ lw_all := lw_g (lw_at lw_ms 6 rfl) rfl
theorem qs7 : (Cond.selects "WicketBoard" ⟨"WicketBoard", "isSeat", "(I)Z"⟩ ⟨"WicketBoard", "isSeat", "(I)Z"⟩) ∈ lw_all := lw_g (lw_at lw_ms 7 rfl) rfl
theorem qs8 : (Cond.selects "WicketBoard" ⟨"WicketBoard", "mayHave", "(LWicketBoard$Umpire;I)Z"⟩ ⟨"WicketBoard", "mayHave", "(LWicketBoard$Umpire;I)Z"⟩) ∈ lw_all := lw_g (lw_at lw_ms 8 rfl) rfl
theorem qs9 : (Cond.selects "WicketBoard" ⟨"WicketBoard", "isTired", "(LWicketBoard$Umpire;)Z"⟩ ⟨"WicketBoard", "isTired", "(LWicketBoard$Umpire;)Z"⟩) ∈ lw_all := lw_g (lw_at lw_ms 9 rfl) rfl
theorem qs10 : (Cond.selects "WicketBoard" ⟨"WicketBoard", "costOf", "(LWicketBoard$Umpire;I)I"⟩ ⟨"WicketBoard", "costOf", "(LWicketBoard$Umpire;I)I"⟩) ∈ lw_all := lw_g (lw_at lw_ms 10 rfl) rfl
theorem qs11 : (Cond.selects "WicketBoard" ⟨"WicketBoard", "sit", "(II)V"⟩ ⟨"WicketBoard", "sit", "(II)V"⟩) ∈ lw_all := lw_g (lw_at lw_ms 11 rfl) rfl
theorem qs12 : (Cond.selects "WicketBoard" ⟨"WicketBoard", "solve", "(II)J"⟩ ⟨"WicketBoard", "solve", "(II)J"⟩) ∈ lw_all := lw_g (lw_at lw_ms 12 rfl) rfl
theorem qs13 : (Cond.selects "WicketBoard" ⟨"WicketBoard", "enter", "(II)V"⟩ ⟨"WicketBoard", "enter", "(II)V"⟩) ∈ lw_all := lw_g (lw_at lw_ms 13 rfl) rfl
theorem qs14 : (Cond.selects "WicketBoard" ⟨"WicketBoard", "holds", "(IIIIJ)Z"⟩ ⟨"WicketBoard", "holds", "(IIIIJ)Z"⟩) ∈ lw_all := lw_g (lw_at lw_ms 14 rfl) rfl
theorem qs15 : (Cond.selects "WicketBoard" ⟨"WicketBoard", "cheapest", "(I)I"⟩ ⟨"WicketBoard", "cheapest", "(I)I"⟩) ∈ lw_all := lw_g (lw_at lw_ms 15 rfl) rfl
theorem qs16 : (Cond.selects "WicketBoard" ⟨"WicketBoard", "grade", "(LWicketBoard$Umpire;)V"⟩ ⟨"WicketBoard", "grade", "(LWicketBoard$Umpire;)V"⟩) ∈ lw_all := lw_g (lw_at lw_ms 16 rfl) rfl
theorem qs17 : (Cond.selects "WicketBoardModel" ⟨"WicketBoardModel", "come", "(I)V"⟩ ⟨"WicketBoardModel", "come", "(I)V"⟩) ∈ lw_all := lw_g (lw_at lw_ms 17 rfl) rfl
theorem qs18 : (Cond.selects "WicketBoardModel" ⟨"WicketBoardModel", "go", "()V"⟩ ⟨"WicketBoardModel", "go", "()V"⟩) ∈ lw_all := lw_g (lw_at lw_ms 18 rfl) rfl
theorem qs19 : (Cond.selects "WicketBoardModel" ⟨"WicketBoardModel", "byteAt", "(I)I"⟩ ⟨"WicketBoardModel", "byteAt", "(I)I"⟩) ∈ lw_all := lw_g (lw_at lw_ms 19 rfl) rfl
theorem qs20 : (Cond.selects "WicketBoardModel" ⟨"WicketBoardModel", "readRule", "()Z"⟩ ⟨"WicketBoardModel", "readRule", "()Z"⟩) ∈ lw_all := lw_g (lw_at lw_ms 20 rfl) rfl
theorem qs21 : (Cond.selects "WicketBoardModel" ⟨"WicketBoardModel", "ruleAtHand", "()I"⟩ ⟨"WicketBoardModel", "ruleAtHand", "()I"⟩) ∈ lw_all := lw_g (lw_at lw_ms 21 rfl) rfl
theorem qs22 : (Cond.selects "WicketBoardModel" ⟨"WicketBoardModel", "isKey", "(J)Z"⟩ ⟨"WicketBoardModel", "isKey", "(J)Z"⟩) ∈ lw_all := lw_g (lw_at lw_ms 22 rfl) rfl
theorem qs23 : (Cond.selects "WicketBoardModel" ⟨"WicketBoardModel", "bad", "(I)Z"⟩ ⟨"WicketBoardModel", "bad", "(I)Z"⟩) ∈ lw_all := lw_g (lw_at lw_ms 23 rfl) rfl
theorem qs24 : (Cond.selects "WicketBoardModel" ⟨"WicketBoardModel", "isUmpire", "(I)Z"⟩ ⟨"WicketBoardModel", "isUmpire", "(I)Z"⟩) ∈ lw_all := lw_g (lw_at lw_ms 24 rfl) rfl
theorem qs25 : (Cond.selects "WicketBoardModel" ⟨"WicketBoardModel", "seatOf", "(I)I"⟩ ⟨"WicketBoardModel", "seatOf", "(I)I"⟩) ∈ lw_all := lw_g (lw_at lw_ms 25 rfl) rfl
theorem qs26 : (Cond.selects "WicketBoardModel" ⟨"WicketBoardModel", "isSeat", "(I)Z"⟩ ⟨"WicketBoardModel", "isSeat", "(I)Z"⟩) ∈ lw_all := lw_g (lw_at lw_ms 26 rfl) rfl
theorem qs27 : (Cond.selects "WicketBoardModel" ⟨"WicketBoardModel", "mayHave", "(II)Z"⟩ ⟨"WicketBoardModel", "mayHave", "(II)Z"⟩) ∈ lw_all := lw_g (lw_at lw_ms 27 rfl) rfl
theorem qs28 : (Cond.selects "WicketBoardModel" ⟨"WicketBoardModel", "miles", "(II)I"⟩ ⟨"WicketBoardModel", "miles", "(II)I"⟩) ∈ lw_all := lw_g (lw_at lw_ms 28 rfl) rfl
theorem qs29 : (Cond.selects "WicketBoardModel" ⟨"WicketBoardModel", "costOf", "(II)I"⟩ ⟨"WicketBoardModel", "costOf", "(II)I"⟩) ∈ lw_all := lw_g (lw_at lw_ms 29 rfl) rfl
theorem qs30 : (Cond.selects "WicketBoardModel" ⟨"WicketBoardModel", "settle", "()V"⟩ ⟨"WicketBoardModel", "settle", "()V"⟩) ∈ lw_all := lw_g (lw_at lw_ms 30 rfl) rfl
theorem qs31 : (Cond.selects "WicketBoardModel" ⟨"WicketBoardModel", "seek", "(I)V"⟩ ⟨"WicketBoardModel", "seek", "(I)V"⟩) ∈ lw_all := lw_g (lw_at lw_ms 31 rfl) rfl
theorem qs32 : (Cond.selects "WicketBoardModel" ⟨"WicketBoardModel", "pays", "(I)I"⟩ ⟨"WicketBoardModel", "pays", "(I)I"⟩) ∈ lw_all := lw_g (lw_at lw_ms 32 rfl) rfl
theorem qs33 : (Cond.selects "WicketBoardModel" ⟨"WicketBoardModel", "change", "(I)V"⟩ ⟨"WicketBoardModel", "change", "(I)V"⟩) ∈ lw_all := lw_g (lw_at lw_ms 33 rfl) rfl
theorem qs34 : (Cond.selects "WicketBoardModel" ⟨"WicketBoardModel", "lessen", "(II)V"⟩ ⟨"WicketBoardModel", "lessen", "(II)V"⟩) ∈ lw_all := lw_g (lw_at lw_ms 34 rfl) rfl
theorem qs35 : (Cond.selects "WicketBoardModel" ⟨"WicketBoardModel", "placeOf", "(I)I"⟩ ⟨"WicketBoardModel", "placeOf", "(I)I"⟩) ∈ lw_all := lw_g (lw_at lw_ms 35 rfl) rfl
theorem qs36 : (Cond.selects "WicketBoardModel" ⟨"WicketBoardModel", "ways", "(III)V"⟩ ⟨"WicketBoardModel", "ways", "(III)V"⟩) ∈ lw_all := lw_g (lw_at lw_ms 36 rfl) rfl
theorem qs37 : (Cond.selects "WicketBoardModel" ⟨"WicketBoardModel", "moves", "(I)V"⟩ ⟨"WicketBoardModel", "moves", "(I)V"⟩) ∈ lw_all := lw_g (lw_at lw_ms 37 rfl) rfl
theorem qs38 : (Cond.selects "WicketBoardModel" ⟨"WicketBoardModel", "offer", "(IIII)V"⟩ ⟨"WicketBoardModel", "offer", "(IIII)V"⟩) ∈ lw_all := lw_g (lw_at lw_ms 38 rfl) rfl
theorem qs39 : (Cond.selects "WicketBoardModel" ⟨"WicketBoardModel", "filled", "()I"⟩ ⟨"WicketBoardModel", "filled", "()I"⟩) ∈ lw_all := lw_g (lw_at lw_ms 39 rfl) rfl
theorem qs40 : (Cond.selects "WicketBoardModel" ⟨"WicketBoardModel", "spare", "(I)I"⟩ ⟨"WicketBoardModel", "spare", "(I)I"⟩) ∈ lw_all := lw_g (lw_at lw_ms 40 rfl) rfl
theorem qs41 : (Cond.selects "WicketBoardModel" ⟨"WicketBoardModel", "refuse", "()I"⟩ ⟨"WicketBoardModel", "refuse", "()I"⟩) ∈ lw_all := lw_g (lw_at lw_ms 41 rfl) rfl
