section
-- ===== PART A: goes FIRST, ahead of the names: the tables' words, and 'selects' of the private methods out of them =====
/-- a private method of a class that the tables say can be made, by its rows of tables_1 -/
def lw_okq (q : MethodName × Nat) : Prop := (q.1.cls ≠ "java/lang/invoke/MethodHandle" ∧ q.1.cls ≠ "java/lang/invoke/VarHandle") ∧ Cond.instantiable q.1.cls q.2 ∈ tables_1 ∧ Cond.privateMethod q.1 ∈ tables_1 ∧ Cond.instanceMethod q.1 ∈ tables_1
set_option maxRecDepth 100000
theorem lw_t1 {w : Cond} (h : w ∈ tables_1_1) : w ∈ tables_1 := List.mem_append_left _ h
theorem lw_t2 {w : Cond} (h : w ∈ tables_1_2) : w ∈ tables_1 := List.mem_append_right _ (List.mem_append_left _ h)
theorem lw_t3 {w : Cond} (h : w ∈ tables_1_3) : w ∈ tables_1 := List.mem_append_right _ (List.mem_append_right _ (List.mem_append_left _ h))
theorem lw_t4 {w : Cond} (h : w ∈ tables_1_4) : w ∈ tables_1 := List.mem_append_right _ (List.mem_append_right _ (List.mem_append_right _ h))
theorem lw_p0 : lw_okq (⟨"WicketBoard", "four", "(I)V"⟩, 27) := ⟨⟨by decide +kernel, by decide +kernel⟩, lw_t1 (List.mem_of_getElem? (i := 25) rfl), lw_t1 (List.mem_of_getElem? (i := 23) rfl), lw_t1 (List.mem_of_getElem? (i := 24) rfl)⟩
theorem lw_p1 : lw_okq (⟨"WicketBoard", "readRules", "()I"⟩, 27) := ⟨⟨by decide +kernel, by decide +kernel⟩, lw_t1 (List.mem_of_getElem? (i := 25) rfl), lw_t1 (List.mem_of_getElem? (i := 37) rfl), lw_t1 (List.mem_of_getElem? (i := 38) rfl)⟩
theorem lw_p2 : lw_okq (⟨"WicketBoard", "nextToken", "()V"⟩, 27) := ⟨⟨by decide +kernel, by decide +kernel⟩, lw_t1 (List.mem_of_getElem? (i := 25) rfl), lw_t1 (List.mem_of_getElem? (i := 41) rfl), lw_t1 (List.mem_of_getElem? (i := 42) rfl)⟩
theorem lw_p3 : lw_okq (⟨"WicketBoard", "peek", "()I"⟩, 27) := ⟨⟨by decide +kernel, by decide +kernel⟩, lw_t1 (List.mem_of_getElem? (i := 25) rfl), lw_t1 (List.mem_of_getElem? (i := 45) rfl), lw_t1 (List.mem_of_getElem? (i := 46) rfl)⟩
theorem lw_p4 : lw_okq (⟨"WicketBoard", "wrong", "(I)LWicketBoard$Fault;"⟩, 27) := ⟨⟨by decide +kernel, by decide +kernel⟩, lw_t1 (List.mem_of_getElem? (i := 25) rfl), lw_t1 (List.mem_of_getElem? (i := 107) rfl), lw_t1 (List.mem_of_getElem? (i := 108) rfl)⟩
theorem lw_p5 : lw_okq (⟨"java/lang/Throwable", "fillInStackTrace", "(I)Ljava/lang/Throwable;"⟩, 6) := ⟨⟨by decide +kernel, by decide +kernel⟩, lw_t1 (List.mem_of_getElem? (i := 196) rfl), lw_t1 (List.mem_of_getElem? (i := 194) rfl), lw_t1 (List.mem_of_getElem? (i := 195) rfl)⟩
theorem lw_p6 : lw_okq (⟨"WicketBoard", "isUmpire", "(I)Z"⟩, 27) := ⟨⟨by decide +kernel, by decide +kernel⟩, lw_t1 (List.mem_of_getElem? (i := 25) rfl), lw_t2 (List.mem_of_getElem? (i := 135) rfl), lw_t2 (List.mem_of_getElem? (i := 136) rfl)⟩
theorem lw_p7 : lw_okq (⟨"WicketBoard", "isSeat", "(I)Z"⟩, 27) := ⟨⟨by decide +kernel, by decide +kernel⟩, lw_t1 (List.mem_of_getElem? (i := 25) rfl), lw_t2 (List.mem_of_getElem? (i := 169) rfl), lw_t2 (List.mem_of_getElem? (i := 170) rfl)⟩
theorem lw_p8 : lw_okq (⟨"WicketBoard", "mayHave", "(LWicketBoard$Umpire;I)Z"⟩, 27) := ⟨⟨by decide +kernel, by decide +kernel⟩, lw_t1 (List.mem_of_getElem? (i := 25) rfl), lw_t2 (List.mem_of_getElem? (i := 173) rfl), lw_t2 (List.mem_of_getElem? (i := 174) rfl)⟩
theorem lw_p9 : lw_okq (⟨"WicketBoard", "isTired", "(LWicketBoard$Umpire;)Z"⟩, 27) := ⟨⟨by decide +kernel, by decide +kernel⟩, lw_t1 (List.mem_of_getElem? (i := 25) rfl), lw_t2 (List.mem_of_getElem? (i := 183) rfl), lw_t2 (List.mem_of_getElem? (i := 184) rfl)⟩
theorem lw_p10 : lw_okq (⟨"WicketBoard", "costOf", "(LWicketBoard$Umpire;I)I"⟩, 27) := ⟨⟨by decide +kernel, by decide +kernel⟩, lw_t1 (List.mem_of_getElem? (i := 25) rfl), lw_t2 (List.mem_of_getElem? (i := 194) rfl), lw_t2 (List.mem_of_getElem? (i := 195) rfl)⟩
theorem lw_p11 : lw_okq (⟨"WicketBoard", "sit", "(II)V"⟩, 27) := ⟨⟨by decide +kernel, by decide +kernel⟩, lw_t1 (List.mem_of_getElem? (i := 25) rfl), lw_t2 (List.mem_of_getElem? (i := 202) rfl), lw_t2 (List.mem_of_getElem? (i := 203) rfl)⟩
theorem lw_p12 : lw_okq (⟨"WicketBoard", "solve", "(II)J"⟩, 27) := ⟨⟨by decide +kernel, by decide +kernel⟩, lw_t1 (List.mem_of_getElem? (i := 25) rfl), lw_t2 (List.mem_of_getElem? (i := 208) rfl), lw_t2 (List.mem_of_getElem? (i := 209) rfl)⟩
theorem lw_p13 : lw_okq (⟨"WicketBoard", "enter", "(II)V"⟩, 27) := ⟨⟨by decide +kernel, by decide +kernel⟩, lw_t1 (List.mem_of_getElem? (i := 25) rfl), lw_t2 (List.mem_of_getElem? (i := 212) rfl), lw_t2 (List.mem_of_getElem? (i := 213) rfl)⟩
theorem lw_p14 : lw_okq (⟨"WicketBoard", "holds", "(IIIIJ)Z"⟩, 27) := ⟨⟨by decide +kernel, by decide +kernel⟩, lw_t1 (List.mem_of_getElem? (i := 25) rfl), lw_t2 (List.mem_of_getElem? (i := 217) rfl), lw_t2 (List.mem_of_getElem? (i := 218) rfl)⟩
theorem lw_p15 : lw_okq (⟨"WicketBoard", "cheapest", "(I)I"⟩, 27) := ⟨⟨by decide +kernel, by decide +kernel⟩, lw_t1 (List.mem_of_getElem? (i := 25) rfl), lw_t2 (List.mem_of_getElem? (i := 225) rfl), lw_t2 (List.mem_of_getElem? (i := 226) rfl)⟩
def lw_privs_1 : List (MethodName × Nat) := [(⟨"WicketBoard", "four", "(I)V"⟩, 27), (⟨"WicketBoard", "readRules", "()I"⟩, 27), (⟨"WicketBoard", "nextToken", "()V"⟩, 27), (⟨"WicketBoard", "peek", "()I"⟩, 27), (⟨"WicketBoard", "wrong", "(I)LWicketBoard$Fault;"⟩, 27), (⟨"java/lang/Throwable", "fillInStackTrace", "(I)Ljava/lang/Throwable;"⟩, 6), (⟨"WicketBoard", "isUmpire", "(I)Z"⟩, 27), (⟨"WicketBoard", "isSeat", "(I)Z"⟩, 27), (⟨"WicketBoard", "mayHave", "(LWicketBoard$Umpire;I)Z"⟩, 27), (⟨"WicketBoard", "isTired", "(LWicketBoard$Umpire;)Z"⟩, 27), (⟨"WicketBoard", "costOf", "(LWicketBoard$Umpire;I)I"⟩, 27), (⟨"WicketBoard", "sit", "(II)V"⟩, 27), (⟨"WicketBoard", "solve", "(II)J"⟩, 27), (⟨"WicketBoard", "enter", "(II)V"⟩, 27), (⟨"WicketBoard", "holds", "(IIIIJ)Z"⟩, 27), (⟨"WicketBoard", "cheapest", "(I)I"⟩, 27)]
theorem lw_r1 : ∀ q ∈ lw_privs_1, lw_okq q := List.forall_mem_cons.mpr ⟨lw_p0, List.forall_mem_cons.mpr ⟨lw_p1, List.forall_mem_cons.mpr ⟨lw_p2, List.forall_mem_cons.mpr ⟨lw_p3, List.forall_mem_cons.mpr ⟨lw_p4, List.forall_mem_cons.mpr ⟨lw_p5, List.forall_mem_cons.mpr ⟨lw_p6, List.forall_mem_cons.mpr ⟨lw_p7, List.forall_mem_cons.mpr ⟨lw_p8, List.forall_mem_cons.mpr ⟨lw_p9, List.forall_mem_cons.mpr ⟨lw_p10, List.forall_mem_cons.mpr ⟨lw_p11, List.forall_mem_cons.mpr ⟨lw_p12, List.forall_mem_cons.mpr ⟨lw_p13, List.forall_mem_cons.mpr ⟨lw_p14, List.forall_mem_cons.mpr ⟨lw_p15, fun _ h => absurd h List.not_mem_nil⟩⟩⟩⟩⟩⟩⟩⟩⟩⟩⟩⟩⟩⟩⟩⟩
theorem lw_p16 : lw_okq (⟨"WicketBoard", "grade", "(LWicketBoard$Umpire;)V"⟩, 27) := ⟨⟨by decide +kernel, by decide +kernel⟩, lw_t1 (List.mem_of_getElem? (i := 25) rfl), lw_t3 (List.mem_of_getElem? (i := 1) rfl), lw_t3 (List.mem_of_getElem? (i := 2) rfl)⟩
theorem lw_p17 : lw_okq (⟨"WicketBoardModel", "come", "(I)V"⟩, 46) := ⟨⟨by decide +kernel, by decide +kernel⟩, lw_t3 (List.mem_of_getElem? (i := 58) rfl), lw_t3 (List.mem_of_getElem? (i := 211) rfl), lw_t3 (List.mem_of_getElem? (i := 212) rfl)⟩
theorem lw_p18 : lw_okq (⟨"WicketBoardModel", "go", "()V"⟩, 46) := ⟨⟨by decide +kernel, by decide +kernel⟩, lw_t3 (List.mem_of_getElem? (i := 58) rfl), lw_t3 (List.mem_of_getElem? (i := 223) rfl), lw_t3 (List.mem_of_getElem? (i := 224) rfl)⟩
theorem lw_p19 : lw_okq (⟨"WicketBoardModel", "byteAt", "(I)I"⟩, 46) := ⟨⟨by decide +kernel, by decide +kernel⟩, lw_t3 (List.mem_of_getElem? (i := 58) rfl), lw_t3 (List.mem_of_getElem? (i := 233) rfl), lw_t3 (List.mem_of_getElem? (i := 234) rfl)⟩
theorem lw_p20 : lw_okq (⟨"WicketBoardModel", "readRule", "()Z"⟩, 46) := ⟨⟨by decide +kernel, by decide +kernel⟩, lw_t3 (List.mem_of_getElem? (i := 58) rfl), lw_t4 (List.mem_of_getElem? (i := 0) rfl), lw_t4 (List.mem_of_getElem? (i := 1) rfl)⟩
theorem lw_p21 : lw_okq (⟨"WicketBoardModel", "ruleAtHand", "()I"⟩, 46) := ⟨⟨by decide +kernel, by decide +kernel⟩, lw_t3 (List.mem_of_getElem? (i := 58) rfl), lw_t4 (List.mem_of_getElem? (i := 4) rfl), lw_t4 (List.mem_of_getElem? (i := 5) rfl)⟩
theorem lw_p22 : lw_okq (⟨"WicketBoardModel", "isKey", "(J)Z"⟩, 46) := ⟨⟨by decide +kernel, by decide +kernel⟩, lw_t3 (List.mem_of_getElem? (i := 58) rfl), lw_t4 (List.mem_of_getElem? (i := 11) rfl), lw_t4 (List.mem_of_getElem? (i := 12) rfl)⟩
theorem lw_p23 : lw_okq (⟨"WicketBoardModel", "bad", "(I)Z"⟩, 46) := ⟨⟨by decide +kernel, by decide +kernel⟩, lw_t3 (List.mem_of_getElem? (i := 58) rfl), lw_t4 (List.mem_of_getElem? (i := 16) rfl), lw_t4 (List.mem_of_getElem? (i := 17) rfl)⟩
theorem lw_p24 : lw_okq (⟨"WicketBoardModel", "isUmpire", "(I)Z"⟩, 46) := ⟨⟨by decide +kernel, by decide +kernel⟩, lw_t3 (List.mem_of_getElem? (i := 58) rfl), lw_t4 (List.mem_of_getElem? (i := 39) rfl), lw_t4 (List.mem_of_getElem? (i := 40) rfl)⟩
theorem lw_p25 : lw_okq (⟨"WicketBoardModel", "seatOf", "(I)I"⟩, 46) := ⟨⟨by decide +kernel, by decide +kernel⟩, lw_t3 (List.mem_of_getElem? (i := 58) rfl), lw_t4 (List.mem_of_getElem? (i := 43) rfl), lw_t4 (List.mem_of_getElem? (i := 44) rfl)⟩
theorem lw_p26 : lw_okq (⟨"WicketBoardModel", "isSeat", "(I)Z"⟩, 46) := ⟨⟨by decide +kernel, by decide +kernel⟩, lw_t3 (List.mem_of_getElem? (i := 58) rfl), lw_t4 (List.mem_of_getElem? (i := 55) rfl), lw_t4 (List.mem_of_getElem? (i := 56) rfl)⟩
theorem lw_p27 : lw_okq (⟨"WicketBoardModel", "mayHave", "(II)Z"⟩, 46) := ⟨⟨by decide +kernel, by decide +kernel⟩, lw_t3 (List.mem_of_getElem? (i := 58) rfl), lw_t4 (List.mem_of_getElem? (i := 59) rfl), lw_t4 (List.mem_of_getElem? (i := 60) rfl)⟩
theorem lw_p28 : lw_okq (⟨"WicketBoardModel", "miles", "(II)I"⟩, 46) := ⟨⟨by decide +kernel, by decide +kernel⟩, lw_t3 (List.mem_of_getElem? (i := 58) rfl), lw_t4 (List.mem_of_getElem? (i := 63) rfl), lw_t4 (List.mem_of_getElem? (i := 64) rfl)⟩
theorem lw_p29 : lw_okq (⟨"WicketBoardModel", "costOf", "(II)I"⟩, 46) := ⟨⟨by decide +kernel, by decide +kernel⟩, lw_t3 (List.mem_of_getElem? (i := 58) rfl), lw_t4 (List.mem_of_getElem? (i := 74) rfl), lw_t4 (List.mem_of_getElem? (i := 75) rfl)⟩
theorem lw_p30 : lw_okq (⟨"WicketBoardModel", "settle", "()V"⟩, 46) := ⟨⟨by decide +kernel, by decide +kernel⟩, lw_t3 (List.mem_of_getElem? (i := 58) rfl), lw_t4 (List.mem_of_getElem? (i := 82) rfl), lw_t4 (List.mem_of_getElem? (i := 83) rfl)⟩
theorem lw_p31 : lw_okq (⟨"WicketBoardModel", "seek", "(I)V"⟩, 46) := ⟨⟨by decide +kernel, by decide +kernel⟩, lw_t3 (List.mem_of_getElem? (i := 58) rfl), lw_t4 (List.mem_of_getElem? (i := 87) rfl), lw_t4 (List.mem_of_getElem? (i := 88) rfl)⟩
def lw_privs_2 : List (MethodName × Nat) := [(⟨"WicketBoard", "grade", "(LWicketBoard$Umpire;)V"⟩, 27), (⟨"WicketBoardModel", "come", "(I)V"⟩, 46), (⟨"WicketBoardModel", "go", "()V"⟩, 46), (⟨"WicketBoardModel", "byteAt", "(I)I"⟩, 46), (⟨"WicketBoardModel", "readRule", "()Z"⟩, 46), (⟨"WicketBoardModel", "ruleAtHand", "()I"⟩, 46), (⟨"WicketBoardModel", "isKey", "(J)Z"⟩, 46), (⟨"WicketBoardModel", "bad", "(I)Z"⟩, 46), (⟨"WicketBoardModel", "isUmpire", "(I)Z"⟩, 46), (⟨"WicketBoardModel", "seatOf", "(I)I"⟩, 46), (⟨"WicketBoardModel", "isSeat", "(I)Z"⟩, 46), (⟨"WicketBoardModel", "mayHave", "(II)Z"⟩, 46), (⟨"WicketBoardModel", "miles", "(II)I"⟩, 46), (⟨"WicketBoardModel", "costOf", "(II)I"⟩, 46), (⟨"WicketBoardModel", "settle", "()V"⟩, 46), (⟨"WicketBoardModel", "seek", "(I)V"⟩, 46)]
theorem lw_r2 : ∀ q ∈ lw_privs_2, lw_okq q := List.forall_mem_cons.mpr ⟨lw_p16, List.forall_mem_cons.mpr ⟨lw_p17, List.forall_mem_cons.mpr ⟨lw_p18, List.forall_mem_cons.mpr ⟨lw_p19, List.forall_mem_cons.mpr ⟨lw_p20, List.forall_mem_cons.mpr ⟨lw_p21, List.forall_mem_cons.mpr ⟨lw_p22, List.forall_mem_cons.mpr ⟨lw_p23, List.forall_mem_cons.mpr ⟨lw_p24, List.forall_mem_cons.mpr ⟨lw_p25, List.forall_mem_cons.mpr ⟨lw_p26, List.forall_mem_cons.mpr ⟨lw_p27, List.forall_mem_cons.mpr ⟨lw_p28, List.forall_mem_cons.mpr ⟨lw_p29, List.forall_mem_cons.mpr ⟨lw_p30, List.forall_mem_cons.mpr ⟨lw_p31, fun _ h => absurd h List.not_mem_nil⟩⟩⟩⟩⟩⟩⟩⟩⟩⟩⟩⟩⟩⟩⟩⟩
theorem lw_p32 : lw_okq (⟨"WicketBoardModel", "pays", "(I)I"⟩, 46) := ⟨⟨by decide +kernel, by decide +kernel⟩, lw_t3 (List.mem_of_getElem? (i := 58) rfl), lw_t4 (List.mem_of_getElem? (i := 92) rfl), lw_t4 (List.mem_of_getElem? (i := 93) rfl)⟩
theorem lw_p33 : lw_okq (⟨"WicketBoardModel", "change", "(I)V"⟩, 46) := ⟨⟨by decide +kernel, by decide +kernel⟩, lw_t3 (List.mem_of_getElem? (i := 58) rfl), lw_t4 (List.mem_of_getElem? (i := 96) rfl), lw_t4 (List.mem_of_getElem? (i := 97) rfl)⟩
theorem lw_p34 : lw_okq (⟨"WicketBoardModel", "lessen", "(II)V"⟩, 46) := ⟨⟨by decide +kernel, by decide +kernel⟩, lw_t3 (List.mem_of_getElem? (i := 58) rfl), lw_t4 (List.mem_of_getElem? (i := 100) rfl), lw_t4 (List.mem_of_getElem? (i := 101) rfl)⟩
theorem lw_p35 : lw_okq (⟨"WicketBoardModel", "placeOf", "(I)I"⟩, 46) := ⟨⟨by decide +kernel, by decide +kernel⟩, lw_t3 (List.mem_of_getElem? (i := 58) rfl), lw_t4 (List.mem_of_getElem? (i := 104) rfl), lw_t4 (List.mem_of_getElem? (i := 105) rfl)⟩
theorem lw_p36 : lw_okq (⟨"WicketBoardModel", "ways", "(III)V"⟩, 46) := ⟨⟨by decide +kernel, by decide +kernel⟩, lw_t3 (List.mem_of_getElem? (i := 58) rfl), lw_t4 (List.mem_of_getElem? (i := 108) rfl), lw_t4 (List.mem_of_getElem? (i := 109) rfl)⟩
theorem lw_p37 : lw_okq (⟨"WicketBoardModel", "moves", "(I)V"⟩, 46) := ⟨⟨by decide +kernel, by decide +kernel⟩, lw_t3 (List.mem_of_getElem? (i := 58) rfl), lw_t4 (List.mem_of_getElem? (i := 112) rfl), lw_t4 (List.mem_of_getElem? (i := 113) rfl)⟩
theorem lw_p38 : lw_okq (⟨"WicketBoardModel", "offer", "(IIII)V"⟩, 46) := ⟨⟨by decide +kernel, by decide +kernel⟩, lw_t3 (List.mem_of_getElem? (i := 58) rfl), lw_t4 (List.mem_of_getElem? (i := 116) rfl), lw_t4 (List.mem_of_getElem? (i := 117) rfl)⟩
theorem lw_p39 : lw_okq (⟨"WicketBoardModel", "filled", "()I"⟩, 46) := ⟨⟨by decide +kernel, by decide +kernel⟩, lw_t3 (List.mem_of_getElem? (i := 58) rfl), lw_t4 (List.mem_of_getElem? (i := 120) rfl), lw_t4 (List.mem_of_getElem? (i := 121) rfl)⟩
theorem lw_p40 : lw_okq (⟨"WicketBoardModel", "spare", "(I)I"⟩, 46) := ⟨⟨by decide +kernel, by decide +kernel⟩, lw_t3 (List.mem_of_getElem? (i := 58) rfl), lw_t4 (List.mem_of_getElem? (i := 128) rfl), lw_t4 (List.mem_of_getElem? (i := 129) rfl)⟩
theorem lw_p41 : lw_okq (⟨"WicketBoardModel", "refuse", "()I"⟩, 46) := ⟨⟨by decide +kernel, by decide +kernel⟩, lw_t3 (List.mem_of_getElem? (i := 58) rfl), lw_t4 (List.mem_of_getElem? (i := 148) rfl), lw_t4 (List.mem_of_getElem? (i := 149) rfl)⟩
def lw_privs_3 : List (MethodName × Nat) := [(⟨"WicketBoardModel", "pays", "(I)I"⟩, 46), (⟨"WicketBoardModel", "change", "(I)V"⟩, 46), (⟨"WicketBoardModel", "lessen", "(II)V"⟩, 46), (⟨"WicketBoardModel", "placeOf", "(I)I"⟩, 46), (⟨"WicketBoardModel", "ways", "(III)V"⟩, 46), (⟨"WicketBoardModel", "moves", "(I)V"⟩, 46), (⟨"WicketBoardModel", "offer", "(IIII)V"⟩, 46), (⟨"WicketBoardModel", "filled", "()I"⟩, 46), (⟨"WicketBoardModel", "spare", "(I)I"⟩, 46), (⟨"WicketBoardModel", "refuse", "()I"⟩, 46)]
theorem lw_r3 : ∀ q ∈ lw_privs_3, lw_okq q := List.forall_mem_cons.mpr ⟨lw_p32, List.forall_mem_cons.mpr ⟨lw_p33, List.forall_mem_cons.mpr ⟨lw_p34, List.forall_mem_cons.mpr ⟨lw_p35, List.forall_mem_cons.mpr ⟨lw_p36, List.forall_mem_cons.mpr ⟨lw_p37, List.forall_mem_cons.mpr ⟨lw_p38, List.forall_mem_cons.mpr ⟨lw_p39, List.forall_mem_cons.mpr ⟨lw_p40, List.forall_mem_cons.mpr ⟨lw_p41, fun _ h => absurd h List.not_mem_nil⟩⟩⟩⟩⟩⟩⟩⟩⟩⟩
def lw_privs : List (MethodName × Nat) := lw_privs_1 ++ (lw_privs_2 ++ (lw_privs_3))
def lw_tbl : List Cond := k2_sels lw_privs ++ tables_1
theorem lw_privs_ok : ∀ q ∈ lw_privs, lw_okq q := by
  show ∀ q ∈ lw_privs_1 ++ (lw_privs_2 ++ (lw_privs_3)), lw_okq q
  exact List.forall_mem_append.mpr ⟨lw_r1, List.forall_mem_append.mpr ⟨lw_r2, lw_r3⟩⟩
-- ===== ONE list of words for every method: the tables' words that hold all through a run =====
def lw_all : List Cond := lw_tbl.filter goodWord
/-- a word of the tables by its place: claim/WORDS.tsv -/
theorem lw_w {w : Cond} (i : Nat) (h : lw_tbl[i]? = some w) (g : goodWord w = true) : w ∈ lw_all := List.mem_filter.mpr ⟨List.mem_of_getElem? h, g⟩
theorem lw_all_tbl {w : Cond} (h : w ∈ lw_all) : w ∈ lw_tbl := (List.mem_filter.mp h).1
theorem lw_self : GoodIn lw_all lw_all := fun w h => ⟨h, good_of_word (List.mem_filter.mp h).2⟩
/-- a class's field words, by their places -/
theorem lw_in (ws : List Cond) (ps : List Nat) (hp : ws = ps.filterMap (fun i => lw_tbl[i]?)) (hg : ws.all goodWord = true) : ∀ w ∈ ws, w ∈ lw_all := by
  intro w h
  have h1 := List.all_eq_true.mp hg w h
  rw [hp] at h
  obtain ⟨i, -, hi⟩ := List.mem_filterMap.mp h
  exact lw_w i hi h1
/-- the words of a contract for the method y with code b, L locals, answer r -/
abbrev ws_ (y : MethodName) (b : ByteArray) (L : Nat) (r : Option FieldType) : List Cond := Cond.code y b L r :: lw_all
theorem lw_meth {y : MethodName} {b : ByteArray} {L : Nat} {r : Option FieldType} (h : Cond.code y b L r ∈ lw_all) : GoodIn lw_all (ws_ y b L r) := by
  intro w hw
  rcases List.mem_cons.mp hw with e | e
  · rw [e]
    exact lw_self _ h
  · exact lw_self _ e
theorem lw_app {a c : List Cond} (ha : ∀ w ∈ a, w ∈ lw_all) (hc : GoodIn lw_all c) : GoodIn lw_all (a ++ c) := by
  intro w hw
  rcases List.mem_append.mp hw with e | e
  · exact lw_self w (ha w e)
  · exact hc w e
/-- what a call through an object asks: cwV n hts (lw_V ..) -/
theorem lw_V {own : String} {idx : Nat} {C : String} {y : MethodName} {b : ByteArray} {L : Nat} {r : Option FieldType} (h1 : Cond.methodLink own idx y ∈ lw_all) (h2 : Cond.instanceMethod y ∈ lw_all) (h3 : Cond.selects C y y ∈ lw_all) (h4 : Cond.initialized C ∈ lw_all) (h5 : Cond.code y b L r ∈ lw_all) : GoodIn lw_all (wsV own idx C y (ws_ y b L r)) := by
  refine lw_app ?_ (lw_meth h5)
  intro w hw
  simp only [List.mem_cons, List.not_mem_nil, or_false] at hw
  rcases hw with e | e | e | e
  · rw [e]; exact h1
  · rw [e]; exact h2
  · rw [e]; exact h3
  · rw [e]; exact h4
/-- what a static call asks: va_cwS n hts (lw_S ..) -/
theorem lw_S {own : String} {idx : Nat} {y : MethodName} {b : ByteArray} {L : Nat} {r : Option FieldType} (h1 : Cond.methodLink own idx y ∈ lw_all) (h2 : Cond.static y ∈ lw_all) (h3 : Cond.initialized y.cls ∈ lw_all) (h4 : Cond.code y b L r ∈ lw_all) : GoodIn lw_all (va_wsS own idx y (ws_ y b L r)) := by
  refine lw_app ?_ (lw_meth h4)
  intro w hw
  simp only [List.mem_cons, List.not_mem_nil, or_false] at hw
  rcases hw with e | e | e
  · rw [e]; exact h1
  · rw [e]; exact h2
  · rw [e]; exact h3
/-- the words of a contract for a method WITH HANDLERS (hh: its table) -/
abbrev wsW_ (y : MethodName) (b : ByteArray) (L : Nat) (r : Option FieldType) (hh : List (Nat × Nat × Nat × Nat)) : List Cond := Cond.codeWith y b L r hh :: lw_all
theorem lw_methW {y : MethodName} {b : ByteArray} {L : Nat} {r : Option FieldType} {hh : List (Nat × Nat × Nat × Nat)} (h : Cond.codeWith y b L r hh ∈ lw_all) : GoodIn lw_all (wsW_ y b L r hh) := by
  intro w hw
  rcases List.mem_cons.mp hw with e | e
  · rw [e]
    exact lw_self _ h
  · exact lw_self _ e
/-- any list of words by their places (lw_in), good -/
theorem lw_good {ws : List Cond} (h : ∀ w ∈ ws, w ∈ lw_all) : GoodIn lw_all ws := fun w hw => lw_self w (h w hw)
/-- what a call of a method with handlers asks: vx_cwVW n hts (lw_VW ..), vx_cwSW n hts (lw_SW ..) -/
theorem lw_VW {own : String} {idx : Nat} {C : String} {y : MethodName} {b : ByteArray} {L : Nat} {r : Option FieldType} {hh : List (Nat × Nat × Nat × Nat)} (h1 : Cond.methodLink own idx y ∈ lw_all) (h2 : Cond.instanceMethod y ∈ lw_all) (h3 : Cond.selects C y y ∈ lw_all) (h4 : Cond.initialized C ∈ lw_all) (h5 : Cond.codeWith y b L r hh ∈ lw_all) : GoodIn lw_all (wsV own idx C y (wsW_ y b L r hh)) := by
  refine lw_app ?_ (lw_methW h5)
  intro w hw
  simp only [List.mem_cons, List.not_mem_nil, or_false] at hw
  rcases hw with e | e | e | e
  · rw [e]; exact h1
  · rw [e]; exact h2
  · rw [e]; exact h3
  · rw [e]; exact h4
theorem lw_SW {own : String} {idx : Nat} {y : MethodName} {b : ByteArray} {L : Nat} {r : Option FieldType} {hh : List (Nat × Nat × Nat × Nat)} (h1 : Cond.methodLink own idx y ∈ lw_all) (h2 : Cond.static y ∈ lw_all) (h3 : Cond.initialized y.cls ∈ lw_all) (h4 : Cond.codeWith y b L r hh ∈ lw_all) : GoodIn lw_all (va_wsS own idx y (wsW_ y b L r hh)) := by
  refine lw_app ?_ (lw_methW h4)
  intro w hw
  simp only [List.mem_cons, List.not_mem_nil, or_false] at hw
  rcases hw with e | e | e
  · rw [e]; exact h1
  · rw [e]; exact h2
  · rw [e]; exact h3
/-- a word by its place in its run of the tables -/
theorem lw_at {r : List Cond} (hr : ∀ w ∈ r, w ∈ lw_tbl) {w : Cond} (i : Nat) (h : r[i]? = some w) : w ∈ lw_tbl := hr w (List.mem_of_getElem? h)
theorem lw_g {w : Cond} (h : w ∈ lw_tbl) (g : goodWord w = true) : w ∈ lw_all := List.mem_filter.mpr ⟨h, g⟩
theorem lw_ms : ∀ w ∈ k2_sels lw_privs, w ∈ lw_tbl := fun w h => show w ∈ k2_sels lw_privs ++ tables_1 from List.mem_append_left _ h
theorem lw_m1 : ∀ w ∈ tables_1_1, w ∈ lw_tbl := fun w h => show w ∈ k2_sels lw_privs ++ tables_1 from List.mem_append_right (k2_sels lw_privs) (show w ∈ tables_1 from List.mem_append_left _ h)
theorem lw_m2 : ∀ w ∈ tables_1_2, w ∈ lw_tbl := fun w h => show w ∈ k2_sels lw_privs ++ tables_1 from List.mem_append_right (k2_sels lw_privs) (show w ∈ tables_1 from List.mem_append_right _ (List.mem_append_left _ h))
theorem lw_m3 : ∀ w ∈ tables_1_3, w ∈ lw_tbl := fun w h => show w ∈ k2_sels lw_privs ++ tables_1 from List.mem_append_right (k2_sels lw_privs) (show w ∈ tables_1 from List.mem_append_right _ (List.mem_append_right _ (List.mem_append_left _ h)))
theorem lw_m4 : ∀ w ∈ tables_1_4, w ∈ lw_tbl := fun w h => show w ∈ k2_sels lw_privs ++ tables_1 from List.mem_append_right (k2_sels lw_privs) (show w ∈ tables_1 from List.mem_append_right _ (List.mem_append_right _ (List.mem_append_right _ h)))
theorem qs0 : (Cond.selects "WicketBoard" ⟨"WicketBoard", "four", "(I)V"⟩ ⟨"WicketBoard", "four", "(I)V"⟩) ∈ lw_all := lw_g (lw_at lw_ms 0 rfl) rfl
theorem qs1 : (Cond.selects "WicketBoard" ⟨"WicketBoard", "readRules", "()I"⟩ ⟨"WicketBoard", "readRules", "()I"⟩) ∈ lw_all := lw_g (lw_at lw_ms 1 rfl) rfl
theorem qs2 : (Cond.selects "WicketBoard" ⟨"WicketBoard", "nextToken", "()V"⟩ ⟨"WicketBoard", "nextToken", "()V"⟩) ∈ lw_all := lw_g (lw_at lw_ms 2 rfl) rfl
theorem qs3 : (Cond.selects "WicketBoard" ⟨"WicketBoard", "peek", "()I"⟩ ⟨"WicketBoard", "peek", "()I"⟩) ∈ lw_all := lw_g (lw_at lw_ms 3 rfl) rfl
theorem qs4 : (Cond.selects "WicketBoard" ⟨"WicketBoard", "wrong", "(I)LWicketBoard$Fault;"⟩ ⟨"WicketBoard", "wrong", "(I)LWicketBoard$Fault;"⟩) ∈ lw_all := lw_g (lw_at lw_ms 4 rfl) rfl
theorem qs5 : (Cond.selects "java/lang/Throwable" ⟨"java/lang/Throwable", "fillInStackTrace", "(I)Ljava/lang/Throwable;"⟩ ⟨"java/lang/Throwable", "fillInStackTrace", "(I)Ljava/lang/Throwable;"⟩) ∈ lw_all := lw_g (lw_at lw_ms 5 rfl) rfl
theorem qs6 : (Cond.selects "WicketBoard" ⟨"WicketBoard", "isUmpire", "(I)Z"⟩ ⟨"WicketBoard", "isUmpire", "(I)Z"⟩) ∈ lw_all := lw_g (lw_at lw_ms 6 rfl) rfl
theorem qs7 : (Cond.selects "WicketBoard" ⟨"WicketBoard", "isSeat", "(I)Z"⟩ ⟨"WicketBoard", "isSeat", "(I)Z"⟩) ∈ lw_all := lw_g (lw_at lw_ms 7 rfl) rfl
theorem qs8 : (Cond.selects "WicketBoard" ⟨"WicketBoard", "mayHave", "(LWicketBoard$Umpire;I)Z"⟩ ⟨"WicketBoard", "mayHave", "(LWicketBoard$Umpire;I)Z"⟩) ∈ lw_all := lw_g (lw_at lw_ms 8 rfl) rfl
theorem qs9 : (Cond.selects "WicketBoard" ⟨"WicketBoard", "isTired", "(LWicketBoard$Umpire;)Z"⟩ ⟨"WicketBoard", "isTired", "(LWicketBoard$Umpire;)Z"⟩) ∈ lw_all := lw_g (lw_at lw_ms 9 rfl) rfl
theorem qs10 : (Cond.selects "WicketBoard" ⟨"WicketBoard", "costOf", "(LWicketBoard$Umpire;I)I"⟩ ⟨"WicketBoard", "costOf", "(LWicketBoard$Umpire;I)I"⟩) ∈ lw_all := lw_g (lw_at lw_ms 10 rfl) rfl
theorem qs11 : (Cond.selects "WicketBoard" ⟨"WicketBoard", "sit", "(II)V"⟩ ⟨"WicketBoard", "sit", "(II)V"⟩) ∈ lw_all := lw_g (lw_at lw_ms 11 rfl) rfl
theorem qs12 : (Cond.selects "WicketBoard" ⟨"WicketBoard", "solve", "(II)J"⟩ ⟨"WicketBoard", "solve", "(II)J"⟩) ∈ lw_all := lw_g (lw_at lw_ms 12 rfl) rfl
theorem qs13 : (Cond.selects "WicketBoard" ⟨"WicketBoard", "enter", "(II)V"⟩ ⟨"WicketBoard", "enter", "(II)V"⟩) ∈ lw_all := lw_g (lw_at lw_ms 13 rfl) rfl
theorem qs14 : (Cond.selects "WicketBoard" ⟨"WicketBoard", "holds", "(IIIIJ)Z"⟩ ⟨"WicketBoard", "holds", "(IIIIJ)Z"⟩) ∈ lw_all := lw_g (lw_at lw_ms 14 rfl) rfl
theorem qs15 : (Cond.selects "WicketBoard" ⟨"WicketBoard", "cheapest", "(I)I"⟩ ⟨"WicketBoard", "cheapest", "(I)I"⟩) ∈ lw_all := lw_g (lw_at lw_ms 15 rfl) rfl
theorem qs16 : (Cond.selects "WicketBoard" ⟨"WicketBoard", "grade", "(LWicketBoard$Umpire;)V"⟩ ⟨"WicketBoard", "grade", "(LWicketBoard$Umpire;)V"⟩) ∈ lw_all := lw_g (lw_at lw_ms 16 rfl) rfl
theorem qs17 : (Cond.selects "WicketBoardModel" ⟨"WicketBoardModel", "come", "(I)V"⟩ ⟨"WicketBoardModel", "come", "(I)V"⟩) ∈ lw_all := lw_g (lw_at lw_ms 17 rfl) rfl
theorem qs18 : (Cond.selects "WicketBoardModel" ⟨"WicketBoardModel", "go", "()V"⟩ ⟨"WicketBoardModel", "go", "()V"⟩) ∈ lw_all := lw_g (lw_at lw_ms 18 rfl) rfl
theorem qs19 : (Cond.selects "WicketBoardModel" ⟨"WicketBoardModel", "byteAt", "(I)I"⟩ ⟨"WicketBoardModel", "byteAt", "(I)I"⟩) ∈ lw_all := lw_g (lw_at lw_ms 19 rfl) rfl
theorem qs20 : (Cond.selects "WicketBoardModel" ⟨"WicketBoardModel", "readRule", "()Z"⟩ ⟨"WicketBoardModel", "readRule", "()Z"⟩) ∈ lw_all := lw_g (lw_at lw_ms 20 rfl) rfl
theorem qs21 : (Cond.selects "WicketBoardModel" ⟨"WicketBoardModel", "ruleAtHand", "()I"⟩ ⟨"WicketBoardModel", "ruleAtHand", "()I"⟩) ∈ lw_all := lw_g (lw_at lw_ms 21 rfl) rfl
theorem qs22 : (Cond.selects "WicketBoardModel" ⟨"WicketBoardModel", "isKey", "(J)Z"⟩ ⟨"WicketBoardModel", "isKey", "(J)Z"⟩) ∈ lw_all := lw_g (lw_at lw_ms 22 rfl) rfl
theorem qs23 : (Cond.selects "WicketBoardModel" ⟨"WicketBoardModel", "bad", "(I)Z"⟩ ⟨"WicketBoardModel", "bad", "(I)Z"⟩) ∈ lw_all := lw_g (lw_at lw_ms 23 rfl) rfl
theorem qs24 : (Cond.selects "WicketBoardModel" ⟨"WicketBoardModel", "isUmpire", "(I)Z"⟩ ⟨"WicketBoardModel", "isUmpire", "(I)Z"⟩) ∈ lw_all := lw_g (lw_at lw_ms 24 rfl) rfl
theorem qs25 : (Cond.selects "WicketBoardModel" ⟨"WicketBoardModel", "seatOf", "(I)I"⟩ ⟨"WicketBoardModel", "seatOf", "(I)I"⟩) ∈ lw_all := lw_g (lw_at lw_ms 25 rfl) rfl
theorem qs26 : (Cond.selects "WicketBoardModel" ⟨"WicketBoardModel", "isSeat", "(I)Z"⟩ ⟨"WicketBoardModel", "isSeat", "(I)Z"⟩) ∈ lw_all := lw_g (lw_at lw_ms 26 rfl) rfl
theorem qs27 : (Cond.selects "WicketBoardModel" ⟨"WicketBoardModel", "mayHave", "(II)Z"⟩ ⟨"WicketBoardModel", "mayHave", "(II)Z"⟩) ∈ lw_all := lw_g (lw_at lw_ms 27 rfl) rfl
theorem qs28 : (Cond.selects "WicketBoardModel" ⟨"WicketBoardModel", "miles", "(II)I"⟩ ⟨"WicketBoardModel", "miles", "(II)I"⟩) ∈ lw_all := lw_g (lw_at lw_ms 28 rfl) rfl
theorem qs29 : (Cond.selects "WicketBoardModel" ⟨"WicketBoardModel", "costOf", "(II)I"⟩ ⟨"WicketBoardModel", "costOf", "(II)I"⟩) ∈ lw_all := lw_g (lw_at lw_ms 29 rfl) rfl
theorem qs30 : (Cond.selects "WicketBoardModel" ⟨"WicketBoardModel", "settle", "()V"⟩ ⟨"WicketBoardModel", "settle", "()V"⟩) ∈ lw_all := lw_g (lw_at lw_ms 30 rfl) rfl
theorem qs31 : (Cond.selects "WicketBoardModel" ⟨"WicketBoardModel", "seek", "(I)V"⟩ ⟨"WicketBoardModel", "seek", "(I)V"⟩) ∈ lw_all := lw_g (lw_at lw_ms 31 rfl) rfl
theorem qs32 : (Cond.selects "WicketBoardModel" ⟨"WicketBoardModel", "pays", "(I)I"⟩ ⟨"WicketBoardModel", "pays", "(I)I"⟩) ∈ lw_all := lw_g (lw_at lw_ms 32 rfl) rfl
theorem qs33 : (Cond.selects "WicketBoardModel" ⟨"WicketBoardModel", "change", "(I)V"⟩ ⟨"WicketBoardModel", "change", "(I)V"⟩) ∈ lw_all := lw_g (lw_at lw_ms 33 rfl) rfl
theorem qs34 : (Cond.selects "WicketBoardModel" ⟨"WicketBoardModel", "lessen", "(II)V"⟩ ⟨"WicketBoardModel", "lessen", "(II)V"⟩) ∈ lw_all := lw_g (lw_at lw_ms 34 rfl) rfl
theorem qs35 : (Cond.selects "WicketBoardModel" ⟨"WicketBoardModel", "placeOf", "(I)I"⟩ ⟨"WicketBoardModel", "placeOf", "(I)I"⟩) ∈ lw_all := lw_g (lw_at lw_ms 35 rfl) rfl
theorem qs36 : (Cond.selects "WicketBoardModel" ⟨"WicketBoardModel", "ways", "(III)V"⟩ ⟨"WicketBoardModel", "ways", "(III)V"⟩) ∈ lw_all := lw_g (lw_at lw_ms 36 rfl) rfl
theorem qs37 : (Cond.selects "WicketBoardModel" ⟨"WicketBoardModel", "moves", "(I)V"⟩ ⟨"WicketBoardModel", "moves", "(I)V"⟩) ∈ lw_all := lw_g (lw_at lw_ms 37 rfl) rfl
theorem qs38 : (Cond.selects "WicketBoardModel" ⟨"WicketBoardModel", "offer", "(IIII)V"⟩ ⟨"WicketBoardModel", "offer", "(IIII)V"⟩) ∈ lw_all := lw_g (lw_at lw_ms 38 rfl) rfl
theorem qs39 : (Cond.selects "WicketBoardModel" ⟨"WicketBoardModel", "filled", "()I"⟩ ⟨"WicketBoardModel", "filled", "()I"⟩) ∈ lw_all := lw_g (lw_at lw_ms 39 rfl) rfl
theorem qs40 : (Cond.selects "WicketBoardModel" ⟨"WicketBoardModel", "spare", "(I)I"⟩ ⟨"WicketBoardModel", "spare", "(I)I"⟩) ∈ lw_all := lw_g (lw_at lw_ms 40 rfl) rfl
theorem qs41 : (Cond.selects "WicketBoardModel" ⟨"WicketBoardModel", "refuse", "()I"⟩ ⟨"WicketBoardModel", "refuse", "()I"⟩) ∈ lw_all := lw_g (lw_at lw_ms 41 rfl) rfl
end
section
set_option maxRecDepth 100000
/-! WicketBoard -/
def RX1 : String := "WicketBoard"
def TX1 : u_T := fun k => match k with
  | 0 => ("WicketBoard", "tape", "[B", true)
  | 1 => ("WicketBoard", "length", "I", false)
  | 2 => ("WicketBoard", "size", "I", false)
  | 3 => ("WicketBoard", "all", "[LWicketBoard$Rule;", true)
  | 4 => ("WicketBoard", "law", "[I", true)
  | 5 => ("WicketBoard", "fresh", "[I", true)
  | 6 => ("WicketBoard", "broken", "LWicketBoard$Fault;", true)
  | 7 => ("WicketBoard", "fault", "I", false)
  | 8 => ("WicketBoard", "p", "I", false)
  | 9 => ("WicketBoard", "at", "I", false)
  | 10 => ("WicketBoard", "token", "I", false)
  | 11 => ("WicketBoard", "value", "I", false)
  | 12 => ("WicketBoard", "umpires", "[LWicketBoard$Umpire;", true)
  | 13 => ("WicketBoard", "games", "[LWicketBoard$Game;", true)
  | 14 => ("WicketBoard", "seats", "[I", true)
  | 15 => ("WicketBoard", "umpireMany", "I", false)
  | 16 => ("WicketBoard", "gameMany", "I", false)
  | 17 => ("WicketBoard", "week", "I", false)
  | 18 => ("WicketBoard", "given", "I", false)
  | 19 => ("WicketBoard", "cost", "[I", true)
  | 20 => ("WicketBoard", "offRow", "[I", true)
  | 21 => ("WicketBoard", "offColumn", "[I", true)
  | 22 => ("WicketBoard", "rowOf", "[I", true)
  | 23 => ("WicketBoard", "way", "[I", true)
  | 24 => ("WicketBoard", "least", "[I", true)
  | 25 => ("WicketBoard", "done", "[Z", true)
  | _ => ("WicketBoard", "kept", "[I", true)
def tyX1 : Nat → FieldType := fun k => match k with
  | 0 => .array .byte
  | 1 => .int
  | 2 => .int
  | 3 => .array (.object "WicketBoard$Rule")
  | 4 => .array .int
  | 5 => .array .int
  | 6 => .object "WicketBoard$Fault"
  | 7 => .int
  | 8 => .int
  | 9 => .int
  | 10 => .int
  | 11 => .int
  | 12 => .array (.object "WicketBoard$Umpire")
  | 13 => .array (.object "WicketBoard$Game")
  | 14 => .array .int
  | 15 => .int
  | 16 => .int
  | 17 => .int
  | 18 => .int
  | 19 => .array .int
  | 20 => .array .int
  | 21 => .array .int
  | 22 => .array .int
  | 23 => .array .int
  | 24 => .array .int
  | 25 => .array .boolean
  | _ => .array .int
abbrev wsX10 : List Cond := u_ws RX1 TX1 27
set_option maxRecDepth 100000 in
theorem nmX1 : ∀ a, a < 27 → ∀ b, b < 27 → a ≠ b → (TX1 a).2.1 ≠ (TX1 b).2.1 := by decide +kernel
set_option maxRecDepth 100000 in
theorem tyX1_ok : ∀ k, k < 27 → parseFieldDescriptor (TX1 k).2.2.1 = some (tyX1 k) := by decide +kernel
abbrev cX1_feed : ByteArray := prog_1_method_1_code
def yX1_feed : MethodName := ⟨RX1, "feed", "(IIIII)I"⟩
abbrev cX1_four : ByteArray := prog_1_method_2_code
def yX1_four : MethodName := ⟨RX1, "four", "(I)V"⟩
abbrev cX1_end : ByteArray := prog_1_method_3_code
def yX1_end : MethodName := ⟨RX1, "end", "(I)Z"⟩
abbrev cX1_rules : ByteArray := prog_1_method_10_code
def yX1_rules : MethodName := ⟨RX1, "rules", "()I"⟩
abbrev cX1_readRules : ByteArray := prog_1_method_9_code
def yX1_readRules : MethodName := ⟨RX1, "readRules", "()I"⟩
abbrev cX1_nextToken : ByteArray := prog_1_method_7_code
def yX1_nextToken : MethodName := ⟨RX1, "nextToken", "()V"⟩
abbrev cX1_peek : ByteArray := prog_1_method_4_code
def yX1_peek : MethodName := ⟨RX1, "peek", "()I"⟩
abbrev cX1_isLetter : ByteArray := prog_1_method_5_code
def yX1_isLetter : MethodName := ⟨RX1, "isLetter", "(I)Z"⟩
abbrev cX1_isDigit : ByteArray := prog_1_method_6_code
def yX1_isDigit : MethodName := ⟨RX1, "isDigit", "(I)Z"⟩
abbrev cX1_wrong : ByteArray := prog_1_method_8_code
def yX1_wrong : MethodName := ⟨RX1, "wrong", "(I)LWicketBoard$Fault;"⟩
abbrev cX1_fault : ByteArray := prog_1_method_11_code
def yX1_fault : MethodName := ⟨RX1, "fault", "()I"⟩
abbrev cX1_rule : ByteArray := prog_1_method_12_code
def yX1_rule : MethodName := ⟨RX1, "rule", "(I)I"⟩
abbrev cX1_init : ByteArray := prog_1_method_13_code
def yX1_init : MethodName := ⟨RX1, "<init>", "()V"⟩
abbrev cX1_umpire : ByteArray := prog_1_method_17_code
def yX1_umpire : MethodName := ⟨RX1, "umpire", "(IIII)I"⟩
abbrev cX1_isIn : ByteArray := prog_1_method_14_code
def yX1_isIn : MethodName := ⟨RX1, "isIn", "(III)Z"⟩
abbrev cX1_away : ByteArray := prog_1_method_18_code
def yX1_away : MethodName := ⟨RX1, "away", "(IIZ)Z"⟩
abbrev cX1_isUmpire : ByteArray := prog_1_method_15_code
def yX1_isUmpire : MethodName := ⟨RX1, "isUmpire", "(I)Z"⟩
abbrev cX1_game : ByteArray := prog_1_method_19_code
def yX1_game : MethodName := ⟨RX1, "game", "(IIIII)I"⟩
abbrev cX1_may : ByteArray := prog_1_method_24_code
def yX1_may : MethodName := ⟨RX1, "may", "(II)Z"⟩
abbrev cX1_isSeat : ByteArray := prog_1_method_16_code
def yX1_isSeat : MethodName := ⟨RX1, "isSeat", "(I)Z"⟩
abbrev cX1_mayHave : ByteArray := prog_1_method_22_code
def yX1_mayHave : MethodName := ⟨RX1, "mayHave", "(LWicketBoard$Umpire;I)Z"⟩
abbrev cX1_milesOf : ByteArray := prog_1_method_20_code
def yX1_milesOf : MethodName := ⟨RX1, "milesOf", "(LWicketBoard$Umpire;LWicketBoard$Game;)I"⟩
abbrev cX1_isTired : ByteArray := prog_1_method_21_code
def yX1_isTired : MethodName := ⟨RX1, "isTired", "(LWicketBoard$Umpire;)Z"⟩
abbrev cX1_cost : ByteArray := prog_1_method_25_code
def yX1_cost : MethodName := ⟨RX1, "cost", "(II)I"⟩
abbrev cX1_costOf : ByteArray := prog_1_method_23_code
def yX1_costOf : MethodName := ⟨RX1, "costOf", "(LWicketBoard$Umpire;I)I"⟩
abbrev cX1_send : ByteArray := prog_1_method_29_code
def yX1_send : MethodName := ⟨RX1, "send", "()I"⟩
abbrev cX1_sit : ByteArray := prog_1_method_26_code
def yX1_sit : MethodName := ⟨RX1, "sit", "(II)V"⟩
abbrev cX1_solve : ByteArray := prog_1_method_27_code
def yX1_solve : MethodName := ⟨RX1, "solve", "(II)J"⟩
abbrev cX1_enter : ByteArray := prog_1_method_28_code
def yX1_enter : MethodName := ⟨RX1, "enter", "(II)V"⟩
abbrev cX1_holds : ByteArray := prog_1_method_30_code
def yX1_holds : MethodName := ⟨RX1, "holds", "(IIIIJ)Z"⟩
abbrev cX1_off : ByteArray := prog_1_method_32_code
def yX1_off : MethodName := ⟨RX1, "off", "(I)I"⟩
abbrev cX1_cheapest : ByteArray := prog_1_method_31_code
def yX1_cheapest : MethodName := ⟨RX1, "cheapest", "(I)I"⟩
abbrev cX1_seat : ByteArray := prog_1_method_33_code
def yX1_seat : MethodName := ⟨RX1, "seat", "(I)I"⟩
abbrev cX1_mark : ByteArray := prog_1_method_34_code
def yX1_mark : MethodName := ⟨RX1, "mark", "(IIIZ)Z"⟩
abbrev cX1_next : ByteArray := prog_1_method_35_code
def yX1_next : MethodName := ⟨RX1, "next", "()I"⟩
abbrev cX1_grade : ByteArray := prog_1_method_36_code
def yX1_grade : MethodName := ⟨RX1, "grade", "(LWicketBoard$Umpire;)V"⟩
abbrev cX1_stood : ByteArray := prog_1_method_38_code
def yX1_stood : MethodName := ⟨RX1, "stood", "(II)I"⟩
abbrev cX1_together : ByteArray := prog_1_method_39_code
def yX1_together : MethodName := ⟨RX1, "together", "()I"⟩
abbrev cX1_count : ByteArray := prog_1_method_40_code
def yX1_count : MethodName := ⟨RX1, "count", "(I)I"⟩
abbrev cX1_about : ByteArray := prog_1_method_37_code
def yX1_about : MethodName := ⟨RX1, "about", "(II)I"⟩
theorem q43 : (Jvm.Cond.initialized "WicketBoard") ∈ lw_all := lw_g (lw_at lw_m1 1 rfl) rfl
theorem q61 : (Jvm.Cond.instanceMethod ({ cls := "WicketBoard", name := "feed", desc := "(IIIII)I" } : Jvm.MethodName)) ∈ lw_all := lw_g (lw_at lw_m1 19 rfl) rfl
theorem q62 : (Jvm.Cond.selects "WicketBoard" ({ cls := "WicketBoard", name := "feed", desc := "(IIIII)I" } : Jvm.MethodName) ({ cls := "WicketBoard", name := "feed", desc := "(IIIII)I" } : Jvm.MethodName)) ∈ lw_all := lw_g (lw_at lw_m1 20 rfl) rfl
theorem q63 : (Jvm.Cond.code ({ cls := "WicketBoard", name := "feed", desc := "(IIIII)I" } : Jvm.MethodName) prog_1_method_1_code (6 : Nat) (Option.some Jvm.ClassFile.FieldType.int)) ∈ lw_all := lw_g (lw_at lw_m1 21 rfl) rfl
theorem q64 : (Jvm.Cond.methodLink "WicketBoard" (7 : Nat) ({ cls := "WicketBoard", name := "four", desc := "(I)V" } : Jvm.MethodName)) ∈ lw_all := lw_g (lw_at lw_m1 22 rfl) rfl
theorem q65 : (Jvm.Cond.privateMethod ({ cls := "WicketBoard", name := "four", desc := "(I)V" } : Jvm.MethodName)) ∈ lw_tbl := lw_at lw_m1 23 rfl
theorem q66 : (Jvm.Cond.instanceMethod ({ cls := "WicketBoard", name := "four", desc := "(I)V" } : Jvm.MethodName)) ∈ lw_all := lw_g (lw_at lw_m1 24 rfl) rfl
theorem q67 : (Jvm.Cond.instantiable "WicketBoard" (27 : Nat)) ∈ lw_all := lw_g (lw_at lw_m1 25 rfl) rfl
theorem q68 : (Jvm.Cond.code ({ cls := "WicketBoard", name := "four", desc := "(I)V" } : Jvm.MethodName) prog_1_method_2_code (3 : Nat) (Option.none : Option Jvm.ClassFile.FieldType)) ∈ lw_all := lw_g (lw_at lw_m1 26 rfl) rfl
theorem q70 : (Jvm.Cond.instanceMethod ({ cls := "WicketBoard", name := "end", desc := "(I)Z" } : Jvm.MethodName)) ∈ lw_all := lw_g (lw_at lw_m1 28 rfl) rfl
theorem q71 : (Jvm.Cond.selects "WicketBoard" ({ cls := "WicketBoard", name := "end", desc := "(I)Z" } : Jvm.MethodName) ({ cls := "WicketBoard", name := "end", desc := "(I)Z" } : Jvm.MethodName)) ∈ lw_all := lw_g (lw_at lw_m1 29 rfl) rfl
theorem q72 : (Jvm.Cond.code ({ cls := "WicketBoard", name := "end", desc := "(I)Z" } : Jvm.MethodName) prog_1_method_3_code (2 : Nat) (Option.some Jvm.ClassFile.FieldType.boolean)) ∈ lw_all := lw_g (lw_at lw_m1 30 rfl) rfl
theorem q74 : (Jvm.Cond.instanceMethod ({ cls := "WicketBoard", name := "rules", desc := "()I" } : Jvm.MethodName)) ∈ lw_all := lw_g (lw_at lw_m1 32 rfl) rfl
theorem q75 : (Jvm.Cond.selects "WicketBoard" ({ cls := "WicketBoard", name := "rules", desc := "()I" } : Jvm.MethodName) ({ cls := "WicketBoard", name := "rules", desc := "()I" } : Jvm.MethodName)) ∈ lw_all := lw_g (lw_at lw_m1 33 rfl) rfl
theorem q76 : (Jvm.Cond.codeWith ({ cls := "WicketBoard", name := "rules", desc := "()I" } : Jvm.MethodName) prog_1_method_10_code (2 : Nat) (Option.some Jvm.ClassFile.FieldType.int) [((50 : Nat), (74 : Nat), (75 : Nat), (46 : Nat))]) ∈ lw_all := lw_g (lw_at lw_m1 34 rfl) rfl
theorem q77 : (Jvm.Cond.classLink "WicketBoard" (46 : Nat) "WicketBoard$Fault") ∈ lw_all := lw_g (lw_at lw_m1 35 rfl) rfl
theorem q78 : (Jvm.Cond.methodLink "WicketBoard" (87 : Nat) ({ cls := "WicketBoard", name := "readRules", desc := "()I" } : Jvm.MethodName)) ∈ lw_all := lw_g (lw_at lw_m1 36 rfl) rfl
theorem q79 : (Jvm.Cond.privateMethod ({ cls := "WicketBoard", name := "readRules", desc := "()I" } : Jvm.MethodName)) ∈ lw_tbl := lw_at lw_m1 37 rfl
theorem q80 : (Jvm.Cond.instanceMethod ({ cls := "WicketBoard", name := "readRules", desc := "()I" } : Jvm.MethodName)) ∈ lw_all := lw_g (lw_at lw_m1 38 rfl) rfl
theorem q81 : (Jvm.Cond.code ({ cls := "WicketBoard", name := "readRules", desc := "()I" } : Jvm.MethodName) prog_1_method_9_code (5 : Nat) (Option.some Jvm.ClassFile.FieldType.int)) ∈ lw_all := lw_g (lw_at lw_m1 39 rfl) rfl
theorem q82 : (Jvm.Cond.methodLink "WicketBoard" (53 : Nat) ({ cls := "WicketBoard", name := "nextToken", desc := "()V" } : Jvm.MethodName)) ∈ lw_all := lw_g (lw_at lw_m1 40 rfl) rfl
theorem q83 : (Jvm.Cond.privateMethod ({ cls := "WicketBoard", name := "nextToken", desc := "()V" } : Jvm.MethodName)) ∈ lw_tbl := lw_at lw_m1 41 rfl
theorem q84 : (Jvm.Cond.instanceMethod ({ cls := "WicketBoard", name := "nextToken", desc := "()V" } : Jvm.MethodName)) ∈ lw_all := lw_g (lw_at lw_m1 42 rfl) rfl
theorem q85 : (Jvm.Cond.code ({ cls := "WicketBoard", name := "nextToken", desc := "()V" } : Jvm.MethodName) prog_1_method_7_code (4 : Nat) (Option.none : Option Jvm.ClassFile.FieldType)) ∈ lw_all := lw_g (lw_at lw_m1 43 rfl) rfl
theorem q86 : (Jvm.Cond.methodLink "WicketBoard" (21 : Nat) ({ cls := "WicketBoard", name := "peek", desc := "()I" } : Jvm.MethodName)) ∈ lw_all := lw_g (lw_at lw_m1 44 rfl) rfl
theorem q87 : (Jvm.Cond.privateMethod ({ cls := "WicketBoard", name := "peek", desc := "()I" } : Jvm.MethodName)) ∈ lw_tbl := lw_at lw_m1 45 rfl
theorem q88 : (Jvm.Cond.instanceMethod ({ cls := "WicketBoard", name := "peek", desc := "()I" } : Jvm.MethodName)) ∈ lw_all := lw_g (lw_at lw_m1 46 rfl) rfl
theorem q89 : (Jvm.Cond.code ({ cls := "WicketBoard", name := "peek", desc := "()I" } : Jvm.MethodName) prog_1_method_4_code (1 : Nat) (Option.some Jvm.ClassFile.FieldType.int)) ∈ lw_all := lw_g (lw_at lw_m1 47 rfl) rfl
theorem q90 : (Jvm.Cond.methodLink "WicketBoard" (31 : Nat) ({ cls := "WicketBoard", name := "isLetter", desc := "(I)Z" } : Jvm.MethodName)) ∈ lw_all := lw_g (lw_at lw_m1 48 rfl) rfl
theorem q91 : (Jvm.Cond.static ({ cls := "WicketBoard", name := "isLetter", desc := "(I)Z" } : Jvm.MethodName)) ∈ lw_all := lw_g (lw_at lw_m1 49 rfl) rfl
theorem q92 : (Jvm.Cond.code ({ cls := "WicketBoard", name := "isLetter", desc := "(I)Z" } : Jvm.MethodName) prog_1_method_5_code (1 : Nat) (Option.some Jvm.ClassFile.FieldType.boolean)) ∈ lw_all := lw_g (lw_at lw_m1 50 rfl) rfl
theorem q93 : (Jvm.Cond.methodLink "WicketBoard" (35 : Nat) ({ cls := "WicketBoard", name := "isDigit", desc := "(I)Z" } : Jvm.MethodName)) ∈ lw_all := lw_g (lw_at lw_m1 51 rfl) rfl
theorem q94 : (Jvm.Cond.static ({ cls := "WicketBoard", name := "isDigit", desc := "(I)Z" } : Jvm.MethodName)) ∈ lw_all := lw_g (lw_at lw_m1 52 rfl) rfl
theorem q95 : (Jvm.Cond.code ({ cls := "WicketBoard", name := "isDigit", desc := "(I)Z" } : Jvm.MethodName) prog_1_method_6_code (1 : Nat) (Option.some Jvm.ClassFile.FieldType.boolean)) ∈ lw_all := lw_g (lw_at lw_m1 53 rfl) rfl
theorem q96 : (Jvm.Cond.methodLink "WicketBoard" (61 : Nat) ({ cls := "WicketBoard$Rule", name := "is", desc := "([BII)Z" } : Jvm.MethodName)) ∈ lw_all := lw_g (lw_at lw_m1 54 rfl) rfl
theorem q148 : (Jvm.Cond.methodLink "WicketBoard" (67 : Nat) ({ cls := "WicketBoard", name := "wrong", desc := "(I)LWicketBoard$Fault;" } : Jvm.MethodName)) ∈ lw_all := lw_g (lw_at lw_m1 106 rfl) rfl
theorem q149 : (Jvm.Cond.privateMethod ({ cls := "WicketBoard", name := "wrong", desc := "(I)LWicketBoard$Fault;" } : Jvm.MethodName)) ∈ lw_tbl := lw_at lw_m1 107 rfl
theorem q150 : (Jvm.Cond.instanceMethod ({ cls := "WicketBoard", name := "wrong", desc := "(I)LWicketBoard$Fault;" } : Jvm.MethodName)) ∈ lw_all := lw_g (lw_at lw_m1 108 rfl) rfl
theorem q151 : (Jvm.Cond.code ({ cls := "WicketBoard", name := "wrong", desc := "(I)LWicketBoard$Fault;" } : Jvm.MethodName) prog_1_method_8_code (2 : Nat) (Option.some (Jvm.ClassFile.FieldType.object "WicketBoard$Fault"))) ∈ lw_all := lw_g (lw_at lw_m1 109 rfl) rfl
theorem q152 : (Jvm.Cond.methodLink "WicketBoard" (93 : Nat) ({ cls := "java/lang/System", name := "arraycopy", desc := "(Ljava/lang/Object;ILjava/lang/Object;II)V" } : Jvm.MethodName)) ∈ lw_all := lw_g (lw_at lw_m1 110 rfl) rfl
theorem q156 : (Jvm.Cond.instanceMethod ({ cls := "WicketBoard", name := "fault", desc := "()I" } : Jvm.MethodName)) ∈ lw_all := lw_g (lw_at lw_m1 114 rfl) rfl
theorem q157 : (Jvm.Cond.selects "WicketBoard" ({ cls := "WicketBoard", name := "fault", desc := "()I" } : Jvm.MethodName) ({ cls := "WicketBoard", name := "fault", desc := "()I" } : Jvm.MethodName)) ∈ lw_all := lw_g (lw_at lw_m1 115 rfl) rfl
theorem q158 : (Jvm.Cond.code ({ cls := "WicketBoard", name := "fault", desc := "()I" } : Jvm.MethodName) prog_1_method_11_code (1 : Nat) (Option.some Jvm.ClassFile.FieldType.int)) ∈ lw_all := lw_g (lw_at lw_m1 116 rfl) rfl
theorem q160 : (Jvm.Cond.instanceMethod ({ cls := "WicketBoard", name := "rule", desc := "(I)I" } : Jvm.MethodName)) ∈ lw_all := lw_g (lw_at lw_m1 118 rfl) rfl
theorem q161 : (Jvm.Cond.selects "WicketBoard" ({ cls := "WicketBoard", name := "rule", desc := "(I)I" } : Jvm.MethodName) ({ cls := "WicketBoard", name := "rule", desc := "(I)I" } : Jvm.MethodName)) ∈ lw_all := lw_g (lw_at lw_m1 119 rfl) rfl
theorem q162 : (Jvm.Cond.code ({ cls := "WicketBoard", name := "rule", desc := "(I)I" } : Jvm.MethodName) prog_1_method_12_code (2 : Nat) (Option.some Jvm.ClassFile.FieldType.int)) ∈ lw_all := lw_g (lw_at lw_m1 120 rfl) rfl
theorem q165 : (Jvm.Cond.instanceMethod ({ cls := "WicketBoard", name := "<init>", desc := "()V" } : Jvm.MethodName)) ∈ lw_all := lw_g (lw_at lw_m1 123 rfl) rfl
theorem q166 : (Jvm.Cond.code ({ cls := "WicketBoard", name := "<init>", desc := "()V" } : Jvm.MethodName) prog_1_method_13_code (2 : Nat) (Option.none : Option Jvm.ClassFile.FieldType)) ∈ lw_all := lw_g (lw_at lw_m1 124 rfl) rfl
theorem q167 : (Jvm.Cond.methodLink "WicketBoard" (99 : Nat) ({ cls := "java/lang/Object", name := "<init>", desc := "()V" } : Jvm.MethodName)) ∈ lw_all := lw_g (lw_at lw_m1 125 rfl) rfl
theorem q170 : (Jvm.Cond.classLink "WicketBoard" (62 : Nat) "WicketBoard$Rule") ∈ lw_all := lw_g (lw_at lw_m1 128 rfl) rfl
theorem q173 : (Jvm.Cond.stringRef "WicketBoard" (104 : Nat) "row") ∈ lw_tbl := lw_at lw_m1 131 rfl
theorem q174 : (Jvm.Cond.methodLink "WicketBoard" (106 : Nat) ({ cls := "WicketBoard$Rule", name := "<init>", desc := "(Ljava/lang/String;III)V" } : Jvm.MethodName)) ∈ lw_all := lw_g (lw_at lw_m1 132 rfl) rfl
theorem q180 : (Jvm.Cond.fieldLink "WicketBoard" (71 : Nat) "WicketBoard$Rule" "low" "I") ∈ lw_all := lw_g (lw_at lw_m1 138 rfl) rfl
theorem q182 : (Jvm.Cond.fieldLink "WicketBoard" (74 : Nat) "WicketBoard$Rule" "high" "I") ∈ lw_all := lw_g (lw_at lw_m1 140 rfl) rfl
theorem q184 : (Jvm.Cond.fieldLink "WicketBoard" (84 : Nat) "WicketBoard$Rule" "without" "I") ∈ lw_all := lw_g (lw_at lw_m1 142 rfl) rfl
theorem q195 : (Jvm.Cond.stringRef "WicketBoard" (109 : Nat) "again") ∈ lw_tbl := lw_at lw_m1 153 rfl
theorem q196 : (Jvm.Cond.stringRef "WicketBoard" (111 : Nat) "far") ∈ lw_tbl := lw_at lw_m1 154 rfl
theorem q197 : (Jvm.Cond.stringRef "WicketBoard" (113 : Nat) "fair") ∈ lw_tbl := lw_at lw_m1 155 rfl
theorem q198 : (Jvm.Cond.stringRef "WicketBoard" (115 : Nat) "won") ∈ lw_tbl := lw_at lw_m1 156 rfl
theorem q199 : (Jvm.Cond.stringRef "WicketBoard" (117 : Nat) "lost") ∈ lw_tbl := lw_at lw_m1 157 rfl
theorem q200 : (Jvm.Cond.stringRef "WicketBoard" (119 : Nat) "up") ∈ lw_tbl := lw_at lw_m1 158 rfl
theorem q201 : (Jvm.Cond.stringRef "WicketBoard" (121 : Nat) "down") ∈ lw_tbl := lw_at lw_m1 159 rfl
theorem q202 : (Jvm.Cond.stringRef "WicketBoard" (123 : Nat) "of") ∈ lw_tbl := lw_at lw_m1 160 rfl
theorem q240 : (Jvm.Cond.methodLink "WicketBoard" (125 : Nat) ({ cls := "WicketBoard$Fault", name := "<init>", desc := "()V" } : Jvm.MethodName)) ∈ lw_all := lw_g (lw_at lw_m1 198 rfl) rfl
theorem q249 : (Jvm.Cond.fieldLink "WicketBoard" (45 : Nat) "WicketBoard$Fault" "kind" "I") ∈ lw_all := lw_g (lw_at lw_m1 207 rfl) rfl
theorem q250 : (Jvm.Cond.fieldLink "WicketBoard" (50 : Nat) "WicketBoard$Fault" "place" "I") ∈ lw_all := lw_g (lw_at lw_m1 208 rfl) rfl
theorem q269 : (Jvm.Cond.classLink "WicketBoard" (126 : Nat) "WicketBoard$Umpire") ∈ lw_all := lw_g (lw_at lw_m1 227 rfl) rfl
theorem q271 : (Jvm.Cond.classLink "WicketBoard" (132 : Nat) "WicketBoard$Game") ∈ lw_all := lw_g (lw_at lw_m1 229 rfl) rfl
theorem q273 : (Jvm.Cond.fieldLink "WicketBoard" (11 : Nat) "WicketBoard" "tape" "[B") ∈ lw_all := lw_g (lw_at lw_m1 231 rfl) rfl
theorem q274 : (Jvm.Cond.fieldLink "WicketBoard" (3 : Nat) "WicketBoard" "length" "I") ∈ lw_all := lw_g (lw_at lw_m1 232 rfl) rfl
theorem q275 : (Jvm.Cond.fieldLink "WicketBoard" (18 : Nat) "WicketBoard" "size" "I") ∈ lw_all := lw_g (lw_at lw_m1 233 rfl) rfl
theorem q276 : (Jvm.Cond.fieldLink "WicketBoard" (57 : Nat) "WicketBoard" "all" "[LWicketBoard$Rule;") ∈ lw_all := lw_g (lw_at lw_m1 234 rfl) rfl
theorem q277 : (Jvm.Cond.fieldLink "WicketBoard" (90 : Nat) "WicketBoard" "law" "[I") ∈ lw_all := lw_g (lw_at lw_m1 235 rfl) rfl
theorem q278 : (Jvm.Cond.fieldLink "WicketBoard" (77 : Nat) "WicketBoard" "fresh" "[I") ∈ lw_all := lw_g (lw_at lw_m1 236 rfl) rfl
theorem q279 : (Jvm.Cond.fieldLink "WicketBoard" (41 : Nat) "WicketBoard" "broken" "LWicketBoard$Fault;") ∈ lw_all := lw_g (lw_at lw_m1 237 rfl) rfl
theorem q280 : (Jvm.Cond.fieldLink "WicketBoard" (81 : Nat) "WicketBoard" "fault" "I") ∈ lw_all := lw_g (lw_at lw_m1 238 rfl) rfl
theorem q281 : (Jvm.Cond.fieldLink "WicketBoard" (15 : Nat) "WicketBoard" "p" "I") ∈ lw_all := lw_g (lw_at lw_m1 239 rfl) rfl
theorem q282 : (Jvm.Cond.fieldLink "WicketBoard" (25 : Nat) "WicketBoard" "at" "I") ∈ lw_all := lw_g (lw_at lw_m2 0 rfl) rfl
theorem q283 : (Jvm.Cond.fieldLink "WicketBoard" (28 : Nat) "WicketBoard" "token" "I") ∈ lw_all := lw_g (lw_at lw_m2 1 rfl) rfl
theorem q284 : (Jvm.Cond.fieldLink "WicketBoard" (38 : Nat) "WicketBoard" "value" "I") ∈ lw_all := lw_g (lw_at lw_m2 2 rfl) rfl
theorem q285 : (Jvm.Cond.fieldLink "WicketBoard" (128 : Nat) "WicketBoard" "umpires" "[LWicketBoard$Umpire;") ∈ lw_all := lw_g (lw_at lw_m2 3 rfl) rfl
theorem q286 : (Jvm.Cond.fieldLink "WicketBoard" (134 : Nat) "WicketBoard" "games" "[LWicketBoard$Game;") ∈ lw_all := lw_g (lw_at lw_m2 4 rfl) rfl
theorem q287 : (Jvm.Cond.fieldLink "WicketBoard" (138 : Nat) "WicketBoard" "seats" "[I") ∈ lw_all := lw_g (lw_at lw_m2 5 rfl) rfl
theorem q288 : (Jvm.Cond.fieldLink "WicketBoard" (166 : Nat) "WicketBoard" "umpireMany" "I") ∈ lw_all := lw_g (lw_at lw_m2 6 rfl) rfl
theorem q289 : (Jvm.Cond.fieldLink "WicketBoard" (173 : Nat) "WicketBoard" "gameMany" "I") ∈ lw_all := lw_g (lw_at lw_m2 7 rfl) rfl
theorem q290 : (Jvm.Cond.fieldLink "WicketBoard" (182 : Nat) "WicketBoard" "week" "I") ∈ lw_all := lw_g (lw_at lw_m2 8 rfl) rfl
theorem q291 : (Jvm.Cond.fieldLink "WicketBoard" (254 : Nat) "WicketBoard" "given" "I") ∈ lw_all := lw_g (lw_at lw_m2 9 rfl) rfl
theorem q292 : (Jvm.Cond.fieldLink "WicketBoard" (141 : Nat) "WicketBoard" "cost" "[I") ∈ lw_all := lw_g (lw_at lw_m2 10 rfl) rfl
theorem q293 : (Jvm.Cond.fieldLink "WicketBoard" (144 : Nat) "WicketBoard" "offRow" "[I") ∈ lw_all := lw_g (lw_at lw_m2 11 rfl) rfl
theorem q294 : (Jvm.Cond.fieldLink "WicketBoard" (147 : Nat) "WicketBoard" "offColumn" "[I") ∈ lw_all := lw_g (lw_at lw_m2 12 rfl) rfl
theorem q295 : (Jvm.Cond.fieldLink "WicketBoard" (150 : Nat) "WicketBoard" "rowOf" "[I") ∈ lw_all := lw_g (lw_at lw_m2 13 rfl) rfl
theorem q296 : (Jvm.Cond.fieldLink "WicketBoard" (153 : Nat) "WicketBoard" "way" "[I") ∈ lw_all := lw_g (lw_at lw_m2 14 rfl) rfl
theorem q297 : (Jvm.Cond.fieldLink "WicketBoard" (156 : Nat) "WicketBoard" "least" "[I") ∈ lw_all := lw_g (lw_at lw_m2 15 rfl) rfl
theorem q298 : (Jvm.Cond.fieldLink "WicketBoard" (159 : Nat) "WicketBoard" "done" "[Z") ∈ lw_all := lw_g (lw_at lw_m2 16 rfl) rfl
theorem q299 : (Jvm.Cond.fieldLink "WicketBoard" (163 : Nat) "WicketBoard" "kept" "[I") ∈ lw_all := lw_g (lw_at lw_m2 17 rfl) rfl
theorem q300 : (Jvm.Cond.laysFinal "WicketBoard" "WicketBoard" "tape" "[B") ∈ lw_all := lw_g (lw_at lw_m2 18 rfl) rfl
theorem q301 : (Jvm.Cond.soleField "WicketBoard" "tape") ∈ lw_all := lw_g (lw_at lw_m2 19 rfl) rfl
theorem q302 : (Jvm.Cond.lays "WicketBoard" "WicketBoard" "length" "I") ∈ lw_all := lw_g (lw_at lw_m2 20 rfl) rfl
theorem q303 : (Jvm.Cond.soleField "WicketBoard" "length") ∈ lw_all := lw_g (lw_at lw_m2 21 rfl) rfl
theorem q304 : (Jvm.Cond.lays "WicketBoard" "WicketBoard" "size" "I") ∈ lw_all := lw_g (lw_at lw_m2 22 rfl) rfl
theorem q305 : (Jvm.Cond.soleField "WicketBoard" "size") ∈ lw_all := lw_g (lw_at lw_m2 23 rfl) rfl
theorem q306 : (Jvm.Cond.laysFinal "WicketBoard" "WicketBoard" "all" "[LWicketBoard$Rule;") ∈ lw_all := lw_g (lw_at lw_m2 24 rfl) rfl
theorem q307 : (Jvm.Cond.soleField "WicketBoard" "all") ∈ lw_all := lw_g (lw_at lw_m2 25 rfl) rfl
theorem q308 : (Jvm.Cond.laysFinal "WicketBoard" "WicketBoard" "law" "[I") ∈ lw_all := lw_g (lw_at lw_m2 26 rfl) rfl
theorem q309 : (Jvm.Cond.soleField "WicketBoard" "law") ∈ lw_all := lw_g (lw_at lw_m2 27 rfl) rfl
theorem q310 : (Jvm.Cond.laysFinal "WicketBoard" "WicketBoard" "fresh" "[I") ∈ lw_all := lw_g (lw_at lw_m2 28 rfl) rfl
theorem q311 : (Jvm.Cond.soleField "WicketBoard" "fresh") ∈ lw_all := lw_g (lw_at lw_m2 29 rfl) rfl
theorem q312 : (Jvm.Cond.laysFinal "WicketBoard" "WicketBoard" "broken" "LWicketBoard$Fault;") ∈ lw_all := lw_g (lw_at lw_m2 30 rfl) rfl
theorem q313 : (Jvm.Cond.soleField "WicketBoard" "broken") ∈ lw_all := lw_g (lw_at lw_m2 31 rfl) rfl
theorem q314 : (Jvm.Cond.lays "WicketBoard" "WicketBoard" "fault" "I") ∈ lw_all := lw_g (lw_at lw_m2 32 rfl) rfl
theorem q315 : (Jvm.Cond.soleField "WicketBoard" "fault") ∈ lw_all := lw_g (lw_at lw_m2 33 rfl) rfl
theorem q316 : (Jvm.Cond.lays "WicketBoard" "WicketBoard" "p" "I") ∈ lw_all := lw_g (lw_at lw_m2 34 rfl) rfl
theorem q317 : (Jvm.Cond.soleField "WicketBoard" "p") ∈ lw_all := lw_g (lw_at lw_m2 35 rfl) rfl
theorem q318 : (Jvm.Cond.lays "WicketBoard" "WicketBoard" "at" "I") ∈ lw_all := lw_g (lw_at lw_m2 36 rfl) rfl
theorem q319 : (Jvm.Cond.soleField "WicketBoard" "at") ∈ lw_all := lw_g (lw_at lw_m2 37 rfl) rfl
theorem q320 : (Jvm.Cond.lays "WicketBoard" "WicketBoard" "token" "I") ∈ lw_all := lw_g (lw_at lw_m2 38 rfl) rfl
theorem q321 : (Jvm.Cond.soleField "WicketBoard" "token") ∈ lw_all := lw_g (lw_at lw_m2 39 rfl) rfl
theorem q322 : (Jvm.Cond.lays "WicketBoard" "WicketBoard" "value" "I") ∈ lw_all := lw_g (lw_at lw_m2 40 rfl) rfl
theorem q323 : (Jvm.Cond.soleField "WicketBoard" "value") ∈ lw_all := lw_g (lw_at lw_m2 41 rfl) rfl
theorem q324 : (Jvm.Cond.laysFinal "WicketBoard" "WicketBoard" "umpires" "[LWicketBoard$Umpire;") ∈ lw_all := lw_g (lw_at lw_m2 42 rfl) rfl
theorem q325 : (Jvm.Cond.soleField "WicketBoard" "umpires") ∈ lw_all := lw_g (lw_at lw_m2 43 rfl) rfl
theorem q326 : (Jvm.Cond.laysFinal "WicketBoard" "WicketBoard" "games" "[LWicketBoard$Game;") ∈ lw_all := lw_g (lw_at lw_m2 44 rfl) rfl
theorem q327 : (Jvm.Cond.soleField "WicketBoard" "games") ∈ lw_all := lw_g (lw_at lw_m2 45 rfl) rfl
theorem q328 : (Jvm.Cond.laysFinal "WicketBoard" "WicketBoard" "seats" "[I") ∈ lw_all := lw_g (lw_at lw_m2 46 rfl) rfl
theorem q329 : (Jvm.Cond.soleField "WicketBoard" "seats") ∈ lw_all := lw_g (lw_at lw_m2 47 rfl) rfl
theorem q330 : (Jvm.Cond.lays "WicketBoard" "WicketBoard" "umpireMany" "I") ∈ lw_all := lw_g (lw_at lw_m2 48 rfl) rfl
theorem q331 : (Jvm.Cond.soleField "WicketBoard" "umpireMany") ∈ lw_all := lw_g (lw_at lw_m2 49 rfl) rfl
theorem q332 : (Jvm.Cond.lays "WicketBoard" "WicketBoard" "gameMany" "I") ∈ lw_all := lw_g (lw_at lw_m2 50 rfl) rfl
theorem q333 : (Jvm.Cond.soleField "WicketBoard" "gameMany") ∈ lw_all := lw_g (lw_at lw_m2 51 rfl) rfl
theorem q334 : (Jvm.Cond.lays "WicketBoard" "WicketBoard" "week" "I") ∈ lw_all := lw_g (lw_at lw_m2 52 rfl) rfl
theorem q335 : (Jvm.Cond.soleField "WicketBoard" "week") ∈ lw_all := lw_g (lw_at lw_m2 53 rfl) rfl
theorem q336 : (Jvm.Cond.lays "WicketBoard" "WicketBoard" "given" "I") ∈ lw_all := lw_g (lw_at lw_m2 54 rfl) rfl
theorem q337 : (Jvm.Cond.soleField "WicketBoard" "given") ∈ lw_all := lw_g (lw_at lw_m2 55 rfl) rfl
theorem q338 : (Jvm.Cond.laysFinal "WicketBoard" "WicketBoard" "cost" "[I") ∈ lw_all := lw_g (lw_at lw_m2 56 rfl) rfl
theorem q339 : (Jvm.Cond.soleField "WicketBoard" "cost") ∈ lw_all := lw_g (lw_at lw_m2 57 rfl) rfl
theorem q340 : (Jvm.Cond.laysFinal "WicketBoard" "WicketBoard" "offRow" "[I") ∈ lw_all := lw_g (lw_at lw_m2 58 rfl) rfl
theorem q341 : (Jvm.Cond.soleField "WicketBoard" "offRow") ∈ lw_all := lw_g (lw_at lw_m2 59 rfl) rfl
theorem q342 : (Jvm.Cond.laysFinal "WicketBoard" "WicketBoard" "offColumn" "[I") ∈ lw_all := lw_g (lw_at lw_m2 60 rfl) rfl
theorem q343 : (Jvm.Cond.soleField "WicketBoard" "offColumn") ∈ lw_all := lw_g (lw_at lw_m2 61 rfl) rfl
theorem q344 : (Jvm.Cond.laysFinal "WicketBoard" "WicketBoard" "rowOf" "[I") ∈ lw_all := lw_g (lw_at lw_m2 62 rfl) rfl
theorem q345 : (Jvm.Cond.soleField "WicketBoard" "rowOf") ∈ lw_all := lw_g (lw_at lw_m2 63 rfl) rfl
theorem q346 : (Jvm.Cond.laysFinal "WicketBoard" "WicketBoard" "way" "[I") ∈ lw_all := lw_g (lw_at lw_m2 64 rfl) rfl
theorem q347 : (Jvm.Cond.soleField "WicketBoard" "way") ∈ lw_all := lw_g (lw_at lw_m2 65 rfl) rfl
theorem q348 : (Jvm.Cond.laysFinal "WicketBoard" "WicketBoard" "least" "[I") ∈ lw_all := lw_g (lw_at lw_m2 66 rfl) rfl
theorem q349 : (Jvm.Cond.soleField "WicketBoard" "least") ∈ lw_all := lw_g (lw_at lw_m2 67 rfl) rfl
theorem q350 : (Jvm.Cond.laysFinal "WicketBoard" "WicketBoard" "done" "[Z") ∈ lw_all := lw_g (lw_at lw_m2 68 rfl) rfl
theorem q351 : (Jvm.Cond.soleField "WicketBoard" "done") ∈ lw_all := lw_g (lw_at lw_m2 69 rfl) rfl
theorem q352 : (Jvm.Cond.laysFinal "WicketBoard" "WicketBoard" "kept" "[I") ∈ lw_all := lw_g (lw_at lw_m2 70 rfl) rfl
theorem q353 : (Jvm.Cond.soleField "WicketBoard" "kept") ∈ lw_all := lw_g (lw_at lw_m2 71 rfl) rfl
theorem q354 : (Jvm.Cond.superclass "WicketBoard" "java/lang/Object") ∈ lw_all := lw_g (lw_at lw_m2 72 rfl) rfl
theorem q357 : (Jvm.Cond.instanceMethod ({ cls := "WicketBoard", name := "umpire", desc := "(IIII)I" } : Jvm.MethodName)) ∈ lw_all := lw_g (lw_at lw_m2 75 rfl) rfl
theorem q358 : (Jvm.Cond.selects "WicketBoard" ({ cls := "WicketBoard", name := "umpire", desc := "(IIII)I" } : Jvm.MethodName) ({ cls := "WicketBoard", name := "umpire", desc := "(IIII)I" } : Jvm.MethodName)) ∈ lw_all := lw_g (lw_at lw_m2 76 rfl) rfl
theorem q359 : (Jvm.Cond.code ({ cls := "WicketBoard", name := "umpire", desc := "(IIII)I" } : Jvm.MethodName) prog_1_method_17_code (5 : Nat) (Option.some Jvm.ClassFile.FieldType.int)) ∈ lw_all := lw_g (lw_at lw_m2 77 rfl) rfl
theorem q360 : (Jvm.Cond.methodLink "WicketBoard" (169 : Nat) ({ cls := "WicketBoard", name := "isIn", desc := "(III)Z" } : Jvm.MethodName)) ∈ lw_all := lw_g (lw_at lw_m2 78 rfl) rfl
theorem q361 : (Jvm.Cond.static ({ cls := "WicketBoard", name := "isIn", desc := "(III)Z" } : Jvm.MethodName)) ∈ lw_all := lw_g (lw_at lw_m2 79 rfl) rfl
theorem q362 : (Jvm.Cond.code ({ cls := "WicketBoard", name := "isIn", desc := "(III)Z" } : Jvm.MethodName) prog_1_method_14_code (3 : Nat) (Option.some Jvm.ClassFile.FieldType.boolean)) ∈ lw_all := lw_g (lw_at lw_m2 80 rfl) rfl
theorem q364 : (Jvm.Cond.methodLink "WicketBoard" (176 : Nat) ({ cls := "WicketBoard$Umpire", name := "<init>", desc := "(IIII)V" } : Jvm.MethodName)) ∈ lw_all := lw_g (lw_at lw_m2 82 rfl) rfl
theorem q369 : (Jvm.Cond.fieldLink "WicketBoard" (192 : Nat) "WicketBoard$Umpire" "x" "I") ∈ lw_all := lw_g (lw_at lw_m2 87 rfl) rfl
theorem q371 : (Jvm.Cond.fieldLink "WicketBoard" (202 : Nat) "WicketBoard$Umpire" "y" "I") ∈ lw_all := lw_g (lw_at lw_m2 89 rfl) rfl
theorem q373 : (Jvm.Cond.fieldLink "WicketBoard" (209 : Nat) "WicketBoard$Umpire" "barred" "I") ∈ lw_all := lw_g (lw_at lw_m2 91 rfl) rfl
theorem q375 : (Jvm.Cond.fieldLink "WicketBoard" (185 : Nat) "WicketBoard$Umpire" "away" "[Z") ∈ lw_all := lw_g (lw_at lw_m2 93 rfl) rfl
theorem q377 : (Jvm.Cond.fieldLink "WicketBoard" (206 : Nat) "WicketBoard$Umpire" "stood" "[I") ∈ lw_all := lw_g (lw_at lw_m2 95 rfl) rfl
theorem q379 : (Jvm.Cond.fieldLink "WicketBoard" (215 : Nat) "WicketBoard$Umpire" "grade" "I") ∈ lw_all := lw_g (lw_at lw_m2 97 rfl) rfl
theorem q381 : (Jvm.Cond.fieldLink "WicketBoard" (188 : Nat) "WicketBoard$Umpire" "seat" "I") ∈ lw_all := lw_g (lw_at lw_m2 99 rfl) rfl
theorem q382 : (Jvm.Cond.fieldLink "WicketBoard" (233 : Nat) "WicketBoard$Umpire" "weeks" "I") ∈ lw_all := lw_g (lw_at lw_m2 100 rfl) rfl
theorem q384 : (Jvm.Cond.fieldLink "WicketBoard" (273 : Nat) "WicketBoard$Umpire" "marks" "I") ∈ lw_all := lw_g (lw_at lw_m2 102 rfl) rfl
theorem q386 : (Jvm.Cond.fieldLink "WicketBoard" (276 : Nat) "WicketBoard$Umpire" "weight" "I") ∈ lw_all := lw_g (lw_at lw_m2 104 rfl) rfl
theorem q388 : (Jvm.Cond.fieldLink "WicketBoard" (279 : Nat) "WicketBoard$Umpire" "sum" "I") ∈ lw_all := lw_g (lw_at lw_m2 106 rfl) rfl
theorem q413 : (Jvm.Cond.instanceMethod ({ cls := "WicketBoard", name := "away", desc := "(IIZ)Z" } : Jvm.MethodName)) ∈ lw_all := lw_g (lw_at lw_m2 131 rfl) rfl
theorem q414 : (Jvm.Cond.selects "WicketBoard" ({ cls := "WicketBoard", name := "away", desc := "(IIZ)Z" } : Jvm.MethodName) ({ cls := "WicketBoard", name := "away", desc := "(IIZ)Z" } : Jvm.MethodName)) ∈ lw_all := lw_g (lw_at lw_m2 132 rfl) rfl
theorem q415 : (Jvm.Cond.code ({ cls := "WicketBoard", name := "away", desc := "(IIZ)Z" } : Jvm.MethodName) prog_1_method_18_code (4 : Nat) (Option.some Jvm.ClassFile.FieldType.boolean)) ∈ lw_all := lw_g (lw_at lw_m2 133 rfl) rfl
theorem q416 : (Jvm.Cond.methodLink "WicketBoard" (179 : Nat) ({ cls := "WicketBoard", name := "isUmpire", desc := "(I)Z" } : Jvm.MethodName)) ∈ lw_all := lw_g (lw_at lw_m2 134 rfl) rfl
theorem q417 : (Jvm.Cond.privateMethod ({ cls := "WicketBoard", name := "isUmpire", desc := "(I)Z" } : Jvm.MethodName)) ∈ lw_tbl := lw_at lw_m2 135 rfl
theorem q418 : (Jvm.Cond.instanceMethod ({ cls := "WicketBoard", name := "isUmpire", desc := "(I)Z" } : Jvm.MethodName)) ∈ lw_all := lw_g (lw_at lw_m2 136 rfl) rfl
theorem q419 : (Jvm.Cond.code ({ cls := "WicketBoard", name := "isUmpire", desc := "(I)Z" } : Jvm.MethodName) prog_1_method_15_code (2 : Nat) (Option.some Jvm.ClassFile.FieldType.boolean)) ∈ lw_all := lw_g (lw_at lw_m2 137 rfl) rfl
theorem q421 : (Jvm.Cond.instanceMethod ({ cls := "WicketBoard", name := "game", desc := "(IIIII)I" } : Jvm.MethodName)) ∈ lw_all := lw_g (lw_at lw_m2 139 rfl) rfl
theorem q422 : (Jvm.Cond.selects "WicketBoard" ({ cls := "WicketBoard", name := "game", desc := "(IIIII)I" } : Jvm.MethodName) ({ cls := "WicketBoard", name := "game", desc := "(IIIII)I" } : Jvm.MethodName)) ∈ lw_all := lw_g (lw_at lw_m2 140 rfl) rfl
theorem q423 : (Jvm.Cond.code ({ cls := "WicketBoard", name := "game", desc := "(IIIII)I" } : Jvm.MethodName) prog_1_method_19_code (6 : Nat) (Option.some Jvm.ClassFile.FieldType.int)) ∈ lw_all := lw_g (lw_at lw_m2 141 rfl) rfl
theorem q425 : (Jvm.Cond.methodLink "WicketBoard" (191 : Nat) ({ cls := "WicketBoard$Game", name := "<init>", desc := "(IIII)V" } : Jvm.MethodName)) ∈ lw_all := lw_g (lw_at lw_m2 143 rfl) rfl
theorem q430 : (Jvm.Cond.fieldLink "WicketBoard" (195 : Nat) "WicketBoard$Game" "x" "I") ∈ lw_all := lw_g (lw_at lw_m2 148 rfl) rfl
theorem q432 : (Jvm.Cond.fieldLink "WicketBoard" (205 : Nat) "WicketBoard$Game" "y" "I") ∈ lw_all := lw_g (lw_at lw_m2 150 rfl) rfl
theorem q434 : (Jvm.Cond.fieldLink "WicketBoard" (212 : Nat) "WicketBoard$Game" "clubs" "I") ∈ lw_all := lw_g (lw_at lw_m2 152 rfl) rfl
theorem q436 : (Jvm.Cond.fieldLink "WicketBoard" (218 : Nat) "WicketBoard$Game" "level" "I") ∈ lw_all := lw_g (lw_at lw_m2 154 rfl) rfl
theorem q447 : (Jvm.Cond.instanceMethod ({ cls := "WicketBoard", name := "may", desc := "(II)Z" } : Jvm.MethodName)) ∈ lw_all := lw_g (lw_at lw_m2 165 rfl) rfl
theorem q448 : (Jvm.Cond.selects "WicketBoard" ({ cls := "WicketBoard", name := "may", desc := "(II)Z" } : Jvm.MethodName) ({ cls := "WicketBoard", name := "may", desc := "(II)Z" } : Jvm.MethodName)) ∈ lw_all := lw_g (lw_at lw_m2 166 rfl) rfl
theorem q449 : (Jvm.Cond.code ({ cls := "WicketBoard", name := "may", desc := "(II)Z" } : Jvm.MethodName) prog_1_method_24_code (3 : Nat) (Option.some Jvm.ClassFile.FieldType.boolean)) ∈ lw_all := lw_g (lw_at lw_m2 167 rfl) rfl
theorem q450 : (Jvm.Cond.methodLink "WicketBoard" (236 : Nat) ({ cls := "WicketBoard", name := "isSeat", desc := "(I)Z" } : Jvm.MethodName)) ∈ lw_all := lw_g (lw_at lw_m2 168 rfl) rfl
theorem q451 : (Jvm.Cond.privateMethod ({ cls := "WicketBoard", name := "isSeat", desc := "(I)Z" } : Jvm.MethodName)) ∈ lw_tbl := lw_at lw_m2 169 rfl
theorem q452 : (Jvm.Cond.instanceMethod ({ cls := "WicketBoard", name := "isSeat", desc := "(I)Z" } : Jvm.MethodName)) ∈ lw_all := lw_g (lw_at lw_m2 170 rfl) rfl
theorem q453 : (Jvm.Cond.code ({ cls := "WicketBoard", name := "isSeat", desc := "(I)Z" } : Jvm.MethodName) prog_1_method_16_code (2 : Nat) (Option.some Jvm.ClassFile.FieldType.boolean)) ∈ lw_all := lw_g (lw_at lw_m2 171 rfl) rfl
theorem q454 : (Jvm.Cond.methodLink "WicketBoard" (239 : Nat) ({ cls := "WicketBoard", name := "mayHave", desc := "(LWicketBoard$Umpire;I)Z" } : Jvm.MethodName)) ∈ lw_all := lw_g (lw_at lw_m2 172 rfl) rfl
theorem q455 : (Jvm.Cond.privateMethod ({ cls := "WicketBoard", name := "mayHave", desc := "(LWicketBoard$Umpire;I)Z" } : Jvm.MethodName)) ∈ lw_tbl := lw_at lw_m2 173 rfl
theorem q456 : (Jvm.Cond.instanceMethod ({ cls := "WicketBoard", name := "mayHave", desc := "(LWicketBoard$Umpire;I)Z" } : Jvm.MethodName)) ∈ lw_all := lw_g (lw_at lw_m2 174 rfl) rfl
theorem q457 : (Jvm.Cond.code ({ cls := "WicketBoard", name := "mayHave", desc := "(LWicketBoard$Umpire;I)Z" } : Jvm.MethodName) prog_1_method_22_code (5 : Nat) (Option.some Jvm.ClassFile.FieldType.boolean)) ∈ lw_all := lw_g (lw_at lw_m2 175 rfl) rfl
theorem q458 : (Jvm.Cond.methodLink "WicketBoard" (221 : Nat) ({ cls := "WicketBoard", name := "milesOf", desc := "(LWicketBoard$Umpire;LWicketBoard$Game;)I" } : Jvm.MethodName)) ∈ lw_all := lw_g (lw_at lw_m2 176 rfl) rfl
theorem q459 : (Jvm.Cond.static ({ cls := "WicketBoard", name := "milesOf", desc := "(LWicketBoard$Umpire;LWicketBoard$Game;)I" } : Jvm.MethodName)) ∈ lw_all := lw_g (lw_at lw_m2 177 rfl) rfl
theorem q460 : (Jvm.Cond.code ({ cls := "WicketBoard", name := "milesOf", desc := "(LWicketBoard$Umpire;LWicketBoard$Game;)I" } : Jvm.MethodName) prog_1_method_20_code (2 : Nat) (Option.some Jvm.ClassFile.FieldType.int)) ∈ lw_all := lw_g (lw_at lw_m2 178 rfl) rfl
theorem q461 : (Jvm.Cond.methodLink "WicketBoard" (196 : Nat) ({ cls := "java/lang/Math", name := "abs", desc := "(I)I" } : Jvm.MethodName)) ∈ lw_all := lw_g (lw_at lw_m2 179 rfl) rfl
theorem q464 : (Jvm.Cond.methodLink "WicketBoard" (225 : Nat) ({ cls := "WicketBoard", name := "isTired", desc := "(LWicketBoard$Umpire;)Z" } : Jvm.MethodName)) ∈ lw_all := lw_g (lw_at lw_m2 182 rfl) rfl
theorem q465 : (Jvm.Cond.privateMethod ({ cls := "WicketBoard", name := "isTired", desc := "(LWicketBoard$Umpire;)Z" } : Jvm.MethodName)) ∈ lw_tbl := lw_at lw_m2 183 rfl
theorem q466 : (Jvm.Cond.instanceMethod ({ cls := "WicketBoard", name := "isTired", desc := "(LWicketBoard$Umpire;)Z" } : Jvm.MethodName)) ∈ lw_all := lw_g (lw_at lw_m2 184 rfl) rfl
theorem q467 : (Jvm.Cond.code ({ cls := "WicketBoard", name := "isTired", desc := "(LWicketBoard$Umpire;)Z" } : Jvm.MethodName) prog_1_method_21_code (3 : Nat) (Option.some Jvm.ClassFile.FieldType.boolean)) ∈ lw_all := lw_g (lw_at lw_m2 185 rfl) rfl
theorem q468 : (Jvm.Cond.methodLink "WicketBoard" (229 : Nat) ({ cls := "java/lang/Math", name := "max", desc := "(II)I" } : Jvm.MethodName)) ∈ lw_all := lw_g (lw_at lw_m2 186 rfl) rfl
theorem q472 : (Jvm.Cond.instanceMethod ({ cls := "WicketBoard", name := "cost", desc := "(II)I" } : Jvm.MethodName)) ∈ lw_all := lw_g (lw_at lw_m2 190 rfl) rfl
theorem q473 : (Jvm.Cond.selects "WicketBoard" ({ cls := "WicketBoard", name := "cost", desc := "(II)I" } : Jvm.MethodName) ({ cls := "WicketBoard", name := "cost", desc := "(II)I" } : Jvm.MethodName)) ∈ lw_all := lw_g (lw_at lw_m2 191 rfl) rfl
theorem q474 : (Jvm.Cond.code ({ cls := "WicketBoard", name := "cost", desc := "(II)I" } : Jvm.MethodName) prog_1_method_25_code (3 : Nat) (Option.some Jvm.ClassFile.FieldType.int)) ∈ lw_all := lw_g (lw_at lw_m2 192 rfl) rfl
theorem q475 : (Jvm.Cond.methodLink "WicketBoard" (243 : Nat) ({ cls := "WicketBoard", name := "costOf", desc := "(LWicketBoard$Umpire;I)I" } : Jvm.MethodName)) ∈ lw_all := lw_g (lw_at lw_m2 193 rfl) rfl
theorem q476 : (Jvm.Cond.privateMethod ({ cls := "WicketBoard", name := "costOf", desc := "(LWicketBoard$Umpire;I)I" } : Jvm.MethodName)) ∈ lw_tbl := lw_at lw_m2 194 rfl
theorem q477 : (Jvm.Cond.instanceMethod ({ cls := "WicketBoard", name := "costOf", desc := "(LWicketBoard$Umpire;I)I" } : Jvm.MethodName)) ∈ lw_all := lw_g (lw_at lw_m2 195 rfl) rfl
theorem q478 : (Jvm.Cond.code ({ cls := "WicketBoard", name := "costOf", desc := "(LWicketBoard$Umpire;I)I" } : Jvm.MethodName) prog_1_method_23_code (3 : Nat) (Option.some Jvm.ClassFile.FieldType.int)) ∈ lw_all := lw_g (lw_at lw_m2 196 rfl) rfl
theorem q480 : (Jvm.Cond.instanceMethod ({ cls := "WicketBoard", name := "send", desc := "()I" } : Jvm.MethodName)) ∈ lw_all := lw_g (lw_at lw_m2 198 rfl) rfl
theorem q481 : (Jvm.Cond.selects "WicketBoard" ({ cls := "WicketBoard", name := "send", desc := "()I" } : Jvm.MethodName) ({ cls := "WicketBoard", name := "send", desc := "()I" } : Jvm.MethodName)) ∈ lw_all := lw_g (lw_at lw_m2 199 rfl) rfl
theorem q482 : (Jvm.Cond.code ({ cls := "WicketBoard", name := "send", desc := "()I" } : Jvm.MethodName) prog_1_method_29_code (8 : Nat) (Option.some Jvm.ClassFile.FieldType.int)) ∈ lw_all := lw_g (lw_at lw_m2 200 rfl) rfl
theorem q483 : (Jvm.Cond.methodLink "WicketBoard" (257 : Nat) ({ cls := "WicketBoard", name := "sit", desc := "(II)V" } : Jvm.MethodName)) ∈ lw_all := lw_g (lw_at lw_m2 201 rfl) rfl
theorem q484 : (Jvm.Cond.privateMethod ({ cls := "WicketBoard", name := "sit", desc := "(II)V" } : Jvm.MethodName)) ∈ lw_tbl := lw_at lw_m2 202 rfl
theorem q485 : (Jvm.Cond.instanceMethod ({ cls := "WicketBoard", name := "sit", desc := "(II)V" } : Jvm.MethodName)) ∈ lw_all := lw_g (lw_at lw_m2 203 rfl) rfl
theorem q486 : (Jvm.Cond.code ({ cls := "WicketBoard", name := "sit", desc := "(II)V" } : Jvm.MethodName) prog_1_method_26_code (3 : Nat) (Option.none : Option Jvm.ClassFile.FieldType)) ∈ lw_all := lw_g (lw_at lw_m2 204 rfl) rfl
theorem q487 : (Jvm.Cond.constant "WicketBoard" (260 : Nat) (100000 : Int32)) ∈ lw_all := lw_g (lw_at lw_m2 205 rfl) rfl
theorem q488 : (Jvm.Cond.constant "WicketBoard" (261 : Nat) (100000000 : Int32)) ∈ lw_all := lw_g (lw_at lw_m2 206 rfl) rfl
theorem q489 : (Jvm.Cond.methodLink "WicketBoard" (262 : Nat) ({ cls := "WicketBoard", name := "solve", desc := "(II)J" } : Jvm.MethodName)) ∈ lw_all := lw_g (lw_at lw_m2 207 rfl) rfl
theorem q490 : (Jvm.Cond.privateMethod ({ cls := "WicketBoard", name := "solve", desc := "(II)J" } : Jvm.MethodName)) ∈ lw_tbl := lw_at lw_m2 208 rfl
theorem q491 : (Jvm.Cond.instanceMethod ({ cls := "WicketBoard", name := "solve", desc := "(II)J" } : Jvm.MethodName)) ∈ lw_all := lw_g (lw_at lw_m2 209 rfl) rfl
theorem q492 : (Jvm.Cond.code ({ cls := "WicketBoard", name := "solve", desc := "(II)J" } : Jvm.MethodName) prog_1_method_27_code (6 : Nat) (Option.some Jvm.ClassFile.FieldType.long)) ∈ lw_all := lw_g (lw_at lw_m2 210 rfl) rfl
theorem q493 : (Jvm.Cond.methodLink "WicketBoard" (247 : Nat) ({ cls := "WicketBoard", name := "enter", desc := "(II)V" } : Jvm.MethodName)) ∈ lw_all := lw_g (lw_at lw_m2 211 rfl) rfl
theorem q494 : (Jvm.Cond.privateMethod ({ cls := "WicketBoard", name := "enter", desc := "(II)V" } : Jvm.MethodName)) ∈ lw_tbl := lw_at lw_m2 212 rfl
theorem q495 : (Jvm.Cond.instanceMethod ({ cls := "WicketBoard", name := "enter", desc := "(II)V" } : Jvm.MethodName)) ∈ lw_all := lw_g (lw_at lw_m2 213 rfl) rfl
theorem q496 : (Jvm.Cond.code ({ cls := "WicketBoard", name := "enter", desc := "(II)V" } : Jvm.MethodName) prog_1_method_28_code (9 : Nat) (Option.none : Option Jvm.ClassFile.FieldType)) ∈ lw_all := lw_g (lw_at lw_m2 214 rfl) rfl
theorem q497 : (Jvm.Cond.constant "WicketBoard" (253 : Nat) (2147483647 : Int32)) ∈ lw_all := lw_g (lw_at lw_m2 215 rfl) rfl
theorem q498 : (Jvm.Cond.methodLink "WicketBoard" (266 : Nat) ({ cls := "WicketBoard", name := "holds", desc := "(IIIIJ)Z" } : Jvm.MethodName)) ∈ lw_all := lw_g (lw_at lw_m2 216 rfl) rfl
theorem q499 : (Jvm.Cond.privateMethod ({ cls := "WicketBoard", name := "holds", desc := "(IIIIJ)Z" } : Jvm.MethodName)) ∈ lw_tbl := lw_at lw_m2 217 rfl
theorem q500 : (Jvm.Cond.instanceMethod ({ cls := "WicketBoard", name := "holds", desc := "(IIIIJ)Z" } : Jvm.MethodName)) ∈ lw_all := lw_g (lw_at lw_m2 218 rfl) rfl
theorem q501 : (Jvm.Cond.code ({ cls := "WicketBoard", name := "holds", desc := "(IIIIJ)Z" } : Jvm.MethodName) prog_1_method_30_code (9 : Nat) (Option.some Jvm.ClassFile.FieldType.boolean)) ∈ lw_all := lw_g (lw_at lw_m2 219 rfl) rfl
theorem q503 : (Jvm.Cond.instanceMethod ({ cls := "WicketBoard", name := "off", desc := "(I)I" } : Jvm.MethodName)) ∈ lw_all := lw_g (lw_at lw_m2 221 rfl) rfl
theorem q504 : (Jvm.Cond.selects "WicketBoard" ({ cls := "WicketBoard", name := "off", desc := "(I)I" } : Jvm.MethodName) ({ cls := "WicketBoard", name := "off", desc := "(I)I" } : Jvm.MethodName)) ∈ lw_all := lw_g (lw_at lw_m2 222 rfl) rfl
theorem q505 : (Jvm.Cond.code ({ cls := "WicketBoard", name := "off", desc := "(I)I" } : Jvm.MethodName) prog_1_method_32_code (9 : Nat) (Option.some Jvm.ClassFile.FieldType.int)) ∈ lw_all := lw_g (lw_at lw_m2 223 rfl) rfl
theorem q506 : (Jvm.Cond.methodLink "WicketBoard" (270 : Nat) ({ cls := "WicketBoard", name := "cheapest", desc := "(I)I" } : Jvm.MethodName)) ∈ lw_all := lw_g (lw_at lw_m2 224 rfl) rfl
theorem q507 : (Jvm.Cond.privateMethod ({ cls := "WicketBoard", name := "cheapest", desc := "(I)I" } : Jvm.MethodName)) ∈ lw_tbl := lw_at lw_m2 225 rfl
theorem q508 : (Jvm.Cond.instanceMethod ({ cls := "WicketBoard", name := "cheapest", desc := "(I)I" } : Jvm.MethodName)) ∈ lw_all := lw_g (lw_at lw_m2 226 rfl) rfl
theorem q509 : (Jvm.Cond.code ({ cls := "WicketBoard", name := "cheapest", desc := "(I)I" } : Jvm.MethodName) prog_1_method_31_code (4 : Nat) (Option.some Jvm.ClassFile.FieldType.int)) ∈ lw_all := lw_g (lw_at lw_m2 227 rfl) rfl
theorem q511 : (Jvm.Cond.instanceMethod ({ cls := "WicketBoard", name := "seat", desc := "(I)I" } : Jvm.MethodName)) ∈ lw_all := lw_g (lw_at lw_m2 229 rfl) rfl
theorem q512 : (Jvm.Cond.selects "WicketBoard" ({ cls := "WicketBoard", name := "seat", desc := "(I)I" } : Jvm.MethodName) ({ cls := "WicketBoard", name := "seat", desc := "(I)I" } : Jvm.MethodName)) ∈ lw_all := lw_g (lw_at lw_m2 230 rfl) rfl
theorem q513 : (Jvm.Cond.code ({ cls := "WicketBoard", name := "seat", desc := "(I)I" } : Jvm.MethodName) prog_1_method_33_code (2 : Nat) (Option.some Jvm.ClassFile.FieldType.int)) ∈ lw_all := lw_g (lw_at lw_m2 231 rfl) rfl
theorem q515 : (Jvm.Cond.instanceMethod ({ cls := "WicketBoard", name := "mark", desc := "(IIIZ)Z" } : Jvm.MethodName)) ∈ lw_all := lw_g (lw_at lw_m2 233 rfl) rfl
theorem q516 : (Jvm.Cond.selects "WicketBoard" ({ cls := "WicketBoard", name := "mark", desc := "(IIIZ)Z" } : Jvm.MethodName) ({ cls := "WicketBoard", name := "mark", desc := "(IIIZ)Z" } : Jvm.MethodName)) ∈ lw_all := lw_g (lw_at lw_m2 234 rfl) rfl
theorem q517 : (Jvm.Cond.code ({ cls := "WicketBoard", name := "mark", desc := "(IIIZ)Z" } : Jvm.MethodName) prog_1_method_34_code (7 : Nat) (Option.some Jvm.ClassFile.FieldType.boolean)) ∈ lw_all := lw_g (lw_at lw_m2 235 rfl) rfl
theorem q519 : (Jvm.Cond.instanceMethod ({ cls := "WicketBoard", name := "next", desc := "()I" } : Jvm.MethodName)) ∈ lw_all := lw_g (lw_at lw_m2 237 rfl) rfl
theorem q520 : (Jvm.Cond.selects "WicketBoard" ({ cls := "WicketBoard", name := "next", desc := "()I" } : Jvm.MethodName) ({ cls := "WicketBoard", name := "next", desc := "()I" } : Jvm.MethodName)) ∈ lw_all := lw_g (lw_at lw_m2 238 rfl) rfl
theorem q521 : (Jvm.Cond.code ({ cls := "WicketBoard", name := "next", desc := "()I" } : Jvm.MethodName) prog_1_method_35_code (3 : Nat) (Option.some Jvm.ClassFile.FieldType.int)) ∈ lw_all := lw_g (lw_at lw_m2 239 rfl) rfl
theorem q522 : (Jvm.Cond.methodLink "WicketBoard" (282 : Nat) ({ cls := "WicketBoard", name := "grade", desc := "(LWicketBoard$Umpire;)V" } : Jvm.MethodName)) ∈ lw_all := lw_g (lw_at lw_m3 0 rfl) rfl
theorem q523 : (Jvm.Cond.privateMethod ({ cls := "WicketBoard", name := "grade", desc := "(LWicketBoard$Umpire;)V" } : Jvm.MethodName)) ∈ lw_tbl := lw_at lw_m3 1 rfl
theorem q524 : (Jvm.Cond.instanceMethod ({ cls := "WicketBoard", name := "grade", desc := "(LWicketBoard$Umpire;)V" } : Jvm.MethodName)) ∈ lw_all := lw_g (lw_at lw_m3 2 rfl) rfl
theorem q525 : (Jvm.Cond.code ({ cls := "WicketBoard", name := "grade", desc := "(LWicketBoard$Umpire;)V" } : Jvm.MethodName) prog_1_method_36_code (4 : Nat) (Option.none : Option Jvm.ClassFile.FieldType)) ∈ lw_all := lw_g (lw_at lw_m3 3 rfl) rfl
theorem q526 : (Jvm.Cond.methodLink "WicketBoard" (285 : Nat) ({ cls := "WicketBoard$Umpire", name := "forget", desc := "()V" } : Jvm.MethodName)) ∈ lw_all := lw_g (lw_at lw_m3 4 rfl) rfl
theorem q531 : (Jvm.Cond.instanceMethod ({ cls := "WicketBoard", name := "stood", desc := "(II)I" } : Jvm.MethodName)) ∈ lw_all := lw_g (lw_at lw_m3 9 rfl) rfl
theorem q532 : (Jvm.Cond.selects "WicketBoard" ({ cls := "WicketBoard", name := "stood", desc := "(II)I" } : Jvm.MethodName) ({ cls := "WicketBoard", name := "stood", desc := "(II)I" } : Jvm.MethodName)) ∈ lw_all := lw_g (lw_at lw_m3 10 rfl) rfl
theorem q533 : (Jvm.Cond.code ({ cls := "WicketBoard", name := "stood", desc := "(II)I" } : Jvm.MethodName) prog_1_method_38_code (3 : Nat) (Option.some Jvm.ClassFile.FieldType.int)) ∈ lw_all := lw_g (lw_at lw_m3 11 rfl) rfl
theorem q535 : (Jvm.Cond.instanceMethod ({ cls := "WicketBoard", name := "together", desc := "()I" } : Jvm.MethodName)) ∈ lw_all := lw_g (lw_at lw_m3 13 rfl) rfl
theorem q536 : (Jvm.Cond.selects "WicketBoard" ({ cls := "WicketBoard", name := "together", desc := "()I" } : Jvm.MethodName) ({ cls := "WicketBoard", name := "together", desc := "()I" } : Jvm.MethodName)) ∈ lw_all := lw_g (lw_at lw_m3 14 rfl) rfl
theorem q537 : (Jvm.Cond.code ({ cls := "WicketBoard", name := "together", desc := "()I" } : Jvm.MethodName) prog_1_method_39_code (3 : Nat) (Option.some Jvm.ClassFile.FieldType.int)) ∈ lw_all := lw_g (lw_at lw_m3 15 rfl) rfl
theorem q539 : (Jvm.Cond.instanceMethod ({ cls := "WicketBoard", name := "count", desc := "(I)I" } : Jvm.MethodName)) ∈ lw_all := lw_g (lw_at lw_m3 17 rfl) rfl
theorem q540 : (Jvm.Cond.selects "WicketBoard" ({ cls := "WicketBoard", name := "count", desc := "(I)I" } : Jvm.MethodName) ({ cls := "WicketBoard", name := "count", desc := "(I)I" } : Jvm.MethodName)) ∈ lw_all := lw_g (lw_at lw_m3 18 rfl) rfl
theorem q541 : (Jvm.Cond.code ({ cls := "WicketBoard", name := "count", desc := "(I)I" } : Jvm.MethodName) prog_1_method_40_code (4 : Nat) (Option.some Jvm.ClassFile.FieldType.int)) ∈ lw_all := lw_g (lw_at lw_m3 19 rfl) rfl
theorem q542 : (Jvm.Cond.methodLink "WicketBoard" (291 : Nat) ({ cls := "java/lang/Integer", name := "bitCount", desc := "(I)I" } : Jvm.MethodName)) ∈ lw_all := lw_g (lw_at lw_m3 20 rfl) rfl
theorem q553 : (Jvm.Cond.instanceMethod ({ cls := "WicketBoard", name := "about", desc := "(II)I" } : Jvm.MethodName)) ∈ lw_all := lw_g (lw_at lw_m3 31 rfl) rfl
theorem q554 : (Jvm.Cond.selects "WicketBoard" ({ cls := "WicketBoard", name := "about", desc := "(II)I" } : Jvm.MethodName) ({ cls := "WicketBoard", name := "about", desc := "(II)I" } : Jvm.MethodName)) ∈ lw_all := lw_g (lw_at lw_m3 32 rfl) rfl
theorem q555 : (Jvm.Cond.code ({ cls := "WicketBoard", name := "about", desc := "(II)I" } : Jvm.MethodName) prog_1_method_37_code (4 : Nat) (Option.some Jvm.ClassFile.FieldType.int)) ∈ lw_all := lw_g (lw_at lw_m3 33 rfl) rfl
theorem q556 : (Jvm.Cond.classLink "WicketBoard" (288 : Nat) "java/util/NoSuchElementException") ∈ lw_all := lw_g (lw_at lw_m3 34 rfl) rfl
theorem q567 : (Jvm.Cond.methodLink "WicketBoard" (290 : Nat) ({ cls := "java/util/NoSuchElementException", name := "<init>", desc := "()V" } : Jvm.MethodName)) ∈ lw_all := lw_g (lw_at lw_m3 45 rfl) rfl
theorem q927 : (Jvm.Cond.castable "WicketBoard" "java/lang/Object") ∈ lw_tbl := lw_at lw_m4 165 rfl
theorem in_X1 : ∀ w ∈ wsX10, w ∈ lw_all := lw_in wsX10 [300, 302, 304, 306, 308, 310, 312, 314, 316, 318, 320, 322, 324, 326, 328, 330, 332, 334, 336, 338, 340, 342, 344, 346, 348, 350, 352] (by decide +kernel) (by decide +kernel)
/-! WicketBoard$Rule -/
def RX2 : String := "WicketBoard$Rule"
def TX2 : u_T := fun k => match k with
  | 0 => ("WicketBoard$Rule", "name", "Ljava/lang/String;", true)
  | 1 => ("WicketBoard$Rule", "low", "I", true)
  | 2 => ("WicketBoard$Rule", "high", "I", true)
  | _ => ("WicketBoard$Rule", "without", "I", true)
def tyX2 : Nat → FieldType := fun k => match k with
  | 0 => .object "java/lang/String"
  | 1 => .int
  | 2 => .int
  | _ => .int
abbrev wsX20 : List Cond := u_ws RX2 TX2 4
theorem nmX2 : ∀ a, a < 4 → ∀ b, b < 4 → a ≠ b → (TX2 a).2.1 ≠ (TX2 b).2.1 := by decide +kernel
theorem tyX2_ok : ∀ k, k < 4 → parseFieldDescriptor (TX2 k).2.2.1 = some (tyX2 k) := by decide +kernel
abbrev cX2_is : ByteArray := prog_4_method_2_code
def yX2_is : MethodName := ⟨RX2, "is", "([BII)Z"⟩
abbrev cX2_init : ByteArray := prog_4_method_1_code
def yX2_init : MethodName := ⟨RX2, "<init>", "(Ljava/lang/String;III)V"⟩
theorem q44 : (Jvm.Cond.initialized "WicketBoard$Rule") ∈ lw_all := lw_g (lw_at lw_m1 2 rfl) rfl
theorem q97 : (Jvm.Cond.instanceMethod ({ cls := "WicketBoard$Rule", name := "is", desc := "([BII)Z" } : Jvm.MethodName)) ∈ lw_all := lw_g (lw_at lw_m1 55 rfl) rfl
theorem q98 : (Jvm.Cond.selects "WicketBoard$Rule" ({ cls := "WicketBoard$Rule", name := "is", desc := "([BII)Z" } : Jvm.MethodName) ({ cls := "WicketBoard$Rule", name := "is", desc := "([BII)Z" } : Jvm.MethodName)) ∈ lw_all := lw_g (lw_at lw_m1 56 rfl) rfl
theorem q99 : (Jvm.Cond.code ({ cls := "WicketBoard$Rule", name := "is", desc := "([BII)Z" } : Jvm.MethodName) prog_4_method_2_code (5 : Nat) (Option.some Jvm.ClassFile.FieldType.boolean)) ∈ lw_all := lw_g (lw_at lw_m1 57 rfl) rfl
theorem q100 : (Jvm.Cond.methodLink "WicketBoard$Rule" (23 : Nat) ({ cls := "java/lang/String", name := "length", desc := "()I" } : Jvm.MethodName)) ∈ lw_all := lw_g (lw_at lw_m1 58 rfl) rfl
theorem q110 : (Jvm.Cond.methodLink "WicketBoard$Rule" (29 : Nat) ({ cls := "java/lang/String", name := "charAt", desc := "(I)C" } : Jvm.MethodName)) ∈ lw_all := lw_g (lw_at lw_m1 68 rfl) rfl
theorem q172 : (Jvm.Cond.instantiable "WicketBoard$Rule" (4 : Nat)) ∈ lw_all := lw_g (lw_at lw_m1 130 rfl) rfl
theorem q175 : (Jvm.Cond.instanceMethod ({ cls := "WicketBoard$Rule", name := "<init>", desc := "(Ljava/lang/String;III)V" } : Jvm.MethodName)) ∈ lw_all := lw_g (lw_at lw_m1 133 rfl) rfl
theorem q176 : (Jvm.Cond.code ({ cls := "WicketBoard$Rule", name := "<init>", desc := "(Ljava/lang/String;III)V" } : Jvm.MethodName) prog_4_method_1_code (5 : Nat) (Option.none : Option Jvm.ClassFile.FieldType)) ∈ lw_all := lw_g (lw_at lw_m1 134 rfl) rfl
theorem q177 : (Jvm.Cond.methodLink "WicketBoard$Rule" (1 : Nat) ({ cls := "java/lang/Object", name := "<init>", desc := "()V" } : Jvm.MethodName)) ∈ lw_all := lw_g (lw_at lw_m1 135 rfl) rfl
theorem q178 : (Jvm.Cond.fieldLink "WicketBoard$Rule" (7 : Nat) "WicketBoard$Rule" "name" "Ljava/lang/String;") ∈ lw_all := lw_g (lw_at lw_m1 136 rfl) rfl
theorem q179 : (Jvm.Cond.fieldLink "WicketBoard$Rule" (13 : Nat) "WicketBoard$Rule" "low" "I") ∈ lw_all := lw_g (lw_at lw_m1 137 rfl) rfl
theorem q181 : (Jvm.Cond.fieldLink "WicketBoard$Rule" (17 : Nat) "WicketBoard$Rule" "high" "I") ∈ lw_all := lw_g (lw_at lw_m1 139 rfl) rfl
theorem q183 : (Jvm.Cond.fieldLink "WicketBoard$Rule" (20 : Nat) "WicketBoard$Rule" "without" "I") ∈ lw_all := lw_g (lw_at lw_m1 141 rfl) rfl
theorem q185 : (Jvm.Cond.laysFinal "WicketBoard$Rule" "WicketBoard$Rule" "name" "Ljava/lang/String;") ∈ lw_all := lw_g (lw_at lw_m1 143 rfl) rfl
theorem q186 : (Jvm.Cond.soleField "WicketBoard$Rule" "name") ∈ lw_all := lw_g (lw_at lw_m1 144 rfl) rfl
theorem q187 : (Jvm.Cond.laysFinal "WicketBoard$Rule" "WicketBoard$Rule" "low" "I") ∈ lw_all := lw_g (lw_at lw_m1 145 rfl) rfl
theorem q188 : (Jvm.Cond.soleField "WicketBoard$Rule" "low") ∈ lw_all := lw_g (lw_at lw_m1 146 rfl) rfl
theorem q189 : (Jvm.Cond.laysFinal "WicketBoard$Rule" "WicketBoard$Rule" "high" "I") ∈ lw_all := lw_g (lw_at lw_m1 147 rfl) rfl
theorem q190 : (Jvm.Cond.soleField "WicketBoard$Rule" "high") ∈ lw_all := lw_g (lw_at lw_m1 148 rfl) rfl
theorem q191 : (Jvm.Cond.laysFinal "WicketBoard$Rule" "WicketBoard$Rule" "without" "I") ∈ lw_all := lw_g (lw_at lw_m1 149 rfl) rfl
theorem q192 : (Jvm.Cond.soleField "WicketBoard$Rule" "without") ∈ lw_all := lw_g (lw_at lw_m1 150 rfl) rfl
theorem q193 : (Jvm.Cond.superclass "WicketBoard$Rule" "java/lang/Object") ∈ lw_all := lw_g (lw_at lw_m1 151 rfl) rfl
theorem q928 : (Jvm.Cond.castable "WicketBoard$Rule" "java/lang/Object") ∈ lw_tbl := lw_at lw_m4 166 rfl
theorem in_X2 : ∀ w ∈ wsX20, w ∈ lw_all := lw_in wsX20 [185, 187, 189, 191] (by decide +kernel) (by decide +kernel)
/-! WicketBoard$Fault -/
def RX3 : String := "WicketBoard$Fault"
def TX3 : u_T := fun k => match k with
  | 0 => ("java/lang/Throwable", "cause", "Ljava/lang/Throwable;", false)
  | 1 => ("java/lang/Throwable", "stackTrace", "[Ljava/lang/StackTraceElement;", false)
  | 2 => ("java/lang/Throwable", "suppressedExceptions", "Ljava/util/List;", false)
  | 3 => ("java/lang/Throwable", "detailMessage", "Ljava/lang/String;", false)
  | 4 => ("java/lang/Throwable", "backtrace", "Ljava/lang/Object;", false)
  | 5 => ("java/lang/Throwable", "depth", "I", false)
  | 6 => ("WicketBoard$Fault", "kind", "I", false)
  | _ => ("WicketBoard$Fault", "place", "I", false)
def tyX3 : Nat → FieldType := fun k => match k with
  | 0 => .object "java/lang/Throwable"
  | 1 => .array (.object "java/lang/StackTraceElement")
  | 2 => .object "java/util/List"
  | 3 => .object "java/lang/String"
  | 4 => .object "java/lang/Object"
  | 5 => .int
  | 6 => .int
  | _ => .int
abbrev wsX30 : List Cond := u_ws RX3 TX3 8
theorem nmX3 : ∀ a, a < 8 → ∀ b, b < 8 → a ≠ b → (TX3 a).2.1 ≠ (TX3 b).2.1 := by decide +kernel
theorem tyX3_ok : ∀ k, k < 8 → parseFieldDescriptor (TX3 k).2.2.1 = some (tyX3 k) := by decide +kernel
abbrev cX3_init : ByteArray := prog_2_method_1_code
def yX3_init : MethodName := ⟨RX3, "<init>", "()V"⟩
theorem q47 : (Jvm.Cond.initialized "WicketBoard$Fault") ∈ lw_all := lw_g (lw_at lw_m1 5 rfl) rfl
theorem q203 : (Jvm.Cond.instantiable "WicketBoard$Fault" (8 : Nat)) ∈ lw_all := lw_g (lw_at lw_m1 161 rfl) rfl
theorem q204 : (Jvm.Cond.castable "WicketBoard$Fault" "WicketBoard$Fault") ∈ lw_tbl := lw_at lw_m1 162 rfl
theorem q209 : (Jvm.Cond.selects "WicketBoard$Fault" ({ cls := "java/lang/Throwable", name := "fillInStackTrace", desc := "(I)Ljava/lang/Throwable;" } : Jvm.MethodName) ({ cls := "java/lang/Throwable", name := "fillInStackTrace", desc := "(I)Ljava/lang/Throwable;" } : Jvm.MethodName)) ∈ lw_all := lw_g (lw_at lw_m1 167 rfl) rfl
theorem q210 : (Jvm.Cond.selects "WicketBoard$Fault" ({ cls := "java/lang/Throwable", name := "fillInStackTrace", desc := "()Ljava/lang/Throwable;" } : Jvm.MethodName) ({ cls := "java/lang/Throwable", name := "fillInStackTrace", desc := "()Ljava/lang/Throwable;" } : Jvm.MethodName)) ∈ lw_all := lw_g (lw_at lw_m1 168 rfl) rfl
theorem q211 : (Jvm.Cond.lays "WicketBoard$Fault" "java/lang/Throwable" "cause" "Ljava/lang/Throwable;") ∈ lw_all := lw_g (lw_at lw_m1 169 rfl) rfl
theorem q213 : (Jvm.Cond.lays "WicketBoard$Fault" "java/lang/Throwable" "stackTrace" "[Ljava/lang/StackTraceElement;") ∈ lw_all := lw_g (lw_at lw_m1 171 rfl) rfl
theorem q215 : (Jvm.Cond.lays "WicketBoard$Fault" "java/lang/Throwable" "suppressedExceptions" "Ljava/util/List;") ∈ lw_all := lw_g (lw_at lw_m1 173 rfl) rfl
theorem q217 : (Jvm.Cond.lays "WicketBoard$Fault" "java/lang/Throwable" "detailMessage" "Ljava/lang/String;") ∈ lw_all := lw_g (lw_at lw_m1 175 rfl) rfl
theorem q219 : (Jvm.Cond.lays "WicketBoard$Fault" "java/lang/Throwable" "backtrace" "Ljava/lang/Object;") ∈ lw_all := lw_g (lw_at lw_m1 177 rfl) rfl
theorem q241 : (Jvm.Cond.instanceMethod ({ cls := "WicketBoard$Fault", name := "<init>", desc := "()V" } : Jvm.MethodName)) ∈ lw_all := lw_g (lw_at lw_m1 199 rfl) rfl
theorem q242 : (Jvm.Cond.code ({ cls := "WicketBoard$Fault", name := "<init>", desc := "()V" } : Jvm.MethodName) prog_2_method_1_code (1 : Nat) (Option.none : Option Jvm.ClassFile.FieldType)) ∈ lw_all := lw_g (lw_at lw_m1 200 rfl) rfl
theorem q243 : (Jvm.Cond.methodLink "WicketBoard$Fault" (1 : Nat) ({ cls := "java/lang/Exception", name := "<init>", desc := "(Ljava/lang/String;Ljava/lang/Throwable;ZZ)V" } : Jvm.MethodName)) ∈ lw_all := lw_g (lw_at lw_m1 201 rfl) rfl
theorem q256 : (Jvm.Cond.lays "WicketBoard$Fault" "WicketBoard$Fault" "kind" "I") ∈ lw_all := lw_g (lw_at lw_m1 214 rfl) rfl
theorem q257 : (Jvm.Cond.soleField "WicketBoard$Fault" "kind") ∈ lw_all := lw_g (lw_at lw_m1 215 rfl) rfl
theorem q258 : (Jvm.Cond.lays "WicketBoard$Fault" "WicketBoard$Fault" "place" "I") ∈ lw_all := lw_g (lw_at lw_m1 216 rfl) rfl
theorem q259 : (Jvm.Cond.soleField "WicketBoard$Fault" "place") ∈ lw_all := lw_g (lw_at lw_m1 217 rfl) rfl
theorem q264 : (Jvm.Cond.lays "WicketBoard$Fault" "java/lang/Throwable" "depth" "I") ∈ lw_all := lw_g (lw_at lw_m1 222 rfl) rfl
theorem q267 : (Jvm.Cond.superclass "WicketBoard$Fault" "java/lang/Exception") ∈ lw_all := lw_g (lw_at lw_m1 225 rfl) rfl
theorem q929 : (Jvm.Cond.castable "WicketBoard$Fault" "java/lang/Object") ∈ lw_tbl := lw_at lw_m4 167 rfl
theorem in_X3 : ∀ w ∈ wsX30, w ∈ lw_all := lw_in wsX30 [211, 213, 215, 217, 219, 264, 256, 258] (by decide +kernel) (by decide +kernel)
/-! WicketBoardModel -/
def RX4 : String := "WicketBoardModel"
def TX4 : u_T := fun k => match k with
  | 0 => ("WicketBoardModel", "thrown", "I", false)
  | 1 => ("WicketBoardModel", "tape", "[I", true)
  | 2 => ("WicketBoardModel", "taped", "I", false)
  | 3 => ("WicketBoardModel", "rule", "[I", true)
  | 4 => ("WicketBoardModel", "usual", "[I", true)
  | 5 => ("WicketBoardModel", "low", "[I", true)
  | 6 => ("WicketBoardModel", "high", "[I", true)
  | 7 => ("WicketBoardModel", "fresh", "[I", true)
  | 8 => ("WicketBoardModel", "size", "I", false)
  | 9 => ("WicketBoardModel", "to", "I", false)
  | 10 => ("WicketBoardModel", "from", "I", false)
  | 11 => ("WicketBoardModel", "kind", "I", false)
  | 12 => ("WicketBoardModel", "number", "I", false)
  | 13 => ("WicketBoardModel", "fault", "I", false)
  | 14 => ("WicketBoardModel", "place", "I", false)
  | 15 => ("WicketBoardModel", "told", "I", false)
  | 16 => ("WicketBoardModel", "word", "J", false)
  | 17 => ("WicketBoardModel", "homeX", "[I", true)
  | 18 => ("WicketBoardModel", "homeY", "[I", true)
  | 19 => ("WicketBoardModel", "grade", "[I", true)
  | 20 => ("WicketBoardModel", "barred", "[I", true)
  | 21 => ("WicketBoardModel", "marks", "[I", true)
  | 22 => ("WicketBoardModel", "times", "[I", true)
  | 23 => ("WicketBoardModel", "points", "[I", true)
  | 24 => ("WicketBoardModel", "weeksStood", "[I", true)
  | 25 => ("WicketBoardModel", "stood", "[I", true)
  | 26 => ("WicketBoardModel", "gone", "[Z", true)
  | 27 => ("WicketBoardModel", "gameX", "[I", true)
  | 28 => ("WicketBoardModel", "gameY", "[I", true)
  | 29 => ("WicketBoardModel", "clubs", "[I", true)
  | 30 => ("WicketBoardModel", "level", "[I", true)
  | 31 => ("WicketBoardModel", "who", "[I", true)
  | 32 => ("WicketBoardModel", "marked", "[I", true)
  | 33 => ("WicketBoardModel", "umpires", "I", false)
  | 34 => ("WicketBoardModel", "games", "I", false)
  | 35 => ("WicketBoardModel", "week", "I", false)
  | 36 => ("WicketBoardModel", "marksNow", "I", false)
  | 37 => ("WicketBoardModel", "comes", "[I", true)
  | 38 => ("WicketBoardModel", "takes", "[I", true)
  | 39 => ("WicketBoardModel", "cell", "[I", true)
  | 40 => ("WicketBoardModel", "holder", "[I", true)
  | 41 => ("WicketBoardModel", "fixed", "[Z", true)
  | 42 => ("WicketBoardModel", "way", "[I", true)
  | 43 => ("WicketBoardModel", "whence", "[I", true)
  | 44 => ("WicketBoardModel", "mover", "[I", true)
  | _ => ("WicketBoardModel", "changed", "Z", false)
def tyX4 : Nat → FieldType := fun k => match k with
  | 0 => .int
  | 1 => .array .int
  | 2 => .int
  | 3 => .array .int
  | 4 => .array .int
  | 5 => .array .int
  | 6 => .array .int
  | 7 => .array .int
  | 8 => .int
  | 9 => .int
  | 10 => .int
  | 11 => .int
  | 12 => .int
  | 13 => .int
  | 14 => .int
  | 15 => .int
  | 16 => .long
  | 17 => .array .int
  | 18 => .array .int
  | 19 => .array .int
  | 20 => .array .int
  | 21 => .array .int
  | 22 => .array .int
  | 23 => .array .int
  | 24 => .array .int
  | 25 => .array .int
  | 26 => .array .boolean
  | 27 => .array .int
  | 28 => .array .int
  | 29 => .array .int
  | 30 => .array .int
  | 31 => .array .int
  | 32 => .array .int
  | 33 => .int
  | 34 => .int
  | 35 => .int
  | 36 => .int
  | 37 => .array .int
  | 38 => .array .int
  | 39 => .array .int
  | 40 => .array .int
  | 41 => .array .boolean
  | 42 => .array .int
  | 43 => .array .int
  | 44 => .array .int
  | _ => .boolean
abbrev wsX40 : List Cond := u_ws RX4 TX4 46
set_option maxRecDepth 100000 in
theorem nmX4 : ∀ a, a < 46 → ∀ b, b < 46 → a ≠ b → (TX4 a).2.1 ≠ (TX4 b).2.1 := by decide +kernel
set_option maxRecDepth 100000 in
theorem tyX4_ok : ∀ k, k < 46 → parseFieldDescriptor (TX4 k).2.2.1 = some (tyX4 k) := by decide +kernel
abbrev cX4_init : ByteArray := prog_7_method_1_code
def yX4_init : MethodName := ⟨RX4, "<init>", "()V"⟩
abbrev cX4_thrown : ByteArray := prog_7_method_2_code
def yX4_thrown : MethodName := ⟨RX4, "thrown", "()I"⟩
abbrev cX4_feed : ByteArray := prog_7_method_5_code
def yX4_feed : MethodName := ⟨RX4, "feed", "(IIIII)I"⟩
abbrev cX4_come : ByteArray := prog_7_method_4_code
def yX4_come : MethodName := ⟨RX4, "come", "(I)V"⟩
abbrev cX4_end : ByteArray := prog_7_method_6_code
def yX4_end : MethodName := ⟨RX4, "end", "(I)Z"⟩
abbrev cX4_rules : ByteArray := prog_7_method_16_code
def yX4_rules : MethodName := ⟨RX4, "rules", "()I"⟩
abbrev cX4_go : ByteArray := prog_7_method_10_code
def yX4_go : MethodName := ⟨RX4, "go", "()V"⟩
abbrev cX4_isLetter : ByteArray := prog_7_method_9_code
def yX4_isLetter : MethodName := ⟨RX4, "isLetter", "(I)Z"⟩
abbrev cX4_isDigit : ByteArray := prog_7_method_8_code
def yX4_isDigit : MethodName := ⟨RX4, "isDigit", "(I)Z"⟩
abbrev cX4_byteAt : ByteArray := prog_7_method_7_code
def yX4_byteAt : MethodName := ⟨RX4, "byteAt", "(I)I"⟩
abbrev cX4_readRule : ByteArray := prog_7_method_15_code
def yX4_readRule : MethodName := ⟨RX4, "readRule", "()Z"⟩
abbrev cX4_ruleAtHand : ByteArray := prog_7_method_13_code
def yX4_ruleAtHand : MethodName := ⟨RX4, "ruleAtHand", "()I"⟩
abbrev cX4_spelt : ByteArray := prog_7_method_11_code
def yX4_spelt : MethodName := ⟨RX4, "spelt", "(IIII)J"⟩
abbrev cX4_isKey : ByteArray := prog_7_method_12_code
def yX4_isKey : MethodName := ⟨RX4, "isKey", "(J)Z"⟩
abbrev cX4_bad : ByteArray := prog_7_method_14_code
def yX4_bad : MethodName := ⟨RX4, "bad", "(I)Z"⟩
abbrev cX4_fault : ByteArray := prog_7_method_17_code
def yX4_fault : MethodName := ⟨RX4, "fault", "()I"⟩
abbrev cX4_rule : ByteArray := prog_7_method_18_code
def yX4_rule : MethodName := ⟨RX4, "rule", "(I)I"⟩
abbrev cX4_umpire : ByteArray := prog_7_method_22_code
def yX4_umpire : MethodName := ⟨RX4, "umpire", "(IIII)I"⟩
abbrev cX4_isIn : ByteArray := prog_7_method_19_code
def yX4_isIn : MethodName := ⟨RX4, "isIn", "(III)Z"⟩
abbrev cX4_away : ByteArray := prog_7_method_24_code
def yX4_away : MethodName := ⟨RX4, "away", "(IIZ)Z"⟩
abbrev cX4_isUmpire : ByteArray := prog_7_method_20_code
def yX4_isUmpire : MethodName := ⟨RX4, "isUmpire", "(I)Z"⟩
abbrev cX4_seatOf : ByteArray := prog_7_method_23_code
def yX4_seatOf : MethodName := ⟨RX4, "seatOf", "(I)I"⟩
abbrev cX4_game : ByteArray := prog_7_method_25_code
def yX4_game : MethodName := ⟨RX4, "game", "(IIIII)I"⟩
abbrev cX4_may : ByteArray := prog_7_method_30_code
def yX4_may : MethodName := ⟨RX4, "may", "(II)Z"⟩
abbrev cX4_isSeat : ByteArray := prog_7_method_21_code
def yX4_isSeat : MethodName := ⟨RX4, "isSeat", "(I)Z"⟩
abbrev cX4_mayHave : ByteArray := prog_7_method_28_code
def yX4_mayHave : MethodName := ⟨RX4, "mayHave", "(II)Z"⟩
abbrev cX4_miles : ByteArray := prog_7_method_27_code
def yX4_miles : MethodName := ⟨RX4, "miles", "(II)I"⟩
abbrev cX4_less : ByteArray := prog_7_method_26_code
def yX4_less : MethodName := ⟨RX4, "less", "(II)I"⟩
abbrev cX4_cost : ByteArray := prog_7_method_31_code
def yX4_cost : MethodName := ⟨RX4, "cost", "(II)I"⟩
abbrev cX4_costOf : ByteArray := prog_7_method_29_code
def yX4_costOf : MethodName := ⟨RX4, "costOf", "(II)I"⟩
abbrev cX4_send : ByteArray := prog_7_method_41_code
def yX4_send : MethodName := ⟨RX4, "send", "()I"⟩
abbrev cX4_settle : ByteArray := prog_7_method_35_code
def yX4_settle : MethodName := ⟨RX4, "settle", "()V"⟩
abbrev cX4_seek : ByteArray := prog_7_method_33_code
def yX4_seek : MethodName := ⟨RX4, "seek", "(I)V"⟩
abbrev cX4_pays : ByteArray := prog_7_method_32_code
def yX4_pays : MethodName := ⟨RX4, "pays", "(I)I"⟩
abbrev cX4_change : ByteArray := prog_7_method_34_code
def yX4_change : MethodName := ⟨RX4, "change", "(I)V"⟩
abbrev cX4_lessen : ByteArray := prog_7_method_40_code
def yX4_lessen : MethodName := ⟨RX4, "lessen", "(II)V"⟩
abbrev cX4_placeOf : ByteArray := prog_7_method_37_code
def yX4_placeOf : MethodName := ⟨RX4, "placeOf", "(I)I"⟩
abbrev cX4_ways : ByteArray := prog_7_method_38_code
def yX4_ways : MethodName := ⟨RX4, "ways", "(III)V"⟩
abbrev cX4_moves : ByteArray := prog_7_method_39_code
def yX4_moves : MethodName := ⟨RX4, "moves", "(I)V"⟩
abbrev cX4_offer : ByteArray := prog_7_method_36_code
def yX4_offer : MethodName := ⟨RX4, "offer", "(IIII)V"⟩
abbrev cX4_filled : ByteArray := prog_7_method_42_code
def yX4_filled : MethodName := ⟨RX4, "filled", "()I"⟩
abbrev cX4_off : ByteArray := prog_7_method_43_code
def yX4_off : MethodName := ⟨RX4, "off", "(I)I"⟩
abbrev cX4_spare : ByteArray := prog_7_method_44_code
def yX4_spare : MethodName := ⟨RX4, "spare", "(I)I"⟩
abbrev cX4_seat : ByteArray := prog_7_method_45_code
def yX4_seat : MethodName := ⟨RX4, "seat", "(I)I"⟩
abbrev cX4_mark : ByteArray := prog_7_method_46_code
def yX4_mark : MethodName := ⟨RX4, "mark", "(IIIZ)Z"⟩
abbrev cX4_next : ByteArray := prog_7_method_47_code
def yX4_next : MethodName := ⟨RX4, "next", "()I"⟩
abbrev cX4_about : ByteArray := prog_7_method_48_code
def yX4_about : MethodName := ⟨RX4, "about", "(II)I"⟩
abbrev cX4_refuse : ByteArray := prog_7_method_3_code
def yX4_refuse : MethodName := ⟨RX4, "refuse", "()I"⟩
abbrev cX4_stood : ByteArray := prog_7_method_49_code
def yX4_stood : MethodName := ⟨RX4, "stood", "(II)I"⟩
abbrev cX4_together : ByteArray := prog_7_method_50_code
def yX4_together : MethodName := ⟨RX4, "together", "()I"⟩
abbrev cX4_count : ByteArray := prog_7_method_51_code
def yX4_count : MethodName := ⟨RX4, "count", "(I)I"⟩
theorem q48 : (Jvm.Cond.initialized "WicketBoardModel") ∈ lw_all := lw_g (lw_at lw_m1 6 rfl) rfl
theorem q580 : (Jvm.Cond.instantiable "WicketBoardModel" (46 : Nat)) ∈ lw_all := lw_g (lw_at lw_m3 58 rfl) rfl
theorem q582 : (Jvm.Cond.instanceMethod ({ cls := "WicketBoardModel", name := "<init>", desc := "()V" } : Jvm.MethodName)) ∈ lw_all := lw_g (lw_at lw_m3 60 rfl) rfl
theorem q583 : (Jvm.Cond.code ({ cls := "WicketBoardModel", name := "<init>", desc := "()V" } : Jvm.MethodName) prog_7_method_1_code (1 : Nat) (Option.none : Option Jvm.ClassFile.FieldType)) ∈ lw_all := lw_g (lw_at lw_m3 61 rfl) rfl
theorem q584 : (Jvm.Cond.methodLink "WicketBoardModel" (1 : Nat) ({ cls := "java/lang/Object", name := "<init>", desc := "()V" } : Jvm.MethodName)) ∈ lw_all := lw_g (lw_at lw_m3 62 rfl) rfl
theorem q585 : (Jvm.Cond.fieldLink "WicketBoardModel" (101 : Nat) "WicketBoardModel" "thrown" "I") ∈ lw_all := lw_g (lw_at lw_m3 63 rfl) rfl
theorem q586 : (Jvm.Cond.fieldLink "WicketBoardModel" (7 : Nat) "WicketBoardModel" "tape" "[I") ∈ lw_all := lw_g (lw_at lw_m3 64 rfl) rfl
theorem q587 : (Jvm.Cond.fieldLink "WicketBoardModel" (105 : Nat) "WicketBoardModel" "taped" "I") ∈ lw_all := lw_g (lw_at lw_m3 65 rfl) rfl
theorem q588 : (Jvm.Cond.fieldLink "WicketBoardModel" (13 : Nat) "WicketBoardModel" "rule" "[I") ∈ lw_all := lw_g (lw_at lw_m3 66 rfl) rfl
theorem q589 : (Jvm.Cond.fieldLink "WicketBoardModel" (16 : Nat) "WicketBoardModel" "usual" "[I") ∈ lw_all := lw_g (lw_at lw_m3 67 rfl) rfl
theorem q590 : (Jvm.Cond.fieldLink "WicketBoardModel" (19 : Nat) "WicketBoardModel" "low" "[I") ∈ lw_all := lw_g (lw_at lw_m3 68 rfl) rfl
theorem q591 : (Jvm.Cond.fieldLink "WicketBoardModel" (22 : Nat) "WicketBoardModel" "high" "[I") ∈ lw_all := lw_g (lw_at lw_m3 69 rfl) rfl
theorem q592 : (Jvm.Cond.fieldLink "WicketBoardModel" (25 : Nat) "WicketBoardModel" "fresh" "[I") ∈ lw_all := lw_g (lw_at lw_m3 70 rfl) rfl
theorem q593 : (Jvm.Cond.fieldLink "WicketBoardModel" (112 : Nat) "WicketBoardModel" "size" "I") ∈ lw_all := lw_g (lw_at lw_m3 71 rfl) rfl
theorem q594 : (Jvm.Cond.fieldLink "WicketBoardModel" (115 : Nat) "WicketBoardModel" "to" "I") ∈ lw_all := lw_g (lw_at lw_m3 72 rfl) rfl
theorem q595 : (Jvm.Cond.fieldLink "WicketBoardModel" (118 : Nat) "WicketBoardModel" "from" "I") ∈ lw_all := lw_g (lw_at lw_m3 73 rfl) rfl
theorem q596 : (Jvm.Cond.fieldLink "WicketBoardModel" (121 : Nat) "WicketBoardModel" "kind" "I") ∈ lw_all := lw_g (lw_at lw_m3 74 rfl) rfl
theorem q597 : (Jvm.Cond.fieldLink "WicketBoardModel" (135 : Nat) "WicketBoardModel" "number" "I") ∈ lw_all := lw_g (lw_at lw_m3 75 rfl) rfl
theorem q598 : (Jvm.Cond.fieldLink "WicketBoardModel" (158 : Nat) "WicketBoardModel" "fault" "I") ∈ lw_all := lw_g (lw_at lw_m3 76 rfl) rfl
theorem q599 : (Jvm.Cond.fieldLink "WicketBoardModel" (161 : Nat) "WicketBoardModel" "place" "I") ∈ lw_all := lw_g (lw_at lw_m3 77 rfl) rfl
theorem q600 : (Jvm.Cond.fieldLink "WicketBoardModel" (171 : Nat) "WicketBoardModel" "told" "I") ∈ lw_all := lw_g (lw_at lw_m3 78 rfl) rfl
theorem q601 : (Jvm.Cond.fieldLink "WicketBoardModel" (131 : Nat) "WicketBoardModel" "word" "J") ∈ lw_all := lw_g (lw_at lw_m3 79 rfl) rfl
theorem q602 : (Jvm.Cond.fieldLink "WicketBoardModel" (28 : Nat) "WicketBoardModel" "homeX" "[I") ∈ lw_all := lw_g (lw_at lw_m3 80 rfl) rfl
theorem q603 : (Jvm.Cond.fieldLink "WicketBoardModel" (31 : Nat) "WicketBoardModel" "homeY" "[I") ∈ lw_all := lw_g (lw_at lw_m3 81 rfl) rfl
theorem q604 : (Jvm.Cond.fieldLink "WicketBoardModel" (34 : Nat) "WicketBoardModel" "grade" "[I") ∈ lw_all := lw_g (lw_at lw_m3 82 rfl) rfl
theorem q605 : (Jvm.Cond.fieldLink "WicketBoardModel" (37 : Nat) "WicketBoardModel" "barred" "[I") ∈ lw_all := lw_g (lw_at lw_m3 83 rfl) rfl
theorem q606 : (Jvm.Cond.fieldLink "WicketBoardModel" (40 : Nat) "WicketBoardModel" "marks" "[I") ∈ lw_all := lw_g (lw_at lw_m3 84 rfl) rfl
theorem q607 : (Jvm.Cond.fieldLink "WicketBoardModel" (43 : Nat) "WicketBoardModel" "times" "[I") ∈ lw_all := lw_g (lw_at lw_m3 85 rfl) rfl
theorem q608 : (Jvm.Cond.fieldLink "WicketBoardModel" (46 : Nat) "WicketBoardModel" "points" "[I") ∈ lw_all := lw_g (lw_at lw_m3 86 rfl) rfl
theorem q609 : (Jvm.Cond.fieldLink "WicketBoardModel" (49 : Nat) "WicketBoardModel" "weeksStood" "[I") ∈ lw_all := lw_g (lw_at lw_m3 87 rfl) rfl
theorem q610 : (Jvm.Cond.fieldLink "WicketBoardModel" (52 : Nat) "WicketBoardModel" "stood" "[I") ∈ lw_all := lw_g (lw_at lw_m3 88 rfl) rfl
theorem q611 : (Jvm.Cond.fieldLink "WicketBoardModel" (55 : Nat) "WicketBoardModel" "gone" "[Z") ∈ lw_all := lw_g (lw_at lw_m3 89 rfl) rfl
theorem q612 : (Jvm.Cond.fieldLink "WicketBoardModel" (59 : Nat) "WicketBoardModel" "gameX" "[I") ∈ lw_all := lw_g (lw_at lw_m3 90 rfl) rfl
theorem q613 : (Jvm.Cond.fieldLink "WicketBoardModel" (62 : Nat) "WicketBoardModel" "gameY" "[I") ∈ lw_all := lw_g (lw_at lw_m3 91 rfl) rfl
theorem q614 : (Jvm.Cond.fieldLink "WicketBoardModel" (65 : Nat) "WicketBoardModel" "clubs" "[I") ∈ lw_all := lw_g (lw_at lw_m3 92 rfl) rfl
theorem q615 : (Jvm.Cond.fieldLink "WicketBoardModel" (68 : Nat) "WicketBoardModel" "level" "[I") ∈ lw_all := lw_g (lw_at lw_m3 93 rfl) rfl
theorem q616 : (Jvm.Cond.fieldLink "WicketBoardModel" (71 : Nat) "WicketBoardModel" "who" "[I") ∈ lw_all := lw_g (lw_at lw_m3 94 rfl) rfl
theorem q617 : (Jvm.Cond.fieldLink "WicketBoardModel" (74 : Nat) "WicketBoardModel" "marked" "[I") ∈ lw_all := lw_g (lw_at lw_m3 95 rfl) rfl
theorem q618 : (Jvm.Cond.fieldLink "WicketBoardModel" (181 : Nat) "WicketBoardModel" "umpires" "I") ∈ lw_all := lw_g (lw_at lw_m3 96 rfl) rfl
theorem q619 : (Jvm.Cond.fieldLink "WicketBoardModel" (184 : Nat) "WicketBoardModel" "games" "I") ∈ lw_all := lw_g (lw_at lw_m3 97 rfl) rfl
theorem q620 : (Jvm.Cond.fieldLink "WicketBoardModel" (194 : Nat) "WicketBoardModel" "week" "I") ∈ lw_all := lw_g (lw_at lw_m3 98 rfl) rfl
theorem q621 : (Jvm.Cond.fieldLink "WicketBoardModel" (250 : Nat) "WicketBoardModel" "marksNow" "I") ∈ lw_all := lw_g (lw_at lw_m3 99 rfl) rfl
theorem q622 : (Jvm.Cond.fieldLink "WicketBoardModel" (77 : Nat) "WicketBoardModel" "comes" "[I") ∈ lw_all := lw_g (lw_at lw_m3 100 rfl) rfl
theorem q623 : (Jvm.Cond.fieldLink "WicketBoardModel" (80 : Nat) "WicketBoardModel" "takes" "[I") ∈ lw_all := lw_g (lw_at lw_m3 101 rfl) rfl
theorem q624 : (Jvm.Cond.fieldLink "WicketBoardModel" (83 : Nat) "WicketBoardModel" "cell" "[I") ∈ lw_all := lw_g (lw_at lw_m3 102 rfl) rfl
theorem q625 : (Jvm.Cond.fieldLink "WicketBoardModel" (86 : Nat) "WicketBoardModel" "holder" "[I") ∈ lw_all := lw_g (lw_at lw_m3 103 rfl) rfl
theorem q626 : (Jvm.Cond.fieldLink "WicketBoardModel" (89 : Nat) "WicketBoardModel" "fixed" "[Z") ∈ lw_all := lw_g (lw_at lw_m3 104 rfl) rfl
theorem q627 : (Jvm.Cond.fieldLink "WicketBoardModel" (92 : Nat) "WicketBoardModel" "way" "[I") ∈ lw_all := lw_g (lw_at lw_m3 105 rfl) rfl
theorem q628 : (Jvm.Cond.fieldLink "WicketBoardModel" (95 : Nat) "WicketBoardModel" "whence" "[I") ∈ lw_all := lw_g (lw_at lw_m3 106 rfl) rfl
theorem q629 : (Jvm.Cond.fieldLink "WicketBoardModel" (98 : Nat) "WicketBoardModel" "mover" "[I") ∈ lw_all := lw_g (lw_at lw_m3 107 rfl) rfl
theorem q630 : (Jvm.Cond.fieldLink "WicketBoardModel" (232 : Nat) "WicketBoardModel" "changed" "Z") ∈ lw_all := lw_g (lw_at lw_m3 108 rfl) rfl
theorem q631 : (Jvm.Cond.lays "WicketBoardModel" "WicketBoardModel" "thrown" "I") ∈ lw_all := lw_g (lw_at lw_m3 109 rfl) rfl
theorem q632 : (Jvm.Cond.soleField "WicketBoardModel" "thrown") ∈ lw_all := lw_g (lw_at lw_m3 110 rfl) rfl
theorem q633 : (Jvm.Cond.laysFinal "WicketBoardModel" "WicketBoardModel" "tape" "[I") ∈ lw_all := lw_g (lw_at lw_m3 111 rfl) rfl
theorem q634 : (Jvm.Cond.soleField "WicketBoardModel" "tape") ∈ lw_all := lw_g (lw_at lw_m3 112 rfl) rfl
theorem q635 : (Jvm.Cond.lays "WicketBoardModel" "WicketBoardModel" "taped" "I") ∈ lw_all := lw_g (lw_at lw_m3 113 rfl) rfl
theorem q636 : (Jvm.Cond.soleField "WicketBoardModel" "taped") ∈ lw_all := lw_g (lw_at lw_m3 114 rfl) rfl
theorem q637 : (Jvm.Cond.laysFinal "WicketBoardModel" "WicketBoardModel" "rule" "[I") ∈ lw_all := lw_g (lw_at lw_m3 115 rfl) rfl
theorem q638 : (Jvm.Cond.soleField "WicketBoardModel" "rule") ∈ lw_all := lw_g (lw_at lw_m3 116 rfl) rfl
theorem q639 : (Jvm.Cond.laysFinal "WicketBoardModel" "WicketBoardModel" "usual" "[I") ∈ lw_all := lw_g (lw_at lw_m3 117 rfl) rfl
theorem q640 : (Jvm.Cond.soleField "WicketBoardModel" "usual") ∈ lw_all := lw_g (lw_at lw_m3 118 rfl) rfl
theorem q641 : (Jvm.Cond.laysFinal "WicketBoardModel" "WicketBoardModel" "low" "[I") ∈ lw_all := lw_g (lw_at lw_m3 119 rfl) rfl
theorem q642 : (Jvm.Cond.soleField "WicketBoardModel" "low") ∈ lw_all := lw_g (lw_at lw_m3 120 rfl) rfl
theorem q643 : (Jvm.Cond.laysFinal "WicketBoardModel" "WicketBoardModel" "high" "[I") ∈ lw_all := lw_g (lw_at lw_m3 121 rfl) rfl
theorem q644 : (Jvm.Cond.soleField "WicketBoardModel" "high") ∈ lw_all := lw_g (lw_at lw_m3 122 rfl) rfl
theorem q645 : (Jvm.Cond.laysFinal "WicketBoardModel" "WicketBoardModel" "fresh" "[I") ∈ lw_all := lw_g (lw_at lw_m3 123 rfl) rfl
theorem q646 : (Jvm.Cond.soleField "WicketBoardModel" "fresh") ∈ lw_all := lw_g (lw_at lw_m3 124 rfl) rfl
theorem q647 : (Jvm.Cond.lays "WicketBoardModel" "WicketBoardModel" "size" "I") ∈ lw_all := lw_g (lw_at lw_m3 125 rfl) rfl
theorem q648 : (Jvm.Cond.soleField "WicketBoardModel" "size") ∈ lw_all := lw_g (lw_at lw_m3 126 rfl) rfl
theorem q649 : (Jvm.Cond.lays "WicketBoardModel" "WicketBoardModel" "to" "I") ∈ lw_all := lw_g (lw_at lw_m3 127 rfl) rfl
theorem q650 : (Jvm.Cond.soleField "WicketBoardModel" "to") ∈ lw_all := lw_g (lw_at lw_m3 128 rfl) rfl
theorem q651 : (Jvm.Cond.lays "WicketBoardModel" "WicketBoardModel" "from" "I") ∈ lw_all := lw_g (lw_at lw_m3 129 rfl) rfl
theorem q652 : (Jvm.Cond.soleField "WicketBoardModel" "from") ∈ lw_all := lw_g (lw_at lw_m3 130 rfl) rfl
theorem q653 : (Jvm.Cond.lays "WicketBoardModel" "WicketBoardModel" "kind" "I") ∈ lw_all := lw_g (lw_at lw_m3 131 rfl) rfl
theorem q654 : (Jvm.Cond.soleField "WicketBoardModel" "kind") ∈ lw_all := lw_g (lw_at lw_m3 132 rfl) rfl
theorem q655 : (Jvm.Cond.lays "WicketBoardModel" "WicketBoardModel" "number" "I") ∈ lw_all := lw_g (lw_at lw_m3 133 rfl) rfl
theorem q656 : (Jvm.Cond.soleField "WicketBoardModel" "number") ∈ lw_all := lw_g (lw_at lw_m3 134 rfl) rfl
theorem q657 : (Jvm.Cond.lays "WicketBoardModel" "WicketBoardModel" "fault" "I") ∈ lw_all := lw_g (lw_at lw_m3 135 rfl) rfl
theorem q658 : (Jvm.Cond.soleField "WicketBoardModel" "fault") ∈ lw_all := lw_g (lw_at lw_m3 136 rfl) rfl
theorem q659 : (Jvm.Cond.lays "WicketBoardModel" "WicketBoardModel" "place" "I") ∈ lw_all := lw_g (lw_at lw_m3 137 rfl) rfl
theorem q660 : (Jvm.Cond.soleField "WicketBoardModel" "place") ∈ lw_all := lw_g (lw_at lw_m3 138 rfl) rfl
theorem q661 : (Jvm.Cond.lays "WicketBoardModel" "WicketBoardModel" "told" "I") ∈ lw_all := lw_g (lw_at lw_m3 139 rfl) rfl
theorem q662 : (Jvm.Cond.soleField "WicketBoardModel" "told") ∈ lw_all := lw_g (lw_at lw_m3 140 rfl) rfl
theorem q663 : (Jvm.Cond.lays "WicketBoardModel" "WicketBoardModel" "word" "J") ∈ lw_all := lw_g (lw_at lw_m3 141 rfl) rfl
theorem q664 : (Jvm.Cond.soleField "WicketBoardModel" "word") ∈ lw_all := lw_g (lw_at lw_m3 142 rfl) rfl
theorem q665 : (Jvm.Cond.laysFinal "WicketBoardModel" "WicketBoardModel" "homeX" "[I") ∈ lw_all := lw_g (lw_at lw_m3 143 rfl) rfl
theorem q666 : (Jvm.Cond.soleField "WicketBoardModel" "homeX") ∈ lw_all := lw_g (lw_at lw_m3 144 rfl) rfl
theorem q667 : (Jvm.Cond.laysFinal "WicketBoardModel" "WicketBoardModel" "homeY" "[I") ∈ lw_all := lw_g (lw_at lw_m3 145 rfl) rfl
theorem q668 : (Jvm.Cond.soleField "WicketBoardModel" "homeY") ∈ lw_all := lw_g (lw_at lw_m3 146 rfl) rfl
theorem q669 : (Jvm.Cond.laysFinal "WicketBoardModel" "WicketBoardModel" "grade" "[I") ∈ lw_all := lw_g (lw_at lw_m3 147 rfl) rfl
theorem q670 : (Jvm.Cond.soleField "WicketBoardModel" "grade") ∈ lw_all := lw_g (lw_at lw_m3 148 rfl) rfl
theorem q671 : (Jvm.Cond.laysFinal "WicketBoardModel" "WicketBoardModel" "barred" "[I") ∈ lw_all := lw_g (lw_at lw_m3 149 rfl) rfl
theorem q672 : (Jvm.Cond.soleField "WicketBoardModel" "barred") ∈ lw_all := lw_g (lw_at lw_m3 150 rfl) rfl
theorem q673 : (Jvm.Cond.laysFinal "WicketBoardModel" "WicketBoardModel" "marks" "[I") ∈ lw_all := lw_g (lw_at lw_m3 151 rfl) rfl
theorem q674 : (Jvm.Cond.soleField "WicketBoardModel" "marks") ∈ lw_all := lw_g (lw_at lw_m3 152 rfl) rfl
theorem q675 : (Jvm.Cond.laysFinal "WicketBoardModel" "WicketBoardModel" "times" "[I") ∈ lw_all := lw_g (lw_at lw_m3 153 rfl) rfl
theorem q676 : (Jvm.Cond.soleField "WicketBoardModel" "times") ∈ lw_all := lw_g (lw_at lw_m3 154 rfl) rfl
theorem q677 : (Jvm.Cond.laysFinal "WicketBoardModel" "WicketBoardModel" "points" "[I") ∈ lw_all := lw_g (lw_at lw_m3 155 rfl) rfl
theorem q678 : (Jvm.Cond.soleField "WicketBoardModel" "points") ∈ lw_all := lw_g (lw_at lw_m3 156 rfl) rfl
theorem q679 : (Jvm.Cond.laysFinal "WicketBoardModel" "WicketBoardModel" "weeksStood" "[I") ∈ lw_all := lw_g (lw_at lw_m3 157 rfl) rfl
theorem q680 : (Jvm.Cond.soleField "WicketBoardModel" "weeksStood") ∈ lw_all := lw_g (lw_at lw_m3 158 rfl) rfl
theorem q681 : (Jvm.Cond.laysFinal "WicketBoardModel" "WicketBoardModel" "stood" "[I") ∈ lw_all := lw_g (lw_at lw_m3 159 rfl) rfl
theorem q682 : (Jvm.Cond.soleField "WicketBoardModel" "stood") ∈ lw_all := lw_g (lw_at lw_m3 160 rfl) rfl
theorem q683 : (Jvm.Cond.laysFinal "WicketBoardModel" "WicketBoardModel" "gone" "[Z") ∈ lw_all := lw_g (lw_at lw_m3 161 rfl) rfl
theorem q684 : (Jvm.Cond.soleField "WicketBoardModel" "gone") ∈ lw_all := lw_g (lw_at lw_m3 162 rfl) rfl
theorem q685 : (Jvm.Cond.laysFinal "WicketBoardModel" "WicketBoardModel" "gameX" "[I") ∈ lw_all := lw_g (lw_at lw_m3 163 rfl) rfl
theorem q686 : (Jvm.Cond.soleField "WicketBoardModel" "gameX") ∈ lw_all := lw_g (lw_at lw_m3 164 rfl) rfl
theorem q687 : (Jvm.Cond.laysFinal "WicketBoardModel" "WicketBoardModel" "gameY" "[I") ∈ lw_all := lw_g (lw_at lw_m3 165 rfl) rfl
theorem q688 : (Jvm.Cond.soleField "WicketBoardModel" "gameY") ∈ lw_all := lw_g (lw_at lw_m3 166 rfl) rfl
theorem q689 : (Jvm.Cond.laysFinal "WicketBoardModel" "WicketBoardModel" "clubs" "[I") ∈ lw_all := lw_g (lw_at lw_m3 167 rfl) rfl
theorem q690 : (Jvm.Cond.soleField "WicketBoardModel" "clubs") ∈ lw_all := lw_g (lw_at lw_m3 168 rfl) rfl
theorem q691 : (Jvm.Cond.laysFinal "WicketBoardModel" "WicketBoardModel" "level" "[I") ∈ lw_all := lw_g (lw_at lw_m3 169 rfl) rfl
theorem q692 : (Jvm.Cond.soleField "WicketBoardModel" "level") ∈ lw_all := lw_g (lw_at lw_m3 170 rfl) rfl
theorem q693 : (Jvm.Cond.laysFinal "WicketBoardModel" "WicketBoardModel" "who" "[I") ∈ lw_all := lw_g (lw_at lw_m3 171 rfl) rfl
theorem q694 : (Jvm.Cond.soleField "WicketBoardModel" "who") ∈ lw_all := lw_g (lw_at lw_m3 172 rfl) rfl
theorem q695 : (Jvm.Cond.laysFinal "WicketBoardModel" "WicketBoardModel" "marked" "[I") ∈ lw_all := lw_g (lw_at lw_m3 173 rfl) rfl
theorem q696 : (Jvm.Cond.soleField "WicketBoardModel" "marked") ∈ lw_all := lw_g (lw_at lw_m3 174 rfl) rfl
theorem q697 : (Jvm.Cond.lays "WicketBoardModel" "WicketBoardModel" "umpires" "I") ∈ lw_all := lw_g (lw_at lw_m3 175 rfl) rfl
theorem q698 : (Jvm.Cond.soleField "WicketBoardModel" "umpires") ∈ lw_all := lw_g (lw_at lw_m3 176 rfl) rfl
theorem q699 : (Jvm.Cond.lays "WicketBoardModel" "WicketBoardModel" "games" "I") ∈ lw_all := lw_g (lw_at lw_m3 177 rfl) rfl
theorem q700 : (Jvm.Cond.soleField "WicketBoardModel" "games") ∈ lw_all := lw_g (lw_at lw_m3 178 rfl) rfl
theorem q701 : (Jvm.Cond.lays "WicketBoardModel" "WicketBoardModel" "week" "I") ∈ lw_all := lw_g (lw_at lw_m3 179 rfl) rfl
theorem q702 : (Jvm.Cond.soleField "WicketBoardModel" "week") ∈ lw_all := lw_g (lw_at lw_m3 180 rfl) rfl
theorem q703 : (Jvm.Cond.lays "WicketBoardModel" "WicketBoardModel" "marksNow" "I") ∈ lw_all := lw_g (lw_at lw_m3 181 rfl) rfl
theorem q704 : (Jvm.Cond.soleField "WicketBoardModel" "marksNow") ∈ lw_all := lw_g (lw_at lw_m3 182 rfl) rfl
theorem q705 : (Jvm.Cond.laysFinal "WicketBoardModel" "WicketBoardModel" "comes" "[I") ∈ lw_all := lw_g (lw_at lw_m3 183 rfl) rfl
theorem q706 : (Jvm.Cond.soleField "WicketBoardModel" "comes") ∈ lw_all := lw_g (lw_at lw_m3 184 rfl) rfl
theorem q707 : (Jvm.Cond.laysFinal "WicketBoardModel" "WicketBoardModel" "takes" "[I") ∈ lw_all := lw_g (lw_at lw_m3 185 rfl) rfl
theorem q708 : (Jvm.Cond.soleField "WicketBoardModel" "takes") ∈ lw_all := lw_g (lw_at lw_m3 186 rfl) rfl
theorem q709 : (Jvm.Cond.laysFinal "WicketBoardModel" "WicketBoardModel" "cell" "[I") ∈ lw_all := lw_g (lw_at lw_m3 187 rfl) rfl
theorem q710 : (Jvm.Cond.soleField "WicketBoardModel" "cell") ∈ lw_all := lw_g (lw_at lw_m3 188 rfl) rfl
theorem q711 : (Jvm.Cond.laysFinal "WicketBoardModel" "WicketBoardModel" "holder" "[I") ∈ lw_all := lw_g (lw_at lw_m3 189 rfl) rfl
theorem q712 : (Jvm.Cond.soleField "WicketBoardModel" "holder") ∈ lw_all := lw_g (lw_at lw_m3 190 rfl) rfl
theorem q713 : (Jvm.Cond.laysFinal "WicketBoardModel" "WicketBoardModel" "fixed" "[Z") ∈ lw_all := lw_g (lw_at lw_m3 191 rfl) rfl
theorem q714 : (Jvm.Cond.soleField "WicketBoardModel" "fixed") ∈ lw_all := lw_g (lw_at lw_m3 192 rfl) rfl
theorem q715 : (Jvm.Cond.laysFinal "WicketBoardModel" "WicketBoardModel" "way" "[I") ∈ lw_all := lw_g (lw_at lw_m3 193 rfl) rfl
theorem q716 : (Jvm.Cond.soleField "WicketBoardModel" "way") ∈ lw_all := lw_g (lw_at lw_m3 194 rfl) rfl
theorem q717 : (Jvm.Cond.laysFinal "WicketBoardModel" "WicketBoardModel" "whence" "[I") ∈ lw_all := lw_g (lw_at lw_m3 195 rfl) rfl
theorem q718 : (Jvm.Cond.soleField "WicketBoardModel" "whence") ∈ lw_all := lw_g (lw_at lw_m3 196 rfl) rfl
theorem q719 : (Jvm.Cond.laysFinal "WicketBoardModel" "WicketBoardModel" "mover" "[I") ∈ lw_all := lw_g (lw_at lw_m3 197 rfl) rfl
theorem q720 : (Jvm.Cond.soleField "WicketBoardModel" "mover") ∈ lw_all := lw_g (lw_at lw_m3 198 rfl) rfl
theorem q721 : (Jvm.Cond.lays "WicketBoardModel" "WicketBoardModel" "changed" "Z") ∈ lw_all := lw_g (lw_at lw_m3 199 rfl) rfl
theorem q722 : (Jvm.Cond.soleField "WicketBoardModel" "changed") ∈ lw_all := lw_g (lw_at lw_m3 200 rfl) rfl
theorem q723 : (Jvm.Cond.superclass "WicketBoardModel" "java/lang/Object") ∈ lw_all := lw_g (lw_at lw_m3 201 rfl) rfl
theorem q725 : (Jvm.Cond.instanceMethod ({ cls := "WicketBoardModel", name := "thrown", desc := "()I" } : Jvm.MethodName)) ∈ lw_all := lw_g (lw_at lw_m3 203 rfl) rfl
theorem q726 : (Jvm.Cond.selects "WicketBoardModel" ({ cls := "WicketBoardModel", name := "thrown", desc := "()I" } : Jvm.MethodName) ({ cls := "WicketBoardModel", name := "thrown", desc := "()I" } : Jvm.MethodName)) ∈ lw_all := lw_g (lw_at lw_m3 204 rfl) rfl
theorem q727 : (Jvm.Cond.code ({ cls := "WicketBoardModel", name := "thrown", desc := "()I" } : Jvm.MethodName) prog_7_method_2_code (1 : Nat) (Option.some Jvm.ClassFile.FieldType.int)) ∈ lw_all := lw_g (lw_at lw_m3 205 rfl) rfl
theorem q729 : (Jvm.Cond.instanceMethod ({ cls := "WicketBoardModel", name := "feed", desc := "(IIIII)I" } : Jvm.MethodName)) ∈ lw_all := lw_g (lw_at lw_m3 207 rfl) rfl
theorem q730 : (Jvm.Cond.selects "WicketBoardModel" ({ cls := "WicketBoardModel", name := "feed", desc := "(IIIII)I" } : Jvm.MethodName) ({ cls := "WicketBoardModel", name := "feed", desc := "(IIIII)I" } : Jvm.MethodName)) ∈ lw_all := lw_g (lw_at lw_m3 208 rfl) rfl
theorem q731 : (Jvm.Cond.code ({ cls := "WicketBoardModel", name := "feed", desc := "(IIIII)I" } : Jvm.MethodName) prog_7_method_5_code (6 : Nat) (Option.some Jvm.ClassFile.FieldType.int)) ∈ lw_all := lw_g (lw_at lw_m3 209 rfl) rfl
theorem q732 : (Jvm.Cond.methodLink "WicketBoardModel" (108 : Nat) ({ cls := "WicketBoardModel", name := "come", desc := "(I)V" } : Jvm.MethodName)) ∈ lw_all := lw_g (lw_at lw_m3 210 rfl) rfl
theorem q733 : (Jvm.Cond.privateMethod ({ cls := "WicketBoardModel", name := "come", desc := "(I)V" } : Jvm.MethodName)) ∈ lw_tbl := lw_at lw_m3 211 rfl
theorem q734 : (Jvm.Cond.instanceMethod ({ cls := "WicketBoardModel", name := "come", desc := "(I)V" } : Jvm.MethodName)) ∈ lw_all := lw_g (lw_at lw_m3 212 rfl) rfl
theorem q735 : (Jvm.Cond.code ({ cls := "WicketBoardModel", name := "come", desc := "(I)V" } : Jvm.MethodName) prog_7_method_4_code (3 : Nat) (Option.none : Option Jvm.ClassFile.FieldType)) ∈ lw_all := lw_g (lw_at lw_m3 213 rfl) rfl
theorem q737 : (Jvm.Cond.instanceMethod ({ cls := "WicketBoardModel", name := "end", desc := "(I)Z" } : Jvm.MethodName)) ∈ lw_all := lw_g (lw_at lw_m3 215 rfl) rfl
theorem q738 : (Jvm.Cond.selects "WicketBoardModel" ({ cls := "WicketBoardModel", name := "end", desc := "(I)Z" } : Jvm.MethodName) ({ cls := "WicketBoardModel", name := "end", desc := "(I)Z" } : Jvm.MethodName)) ∈ lw_all := lw_g (lw_at lw_m3 216 rfl) rfl
theorem q739 : (Jvm.Cond.code ({ cls := "WicketBoardModel", name := "end", desc := "(I)Z" } : Jvm.MethodName) prog_7_method_6_code (2 : Nat) (Option.some Jvm.ClassFile.FieldType.boolean)) ∈ lw_all := lw_g (lw_at lw_m3 217 rfl) rfl
theorem q741 : (Jvm.Cond.instanceMethod ({ cls := "WicketBoardModel", name := "rules", desc := "()I" } : Jvm.MethodName)) ∈ lw_all := lw_g (lw_at lw_m3 219 rfl) rfl
theorem q742 : (Jvm.Cond.selects "WicketBoardModel" ({ cls := "WicketBoardModel", name := "rules", desc := "()I" } : Jvm.MethodName) ({ cls := "WicketBoardModel", name := "rules", desc := "()I" } : Jvm.MethodName)) ∈ lw_all := lw_g (lw_at lw_m3 220 rfl) rfl
theorem q743 : (Jvm.Cond.code ({ cls := "WicketBoardModel", name := "rules", desc := "()I" } : Jvm.MethodName) prog_7_method_16_code (3 : Nat) (Option.some Jvm.ClassFile.FieldType.int)) ∈ lw_all := lw_g (lw_at lw_m3 221 rfl) rfl
theorem q744 : (Jvm.Cond.methodLink "WicketBoardModel" (174 : Nat) ({ cls := "WicketBoardModel", name := "go", desc := "()V" } : Jvm.MethodName)) ∈ lw_all := lw_g (lw_at lw_m3 222 rfl) rfl
theorem q745 : (Jvm.Cond.privateMethod ({ cls := "WicketBoardModel", name := "go", desc := "()V" } : Jvm.MethodName)) ∈ lw_tbl := lw_at lw_m3 223 rfl
theorem q746 : (Jvm.Cond.instanceMethod ({ cls := "WicketBoardModel", name := "go", desc := "()V" } : Jvm.MethodName)) ∈ lw_all := lw_g (lw_at lw_m3 224 rfl) rfl
theorem q747 : (Jvm.Cond.code ({ cls := "WicketBoardModel", name := "go", desc := "()V" } : Jvm.MethodName) prog_7_method_10_code (5 : Nat) (Option.none : Option Jvm.ClassFile.FieldType)) ∈ lw_all := lw_g (lw_at lw_m3 225 rfl) rfl
theorem q748 : (Jvm.Cond.methodLink "WicketBoardModel" (124 : Nat) ({ cls := "WicketBoardModel", name := "isLetter", desc := "(I)Z" } : Jvm.MethodName)) ∈ lw_all := lw_g (lw_at lw_m3 226 rfl) rfl
theorem q749 : (Jvm.Cond.static ({ cls := "WicketBoardModel", name := "isLetter", desc := "(I)Z" } : Jvm.MethodName)) ∈ lw_all := lw_g (lw_at lw_m3 227 rfl) rfl
theorem q750 : (Jvm.Cond.code ({ cls := "WicketBoardModel", name := "isLetter", desc := "(I)Z" } : Jvm.MethodName) prog_7_method_9_code (1 : Nat) (Option.some Jvm.ClassFile.FieldType.boolean)) ∈ lw_all := lw_g (lw_at lw_m3 228 rfl) rfl
theorem q751 : (Jvm.Cond.methodLink "WicketBoardModel" (128 : Nat) ({ cls := "WicketBoardModel", name := "isDigit", desc := "(I)Z" } : Jvm.MethodName)) ∈ lw_all := lw_g (lw_at lw_m3 229 rfl) rfl
theorem q752 : (Jvm.Cond.static ({ cls := "WicketBoardModel", name := "isDigit", desc := "(I)Z" } : Jvm.MethodName)) ∈ lw_all := lw_g (lw_at lw_m3 230 rfl) rfl
theorem q753 : (Jvm.Cond.code ({ cls := "WicketBoardModel", name := "isDigit", desc := "(I)Z" } : Jvm.MethodName) prog_7_method_8_code (1 : Nat) (Option.some Jvm.ClassFile.FieldType.boolean)) ∈ lw_all := lw_g (lw_at lw_m3 231 rfl) rfl
theorem q754 : (Jvm.Cond.methodLink "WicketBoardModel" (138 : Nat) ({ cls := "WicketBoardModel", name := "byteAt", desc := "(I)I" } : Jvm.MethodName)) ∈ lw_all := lw_g (lw_at lw_m3 232 rfl) rfl
theorem q755 : (Jvm.Cond.privateMethod ({ cls := "WicketBoardModel", name := "byteAt", desc := "(I)I" } : Jvm.MethodName)) ∈ lw_tbl := lw_at lw_m3 233 rfl
theorem q756 : (Jvm.Cond.instanceMethod ({ cls := "WicketBoardModel", name := "byteAt", desc := "(I)I" } : Jvm.MethodName)) ∈ lw_all := lw_g (lw_at lw_m3 234 rfl) rfl
theorem q757 : (Jvm.Cond.code ({ cls := "WicketBoardModel", name := "byteAt", desc := "(I)I" } : Jvm.MethodName) prog_7_method_7_code (2 : Nat) (Option.some Jvm.ClassFile.FieldType.int)) ∈ lw_all := lw_g (lw_at lw_m3 235 rfl) rfl
theorem q758 : (Jvm.Cond.constantLong "WicketBoardModel" (142 : Nat) (27 : Int64)) ∈ lw_all := lw_g (lw_at lw_m3 236 rfl) rfl
theorem q759 : (Jvm.Cond.constantLong "WicketBoardModel" (144 : Nat) (96 : Int64)) ∈ lw_all := lw_g (lw_at lw_m3 237 rfl) rfl
theorem q760 : (Jvm.Cond.constantLong "WicketBoardModel" (146 : Nat) (-1 : Int64)) ∈ lw_all := lw_g (lw_at lw_m3 238 rfl) rfl
theorem q761 : (Jvm.Cond.methodLink "WicketBoardModel" (177 : Nat) ({ cls := "WicketBoardModel", name := "readRule", desc := "()Z" } : Jvm.MethodName)) ∈ lw_all := lw_g (lw_at lw_m3 239 rfl) rfl
theorem q762 : (Jvm.Cond.privateMethod ({ cls := "WicketBoardModel", name := "readRule", desc := "()Z" } : Jvm.MethodName)) ∈ lw_tbl := lw_at lw_m4 0 rfl
theorem q763 : (Jvm.Cond.instanceMethod ({ cls := "WicketBoardModel", name := "readRule", desc := "()Z" } : Jvm.MethodName)) ∈ lw_all := lw_g (lw_at lw_m4 1 rfl) rfl
theorem q764 : (Jvm.Cond.code ({ cls := "WicketBoardModel", name := "readRule", desc := "()Z" } : Jvm.MethodName) prog_7_method_15_code (2 : Nat) (Option.some Jvm.ClassFile.FieldType.boolean)) ∈ lw_all := lw_g (lw_at lw_m4 2 rfl) rfl
theorem q765 : (Jvm.Cond.methodLink "WicketBoardModel" (164 : Nat) ({ cls := "WicketBoardModel", name := "ruleAtHand", desc := "()I" } : Jvm.MethodName)) ∈ lw_all := lw_g (lw_at lw_m4 3 rfl) rfl
theorem q766 : (Jvm.Cond.privateMethod ({ cls := "WicketBoardModel", name := "ruleAtHand", desc := "()I" } : Jvm.MethodName)) ∈ lw_tbl := lw_at lw_m4 4 rfl
theorem q767 : (Jvm.Cond.instanceMethod ({ cls := "WicketBoardModel", name := "ruleAtHand", desc := "()I" } : Jvm.MethodName)) ∈ lw_all := lw_g (lw_at lw_m4 5 rfl) rfl
theorem q768 : (Jvm.Cond.code ({ cls := "WicketBoardModel", name := "ruleAtHand", desc := "()I" } : Jvm.MethodName) prog_7_method_13_code (1 : Nat) (Option.some Jvm.ClassFile.FieldType.int)) ∈ lw_all := lw_g (lw_at lw_m4 6 rfl) rfl
theorem q769 : (Jvm.Cond.methodLink "WicketBoardModel" (148 : Nat) ({ cls := "WicketBoardModel", name := "spelt", desc := "(IIII)J" } : Jvm.MethodName)) ∈ lw_all := lw_g (lw_at lw_m4 7 rfl) rfl
theorem q770 : (Jvm.Cond.static ({ cls := "WicketBoardModel", name := "spelt", desc := "(IIII)J" } : Jvm.MethodName)) ∈ lw_all := lw_g (lw_at lw_m4 8 rfl) rfl
theorem q771 : (Jvm.Cond.code ({ cls := "WicketBoardModel", name := "spelt", desc := "(IIII)J" } : Jvm.MethodName) prog_7_method_11_code (6 : Nat) (Option.some Jvm.ClassFile.FieldType.long)) ∈ lw_all := lw_g (lw_at lw_m4 9 rfl) rfl
theorem q772 : (Jvm.Cond.methodLink "WicketBoardModel" (152 : Nat) ({ cls := "WicketBoardModel", name := "isKey", desc := "(J)Z" } : Jvm.MethodName)) ∈ lw_all := lw_g (lw_at lw_m4 10 rfl) rfl
theorem q773 : (Jvm.Cond.privateMethod ({ cls := "WicketBoardModel", name := "isKey", desc := "(J)Z" } : Jvm.MethodName)) ∈ lw_tbl := lw_at lw_m4 11 rfl
theorem q774 : (Jvm.Cond.instanceMethod ({ cls := "WicketBoardModel", name := "isKey", desc := "(J)Z" } : Jvm.MethodName)) ∈ lw_all := lw_g (lw_at lw_m4 12 rfl) rfl
theorem q775 : (Jvm.Cond.code ({ cls := "WicketBoardModel", name := "isKey", desc := "(J)Z" } : Jvm.MethodName) prog_7_method_12_code (3 : Nat) (Option.some Jvm.ClassFile.FieldType.boolean)) ∈ lw_all := lw_g (lw_at lw_m4 13 rfl) rfl
theorem q776 : (Jvm.Cond.constantLong "WicketBoardModel" (156 : Nat) (14 : Int64)) ∈ lw_all := lw_g (lw_at lw_m4 14 rfl) rfl
theorem q777 : (Jvm.Cond.methodLink "WicketBoardModel" (168 : Nat) ({ cls := "WicketBoardModel", name := "bad", desc := "(I)Z" } : Jvm.MethodName)) ∈ lw_all := lw_g (lw_at lw_m4 15 rfl) rfl
theorem q778 : (Jvm.Cond.privateMethod ({ cls := "WicketBoardModel", name := "bad", desc := "(I)Z" } : Jvm.MethodName)) ∈ lw_tbl := lw_at lw_m4 16 rfl
theorem q779 : (Jvm.Cond.instanceMethod ({ cls := "WicketBoardModel", name := "bad", desc := "(I)Z" } : Jvm.MethodName)) ∈ lw_all := lw_g (lw_at lw_m4 17 rfl) rfl
theorem q780 : (Jvm.Cond.code ({ cls := "WicketBoardModel", name := "bad", desc := "(I)Z" } : Jvm.MethodName) prog_7_method_14_code (2 : Nat) (Option.some Jvm.ClassFile.FieldType.boolean)) ∈ lw_all := lw_g (lw_at lw_m4 18 rfl) rfl
theorem q782 : (Jvm.Cond.instanceMethod ({ cls := "WicketBoardModel", name := "fault", desc := "()I" } : Jvm.MethodName)) ∈ lw_all := lw_g (lw_at lw_m4 20 rfl) rfl
theorem q783 : (Jvm.Cond.selects "WicketBoardModel" ({ cls := "WicketBoardModel", name := "fault", desc := "()I" } : Jvm.MethodName) ({ cls := "WicketBoardModel", name := "fault", desc := "()I" } : Jvm.MethodName)) ∈ lw_all := lw_g (lw_at lw_m4 21 rfl) rfl
theorem q784 : (Jvm.Cond.code ({ cls := "WicketBoardModel", name := "fault", desc := "()I" } : Jvm.MethodName) prog_7_method_17_code (1 : Nat) (Option.some Jvm.ClassFile.FieldType.int)) ∈ lw_all := lw_g (lw_at lw_m4 22 rfl) rfl
theorem q786 : (Jvm.Cond.instanceMethod ({ cls := "WicketBoardModel", name := "rule", desc := "(I)I" } : Jvm.MethodName)) ∈ lw_all := lw_g (lw_at lw_m4 24 rfl) rfl
theorem q787 : (Jvm.Cond.selects "WicketBoardModel" ({ cls := "WicketBoardModel", name := "rule", desc := "(I)I" } : Jvm.MethodName) ({ cls := "WicketBoardModel", name := "rule", desc := "(I)I" } : Jvm.MethodName)) ∈ lw_all := lw_g (lw_at lw_m4 25 rfl) rfl
theorem q788 : (Jvm.Cond.code ({ cls := "WicketBoardModel", name := "rule", desc := "(I)I" } : Jvm.MethodName) prog_7_method_18_code (2 : Nat) (Option.some Jvm.ClassFile.FieldType.int)) ∈ lw_all := lw_g (lw_at lw_m4 26 rfl) rfl
theorem q790 : (Jvm.Cond.instanceMethod ({ cls := "WicketBoardModel", name := "umpire", desc := "(IIII)I" } : Jvm.MethodName)) ∈ lw_all := lw_g (lw_at lw_m4 28 rfl) rfl
theorem q791 : (Jvm.Cond.selects "WicketBoardModel" ({ cls := "WicketBoardModel", name := "umpire", desc := "(IIII)I" } : Jvm.MethodName) ({ cls := "WicketBoardModel", name := "umpire", desc := "(IIII)I" } : Jvm.MethodName)) ∈ lw_all := lw_g (lw_at lw_m4 29 rfl) rfl
theorem q792 : (Jvm.Cond.code ({ cls := "WicketBoardModel", name := "umpire", desc := "(IIII)I" } : Jvm.MethodName) prog_7_method_22_code (5 : Nat) (Option.some Jvm.ClassFile.FieldType.int)) ∈ lw_all := lw_g (lw_at lw_m4 30 rfl) rfl
theorem q793 : (Jvm.Cond.methodLink "WicketBoardModel" (187 : Nat) ({ cls := "WicketBoardModel", name := "isIn", desc := "(III)Z" } : Jvm.MethodName)) ∈ lw_all := lw_g (lw_at lw_m4 31 rfl) rfl
theorem q794 : (Jvm.Cond.static ({ cls := "WicketBoardModel", name := "isIn", desc := "(III)Z" } : Jvm.MethodName)) ∈ lw_all := lw_g (lw_at lw_m4 32 rfl) rfl
theorem q795 : (Jvm.Cond.code ({ cls := "WicketBoardModel", name := "isIn", desc := "(III)Z" } : Jvm.MethodName) prog_7_method_19_code (3 : Nat) (Option.some Jvm.ClassFile.FieldType.boolean)) ∈ lw_all := lw_g (lw_at lw_m4 33 rfl) rfl
theorem q797 : (Jvm.Cond.instanceMethod ({ cls := "WicketBoardModel", name := "away", desc := "(IIZ)Z" } : Jvm.MethodName)) ∈ lw_all := lw_g (lw_at lw_m4 35 rfl) rfl
theorem q798 : (Jvm.Cond.selects "WicketBoardModel" ({ cls := "WicketBoardModel", name := "away", desc := "(IIZ)Z" } : Jvm.MethodName) ({ cls := "WicketBoardModel", name := "away", desc := "(IIZ)Z" } : Jvm.MethodName)) ∈ lw_all := lw_g (lw_at lw_m4 36 rfl) rfl
theorem q799 : (Jvm.Cond.code ({ cls := "WicketBoardModel", name := "away", desc := "(IIZ)Z" } : Jvm.MethodName) prog_7_method_24_code (4 : Nat) (Option.some Jvm.ClassFile.FieldType.boolean)) ∈ lw_all := lw_g (lw_at lw_m4 37 rfl) rfl
theorem q800 : (Jvm.Cond.methodLink "WicketBoardModel" (191 : Nat) ({ cls := "WicketBoardModel", name := "isUmpire", desc := "(I)Z" } : Jvm.MethodName)) ∈ lw_all := lw_g (lw_at lw_m4 38 rfl) rfl
theorem q801 : (Jvm.Cond.privateMethod ({ cls := "WicketBoardModel", name := "isUmpire", desc := "(I)Z" } : Jvm.MethodName)) ∈ lw_tbl := lw_at lw_m4 39 rfl
theorem q802 : (Jvm.Cond.instanceMethod ({ cls := "WicketBoardModel", name := "isUmpire", desc := "(I)Z" } : Jvm.MethodName)) ∈ lw_all := lw_g (lw_at lw_m4 40 rfl) rfl
theorem q803 : (Jvm.Cond.code ({ cls := "WicketBoardModel", name := "isUmpire", desc := "(I)Z" } : Jvm.MethodName) prog_7_method_20_code (2 : Nat) (Option.some Jvm.ClassFile.FieldType.boolean)) ∈ lw_all := lw_g (lw_at lw_m4 41 rfl) rfl
theorem q804 : (Jvm.Cond.methodLink "WicketBoardModel" (197 : Nat) ({ cls := "WicketBoardModel", name := "seatOf", desc := "(I)I" } : Jvm.MethodName)) ∈ lw_all := lw_g (lw_at lw_m4 42 rfl) rfl
theorem q805 : (Jvm.Cond.privateMethod ({ cls := "WicketBoardModel", name := "seatOf", desc := "(I)I" } : Jvm.MethodName)) ∈ lw_tbl := lw_at lw_m4 43 rfl
theorem q806 : (Jvm.Cond.instanceMethod ({ cls := "WicketBoardModel", name := "seatOf", desc := "(I)I" } : Jvm.MethodName)) ∈ lw_all := lw_g (lw_at lw_m4 44 rfl) rfl
theorem q807 : (Jvm.Cond.code ({ cls := "WicketBoardModel", name := "seatOf", desc := "(I)I" } : Jvm.MethodName) prog_7_method_23_code (3 : Nat) (Option.some Jvm.ClassFile.FieldType.int)) ∈ lw_all := lw_g (lw_at lw_m4 45 rfl) rfl
theorem q809 : (Jvm.Cond.instanceMethod ({ cls := "WicketBoardModel", name := "game", desc := "(IIIII)I" } : Jvm.MethodName)) ∈ lw_all := lw_g (lw_at lw_m4 47 rfl) rfl
theorem q810 : (Jvm.Cond.selects "WicketBoardModel" ({ cls := "WicketBoardModel", name := "game", desc := "(IIIII)I" } : Jvm.MethodName) ({ cls := "WicketBoardModel", name := "game", desc := "(IIIII)I" } : Jvm.MethodName)) ∈ lw_all := lw_g (lw_at lw_m4 48 rfl) rfl
theorem q811 : (Jvm.Cond.code ({ cls := "WicketBoardModel", name := "game", desc := "(IIIII)I" } : Jvm.MethodName) prog_7_method_25_code (7 : Nat) (Option.some Jvm.ClassFile.FieldType.int)) ∈ lw_all := lw_g (lw_at lw_m4 49 rfl) rfl
theorem q813 : (Jvm.Cond.instanceMethod ({ cls := "WicketBoardModel", name := "may", desc := "(II)Z" } : Jvm.MethodName)) ∈ lw_all := lw_g (lw_at lw_m4 51 rfl) rfl
theorem q814 : (Jvm.Cond.selects "WicketBoardModel" ({ cls := "WicketBoardModel", name := "may", desc := "(II)Z" } : Jvm.MethodName) ({ cls := "WicketBoardModel", name := "may", desc := "(II)Z" } : Jvm.MethodName)) ∈ lw_all := lw_g (lw_at lw_m4 52 rfl) rfl
theorem q815 : (Jvm.Cond.code ({ cls := "WicketBoardModel", name := "may", desc := "(II)Z" } : Jvm.MethodName) prog_7_method_30_code (3 : Nat) (Option.some Jvm.ClassFile.FieldType.boolean)) ∈ lw_all := lw_g (lw_at lw_m4 53 rfl) rfl
theorem q816 : (Jvm.Cond.methodLink "WicketBoardModel" (207 : Nat) ({ cls := "WicketBoardModel", name := "isSeat", desc := "(I)Z" } : Jvm.MethodName)) ∈ lw_all := lw_g (lw_at lw_m4 54 rfl) rfl
theorem q817 : (Jvm.Cond.privateMethod ({ cls := "WicketBoardModel", name := "isSeat", desc := "(I)Z" } : Jvm.MethodName)) ∈ lw_tbl := lw_at lw_m4 55 rfl
theorem q818 : (Jvm.Cond.instanceMethod ({ cls := "WicketBoardModel", name := "isSeat", desc := "(I)Z" } : Jvm.MethodName)) ∈ lw_all := lw_g (lw_at lw_m4 56 rfl) rfl
theorem q819 : (Jvm.Cond.code ({ cls := "WicketBoardModel", name := "isSeat", desc := "(I)Z" } : Jvm.MethodName) prog_7_method_21_code (2 : Nat) (Option.some Jvm.ClassFile.FieldType.boolean)) ∈ lw_all := lw_g (lw_at lw_m4 57 rfl) rfl
theorem q820 : (Jvm.Cond.methodLink "WicketBoardModel" (210 : Nat) ({ cls := "WicketBoardModel", name := "mayHave", desc := "(II)Z" } : Jvm.MethodName)) ∈ lw_all := lw_g (lw_at lw_m4 58 rfl) rfl
theorem q821 : (Jvm.Cond.privateMethod ({ cls := "WicketBoardModel", name := "mayHave", desc := "(II)Z" } : Jvm.MethodName)) ∈ lw_tbl := lw_at lw_m4 59 rfl
theorem q822 : (Jvm.Cond.instanceMethod ({ cls := "WicketBoardModel", name := "mayHave", desc := "(II)Z" } : Jvm.MethodName)) ∈ lw_all := lw_g (lw_at lw_m4 60 rfl) rfl
theorem q823 : (Jvm.Cond.code ({ cls := "WicketBoardModel", name := "mayHave", desc := "(II)Z" } : Jvm.MethodName) prog_7_method_28_code (6 : Nat) (Option.some Jvm.ClassFile.FieldType.boolean)) ∈ lw_all := lw_g (lw_at lw_m4 61 rfl) rfl
theorem q824 : (Jvm.Cond.methodLink "WicketBoardModel" (204 : Nat) ({ cls := "WicketBoardModel", name := "miles", desc := "(II)I" } : Jvm.MethodName)) ∈ lw_all := lw_g (lw_at lw_m4 62 rfl) rfl
theorem q825 : (Jvm.Cond.privateMethod ({ cls := "WicketBoardModel", name := "miles", desc := "(II)I" } : Jvm.MethodName)) ∈ lw_tbl := lw_at lw_m4 63 rfl
theorem q826 : (Jvm.Cond.instanceMethod ({ cls := "WicketBoardModel", name := "miles", desc := "(II)I" } : Jvm.MethodName)) ∈ lw_all := lw_g (lw_at lw_m4 64 rfl) rfl
theorem q827 : (Jvm.Cond.code ({ cls := "WicketBoardModel", name := "miles", desc := "(II)I" } : Jvm.MethodName) prog_7_method_27_code (3 : Nat) (Option.some Jvm.ClassFile.FieldType.int)) ∈ lw_all := lw_g (lw_at lw_m4 65 rfl) rfl
theorem q828 : (Jvm.Cond.methodLink "WicketBoardModel" (200 : Nat) ({ cls := "WicketBoardModel", name := "less", desc := "(II)I" } : Jvm.MethodName)) ∈ lw_all := lw_g (lw_at lw_m4 66 rfl) rfl
theorem q829 : (Jvm.Cond.static ({ cls := "WicketBoardModel", name := "less", desc := "(II)I" } : Jvm.MethodName)) ∈ lw_all := lw_g (lw_at lw_m4 67 rfl) rfl
theorem q830 : (Jvm.Cond.code ({ cls := "WicketBoardModel", name := "less", desc := "(II)I" } : Jvm.MethodName) prog_7_method_26_code (2 : Nat) (Option.some Jvm.ClassFile.FieldType.int)) ∈ lw_all := lw_g (lw_at lw_m4 68 rfl) rfl
theorem q832 : (Jvm.Cond.instanceMethod ({ cls := "WicketBoardModel", name := "cost", desc := "(II)I" } : Jvm.MethodName)) ∈ lw_all := lw_g (lw_at lw_m4 70 rfl) rfl
theorem q833 : (Jvm.Cond.selects "WicketBoardModel" ({ cls := "WicketBoardModel", name := "cost", desc := "(II)I" } : Jvm.MethodName) ({ cls := "WicketBoardModel", name := "cost", desc := "(II)I" } : Jvm.MethodName)) ∈ lw_all := lw_g (lw_at lw_m4 71 rfl) rfl
theorem q834 : (Jvm.Cond.code ({ cls := "WicketBoardModel", name := "cost", desc := "(II)I" } : Jvm.MethodName) prog_7_method_31_code (3 : Nat) (Option.some Jvm.ClassFile.FieldType.int)) ∈ lw_all := lw_g (lw_at lw_m4 72 rfl) rfl
theorem q835 : (Jvm.Cond.methodLink "WicketBoardModel" (214 : Nat) ({ cls := "WicketBoardModel", name := "costOf", desc := "(II)I" } : Jvm.MethodName)) ∈ lw_all := lw_g (lw_at lw_m4 73 rfl) rfl
theorem q836 : (Jvm.Cond.privateMethod ({ cls := "WicketBoardModel", name := "costOf", desc := "(II)I" } : Jvm.MethodName)) ∈ lw_tbl := lw_at lw_m4 74 rfl
theorem q837 : (Jvm.Cond.instanceMethod ({ cls := "WicketBoardModel", name := "costOf", desc := "(II)I" } : Jvm.MethodName)) ∈ lw_all := lw_g (lw_at lw_m4 75 rfl) rfl
theorem q838 : (Jvm.Cond.code ({ cls := "WicketBoardModel", name := "costOf", desc := "(II)I" } : Jvm.MethodName) prog_7_method_29_code (3 : Nat) (Option.some Jvm.ClassFile.FieldType.int)) ∈ lw_all := lw_g (lw_at lw_m4 76 rfl) rfl
theorem q840 : (Jvm.Cond.instanceMethod ({ cls := "WicketBoardModel", name := "send", desc := "()I" } : Jvm.MethodName)) ∈ lw_all := lw_g (lw_at lw_m4 78 rfl) rfl
theorem q841 : (Jvm.Cond.selects "WicketBoardModel" ({ cls := "WicketBoardModel", name := "send", desc := "()I" } : Jvm.MethodName) ({ cls := "WicketBoardModel", name := "send", desc := "()I" } : Jvm.MethodName)) ∈ lw_all := lw_g (lw_at lw_m4 79 rfl) rfl
theorem q842 : (Jvm.Cond.code ({ cls := "WicketBoardModel", name := "send", desc := "()I" } : Jvm.MethodName) prog_7_method_41_code (1 : Nat) (Option.some Jvm.ClassFile.FieldType.int)) ∈ lw_all := lw_g (lw_at lw_m4 80 rfl) rfl
theorem q843 : (Jvm.Cond.methodLink "WicketBoardModel" (253 : Nat) ({ cls := "WicketBoardModel", name := "settle", desc := "()V" } : Jvm.MethodName)) ∈ lw_all := lw_g (lw_at lw_m4 81 rfl) rfl
theorem q844 : (Jvm.Cond.privateMethod ({ cls := "WicketBoardModel", name := "settle", desc := "()V" } : Jvm.MethodName)) ∈ lw_tbl := lw_at lw_m4 82 rfl
theorem q845 : (Jvm.Cond.instanceMethod ({ cls := "WicketBoardModel", name := "settle", desc := "()V" } : Jvm.MethodName)) ∈ lw_all := lw_g (lw_at lw_m4 83 rfl) rfl
theorem q846 : (Jvm.Cond.code ({ cls := "WicketBoardModel", name := "settle", desc := "()V" } : Jvm.MethodName) prog_7_method_35_code (4 : Nat) (Option.none : Option Jvm.ClassFile.FieldType)) ∈ lw_all := lw_g (lw_at lw_m4 84 rfl) rfl
theorem q847 : (Jvm.Cond.constant "WicketBoardModel" (218 : Nat) (100000000 : Int32)) ∈ lw_all := lw_g (lw_at lw_m4 85 rfl) rfl
theorem q848 : (Jvm.Cond.methodLink "WicketBoardModel" (222 : Nat) ({ cls := "WicketBoardModel", name := "seek", desc := "(I)V" } : Jvm.MethodName)) ∈ lw_all := lw_g (lw_at lw_m4 86 rfl) rfl
theorem q849 : (Jvm.Cond.privateMethod ({ cls := "WicketBoardModel", name := "seek", desc := "(I)V" } : Jvm.MethodName)) ∈ lw_tbl := lw_at lw_m4 87 rfl
theorem q850 : (Jvm.Cond.instanceMethod ({ cls := "WicketBoardModel", name := "seek", desc := "(I)V" } : Jvm.MethodName)) ∈ lw_all := lw_g (lw_at lw_m4 88 rfl) rfl
theorem q851 : (Jvm.Cond.code ({ cls := "WicketBoardModel", name := "seek", desc := "(I)V" } : Jvm.MethodName) prog_7_method_33_code (7 : Nat) (Option.none : Option Jvm.ClassFile.FieldType)) ∈ lw_all := lw_g (lw_at lw_m4 89 rfl) rfl
theorem q852 : (Jvm.Cond.constant "WicketBoardModel" (217 : Nat) (1000000 : Int32)) ∈ lw_all := lw_g (lw_at lw_m4 90 rfl) rfl
theorem q853 : (Jvm.Cond.methodLink "WicketBoardModel" (219 : Nat) ({ cls := "WicketBoardModel", name := "pays", desc := "(I)I" } : Jvm.MethodName)) ∈ lw_all := lw_g (lw_at lw_m4 91 rfl) rfl
theorem q854 : (Jvm.Cond.privateMethod ({ cls := "WicketBoardModel", name := "pays", desc := "(I)I" } : Jvm.MethodName)) ∈ lw_tbl := lw_at lw_m4 92 rfl
theorem q855 : (Jvm.Cond.instanceMethod ({ cls := "WicketBoardModel", name := "pays", desc := "(I)I" } : Jvm.MethodName)) ∈ lw_all := lw_g (lw_at lw_m4 93 rfl) rfl
theorem q856 : (Jvm.Cond.code ({ cls := "WicketBoardModel", name := "pays", desc := "(I)I" } : Jvm.MethodName) prog_7_method_32_code (2 : Nat) (Option.some Jvm.ClassFile.FieldType.int)) ∈ lw_all := lw_g (lw_at lw_m4 94 rfl) rfl
theorem q857 : (Jvm.Cond.methodLink "WicketBoardModel" (225 : Nat) ({ cls := "WicketBoardModel", name := "change", desc := "(I)V" } : Jvm.MethodName)) ∈ lw_all := lw_g (lw_at lw_m4 95 rfl) rfl
theorem q858 : (Jvm.Cond.privateMethod ({ cls := "WicketBoardModel", name := "change", desc := "(I)V" } : Jvm.MethodName)) ∈ lw_tbl := lw_at lw_m4 96 rfl
theorem q859 : (Jvm.Cond.instanceMethod ({ cls := "WicketBoardModel", name := "change", desc := "(I)V" } : Jvm.MethodName)) ∈ lw_all := lw_g (lw_at lw_m4 97 rfl) rfl
theorem q860 : (Jvm.Cond.code ({ cls := "WicketBoardModel", name := "change", desc := "(I)V" } : Jvm.MethodName) prog_7_method_34_code (5 : Nat) (Option.none : Option Jvm.ClassFile.FieldType)) ∈ lw_all := lw_g (lw_at lw_m4 98 rfl) rfl
theorem q861 : (Jvm.Cond.methodLink "WicketBoardModel" (228 : Nat) ({ cls := "WicketBoardModel", name := "lessen", desc := "(II)V" } : Jvm.MethodName)) ∈ lw_all := lw_g (lw_at lw_m4 99 rfl) rfl
theorem q862 : (Jvm.Cond.privateMethod ({ cls := "WicketBoardModel", name := "lessen", desc := "(II)V" } : Jvm.MethodName)) ∈ lw_tbl := lw_at lw_m4 100 rfl
theorem q863 : (Jvm.Cond.instanceMethod ({ cls := "WicketBoardModel", name := "lessen", desc := "(II)V" } : Jvm.MethodName)) ∈ lw_all := lw_g (lw_at lw_m4 101 rfl) rfl
theorem q864 : (Jvm.Cond.code ({ cls := "WicketBoardModel", name := "lessen", desc := "(II)V" } : Jvm.MethodName) prog_7_method_40_code (7 : Nat) (Option.none : Option Jvm.ClassFile.FieldType)) ∈ lw_all := lw_g (lw_at lw_m4 102 rfl) rfl
theorem q865 : (Jvm.Cond.methodLink "WicketBoardModel" (236 : Nat) ({ cls := "WicketBoardModel", name := "placeOf", desc := "(I)I" } : Jvm.MethodName)) ∈ lw_all := lw_g (lw_at lw_m4 103 rfl) rfl
theorem q866 : (Jvm.Cond.privateMethod ({ cls := "WicketBoardModel", name := "placeOf", desc := "(I)I" } : Jvm.MethodName)) ∈ lw_tbl := lw_at lw_m4 104 rfl
theorem q867 : (Jvm.Cond.instanceMethod ({ cls := "WicketBoardModel", name := "placeOf", desc := "(I)I" } : Jvm.MethodName)) ∈ lw_all := lw_g (lw_at lw_m4 105 rfl) rfl
theorem q868 : (Jvm.Cond.code ({ cls := "WicketBoardModel", name := "placeOf", desc := "(I)I" } : Jvm.MethodName) prog_7_method_37_code (2 : Nat) (Option.some Jvm.ClassFile.FieldType.int)) ∈ lw_all := lw_g (lw_at lw_m4 106 rfl) rfl
theorem q869 : (Jvm.Cond.methodLink "WicketBoardModel" (246 : Nat) ({ cls := "WicketBoardModel", name := "ways", desc := "(III)V" } : Jvm.MethodName)) ∈ lw_all := lw_g (lw_at lw_m4 107 rfl) rfl
theorem q870 : (Jvm.Cond.privateMethod ({ cls := "WicketBoardModel", name := "ways", desc := "(III)V" } : Jvm.MethodName)) ∈ lw_tbl := lw_at lw_m4 108 rfl
theorem q871 : (Jvm.Cond.instanceMethod ({ cls := "WicketBoardModel", name := "ways", desc := "(III)V" } : Jvm.MethodName)) ∈ lw_all := lw_g (lw_at lw_m4 109 rfl) rfl
theorem q872 : (Jvm.Cond.code ({ cls := "WicketBoardModel", name := "ways", desc := "(III)V" } : Jvm.MethodName) prog_7_method_38_code (5 : Nat) (Option.none : Option Jvm.ClassFile.FieldType)) ∈ lw_all := lw_g (lw_at lw_m4 110 rfl) rfl
theorem q873 : (Jvm.Cond.methodLink "WicketBoardModel" (239 : Nat) ({ cls := "WicketBoardModel", name := "moves", desc := "(I)V" } : Jvm.MethodName)) ∈ lw_all := lw_g (lw_at lw_m4 111 rfl) rfl
theorem q874 : (Jvm.Cond.privateMethod ({ cls := "WicketBoardModel", name := "moves", desc := "(I)V" } : Jvm.MethodName)) ∈ lw_tbl := lw_at lw_m4 112 rfl
theorem q875 : (Jvm.Cond.instanceMethod ({ cls := "WicketBoardModel", name := "moves", desc := "(I)V" } : Jvm.MethodName)) ∈ lw_all := lw_g (lw_at lw_m4 113 rfl) rfl
theorem q876 : (Jvm.Cond.code ({ cls := "WicketBoardModel", name := "moves", desc := "(I)V" } : Jvm.MethodName) prog_7_method_39_code (5 : Nat) (Option.none : Option Jvm.ClassFile.FieldType)) ∈ lw_all := lw_g (lw_at lw_m4 114 rfl) rfl
theorem q877 : (Jvm.Cond.methodLink "WicketBoardModel" (242 : Nat) ({ cls := "WicketBoardModel", name := "offer", desc := "(IIII)V" } : Jvm.MethodName)) ∈ lw_all := lw_g (lw_at lw_m4 115 rfl) rfl
theorem q878 : (Jvm.Cond.privateMethod ({ cls := "WicketBoardModel", name := "offer", desc := "(IIII)V" } : Jvm.MethodName)) ∈ lw_tbl := lw_at lw_m4 116 rfl
theorem q879 : (Jvm.Cond.instanceMethod ({ cls := "WicketBoardModel", name := "offer", desc := "(IIII)V" } : Jvm.MethodName)) ∈ lw_all := lw_g (lw_at lw_m4 117 rfl) rfl
theorem q880 : (Jvm.Cond.code ({ cls := "WicketBoardModel", name := "offer", desc := "(IIII)V" } : Jvm.MethodName) prog_7_method_36_code (5 : Nat) (Option.none : Option Jvm.ClassFile.FieldType)) ∈ lw_all := lw_g (lw_at lw_m4 118 rfl) rfl
theorem q881 : (Jvm.Cond.methodLink "WicketBoardModel" (256 : Nat) ({ cls := "WicketBoardModel", name := "filled", desc := "()I" } : Jvm.MethodName)) ∈ lw_all := lw_g (lw_at lw_m4 119 rfl) rfl
theorem q882 : (Jvm.Cond.privateMethod ({ cls := "WicketBoardModel", name := "filled", desc := "()I" } : Jvm.MethodName)) ∈ lw_tbl := lw_at lw_m4 120 rfl
theorem q883 : (Jvm.Cond.instanceMethod ({ cls := "WicketBoardModel", name := "filled", desc := "()I" } : Jvm.MethodName)) ∈ lw_all := lw_g (lw_at lw_m4 121 rfl) rfl
theorem q884 : (Jvm.Cond.code ({ cls := "WicketBoardModel", name := "filled", desc := "()I" } : Jvm.MethodName) prog_7_method_42_code (3 : Nat) (Option.some Jvm.ClassFile.FieldType.int)) ∈ lw_all := lw_g (lw_at lw_m4 122 rfl) rfl
theorem q886 : (Jvm.Cond.instanceMethod ({ cls := "WicketBoardModel", name := "off", desc := "(I)I" } : Jvm.MethodName)) ∈ lw_all := lw_g (lw_at lw_m4 124 rfl) rfl
theorem q887 : (Jvm.Cond.selects "WicketBoardModel" ({ cls := "WicketBoardModel", name := "off", desc := "(I)I" } : Jvm.MethodName) ({ cls := "WicketBoardModel", name := "off", desc := "(I)I" } : Jvm.MethodName)) ∈ lw_all := lw_g (lw_at lw_m4 125 rfl) rfl
theorem q888 : (Jvm.Cond.code ({ cls := "WicketBoardModel", name := "off", desc := "(I)I" } : Jvm.MethodName) prog_7_method_43_code (10 : Nat) (Option.some Jvm.ClassFile.FieldType.int)) ∈ lw_all := lw_g (lw_at lw_m4 126 rfl) rfl
theorem q889 : (Jvm.Cond.methodLink "WicketBoardModel" (259 : Nat) ({ cls := "WicketBoardModel", name := "spare", desc := "(I)I" } : Jvm.MethodName)) ∈ lw_all := lw_g (lw_at lw_m4 127 rfl) rfl
theorem q890 : (Jvm.Cond.privateMethod ({ cls := "WicketBoardModel", name := "spare", desc := "(I)I" } : Jvm.MethodName)) ∈ lw_tbl := lw_at lw_m4 128 rfl
theorem q891 : (Jvm.Cond.instanceMethod ({ cls := "WicketBoardModel", name := "spare", desc := "(I)I" } : Jvm.MethodName)) ∈ lw_all := lw_g (lw_at lw_m4 129 rfl) rfl
theorem q892 : (Jvm.Cond.code ({ cls := "WicketBoardModel", name := "spare", desc := "(I)I" } : Jvm.MethodName) prog_7_method_44_code (4 : Nat) (Option.some Jvm.ClassFile.FieldType.int)) ∈ lw_all := lw_g (lw_at lw_m4 130 rfl) rfl
theorem q894 : (Jvm.Cond.instanceMethod ({ cls := "WicketBoardModel", name := "seat", desc := "(I)I" } : Jvm.MethodName)) ∈ lw_all := lw_g (lw_at lw_m4 132 rfl) rfl
theorem q895 : (Jvm.Cond.selects "WicketBoardModel" ({ cls := "WicketBoardModel", name := "seat", desc := "(I)I" } : Jvm.MethodName) ({ cls := "WicketBoardModel", name := "seat", desc := "(I)I" } : Jvm.MethodName)) ∈ lw_all := lw_g (lw_at lw_m4 133 rfl) rfl
theorem q896 : (Jvm.Cond.code ({ cls := "WicketBoardModel", name := "seat", desc := "(I)I" } : Jvm.MethodName) prog_7_method_45_code (2 : Nat) (Option.some Jvm.ClassFile.FieldType.int)) ∈ lw_all := lw_g (lw_at lw_m4 134 rfl) rfl
theorem q898 : (Jvm.Cond.instanceMethod ({ cls := "WicketBoardModel", name := "mark", desc := "(IIIZ)Z" } : Jvm.MethodName)) ∈ lw_all := lw_g (lw_at lw_m4 136 rfl) rfl
theorem q899 : (Jvm.Cond.selects "WicketBoardModel" ({ cls := "WicketBoardModel", name := "mark", desc := "(IIIZ)Z" } : Jvm.MethodName) ({ cls := "WicketBoardModel", name := "mark", desc := "(IIIZ)Z" } : Jvm.MethodName)) ∈ lw_all := lw_g (lw_at lw_m4 137 rfl) rfl
theorem q900 : (Jvm.Cond.code ({ cls := "WicketBoardModel", name := "mark", desc := "(IIIZ)Z" } : Jvm.MethodName) prog_7_method_46_code (7 : Nat) (Option.some Jvm.ClassFile.FieldType.boolean)) ∈ lw_all := lw_g (lw_at lw_m4 138 rfl) rfl
theorem q902 : (Jvm.Cond.instanceMethod ({ cls := "WicketBoardModel", name := "next", desc := "()I" } : Jvm.MethodName)) ∈ lw_all := lw_g (lw_at lw_m4 140 rfl) rfl
theorem q903 : (Jvm.Cond.selects "WicketBoardModel" ({ cls := "WicketBoardModel", name := "next", desc := "()I" } : Jvm.MethodName) ({ cls := "WicketBoardModel", name := "next", desc := "()I" } : Jvm.MethodName)) ∈ lw_all := lw_g (lw_at lw_m4 141 rfl) rfl
theorem q904 : (Jvm.Cond.code ({ cls := "WicketBoardModel", name := "next", desc := "()I" } : Jvm.MethodName) prog_7_method_47_code (3 : Nat) (Option.some Jvm.ClassFile.FieldType.int)) ∈ lw_all := lw_g (lw_at lw_m4 142 rfl) rfl
theorem q906 : (Jvm.Cond.instanceMethod ({ cls := "WicketBoardModel", name := "about", desc := "(II)I" } : Jvm.MethodName)) ∈ lw_all := lw_g (lw_at lw_m4 144 rfl) rfl
theorem q907 : (Jvm.Cond.selects "WicketBoardModel" ({ cls := "WicketBoardModel", name := "about", desc := "(II)I" } : Jvm.MethodName) ({ cls := "WicketBoardModel", name := "about", desc := "(II)I" } : Jvm.MethodName)) ∈ lw_all := lw_g (lw_at lw_m4 145 rfl) rfl
theorem q908 : (Jvm.Cond.code ({ cls := "WicketBoardModel", name := "about", desc := "(II)I" } : Jvm.MethodName) prog_7_method_48_code (3 : Nat) (Option.some Jvm.ClassFile.FieldType.int)) ∈ lw_all := lw_g (lw_at lw_m4 146 rfl) rfl
theorem q909 : (Jvm.Cond.methodLink "WicketBoardModel" (262 : Nat) ({ cls := "WicketBoardModel", name := "refuse", desc := "()I" } : Jvm.MethodName)) ∈ lw_all := lw_g (lw_at lw_m4 147 rfl) rfl
theorem q910 : (Jvm.Cond.privateMethod ({ cls := "WicketBoardModel", name := "refuse", desc := "()I" } : Jvm.MethodName)) ∈ lw_tbl := lw_at lw_m4 148 rfl
theorem q911 : (Jvm.Cond.instanceMethod ({ cls := "WicketBoardModel", name := "refuse", desc := "()I" } : Jvm.MethodName)) ∈ lw_all := lw_g (lw_at lw_m4 149 rfl) rfl
theorem q912 : (Jvm.Cond.code ({ cls := "WicketBoardModel", name := "refuse", desc := "()I" } : Jvm.MethodName) prog_7_method_3_code (1 : Nat) (Option.some Jvm.ClassFile.FieldType.int)) ∈ lw_all := lw_g (lw_at lw_m4 150 rfl) rfl
theorem q914 : (Jvm.Cond.instanceMethod ({ cls := "WicketBoardModel", name := "stood", desc := "(II)I" } : Jvm.MethodName)) ∈ lw_all := lw_g (lw_at lw_m4 152 rfl) rfl
theorem q915 : (Jvm.Cond.selects "WicketBoardModel" ({ cls := "WicketBoardModel", name := "stood", desc := "(II)I" } : Jvm.MethodName) ({ cls := "WicketBoardModel", name := "stood", desc := "(II)I" } : Jvm.MethodName)) ∈ lw_all := lw_g (lw_at lw_m4 153 rfl) rfl
theorem q916 : (Jvm.Cond.code ({ cls := "WicketBoardModel", name := "stood", desc := "(II)I" } : Jvm.MethodName) prog_7_method_49_code (3 : Nat) (Option.some Jvm.ClassFile.FieldType.int)) ∈ lw_all := lw_g (lw_at lw_m4 154 rfl) rfl
theorem q918 : (Jvm.Cond.instanceMethod ({ cls := "WicketBoardModel", name := "together", desc := "()I" } : Jvm.MethodName)) ∈ lw_all := lw_g (lw_at lw_m4 156 rfl) rfl
theorem q919 : (Jvm.Cond.selects "WicketBoardModel" ({ cls := "WicketBoardModel", name := "together", desc := "()I" } : Jvm.MethodName) ({ cls := "WicketBoardModel", name := "together", desc := "()I" } : Jvm.MethodName)) ∈ lw_all := lw_g (lw_at lw_m4 157 rfl) rfl
theorem q920 : (Jvm.Cond.code ({ cls := "WicketBoardModel", name := "together", desc := "()I" } : Jvm.MethodName) prog_7_method_50_code (3 : Nat) (Option.some Jvm.ClassFile.FieldType.int)) ∈ lw_all := lw_g (lw_at lw_m4 158 rfl) rfl
theorem q922 : (Jvm.Cond.instanceMethod ({ cls := "WicketBoardModel", name := "count", desc := "(I)I" } : Jvm.MethodName)) ∈ lw_all := lw_g (lw_at lw_m4 160 rfl) rfl
theorem q923 : (Jvm.Cond.selects "WicketBoardModel" ({ cls := "WicketBoardModel", name := "count", desc := "(I)I" } : Jvm.MethodName) ({ cls := "WicketBoardModel", name := "count", desc := "(I)I" } : Jvm.MethodName)) ∈ lw_all := lw_g (lw_at lw_m4 161 rfl) rfl
theorem q924 : (Jvm.Cond.code ({ cls := "WicketBoardModel", name := "count", desc := "(I)I" } : Jvm.MethodName) prog_7_method_51_code (2 : Nat) (Option.some Jvm.ClassFile.FieldType.int)) ∈ lw_all := lw_g (lw_at lw_m4 162 rfl) rfl
theorem q930 : (Jvm.Cond.castable "WicketBoardModel" "java/lang/Object") ∈ lw_tbl := lw_at lw_m4 168 rfl
theorem in_X4 : ∀ w ∈ wsX40, w ∈ lw_all := lw_in wsX40 [631, 633, 635, 637, 639, 641, 643, 645, 647, 649, 651, 653, 655, 657, 659, 661, 663, 665, 667, 669, 671, 673, 675, 677, 679, 681, 683, 685, 687, 689, 691, 693, 695, 697, 699, 701, 703, 705, 707, 709, 711, 713, 715, 717, 719, 721] (by decide +kernel) (by decide +kernel)
/-! WicketBoard$Umpire -/
def RX5 : String := "WicketBoard$Umpire"
def TX5 : u_T := fun k => match k with
  | 0 => ("WicketBoard$Umpire", "x", "I", true)
  | 1 => ("WicketBoard$Umpire", "y", "I", true)
  | 2 => ("WicketBoard$Umpire", "barred", "I", true)
  | 3 => ("WicketBoard$Umpire", "away", "[Z", true)
  | 4 => ("WicketBoard$Umpire", "stood", "[I", true)
  | 5 => ("WicketBoard$Umpire", "grade", "I", false)
  | 6 => ("WicketBoard$Umpire", "seat", "I", false)
  | 7 => ("WicketBoard$Umpire", "weeks", "I", false)
  | 8 => ("WicketBoard$Umpire", "marks", "I", false)
  | 9 => ("WicketBoard$Umpire", "weight", "I", false)
  | _ => ("WicketBoard$Umpire", "sum", "I", false)
def tyX5 : Nat → FieldType := fun k => match k with
  | 0 => .int
  | 1 => .int
  | 2 => .int
  | 3 => .array .boolean
  | 4 => .array .int
  | 5 => .int
  | 6 => .int
  | 7 => .int
  | 8 => .int
  | 9 => .int
  | _ => .int
abbrev wsX50 : List Cond := u_ws RX5 TX5 11
theorem nmX5 : ∀ a, a < 11 → ∀ b, b < 11 → a ≠ b → (TX5 a).2.1 ≠ (TX5 b).2.1 := by decide +kernel
theorem tyX5_ok : ∀ k, k < 11 → parseFieldDescriptor (TX5 k).2.2.1 = some (tyX5 k) := by decide +kernel
abbrev cX5_init : ByteArray := prog_5_method_1_code
def yX5_init : MethodName := ⟨RX5, "<init>", "(IIII)V"⟩
abbrev cX5_forget : ByteArray := prog_5_method_2_code
def yX5_forget : MethodName := ⟨RX5, "forget", "()V"⟩
theorem q54 : (Jvm.Cond.initialized "WicketBoard$Umpire") ∈ lw_all := lw_g (lw_at lw_m1 12 rfl) rfl
theorem q363 : (Jvm.Cond.instantiable "WicketBoard$Umpire" (11 : Nat)) ∈ lw_all := lw_g (lw_at lw_m2 81 rfl) rfl
theorem q365 : (Jvm.Cond.instanceMethod ({ cls := "WicketBoard$Umpire", name := "<init>", desc := "(IIII)V" } : Jvm.MethodName)) ∈ lw_all := lw_g (lw_at lw_m2 83 rfl) rfl
theorem q366 : (Jvm.Cond.code ({ cls := "WicketBoard$Umpire", name := "<init>", desc := "(IIII)V" } : Jvm.MethodName) prog_5_method_1_code (5 : Nat) (Option.none : Option Jvm.ClassFile.FieldType)) ∈ lw_all := lw_g (lw_at lw_m2 84 rfl) rfl
theorem q367 : (Jvm.Cond.methodLink "WicketBoard$Umpire" (3 : Nat) ({ cls := "java/lang/Object", name := "<init>", desc := "()V" } : Jvm.MethodName)) ∈ lw_all := lw_g (lw_at lw_m2 85 rfl) rfl
theorem q368 : (Jvm.Cond.fieldLink "WicketBoard$Umpire" (23 : Nat) "WicketBoard$Umpire" "x" "I") ∈ lw_all := lw_g (lw_at lw_m2 86 rfl) rfl
theorem q370 : (Jvm.Cond.fieldLink "WicketBoard$Umpire" (26 : Nat) "WicketBoard$Umpire" "y" "I") ∈ lw_all := lw_g (lw_at lw_m2 88 rfl) rfl
theorem q372 : (Jvm.Cond.fieldLink "WicketBoard$Umpire" (32 : Nat) "WicketBoard$Umpire" "barred" "I") ∈ lw_all := lw_g (lw_at lw_m2 90 rfl) rfl
theorem q374 : (Jvm.Cond.fieldLink "WicketBoard$Umpire" (9 : Nat) "WicketBoard$Umpire" "away" "[Z") ∈ lw_all := lw_g (lw_at lw_m2 92 rfl) rfl
theorem q376 : (Jvm.Cond.fieldLink "WicketBoard$Umpire" (15 : Nat) "WicketBoard$Umpire" "stood" "[I") ∈ lw_all := lw_g (lw_at lw_m2 94 rfl) rfl
theorem q378 : (Jvm.Cond.fieldLink "WicketBoard$Umpire" (29 : Nat) "WicketBoard$Umpire" "grade" "I") ∈ lw_all := lw_g (lw_at lw_m2 96 rfl) rfl
theorem q380 : (Jvm.Cond.fieldLink "WicketBoard$Umpire" (19 : Nat) "WicketBoard$Umpire" "seat" "I") ∈ lw_all := lw_g (lw_at lw_m2 98 rfl) rfl
theorem q383 : (Jvm.Cond.fieldLink "WicketBoard$Umpire" (35 : Nat) "WicketBoard$Umpire" "marks" "I") ∈ lw_all := lw_g (lw_at lw_m2 101 rfl) rfl
theorem q385 : (Jvm.Cond.fieldLink "WicketBoard$Umpire" (38 : Nat) "WicketBoard$Umpire" "weight" "I") ∈ lw_all := lw_g (lw_at lw_m2 103 rfl) rfl
theorem q387 : (Jvm.Cond.fieldLink "WicketBoard$Umpire" (41 : Nat) "WicketBoard$Umpire" "sum" "I") ∈ lw_all := lw_g (lw_at lw_m2 105 rfl) rfl
theorem q389 : (Jvm.Cond.laysFinal "WicketBoard$Umpire" "WicketBoard$Umpire" "x" "I") ∈ lw_all := lw_g (lw_at lw_m2 107 rfl) rfl
theorem q390 : (Jvm.Cond.soleField "WicketBoard$Umpire" "x") ∈ lw_all := lw_g (lw_at lw_m2 108 rfl) rfl
theorem q391 : (Jvm.Cond.laysFinal "WicketBoard$Umpire" "WicketBoard$Umpire" "y" "I") ∈ lw_all := lw_g (lw_at lw_m2 109 rfl) rfl
theorem q392 : (Jvm.Cond.soleField "WicketBoard$Umpire" "y") ∈ lw_all := lw_g (lw_at lw_m2 110 rfl) rfl
theorem q393 : (Jvm.Cond.laysFinal "WicketBoard$Umpire" "WicketBoard$Umpire" "barred" "I") ∈ lw_all := lw_g (lw_at lw_m2 111 rfl) rfl
theorem q394 : (Jvm.Cond.soleField "WicketBoard$Umpire" "barred") ∈ lw_all := lw_g (lw_at lw_m2 112 rfl) rfl
theorem q395 : (Jvm.Cond.laysFinal "WicketBoard$Umpire" "WicketBoard$Umpire" "away" "[Z") ∈ lw_all := lw_g (lw_at lw_m2 113 rfl) rfl
theorem q396 : (Jvm.Cond.soleField "WicketBoard$Umpire" "away") ∈ lw_all := lw_g (lw_at lw_m2 114 rfl) rfl
theorem q397 : (Jvm.Cond.laysFinal "WicketBoard$Umpire" "WicketBoard$Umpire" "stood" "[I") ∈ lw_all := lw_g (lw_at lw_m2 115 rfl) rfl
theorem q398 : (Jvm.Cond.soleField "WicketBoard$Umpire" "stood") ∈ lw_all := lw_g (lw_at lw_m2 116 rfl) rfl
theorem q399 : (Jvm.Cond.lays "WicketBoard$Umpire" "WicketBoard$Umpire" "grade" "I") ∈ lw_all := lw_g (lw_at lw_m2 117 rfl) rfl
theorem q400 : (Jvm.Cond.soleField "WicketBoard$Umpire" "grade") ∈ lw_all := lw_g (lw_at lw_m2 118 rfl) rfl
theorem q401 : (Jvm.Cond.lays "WicketBoard$Umpire" "WicketBoard$Umpire" "seat" "I") ∈ lw_all := lw_g (lw_at lw_m2 119 rfl) rfl
theorem q402 : (Jvm.Cond.soleField "WicketBoard$Umpire" "seat") ∈ lw_all := lw_g (lw_at lw_m2 120 rfl) rfl
theorem q403 : (Jvm.Cond.lays "WicketBoard$Umpire" "WicketBoard$Umpire" "weeks" "I") ∈ lw_all := lw_g (lw_at lw_m2 121 rfl) rfl
theorem q404 : (Jvm.Cond.soleField "WicketBoard$Umpire" "weeks") ∈ lw_all := lw_g (lw_at lw_m2 122 rfl) rfl
theorem q405 : (Jvm.Cond.lays "WicketBoard$Umpire" "WicketBoard$Umpire" "marks" "I") ∈ lw_all := lw_g (lw_at lw_m2 123 rfl) rfl
theorem q406 : (Jvm.Cond.soleField "WicketBoard$Umpire" "marks") ∈ lw_all := lw_g (lw_at lw_m2 124 rfl) rfl
theorem q407 : (Jvm.Cond.lays "WicketBoard$Umpire" "WicketBoard$Umpire" "weight" "I") ∈ lw_all := lw_g (lw_at lw_m2 125 rfl) rfl
theorem q408 : (Jvm.Cond.soleField "WicketBoard$Umpire" "weight") ∈ lw_all := lw_g (lw_at lw_m2 126 rfl) rfl
theorem q409 : (Jvm.Cond.lays "WicketBoard$Umpire" "WicketBoard$Umpire" "sum" "I") ∈ lw_all := lw_g (lw_at lw_m2 127 rfl) rfl
theorem q410 : (Jvm.Cond.soleField "WicketBoard$Umpire" "sum") ∈ lw_all := lw_g (lw_at lw_m2 128 rfl) rfl
theorem q411 : (Jvm.Cond.superclass "WicketBoard$Umpire" "java/lang/Object") ∈ lw_all := lw_g (lw_at lw_m2 129 rfl) rfl
theorem q527 : (Jvm.Cond.instanceMethod ({ cls := "WicketBoard$Umpire", name := "forget", desc := "()V" } : Jvm.MethodName)) ∈ lw_all := lw_g (lw_at lw_m3 5 rfl) rfl
theorem q528 : (Jvm.Cond.selects "WicketBoard$Umpire" ({ cls := "WicketBoard$Umpire", name := "forget", desc := "()V" } : Jvm.MethodName) ({ cls := "WicketBoard$Umpire", name := "forget", desc := "()V" } : Jvm.MethodName)) ∈ lw_all := lw_g (lw_at lw_m3 6 rfl) rfl
theorem q529 : (Jvm.Cond.code ({ cls := "WicketBoard$Umpire", name := "forget", desc := "()V" } : Jvm.MethodName) prog_5_method_2_code (1 : Nat) (Option.none : Option Jvm.ClassFile.FieldType)) ∈ lw_all := lw_g (lw_at lw_m3 7 rfl) rfl
theorem q931 : (Jvm.Cond.castable "WicketBoard$Umpire" "java/lang/Object") ∈ lw_tbl := lw_at lw_m4 169 rfl
theorem in_X5 : ∀ w ∈ wsX50, w ∈ lw_all := lw_in wsX50 [389, 391, 393, 395, 397, 399, 401, 403, 405, 407, 409] (by decide +kernel) (by decide +kernel)
/-! WicketBoard$Game -/
def RX6 : String := "WicketBoard$Game"
def TX6 : u_T := fun k => match k with
  | 0 => ("WicketBoard$Game", "x", "I", true)
  | 1 => ("WicketBoard$Game", "y", "I", true)
  | 2 => ("WicketBoard$Game", "clubs", "I", true)
  | _ => ("WicketBoard$Game", "level", "I", true)
def tyX6 : Nat → FieldType := fun k => match k with
  | 0 => .int
  | 1 => .int
  | 2 => .int
  | _ => .int
abbrev wsX60 : List Cond := u_ws RX6 TX6 4
theorem nmX6 : ∀ a, a < 4 → ∀ b, b < 4 → a ≠ b → (TX6 a).2.1 ≠ (TX6 b).2.1 := by decide +kernel
theorem tyX6_ok : ∀ k, k < 4 → parseFieldDescriptor (TX6 k).2.2.1 = some (tyX6 k) := by decide +kernel
abbrev cX6_init : ByteArray := prog_3_method_1_code
def yX6_init : MethodName := ⟨RX6, "<init>", "(IIII)V"⟩
theorem q55 : (Jvm.Cond.initialized "WicketBoard$Game") ∈ lw_all := lw_g (lw_at lw_m1 13 rfl) rfl
theorem q424 : (Jvm.Cond.instantiable "WicketBoard$Game" (4 : Nat)) ∈ lw_all := lw_g (lw_at lw_m2 142 rfl) rfl
theorem q426 : (Jvm.Cond.instanceMethod ({ cls := "WicketBoard$Game", name := "<init>", desc := "(IIII)V" } : Jvm.MethodName)) ∈ lw_all := lw_g (lw_at lw_m2 144 rfl) rfl
theorem q427 : (Jvm.Cond.code ({ cls := "WicketBoard$Game", name := "<init>", desc := "(IIII)V" } : Jvm.MethodName) prog_3_method_1_code (5 : Nat) (Option.none : Option Jvm.ClassFile.FieldType)) ∈ lw_all := lw_g (lw_at lw_m2 145 rfl) rfl
theorem q428 : (Jvm.Cond.methodLink "WicketBoard$Game" (1 : Nat) ({ cls := "java/lang/Object", name := "<init>", desc := "()V" } : Jvm.MethodName)) ∈ lw_all := lw_g (lw_at lw_m2 146 rfl) rfl
theorem q429 : (Jvm.Cond.fieldLink "WicketBoard$Game" (7 : Nat) "WicketBoard$Game" "x" "I") ∈ lw_all := lw_g (lw_at lw_m2 147 rfl) rfl
theorem q431 : (Jvm.Cond.fieldLink "WicketBoard$Game" (13 : Nat) "WicketBoard$Game" "y" "I") ∈ lw_all := lw_g (lw_at lw_m2 149 rfl) rfl
theorem q433 : (Jvm.Cond.fieldLink "WicketBoard$Game" (16 : Nat) "WicketBoard$Game" "clubs" "I") ∈ lw_all := lw_g (lw_at lw_m2 151 rfl) rfl
theorem q435 : (Jvm.Cond.fieldLink "WicketBoard$Game" (19 : Nat) "WicketBoard$Game" "level" "I") ∈ lw_all := lw_g (lw_at lw_m2 153 rfl) rfl
theorem q437 : (Jvm.Cond.laysFinal "WicketBoard$Game" "WicketBoard$Game" "x" "I") ∈ lw_all := lw_g (lw_at lw_m2 155 rfl) rfl
theorem q438 : (Jvm.Cond.soleField "WicketBoard$Game" "x") ∈ lw_all := lw_g (lw_at lw_m2 156 rfl) rfl
theorem q439 : (Jvm.Cond.laysFinal "WicketBoard$Game" "WicketBoard$Game" "y" "I") ∈ lw_all := lw_g (lw_at lw_m2 157 rfl) rfl
theorem q440 : (Jvm.Cond.soleField "WicketBoard$Game" "y") ∈ lw_all := lw_g (lw_at lw_m2 158 rfl) rfl
theorem q441 : (Jvm.Cond.laysFinal "WicketBoard$Game" "WicketBoard$Game" "clubs" "I") ∈ lw_all := lw_g (lw_at lw_m2 159 rfl) rfl
theorem q442 : (Jvm.Cond.soleField "WicketBoard$Game" "clubs") ∈ lw_all := lw_g (lw_at lw_m2 160 rfl) rfl
theorem q443 : (Jvm.Cond.laysFinal "WicketBoard$Game" "WicketBoard$Game" "level" "I") ∈ lw_all := lw_g (lw_at lw_m2 161 rfl) rfl
theorem q444 : (Jvm.Cond.soleField "WicketBoard$Game" "level") ∈ lw_all := lw_g (lw_at lw_m2 162 rfl) rfl
theorem q445 : (Jvm.Cond.superclass "WicketBoard$Game" "java/lang/Object") ∈ lw_all := lw_g (lw_at lw_m2 163 rfl) rfl
theorem q932 : (Jvm.Cond.castable "WicketBoard$Game" "java/lang/Object") ∈ lw_tbl := lw_at lw_m4 170 rfl
theorem in_X6 : ∀ w ∈ wsX60, w ∈ lw_all := lw_in wsX60 [437, 439, 441, 443] (by decide +kernel) (by decide +kernel)
/-! WicketBoardLaw -/
def RX0 : String := "WicketBoardLaw"
abbrev cX0_about : ByteArray := method_3_code
def yX0_about : MethodName := ⟨RX0, "about", "(LWicketBoard;II[J)I"⟩
theorem q42 : (Jvm.Cond.initialized "WicketBoardLaw") ∈ lw_all := lw_g (lw_at lw_m1 0 rfl) rfl
theorem q60 : (Jvm.Cond.methodLink "WicketBoardLaw" (19 : Nat) ({ cls := "WicketBoard", name := "feed", desc := "(IIIII)I" } : Jvm.MethodName)) ∈ lw_all := lw_g (lw_at lw_m1 18 rfl) rfl
theorem q69 : (Jvm.Cond.methodLink "WicketBoardLaw" (24 : Nat) ({ cls := "WicketBoard", name := "end", desc := "(I)Z" } : Jvm.MethodName)) ∈ lw_all := lw_g (lw_at lw_m1 27 rfl) rfl
theorem q73 : (Jvm.Cond.methodLink "WicketBoardLaw" (29 : Nat) ({ cls := "WicketBoard", name := "rules", desc := "()I" } : Jvm.MethodName)) ∈ lw_all := lw_g (lw_at lw_m1 31 rfl) rfl
theorem q155 : (Jvm.Cond.methodLink "WicketBoardLaw" (34 : Nat) ({ cls := "WicketBoard", name := "fault", desc := "()I" } : Jvm.MethodName)) ∈ lw_all := lw_g (lw_at lw_m1 113 rfl) rfl
theorem q159 : (Jvm.Cond.methodLink "WicketBoardLaw" (38 : Nat) ({ cls := "WicketBoard", name := "rule", desc := "(I)I" } : Jvm.MethodName)) ∈ lw_all := lw_g (lw_at lw_m1 117 rfl) rfl
theorem q163 : (Jvm.Cond.classLink "WicketBoardLaw" (8 : Nat) "WicketBoard") ∈ lw_all := lw_g (lw_at lw_m1 121 rfl) rfl
theorem q164 : (Jvm.Cond.methodLink "WicketBoardLaw" (15 : Nat) ({ cls := "WicketBoard", name := "<init>", desc := "()V" } : Jvm.MethodName)) ∈ lw_all := lw_g (lw_at lw_m1 122 rfl) rfl
theorem q356 : (Jvm.Cond.methodLink "WicketBoardLaw" (43 : Nat) ({ cls := "WicketBoard", name := "umpire", desc := "(IIII)I" } : Jvm.MethodName)) ∈ lw_all := lw_g (lw_at lw_m2 74 rfl) rfl
theorem q412 : (Jvm.Cond.methodLink "WicketBoardLaw" (48 : Nat) ({ cls := "WicketBoard", name := "away", desc := "(IIZ)Z" } : Jvm.MethodName)) ∈ lw_all := lw_g (lw_at lw_m2 130 rfl) rfl
theorem q420 : (Jvm.Cond.methodLink "WicketBoardLaw" (53 : Nat) ({ cls := "WicketBoard", name := "game", desc := "(IIIII)I" } : Jvm.MethodName)) ∈ lw_all := lw_g (lw_at lw_m2 138 rfl) rfl
theorem q446 : (Jvm.Cond.methodLink "WicketBoardLaw" (57 : Nat) ({ cls := "WicketBoard", name := "may", desc := "(II)Z" } : Jvm.MethodName)) ∈ lw_all := lw_g (lw_at lw_m2 164 rfl) rfl
theorem q471 : (Jvm.Cond.methodLink "WicketBoardLaw" (62 : Nat) ({ cls := "WicketBoard", name := "cost", desc := "(II)I" } : Jvm.MethodName)) ∈ lw_all := lw_g (lw_at lw_m2 189 rfl) rfl
theorem q479 : (Jvm.Cond.methodLink "WicketBoardLaw" (66 : Nat) ({ cls := "WicketBoard", name := "send", desc := "()I" } : Jvm.MethodName)) ∈ lw_all := lw_g (lw_at lw_m2 197 rfl) rfl
theorem q502 : (Jvm.Cond.methodLink "WicketBoardLaw" (70 : Nat) ({ cls := "WicketBoard", name := "off", desc := "(I)I" } : Jvm.MethodName)) ∈ lw_all := lw_g (lw_at lw_m2 220 rfl) rfl
theorem q510 : (Jvm.Cond.methodLink "WicketBoardLaw" (74 : Nat) ({ cls := "WicketBoard", name := "seat", desc := "(I)I" } : Jvm.MethodName)) ∈ lw_all := lw_g (lw_at lw_m2 228 rfl) rfl
theorem q514 : (Jvm.Cond.methodLink "WicketBoardLaw" (78 : Nat) ({ cls := "WicketBoard", name := "mark", desc := "(IIIZ)Z" } : Jvm.MethodName)) ∈ lw_all := lw_g (lw_at lw_m2 232 rfl) rfl
theorem q518 : (Jvm.Cond.methodLink "WicketBoardLaw" (83 : Nat) ({ cls := "WicketBoard", name := "next", desc := "()I" } : Jvm.MethodName)) ∈ lw_all := lw_g (lw_at lw_m2 236 rfl) rfl
theorem q530 : (Jvm.Cond.methodLink "WicketBoardLaw" (96 : Nat) ({ cls := "WicketBoard", name := "stood", desc := "(II)I" } : Jvm.MethodName)) ∈ lw_all := lw_g (lw_at lw_m3 8 rfl) rfl
theorem q534 : (Jvm.Cond.methodLink "WicketBoardLaw" (100 : Nat) ({ cls := "WicketBoard", name := "together", desc := "()I" } : Jvm.MethodName)) ∈ lw_all := lw_g (lw_at lw_m3 12 rfl) rfl
theorem q538 : (Jvm.Cond.methodLink "WicketBoardLaw" (104 : Nat) ({ cls := "WicketBoard", name := "count", desc := "(I)I" } : Jvm.MethodName)) ∈ lw_all := lw_g (lw_at lw_m3 16 rfl) rfl
theorem q548 : (Jvm.Cond.methodLink "WicketBoardLaw" (87 : Nat) ({ cls := "WicketBoardLaw", name := "about", desc := "(LWicketBoard;II[J)I" } : Jvm.MethodName)) ∈ lw_all := lw_g (lw_at lw_m3 26 rfl) rfl
theorem q549 : (Jvm.Cond.static ({ cls := "WicketBoardLaw", name := "about", desc := "(LWicketBoard;II[J)I" } : Jvm.MethodName)) ∈ lw_all := lw_g (lw_at lw_m3 27 rfl) rfl
theorem q550 : (Jvm.Cond.codeWith ({ cls := "WicketBoardLaw", name := "about", desc := "(LWicketBoard;II[J)I" } : Jvm.MethodName) method_3_code (5 : Nat) (Option.some Jvm.ClassFile.FieldType.int) [((0 : Nat), (10 : Nat), (13 : Nat), (13 : Nat))]) ∈ lw_all := lw_g (lw_at lw_m3 28 rfl) rfl
theorem q551 : (Jvm.Cond.classLink "WicketBoardLaw" (13 : Nat) "java/util/NoSuchElementException") ∈ lw_all := lw_g (lw_at lw_m3 29 rfl) rfl
theorem q552 : (Jvm.Cond.methodLink "WicketBoardLaw" (7 : Nat) ({ cls := "WicketBoard", name := "about", desc := "(II)I" } : Jvm.MethodName)) ∈ lw_all := lw_g (lw_at lw_m3 30 rfl) rfl
theorem q579 : (Jvm.Cond.classLink "WicketBoardLaw" (16 : Nat) "WicketBoardModel") ∈ lw_all := lw_g (lw_at lw_m3 57 rfl) rfl
theorem q581 : (Jvm.Cond.methodLink "WicketBoardLaw" (18 : Nat) ({ cls := "WicketBoardModel", name := "<init>", desc := "()V" } : Jvm.MethodName)) ∈ lw_all := lw_g (lw_at lw_m3 59 rfl) rfl
theorem q724 : (Jvm.Cond.methodLink "WicketBoardLaw" (93 : Nat) ({ cls := "WicketBoardModel", name := "thrown", desc := "()I" } : Jvm.MethodName)) ∈ lw_all := lw_g (lw_at lw_m3 202 rfl) rfl
theorem q728 : (Jvm.Cond.methodLink "WicketBoardLaw" (23 : Nat) ({ cls := "WicketBoardModel", name := "feed", desc := "(IIIII)I" } : Jvm.MethodName)) ∈ lw_all := lw_g (lw_at lw_m3 206 rfl) rfl
theorem q736 : (Jvm.Cond.methodLink "WicketBoardLaw" (28 : Nat) ({ cls := "WicketBoardModel", name := "end", desc := "(I)Z" } : Jvm.MethodName)) ∈ lw_all := lw_g (lw_at lw_m3 214 rfl) rfl
theorem q740 : (Jvm.Cond.methodLink "WicketBoardLaw" (33 : Nat) ({ cls := "WicketBoardModel", name := "rules", desc := "()I" } : Jvm.MethodName)) ∈ lw_all := lw_g (lw_at lw_m3 218 rfl) rfl
theorem q781 : (Jvm.Cond.methodLink "WicketBoardLaw" (37 : Nat) ({ cls := "WicketBoardModel", name := "fault", desc := "()I" } : Jvm.MethodName)) ∈ lw_all := lw_g (lw_at lw_m4 19 rfl) rfl
theorem q785 : (Jvm.Cond.methodLink "WicketBoardLaw" (42 : Nat) ({ cls := "WicketBoardModel", name := "rule", desc := "(I)I" } : Jvm.MethodName)) ∈ lw_all := lw_g (lw_at lw_m4 23 rfl) rfl
theorem q789 : (Jvm.Cond.methodLink "WicketBoardLaw" (47 : Nat) ({ cls := "WicketBoardModel", name := "umpire", desc := "(IIII)I" } : Jvm.MethodName)) ∈ lw_all := lw_g (lw_at lw_m4 27 rfl) rfl
theorem q796 : (Jvm.Cond.methodLink "WicketBoardLaw" (52 : Nat) ({ cls := "WicketBoardModel", name := "away", desc := "(IIZ)Z" } : Jvm.MethodName)) ∈ lw_all := lw_g (lw_at lw_m4 34 rfl) rfl
theorem q808 : (Jvm.Cond.methodLink "WicketBoardLaw" (56 : Nat) ({ cls := "WicketBoardModel", name := "game", desc := "(IIIII)I" } : Jvm.MethodName)) ∈ lw_all := lw_g (lw_at lw_m4 46 rfl) rfl
theorem q812 : (Jvm.Cond.methodLink "WicketBoardLaw" (61 : Nat) ({ cls := "WicketBoardModel", name := "may", desc := "(II)Z" } : Jvm.MethodName)) ∈ lw_all := lw_g (lw_at lw_m4 50 rfl) rfl
theorem q831 : (Jvm.Cond.methodLink "WicketBoardLaw" (65 : Nat) ({ cls := "WicketBoardModel", name := "cost", desc := "(II)I" } : Jvm.MethodName)) ∈ lw_all := lw_g (lw_at lw_m4 69 rfl) rfl
theorem q839 : (Jvm.Cond.methodLink "WicketBoardLaw" (69 : Nat) ({ cls := "WicketBoardModel", name := "send", desc := "()I" } : Jvm.MethodName)) ∈ lw_all := lw_g (lw_at lw_m4 77 rfl) rfl
theorem q885 : (Jvm.Cond.methodLink "WicketBoardLaw" (73 : Nat) ({ cls := "WicketBoardModel", name := "off", desc := "(I)I" } : Jvm.MethodName)) ∈ lw_all := lw_g (lw_at lw_m4 123 rfl) rfl
theorem q893 : (Jvm.Cond.methodLink "WicketBoardLaw" (77 : Nat) ({ cls := "WicketBoardModel", name := "seat", desc := "(I)I" } : Jvm.MethodName)) ∈ lw_all := lw_g (lw_at lw_m4 131 rfl) rfl
theorem q897 : (Jvm.Cond.methodLink "WicketBoardLaw" (82 : Nat) ({ cls := "WicketBoardModel", name := "mark", desc := "(IIIZ)Z" } : Jvm.MethodName)) ∈ lw_all := lw_g (lw_at lw_m4 135 rfl) rfl
theorem q901 : (Jvm.Cond.methodLink "WicketBoardLaw" (86 : Nat) ({ cls := "WicketBoardModel", name := "next", desc := "()I" } : Jvm.MethodName)) ∈ lw_all := lw_g (lw_at lw_m4 139 rfl) rfl
theorem q905 : (Jvm.Cond.methodLink "WicketBoardLaw" (92 : Nat) ({ cls := "WicketBoardModel", name := "about", desc := "(II)I" } : Jvm.MethodName)) ∈ lw_all := lw_g (lw_at lw_m4 143 rfl) rfl
theorem q913 : (Jvm.Cond.methodLink "WicketBoardLaw" (99 : Nat) ({ cls := "WicketBoardModel", name := "stood", desc := "(II)I" } : Jvm.MethodName)) ∈ lw_all := lw_g (lw_at lw_m4 151 rfl) rfl
theorem q917 : (Jvm.Cond.methodLink "WicketBoardLaw" (103 : Nat) ({ cls := "WicketBoardModel", name := "together", desc := "()I" } : Jvm.MethodName)) ∈ lw_all := lw_g (lw_at lw_m4 155 rfl) rfl
theorem q921 : (Jvm.Cond.methodLink "WicketBoardLaw" (107 : Nat) ({ cls := "WicketBoardModel", name := "count", desc := "(I)I" } : Jvm.MethodName)) ∈ lw_all := lw_g (lw_at lw_m4 159 rfl) rfl
/-! java/lang/Throwable -/
def RJ0 : String := "java/lang/Throwable"
def TJ0 : u_T := fun k => match k with
  | 0 => ("java/lang/Throwable", "cause", "Ljava/lang/Throwable;", false)
  | 1 => ("java/lang/Throwable", "stackTrace", "[Ljava/lang/StackTraceElement;", false)
  | 2 => ("java/lang/Throwable", "suppressedExceptions", "Ljava/util/List;", false)
  | 3 => ("java/lang/Throwable", "detailMessage", "Ljava/lang/String;", false)
  | _ => ("java/lang/Throwable", "backtrace", "Ljava/lang/Object;", false)
def tyJ0 : Nat → FieldType := fun k => match k with
  | 0 => .object "java/lang/Throwable"
  | 1 => .array (.object "java/lang/StackTraceElement")
  | 2 => .object "java/util/List"
  | 3 => .object "java/lang/String"
  | _ => .object "java/lang/Object"
abbrev wsJ00 : List Cond := u_ws RJ0 TJ0 5
theorem nmJ0 : ∀ a, a < 5 → ∀ b, b < 5 → a ≠ b → (TJ0 a).2.1 ≠ (TJ0 b).2.1 := by decide +kernel
theorem tyJ0_ok : ∀ k, k < 5 → parseFieldDescriptor (TJ0 k).2.2.1 = some (tyJ0 k) := by decide +kernel
abbrev cJ0_init : ByteArray := prog_16_method_1_code
def yJ0_init : MethodName := ⟨RJ0, "<init>", "()V"⟩
abbrev cJ0_init_2 : ByteArray := prog_16_method_5_code
def yJ0_init_2 : MethodName := ⟨RJ0, "<init>", "(Ljava/lang/String;Ljava/lang/Throwable;ZZ)V"⟩
theorem q45 : (Jvm.Cond.initialized "java/lang/Throwable") ∈ lw_all := lw_g (lw_at lw_m1 3 rfl) rfl
theorem q207 : (Jvm.Cond.declares ({ cls := "java/lang/Throwable", name := "<init>", desc := "()V" } : Jvm.MethodName)) ∈ lw_tbl := lw_at lw_m1 165 rfl
theorem q208 : (Jvm.Cond.declares ({ cls := "java/lang/Throwable", name := "<init>", desc := "(Ljava/lang/String;)V" } : Jvm.MethodName)) ∈ lw_tbl := lw_at lw_m1 166 rfl
theorem q212 : (Jvm.Cond.lays "java/lang/Throwable" "java/lang/Throwable" "cause" "Ljava/lang/Throwable;") ∈ lw_all := lw_g (lw_at lw_m1 170 rfl) rfl
theorem q214 : (Jvm.Cond.lays "java/lang/Throwable" "java/lang/Throwable" "stackTrace" "[Ljava/lang/StackTraceElement;") ∈ lw_all := lw_g (lw_at lw_m1 172 rfl) rfl
theorem q216 : (Jvm.Cond.lays "java/lang/Throwable" "java/lang/Throwable" "suppressedExceptions" "Ljava/util/List;") ∈ lw_all := lw_g (lw_at lw_m1 174 rfl) rfl
theorem q218 : (Jvm.Cond.lays "java/lang/Throwable" "java/lang/Throwable" "detailMessage" "Ljava/lang/String;") ∈ lw_all := lw_g (lw_at lw_m1 176 rfl) rfl
theorem q220 : (Jvm.Cond.lays "java/lang/Throwable" "java/lang/Throwable" "backtrace" "Ljava/lang/Object;") ∈ lw_all := lw_g (lw_at lw_m1 178 rfl) rfl
theorem q221 : (Jvm.Cond.fieldLink "java/lang/Throwable" (198 : Nat) "java/lang/Throwable" "backtrace" "Ljava/lang/Object;") ∈ lw_all := lw_g (lw_at lw_m1 179 rfl) rfl
theorem q222 : (Jvm.Cond.superclass "java/lang/Throwable" "java/lang/Object") ∈ lw_all := lw_g (lw_at lw_m1 180 rfl) rfl
theorem q223 : (Jvm.Cond.instanceMethod ({ cls := "java/lang/Throwable", name := "<init>", desc := "()V" } : Jvm.MethodName)) ∈ lw_all := lw_g (lw_at lw_m1 181 rfl) rfl
theorem q224 : (Jvm.Cond.code ({ cls := "java/lang/Throwable", name := "<init>", desc := "()V" } : Jvm.MethodName) prog_16_method_1_code (1 : Nat) (Option.none : Option Jvm.ClassFile.FieldType)) ∈ lw_all := lw_g (lw_at lw_m1 182 rfl) rfl
theorem q225 : (Jvm.Cond.methodLink "java/lang/Throwable" (1 : Nat) ({ cls := "java/lang/Object", name := "<init>", desc := "()V" } : Jvm.MethodName)) ∈ lw_all := lw_g (lw_at lw_m1 183 rfl) rfl
theorem q226 : (Jvm.Cond.fieldLink "java/lang/Throwable" (13 : Nat) "java/lang/Throwable" "UNASSIGNED_STACK" "[Ljava/lang/StackTraceElement;") ∈ lw_all := lw_g (lw_at lw_m1 184 rfl) rfl
theorem q227 : (Jvm.Cond.laysStatic "java/lang/Throwable" "UNASSIGNED_STACK" "[Ljava/lang/StackTraceElement;") ∈ lw_tbl := lw_at lw_m1 185 rfl
theorem q228 : (Jvm.Cond.fieldLink "java/lang/Throwable" (20 : Nat) "java/lang/Throwable" "SUPPRESSED_SENTINEL" "Ljava/util/List;") ∈ lw_all := lw_g (lw_at lw_m1 186 rfl) rfl
theorem q229 : (Jvm.Cond.laysStatic "java/lang/Throwable" "SUPPRESSED_SENTINEL" "Ljava/util/List;") ∈ lw_tbl := lw_at lw_m1 187 rfl
theorem q230 : (Jvm.Cond.methodLink "java/lang/Throwable" (27 : Nat) ({ cls := "java/lang/Throwable", name := "fillInStackTrace", desc := "()Ljava/lang/Throwable;" } : Jvm.MethodName)) ∈ lw_all := lw_g (lw_at lw_m1 188 rfl) rfl
theorem q231 : (Jvm.Cond.instanceMethod ({ cls := "java/lang/Throwable", name := "fillInStackTrace", desc := "()Ljava/lang/Throwable;" } : Jvm.MethodName)) ∈ lw_all := lw_g (lw_at lw_m1 189 rfl) rfl
theorem q232 : (Jvm.Cond.sameMethod "java/lang/Throwable" "java/lang/Throwable" "fillInStackTrace" "()Ljava/lang/Throwable;") ∈ lw_all := lw_g (lw_at lw_m1 190 rfl) rfl
theorem q234 : (Jvm.Cond.codeSync ({ cls := "java/lang/Throwable", name := "fillInStackTrace", desc := "()Ljava/lang/Throwable;" } : Jvm.MethodName) prog_16_method_18_code (1 : Nat) (Option.some (Jvm.ClassFile.FieldType.object "java/lang/Throwable"))) ∈ lw_all := lw_g (lw_at lw_m1 192 rfl) rfl
theorem q235 : (Jvm.Cond.methodLink "java/lang/Throwable" (202 : Nat) ({ cls := "java/lang/Throwable", name := "fillInStackTrace", desc := "(I)Ljava/lang/Throwable;" } : Jvm.MethodName)) ∈ lw_all := lw_g (lw_at lw_m1 193 rfl) rfl
theorem q236 : (Jvm.Cond.privateMethod ({ cls := "java/lang/Throwable", name := "fillInStackTrace", desc := "(I)Ljava/lang/Throwable;" } : Jvm.MethodName)) ∈ lw_tbl := lw_at lw_m1 194 rfl
theorem q237 : (Jvm.Cond.instanceMethod ({ cls := "java/lang/Throwable", name := "fillInStackTrace", desc := "(I)Ljava/lang/Throwable;" } : Jvm.MethodName)) ∈ lw_all := lw_g (lw_at lw_m1 195 rfl) rfl
theorem q238 : (Jvm.Cond.instantiable "java/lang/Throwable" (6 : Nat)) ∈ lw_all := lw_g (lw_at lw_m1 196 rfl) rfl
theorem q239 : (Jvm.Cond.native ({ cls := "java/lang/Throwable", name := "fillInStackTrace", desc := "(I)Ljava/lang/Throwable;" } : Jvm.MethodName)) ∈ lw_all := lw_g (lw_at lw_m1 197 rfl) rfl
theorem q247 : (Jvm.Cond.instanceMethod ({ cls := "java/lang/Throwable", name := "<init>", desc := "(Ljava/lang/String;Ljava/lang/Throwable;ZZ)V" } : Jvm.MethodName)) ∈ lw_all := lw_g (lw_at lw_m1 205 rfl) rfl
theorem q248 : (Jvm.Cond.code ({ cls := "java/lang/Throwable", name := "<init>", desc := "(Ljava/lang/String;Ljava/lang/Throwable;ZZ)V" } : Jvm.MethodName) prog_16_method_5_code (5 : Nat) (Option.none : Option Jvm.ClassFile.FieldType)) ∈ lw_all := lw_g (lw_at lw_m1 206 rfl) rfl
theorem q251 : (Jvm.Cond.fieldLink "java/lang/Throwable" (198 : Nat) "java/lang/Throwable" "backtrace" "Ljava/lang/Object;") ∈ lw_all := lw_g (lw_at lw_m1 209 rfl) rfl
theorem q252 : (Jvm.Cond.fieldLink "java/lang/Throwable" (31 : Nat) "java/lang/Throwable" "detailMessage" "Ljava/lang/String;") ∈ lw_all := lw_g (lw_at lw_m1 210 rfl) rfl
theorem q253 : (Jvm.Cond.fieldLink "java/lang/Throwable" (7 : Nat) "java/lang/Throwable" "cause" "Ljava/lang/Throwable;") ∈ lw_all := lw_g (lw_at lw_m1 211 rfl) rfl
theorem q254 : (Jvm.Cond.fieldLink "java/lang/Throwable" (17 : Nat) "java/lang/Throwable" "stackTrace" "[Ljava/lang/StackTraceElement;") ∈ lw_all := lw_g (lw_at lw_m1 212 rfl) rfl
theorem q255 : (Jvm.Cond.fieldLink "java/lang/Throwable" (24 : Nat) "java/lang/Throwable" "suppressedExceptions" "Ljava/util/List;") ∈ lw_all := lw_g (lw_at lw_m1 213 rfl) rfl
theorem q260 : (Jvm.Cond.soleField "java/lang/Throwable" "backtrace") ∈ lw_all := lw_g (lw_at lw_m1 218 rfl) rfl
theorem q261 : (Jvm.Cond.soleField "java/lang/Throwable" "detailMessage") ∈ lw_all := lw_g (lw_at lw_m1 219 rfl) rfl
theorem q262 : (Jvm.Cond.soleField "java/lang/Throwable" "cause") ∈ lw_all := lw_g (lw_at lw_m1 220 rfl) rfl
theorem q263 : (Jvm.Cond.soleField "java/lang/Throwable" "stackTrace") ∈ lw_all := lw_g (lw_at lw_m1 221 rfl) rfl
theorem q265 : (Jvm.Cond.soleField "java/lang/Throwable" "depth") ∈ lw_all := lw_g (lw_at lw_m1 223 rfl) rfl
theorem q266 : (Jvm.Cond.soleField "java/lang/Throwable" "suppressedExceptions") ∈ lw_all := lw_g (lw_at lw_m1 224 rfl) rfl
theorem q926 : (Jvm.Cond.sameMethod "java/lang/Throwable" "java/lang/Throwable" "fillInStackTrace" "(I)Ljava/lang/Throwable;") ∈ lw_all := lw_g (lw_at lw_m4 164 rfl) rfl
theorem q934 : (Jvm.Cond.castable "java/lang/Throwable" "java/lang/Object") ∈ lw_tbl := lw_at lw_m4 172 rfl
theorem in_J0 : ∀ w ∈ wsJ00, w ∈ lw_all := lw_in wsJ00 [212, 214, 216, 218, 220] (by decide +kernel) (by decide +kernel)
/-! java/lang/Exception -/
def RJ1 : String := "java/lang/Exception"
abbrev cJ1_init : ByteArray := prog_8_method_5_code
def yJ1_init : MethodName := ⟨RJ1, "<init>", "(Ljava/lang/String;Ljava/lang/Throwable;ZZ)V"⟩
abbrev cJ1_init_2 : ByteArray := prog_8_method_1_code
def yJ1_init_2 : MethodName := ⟨RJ1, "<init>", "()V"⟩
theorem q46 : (Jvm.Cond.initialized "java/lang/Exception") ∈ lw_all := lw_g (lw_at lw_m1 4 rfl) rfl
theorem q205 : (Jvm.Cond.declares ({ cls := "java/lang/Exception", name := "<init>", desc := "()V" } : Jvm.MethodName)) ∈ lw_tbl := lw_at lw_m1 163 rfl
theorem q206 : (Jvm.Cond.declares ({ cls := "java/lang/Exception", name := "<init>", desc := "(Ljava/lang/String;)V" } : Jvm.MethodName)) ∈ lw_tbl := lw_at lw_m1 164 rfl
theorem q244 : (Jvm.Cond.instanceMethod ({ cls := "java/lang/Exception", name := "<init>", desc := "(Ljava/lang/String;Ljava/lang/Throwable;ZZ)V" } : Jvm.MethodName)) ∈ lw_all := lw_g (lw_at lw_m1 202 rfl) rfl
theorem q245 : (Jvm.Cond.code ({ cls := "java/lang/Exception", name := "<init>", desc := "(Ljava/lang/String;Ljava/lang/Throwable;ZZ)V" } : Jvm.MethodName) prog_8_method_5_code (5 : Nat) (Option.none : Option Jvm.ClassFile.FieldType)) ∈ lw_all := lw_g (lw_at lw_m1 203 rfl) rfl
theorem q246 : (Jvm.Cond.methodLink "java/lang/Exception" (16 : Nat) ({ cls := "java/lang/Throwable", name := "<init>", desc := "(Ljava/lang/String;Ljava/lang/Throwable;ZZ)V" } : Jvm.MethodName)) ∈ lw_all := lw_g (lw_at lw_m1 204 rfl) rfl
theorem q574 : (Jvm.Cond.instanceMethod ({ cls := "java/lang/Exception", name := "<init>", desc := "()V" } : Jvm.MethodName)) ∈ lw_all := lw_g (lw_at lw_m3 52 rfl) rfl
theorem q575 : (Jvm.Cond.code ({ cls := "java/lang/Exception", name := "<init>", desc := "()V" } : Jvm.MethodName) prog_8_method_1_code (1 : Nat) (Option.none : Option Jvm.ClassFile.FieldType)) ∈ lw_all := lw_g (lw_at lw_m3 53 rfl) rfl
theorem q576 : (Jvm.Cond.methodLink "java/lang/Exception" (1 : Nat) ({ cls := "java/lang/Throwable", name := "<init>", desc := "()V" } : Jvm.MethodName)) ∈ lw_all := lw_g (lw_at lw_m3 54 rfl) rfl
/-! java/lang/String -/
def RJ2 : String := "java/lang/String"
abbrev cJ2_length : ByteArray := prog_12_method_54_code
def yJ2_length : MethodName := ⟨RJ2, "length", "()I"⟩
abbrev cJ2_coder : ByteArray := prog_12_method_152_code
def yJ2_coder : MethodName := ⟨RJ2, "coder", "()B"⟩
abbrev cJ2_charAt : ByteArray := prog_12_method_56_code
def yJ2_charAt : MethodName := ⟨RJ2, "charAt", "(I)C"⟩
abbrev cJ2_isLatin1 : ByteArray := prog_12_method_154_code
def yJ2_isLatin1 : MethodName := ⟨RJ2, "isLatin1", "()Z"⟩
abbrev cJ2_checkIndex : ByteArray := prog_12_method_155_code
def yJ2_checkIndex : MethodName := ⟨RJ2, "checkIndex", "(II)V"⟩
theorem q49 : (Jvm.Cond.initialized "java/lang/String") ∈ lw_all := lw_g (lw_at lw_m1 7 rfl) rfl
theorem q101 : (Jvm.Cond.instanceMethod ({ cls := "java/lang/String", name := "length", desc := "()I" } : Jvm.MethodName)) ∈ lw_all := lw_g (lw_at lw_m1 59 rfl) rfl
theorem q102 : (Jvm.Cond.selects "java/lang/String" ({ cls := "java/lang/String", name := "length", desc := "()I" } : Jvm.MethodName) ({ cls := "java/lang/String", name := "length", desc := "()I" } : Jvm.MethodName)) ∈ lw_all := lw_g (lw_at lw_m1 60 rfl) rfl
theorem q103 : (Jvm.Cond.code ({ cls := "java/lang/String", name := "length", desc := "()I" } : Jvm.MethodName) prog_12_method_54_code (1 : Nat) (Option.some Jvm.ClassFile.FieldType.int)) ∈ lw_all := lw_g (lw_at lw_m1 61 rfl) rfl
theorem q104 : (Jvm.Cond.methodLink "java/lang/String" (335 : Nat) ({ cls := "java/lang/String", name := "coder", desc := "()B" } : Jvm.MethodName)) ∈ lw_all := lw_g (lw_at lw_m1 62 rfl) rfl
theorem q105 : (Jvm.Cond.instanceMethod ({ cls := "java/lang/String", name := "coder", desc := "()B" } : Jvm.MethodName)) ∈ lw_all := lw_g (lw_at lw_m1 63 rfl) rfl
theorem q106 : (Jvm.Cond.selects "java/lang/String" ({ cls := "java/lang/String", name := "coder", desc := "()B" } : Jvm.MethodName) ({ cls := "java/lang/String", name := "coder", desc := "()B" } : Jvm.MethodName)) ∈ lw_all := lw_g (lw_at lw_m1 64 rfl) rfl
theorem q107 : (Jvm.Cond.code ({ cls := "java/lang/String", name := "coder", desc := "()B" } : Jvm.MethodName) prog_12_method_152_code (1 : Nat) (Option.some Jvm.ClassFile.FieldType.byte)) ∈ lw_all := lw_g (lw_at lw_m1 65 rfl) rfl
theorem q108 : (Jvm.Cond.fieldLink "java/lang/String" (38 : Nat) "java/lang/String" "COMPACT_STRINGS" "Z") ∈ lw_all := lw_g (lw_at lw_m1 66 rfl) rfl
theorem q109 : (Jvm.Cond.laysStatic "java/lang/String" "COMPACT_STRINGS" "Z") ∈ lw_tbl := lw_at lw_m1 67 rfl
theorem q111 : (Jvm.Cond.instanceMethod ({ cls := "java/lang/String", name := "charAt", desc := "(I)C" } : Jvm.MethodName)) ∈ lw_all := lw_g (lw_at lw_m1 69 rfl) rfl
theorem q112 : (Jvm.Cond.selects "java/lang/String" ({ cls := "java/lang/String", name := "charAt", desc := "(I)C" } : Jvm.MethodName) ({ cls := "java/lang/String", name := "charAt", desc := "(I)C" } : Jvm.MethodName)) ∈ lw_all := lw_g (lw_at lw_m1 70 rfl) rfl
theorem q113 : (Jvm.Cond.code ({ cls := "java/lang/String", name := "charAt", desc := "(I)C" } : Jvm.MethodName) prog_12_method_56_code (2 : Nat) (Option.some Jvm.ClassFile.FieldType.char)) ∈ lw_all := lw_g (lw_at lw_m1 71 rfl) rfl
theorem q114 : (Jvm.Cond.methodLink "java/lang/String" (492 : Nat) ({ cls := "java/lang/String", name := "isLatin1", desc := "()Z" } : Jvm.MethodName)) ∈ lw_all := lw_g (lw_at lw_m1 72 rfl) rfl
theorem q115 : (Jvm.Cond.instanceMethod ({ cls := "java/lang/String", name := "isLatin1", desc := "()Z" } : Jvm.MethodName)) ∈ lw_all := lw_g (lw_at lw_m1 73 rfl) rfl
theorem q116 : (Jvm.Cond.selects "java/lang/String" ({ cls := "java/lang/String", name := "isLatin1", desc := "()Z" } : Jvm.MethodName) ({ cls := "java/lang/String", name := "isLatin1", desc := "()Z" } : Jvm.MethodName)) ∈ lw_all := lw_g (lw_at lw_m1 74 rfl) rfl
theorem q117 : (Jvm.Cond.code ({ cls := "java/lang/String", name := "isLatin1", desc := "()Z" } : Jvm.MethodName) prog_12_method_154_code (1 : Nat) (Option.some Jvm.ClassFile.FieldType.boolean)) ∈ lw_all := lw_g (lw_at lw_m1 75 rfl) rfl
theorem q118 : (Jvm.Cond.methodLink "java/lang/String" (495 : Nat) ({ cls := "java/lang/StringLatin1", name := "charAt", desc := "([BI)C" } : Jvm.MethodName)) ∈ lw_all := lw_g (lw_at lw_m1 76 rfl) rfl
theorem q122 : (Jvm.Cond.static ({ cls := "java/lang/String", name := "checkIndex", desc := "(II)V" } : Jvm.MethodName)) ∈ lw_all := lw_g (lw_at lw_m1 80 rfl) rfl
theorem q123 : (Jvm.Cond.code ({ cls := "java/lang/String", name := "checkIndex", desc := "(II)V" } : Jvm.MethodName) prog_12_method_155_code (2 : Nat) (Option.none : Option Jvm.ClassFile.FieldType)) ∈ lw_all := lw_g (lw_at lw_m1 81 rfl) rfl
theorem q124 : (Jvm.Cond.fieldLink "java/lang/String" (1053 : Nat) "jdk/internal/util/Preconditions" "SIOOBE_FORMATTER" "Ljava/util/function/BiFunction;") ∈ lw_all := lw_g (lw_at lw_m1 82 rfl) rfl
theorem q126 : (Jvm.Cond.methodLink "java/lang/String" (1059 : Nat) ({ cls := "jdk/internal/util/Preconditions", name := "checkIndex", desc := "(IILjava/util/function/BiFunction;)I" } : Jvm.MethodName)) ∈ lw_all := lw_g (lw_at lw_m1 84 rfl) rfl
theorem q129 : (Jvm.Cond.methodLink "java/lang/String" (498 : Nat) ({ cls := "java/lang/StringUTF16", name := "charAt", desc := "([BI)C" } : Jvm.MethodName)) ∈ lw_all := lw_g (lw_at lw_m1 87 rfl) rfl
theorem q935 : (Jvm.Cond.castable "java/lang/String" "java/lang/Object") ∈ lw_tbl := lw_at lw_m4 173 rfl
theorem q936 : (Jvm.Cond.fieldLink "java/lang/String" (9 : Nat) "java/lang/String" "value" "[B") ∈ lw_all := lw_g (lw_at lw_m4 174 rfl) rfl
theorem q937 : (Jvm.Cond.fieldLink "java/lang/String" (15 : Nat) "java/lang/String" "coder" "B") ∈ lw_all := lw_g (lw_at lw_m4 175 rfl) rfl
/-! java/lang/StringLatin1 -/
def RJ3 : String := "java/lang/StringLatin1"
abbrev cJ3_charAt : ByteArray := prog_13_method_2_code
def yJ3_charAt : MethodName := ⟨RJ3, "charAt", "([BI)C"⟩
theorem q50 : (Jvm.Cond.initialized "java/lang/StringLatin1") ∈ lw_all := lw_g (lw_at lw_m1 8 rfl) rfl
theorem q119 : (Jvm.Cond.static ({ cls := "java/lang/StringLatin1", name := "charAt", desc := "([BI)C" } : Jvm.MethodName)) ∈ lw_all := lw_g (lw_at lw_m1 77 rfl) rfl
theorem q120 : (Jvm.Cond.code ({ cls := "java/lang/StringLatin1", name := "charAt", desc := "([BI)C" } : Jvm.MethodName) prog_13_method_2_code (2 : Nat) (Option.some Jvm.ClassFile.FieldType.char)) ∈ lw_all := lw_g (lw_at lw_m1 78 rfl) rfl
theorem q121 : (Jvm.Cond.methodLink "java/lang/StringLatin1" (9 : Nat) ({ cls := "java/lang/String", name := "checkIndex", desc := "(II)V" } : Jvm.MethodName)) ∈ lw_all := lw_g (lw_at lw_m1 79 rfl) rfl
/-! jdk/internal/util/Preconditions -/
def RJ4 : String := "jdk/internal/util/Preconditions"
abbrev cJ4_checkIndex : ByteArray := prog_18_method_11_code
def yJ4_checkIndex : MethodName := ⟨RJ4, "checkIndex", "(IILjava/util/function/BiFunction;)I"⟩
theorem q51 : (Jvm.Cond.initialized "jdk/internal/util/Preconditions") ∈ lw_all := lw_g (lw_at lw_m1 9 rfl) rfl
theorem q125 : (Jvm.Cond.laysStatic "jdk/internal/util/Preconditions" "SIOOBE_FORMATTER" "Ljava/util/function/BiFunction;") ∈ lw_tbl := lw_at lw_m1 83 rfl
theorem q127 : (Jvm.Cond.static ({ cls := "jdk/internal/util/Preconditions", name := "checkIndex", desc := "(IILjava/util/function/BiFunction;)I" } : Jvm.MethodName)) ∈ lw_all := lw_g (lw_at lw_m1 85 rfl) rfl
theorem q128 : (Jvm.Cond.code ({ cls := "jdk/internal/util/Preconditions", name := "checkIndex", desc := "(IILjava/util/function/BiFunction;)I" } : Jvm.MethodName) prog_18_method_11_code (3 : Nat) (Option.some Jvm.ClassFile.FieldType.int)) ∈ lw_all := lw_g (lw_at lw_m1 86 rfl) rfl
/-! java/lang/StringUTF16 -/
def RJ5 : String := "java/lang/StringUTF16"
abbrev cJ5_charAt : ByteArray := prog_14_method_83_code
def yJ5_charAt : MethodName := ⟨RJ5, "charAt", "([BI)C"⟩
abbrev cJ5_checkIndex : ByteArray := prog_14_method_91_code
def yJ5_checkIndex : MethodName := ⟨RJ5, "checkIndex", "(I[B)V"⟩
abbrev cJ5_length : ByteArray := prog_14_method_6_code
def yJ5_length : MethodName := ⟨RJ5, "length", "([B)I"⟩
abbrev cJ5_getChar : ByteArray := prog_14_method_5_code
def yJ5_getChar : MethodName := ⟨RJ5, "getChar", "([BI)C"⟩
theorem q52 : (Jvm.Cond.initialized "java/lang/StringUTF16") ∈ lw_all := lw_g (lw_at lw_m1 10 rfl) rfl
theorem q130 : (Jvm.Cond.static ({ cls := "java/lang/StringUTF16", name := "charAt", desc := "([BI)C" } : Jvm.MethodName)) ∈ lw_all := lw_g (lw_at lw_m1 88 rfl) rfl
theorem q131 : (Jvm.Cond.code ({ cls := "java/lang/StringUTF16", name := "charAt", desc := "([BI)C" } : Jvm.MethodName) prog_14_method_83_code (2 : Nat) (Option.some Jvm.ClassFile.FieldType.char)) ∈ lw_all := lw_g (lw_at lw_m1 89 rfl) rfl
theorem q132 : (Jvm.Cond.methodLink "java/lang/StringUTF16" (67 : Nat) ({ cls := "java/lang/StringUTF16", name := "checkIndex", desc := "(I[B)V" } : Jvm.MethodName)) ∈ lw_all := lw_g (lw_at lw_m1 90 rfl) rfl
theorem q133 : (Jvm.Cond.static ({ cls := "java/lang/StringUTF16", name := "checkIndex", desc := "(I[B)V" } : Jvm.MethodName)) ∈ lw_all := lw_g (lw_at lw_m1 91 rfl) rfl
theorem q134 : (Jvm.Cond.code ({ cls := "java/lang/StringUTF16", name := "checkIndex", desc := "(I[B)V" } : Jvm.MethodName) prog_14_method_91_code (2 : Nat) (Option.none : Option Jvm.ClassFile.FieldType)) ∈ lw_all := lw_g (lw_at lw_m1 92 rfl) rfl
theorem q135 : (Jvm.Cond.methodLink "java/lang/StringUTF16" (48 : Nat) ({ cls := "java/lang/StringUTF16", name := "length", desc := "([B)I" } : Jvm.MethodName)) ∈ lw_all := lw_g (lw_at lw_m1 93 rfl) rfl
theorem q136 : (Jvm.Cond.static ({ cls := "java/lang/StringUTF16", name := "length", desc := "([B)I" } : Jvm.MethodName)) ∈ lw_all := lw_g (lw_at lw_m1 94 rfl) rfl
theorem q137 : (Jvm.Cond.code ({ cls := "java/lang/StringUTF16", name := "length", desc := "([B)I" } : Jvm.MethodName) prog_14_method_6_code (1 : Nat) (Option.some Jvm.ClassFile.FieldType.int)) ∈ lw_all := lw_g (lw_at lw_m1 95 rfl) rfl
theorem q138 : (Jvm.Cond.methodLink "java/lang/StringUTF16" (414 : Nat) ({ cls := "java/lang/String", name := "checkIndex", desc := "(II)V" } : Jvm.MethodName)) ∈ lw_all := lw_g (lw_at lw_m1 96 rfl) rfl
theorem q139 : (Jvm.Cond.methodLink "java/lang/StringUTF16" (71 : Nat) ({ cls := "java/lang/StringUTF16", name := "getChar", desc := "([BI)C" } : Jvm.MethodName)) ∈ lw_all := lw_g (lw_at lw_m1 97 rfl) rfl
theorem q140 : (Jvm.Cond.static ({ cls := "java/lang/StringUTF16", name := "getChar", desc := "([BI)C" } : Jvm.MethodName)) ∈ lw_all := lw_g (lw_at lw_m1 98 rfl) rfl
theorem q141 : (Jvm.Cond.code ({ cls := "java/lang/StringUTF16", name := "getChar", desc := "([BI)C" } : Jvm.MethodName) prog_14_method_5_code (2 : Nat) (Option.some Jvm.ClassFile.FieldType.char)) ∈ lw_all := lw_g (lw_at lw_m1 99 rfl) rfl
theorem q142 : (Jvm.Cond.fieldLink "java/lang/StringUTF16" (44 : Nat) "java/lang/StringUTF16" "$assertionsDisabled" "Z") ∈ lw_all := lw_g (lw_at lw_m1 100 rfl) rfl
theorem q143 : (Jvm.Cond.laysStatic "java/lang/StringUTF16" "$assertionsDisabled" "Z") ∈ lw_tbl := lw_at lw_m1 101 rfl
theorem q144 : (Jvm.Cond.fieldLink "java/lang/StringUTF16" (59 : Nat) "java/lang/StringUTF16" "HI_BYTE_SHIFT" "I") ∈ lw_all := lw_g (lw_at lw_m1 102 rfl) rfl
theorem q145 : (Jvm.Cond.laysStatic "java/lang/StringUTF16" "HI_BYTE_SHIFT" "I") ∈ lw_tbl := lw_at lw_m1 103 rfl
theorem q146 : (Jvm.Cond.fieldLink "java/lang/StringUTF16" (63 : Nat) "java/lang/StringUTF16" "LO_BYTE_SHIFT" "I") ∈ lw_all := lw_g (lw_at lw_m1 104 rfl) rfl
theorem q147 : (Jvm.Cond.laysStatic "java/lang/StringUTF16" "LO_BYTE_SHIFT" "I") ∈ lw_tbl := lw_at lw_m1 105 rfl
/-! java/lang/Math -/
def RJ6 : String := "java/lang/Math"
abbrev cJ6_abs : ByteArray := prog_10_method_59_code
def yJ6_abs : MethodName := ⟨RJ6, "abs", "(I)I"⟩
abbrev cJ6_max : ByteArray := prog_10_method_65_code
def yJ6_max : MethodName := ⟨RJ6, "max", "(II)I"⟩
theorem q56 : (Jvm.Cond.initialized "java/lang/Math") ∈ lw_all := lw_g (lw_at lw_m1 14 rfl) rfl
theorem q462 : (Jvm.Cond.static ({ cls := "java/lang/Math", name := "abs", desc := "(I)I" } : Jvm.MethodName)) ∈ lw_all := lw_g (lw_at lw_m2 180 rfl) rfl
theorem q463 : (Jvm.Cond.code ({ cls := "java/lang/Math", name := "abs", desc := "(I)I" } : Jvm.MethodName) prog_10_method_59_code (1 : Nat) (Option.some Jvm.ClassFile.FieldType.int)) ∈ lw_all := lw_g (lw_at lw_m2 181 rfl) rfl
theorem q469 : (Jvm.Cond.static ({ cls := "java/lang/Math", name := "max", desc := "(II)I" } : Jvm.MethodName)) ∈ lw_all := lw_g (lw_at lw_m2 187 rfl) rfl
theorem q470 : (Jvm.Cond.code ({ cls := "java/lang/Math", name := "max", desc := "(II)I" } : Jvm.MethodName) prog_10_method_65_code (2 : Nat) (Option.some Jvm.ClassFile.FieldType.int)) ∈ lw_all := lw_g (lw_at lw_m2 188 rfl) rfl
/-! java/lang/RuntimeException -/
def RJ7 : String := "java/lang/RuntimeException"
abbrev cJ7_init : ByteArray := prog_11_method_1_code
def yJ7_init : MethodName := ⟨RJ7, "<init>", "()V"⟩
theorem q57 : (Jvm.Cond.initialized "java/lang/RuntimeException") ∈ lw_all := lw_g (lw_at lw_m1 15 rfl) rfl
theorem q559 : (Jvm.Cond.declares ({ cls := "java/lang/RuntimeException", name := "<init>", desc := "()V" } : Jvm.MethodName)) ∈ lw_tbl := lw_at lw_m3 37 rfl
theorem q560 : (Jvm.Cond.declares ({ cls := "java/lang/RuntimeException", name := "<init>", desc := "(Ljava/lang/String;)V" } : Jvm.MethodName)) ∈ lw_tbl := lw_at lw_m3 38 rfl
theorem q571 : (Jvm.Cond.instanceMethod ({ cls := "java/lang/RuntimeException", name := "<init>", desc := "()V" } : Jvm.MethodName)) ∈ lw_all := lw_g (lw_at lw_m3 49 rfl) rfl
theorem q572 : (Jvm.Cond.code ({ cls := "java/lang/RuntimeException", name := "<init>", desc := "()V" } : Jvm.MethodName) prog_11_method_1_code (1 : Nat) (Option.none : Option Jvm.ClassFile.FieldType)) ∈ lw_all := lw_g (lw_at lw_m3 50 rfl) rfl
theorem q573 : (Jvm.Cond.methodLink "java/lang/RuntimeException" (1 : Nat) ({ cls := "java/lang/Exception", name := "<init>", desc := "()V" } : Jvm.MethodName)) ∈ lw_all := lw_g (lw_at lw_m3 51 rfl) rfl
/-! java/util/NoSuchElementException -/
def RJ8 : String := "java/util/NoSuchElementException"
def TJ8 : u_T := fun k => match k with
  | 0 => ("java/lang/Throwable", "cause", "Ljava/lang/Throwable;", false)
  | 1 => ("java/lang/Throwable", "stackTrace", "[Ljava/lang/StackTraceElement;", false)
  | 2 => ("java/lang/Throwable", "suppressedExceptions", "Ljava/util/List;", false)
  | 3 => ("java/lang/Throwable", "detailMessage", "Ljava/lang/String;", false)
  | 4 => ("java/lang/Throwable", "backtrace", "Ljava/lang/Object;", false)
  | _ => ("java/lang/Throwable", "depth", "I", false)
def tyJ8 : Nat → FieldType := fun k => match k with
  | 0 => .object "java/lang/Throwable"
  | 1 => .array (.object "java/lang/StackTraceElement")
  | 2 => .object "java/util/List"
  | 3 => .object "java/lang/String"
  | 4 => .object "java/lang/Object"
  | _ => .int
abbrev wsJ80 : List Cond := u_ws RJ8 TJ8 6
theorem nmJ8 : ∀ a, a < 6 → ∀ b, b < 6 → a ≠ b → (TJ8 a).2.1 ≠ (TJ8 b).2.1 := by decide +kernel
theorem tyJ8_ok : ∀ k, k < 6 → parseFieldDescriptor (TJ8 k).2.2.1 = some (tyJ8 k) := by decide +kernel
abbrev cJ8_init : ByteArray := prog_17_method_1_code
def yJ8_init : MethodName := ⟨RJ8, "<init>", "()V"⟩
theorem q58 : (Jvm.Cond.initialized "java/util/NoSuchElementException") ∈ lw_all := lw_g (lw_at lw_m1 16 rfl) rfl
theorem q233 : (Jvm.Cond.selects "java/util/NoSuchElementException" ({ cls := "java/lang/Throwable", name := "fillInStackTrace", desc := "()Ljava/lang/Throwable;" } : Jvm.MethodName) ({ cls := "java/lang/Throwable", name := "fillInStackTrace", desc := "()Ljava/lang/Throwable;" } : Jvm.MethodName)) ∈ lw_all := lw_g (lw_at lw_m1 191 rfl) rfl
theorem q557 : (Jvm.Cond.instantiable "java/util/NoSuchElementException" (6 : Nat)) ∈ lw_all := lw_g (lw_at lw_m3 35 rfl) rfl
theorem q558 : (Jvm.Cond.castable "java/util/NoSuchElementException" "java/util/NoSuchElementException") ∈ lw_tbl := lw_at lw_m3 36 rfl
theorem q561 : (Jvm.Cond.selects "java/util/NoSuchElementException" ({ cls := "java/lang/Throwable", name := "fillInStackTrace", desc := "(I)Ljava/lang/Throwable;" } : Jvm.MethodName) ({ cls := "java/lang/Throwable", name := "fillInStackTrace", desc := "(I)Ljava/lang/Throwable;" } : Jvm.MethodName)) ∈ lw_all := lw_g (lw_at lw_m3 39 rfl) rfl
theorem q562 : (Jvm.Cond.lays "java/util/NoSuchElementException" "java/lang/Throwable" "cause" "Ljava/lang/Throwable;") ∈ lw_all := lw_g (lw_at lw_m3 40 rfl) rfl
theorem q563 : (Jvm.Cond.lays "java/util/NoSuchElementException" "java/lang/Throwable" "stackTrace" "[Ljava/lang/StackTraceElement;") ∈ lw_all := lw_g (lw_at lw_m3 41 rfl) rfl
theorem q564 : (Jvm.Cond.lays "java/util/NoSuchElementException" "java/lang/Throwable" "suppressedExceptions" "Ljava/util/List;") ∈ lw_all := lw_g (lw_at lw_m3 42 rfl) rfl
theorem q565 : (Jvm.Cond.lays "java/util/NoSuchElementException" "java/lang/Throwable" "detailMessage" "Ljava/lang/String;") ∈ lw_all := lw_g (lw_at lw_m3 43 rfl) rfl
theorem q566 : (Jvm.Cond.lays "java/util/NoSuchElementException" "java/lang/Throwable" "backtrace" "Ljava/lang/Object;") ∈ lw_all := lw_g (lw_at lw_m3 44 rfl) rfl
theorem q568 : (Jvm.Cond.instanceMethod ({ cls := "java/util/NoSuchElementException", name := "<init>", desc := "()V" } : Jvm.MethodName)) ∈ lw_all := lw_g (lw_at lw_m3 46 rfl) rfl
theorem q569 : (Jvm.Cond.code ({ cls := "java/util/NoSuchElementException", name := "<init>", desc := "()V" } : Jvm.MethodName) prog_17_method_1_code (1 : Nat) (Option.none : Option Jvm.ClassFile.FieldType)) ∈ lw_all := lw_g (lw_at lw_m3 47 rfl) rfl
theorem q570 : (Jvm.Cond.methodLink "java/util/NoSuchElementException" (1 : Nat) ({ cls := "java/lang/RuntimeException", name := "<init>", desc := "()V" } : Jvm.MethodName)) ∈ lw_all := lw_g (lw_at lw_m3 48 rfl) rfl
theorem q577 : (Jvm.Cond.lays "java/util/NoSuchElementException" "java/lang/Throwable" "depth" "I") ∈ lw_all := lw_g (lw_at lw_m3 55 rfl) rfl
theorem q578 : (Jvm.Cond.superclass "java/util/NoSuchElementException" "java/lang/RuntimeException") ∈ lw_all := lw_g (lw_at lw_m3 56 rfl) rfl
theorem q933 : (Jvm.Cond.castable "java/util/NoSuchElementException" "java/lang/Object") ∈ lw_tbl := lw_at lw_m4 171 rfl
theorem in_J8 : ∀ w ∈ wsJ80, w ∈ lw_all := lw_in wsJ80 [562, 563, 564, 565, 566, 577] (by decide +kernel) (by decide +kernel)
/-! java/lang/Integer -/
def RJ9 : String := "java/lang/Integer"
abbrev cJ9_bitCount : ByteArray := prog_9_method_49_code
def yJ9_bitCount : MethodName := ⟨RJ9, "bitCount", "(I)I"⟩
theorem q59 : (Jvm.Cond.initialized "java/lang/Integer") ∈ lw_all := lw_g (lw_at lw_m1 17 rfl) rfl
theorem q543 : (Jvm.Cond.static ({ cls := "java/lang/Integer", name := "bitCount", desc := "(I)I" } : Jvm.MethodName)) ∈ lw_all := lw_g (lw_at lw_m3 21 rfl) rfl
theorem q544 : (Jvm.Cond.code ({ cls := "java/lang/Integer", name := "bitCount", desc := "(I)I" } : Jvm.MethodName) prog_9_method_49_code (1 : Nat) (Option.some Jvm.ClassFile.FieldType.int)) ∈ lw_all := lw_g (lw_at lw_m3 22 rfl) rfl
theorem q545 : (Jvm.Cond.constant "java/lang/Integer" (265 : Nat) (1431655765 : Int32)) ∈ lw_all := lw_g (lw_at lw_m3 23 rfl) rfl
theorem q546 : (Jvm.Cond.constant "java/lang/Integer" (266 : Nat) (858993459 : Int32)) ∈ lw_all := lw_g (lw_at lw_m3 24 rfl) rfl
theorem q547 : (Jvm.Cond.constant "java/lang/Integer" (267 : Nat) (252645135 : Int32)) ∈ lw_all := lw_g (lw_at lw_m3 25 rfl) rfl
/-! java/lang/Object -/
def RJ10 : String := "java/lang/Object"
abbrev cJ10_init : ByteArray := object_method_1_code
def yJ10_init : MethodName := ⟨RJ10, "<init>", "()V"⟩
theorem q168 : (Jvm.Cond.instanceMethod ({ cls := "java/lang/Object", name := "<init>", desc := "()V" } : Jvm.MethodName)) ∈ lw_all := lw_g (lw_at lw_m1 126 rfl) rfl
theorem q169 : (Jvm.Cond.code ({ cls := "java/lang/Object", name := "<init>", desc := "()V" } : Jvm.MethodName) object_method_1_code (1 : Nat) (Option.none : Option Jvm.ClassFile.FieldType)) ∈ lw_all := lw_g (lw_at lw_m1 127 rfl) rfl
theorem q53 : (Jvm.Cond.initialized "java/lang/System") ∈ lw_all := lw_g (lw_at lw_m1 11 rfl) rfl
theorem q153 : (Jvm.Cond.static ({ cls := "java/lang/System", name := "arraycopy", desc := "(Ljava/lang/Object;ILjava/lang/Object;II)V" } : Jvm.MethodName)) ∈ lw_all := lw_g (lw_at lw_m1 111 rfl) rfl
theorem q154 : (Jvm.Cond.native ({ cls := "java/lang/System", name := "arraycopy", desc := "(Ljava/lang/Object;ILjava/lang/Object;II)V" } : Jvm.MethodName)) ∈ lw_all := lw_g (lw_at lw_m1 112 rfl) rfl
theorem q171 : (Jvm.Cond.arrayOver (Jvm.ClassFile.FieldType.object "WicketBoard$Rule")) ∈ lw_tbl := lw_at lw_m1 129 rfl
theorem q194 : (Jvm.Cond.arrayClass Jvm.ClassFile.FieldType.byte) ∈ lw_all := lw_g (lw_at lw_m1 152 rfl) rfl
theorem q268 : (Jvm.Cond.arrayClass Jvm.ClassFile.FieldType.int) ∈ lw_all := lw_g (lw_at lw_m1 226 rfl) rfl
theorem q270 : (Jvm.Cond.arrayOver (Jvm.ClassFile.FieldType.object "WicketBoard$Umpire")) ∈ lw_tbl := lw_at lw_m1 228 rfl
theorem q272 : (Jvm.Cond.arrayOver (Jvm.ClassFile.FieldType.object "WicketBoard$Game")) ∈ lw_tbl := lw_at lw_m1 230 rfl
theorem q355 : (Jvm.Cond.arrayClass Jvm.ClassFile.FieldType.boolean) ∈ lw_all := lw_g (lw_at lw_m2 73 rfl) rfl
theorem q925 : (Jvm.Cond.arrayClass Jvm.ClassFile.FieldType.long) ∈ lw_all := lw_g (lw_at lw_m4 163 rfl) rfl
end
section
set_option maxRecDepth 100000
/-! tables of the abstract machine, printed by gen.py -/
abbrev am_E : Type := Nat × Instr × Nat × Nat × Nat × Nat × Value
def tb_X1_feed : Lean.RArray am_E := .branch 22 (.branch 13 (.branch 6 (.branch 1 (.leaf (0, .aload_n 0, 1, 0, 0, 0, .null)) (.branch 4 (.leaf (1, .getfield 3, 4, 0, 1, 0, .null)) (.leaf (4, .bipush 20, 6, 0, 0, 0, .int 20)))) (.branch 7 (.leaf (6, .iadd, 7, 0, 0, 0, .null)) (.branch 10 (.leaf (7, .sipush 180, 10, 0, 0, 0, .int 180)) (.leaf (10, .if_icmp .le 5, 13, 15, 0, 0, .null))))) (.branch 16 (.branch 14 (.leaf (13, .iconst (-1), 14, 0, 0, 0, .int (-1))) (.branch 15 (.leaf (14, .ireturn, 15, 0, 0, 0, .int 0)) (.leaf (15, .aload_n 0, 16, 0, 0, 0, .null)))) (.branch 20 (.branch 17 (.leaf (16, .iload_n 1, 17, 1, 0, 0, .null)) (.leaf (17, .invokevirtual 7, 20, 1, 0, 0, .null))) (.branch 21 (.leaf (20, .aload_n 0, 21, 0, 0, 0, .null)) (.leaf (21, .iload_n 2, 22, 2, 0, 0, .null)))))) (.branch 33 (.branch 27 (.branch 25 (.leaf (22, .invokevirtual 7, 25, 1, 0, 0, .null)) (.branch 26 (.leaf (25, .aload_n 0, 26, 0, 0, 0, .null)) (.leaf (26, .iload_n 3, 27, 3, 0, 0, .null)))) (.branch 30 (.leaf (27, .invokevirtual 7, 30, 1, 0, 0, .null)) (.branch 31 (.leaf (30, .aload_n 0, 31, 0, 0, 0, .null)) (.leaf (31, .iload 4, 33, 4, 0, 0, .null))))) (.branch 39 (.branch 36 (.leaf (33, .invokevirtual 7, 36, 1, 0, 0, .null)) (.branch 37 (.leaf (36, .aload_n 0, 37, 0, 0, 0, .null)) (.leaf (37, .iload 5, 39, 5, 0, 0, .null)))) (.branch 43 (.branch 42 (.leaf (39, .invokevirtual 7, 42, 1, 0, 0, .null)) (.leaf (42, .aload_n 0, 43, 0, 0, 0, .null))) (.branch 46 (.leaf (43, .getfield 3, 46, 0, 1, 0, .null)) (.leaf (46, .ireturn, 47, 0, 0, 0, .int 0))))))
def tb_X1_four : Lean.RArray am_E := .branch 18 (.branch 8 (.branch 3 (.branch 2 (.leaf (0, .bipush 24, 2, 0, 0, 0, .int 24)) (.leaf (2, .istore_n 2, 3, 2, 0, 0, .null))) (.branch 4 (.leaf (3, .iload_n 2, 4, 2, 0, 0, .null)) (.branch 7 (.leaf (4, .ifCond .lt 32, 7, 36, 0, 0, .null)) (.leaf (7, .aload_n 0, 8, 0, 0, 0, .null))))) (.branch 15 (.branch 11 (.leaf (8, .getfield 11, 11, 0, 0, 0, .null)) (.branch 12 (.leaf (11, .aload_n 0, 12, 0, 0, 0, .null)) (.leaf (12, .getfield 3, 15, 0, 1, 0, .null)))) (.branch 16 (.leaf (15, .iload_n 1, 16, 1, 0, 0, .null)) (.branch 17 (.leaf (16, .iload_n 2, 17, 2, 0, 0, .null)) (.leaf (17, .ishr, 18, 0, 0, 0, .null)))))) (.branch 25 (.branch 20 (.branch 19 (.leaf (18, .i2b, 19, 0, 0, 0, .null)) (.leaf (19, .bastore, 20, 0, 0, 0, .null))) (.branch 21 (.leaf (20, .aload_n 0, 21, 0, 0, 0, .null)) (.branch 22 (.leaf (21, .dup, 22, 0, 0, 0, .null)) (.leaf (22, .getfield 3, 25, 0, 1, 0, .null))))) (.branch 30 (.branch 26 (.leaf (25, .iconst 1, 26, 0, 0, 0, .int 1)) (.branch 27 (.leaf (26, .iadd, 27, 0, 0, 0, .null)) (.leaf (27, .putfield 3, 30, 0, 1, 0, .int 0)))) (.branch 33 (.leaf (30, .iinc 2 (-8), 33, 2, 0, 0, .int (-8))) (.branch 36 (.leaf (33, .goto (-30), 36, 3, 0, 0, .null)) (.leaf (36, .return_, 37, 0, 0, 0, .int 0))))))
def tb_X1_end : Lean.RArray am_E := .branch 12 (.branch 5 (.branch 1 (.leaf (0, .iload_n 1, 1, 1, 0, 0, .null)) (.branch 4 (.leaf (1, .ifCond .lt 11, 4, 12, 0, 0, .null)) (.leaf (4, .iload_n 1, 5, 1, 0, 0, .null)))) (.branch 6 (.leaf (5, .aload_n 0, 6, 0, 0, 0, .null)) (.branch 9 (.leaf (6, .getfield 3, 9, 0, 1, 0, .null)) (.leaf (9, .if_icmp .le 5, 12, 14, 0, 0, .null))))) (.branch 15 (.branch 13 (.leaf (12, .iconst 0, 13, 0, 0, 0, .int 0)) (.branch 14 (.leaf (13, .ireturn, 14, 0, 0, 0, .float 0)) (.leaf (14, .aload_n 0, 15, 0, 0, 0, .null)))) (.branch 19 (.branch 16 (.leaf (15, .iload_n 1, 16, 1, 0, 0, .null)) (.leaf (16, .putfield 3, 19, 0, 1, 0, .int 0))) (.branch 20 (.leaf (19, .iconst 1, 20, 0, 0, 0, .int 1)) (.leaf (20, .ireturn, 21, 0, 0, 0, .float 0)))))
def tb_X1_rules : Lean.RArray am_E := .branch 44 (.branch 21 (.branch 10 (.branch 5 (.branch 1 (.leaf (0, .aload_n 0, 1, 0, 0, 0, .null)) (.branch 2 (.leaf (1, .aload_n 0, 2, 0, 0, 0, .null)) (.leaf (2, .getfield 3, 5, 0, 1, 0, .null)))) (.branch 8 (.leaf (5, .putfield 18, 8, 0, 2, 0, .int 0)) (.branch 9 (.leaf (8, .aload_n 0, 9, 0, 0, 0, .null)) (.leaf (9, .iconst 0, 10, 0, 0, 0, .int 0))))) (.branch 15 (.branch 13 (.leaf (10, .putfield 3, 13, 0, 1, 0, .int 0)) (.branch 14 (.leaf (13, .aload_n 0, 14, 0, 0, 0, .null)) (.leaf (14, .iconst 0, 15, 0, 0, 0, .int 0)))) (.branch 19 (.branch 18 (.leaf (15, .putfield 81, 18, 0, 7, 0, .int 0)) (.leaf (18, .iconst 0, 19, 0, 0, 0, .int 0))) (.branch 20 (.leaf (19, .istore_n 1, 20, 1, 0, 0, .null)) (.leaf (20, .iload_n 1, 21, 1, 0, 0, .null)))))) (.branch 33 (.branch 26 (.branch 22 (.leaf (21, .aload_n 0, 22, 0, 0, 0, .null)) (.branch 25 (.leaf (22, .getfield 57, 25, 0, 3, 0, .null)) (.leaf (25, .arraylength, 26, 0, 0, 0, .null)))) (.branch 29 (.leaf (26, .if_icmp .ge 24, 29, 50, 0, 0, .null)) (.branch 30 (.leaf (29, .aload_n 0, 30, 0, 0, 0, .null)) (.leaf (30, .getfield 77, 33, 0, 5, 0, .null))))) (.branch 38 (.branch 34 (.leaf (33, .iload_n 1, 34, 1, 0, 0, .null)) (.branch 35 (.leaf (34, .aload_n 0, 35, 0, 0, 0, .null)) (.leaf (35, .getfield 57, 38, 0, 3, 0, .null)))) (.branch 40 (.branch 39 (.leaf (38, .iload_n 1, 39, 1, 0, 0, .null)) (.leaf (39, .aaload, 40, 0, 0, 0, .null))) (.branch 43 (.leaf (40, .getfield 84, 43, 1, 3, 0, .null)) (.leaf (43, .iastore, 44, 0, 0, 0, .null))))))) (.branch 69 (.branch 56 (.branch 51 (.branch 47 (.leaf (44, .iinc 1 1, 47, 1, 0, 0, .int 1)) (.branch 50 (.leaf (47, .goto (-27), 50, 20, 0, 0, .null)) (.leaf (50, .aload_n 0, 51, 0, 0, 0, .null)))) (.branch 54 (.leaf (51, .invokevirtual 87, 54, 4, 0, 0, .null)) (.branch 55 (.leaf (54, .istore_n 1, 55, 1, 0, 0, .null)) (.leaf (55, .aload_n 0, 56, 0, 0, 0, .null))))) (.branch 61 (.branch 59 (.leaf (56, .getfield 77, 59, 0, 5, 0, .null)) (.branch 60 (.leaf (59, .iconst 0, 60, 0, 0, 0, .int 0)) (.leaf (60, .aload_n 0, 61, 0, 0, 0, .null)))) (.branch 65 (.branch 64 (.leaf (61, .getfield 90, 64, 0, 4, 0, .null)) (.leaf (64, .iconst 0, 65, 0, 0, 0, .int 0))) (.branch 66 (.leaf (65, .aload_n 0, 66, 0, 0, 0, .null)) (.leaf (66, .getfield 90, 69, 0, 4, 0, .null)))))) (.branch 78 (.branch 74 (.branch 70 (.leaf (69, .arraylength, 70, 0, 0, 0, .null)) (.branch 73 (.leaf (70, .invokestatic 93, 73, 0, 8, 0, .null)) (.leaf (73, .iload_n 1, 74, 1, 0, 0, .null)))) (.branch 76 (.branch 75 (.leaf (74, .ireturn, 75, 0, 0, 0, .int 0)) (.leaf (75, .astore_n 1, 76, 1, 0, 0, .null))) (.branch 77 (.leaf (76, .aload_n 0, 77, 0, 0, 0, .null)) (.leaf (77, .aload_n 1, 78, 1, 0, 0, .null))))) (.branch 85 (.branch 81 (.leaf (78, .getfield 45, 81, 2, 6, 0, .null)) (.branch 84 (.leaf (81, .putfield 81, 84, 0, 7, 0, .int 0)) (.leaf (84, .iconst (-1), 85, 0, 0, 0, .int (-1))))) (.branch 89 (.branch 86 (.leaf (85, .aload_n 1, 86, 1, 0, 0, .null)) (.leaf (86, .getfield 50, 89, 2, 7, 0, .null))) (.branch 90 (.leaf (89, .isub, 90, 0, 0, 0, .null)) (.leaf (90, .ireturn, 91, 0, 0, 0, .int 0)))))))
def tb_X1_readRules : Lean.RArray am_E := .branch 102 (.branch 50 (.branch 22 (.branch 9 (.branch 3 (.branch 1 (.leaf (0, .iconst 0, 1, 0, 0, 0, .int 0)) (.branch 2 (.leaf (1, .istore_n 1, 2, 1, 0, 0, .null)) (.leaf (2, .iconst 0, 3, 0, 0, 0, .int 0)))) (.branch 5 (.branch 4 (.leaf (3, .istore_n 2, 4, 2, 0, 0, .null)) (.leaf (4, .aload_n 0, 5, 0, 0, 0, .null))) (.branch 6 (.leaf (5, .iconst 0, 6, 0, 0, 0, .int 0)) (.leaf (6, .putfield 15, 9, 0, 8, 0, .int 0))))) (.branch 14 (.branch 10 (.leaf (9, .aload_n 0, 10, 0, 0, 0, .null)) (.branch 13 (.leaf (10, .invokevirtual 53, 13, 5, 0, 0, .null)) (.leaf (13, .aload_n 0, 14, 0, 0, 0, .null)))) (.branch 20 (.branch 17 (.leaf (14, .getfield 28, 17, 0, 10, 0, .null)) (.leaf (17, .ifCond .eq 185, 20, 202, 0, 0, .null))) (.branch 21 (.leaf (20, .iconst (-1), 21, 0, 0, 0, .int (-1))) (.leaf (21, .istore_n 3, 22, 3, 0, 0, .null)))))) (.branch 35 (.branch 27 (.branch 23 (.leaf (22, .iconst 0, 23, 0, 0, 0, .int 0)) (.branch 25 (.leaf (23, .istore 4, 25, 4, 0, 0, .null)) (.leaf (25, .iload 4, 27, 4, 0, 0, .null)))) (.branch 31 (.branch 28 (.leaf (27, .aload_n 0, 28, 0, 0, 0, .null)) (.leaf (28, .getfield 57, 31, 0, 3, 0, .null))) (.branch 32 (.leaf (31, .arraylength, 32, 0, 0, 0, .null)) (.leaf (32, .if_icmp .ge 45, 35, 77, 0, 0, .null))))) (.branch 43 (.branch 39 (.branch 36 (.leaf (35, .aload_n 0, 36, 0, 0, 0, .null)) (.leaf (36, .getfield 28, 39, 0, 10, 0, .null))) (.branch 40 (.leaf (39, .iconst 1, 40, 0, 0, 0, .int 1)) (.leaf (40, .if_icmp .ne 31, 43, 71, 0, 0, .null)))) (.branch 47 (.branch 44 (.leaf (43, .aload_n 0, 44, 0, 0, 0, .null)) (.leaf (44, .getfield 57, 47, 0, 3, 0, .null))) (.branch 49 (.leaf (47, .iload 4, 49, 4, 0, 0, .null)) (.leaf (49, .aaload, 50, 0, 0, 0, .null))))))) (.branch 81 (.branch 65 (.branch 55 (.branch 51 (.leaf (50, .aload_n 0, 51, 0, 0, 0, .null)) (.branch 54 (.leaf (51, .getfield 11, 54, 0, 0, 0, .null)) (.leaf (54, .aload_n 0, 55, 0, 0, 0, .null)))) (.branch 59 (.branch 58 (.leaf (55, .getfield 25, 58, 0, 9, 0, .null)) (.leaf (58, .aload_n 0, 59, 0, 0, 0, .null))) (.branch 62 (.leaf (59, .getfield 15, 62, 0, 8, 0, .null)) (.leaf (62, .invokevirtual 61, 65, 40, 0, 0, .null))))) (.branch 71 (.branch 68 (.leaf (65, .ifCond .eq 6, 68, 71, 0, 0, .null)) (.branch 70 (.leaf (68, .iload 4, 70, 4, 0, 0, .null)) (.leaf (70, .istore_n 3, 71, 3, 0, 0, .null)))) (.branch 77 (.branch 74 (.leaf (71, .iinc 4 1, 74, 4, 0, 0, .int 1)) (.leaf (74, .goto (-49), 77, 25, 0, 0, .null))) (.branch 78 (.leaf (77, .iload_n 3, 78, 3, 0, 0, .null)) (.leaf (78, .ifCond .ge 9, 81, 87, 0, 0, .null)))))) (.branch 90 (.branch 86 (.branch 82 (.leaf (81, .aload_n 0, 82, 0, 0, 0, .null)) (.branch 83 (.leaf (82, .iconst 1, 83, 0, 0, 0, .int 1)) (.leaf (83, .invokevirtual 67, 86, 9, 0, 0, .null)))) (.branch 88 (.branch 87 (.leaf (86, .athrow, 87, 0, 0, 0, .null)) (.leaf (87, .iload_n 1, 88, 1, 0, 0, .null))) (.branch 89 (.leaf (88, .iload_n 3, 89, 3, 0, 0, .null)) (.leaf (89, .ishr, 90, 0, 0, 0, .null))))) (.branch 96 (.branch 92 (.branch 91 (.leaf (90, .iconst 1, 91, 0, 0, 0, .int 1)) (.leaf (91, .iand, 92, 0, 0, 0, .null))) (.branch 93 (.leaf (92, .iconst 1, 93, 0, 0, 0, .int 1)) (.leaf (93, .if_icmp .ne 9, 96, 102, 0, 0, .null)))) (.branch 98 (.branch 97 (.leaf (96, .aload_n 0, 97, 0, 0, 0, .null)) (.leaf (97, .iconst 3, 98, 0, 0, 0, .int 3))) (.branch 101 (.leaf (98, .invokevirtual 67, 101, 9, 0, 0, .null)) (.leaf (101, .athrow, 102, 0, 0, 0, .null)))))))) (.branch 151 (.branch 122 (.branch 109 (.branch 105 (.branch 103 (.leaf (102, .iload_n 1, 103, 1, 0, 0, .null)) (.branch 104 (.leaf (103, .iconst 1, 104, 0, 0, 0, .int 1)) (.leaf (104, .iload_n 3, 105, 3, 0, 0, .null)))) (.branch 107 (.branch 106 (.leaf (105, .ishl, 106, 0, 0, 0, .null)) (.leaf (106, .ior, 107, 0, 0, 0, .null))) (.branch 108 (.leaf (107, .istore_n 1, 108, 1, 0, 0, .null)) (.leaf (108, .aload_n 0, 109, 0, 0, 0, .null))))) (.branch 116 (.branch 112 (.leaf (109, .invokevirtual 53, 112, 5, 0, 0, .null)) (.branch 113 (.leaf (112, .aload_n 0, 113, 0, 0, 0, .null)) (.leaf (113, .getfield 28, 116, 0, 10, 0, .null)))) (.branch 120 (.branch 117 (.leaf (116, .iconst 2, 117, 0, 0, 0, .int 2)) (.leaf (117, .if_icmp .eq 9, 120, 126, 0, 0, .null))) (.branch 121 (.leaf (120, .aload_n 0, 121, 0, 0, 0, .null)) (.leaf (121, .iconst 1, 122, 0, 0, 0, .int 1)))))) (.branch 135 (.branch 127 (.branch 125 (.leaf (122, .invokevirtual 67, 125, 9, 0, 0, .null)) (.branch 126 (.leaf (125, .athrow, 126, 0, 0, 0, .null)) (.leaf (126, .aload_n 0, 127, 0, 0, 0, .null)))) (.branch 131 (.branch 130 (.leaf (127, .getfield 38, 130, 0, 11, 0, .null)) (.leaf (130, .aload_n 0, 131, 0, 0, 0, .null))) (.branch 134 (.leaf (131, .getfield 57, 134, 0, 3, 0, .null)) (.leaf (134, .iload_n 3, 135, 3, 0, 0, .null))))) (.branch 143 (.branch 139 (.branch 136 (.leaf (135, .aaload, 136, 0, 0, 0, .null)) (.leaf (136, .getfield 71, 139, 1, 1, 0, .null))) (.branch 142 (.leaf (139, .if_icmp .lt 19, 142, 158, 0, 0, .null)) (.leaf (142, .aload_n 0, 143, 0, 0, 0, .null)))) (.branch 147 (.branch 146 (.leaf (143, .getfield 38, 146, 0, 11, 0, .null)) (.leaf (146, .aload_n 0, 147, 0, 0, 0, .null))) (.branch 150 (.leaf (147, .getfield 57, 150, 0, 3, 0, .null)) (.leaf (150, .iload_n 3, 151, 3, 0, 0, .null))))))) (.branch 175 (.branch 164 (.branch 158 (.branch 152 (.leaf (151, .aaload, 152, 0, 0, 0, .null)) (.branch 155 (.leaf (152, .getfield 74, 155, 1, 2, 0, .null)) (.leaf (155, .if_icmp .le 9, 158, 164, 0, 0, .null)))) (.branch 160 (.branch 159 (.leaf (158, .aload_n 0, 159, 0, 0, 0, .null)) (.leaf (159, .iconst 2, 160, 0, 0, 0, .int 2))) (.branch 163 (.leaf (160, .invokevirtual 67, 163, 9, 0, 0, .null)) (.leaf (163, .athrow, 164, 0, 0, 0, .null))))) (.branch 169 (.branch 165 (.leaf (164, .aload_n 0, 165, 0, 0, 0, .null)) (.branch 168 (.leaf (165, .getfield 77, 168, 0, 5, 0, .null)) (.leaf (168, .iload_n 3, 169, 3, 0, 0, .null)))) (.branch 173 (.branch 170 (.leaf (169, .aload_n 0, 170, 0, 0, 0, .null)) (.leaf (170, .getfield 38, 173, 0, 11, 0, .null))) (.branch 174 (.leaf (173, .iastore, 174, 0, 0, 0, .null)) (.leaf (174, .aload_n 0, 175, 0, 0, 0, .null)))))) (.branch 188 (.branch 182 (.branch 178 (.leaf (175, .invokevirtual 53, 178, 5, 0, 0, .null)) (.branch 179 (.leaf (178, .aload_n 0, 179, 0, 0, 0, .null)) (.leaf (179, .getfield 28, 182, 0, 10, 0, .null)))) (.branch 186 (.branch 183 (.leaf (182, .iconst 3, 183, 0, 0, 0, .int 3)) (.leaf (183, .if_icmp .eq 9, 186, 192, 0, 0, .null))) (.branch 187 (.leaf (186, .aload_n 0, 187, 0, 0, 0, .null)) (.leaf (187, .iconst 1, 188, 0, 0, 0, .int 1))))) (.branch 196 (.branch 192 (.branch 191 (.leaf (188, .invokevirtual 67, 191, 9, 0, 0, .null)) (.leaf (191, .athrow, 192, 0, 0, 0, .null))) (.branch 193 (.leaf (192, .aload_n 0, 193, 0, 0, 0, .null)) (.leaf (193, .invokevirtual 53, 196, 5, 0, 0, .null)))) (.branch 202 (.branch 199 (.leaf (196, .iinc 2 1, 199, 2, 0, 0, .int 1)) (.leaf (199, .goto (-186), 202, 13, 0, 0, .null))) (.branch 203 (.leaf (202, .iload_n 2, 203, 2, 0, 0, .null)) (.leaf (203, .ireturn, 204, 0, 0, 0, .int 0))))))))
def tb_X1_nextToken : Lean.RArray am_E := .branch 140 (.branch 72 (.branch 33 (.branch 18 (.branch 9 (.branch 4 (.branch 1 (.leaf (0, .aload_n 0, 1, 0, 0, 0, .null)) (.leaf (1, .invokevirtual 21, 4, 6, 0, 0, .null))) (.branch 6 (.leaf (4, .bipush 32, 6, 0, 0, 0, .int 32)) (.leaf (6, .if_icmp .eq 12, 9, 18, 0, 0, .null)))) (.branch 13 (.branch 10 (.leaf (9, .aload_n 0, 10, 0, 0, 0, .null)) (.leaf (10, .invokevirtual 21, 13, 6, 0, 0, .null))) (.branch 15 (.leaf (13, .bipush 10, 15, 0, 0, 0, .int 10)) (.leaf (15, .if_icmp .ne 16, 18, 31, 0, 0, .null))))) (.branch 24 (.branch 20 (.branch 19 (.leaf (18, .aload_n 0, 19, 0, 0, 0, .null)) (.leaf (19, .dup, 20, 0, 0, 0, .null))) (.branch 23 (.leaf (20, .getfield 15, 23, 0, 8, 0, .null)) (.leaf (23, .iconst 1, 24, 0, 0, 0, .int 1)))) (.branch 28 (.branch 25 (.leaf (24, .iadd, 25, 0, 0, 0, .null)) (.leaf (25, .putfield 15, 28, 0, 8, 0, .int 0))) (.branch 31 (.leaf (28, .goto (-28), 31, 0, 0, 0, .null)) (.branch 32 (.leaf (31, .aload_n 0, 32, 0, 0, 0, .null)) (.leaf (32, .aload_n 0, 33, 0, 0, 0, .null))))))) (.branch 53 (.branch 43 (.branch 39 (.branch 36 (.leaf (33, .getfield 15, 36, 0, 8, 0, .null)) (.leaf (36, .putfield 25, 39, 0, 9, 0, .int 0))) (.branch 40 (.leaf (39, .aload_n 0, 40, 0, 0, 0, .null)) (.leaf (40, .getfield 18, 43, 0, 2, 0, .null)))) (.branch 49 (.branch 46 (.leaf (43, .sipush 160, 46, 0, 0, 0, .int 160)) (.leaf (46, .if_icmp .le 26, 49, 72, 0, 0, .null))) (.branch 50 (.leaf (49, .aload_n 0, 50, 0, 0, 0, .null)) (.leaf (50, .getfield 15, 53, 0, 8, 0, .null))))) (.branch 63 (.branch 59 (.branch 56 (.leaf (53, .sipush 160, 56, 0, 0, 0, .int 160)) (.leaf (56, .if_icmp .lt 16, 59, 72, 0, 0, .null))) (.branch 60 (.leaf (59, .aload_n 0, 60, 0, 0, 0, .null)) (.leaf (60, .sipush 160, 63, 0, 0, 0, .int 160)))) (.branch 67 (.branch 66 (.leaf (63, .putfield 25, 66, 0, 9, 0, .int 0)) (.leaf (66, .aload_n 0, 67, 0, 0, 0, .null))) (.branch 68 (.leaf (67, .iconst 4, 68, 0, 0, 0, .int 4)) (.branch 71 (.leaf (68, .putfield 28, 71, 0, 10, 0, .int 0)) (.leaf (71, .return_, 72, 0, 0, 0, .int 0)))))))) (.branch 107 (.branch 86 (.branch 78 (.branch 76 (.branch 73 (.leaf (72, .aload_n 0, 73, 0, 0, 0, .null)) (.leaf (73, .invokevirtual 21, 76, 6, 0, 0, .null))) (.branch 77 (.leaf (76, .istore_n 1, 77, 1, 0, 0, .null)) (.leaf (77, .iload_n 1, 78, 1, 0, 0, .null)))) (.branch 82 (.branch 81 (.leaf (78, .ifCond .ge 11, 81, 89, 0, 0, .null)) (.leaf (81, .aload_n 0, 82, 0, 0, 0, .null))) (.branch 83 (.leaf (82, .iconst 0, 83, 0, 0, 0, .int 0)) (.leaf (83, .putfield 28, 86, 0, 10, 0, .int 0))))) (.branch 96 (.branch 90 (.branch 89 (.leaf (86, .goto 181, 89, 267, 0, 0, .null)) (.leaf (89, .iload_n 1, 90, 1, 0, 0, .null))) (.branch 93 (.leaf (90, .invokestatic 31, 93, 7, 0, 0, .null)) (.leaf (93, .ifCond .ne 10, 96, 103, 0, 0, .null)))) (.branch 100 (.branch 97 (.leaf (96, .iload_n 1, 97, 1, 0, 0, .null)) (.leaf (97, .invokestatic 35, 100, 8, 0, 0, .null))) (.branch 103 (.leaf (100, .ifCond .eq 142, 103, 242, 0, 0, .null)) (.branch 104 (.leaf (103, .iload_n 1, 104, 1, 0, 0, .null)) (.leaf (104, .invokestatic 31, 107, 7, 0, 0, .null))))))) (.branch 119 (.branch 111 (.branch 109 (.branch 108 (.leaf (107, .istore_n 2, 108, 2, 0, 0, .null)) (.leaf (108, .iconst 1, 109, 0, 0, 0, .int 1))) (.branch 110 (.leaf (109, .istore_n 3, 110, 3, 0, 0, .null)) (.leaf (110, .aload_n 0, 111, 0, 0, 0, .null)))) (.branch 115 (.branch 112 (.leaf (111, .iconst 0, 112, 0, 0, 0, .int 0)) (.leaf (112, .putfield 38, 115, 0, 11, 0, .int 0))) (.branch 116 (.leaf (115, .aload_n 0, 116, 0, 0, 0, .null)) (.leaf (116, .invokevirtual 21, 119, 6, 0, 0, .null))))) (.branch 129 (.branch 125 (.branch 122 (.leaf (119, .invokestatic 31, 122, 7, 0, 0, .null)) (.leaf (122, .ifCond .ne 13, 125, 135, 0, 0, .null))) (.branch 126 (.leaf (125, .aload_n 0, 126, 0, 0, 0, .null)) (.leaf (126, .invokevirtual 21, 129, 6, 0, 0, .null)))) (.branch 135 (.branch 132 (.leaf (129, .invokestatic 35, 132, 8, 0, 0, .null)) (.leaf (132, .ifCond .eq 69, 135, 201, 0, 0, .null))) (.branch 136 (.leaf (135, .iload_n 3, 136, 3, 0, 0, .null)) (.branch 139 (.leaf (136, .ifCond .eq 18, 139, 154, 0, 0, .null)) (.leaf (139, .aload_n 0, 140, 0, 0, 0, .null))))))))) (.branch 202 (.branch 172 (.branch 156 (.branch 150 (.branch 146 (.branch 143 (.leaf (140, .invokevirtual 21, 143, 6, 0, 0, .null)) (.leaf (143, .invokestatic 31, 146, 7, 0, 0, .null))) (.branch 147 (.leaf (146, .iload_n 2, 147, 2, 0, 0, .null)) (.leaf (147, .if_icmp .ne 7, 150, 154, 0, 0, .null)))) (.branch 154 (.branch 151 (.leaf (150, .iconst 1, 151, 0, 0, 0, .int 1)) (.leaf (151, .goto 4, 154, 155, 0, 0, .null))) (.branch 155 (.leaf (154, .iconst 0, 155, 0, 0, 0, .int 0)) (.leaf (155, .istore_n 3, 156, 3, 0, 0, .null))))) (.branch 164 (.branch 160 (.branch 157 (.leaf (156, .aload_n 0, 157, 0, 0, 0, .null)) (.leaf (157, .getfield 15, 160, 0, 8, 0, .null))) (.branch 161 (.leaf (160, .aload_n 0, 161, 0, 0, 0, .null)) (.leaf (161, .getfield 25, 164, 0, 9, 0, .null)))) (.branch 166 (.branch 165 (.leaf (164, .isub, 165, 0, 0, 0, .null)) (.leaf (165, .iconst 3, 166, 0, 0, 0, .int 3))) (.branch 169 (.leaf (166, .if_icmp .ge 22, 169, 188, 0, 0, .null)) (.branch 170 (.leaf (169, .aload_n 0, 170, 0, 0, 0, .null)) (.leaf (170, .bipush 10, 172, 0, 0, 0, .int 10))))))) (.branch 185 (.branch 178 (.branch 176 (.branch 173 (.leaf (172, .aload_n 0, 173, 0, 0, 0, .null)) (.leaf (173, .getfield 38, 176, 0, 11, 0, .null))) (.branch 177 (.leaf (176, .imul, 177, 0, 0, 0, .null)) (.leaf (177, .aload_n 0, 178, 0, 0, 0, .null)))) (.branch 182 (.branch 181 (.leaf (178, .invokevirtual 21, 181, 6, 0, 0, .null)) (.leaf (181, .iadd, 182, 0, 0, 0, .null))) (.branch 184 (.leaf (182, .bipush 48, 184, 0, 0, 0, .int 48)) (.leaf (184, .isub, 185, 0, 0, 0, .null))))) (.branch 193 (.branch 189 (.branch 188 (.leaf (185, .putfield 38, 188, 0, 11, 0, .int 0)) (.leaf (188, .aload_n 0, 189, 0, 0, 0, .null))) (.branch 190 (.leaf (189, .dup, 190, 0, 0, 0, .null)) (.leaf (190, .getfield 15, 193, 0, 8, 0, .null)))) (.branch 195 (.branch 194 (.leaf (193, .iconst 1, 194, 0, 0, 0, .int 1)) (.leaf (194, .iadd, 195, 0, 0, 0, .null))) (.branch 198 (.leaf (195, .putfield 15, 198, 0, 8, 0, .int 0)) (.branch 201 (.leaf (198, .goto (-83), 201, 115, 0, 0, .null)) (.leaf (201, .aload_n 0, 202, 0, 0, 0, .null)))))))) (.branch 235 (.branch 218 (.branch 210 (.branch 206 (.branch 203 (.leaf (202, .iload_n 3, 203, 3, 0, 0, .null)) (.leaf (203, .ifCond .eq 20, 206, 223, 0, 0, .null))) (.branch 207 (.leaf (206, .iload_n 2, 207, 2, 0, 0, .null)) (.leaf (207, .ifCond .ne 20, 210, 227, 0, 0, .null)))) (.branch 214 (.branch 211 (.leaf (210, .aload_n 0, 211, 0, 0, 0, .null)) (.leaf (211, .getfield 15, 214, 0, 8, 0, .null))) (.branch 215 (.leaf (214, .aload_n 0, 215, 0, 0, 0, .null)) (.leaf (215, .getfield 25, 218, 0, 9, 0, .null))))) (.branch 224 (.branch 220 (.branch 219 (.leaf (218, .isub, 219, 0, 0, 0, .null)) (.leaf (219, .iconst 3, 220, 0, 0, 0, .int 3))) (.branch 223 (.leaf (220, .if_icmp .le 7, 223, 227, 0, 0, .null)) (.leaf (223, .iconst 4, 224, 0, 0, 0, .int 4)))) (.branch 228 (.branch 227 (.leaf (224, .goto 12, 227, 236, 0, 0, .null)) (.leaf (227, .iload_n 2, 228, 2, 0, 0, .null))) (.branch 231 (.leaf (228, .ifCond .eq 7, 231, 235, 0, 0, .null)) (.branch 232 (.leaf (231, .iconst 1, 232, 0, 0, 0, .int 1)) (.leaf (232, .goto 4, 235, 236, 0, 0, .null))))))) (.branch 253 (.branch 243 (.branch 239 (.branch 236 (.leaf (235, .iconst 2, 236, 0, 0, 0, .int 2)) (.leaf (236, .putfield 28, 239, 0, 10, 0, .int 0))) (.branch 242 (.leaf (239, .goto 28, 242, 267, 0, 0, .null)) (.leaf (242, .aload_n 0, 243, 0, 0, 0, .null)))) (.branch 246 (.branch 244 (.leaf (243, .iload_n 1, 244, 1, 0, 0, .null)) (.leaf (244, .bipush 59, 246, 0, 0, 0, .int 59))) (.branch 249 (.leaf (246, .if_icmp .ne 7, 249, 253, 0, 0, .null)) (.branch 250 (.leaf (249, .iconst 3, 250, 0, 0, 0, .int 3)) (.leaf (250, .goto 4, 253, 254, 0, 0, .null)))))) (.branch 259 (.branch 257 (.branch 254 (.leaf (253, .iconst 4, 254, 0, 0, 0, .int 4)) (.leaf (254, .putfield 28, 257, 0, 10, 0, .int 0))) (.branch 258 (.leaf (257, .aload_n 0, 258, 0, 0, 0, .null)) (.leaf (258, .dup, 259, 0, 0, 0, .null)))) (.branch 263 (.branch 262 (.leaf (259, .getfield 15, 262, 0, 8, 0, .null)) (.leaf (262, .iconst 1, 263, 0, 0, 0, .int 1))) (.branch 264 (.leaf (263, .iadd, 264, 0, 0, 0, .null)) (.branch 267 (.leaf (264, .putfield 15, 267, 0, 8, 0, .int 0)) (.leaf (267, .return_, 268, 0, 0, 0, .int 0)))))))))
def tb_X1_peek : Lean.RArray am_E := .branch 15 (.branch 5 (.branch 1 (.leaf (0, .aload_n 0, 1, 0, 0, 0, .null)) (.branch 4 (.leaf (1, .getfield 15, 4, 0, 8, 0, .null)) (.leaf (4, .aload_n 0, 5, 0, 0, 0, .null)))) (.branch 11 (.branch 8 (.leaf (5, .getfield 18, 8, 0, 2, 0, .null)) (.leaf (8, .if_icmp .ge 19, 11, 27, 0, 0, .null))) (.branch 12 (.leaf (11, .aload_n 0, 12, 0, 0, 0, .null)) (.leaf (12, .getfield 11, 15, 0, 0, 0, .null))))) (.branch 23 (.branch 19 (.branch 16 (.leaf (15, .aload_n 0, 16, 0, 0, 0, .null)) (.leaf (16, .getfield 15, 19, 0, 8, 0, .null))) (.branch 20 (.leaf (19, .baload, 20, 0, 0, 0, .null)) (.leaf (20, .sipush 255, 23, 0, 0, 0, .int 255)))) (.branch 27 (.branch 24 (.leaf (23, .iand, 24, 0, 0, 0, .null)) (.leaf (24, .goto 4, 27, 28, 0, 0, .null))) (.branch 28 (.leaf (27, .iconst (-1), 28, 0, 0, 0, .int (-1))) (.leaf (28, .ireturn, 29, 0, 0, 0, .int 0)))))
def tb_X1_isLetter : Lean.RArray am_E := .branch 9 (.branch 3 (.branch 1 (.leaf (0, .iload_n 0, 1, 0, 0, 0, .null)) (.leaf (1, .bipush 97, 3, 0, 0, 0, .int 97))) (.branch 6 (.leaf (3, .if_icmp .lt 13, 6, 16, 0, 0, .null)) (.branch 7 (.leaf (6, .iload_n 0, 7, 0, 0, 0, .null)) (.leaf (7, .bipush 122, 9, 0, 0, 0, .int 122))))) (.branch 13 (.branch 12 (.leaf (9, .if_icmp .gt 7, 12, 16, 0, 0, .null)) (.leaf (12, .iconst 1, 13, 0, 0, 0, .int 1))) (.branch 16 (.leaf (13, .goto 4, 16, 17, 0, 0, .null)) (.branch 17 (.leaf (16, .iconst 0, 17, 0, 0, 0, .int 0)) (.leaf (17, .ireturn, 18, 0, 0, 0, .float 0)))))
def tb_X1_isDigit : Lean.RArray am_E := .branch 9 (.branch 3 (.branch 1 (.leaf (0, .iload_n 0, 1, 0, 0, 0, .null)) (.leaf (1, .bipush 48, 3, 0, 0, 0, .int 48))) (.branch 6 (.leaf (3, .if_icmp .lt 13, 6, 16, 0, 0, .null)) (.branch 7 (.leaf (6, .iload_n 0, 7, 0, 0, 0, .null)) (.leaf (7, .bipush 57, 9, 0, 0, 0, .int 57))))) (.branch 13 (.branch 12 (.leaf (9, .if_icmp .gt 7, 12, 16, 0, 0, .null)) (.leaf (12, .iconst 1, 13, 0, 0, 0, .int 1))) (.branch 16 (.leaf (13, .goto 4, 16, 17, 0, 0, .null)) (.branch 17 (.leaf (16, .iconst 0, 17, 0, 0, 0, .int 0)) (.leaf (17, .ireturn, 18, 0, 0, 0, .float 0)))))
def tb_X1_wrong : Lean.RArray am_E := .branch 12 (.branch 5 (.branch 1 (.leaf (0, .aload_n 0, 1, 0, 0, 0, .null)) (.branch 4 (.leaf (1, .getfield 41, 4, 0, 6, 0, .null)) (.leaf (4, .iload_n 1, 5, 1, 0, 0, .null)))) (.branch 8 (.leaf (5, .putfield 45, 8, 2, 6, 0, .int 0)) (.branch 9 (.leaf (8, .aload_n 0, 9, 0, 0, 0, .null)) (.leaf (9, .getfield 41, 12, 0, 6, 0, .null))))) (.branch 19 (.branch 13 (.leaf (12, .aload_n 0, 13, 0, 0, 0, .null)) (.branch 16 (.leaf (13, .getfield 25, 16, 0, 9, 0, .null)) (.leaf (16, .putfield 50, 19, 2, 7, 0, .int 0)))) (.branch 20 (.leaf (19, .aload_n 0, 20, 0, 0, 0, .null)) (.branch 23 (.leaf (20, .getfield 41, 23, 0, 6, 0, .null)) (.leaf (23, .areturn, 24, 0, 0, 0, .int 0)))))
def tb_X1_fault : Lean.RArray am_E := .branch 1 (.leaf (0, .aload_n 0, 1, 0, 0, 0, .null)) (.branch 4 (.leaf (1, .getfield 81, 4, 0, 7, 0, .null)) (.leaf (4, .ireturn, 5, 0, 0, 0, .int 0)))
def tb_X1_rule : Lean.RArray am_E := .branch 13 (.branch 5 (.branch 1 (.leaf (0, .iload_n 1, 1, 1, 0, 0, .null)) (.branch 4 (.leaf (1, .ifCond .lt 12, 4, 13, 0, 0, .null)) (.leaf (4, .iload_n 1, 5, 1, 0, 0, .null)))) (.branch 9 (.branch 6 (.leaf (5, .aload_n 0, 6, 0, 0, 0, .null)) (.leaf (6, .getfield 90, 9, 0, 4, 0, .null))) (.branch 10 (.leaf (9, .arraylength, 10, 0, 0, 0, .null)) (.leaf (10, .if_icmp .lt 7, 13, 17, 0, 0, .null))))) (.branch 18 (.branch 14 (.leaf (13, .iconst (-1), 14, 0, 0, 0, .int (-1))) (.branch 17 (.leaf (14, .goto 9, 17, 23, 0, 0, .null)) (.leaf (17, .aload_n 0, 18, 0, 0, 0, .null)))) (.branch 22 (.branch 21 (.leaf (18, .getfield 90, 21, 0, 4, 0, .null)) (.leaf (21, .iload_n 1, 22, 1, 0, 0, .null))) (.branch 23 (.leaf (22, .iaload, 23, 0, 0, 0, .null)) (.leaf (23, .ireturn, 24, 0, 0, 0, .int 0)))))
def tb_X1_init : Lean.RArray am_E := .branch 162 (.branch 81 (.branch 41 (.branch 21 (.branch 10 (.branch 4 (.branch 1 (.leaf (0, .aload_n 0, 1, 0, 0, 0, .null)) (.leaf (1, .invokespecial 99, 4, 0, 9, 0, .null))) (.branch 5 (.leaf (4, .aload_n 0, 5, 0, 0, 0, .null)) (.branch 8 (.leaf (5, .sipush 180, 8, 0, 0, 0, .int 180)) (.leaf (8, .newarray .byte, 10, 1, 180, 11, .null))))) (.branch 16 (.branch 13 (.leaf (10, .putfield 11, 13, 0, 0, 1, .null)) (.branch 14 (.leaf (13, .aload_n 0, 14, 0, 0, 0, .null)) (.leaf (14, .bipush 9, 16, 0, 0, 0, .int 9)))) (.branch 19 (.leaf (16, .anewarray 62, 19, 4, 9, 14, .null)) (.branch 20 (.leaf (19, .dup, 20, 0, 0, 0, .null)) (.leaf (20, .iconst 0, 21, 0, 0, 0, .int 0)))))) (.branch 31 (.branch 27 (.branch 24 (.leaf (21, .new 62, 24, 1, 4, 40, .null)) (.branch 25 (.leaf (24, .dup, 25, 0, 0, 0, .null)) (.leaf (25, .ldc 104, 27, 1, 0, 0, .ref 1000000)))) (.branch 28 (.leaf (27, .iconst 1, 28, 0, 0, 0, .int 1)) (.branch 30 (.leaf (28, .bipush 9, 30, 0, 0, 0, .int 9)) (.leaf (30, .iconst 3, 31, 0, 0, 0, .int 3))))) (.branch 36 (.branch 34 (.leaf (31, .invokespecial 106, 34, 41, 0, 0, .null)) (.branch 35 (.leaf (34, .aastore, 35, 0, 0, 0, .null)) (.leaf (35, .dup, 36, 0, 0, 0, .null)))) (.branch 37 (.leaf (36, .iconst 1, 37, 0, 0, 0, .int 1)) (.branch 40 (.leaf (37, .new 62, 40, 1, 4, 41, .null)) (.leaf (40, .dup, 41, 0, 0, 0, .null))))))) (.branch 60 (.branch 51 (.branch 46 (.branch 43 (.leaf (41, .ldc 109, 43, 1, 0, 0, .ref 1000001)) (.branch 44 (.leaf (43, .iconst 0, 44, 0, 0, 0, .int 0)) (.leaf (44, .bipush 9, 46, 0, 0, 0, .int 9)))) (.branch 47 (.leaf (46, .iconst 1, 47, 0, 0, 0, .int 1)) (.branch 50 (.leaf (47, .invokespecial 106, 50, 41, 0, 0, .null)) (.leaf (50, .aastore, 51, 0, 0, 0, .null))))) (.branch 56 (.branch 52 (.leaf (51, .dup, 52, 0, 0, 0, .null)) (.branch 53 (.leaf (52, .iconst 2, 53, 0, 0, 0, .int 2)) (.leaf (53, .new 62, 56, 1, 4, 42, .null)))) (.branch 57 (.leaf (56, .dup, 57, 0, 0, 0, .null)) (.branch 59 (.leaf (57, .ldc 111, 59, 1, 0, 0, .ref 1000002)) (.leaf (59, .iconst 0, 60, 0, 0, 0, .int 0)))))) (.branch 71 (.branch 68 (.branch 63 (.leaf (60, .sipush 200, 63, 0, 0, 0, .int 200)) (.branch 65 (.leaf (63, .bipush 60, 65, 0, 0, 0, .int 60)) (.leaf (65, .invokespecial 106, 68, 41, 0, 0, .null)))) (.branch 69 (.leaf (68, .aastore, 69, 0, 0, 0, .null)) (.branch 70 (.leaf (69, .dup, 70, 0, 0, 0, .null)) (.leaf (70, .iconst 3, 71, 0, 0, 0, .int 3))))) (.branch 77 (.branch 74 (.leaf (71, .new 62, 74, 1, 4, 43, .null)) (.branch 75 (.leaf (74, .dup, 75, 0, 0, 0, .null)) (.leaf (75, .ldc 113, 77, 1, 0, 0, .ref 1000003)))) (.branch 78 (.leaf (77, .iconst 0, 78, 0, 0, 0, .int 0)) (.branch 80 (.leaf (78, .bipush 50, 80, 0, 0, 0, .int 50)) (.leaf (80, .iconst 5, 81, 0, 0, 0, .int 5)))))))) (.branch 118 (.branch 100 (.branch 90 (.branch 85 (.branch 84 (.leaf (81, .invokespecial 106, 84, 41, 0, 0, .null)) (.leaf (84, .aastore, 85, 0, 0, 0, .null))) (.branch 86 (.leaf (85, .dup, 86, 0, 0, 0, .null)) (.branch 87 (.leaf (86, .iconst 4, 87, 0, 0, 0, .int 4)) (.leaf (87, .new 62, 90, 1, 4, 44, .null))))) (.branch 94 (.branch 91 (.leaf (90, .dup, 91, 0, 0, 0, .null)) (.branch 93 (.leaf (91, .ldc 115, 93, 1, 0, 0, .ref 1000004)) (.leaf (93, .iconst 0, 94, 0, 0, 0, .int 0)))) (.branch 96 (.leaf (94, .bipush 9, 96, 0, 0, 0, .int 9)) (.branch 97 (.leaf (96, .iconst 2, 97, 0, 0, 0, .int 2)) (.leaf (97, .invokespecial 106, 100, 41, 0, 0, .null)))))) (.branch 109 (.branch 103 (.branch 101 (.leaf (100, .aastore, 101, 0, 0, 0, .null)) (.branch 102 (.leaf (101, .dup, 102, 0, 0, 0, .null)) (.leaf (102, .iconst 5, 103, 0, 0, 0, .int 5)))) (.branch 106 (.leaf (103, .new 62, 106, 1, 4, 45, .null)) (.branch 107 (.leaf (106, .dup, 107, 0, 0, 0, .null)) (.leaf (107, .ldc 117, 109, 1, 0, 0, .ref 1000005))))) (.branch 113 (.branch 110 (.leaf (109, .iconst 0, 110, 0, 0, 0, .int 0)) (.branch 112 (.leaf (110, .bipush 9, 112, 0, 0, 0, .int 9)) (.leaf (112, .iconst 1, 113, 0, 0, 0, .int 1)))) (.branch 116 (.leaf (113, .invokespecial 106, 116, 41, 0, 0, .null)) (.branch 117 (.leaf (116, .aastore, 117, 0, 0, 0, .null)) (.leaf (117, .dup, 118, 0, 0, 0, .null))))))) (.branch 141 (.branch 129 (.branch 124 (.branch 120 (.leaf (118, .bipush 6, 120, 0, 0, 0, .int 6)) (.branch 123 (.leaf (120, .new 62, 123, 1, 4, 46, .null)) (.leaf (123, .dup, 124, 0, 0, 0, .null)))) (.branch 126 (.leaf (124, .ldc 119, 126, 1, 0, 0, .ref 1000006)) (.branch 127 (.leaf (126, .iconst 1, 127, 0, 0, 0, .int 1)) (.leaf (127, .bipush 101, 129, 0, 0, 0, .int 101))))) (.branch 135 (.branch 131 (.leaf (129, .bipush 80, 131, 0, 0, 0, .int 80)) (.branch 134 (.leaf (131, .invokespecial 106, 134, 41, 0, 0, .null)) (.leaf (134, .aastore, 135, 0, 0, 0, .null)))) (.branch 136 (.leaf (135, .dup, 136, 0, 0, 0, .null)) (.branch 138 (.leaf (136, .bipush 7, 138, 0, 0, 0, .int 7)) (.leaf (138, .new 62, 141, 1, 4, 47, .null)))))) (.branch 152 (.branch 145 (.branch 142 (.leaf (141, .dup, 142, 0, 0, 0, .null)) (.branch 144 (.leaf (142, .ldc 121, 144, 1, 0, 0, .ref 1000007)) (.leaf (144, .iconst 0, 145, 0, 0, 0, .int 0)))) (.branch 147 (.leaf (145, .bipush 100, 147, 0, 0, 0, .int 100)) (.branch 149 (.leaf (147, .bipush 30, 149, 0, 0, 0, .int 30)) (.leaf (149, .invokespecial 106, 152, 41, 0, 0, .null))))) (.branch 156 (.branch 153 (.leaf (152, .aastore, 153, 0, 0, 0, .null)) (.branch 154 (.leaf (153, .dup, 154, 0, 0, 0, .null)) (.leaf (154, .bipush 8, 156, 0, 0, 0, .int 8)))) (.branch 159 (.leaf (156, .new 62, 159, 1, 4, 48, .null)) (.branch 160 (.leaf (159, .dup, 160, 0, 0, 0, .null)) (.leaf (160, .ldc 123, 162, 1, 0, 0, .ref 1000008))))))))) (.branch 259 (.branch 209 (.branch 182 (.branch 170 (.branch 165 (.branch 163 (.leaf (162, .iconst 1, 163, 0, 0, 0, .int 1)) (.leaf (163, .bipush 20, 165, 0, 0, 0, .int 20))) (.branch 166 (.leaf (165, .iconst 4, 166, 0, 0, 0, .int 4)) (.branch 169 (.leaf (166, .invokespecial 106, 169, 41, 0, 0, .null)) (.leaf (169, .aastore, 170, 0, 0, 0, .null))))) (.branch 176 (.branch 173 (.leaf (170, .putfield 57, 173, 0, 3, 1, .null)) (.branch 174 (.leaf (173, .aload_n 0, 174, 0, 0, 0, .null)) (.leaf (174, .bipush 9, 176, 0, 0, 0, .int 9)))) (.branch 178 (.leaf (176, .newarray .int, 178, 0, 9, 15, .null)) (.branch 181 (.leaf (178, .putfield 90, 181, 0, 4, 1, .null)) (.leaf (181, .aload_n 0, 182, 0, 0, 0, .null)))))) (.branch 194 (.branch 189 (.branch 184 (.leaf (182, .bipush 9, 184, 0, 0, 0, .int 9)) (.branch 186 (.leaf (184, .newarray .int, 186, 0, 9, 16, .null)) (.leaf (186, .putfield 77, 189, 0, 5, 1, .null)))) (.branch 190 (.leaf (189, .aload_n 0, 190, 0, 0, 0, .null)) (.branch 193 (.leaf (190, .new 46, 193, 2, 8, 17, .null)) (.leaf (193, .dup, 194, 0, 0, 0, .null))))) (.branch 201 (.branch 197 (.leaf (194, .invokespecial 125, 197, 42, 0, 0, .null)) (.branch 200 (.leaf (197, .putfield 41, 200, 0, 6, 1, .null)) (.leaf (200, .aload_n 0, 201, 0, 0, 0, .null)))) (.branch 203 (.leaf (201, .bipush 20, 203, 0, 0, 0, .int 20)) (.branch 206 (.leaf (203, .anewarray 126, 206, 5, 20, 23, .null)) (.leaf (206, .putfield 128, 209, 0, 12, 1, .null))))))) (.branch 235 (.branch 221 (.branch 215 (.branch 210 (.leaf (209, .aload_n 0, 210, 0, 0, 0, .null)) (.branch 212 (.leaf (210, .bipush 8, 212, 0, 0, 0, .int 8)) (.leaf (212, .anewarray 132, 215, 6, 8, 24, .null)))) (.branch 218 (.leaf (215, .putfield 134, 218, 0, 13, 1, .null)) (.branch 219 (.leaf (218, .aload_n 0, 219, 0, 0, 0, .null)) (.leaf (219, .bipush 16, 221, 0, 0, 0, .int 16))))) (.branch 227 (.branch 223 (.leaf (221, .newarray .int, 223, 0, 16, 25, .null)) (.branch 226 (.leaf (223, .putfield 138, 226, 0, 14, 1, .null)) (.leaf (226, .aload_n 0, 227, 0, 0, 0, .null)))) (.branch 230 (.leaf (227, .sipush 576, 230, 0, 0, 0, .int 576)) (.branch 232 (.leaf (230, .newarray .int, 232, 0, 576, 30, .null)) (.leaf (232, .putfield 141, 235, 0, 19, 1, .null)))))) (.branch 246 (.branch 240 (.branch 236 (.leaf (235, .aload_n 0, 236, 0, 0, 0, .null)) (.branch 238 (.leaf (236, .bipush 17, 238, 0, 0, 0, .int 17)) (.leaf (238, .newarray .int, 240, 0, 17, 31, .null)))) (.branch 243 (.leaf (240, .putfield 144, 243, 0, 20, 1, .null)) (.branch 244 (.leaf (243, .aload_n 0, 244, 0, 0, 0, .null)) (.leaf (244, .bipush 37, 246, 0, 0, 0, .int 37))))) (.branch 252 (.branch 248 (.leaf (246, .newarray .int, 248, 0, 37, 32, .null)) (.branch 251 (.leaf (248, .putfield 147, 251, 0, 21, 1, .null)) (.leaf (251, .aload_n 0, 252, 0, 0, 0, .null)))) (.branch 254 (.leaf (252, .bipush 37, 254, 0, 0, 0, .int 37)) (.branch 256 (.leaf (254, .newarray .int, 256, 0, 37, 33, .null)) (.leaf (256, .putfield 150, 259, 0, 22, 1, .null)))))))) (.branch 302 (.branch 280 (.branch 268 (.branch 262 (.branch 260 (.leaf (259, .aload_n 0, 260, 0, 0, 0, .null)) (.leaf (260, .bipush 37, 262, 0, 0, 0, .int 37))) (.branch 264 (.leaf (262, .newarray .int, 264, 0, 37, 34, .null)) (.branch 267 (.leaf (264, .putfield 153, 267, 0, 23, 1, .null)) (.leaf (267, .aload_n 0, 268, 0, 0, 0, .null))))) (.branch 275 (.branch 270 (.leaf (268, .bipush 37, 270, 0, 0, 0, .int 37)) (.branch 272 (.leaf (270, .newarray .int, 272, 0, 37, 35, .null)) (.leaf (272, .putfield 156, 275, 0, 24, 1, .null)))) (.branch 276 (.leaf (275, .aload_n 0, 276, 0, 0, 0, .null)) (.branch 278 (.leaf (276, .bipush 37, 278, 0, 0, 0, .int 37)) (.leaf (278, .newarray .boolean, 280, 2, 37, 36, .null)))))) (.branch 292 (.branch 286 (.branch 283 (.leaf (280, .putfield 159, 283, 0, 25, 1, .null)) (.branch 284 (.leaf (283, .aload_n 0, 284, 0, 0, 0, .null)) (.leaf (284, .bipush 36, 286, 0, 0, 0, .int 36)))) (.branch 288 (.leaf (286, .newarray .int, 288, 0, 36, 37, .null)) (.branch 291 (.leaf (288, .putfield 163, 291, 0, 26, 1, .null)) (.leaf (291, .iconst 0, 292, 0, 0, 0, .int 0))))) (.branch 295 (.branch 293 (.leaf (292, .istore_n 1, 293, 1, 0, 0, .null)) (.branch 294 (.leaf (293, .iload_n 1, 294, 1, 0, 0, .null)) (.leaf (294, .aload_n 0, 295, 0, 0, 0, .null)))) (.branch 298 (.leaf (295, .getfield 57, 298, 0, 3, 0, .null)) (.branch 299 (.leaf (298, .arraylength, 299, 0, 0, 0, .null)) (.leaf (299, .if_icmp .ge 24, 302, 323, 0, 0, .null))))))) (.branch 324 (.branch 312 (.branch 307 (.branch 303 (.leaf (302, .aload_n 0, 303, 0, 0, 0, .null)) (.branch 306 (.leaf (303, .getfield 90, 306, 0, 4, 0, .null)) (.leaf (306, .iload_n 1, 307, 1, 0, 0, .null)))) (.branch 308 (.leaf (307, .aload_n 0, 308, 0, 0, 0, .null)) (.branch 311 (.leaf (308, .getfield 57, 311, 0, 3, 0, .null)) (.leaf (311, .iload_n 1, 312, 1, 0, 0, .null))))) (.branch 317 (.branch 313 (.leaf (312, .aaload, 313, 0, 0, 0, .null)) (.branch 316 (.leaf (313, .getfield 84, 316, 1, 3, 0, .null)) (.leaf (316, .iastore, 317, 0, 0, 0, .null)))) (.branch 320 (.leaf (317, .iinc 1 1, 320, 1, 0, 0, .int 1)) (.branch 323 (.leaf (320, .goto (-27), 323, 293, 0, 0, .null)) (.leaf (323, .iconst 0, 324, 0, 0, 0, .int 0)))))) (.branch 335 (.branch 328 (.branch 325 (.leaf (324, .istore_n 1, 325, 1, 0, 0, .null)) (.branch 326 (.leaf (325, .iload_n 1, 326, 1, 0, 0, .null)) (.leaf (326, .bipush 16, 328, 0, 0, 0, .int 16)))) (.branch 331 (.leaf (328, .if_icmp .ge 16, 331, 344, 0, 0, .null)) (.branch 332 (.leaf (331, .aload_n 0, 332, 0, 0, 0, .null)) (.leaf (332, .getfield 138, 335, 0, 14, 0, .null))))) (.branch 338 (.branch 336 (.leaf (335, .iload_n 1, 336, 1, 0, 0, .null)) (.branch 337 (.leaf (336, .iconst (-1), 337, 0, 0, 0, .int (-1))) (.leaf (337, .iastore, 338, 0, 0, 0, .null)))) (.branch 341 (.leaf (338, .iinc 1 1, 341, 1, 0, 0, .int 1)) (.branch 344 (.leaf (341, .goto (-16), 344, 325, 0, 0, .null)) (.leaf (344, .return_, 345, 0, 0, 0, .int 0)))))))))
def tb_X1_umpire : Lean.RArray am_E := .branch 50 (.branch 23 (.branch 11 (.branch 6 (.branch 1 (.leaf (0, .aload_n 0, 1, 0, 0, 0, .null)) (.branch 4 (.leaf (1, .getfield 166, 4, 0, 15, 0, .null)) (.leaf (4, .bipush 20, 6, 0, 0, 0, .int 20)))) (.branch 9 (.leaf (6, .if_icmp .eq 44, 9, 50, 0, 0, .null)) (.branch 10 (.leaf (9, .iload_n 1, 10, 1, 0, 0, .null)) (.leaf (10, .iconst 0, 11, 0, 0, 0, .int 0))))) (.branch 19 (.branch 13 (.leaf (11, .bipush 99, 13, 0, 0, 0, .int 99)) (.branch 16 (.leaf (13, .invokestatic 169, 16, 14, 0, 0, .null)) (.leaf (16, .ifCond .eq 34, 19, 50, 0, 0, .null)))) (.branch 20 (.leaf (19, .iload_n 2, 20, 2, 0, 0, .null)) (.branch 21 (.leaf (20, .iconst 0, 21, 0, 0, 0, .int 0)) (.leaf (21, .bipush 99, 23, 0, 0, 0, .int 99)))))) (.branch 35 (.branch 30 (.branch 26 (.leaf (23, .invokestatic 169, 26, 14, 0, 0, .null)) (.branch 29 (.leaf (26, .ifCond .eq 24, 29, 50, 0, 0, .null)) (.leaf (29, .iload_n 3, 30, 3, 0, 0, .null)))) (.branch 31 (.leaf (30, .iconst 1, 31, 0, 0, 0, .int 1)) (.branch 32 (.leaf (31, .iconst 4, 32, 0, 0, 0, .int 4)) (.leaf (32, .invokestatic 169, 35, 14, 0, 0, .null))))) (.branch 41 (.branch 38 (.leaf (35, .ifCond .eq 15, 38, 50, 0, 0, .null)) (.branch 40 (.leaf (38, .iload 4, 40, 4, 0, 0, .null)) (.leaf (40, .iconst 0, 41, 0, 0, 0, .int 0)))) (.branch 44 (.leaf (41, .sipush 4095, 44, 0, 0, 0, .int 4095)) (.branch 47 (.leaf (44, .invokestatic 169, 47, 14, 0, 0, .null)) (.leaf (47, .ifCond .ne 5, 50, 52, 0, 0, .null))))))) (.branch 69 (.branch 60 (.branch 53 (.branch 51 (.leaf (50, .iconst (-1), 51, 0, 0, 0, .int (-1))) (.branch 52 (.leaf (51, .ireturn, 52, 0, 0, 0, .int 0)) (.leaf (52, .aload_n 0, 53, 0, 0, 0, .null)))) (.branch 56 (.leaf (53, .getfield 128, 56, 0, 12, 0, .null)) (.branch 57 (.leaf (56, .aload_n 0, 57, 0, 0, 0, .null)) (.leaf (57, .getfield 166, 60, 0, 15, 0, .null))))) (.branch 65 (.branch 63 (.leaf (60, .new 126, 63, 4, 11, 1, .null)) (.branch 64 (.leaf (63, .dup, 64, 0, 0, 0, .null)) (.leaf (64, .iload_n 1, 65, 1, 0, 0, .null)))) (.branch 66 (.leaf (65, .iload_n 2, 66, 2, 0, 0, .null)) (.branch 67 (.leaf (66, .iload_n 3, 67, 3, 0, 0, .null)) (.leaf (67, .iload 4, 69, 4, 0, 0, .null)))))) (.branch 79 (.branch 74 (.branch 72 (.leaf (69, .invokespecial 176, 72, 94, 0, 0, .null)) (.branch 73 (.leaf (72, .aastore, 73, 0, 0, 0, .null)) (.leaf (73, .aload_n 0, 74, 0, 0, 0, .null)))) (.branch 75 (.leaf (74, .dup, 75, 0, 0, 0, .null)) (.branch 78 (.leaf (75, .getfield 166, 78, 0, 15, 0, .null)) (.leaf (78, .iconst 1, 79, 0, 0, 0, .int 1))))) (.branch 84 (.branch 80 (.leaf (79, .iadd, 80, 0, 0, 0, .null)) (.branch 83 (.leaf (80, .putfield 166, 83, 0, 15, 0, .int 0)) (.leaf (83, .aload_n 0, 84, 0, 0, 0, .null)))) (.branch 88 (.branch 87 (.leaf (84, .getfield 166, 87, 0, 15, 0, .null)) (.leaf (87, .iconst 1, 88, 0, 0, 0, .int 1))) (.branch 89 (.leaf (88, .isub, 89, 0, 0, 0, .null)) (.leaf (89, .ireturn, 90, 0, 0, 0, .int 0)))))))
def tb_X1_isIn : Lean.RArray am_E := .branch 7 (.branch 2 (.branch 1 (.leaf (0, .iload_n 0, 1, 0, 0, 0, .null)) (.leaf (1, .iload_n 1, 2, 1, 0, 0, .null))) (.branch 5 (.leaf (2, .if_icmp .lt 12, 5, 14, 0, 0, .null)) (.branch 6 (.leaf (5, .iload_n 0, 6, 0, 0, 0, .null)) (.leaf (6, .iload_n 2, 7, 2, 0, 0, .null))))) (.branch 11 (.branch 10 (.leaf (7, .if_icmp .gt 7, 10, 14, 0, 0, .null)) (.leaf (10, .iconst 1, 11, 0, 0, 0, .int 1))) (.branch 14 (.leaf (11, .goto 4, 14, 15, 0, 0, .null)) (.branch 15 (.leaf (14, .iconst 0, 15, 0, 0, 0, .int 0)) (.leaf (15, .ireturn, 16, 0, 0, 0, .float 0)))))
def tb_X1_away : Lean.RArray am_E := .branch 37 (.branch 21 (.branch 9 (.branch 2 (.branch 1 (.leaf (0, .aload_n 0, 1, 0, 0, 0, .null)) (.leaf (1, .iload_n 1, 2, 1, 0, 0, .null))) (.branch 5 (.leaf (2, .invokevirtual 179, 5, 16, 0, 0, .null)) (.branch 8 (.leaf (5, .ifCond .eq 51, 8, 56, 0, 0, .null)) (.leaf (8, .iload_n 2, 9, 2, 0, 0, .null))))) (.branch 13 (.branch 10 (.leaf (9, .aload_n 0, 10, 0, 0, 0, .null)) (.leaf (10, .getfield 182, 13, 0, 17, 0, .null))) (.branch 15 (.leaf (13, .bipush 99, 15, 0, 0, 0, .int 99)) (.branch 18 (.leaf (15, .invokestatic 169, 18, 14, 0, 0, .null)) (.leaf (18, .ifCond .eq 38, 21, 56, 0, 0, .null)))))) (.branch 30 (.branch 25 (.branch 22 (.leaf (21, .aload_n 0, 22, 0, 0, 0, .null)) (.leaf (22, .getfield 128, 25, 0, 12, 0, .null))) (.branch 26 (.leaf (25, .iload_n 1, 26, 1, 0, 0, .null)) (.branch 27 (.leaf (26, .aaload, 27, 0, 0, 0, .null)) (.leaf (27, .getfield 185, 30, 4, 3, 0, .null))))) (.branch 32 (.branch 31 (.leaf (30, .iload_n 2, 31, 2, 0, 0, .null)) (.leaf (31, .baload, 32, 0, 0, 0, .null))) (.branch 33 (.leaf (32, .iload_n 3, 33, 3, 0, 0, .null)) (.branch 36 (.leaf (33, .if_icmp .eq 23, 36, 56, 0, 0, .null)) (.leaf (36, .iload_n 2, 37, 2, 0, 0, .null))))))) (.branch 57 (.branch 48 (.branch 41 (.branch 38 (.leaf (37, .aload_n 0, 38, 0, 0, 0, .null)) (.leaf (38, .getfield 182, 41, 0, 17, 0, .null))) (.branch 44 (.leaf (41, .if_icmp .ne 17, 44, 58, 0, 0, .null)) (.branch 45 (.leaf (44, .aload_n 0, 45, 0, 0, 0, .null)) (.leaf (45, .getfield 128, 48, 0, 12, 0, .null))))) (.branch 50 (.branch 49 (.leaf (48, .iload_n 1, 49, 1, 0, 0, .null)) (.leaf (49, .aaload, 50, 0, 0, 0, .null))) (.branch 53 (.leaf (50, .getfield 188, 53, 4, 6, 0, .null)) (.branch 56 (.leaf (53, .ifCond .lt 5, 56, 58, 0, 0, .null)) (.leaf (56, .iconst 0, 57, 0, 0, 0, .int 0)))))) (.branch 64 (.branch 59 (.branch 58 (.leaf (57, .ireturn, 58, 0, 0, 0, .float 0)) (.leaf (58, .aload_n 0, 59, 0, 0, 0, .null))) (.branch 62 (.leaf (59, .getfield 128, 62, 0, 12, 0, .null)) (.branch 63 (.leaf (62, .iload_n 1, 63, 1, 0, 0, .null)) (.leaf (63, .aaload, 64, 0, 0, 0, .null))))) (.branch 69 (.branch 67 (.leaf (64, .getfield 185, 67, 4, 3, 0, .null)) (.branch 68 (.leaf (67, .iload_n 2, 68, 2, 0, 0, .null)) (.leaf (68, .iload_n 3, 69, 3, 0, 0, .null)))) (.branch 70 (.leaf (69, .bastore, 70, 0, 0, 0, .null)) (.branch 71 (.leaf (70, .iconst 1, 71, 0, 0, 0, .int 1)) (.leaf (71, .ireturn, 72, 0, 0, 0, .float 0)))))))
def tb_X1_isUmpire : Lean.RArray am_E := .branch 6 (.branch 2 (.branch 1 (.leaf (0, .iload_n 1, 1, 1, 0, 0, .null)) (.leaf (1, .iconst 0, 2, 0, 0, 0, .int 0))) (.branch 3 (.leaf (2, .aload_n 0, 3, 0, 0, 0, .null)) (.leaf (3, .getfield 166, 6, 0, 15, 0, .null)))) (.branch 8 (.branch 7 (.leaf (6, .iconst 1, 7, 0, 0, 0, .int 1)) (.leaf (7, .isub, 8, 0, 0, 0, .null))) (.branch 11 (.leaf (8, .invokestatic 169, 11, 14, 0, 0, .null)) (.leaf (11, .ireturn, 12, 0, 0, 0, .float 0))))
def tb_X1_game : Lean.RArray am_E := .branch 63 (.branch 30 (.branch 13 (.branch 6 (.branch 1 (.leaf (0, .aload_n 0, 1, 0, 0, 0, .null)) (.branch 4 (.leaf (1, .getfield 173, 4, 0, 16, 0, .null)) (.leaf (4, .bipush 8, 6, 0, 0, 0, .int 8)))) (.branch 10 (.branch 9 (.leaf (6, .if_icmp .eq 60, 9, 66, 0, 0, .null)) (.leaf (9, .iload_n 1, 10, 1, 0, 0, .null))) (.branch 11 (.leaf (10, .iconst 0, 11, 0, 0, 0, .int 0)) (.leaf (11, .bipush 99, 13, 0, 0, 0, .int 99))))) (.branch 21 (.branch 19 (.branch 16 (.leaf (13, .invokestatic 169, 16, 14, 0, 0, .null)) (.leaf (16, .ifCond .eq 50, 19, 66, 0, 0, .null))) (.branch 20 (.leaf (19, .iload_n 2, 20, 2, 0, 0, .null)) (.leaf (20, .iconst 0, 21, 0, 0, 0, .int 0)))) (.branch 26 (.branch 23 (.leaf (21, .bipush 99, 23, 0, 0, 0, .int 99)) (.leaf (23, .invokestatic 169, 26, 14, 0, 0, .null))) (.branch 29 (.leaf (26, .ifCond .eq 40, 29, 66, 0, 0, .null)) (.leaf (29, .iload_n 3, 30, 3, 0, 0, .null)))))) (.branch 47 (.branch 39 (.branch 33 (.branch 31 (.leaf (30, .iconst 0, 31, 0, 0, 0, .int 0)) (.leaf (31, .bipush 11, 33, 0, 0, 0, .int 11))) (.branch 36 (.leaf (33, .invokestatic 169, 36, 14, 0, 0, .null)) (.leaf (36, .ifCond .eq 30, 39, 66, 0, 0, .null)))) (.branch 42 (.branch 41 (.leaf (39, .iload 4, 41, 4, 0, 0, .null)) (.leaf (41, .iconst 0, 42, 0, 0, 0, .int 0))) (.branch 44 (.leaf (42, .bipush 11, 44, 0, 0, 0, .int 11)) (.leaf (44, .invokestatic 169, 47, 14, 0, 0, .null))))) (.branch 56 (.branch 51 (.branch 50 (.leaf (47, .ifCond .eq 19, 50, 66, 0, 0, .null)) (.leaf (50, .iload_n 3, 51, 3, 0, 0, .null))) (.branch 53 (.leaf (51, .iload 4, 53, 4, 0, 0, .null)) (.leaf (53, .if_icmp .eq 13, 56, 66, 0, 0, .null)))) (.branch 59 (.branch 58 (.leaf (56, .iload 5, 58, 5, 0, 0, .null)) (.leaf (58, .iconst 1, 59, 0, 0, 0, .int 1))) (.branch 60 (.leaf (59, .iconst 4, 60, 0, 0, 0, .int 4)) (.leaf (60, .invokestatic 169, 63, 14, 0, 0, .null))))))) (.branch 88 (.branch 79 (.branch 69 (.branch 67 (.branch 66 (.leaf (63, .ifCond .ne 5, 66, 68, 0, 0, .null)) (.leaf (66, .iconst (-1), 67, 0, 0, 0, .int (-1)))) (.branch 68 (.leaf (67, .ireturn, 68, 0, 0, 0, .int 0)) (.leaf (68, .aload_n 0, 69, 0, 0, 0, .null)))) (.branch 73 (.branch 72 (.leaf (69, .getfield 134, 72, 0, 13, 0, .null)) (.leaf (72, .aload_n 0, 73, 0, 0, 0, .null))) (.branch 76 (.leaf (73, .getfield 173, 76, 0, 16, 0, .null)) (.leaf (76, .new 132, 79, 5, 4, 0, .null))))) (.branch 83 (.branch 81 (.branch 80 (.leaf (79, .dup, 80, 0, 0, 0, .null)) (.leaf (80, .iload_n 1, 81, 1, 0, 0, .null))) (.branch 82 (.leaf (81, .iload_n 2, 82, 2, 0, 0, .null)) (.leaf (82, .iconst 1, 83, 0, 0, 0, .int 1)))) (.branch 85 (.branch 84 (.leaf (83, .iload_n 3, 84, 3, 0, 0, .null)) (.leaf (84, .ishl, 85, 0, 0, 0, .null))) (.branch 86 (.leaf (85, .iconst 1, 86, 0, 0, 0, .int 1)) (.leaf (86, .iload 4, 88, 4, 0, 0, .null)))))) (.branch 101 (.branch 95 (.branch 90 (.branch 89 (.leaf (88, .ishl, 89, 0, 0, 0, .null)) (.leaf (89, .ior, 90, 0, 0, 0, .null))) (.branch 92 (.leaf (90, .iload 5, 92, 5, 0, 0, .null)) (.leaf (92, .invokespecial 191, 95, 96, 0, 0, .null)))) (.branch 97 (.branch 96 (.leaf (95, .aastore, 96, 0, 0, 0, .null)) (.leaf (96, .aload_n 0, 97, 0, 0, 0, .null))) (.branch 98 (.leaf (97, .dup, 98, 0, 0, 0, .null)) (.leaf (98, .getfield 173, 101, 0, 16, 0, .null))))) (.branch 107 (.branch 103 (.branch 102 (.leaf (101, .iconst 1, 102, 0, 0, 0, .int 1)) (.leaf (102, .iadd, 103, 0, 0, 0, .null))) (.branch 106 (.leaf (103, .putfield 173, 106, 0, 16, 0, .int 0)) (.leaf (106, .aload_n 0, 107, 0, 0, 0, .null)))) (.branch 111 (.branch 110 (.leaf (107, .getfield 173, 110, 0, 16, 0, .null)) (.leaf (110, .iconst 1, 111, 0, 0, 0, .int 1))) (.branch 112 (.leaf (111, .isub, 112, 0, 0, 0, .null)) (.leaf (112, .ireturn, 113, 0, 0, 0, .int 0)))))))
def tb_X1_may : Lean.RArray am_E := .branch 18 (.branch 9 (.branch 2 (.branch 1 (.leaf (0, .aload_n 0, 1, 0, 0, 0, .null)) (.leaf (1, .iload_n 1, 2, 1, 0, 0, .null))) (.branch 5 (.leaf (2, .invokevirtual 179, 5, 16, 0, 0, .null)) (.branch 8 (.leaf (5, .ifCond .eq 29, 8, 34, 0, 0, .null)) (.leaf (8, .aload_n 0, 9, 0, 0, 0, .null))))) (.branch 13 (.branch 10 (.leaf (9, .iload_n 2, 10, 2, 0, 0, .null)) (.leaf (10, .invokevirtual 236, 13, 19, 0, 0, .null))) (.branch 16 (.leaf (13, .ifCond .eq 21, 16, 34, 0, 0, .null)) (.branch 17 (.leaf (16, .aload_n 0, 17, 0, 0, 0, .null)) (.leaf (17, .aload_n 0, 18, 0, 0, 0, .null)))))) (.branch 27 (.branch 22 (.branch 21 (.leaf (18, .getfield 128, 21, 0, 12, 0, .null)) (.leaf (21, .iload_n 1, 22, 1, 0, 0, .null))) (.branch 23 (.leaf (22, .aaload, 23, 0, 0, 0, .null)) (.branch 24 (.leaf (23, .iload_n 2, 24, 2, 0, 0, .null)) (.leaf (24, .invokevirtual 239, 27, 20, 0, 0, .null))))) (.branch 31 (.branch 30 (.leaf (27, .ifCond .eq 7, 30, 34, 0, 0, .null)) (.leaf (30, .iconst 1, 31, 0, 0, 0, .int 1))) (.branch 34 (.leaf (31, .goto 4, 34, 35, 0, 0, .null)) (.branch 35 (.leaf (34, .iconst 0, 35, 0, 0, 0, .int 0)) (.leaf (35, .ireturn, 36, 0, 0, 0, .float 0))))))
def tb_X1_isSeat : Lean.RArray am_E := .branch 7 (.branch 2 (.branch 1 (.leaf (0, .iload_n 1, 1, 1, 0, 0, .null)) (.leaf (1, .iconst 0, 2, 0, 0, 0, .int 0))) (.branch 3 (.leaf (2, .iconst 2, 3, 0, 0, 0, .int 2)) (.branch 4 (.leaf (3, .aload_n 0, 4, 0, 0, 0, .null)) (.leaf (4, .getfield 173, 7, 0, 16, 0, .null))))) (.branch 9 (.branch 8 (.leaf (7, .imul, 8, 0, 0, 0, .null)) (.leaf (8, .iconst 1, 9, 0, 0, 0, .int 1))) (.branch 10 (.leaf (9, .isub, 10, 0, 0, 0, .null)) (.branch 13 (.leaf (10, .invokestatic 169, 13, 14, 0, 0, .null)) (.leaf (13, .ireturn, 14, 0, 0, 0, .float 0)))))
def tb_X1_mayHave : Lean.RArray am_E := .branch 59 (.branch 29 (.branch 10 (.branch 6 (.branch 4 (.branch 1 (.leaf (0, .aload_n 0, 1, 0, 0, 0, .null)) (.leaf (1, .getfield 134, 4, 0, 13, 0, .null))) (.branch 5 (.leaf (4, .iload_n 2, 5, 2, 0, 0, .null)) (.leaf (5, .iconst 2, 6, 0, 0, 0, .int 2)))) (.branch 8 (.branch 7 (.leaf (6, .idiv, 7, 0, 0, 0, .null)) (.leaf (7, .aaload, 8, 0, 0, 0, .null))) (.branch 9 (.leaf (8, .astore_n 3, 9, 3, 0, 0, .null)) (.leaf (9, .aload_n 1, 10, 1, 0, 0, .null))))) (.branch 18 (.branch 14 (.branch 13 (.leaf (10, .getfield 185, 13, 4, 3, 0, .null)) (.leaf (13, .aload_n 0, 14, 0, 0, 0, .null))) (.branch 17 (.leaf (14, .getfield 182, 17, 0, 17, 0, .null)) (.leaf (17, .baload, 18, 0, 0, 0, .null)))) (.branch 22 (.branch 21 (.leaf (18, .ifCond .ne 52, 21, 70, 0, 0, .null)) (.leaf (21, .aload_n 1, 22, 1, 0, 0, .null))) (.branch 25 (.leaf (22, .getfield 209, 25, 4, 2, 0, .null)) (.branch 26 (.leaf (25, .aload_n 3, 26, 3, 0, 0, .null)) (.leaf (26, .getfield 212, 29, 5, 2, 0, .null))))))) (.branch 44 (.branch 37 (.branch 33 (.branch 30 (.leaf (29, .iand, 30, 0, 0, 0, .null)) (.leaf (30, .ifCond .ne 40, 33, 70, 0, 0, .null))) (.branch 34 (.leaf (33, .aload_n 1, 34, 1, 0, 0, .null)) (.leaf (34, .getfield 215, 37, 4, 5, 0, .null)))) (.branch 41 (.branch 38 (.leaf (37, .aload_n 3, 38, 3, 0, 0, .null)) (.leaf (38, .getfield 218, 41, 5, 3, 0, .null))) (.branch 42 (.leaf (41, .iload_n 2, 42, 2, 0, 0, .null)) (.branch 43 (.leaf (42, .iconst 2, 43, 0, 0, 0, .int 2)) (.leaf (43, .irem, 44, 0, 0, 0, .null)))))) (.branch 50 (.branch 48 (.branch 45 (.leaf (44, .iadd, 45, 0, 0, 0, .null)) (.leaf (45, .if_icmp .gt 25, 48, 70, 0, 0, .null))) (.branch 49 (.leaf (48, .aload_n 1, 49, 1, 0, 0, .null)) (.leaf (49, .aload_n 3, 50, 3, 0, 0, .null)))) (.branch 54 (.branch 53 (.leaf (50, .invokestatic 221, 53, 21, 0, 0, .null)) (.leaf (53, .aload_n 0, 54, 0, 0, 0, .null))) (.branch 57 (.leaf (54, .getfield 90, 57, 0, 4, 0, .null)) (.branch 58 (.leaf (57, .iconst 2, 58, 0, 0, 0, .int 2)) (.leaf (58, .iaload, 59, 0, 0, 0, .null)))))))) (.branch 89 (.branch 73 (.branch 67 (.branch 63 (.branch 62 (.leaf (59, .if_icmp .gt 11, 62, 70, 0, 0, .null)) (.leaf (62, .aload_n 0, 63, 0, 0, 0, .null))) (.branch 64 (.leaf (63, .aload_n 1, 64, 1, 0, 0, .null)) (.leaf (64, .invokevirtual 225, 67, 22, 0, 0, .null)))) (.branch 71 (.branch 70 (.leaf (67, .ifCond .eq 5, 70, 72, 0, 0, .null)) (.leaf (70, .iconst 0, 71, 0, 0, 0, .int 0))) (.branch 72 (.leaf (71, .ireturn, 72, 0, 0, 0, .float 0)) (.leaf (72, .iconst 0, 73, 0, 0, 0, .int 0))))) (.branch 81 (.branch 77 (.branch 74 (.leaf (73, .aload_n 0, 74, 0, 0, 0, .null)) (.leaf (74, .getfield 182, 77, 0, 17, 0, .null))) (.branch 78 (.leaf (77, .aload_n 0, 78, 0, 0, 0, .null)) (.leaf (78, .getfield 90, 81, 0, 4, 0, .null)))) (.branch 83 (.branch 82 (.leaf (81, .iconst 1, 82, 0, 0, 0, .int 1)) (.leaf (82, .iaload, 83, 0, 0, 0, .null))) (.branch 84 (.leaf (83, .isub, 84, 0, 0, 0, .null)) (.branch 87 (.leaf (84, .invokestatic 229, 87, 0, 11, 0, .null)) (.leaf (87, .istore 4, 89, 4, 0, 0, .null))))))) (.branch 106 (.branch 98 (.branch 92 (.branch 91 (.leaf (89, .iload 4, 91, 4, 0, 0, .null)) (.leaf (91, .aload_n 0, 92, 0, 0, 0, .null))) (.branch 95 (.leaf (92, .getfield 182, 95, 0, 17, 0, .null)) (.leaf (95, .if_icmp .ge 26, 98, 121, 0, 0, .null)))) (.branch 102 (.branch 99 (.leaf (98, .aload_n 1, 99, 1, 0, 0, .null)) (.leaf (99, .getfield 206, 102, 4, 4, 0, .null))) (.branch 104 (.leaf (102, .iload 4, 104, 4, 0, 0, .null)) (.branch 105 (.leaf (104, .iaload, 105, 0, 0, 0, .null)) (.leaf (105, .aload_n 3, 106, 3, 0, 0, .null)))))) (.branch 114 (.branch 110 (.branch 109 (.leaf (106, .getfield 212, 109, 5, 2, 0, .null)) (.leaf (109, .iand, 110, 0, 0, 0, .null))) (.branch 113 (.leaf (110, .ifCond .eq 5, 113, 115, 0, 0, .null)) (.leaf (113, .iconst 0, 114, 0, 0, 0, .int 0)))) (.branch 118 (.branch 115 (.leaf (114, .ireturn, 115, 0, 0, 0, .float 0)) (.leaf (115, .iinc 4 1, 118, 4, 0, 0, .int 1))) (.branch 121 (.leaf (118, .goto (-29), 121, 89, 0, 0, .null)) (.branch 122 (.leaf (121, .iconst 1, 122, 0, 0, 0, .int 1)) (.leaf (122, .ireturn, 123, 0, 0, 0, .float 0))))))))
def tb_X1_milesOf : Lean.RArray am_E := .branch 13 (.branch 5 (.branch 1 (.leaf (0, .aload_n 0, 1, 0, 0, 0, .null)) (.branch 4 (.leaf (1, .getfield 192, 4, 4, 0, 0, .null)) (.leaf (4, .aload_n 1, 5, 1, 0, 0, .null)))) (.branch 9 (.branch 8 (.leaf (5, .getfield 195, 8, 5, 0, 0, .null)) (.leaf (8, .isub, 9, 0, 0, 0, .null))) (.branch 12 (.leaf (9, .invokestatic 196, 12, 0, 10, 0, .null)) (.leaf (12, .aload_n 0, 13, 0, 0, 0, .null))))) (.branch 20 (.branch 16 (.leaf (13, .getfield 202, 16, 4, 1, 0, .null)) (.branch 17 (.leaf (16, .aload_n 1, 17, 1, 0, 0, .null)) (.leaf (17, .getfield 205, 20, 5, 1, 0, .null)))) (.branch 24 (.branch 21 (.leaf (20, .isub, 21, 0, 0, 0, .null)) (.leaf (21, .invokestatic 196, 24, 0, 10, 0, .null))) (.branch 25 (.leaf (24, .iadd, 25, 0, 0, 0, .null)) (.leaf (25, .ireturn, 26, 0, 0, 0, .int 0)))))
def tb_X1_isTired : Lean.RArray am_E := .branch 26 (.branch 14 (.branch 8 (.branch 4 (.branch 1 (.leaf (0, .aload_n 0, 1, 0, 0, 0, .null)) (.leaf (1, .getfield 182, 4, 0, 17, 0, .null))) (.branch 5 (.leaf (4, .aload_n 0, 5, 0, 0, 0, .null)) (.leaf (5, .getfield 90, 8, 0, 4, 0, .null)))) (.branch 10 (.branch 9 (.leaf (8, .iconst 0, 9, 0, 0, 0, .int 0)) (.leaf (9, .iaload, 10, 0, 0, 0, .null))) (.branch 13 (.leaf (10, .if_icmp .ge 5, 13, 15, 0, 0, .null)) (.leaf (13, .iconst 0, 14, 0, 0, 0, .int 0))))) (.branch 20 (.branch 16 (.branch 15 (.leaf (14, .ireturn, 15, 0, 0, 0, .float 0)) (.leaf (15, .aload_n 0, 16, 0, 0, 0, .null))) (.branch 19 (.leaf (16, .getfield 182, 19, 0, 17, 0, .null)) (.leaf (19, .aload_n 0, 20, 0, 0, 0, .null)))) (.branch 24 (.branch 23 (.leaf (20, .getfield 90, 23, 0, 4, 0, .null)) (.leaf (23, .iconst 0, 24, 0, 0, 0, .int 0))) (.branch 25 (.leaf (24, .iaload, 25, 0, 0, 0, .null)) (.leaf (25, .isub, 26, 0, 0, 0, .null)))))) (.branch 40 (.branch 32 (.branch 28 (.branch 27 (.leaf (26, .istore_n 2, 27, 2, 0, 0, .null)) (.leaf (27, .iload_n 2, 28, 2, 0, 0, .null))) (.branch 29 (.leaf (28, .aload_n 0, 29, 0, 0, 0, .null)) (.leaf (29, .getfield 182, 32, 0, 17, 0, .null)))) (.branch 36 (.branch 35 (.leaf (32, .if_icmp .ge 20, 35, 52, 0, 0, .null)) (.leaf (35, .aload_n 1, 36, 1, 0, 0, .null))) (.branch 39 (.leaf (36, .getfield 206, 39, 4, 4, 0, .null)) (.leaf (39, .iload_n 2, 40, 2, 0, 0, .null))))) (.branch 46 (.branch 44 (.branch 41 (.leaf (40, .iaload, 41, 0, 0, 0, .null)) (.leaf (41, .ifCond .ne 5, 44, 46, 0, 0, .null))) (.branch 45 (.leaf (44, .iconst 0, 45, 0, 0, 0, .int 0)) (.leaf (45, .ireturn, 46, 0, 0, 0, .float 0)))) (.branch 52 (.branch 49 (.leaf (46, .iinc 2 1, 49, 2, 0, 0, .int 1)) (.leaf (49, .goto (-22), 52, 27, 0, 0, .null))) (.branch 53 (.leaf (52, .iconst 1, 53, 0, 0, 0, .int 1)) (.leaf (53, .ireturn, 54, 0, 0, 0, .float 0))))))
def tb_X1_cost : Lean.RArray am_E := .branch 17 (.branch 8 (.branch 2 (.branch 1 (.leaf (0, .aload_n 0, 1, 0, 0, 0, .null)) (.leaf (1, .iload_n 1, 2, 1, 0, 0, .null))) (.branch 5 (.leaf (2, .invokevirtual 179, 5, 16, 0, 0, .null)) (.leaf (5, .ifCond .eq 25, 8, 30, 0, 0, .null)))) (.branch 10 (.branch 9 (.leaf (8, .aload_n 0, 9, 0, 0, 0, .null)) (.leaf (9, .iload_n 2, 10, 2, 0, 0, .null))) (.branch 13 (.leaf (10, .invokevirtual 236, 13, 19, 0, 0, .null)) (.branch 16 (.leaf (13, .ifCond .eq 17, 16, 30, 0, 0, .null)) (.leaf (16, .aload_n 0, 17, 0, 0, 0, .null)))))) (.branch 23 (.branch 21 (.branch 18 (.leaf (17, .aload_n 0, 18, 0, 0, 0, .null)) (.leaf (18, .getfield 128, 21, 0, 12, 0, .null))) (.branch 22 (.leaf (21, .iload_n 1, 22, 1, 0, 0, .null)) (.leaf (22, .aaload, 23, 0, 0, 0, .null)))) (.branch 27 (.branch 24 (.leaf (23, .iload_n 2, 24, 2, 0, 0, .null)) (.leaf (24, .invokevirtual 243, 27, 24, 0, 0, .null))) (.branch 30 (.leaf (27, .goto 4, 30, 31, 0, 0, .null)) (.branch 31 (.leaf (30, .iconst (-1), 31, 0, 0, 0, .int (-1))) (.leaf (31, .ireturn, 32, 0, 0, 0, .int 0))))))
def tb_X1_costOf : Lean.RArray am_E := .branch 12 (.branch 6 (.branch 2 (.branch 1 (.leaf (0, .aload_n 1, 1, 1, 0, 0, .null)) (.leaf (1, .aload_n 0, 2, 0, 0, 0, .null))) (.branch 5 (.leaf (2, .getfield 134, 5, 0, 13, 0, .null)) (.leaf (5, .iload_n 2, 6, 2, 0, 0, .null)))) (.branch 8 (.branch 7 (.leaf (6, .iconst 2, 7, 0, 0, 0, .int 2)) (.leaf (7, .idiv, 8, 0, 0, 0, .null))) (.branch 9 (.leaf (8, .aaload, 9, 0, 0, 0, .null)) (.leaf (9, .invokestatic 221, 12, 21, 0, 0, .null))))) (.branch 18 (.branch 16 (.branch 13 (.leaf (12, .aload_n 0, 13, 0, 0, 0, .null)) (.leaf (13, .getfield 90, 16, 0, 4, 0, .null))) (.branch 17 (.leaf (16, .iconst 3, 17, 0, 0, 0, .int 3)) (.leaf (17, .iaload, 18, 0, 0, 0, .null)))) (.branch 22 (.branch 19 (.leaf (18, .aload_n 1, 19, 1, 0, 0, .null)) (.leaf (19, .getfield 233, 22, 4, 7, 0, .null))) (.branch 23 (.leaf (22, .imul, 23, 0, 0, 0, .null)) (.branch 24 (.leaf (23, .iadd, 24, 0, 0, 0, .null)) (.leaf (24, .ireturn, 25, 0, 0, 0, .int 0))))))
def tb_X1_send : Lean.RArray am_E := .branch 91 (.branch 39 (.branch 21 (.branch 10 (.branch 7 (.branch 1 (.leaf (0, .aload_n 0, 1, 0, 0, 0, .null)) (.branch 4 (.leaf (1, .getfield 254, 4, 0, 18, 0, .null)) (.leaf (4, .ifCond .eq 5, 7, 9, 0, 0, .null)))) (.branch 8 (.leaf (7, .iconst (-1), 8, 0, 0, 0, .int (-1))) (.branch 9 (.leaf (8, .ireturn, 9, 0, 0, 0, .int 0)) (.leaf (9, .iconst 2, 10, 0, 0, 0, .int 2))))) (.branch 15 (.branch 11 (.leaf (10, .aload_n 0, 11, 0, 0, 0, .null)) (.branch 14 (.leaf (11, .getfield 173, 14, 0, 16, 0, .null)) (.leaf (14, .imul, 15, 0, 0, 0, .null)))) (.branch 17 (.branch 16 (.leaf (15, .istore_n 1, 16, 1, 0, 0, .null)) (.leaf (16, .aload_n 0, 17, 0, 0, 0, .null))) (.branch 20 (.leaf (17, .getfield 166, 20, 0, 15, 0, .null)) (.leaf (20, .iload_n 1, 21, 1, 0, 0, .null)))))) (.branch 27 (.branch 24 (.branch 22 (.leaf (21, .iadd, 22, 0, 0, 0, .null)) (.branch 23 (.leaf (22, .istore_n 2, 23, 2, 0, 0, .null)) (.leaf (23, .iconst 0, 24, 0, 0, 0, .int 0)))) (.branch 25 (.leaf (24, .istore_n 3, 25, 3, 0, 0, .null)) (.branch 26 (.leaf (25, .iload_n 3, 26, 3, 0, 0, .null)) (.leaf (26, .iload_n 1, 27, 1, 0, 0, .null))))) (.branch 32 (.branch 30 (.leaf (27, .if_icmp .ge 90, 30, 117, 0, 0, .null)) (.branch 31 (.leaf (30, .aload_n 0, 31, 0, 0, 0, .null)) (.leaf (31, .iconst (-1), 32, 0, 0, 0, .int (-1))))) (.branch 36 (.branch 33 (.leaf (32, .iload_n 3, 33, 3, 0, 0, .null)) (.leaf (33, .invokevirtual 257, 36, 26, 0, 0, .null))) (.branch 37 (.leaf (36, .iconst 0, 37, 0, 0, 0, .int 0)) (.leaf (37, .istore 4, 39, 4, 0, 0, .null))))))) (.branch 62 (.branch 51 (.branch 45 (.branch 41 (.leaf (39, .iload 4, 41, 4, 0, 0, .null)) (.branch 42 (.leaf (41, .iload_n 2, 42, 2, 0, 0, .null)) (.leaf (42, .if_icmp .ge 69, 45, 111, 0, 0, .null)))) (.branch 46 (.leaf (45, .aload_n 0, 46, 0, 0, 0, .null)) (.branch 49 (.leaf (46, .getfield 141, 49, 0, 19, 0, .null)) (.leaf (49, .bipush 36, 51, 0, 0, 0, .int 36))))) (.branch 55 (.branch 52 (.leaf (51, .iload_n 3, 52, 3, 0, 0, .null)) (.branch 53 (.leaf (52, .imul, 53, 0, 0, 0, .null)) (.leaf (53, .iload 4, 55, 4, 0, 0, .null)))) (.branch 58 (.branch 56 (.leaf (55, .iadd, 56, 0, 0, 0, .null)) (.leaf (56, .iload 4, 58, 4, 0, 0, .null))) (.branch 59 (.leaf (58, .aload_n 0, 59, 0, 0, 0, .null)) (.leaf (59, .getfield 166, 62, 0, 15, 0, .null)))))) (.branch 78 (.branch 71 (.branch 65 (.leaf (62, .if_icmp .lt 9, 65, 71, 0, 0, .null)) (.branch 68 (.leaf (65, .ldc_w 260, 68, 0, 0, 0, .int 100000)) (.leaf (68, .goto 36, 71, 104, 0, 0, .null)))) (.branch 73 (.branch 72 (.leaf (71, .aload_n 0, 72, 0, 0, 0, .null)) (.leaf (72, .aload_n 0, 73, 0, 0, 0, .null))) (.branch 76 (.leaf (73, .getfield 128, 76, 0, 12, 0, .null)) (.leaf (76, .iload 4, 78, 4, 0, 0, .null))))) (.branch 83 (.branch 79 (.leaf (78, .aaload, 79, 0, 0, 0, .null)) (.branch 80 (.leaf (79, .iload_n 3, 80, 3, 0, 0, .null)) (.leaf (80, .invokevirtual 239, 83, 20, 0, 0, .null)))) (.branch 87 (.branch 86 (.leaf (83, .ifCond .eq 18, 86, 101, 0, 0, .null)) (.leaf (86, .aload_n 0, 87, 0, 0, 0, .null))) (.branch 88 (.leaf (87, .aload_n 0, 88, 0, 0, 0, .null)) (.leaf (88, .getfield 128, 91, 0, 12, 0, .null)))))))) (.branch 139 (.branch 121 (.branch 104 (.branch 95 (.branch 93 (.leaf (91, .iload 4, 93, 4, 0, 0, .null)) (.branch 94 (.leaf (93, .aaload, 94, 0, 0, 0, .null)) (.leaf (94, .iload_n 3, 95, 3, 0, 0, .null)))) (.branch 98 (.leaf (95, .invokevirtual 243, 98, 24, 0, 0, .null)) (.branch 101 (.leaf (98, .goto 6, 101, 104, 0, 0, .null)) (.leaf (101, .ldc_w 261, 104, 0, 0, 0, .int 100000000))))) (.branch 111 (.branch 105 (.leaf (104, .iastore, 105, 0, 0, 0, .null)) (.branch 108 (.leaf (105, .iinc 4 1, 108, 4, 0, 0, .int 1)) (.leaf (108, .goto (-69), 111, 39, 0, 0, .null)))) (.branch 117 (.branch 114 (.leaf (111, .iinc 3 1, 114, 3, 0, 0, .int 1)) (.leaf (114, .goto (-89), 117, 25, 0, 0, .null))) (.branch 118 (.leaf (117, .iload_n 1, 118, 1, 0, 0, .null)) (.leaf (118, .ifCond .ne 5, 121, 123, 0, 0, .null)))))) (.branch 129 (.branch 124 (.branch 122 (.leaf (121, .iconst 0, 122, 0, 0, 0, .int 0)) (.branch 123 (.leaf (122, .ireturn, 123, 0, 0, 0, .int 0)) (.leaf (123, .aload_n 0, 124, 0, 0, 0, .null)))) (.branch 125 (.leaf (124, .iload_n 1, 125, 1, 0, 0, .null)) (.branch 126 (.leaf (125, .iload_n 2, 126, 2, 0, 0, .null)) (.leaf (126, .invokevirtual 262, 129, 27, 0, 0, .null))))) (.branch 133 (.branch 130 (.leaf (129, .lstore_n 3, 130, 3, 0, 0, .null)) (.branch 131 (.leaf (130, .iconst 0, 131, 0, 0, 0, .int 0)) (.leaf (131, .istore 5, 133, 5, 0, 0, .null)))) (.branch 136 (.branch 134 (.leaf (133, .iconst 0, 134, 0, 0, 0, .int 0)) (.leaf (134, .istore 6, 136, 6, 0, 0, .null))) (.branch 138 (.leaf (136, .iload 6, 138, 6, 0, 0, .null)) (.leaf (138, .iload_n 1, 139, 1, 0, 0, .null))))))) (.branch 165 (.branch 150 (.branch 145 (.branch 142 (.leaf (139, .if_icmp .ge 55, 142, 194, 0, 0, .null)) (.branch 143 (.leaf (142, .iconst 0, 143, 0, 0, 0, .int 0)) (.leaf (143, .istore 7, 145, 7, 0, 0, .null)))) (.branch 146 (.leaf (145, .aload_n 0, 146, 0, 0, 0, .null)) (.branch 148 (.leaf (146, .iload 6, 148, 6, 0, 0, .null)) (.leaf (148, .iload 7, 150, 7, 0, 0, .null))))) (.branch 153 (.branch 151 (.leaf (150, .iload_n 1, 151, 1, 0, 0, .null)) (.branch 152 (.leaf (151, .iload_n 2, 152, 2, 0, 0, .null)) (.leaf (152, .lload_n 3, 153, 3, 0, 0, .null)))) (.branch 159 (.branch 156 (.leaf (153, .invokevirtual 266, 156, 29, 0, 0, .null)) (.leaf (156, .ifCond .ne 9, 159, 165, 0, 0, .null))) (.branch 162 (.leaf (159, .iinc 7 1, 162, 7, 0, 0, .int 1)) (.leaf (162, .goto (-17), 165, 145, 0, 0, .null)))))) (.branch 180 (.branch 171 (.branch 167 (.leaf (165, .iload 7, 167, 7, 0, 0, .null)) (.branch 168 (.leaf (167, .aload_n 0, 168, 0, 0, 0, .null)) (.leaf (168, .getfield 166, 171, 0, 15, 0, .null)))) (.branch 177 (.branch 174 (.leaf (171, .if_icmp .lt 6, 174, 177, 0, 0, .null)) (.leaf (174, .goto 14, 177, 188, 0, 0, .null))) (.branch 178 (.leaf (177, .aload_n 0, 178, 0, 0, 0, .null)) (.leaf (178, .iload 7, 180, 7, 0, 0, .null))))) (.branch 188 (.branch 182 (.leaf (180, .iload 6, 182, 6, 0, 0, .null)) (.branch 185 (.leaf (182, .invokevirtual 257, 185, 26, 0, 0, .null)) (.leaf (185, .iinc 5 1, 188, 5, 0, 0, .int 1)))) (.branch 194 (.branch 191 (.leaf (188, .iinc 6 1, 191, 6, 0, 0, .int 1)) (.leaf (191, .goto (-55), 194, 136, 0, 0, .null))) (.branch 196 (.leaf (194, .iload 5, 196, 5, 0, 0, .null)) (.leaf (196, .ireturn, 197, 0, 0, 0, .int 0))))))))
def tb_X1_sit : Lean.RArray am_E := .branch 35 (.branch 17 (.branch 6 (.branch 4 (.branch 1 (.leaf (0, .aload_n 0, 1, 0, 0, 0, .null)) (.leaf (1, .getfield 138, 4, 0, 14, 0, .null))) (.branch 5 (.leaf (4, .iload_n 2, 5, 2, 0, 0, .null)) (.leaf (5, .iaload, 6, 0, 0, 0, .null)))) (.branch 10 (.branch 9 (.leaf (6, .ifCond .lt 36, 9, 42, 0, 0, .null)) (.leaf (9, .aload_n 0, 10, 0, 0, 0, .null))) (.branch 13 (.leaf (10, .getfield 128, 13, 0, 12, 0, .null)) (.branch 14 (.leaf (13, .aload_n 0, 14, 0, 0, 0, .null)) (.leaf (14, .getfield 138, 17, 0, 14, 0, .null)))))) (.branch 24 (.branch 19 (.branch 18 (.leaf (17, .iload_n 2, 18, 2, 0, 0, .null)) (.leaf (18, .iaload, 19, 0, 0, 0, .null))) (.branch 20 (.leaf (19, .aaload, 20, 0, 0, 0, .null)) (.branch 23 (.leaf (20, .getfield 188, 23, 4, 6, 0, .null)) (.leaf (23, .iload_n 2, 24, 2, 0, 0, .null))))) (.branch 28 (.branch 27 (.leaf (24, .if_icmp .ne 18, 27, 42, 0, 0, .null)) (.leaf (27, .aload_n 0, 28, 0, 0, 0, .null))) (.branch 31 (.leaf (28, .getfield 128, 31, 0, 12, 0, .null)) (.branch 32 (.leaf (31, .aload_n 0, 32, 0, 0, 0, .null)) (.leaf (32, .getfield 138, 35, 0, 14, 0, .null))))))) (.branch 48 (.branch 39 (.branch 37 (.branch 36 (.leaf (35, .iload_n 2, 36, 2, 0, 0, .null)) (.leaf (36, .iaload, 37, 0, 0, 0, .null))) (.branch 38 (.leaf (37, .aaload, 38, 0, 0, 0, .null)) (.leaf (38, .iconst (-1), 39, 0, 0, 0, .int (-1))))) (.branch 43 (.branch 42 (.leaf (39, .putfield 188, 42, 4, 6, 0, .int 0)) (.leaf (42, .aload_n 0, 43, 0, 0, 0, .null))) (.branch 46 (.leaf (43, .getfield 138, 46, 0, 14, 0, .null)) (.branch 47 (.leaf (46, .iload_n 2, 47, 2, 0, 0, .null)) (.leaf (47, .iload_n 1, 48, 1, 0, 0, .null)))))) (.branch 57 (.branch 50 (.branch 49 (.leaf (48, .iastore, 49, 0, 0, 0, .null)) (.leaf (49, .iload_n 1, 50, 1, 0, 0, .null))) (.branch 53 (.leaf (50, .ifCond .lt 13, 53, 63, 0, 0, .null)) (.branch 54 (.leaf (53, .aload_n 0, 54, 0, 0, 0, .null)) (.leaf (54, .getfield 128, 57, 0, 12, 0, .null))))) (.branch 59 (.branch 58 (.leaf (57, .iload_n 1, 58, 1, 0, 0, .null)) (.leaf (58, .aaload, 59, 0, 0, 0, .null))) (.branch 60 (.leaf (59, .iload_n 2, 60, 2, 0, 0, .null)) (.branch 63 (.leaf (60, .putfield 188, 63, 4, 6, 0, .int 0)) (.leaf (63, .return_, 64, 0, 0, 0, .int 0)))))))
def tb_X1_solve : Lean.RArray am_E := .branch 57 (.branch 28 (.branch 13 (.branch 4 (.branch 2 (.branch 1 (.leaf (0, .iconst 0, 1, 0, 0, 0, .int 0)) (.leaf (1, .istore_n 3, 2, 3, 0, 0, .null))) (.branch 3 (.leaf (2, .iload_n 3, 3, 3, 0, 0, .null)) (.leaf (3, .iload_n 1, 4, 1, 0, 0, .null)))) (.branch 8 (.branch 7 (.leaf (4, .if_icmp .gt 16, 7, 20, 0, 0, .null)) (.leaf (7, .aload_n 0, 8, 0, 0, 0, .null))) (.branch 11 (.leaf (8, .getfield 144, 11, 0, 20, 0, .null)) (.branch 12 (.leaf (11, .iload_n 3, 12, 3, 0, 0, .null)) (.leaf (12, .iconst 0, 13, 0, 0, 0, .int 0)))))) (.branch 21 (.branch 17 (.branch 14 (.leaf (13, .iastore, 14, 0, 0, 0, .null)) (.leaf (14, .iinc 3 1, 17, 3, 0, 0, .int 1))) (.branch 20 (.leaf (17, .goto (-15), 20, 2, 0, 0, .null)) (.leaf (20, .iconst 0, 21, 0, 0, 0, .int 0)))) (.branch 23 (.branch 22 (.leaf (21, .istore_n 3, 22, 3, 0, 0, .null)) (.leaf (22, .iload_n 3, 23, 3, 0, 0, .null))) (.branch 24 (.leaf (23, .iload_n 2, 24, 2, 0, 0, .null)) (.branch 27 (.leaf (24, .if_icmp .gt 23, 27, 47, 0, 0, .null)) (.leaf (27, .aload_n 0, 28, 0, 0, 0, .null))))))) (.branch 41 (.branch 34 (.branch 32 (.branch 31 (.leaf (28, .getfield 147, 31, 0, 21, 0, .null)) (.leaf (31, .iload_n 3, 32, 3, 0, 0, .null))) (.branch 33 (.leaf (32, .iconst 0, 33, 0, 0, 0, .int 0)) (.leaf (33, .iastore, 34, 0, 0, 0, .null)))) (.branch 38 (.branch 35 (.leaf (34, .aload_n 0, 35, 0, 0, 0, .null)) (.leaf (35, .getfield 150, 38, 0, 22, 0, .null))) (.branch 39 (.leaf (38, .iload_n 3, 39, 3, 0, 0, .null)) (.branch 40 (.leaf (39, .iconst 0, 40, 0, 0, 0, .int 0)) (.leaf (40, .iastore, 41, 0, 0, 0, .null)))))) (.branch 50 (.branch 47 (.branch 44 (.leaf (41, .iinc 3 1, 44, 3, 0, 0, .int 1)) (.leaf (44, .goto (-22), 47, 22, 0, 0, .null))) (.branch 48 (.leaf (47, .iconst 1, 48, 0, 0, 0, .int 1)) (.branch 49 (.leaf (48, .istore_n 3, 49, 3, 0, 0, .null)) (.leaf (49, .iload_n 3, 50, 3, 0, 0, .null))))) (.branch 54 (.branch 51 (.leaf (50, .iload_n 1, 51, 1, 0, 0, .null)) (.leaf (51, .if_icmp .gt 15, 54, 66, 0, 0, .null))) (.branch 55 (.leaf (54, .aload_n 0, 55, 0, 0, 0, .null)) (.branch 56 (.leaf (55, .iload_n 3, 56, 3, 0, 0, .null)) (.leaf (56, .iload_n 2, 57, 2, 0, 0, .null)))))))) (.branch 94 (.branch 74 (.branch 67 (.branch 63 (.branch 60 (.leaf (57, .invokevirtual 247, 60, 28, 0, 0, .null)) (.leaf (60, .iinc 3 1, 63, 3, 0, 0, .int 1))) (.branch 66 (.leaf (63, .goto (-14), 66, 49, 0, 0, .null)) (.leaf (66, .lconst 0, 67, 0, 0, 0, .long 0)))) (.branch 69 (.branch 68 (.leaf (67, .lstore_n 3, 68, 3, 0, 0, .null)) (.leaf (68, .iconst 1, 69, 0, 0, 0, .int 1))) (.branch 71 (.leaf (69, .istore 5, 71, 5, 0, 0, .null)) (.branch 73 (.leaf (71, .iload 5, 73, 5, 0, 0, .null)) (.leaf (73, .iload_n 2, 74, 2, 0, 0, .null)))))) (.branch 84 (.branch 78 (.branch 77 (.leaf (74, .if_icmp .gt 45, 77, 119, 0, 0, .null)) (.leaf (77, .aload_n 0, 78, 0, 0, 0, .null))) (.branch 81 (.leaf (78, .getfield 150, 81, 0, 22, 0, .null)) (.branch 83 (.leaf (81, .iload 5, 83, 5, 0, 0, .null)) (.leaf (83, .iaload, 84, 0, 0, 0, .null))))) (.branch 88 (.branch 87 (.leaf (84, .ifCond .le 29, 87, 113, 0, 0, .null)) (.leaf (87, .lload_n 3, 88, 3, 0, 0, .null))) (.branch 89 (.leaf (88, .aload_n 0, 89, 0, 0, 0, .null)) (.branch 92 (.leaf (89, .getfield 141, 92, 0, 19, 0, .null)) (.leaf (92, .bipush 36, 94, 0, 0, 0, .int 36))))))) (.branch 107 (.branch 101 (.branch 98 (.branch 95 (.leaf (94, .aload_n 0, 95, 0, 0, 0, .null)) (.leaf (95, .getfield 150, 98, 0, 22, 0, .null))) (.branch 100 (.leaf (98, .iload 5, 100, 5, 0, 0, .null)) (.leaf (100, .iaload, 101, 0, 0, 0, .null)))) (.branch 103 (.branch 102 (.leaf (101, .iconst 1, 102, 0, 0, 0, .int 1)) (.leaf (102, .isub, 103, 0, 0, 0, .null))) (.branch 104 (.leaf (103, .imul, 104, 0, 0, 0, .null)) (.branch 106 (.leaf (104, .iload 5, 106, 5, 0, 0, .null)) (.leaf (106, .iadd, 107, 0, 0, 0, .null)))))) (.branch 112 (.branch 109 (.branch 108 (.leaf (107, .iconst 1, 108, 0, 0, 0, .int 1)) (.leaf (108, .isub, 109, 0, 0, 0, .null))) (.branch 110 (.leaf (109, .iaload, 110, 0, 0, 0, .null)) (.branch 111 (.leaf (110, .i2l, 111, 0, 0, 0, .null)) (.leaf (111, .ladd, 112, 0, 0, 0, .null))))) (.branch 116 (.branch 113 (.leaf (112, .lstore_n 3, 113, 3, 0, 0, .null)) (.leaf (113, .iinc 5 1, 116, 5, 0, 0, .int 1))) (.branch 119 (.leaf (116, .goto (-45), 119, 71, 0, 0, .null)) (.branch 120 (.leaf (119, .lload_n 3, 120, 3, 0, 0, .null)) (.leaf (120, .lreturn, 121, 0, 0, 0, .int 0))))))))
def tb_X1_enter : Lean.RArray am_E := .branch 141 (.branch 66 (.branch 34 (.branch 15 (.branch 7 (.branch 2 (.branch 1 (.leaf (0, .iconst 0, 1, 0, 0, 0, .int 0)) (.leaf (1, .istore_n 3, 2, 3, 0, 0, .null))) (.branch 3 (.leaf (2, .iload_n 3, 3, 3, 0, 0, .null)) (.branch 4 (.leaf (3, .iload_n 2, 4, 2, 0, 0, .null)) (.leaf (4, .if_icmp .gt 24, 7, 28, 0, 0, .null))))) (.branch 11 (.branch 8 (.leaf (7, .aload_n 0, 8, 0, 0, 0, .null)) (.leaf (8, .getfield 156, 11, 0, 24, 0, .null))) (.branch 12 (.leaf (11, .iload_n 3, 12, 3, 0, 0, .null)) (.branch 14 (.leaf (12, .ldc 253, 14, 0, 0, 0, .int 2147483647)) (.leaf (14, .iastore, 15, 0, 0, 0, .null)))))) (.branch 22 (.branch 19 (.branch 16 (.leaf (15, .aload_n 0, 16, 0, 0, 0, .null)) (.leaf (16, .getfield 159, 19, 0, 25, 0, .null))) (.branch 20 (.leaf (19, .iload_n 3, 20, 3, 0, 0, .null)) (.branch 21 (.leaf (20, .iconst 0, 21, 0, 0, 0, .int 0)) (.leaf (21, .bastore, 22, 0, 0, 0, .null))))) (.branch 29 (.branch 25 (.leaf (22, .iinc 3 1, 25, 3, 0, 0, .int 1)) (.branch 28 (.leaf (25, .goto (-23), 28, 2, 0, 0, .null)) (.leaf (28, .aload_n 0, 29, 0, 0, 0, .null)))) (.branch 32 (.leaf (29, .getfield 150, 32, 0, 22, 0, .null)) (.branch 33 (.leaf (32, .iconst 0, 33, 0, 0, 0, .int 0)) (.leaf (33, .iload_n 1, 34, 1, 0, 0, .null))))))) (.branch 50 (.branch 41 (.branch 36 (.branch 35 (.leaf (34, .iastore, 35, 0, 0, 0, .null)) (.leaf (35, .iconst 0, 36, 0, 0, 0, .int 0))) (.branch 37 (.leaf (36, .istore_n 3, 37, 3, 0, 0, .null)) (.branch 38 (.leaf (37, .aload_n 0, 38, 0, 0, 0, .null)) (.leaf (38, .getfield 150, 41, 0, 22, 0, .null))))) (.branch 43 (.branch 42 (.leaf (41, .iload_n 3, 42, 3, 0, 0, .null)) (.leaf (42, .iaload, 43, 0, 0, 0, .null))) (.branch 46 (.leaf (43, .ifCond .eq 217, 46, 260, 0, 0, .null)) (.branch 47 (.leaf (46, .aload_n 0, 47, 0, 0, 0, .null)) (.leaf (47, .getfield 159, 50, 0, 25, 0, .null)))))) (.branch 57 (.branch 52 (.branch 51 (.leaf (50, .iload_n 3, 51, 3, 0, 0, .null)) (.leaf (51, .iconst 1, 52, 0, 0, 0, .int 1))) (.branch 53 (.leaf (52, .bastore, 53, 0, 0, 0, .null)) (.branch 54 (.leaf (53, .aload_n 0, 54, 0, 0, 0, .null)) (.leaf (54, .getfield 150, 57, 0, 22, 0, .null))))) (.branch 61 (.branch 58 (.leaf (57, .iload_n 3, 58, 3, 0, 0, .null)) (.branch 59 (.leaf (58, .iaload, 59, 0, 0, 0, .null)) (.leaf (59, .istore 4, 61, 4, 0, 0, .null)))) (.branch 62 (.leaf (61, .iconst 0, 62, 0, 0, 0, .int 0)) (.branch 64 (.leaf (62, .istore 5, 64, 5, 0, 0, .null)) (.leaf (64, .ldc 253, 66, 0, 0, 0, .int 2147483647)))))))) (.branch 104 (.branch 84 (.branch 74 (.branch 69 (.branch 68 (.leaf (66, .istore 6, 68, 6, 0, 0, .null)) (.leaf (68, .iconst 1, 69, 0, 0, 0, .int 1))) (.branch 71 (.leaf (69, .istore 7, 71, 7, 0, 0, .null)) (.branch 73 (.leaf (71, .iload 7, 73, 7, 0, 0, .null)) (.leaf (73, .iload_n 2, 74, 2, 0, 0, .null))))) (.branch 78 (.branch 77 (.leaf (74, .if_icmp .gt 111, 77, 185, 0, 0, .null)) (.leaf (77, .aload_n 0, 78, 0, 0, 0, .null))) (.branch 81 (.leaf (78, .getfield 159, 81, 0, 25, 0, .null)) (.branch 83 (.leaf (81, .iload 7, 83, 7, 0, 0, .null)) (.leaf (83, .baload, 84, 0, 0, 0, .null)))))) (.branch 96 (.branch 90 (.branch 87 (.leaf (84, .ifCond .eq 6, 87, 90, 0, 0, .null)) (.leaf (87, .goto 92, 90, 179, 0, 0, .null))) (.branch 91 (.leaf (90, .aload_n 0, 91, 0, 0, 0, .null)) (.branch 94 (.leaf (91, .getfield 141, 94, 0, 19, 0, .null)) (.leaf (94, .bipush 36, 96, 0, 0, 0, .int 36))))) (.branch 100 (.branch 98 (.leaf (96, .iload 4, 98, 4, 0, 0, .null)) (.branch 99 (.leaf (98, .iconst 1, 99, 0, 0, 0, .int 1)) (.leaf (99, .isub, 100, 0, 0, 0, .null)))) (.branch 101 (.leaf (100, .imul, 101, 0, 0, 0, .null)) (.branch 103 (.leaf (101, .iload 7, 103, 7, 0, 0, .null)) (.leaf (103, .iadd, 104, 0, 0, 0, .null))))))) (.branch 121 (.branch 111 (.branch 106 (.branch 105 (.leaf (104, .iconst 1, 105, 0, 0, 0, .int 1)) (.leaf (105, .isub, 106, 0, 0, 0, .null))) (.branch 107 (.leaf (106, .iaload, 107, 0, 0, 0, .null)) (.branch 108 (.leaf (107, .aload_n 0, 108, 0, 0, 0, .null)) (.leaf (108, .getfield 144, 111, 0, 20, 0, .null))))) (.branch 115 (.branch 113 (.leaf (111, .iload 4, 113, 4, 0, 0, .null)) (.branch 114 (.leaf (113, .iaload, 114, 0, 0, 0, .null)) (.leaf (114, .isub, 115, 0, 0, 0, .null)))) (.branch 116 (.leaf (115, .aload_n 0, 116, 0, 0, 0, .null)) (.branch 119 (.leaf (116, .getfield 147, 119, 0, 21, 0, .null)) (.leaf (119, .iload 7, 121, 7, 0, 0, .null)))))) (.branch 128 (.branch 123 (.branch 122 (.leaf (121, .iaload, 122, 0, 0, 0, .null)) (.leaf (122, .isub, 123, 0, 0, 0, .null))) (.branch 125 (.leaf (123, .istore 8, 125, 8, 0, 0, .null)) (.branch 127 (.leaf (125, .iload 8, 127, 8, 0, 0, .null)) (.leaf (127, .aload_n 0, 128, 0, 0, 0, .null))))) (.branch 134 (.branch 131 (.leaf (128, .getfield 156, 131, 0, 24, 0, .null)) (.branch 133 (.leaf (131, .iload 7, 133, 7, 0, 0, .null)) (.leaf (133, .iaload, 134, 0, 0, 0, .null)))) (.branch 137 (.leaf (134, .if_icmp .ge 20, 137, 154, 0, 0, .null)) (.branch 138 (.leaf (137, .aload_n 0, 138, 0, 0, 0, .null)) (.leaf (138, .getfield 156, 141, 0, 24, 0, .null))))))))) (.branch 220 (.branch 179 (.branch 158 (.branch 150 (.branch 145 (.branch 143 (.leaf (141, .iload 7, 143, 7, 0, 0, .null)) (.leaf (143, .iload 8, 145, 8, 0, 0, .null))) (.branch 146 (.leaf (145, .iastore, 146, 0, 0, 0, .null)) (.branch 147 (.leaf (146, .aload_n 0, 147, 0, 0, 0, .null)) (.leaf (147, .getfield 153, 150, 0, 23, 0, .null))))) (.branch 153 (.branch 152 (.leaf (150, .iload 7, 152, 7, 0, 0, .null)) (.leaf (152, .iload_n 3, 153, 3, 0, 0, .null))) (.branch 154 (.leaf (153, .iastore, 154, 0, 0, 0, .null)) (.branch 155 (.leaf (154, .aload_n 0, 155, 0, 0, 0, .null)) (.leaf (155, .getfield 156, 158, 0, 24, 0, .null)))))) (.branch 167 (.branch 161 (.branch 160 (.leaf (158, .iload 7, 160, 7, 0, 0, .null)) (.leaf (160, .iaload, 161, 0, 0, 0, .null))) (.branch 163 (.leaf (161, .iload 6, 163, 6, 0, 0, .null)) (.branch 166 (.leaf (163, .if_icmp .ge 16, 166, 179, 0, 0, .null)) (.leaf (166, .aload_n 0, 167, 0, 0, 0, .null))))) (.branch 173 (.branch 170 (.leaf (167, .getfield 156, 170, 0, 24, 0, .null)) (.branch 172 (.leaf (170, .iload 7, 172, 7, 0, 0, .null)) (.leaf (172, .iaload, 173, 0, 0, 0, .null)))) (.branch 175 (.leaf (173, .istore 6, 175, 6, 0, 0, .null)) (.branch 177 (.leaf (175, .iload 7, 177, 7, 0, 0, .null)) (.leaf (177, .istore 5, 179, 5, 0, 0, .null))))))) (.branch 201 (.branch 190 (.branch 185 (.branch 182 (.leaf (179, .iinc 7 1, 182, 7, 0, 0, .int 1)) (.leaf (182, .goto (-111), 185, 71, 0, 0, .null))) (.branch 186 (.leaf (185, .iconst 0, 186, 0, 0, 0, .int 0)) (.branch 188 (.leaf (186, .istore 7, 188, 7, 0, 0, .null)) (.leaf (188, .iload 7, 190, 7, 0, 0, .null))))) (.branch 195 (.branch 191 (.leaf (190, .iload_n 2, 191, 2, 0, 0, .null)) (.branch 194 (.leaf (191, .if_icmp .gt 63, 194, 254, 0, 0, .null)) (.leaf (194, .aload_n 0, 195, 0, 0, 0, .null)))) (.branch 198 (.leaf (195, .getfield 159, 198, 0, 25, 0, .null)) (.branch 200 (.leaf (198, .iload 7, 200, 7, 0, 0, .null)) (.leaf (200, .baload, 201, 0, 0, 0, .null)))))) (.branch 212 (.branch 205 (.branch 204 (.leaf (201, .ifCond .eq 35, 204, 236, 0, 0, .null)) (.leaf (204, .aload_n 0, 205, 0, 0, 0, .null))) (.branch 208 (.leaf (205, .getfield 144, 208, 0, 20, 0, .null)) (.branch 209 (.leaf (208, .aload_n 0, 209, 0, 0, 0, .null)) (.leaf (209, .getfield 150, 212, 0, 22, 0, .null))))) (.branch 216 (.branch 214 (.leaf (212, .iload 7, 214, 7, 0, 0, .null)) (.branch 215 (.leaf (214, .iaload, 215, 0, 0, 0, .null)) (.leaf (215, .dup2, 216, 0, 0, 0, .null)))) (.branch 217 (.leaf (216, .iaload, 217, 0, 0, 0, .null)) (.branch 219 (.leaf (217, .iload 6, 219, 6, 0, 0, .null)) (.leaf (219, .iadd, 220, 0, 0, 0, .null)))))))) (.branch 256 (.branch 236 (.branch 228 (.branch 222 (.branch 221 (.leaf (220, .iastore, 221, 0, 0, 0, .null)) (.leaf (221, .aload_n 0, 222, 0, 0, 0, .null))) (.branch 225 (.leaf (222, .getfield 147, 225, 0, 21, 0, .null)) (.branch 227 (.leaf (225, .iload 7, 227, 7, 0, 0, .null)) (.leaf (227, .dup2, 228, 0, 0, 0, .null))))) (.branch 231 (.branch 229 (.leaf (228, .iaload, 229, 0, 0, 0, .null)) (.leaf (229, .iload 6, 231, 6, 0, 0, .null))) (.branch 232 (.leaf (231, .isub, 232, 0, 0, 0, .null)) (.branch 233 (.leaf (232, .iastore, 233, 0, 0, 0, .null)) (.leaf (233, .goto 15, 236, 248, 0, 0, .null)))))) (.branch 244 (.branch 240 (.branch 237 (.leaf (236, .aload_n 0, 237, 0, 0, 0, .null)) (.leaf (237, .getfield 156, 240, 0, 24, 0, .null))) (.branch 242 (.leaf (240, .iload 7, 242, 7, 0, 0, .null)) (.branch 243 (.leaf (242, .dup2, 243, 0, 0, 0, .null)) (.leaf (243, .iaload, 244, 0, 0, 0, .null))))) (.branch 248 (.branch 246 (.leaf (244, .iload 6, 246, 6, 0, 0, .null)) (.branch 247 (.leaf (246, .isub, 247, 0, 0, 0, .null)) (.leaf (247, .iastore, 248, 0, 0, 0, .null)))) (.branch 251 (.leaf (248, .iinc 7 1, 251, 7, 0, 0, .int 1)) (.branch 254 (.leaf (251, .goto (-63), 254, 188, 0, 0, .null)) (.leaf (254, .iload 5, 256, 5, 0, 0, .null))))))) (.branch 277 (.branch 265 (.branch 260 (.branch 257 (.leaf (256, .istore_n 3, 257, 3, 0, 0, .null)) (.leaf (257, .goto (-220), 260, 37, 0, 0, .null))) (.branch 261 (.leaf (260, .iload_n 3, 261, 3, 0, 0, .null)) (.branch 264 (.leaf (261, .ifCond .eq 30, 264, 291, 0, 0, .null)) (.leaf (264, .aload_n 0, 265, 0, 0, 0, .null))))) (.branch 270 (.branch 268 (.leaf (265, .getfield 150, 268, 0, 22, 0, .null)) (.branch 269 (.leaf (268, .iload_n 3, 269, 3, 0, 0, .null)) (.leaf (269, .aload_n 0, 270, 0, 0, 0, .null)))) (.branch 273 (.leaf (270, .getfield 150, 273, 0, 22, 0, .null)) (.branch 274 (.leaf (273, .aload_n 0, 274, 0, 0, 0, .null)) (.leaf (274, .getfield 153, 277, 0, 23, 0, .null)))))) (.branch 282 (.branch 279 (.branch 278 (.leaf (277, .iload_n 3, 278, 3, 0, 0, .null)) (.leaf (278, .iaload, 279, 0, 0, 0, .null))) (.branch 280 (.leaf (279, .iaload, 280, 0, 0, 0, .null)) (.branch 281 (.leaf (280, .iastore, 281, 0, 0, 0, .null)) (.leaf (281, .aload_n 0, 282, 0, 0, 0, .null))))) (.branch 287 (.branch 285 (.leaf (282, .getfield 153, 285, 0, 23, 0, .null)) (.branch 286 (.leaf (285, .iload_n 3, 286, 3, 0, 0, .null)) (.leaf (286, .iaload, 287, 0, 0, 0, .null)))) (.branch 288 (.leaf (287, .istore_n 3, 288, 3, 0, 0, .null)) (.branch 291 (.leaf (288, .goto (-28), 291, 260, 0, 0, .null)) (.leaf (291, .return_, 292, 0, 0, 0, .int 0)))))))))
def tb_X1_holds : Lean.RArray am_E := .branch 81 (.branch 37 (.branch 21 (.branch 9 (.branch 6 (.branch 1 (.leaf (0, .aload_n 0, 1, 0, 0, 0, .null)) (.branch 4 (.leaf (1, .getfield 141, 4, 0, 19, 0, .null)) (.leaf (4, .bipush 36, 6, 0, 0, 0, .int 36)))) (.branch 7 (.leaf (6, .iload_n 1, 7, 1, 0, 0, .null)) (.branch 8 (.leaf (7, .imul, 8, 0, 0, 0, .null)) (.leaf (8, .iload_n 2, 9, 2, 0, 0, .null))))) (.branch 14 (.branch 10 (.leaf (9, .iadd, 10, 0, 0, 0, .null)) (.branch 11 (.leaf (10, .iaload, 11, 0, 0, 0, .null)) (.leaf (11, .ldc_w 261, 14, 0, 0, 0, .int 100000000)))) (.branch 17 (.leaf (14, .if_icmp .eq 35, 17, 49, 0, 0, .null)) (.branch 18 (.leaf (17, .aload_n 0, 18, 0, 0, 0, .null)) (.leaf (18, .getfield 141, 21, 0, 19, 0, .null)))))) (.branch 28 (.branch 25 (.branch 23 (.leaf (21, .bipush 36, 23, 0, 0, 0, .int 36)) (.branch 24 (.leaf (23, .iload_n 1, 24, 1, 0, 0, .null)) (.leaf (24, .imul, 25, 0, 0, 0, .null)))) (.branch 26 (.leaf (25, .iload_n 2, 26, 2, 0, 0, .null)) (.branch 27 (.leaf (26, .iadd, 27, 0, 0, 0, .null)) (.leaf (27, .iaload, 28, 0, 0, 0, .null))))) (.branch 33 (.branch 29 (.leaf (28, .aload_n 0, 29, 0, 0, 0, .null)) (.branch 32 (.leaf (29, .getfield 144, 32, 0, 20, 0, .null)) (.leaf (32, .iload_n 1, 33, 1, 0, 0, .null)))) (.branch 35 (.branch 34 (.leaf (33, .iconst 1, 34, 0, 0, 0, .int 1)) (.leaf (34, .iadd, 35, 0, 0, 0, .null))) (.branch 36 (.leaf (35, .iaload, 36, 0, 0, 0, .null)) (.leaf (36, .isub, 37, 0, 0, 0, .null))))))) (.branch 57 (.branch 45 (.branch 42 (.branch 38 (.leaf (37, .aload_n 0, 38, 0, 0, 0, .null)) (.branch 41 (.leaf (38, .getfield 147, 41, 0, 21, 0, .null)) (.leaf (41, .iload_n 2, 42, 2, 0, 0, .null)))) (.branch 43 (.leaf (42, .iconst 1, 43, 0, 0, 0, .int 1)) (.branch 44 (.leaf (43, .iadd, 44, 0, 0, 0, .null)) (.leaf (44, .iaload, 45, 0, 0, 0, .null))))) (.branch 50 (.branch 46 (.leaf (45, .isub, 46, 0, 0, 0, .null)) (.branch 49 (.leaf (46, .ifCond .le 5, 49, 51, 0, 0, .null)) (.leaf (49, .iconst 0, 50, 0, 0, 0, .int 0)))) (.branch 52 (.branch 51 (.leaf (50, .ireturn, 51, 0, 0, 0, .float 0)) (.leaf (51, .aload_n 0, 52, 0, 0, 0, .null))) (.branch 55 (.leaf (52, .getfield 163, 55, 0, 26, 0, .null)) (.leaf (55, .astore 7, 57, 7, 0, 0, .null)))))) (.branch 69 (.branch 62 (.branch 58 (.leaf (57, .iconst 0, 58, 0, 0, 0, .int 0)) (.branch 60 (.leaf (58, .istore 8, 60, 8, 0, 0, .null)) (.leaf (60, .iload 8, 62, 8, 0, 0, .null)))) (.branch 64 (.leaf (62, .iload 4, 64, 4, 0, 0, .null)) (.branch 67 (.leaf (64, .if_icmp .ge 47, 67, 111, 0, 0, .null)) (.leaf (67, .aload 7, 69, 7, 0, 0, .null))))) (.branch 75 (.branch 71 (.leaf (69, .iload 8, 71, 8, 0, 0, .null)) (.branch 72 (.leaf (71, .aload_n 0, 72, 0, 0, 0, .null)) (.leaf (72, .getfield 141, 75, 0, 19, 0, .null)))) (.branch 78 (.branch 77 (.leaf (75, .bipush 36, 77, 0, 0, 0, .int 36)) (.leaf (77, .iload_n 1, 78, 1, 0, 0, .null))) (.branch 79 (.leaf (78, .imul, 79, 0, 0, 0, .null)) (.leaf (79, .iload 8, 81, 8, 0, 0, .null)))))))) (.branch 125 (.branch 100 (.branch 90 (.branch 84 (.branch 82 (.leaf (81, .iadd, 82, 0, 0, 0, .null)) (.branch 83 (.leaf (82, .iaload, 83, 0, 0, 0, .null)) (.leaf (83, .iastore, 84, 0, 0, 0, .null)))) (.branch 86 (.leaf (84, .iload 8, 86, 8, 0, 0, .null)) (.branch 87 (.leaf (86, .iload_n 2, 87, 2, 0, 0, .null)) (.leaf (87, .if_icmp .eq 18, 90, 105, 0, 0, .null))))) (.branch 96 (.branch 91 (.leaf (90, .aload_n 0, 91, 0, 0, 0, .null)) (.branch 94 (.leaf (91, .getfield 141, 94, 0, 19, 0, .null)) (.leaf (94, .bipush 36, 96, 0, 0, 0, .int 36)))) (.branch 97 (.leaf (96, .iload_n 1, 97, 1, 0, 0, .null)) (.branch 98 (.leaf (97, .imul, 98, 0, 0, 0, .null)) (.leaf (98, .iload 8, 100, 8, 0, 0, .null)))))) (.branch 112 (.branch 105 (.branch 101 (.leaf (100, .iadd, 101, 0, 0, 0, .null)) (.branch 104 (.leaf (101, .ldc_w 261, 104, 0, 0, 0, .int 100000000)) (.leaf (104, .iastore, 105, 0, 0, 0, .null)))) (.branch 108 (.leaf (105, .iinc 8 1, 108, 8, 0, 0, .int 1)) (.branch 111 (.leaf (108, .goto (-48), 111, 60, 0, 0, .null)) (.leaf (111, .aload_n 0, 112, 0, 0, 0, .null))))) (.branch 118 (.branch 113 (.leaf (112, .iload_n 3, 113, 3, 0, 0, .null)) (.branch 115 (.leaf (113, .iload 4, 115, 4, 0, 0, .null)) (.leaf (115, .invokevirtual 262, 118, 27, 0, 0, .null)))) (.branch 121 (.branch 120 (.leaf (118, .lload 5, 120, 5, 0, 0, .null)) (.leaf (120, .lcmp, 121, 0, 0, 0, .null))) (.branch 124 (.leaf (121, .ifCond .ne 5, 124, 126, 0, 0, .null)) (.leaf (124, .iconst 1, 125, 0, 0, 0, .int 1))))))) (.branch 147 (.branch 136 (.branch 129 (.branch 126 (.leaf (125, .ireturn, 126, 0, 0, 0, .float 0)) (.branch 127 (.leaf (126, .iconst 0, 127, 0, 0, 0, .int 0)) (.leaf (127, .istore 8, 129, 8, 0, 0, .null)))) (.branch 131 (.leaf (129, .iload 8, 131, 8, 0, 0, .null)) (.branch 133 (.leaf (131, .iload 4, 133, 4, 0, 0, .null)) (.leaf (133, .if_icmp .ge 26, 136, 159, 0, 0, .null))))) (.branch 142 (.branch 137 (.leaf (136, .aload_n 0, 137, 0, 0, 0, .null)) (.branch 140 (.leaf (137, .getfield 141, 140, 0, 19, 0, .null)) (.leaf (140, .bipush 36, 142, 0, 0, 0, .int 36)))) (.branch 144 (.branch 143 (.leaf (142, .iload_n 1, 143, 1, 0, 0, .null)) (.leaf (143, .imul, 144, 0, 0, 0, .null))) (.branch 146 (.leaf (144, .iload 8, 146, 8, 0, 0, .null)) (.leaf (146, .iadd, 147, 0, 0, 0, .null)))))) (.branch 159 (.branch 152 (.branch 149 (.leaf (147, .aload 7, 149, 7, 0, 0, .null)) (.branch 151 (.leaf (149, .iload 8, 151, 8, 0, 0, .null)) (.leaf (151, .iaload, 152, 0, 0, 0, .null)))) (.branch 153 (.leaf (152, .iastore, 153, 0, 0, 0, .null)) (.branch 156 (.leaf (153, .iinc 8 1, 156, 8, 0, 0, .int 1)) (.leaf (156, .goto (-27), 159, 129, 0, 0, .null))))) (.branch 163 (.branch 160 (.leaf (159, .aload_n 0, 160, 0, 0, 0, .null)) (.branch 161 (.leaf (160, .iload_n 3, 161, 3, 0, 0, .null)) (.leaf (161, .iload 4, 163, 4, 0, 0, .null)))) (.branch 167 (.branch 166 (.leaf (163, .invokevirtual 262, 166, 27, 0, 0, .null)) (.leaf (166, .pop2, 167, 0, 0, 0, .null))) (.branch 168 (.leaf (167, .iconst 0, 168, 0, 0, 0, .int 0)) (.leaf (168, .ireturn, 169, 0, 0, 0, .float 0))))))))
def tb_X1_off : Lean.RArray am_E := .branch 132 (.branch 66 (.branch 35 (.branch 17 (.branch 8 (.branch 2 (.branch 1 (.leaf (0, .aload_n 0, 1, 0, 0, 0, .null)) (.leaf (1, .iload_n 1, 2, 1, 0, 0, .null))) (.branch 5 (.leaf (2, .invokevirtual 179, 5, 16, 0, 0, .null)) (.leaf (5, .ifCond .eq 22, 8, 27, 0, 0, .null)))) (.branch 12 (.branch 9 (.leaf (8, .aload_n 0, 9, 0, 0, 0, .null)) (.leaf (9, .getfield 128, 12, 0, 12, 0, .null))) (.branch 13 (.leaf (12, .iload_n 1, 13, 1, 0, 0, .null)) (.branch 14 (.leaf (13, .aaload, 14, 0, 0, 0, .null)) (.leaf (14, .getfield 188, 17, 4, 6, 0, .null)))))) (.branch 28 (.branch 21 (.branch 20 (.leaf (17, .ifCond .lt 10, 20, 27, 0, 0, .null)) (.leaf (20, .aload_n 0, 21, 0, 0, 0, .null))) (.branch 24 (.leaf (21, .getfield 254, 24, 0, 18, 0, .null)) (.branch 27 (.leaf (24, .ifCond .eq 5, 27, 29, 0, 0, .null)) (.leaf (27, .iconst (-1), 28, 0, 0, 0, .int (-1)))))) (.branch 30 (.branch 29 (.leaf (28, .ireturn, 29, 0, 0, 0, .int 0)) (.leaf (29, .aload_n 0, 30, 0, 0, 0, .null))) (.branch 33 (.leaf (30, .getfield 128, 33, 0, 12, 0, .null)) (.branch 34 (.leaf (33, .iload_n 1, 34, 1, 0, 0, .null)) (.leaf (34, .aaload, 35, 0, 0, 0, .null))))))) (.branch 52 (.branch 43 (.branch 39 (.branch 38 (.leaf (35, .getfield 188, 38, 4, 6, 0, .null)) (.leaf (38, .istore_n 2, 39, 2, 0, 0, .null))) (.branch 40 (.leaf (39, .aload_n 0, 40, 0, 0, 0, .null)) (.leaf (40, .getfield 128, 43, 0, 12, 0, .null)))) (.branch 45 (.branch 44 (.leaf (43, .iload_n 1, 44, 1, 0, 0, .null)) (.leaf (44, .aaload, 45, 0, 0, 0, .null))) (.branch 48 (.leaf (45, .getfield 185, 48, 4, 3, 0, .null)) (.branch 49 (.leaf (48, .aload_n 0, 49, 0, 0, 0, .null)) (.leaf (49, .getfield 182, 52, 0, 17, 0, .null)))))) (.branch 57 (.branch 54 (.branch 53 (.leaf (52, .iconst 1, 53, 0, 0, 0, .int 1)) (.leaf (53, .bastore, 54, 0, 0, 0, .null))) (.branch 55 (.leaf (54, .aload_n 0, 55, 0, 0, 0, .null)) (.branch 56 (.leaf (55, .iconst (-1), 56, 0, 0, 0, .int (-1))) (.leaf (56, .iload_n 2, 57, 2, 0, 0, .null))))) (.branch 61 (.branch 60 (.leaf (57, .invokevirtual 257, 60, 26, 0, 0, .null)) (.leaf (60, .aload_n 0, 61, 0, 0, 0, .null))) (.branch 62 (.leaf (61, .iload_n 2, 62, 2, 0, 0, .null)) (.branch 65 (.leaf (62, .invokevirtual 270, 65, 31, 0, 0, .null)) (.leaf (65, .istore_n 3, 66, 3, 0, 0, .null)))))))) (.branch 95 (.branch 79 (.branch 72 (.branch 70 (.branch 67 (.leaf (66, .iload_n 3, 67, 3, 0, 0, .null)) (.leaf (67, .ifCond .lt 11, 70, 78, 0, 0, .null))) (.branch 71 (.leaf (70, .aload_n 0, 71, 0, 0, 0, .null)) (.leaf (71, .iload_n 3, 72, 3, 0, 0, .null)))) (.branch 76 (.branch 73 (.leaf (72, .iload_n 2, 73, 2, 0, 0, .null)) (.leaf (73, .invokevirtual 257, 76, 26, 0, 0, .null))) (.branch 77 (.leaf (76, .iconst 1, 77, 0, 0, 0, .int 1)) (.branch 78 (.leaf (77, .ireturn, 78, 0, 0, 0, .int 0)) (.leaf (78, .iconst (-1), 79, 0, 0, 0, .int (-1))))))) (.branch 87 (.branch 82 (.branch 81 (.leaf (79, .istore 4, 81, 4, 0, 0, .null)) (.leaf (81, .iconst 0, 82, 0, 0, 0, .int 0))) (.branch 84 (.leaf (82, .istore 5, 84, 5, 0, 0, .null)) (.branch 85 (.leaf (84, .iconst 0, 85, 0, 0, 0, .int 0)) (.leaf (85, .istore 6, 87, 6, 0, 0, .null))))) (.branch 90 (.branch 89 (.leaf (87, .iload 6, 89, 6, 0, 0, .null)) (.leaf (89, .iconst 2, 90, 0, 0, 0, .int 2))) (.branch 91 (.leaf (90, .aload_n 0, 91, 0, 0, 0, .null)) (.branch 94 (.leaf (91, .getfield 173, 94, 0, 16, 0, .null)) (.leaf (94, .imul, 95, 0, 0, 0, .null))))))) (.branch 113 (.branch 104 (.branch 99 (.branch 98 (.leaf (95, .if_icmp .ge 134, 98, 229, 0, 0, .null)) (.leaf (98, .aload_n 0, 99, 0, 0, 0, .null))) (.branch 102 (.leaf (99, .getfield 138, 102, 0, 14, 0, .null)) (.leaf (102, .iload 6, 104, 6, 0, 0, .null)))) (.branch 108 (.branch 105 (.leaf (104, .iaload, 105, 0, 0, 0, .null)) (.leaf (105, .ifCond .lt 23, 108, 128, 0, 0, .null))) (.branch 109 (.leaf (108, .aload_n 0, 109, 0, 0, 0, .null)) (.branch 110 (.leaf (109, .aload_n 0, 110, 0, 0, 0, .null)) (.leaf (110, .getfield 128, 113, 0, 12, 0, .null)))))) (.branch 121 (.branch 117 (.branch 114 (.leaf (113, .aload_n 0, 114, 0, 0, 0, .null)) (.leaf (114, .getfield 138, 117, 0, 14, 0, .null))) (.branch 119 (.leaf (117, .iload 6, 119, 6, 0, 0, .null)) (.branch 120 (.leaf (119, .iaload, 120, 0, 0, 0, .null)) (.leaf (120, .aaload, 121, 0, 0, 0, .null))))) (.branch 125 (.branch 122 (.leaf (121, .iload_n 2, 122, 2, 0, 0, .null)) (.leaf (122, .invokevirtual 239, 125, 20, 0, 0, .null))) (.branch 128 (.leaf (125, .ifCond .ne 7, 128, 132, 0, 0, .null)) (.branch 129 (.leaf (128, .iconst (-1), 129, 0, 0, 0, .int (-1))) (.leaf (129, .goto 9, 132, 138, 0, 0, .null))))))))) (.branch 202 (.branch 167 (.branch 150 (.branch 140 (.branch 135 (.branch 133 (.leaf (132, .aload_n 0, 133, 0, 0, 0, .null)) (.leaf (133, .iload 6, 135, 6, 0, 0, .null))) (.branch 138 (.leaf (135, .invokevirtual 270, 138, 31, 0, 0, .null)) (.leaf (138, .istore 7, 140, 7, 0, 0, .null)))) (.branch 145 (.branch 142 (.leaf (140, .iload 7, 142, 7, 0, 0, .null)) (.leaf (142, .ifCond .ge 6, 145, 148, 0, 0, .null))) (.branch 148 (.leaf (145, .goto 78, 148, 223, 0, 0, .null)) (.branch 149 (.leaf (148, .aload_n 0, 149, 0, 0, 0, .null)) (.leaf (149, .aload_n 0, 150, 0, 0, 0, .null)))))) (.branch 160 (.branch 154 (.branch 153 (.leaf (150, .getfield 128, 153, 0, 12, 0, .null)) (.leaf (153, .aload_n 0, 154, 0, 0, 0, .null))) (.branch 157 (.leaf (154, .getfield 138, 157, 0, 14, 0, .null)) (.branch 159 (.leaf (157, .iload 6, 159, 6, 0, 0, .null)) (.leaf (159, .iaload, 160, 0, 0, 0, .null))))) (.branch 162 (.branch 161 (.leaf (160, .aaload, 161, 0, 0, 0, .null)) (.leaf (161, .iload_n 2, 162, 2, 0, 0, .null))) (.branch 165 (.leaf (162, .invokevirtual 243, 165, 24, 0, 0, .null)) (.branch 166 (.leaf (165, .aload_n 0, 166, 0, 0, 0, .null)) (.leaf (166, .aload_n 0, 167, 0, 0, 0, .null))))))) (.branch 184 (.branch 175 (.branch 172 (.branch 170 (.leaf (167, .getfield 128, 170, 0, 12, 0, .null)) (.leaf (170, .iload 7, 172, 7, 0, 0, .null))) (.branch 173 (.leaf (172, .aaload, 173, 0, 0, 0, .null)) (.leaf (173, .iload 6, 175, 6, 0, 0, .null)))) (.branch 179 (.branch 178 (.leaf (175, .invokevirtual 243, 178, 24, 0, 0, .null)) (.leaf (178, .iadd, 179, 0, 0, 0, .null))) (.branch 180 (.leaf (179, .aload_n 0, 180, 0, 0, 0, .null)) (.branch 181 (.leaf (180, .aload_n 0, 181, 0, 0, 0, .null)) (.leaf (181, .getfield 128, 184, 0, 12, 0, .null)))))) (.branch 192 (.branch 188 (.branch 185 (.leaf (184, .aload_n 0, 185, 0, 0, 0, .null)) (.leaf (185, .getfield 138, 188, 0, 14, 0, .null))) (.branch 190 (.leaf (188, .iload 6, 190, 6, 0, 0, .null)) (.branch 191 (.leaf (190, .iaload, 191, 0, 0, 0, .null)) (.leaf (191, .aaload, 192, 0, 0, 0, .null))))) (.branch 197 (.branch 194 (.leaf (192, .iload 6, 194, 6, 0, 0, .null)) (.leaf (194, .invokevirtual 243, 197, 24, 0, 0, .null))) (.branch 198 (.leaf (197, .isub, 198, 0, 0, 0, .null)) (.branch 200 (.leaf (198, .istore 8, 200, 8, 0, 0, .null)) (.leaf (200, .iload 4, 202, 4, 0, 0, .null)))))))) (.branch 243 (.branch 223 (.branch 212 (.branch 207 (.branch 205 (.leaf (202, .ifCond .lt 13, 205, 215, 0, 0, .null)) (.leaf (205, .iload 8, 207, 8, 0, 0, .null))) (.branch 209 (.leaf (207, .iload 5, 209, 5, 0, 0, .null)) (.leaf (209, .if_icmp .lt 6, 212, 215, 0, 0, .null)))) (.branch 217 (.branch 215 (.leaf (212, .goto 11, 215, 223, 0, 0, .null)) (.leaf (215, .iload 6, 217, 6, 0, 0, .null))) (.branch 219 (.leaf (217, .istore 4, 219, 4, 0, 0, .null)) (.branch 221 (.leaf (219, .iload 8, 221, 8, 0, 0, .null)) (.leaf (221, .istore 5, 223, 5, 0, 0, .null)))))) (.branch 235 (.branch 229 (.branch 226 (.leaf (223, .iinc 6 1, 226, 6, 0, 0, .int 1)) (.leaf (226, .goto (-139), 229, 87, 0, 0, .null))) (.branch 231 (.leaf (229, .iload 4, 231, 4, 0, 0, .null)) (.branch 234 (.leaf (231, .ifCond .ge 5, 234, 236, 0, 0, .null)) (.leaf (234, .iconst 0, 235, 0, 0, 0, .int 0))))) (.branch 237 (.branch 236 (.leaf (235, .ireturn, 236, 0, 0, 0, .int 0)) (.leaf (236, .aload_n 0, 237, 0, 0, 0, .null))) (.branch 240 (.leaf (237, .getfield 138, 240, 0, 14, 0, .null)) (.branch 242 (.leaf (240, .iload 4, 242, 4, 0, 0, .null)) (.leaf (242, .iaload, 243, 0, 0, 0, .null))))))) (.branch 260 (.branch 251 (.branch 246 (.branch 245 (.leaf (243, .istore 6, 245, 6, 0, 0, .null)) (.leaf (245, .aload_n 0, 246, 0, 0, 0, .null))) (.branch 248 (.leaf (246, .iload 4, 248, 4, 0, 0, .null)) (.leaf (248, .invokevirtual 270, 251, 31, 0, 0, .null)))) (.branch 254 (.branch 253 (.leaf (251, .istore 7, 253, 7, 0, 0, .null)) (.leaf (253, .aload_n 0, 254, 0, 0, 0, .null))) (.branch 255 (.leaf (254, .iconst (-1), 255, 0, 0, 0, .int (-1))) (.branch 257 (.leaf (255, .iload 4, 257, 4, 0, 0, .null)) (.leaf (257, .invokevirtual 257, 260, 26, 0, 0, .null)))))) (.branch 268 (.branch 263 (.branch 261 (.leaf (260, .aload_n 0, 261, 0, 0, 0, .null)) (.leaf (261, .iload 6, 263, 6, 0, 0, .null))) (.branch 264 (.leaf (263, .iload_n 2, 264, 2, 0, 0, .null)) (.branch 267 (.leaf (264, .invokevirtual 257, 267, 26, 0, 0, .null)) (.leaf (267, .aload_n 0, 268, 0, 0, 0, .null))))) (.branch 272 (.branch 270 (.leaf (268, .iload 7, 270, 7, 0, 0, .null)) (.leaf (270, .iload 4, 272, 4, 0, 0, .null))) (.branch 275 (.leaf (272, .invokevirtual 257, 275, 26, 0, 0, .null)) (.branch 276 (.leaf (275, .iconst 2, 276, 0, 0, 0, .int 2)) (.leaf (276, .ireturn, 277, 0, 0, 0, .int 0)))))))))
def tb_X1_cheapest : Lean.RArray am_E := .branch 41 (.branch 17 (.branch 5 (.branch 2 (.branch 1 (.leaf (0, .iconst (-1), 1, 0, 0, 0, .int (-1))) (.leaf (1, .istore_n 2, 2, 2, 0, 0, .null))) (.branch 3 (.leaf (2, .iconst 0, 3, 0, 0, 0, .int 0)) (.branch 4 (.leaf (3, .istore_n 3, 4, 3, 0, 0, .null)) (.leaf (4, .iload_n 3, 5, 3, 0, 0, .null))))) (.branch 12 (.branch 6 (.leaf (5, .aload_n 0, 6, 0, 0, 0, .null)) (.branch 9 (.leaf (6, .getfield 166, 9, 0, 15, 0, .null)) (.leaf (9, .if_icmp .ge 69, 12, 78, 0, 0, .null)))) (.branch 13 (.leaf (12, .aload_n 0, 13, 0, 0, 0, .null)) (.branch 16 (.leaf (13, .getfield 128, 16, 0, 12, 0, .null)) (.leaf (16, .iload_n 3, 17, 3, 0, 0, .null)))))) (.branch 29 (.branch 24 (.branch 18 (.leaf (17, .aaload, 18, 0, 0, 0, .null)) (.branch 21 (.leaf (18, .getfield 188, 21, 4, 6, 0, .null)) (.leaf (21, .ifCond .ge 51, 24, 72, 0, 0, .null)))) (.branch 25 (.leaf (24, .aload_n 0, 25, 0, 0, 0, .null)) (.branch 26 (.leaf (25, .aload_n 0, 26, 0, 0, 0, .null)) (.leaf (26, .getfield 128, 29, 0, 12, 0, .null))))) (.branch 32 (.branch 30 (.leaf (29, .iload_n 3, 30, 3, 0, 0, .null)) (.branch 31 (.leaf (30, .aaload, 31, 0, 0, 0, .null)) (.leaf (31, .iload_n 1, 32, 1, 0, 0, .null)))) (.branch 35 (.leaf (32, .invokevirtual 239, 35, 20, 0, 0, .null)) (.branch 38 (.leaf (35, .ifCond .ne 6, 38, 41, 0, 0, .null)) (.leaf (38, .goto 34, 41, 72, 0, 0, .null))))))) (.branch 58 (.branch 50 (.branch 45 (.branch 42 (.leaf (41, .iload_n 2, 42, 2, 0, 0, .null)) (.leaf (42, .ifCond .lt 28, 45, 70, 0, 0, .null))) (.branch 46 (.leaf (45, .aload_n 0, 46, 0, 0, 0, .null)) (.branch 47 (.leaf (46, .aload_n 0, 47, 0, 0, 0, .null)) (.leaf (47, .getfield 128, 50, 0, 12, 0, .null))))) (.branch 53 (.branch 51 (.leaf (50, .iload_n 3, 51, 3, 0, 0, .null)) (.branch 52 (.leaf (51, .aaload, 52, 0, 0, 0, .null)) (.leaf (52, .iload_n 1, 53, 1, 0, 0, .null)))) (.branch 56 (.leaf (53, .invokevirtual 243, 56, 24, 0, 0, .null)) (.branch 57 (.leaf (56, .aload_n 0, 57, 0, 0, 0, .null)) (.leaf (57, .aload_n 0, 58, 0, 0, 0, .null)))))) (.branch 70 (.branch 63 (.branch 61 (.leaf (58, .getfield 128, 61, 0, 12, 0, .null)) (.branch 62 (.leaf (61, .iload_n 2, 62, 2, 0, 0, .null)) (.leaf (62, .aaload, 63, 0, 0, 0, .null)))) (.branch 64 (.leaf (63, .iload_n 1, 64, 1, 0, 0, .null)) (.branch 67 (.leaf (64, .invokevirtual 243, 67, 24, 0, 0, .null)) (.leaf (67, .if_icmp .ge 5, 70, 72, 0, 0, .null))))) (.branch 75 (.branch 71 (.leaf (70, .iload_n 3, 71, 3, 0, 0, .null)) (.branch 72 (.leaf (71, .istore_n 2, 72, 2, 0, 0, .null)) (.leaf (72, .iinc 3 1, 75, 3, 0, 0, .int 1)))) (.branch 78 (.leaf (75, .goto (-71), 78, 4, 0, 0, .null)) (.branch 79 (.leaf (78, .iload_n 2, 79, 2, 0, 0, .null)) (.leaf (79, .ireturn, 80, 0, 0, 0, .int 0)))))))
def tb_X1_seat : Lean.RArray am_E := .branch 9 (.branch 2 (.branch 1 (.leaf (0, .aload_n 0, 1, 0, 0, 0, .null)) (.leaf (1, .iload_n 1, 2, 1, 0, 0, .null))) (.branch 5 (.leaf (2, .invokevirtual 236, 5, 19, 0, 0, .null)) (.branch 8 (.leaf (5, .ifCond .eq 12, 8, 17, 0, 0, .null)) (.leaf (8, .aload_n 0, 9, 0, 0, 0, .null))))) (.branch 14 (.branch 12 (.leaf (9, .getfield 138, 12, 0, 14, 0, .null)) (.branch 13 (.leaf (12, .iload_n 1, 13, 1, 0, 0, .null)) (.leaf (13, .iaload, 14, 0, 0, 0, .null)))) (.branch 17 (.leaf (14, .goto 4, 17, 18, 0, 0, .null)) (.branch 18 (.leaf (17, .iconst (-1), 18, 0, 0, 0, .int (-1))) (.leaf (18, .ireturn, 19, 0, 0, 0, .int 0)))))
def tb_X1_mark : Lean.RArray am_E := .branch 65 (.branch 40 (.branch 18 (.branch 9 (.branch 2 (.branch 1 (.leaf (0, .aload_n 0, 1, 0, 0, 0, .null)) (.leaf (1, .iload_n 1, 2, 1, 0, 0, .null))) (.branch 5 (.leaf (2, .invokevirtual 236, 5, 19, 0, 0, .null)) (.branch 8 (.leaf (5, .ifCond .eq 47, 8, 52, 0, 0, .null)) (.leaf (8, .aload_n 0, 9, 0, 0, 0, .null))))) (.branch 13 (.branch 12 (.leaf (9, .getfield 138, 12, 0, 14, 0, .null)) (.leaf (12, .iload_n 1, 13, 1, 0, 0, .null))) (.branch 14 (.leaf (13, .iaload, 14, 0, 0, 0, .null)) (.branch 17 (.leaf (14, .ifCond .lt 38, 17, 52, 0, 0, .null)) (.leaf (17, .iload_n 2, 18, 2, 0, 0, .null)))))) (.branch 27 (.branch 20 (.branch 19 (.leaf (18, .iconst 0, 19, 0, 0, 0, .int 0)) (.leaf (19, .iconst 1, 20, 0, 0, 0, .int 1))) (.branch 23 (.leaf (20, .invokestatic 169, 23, 14, 0, 0, .null)) (.branch 26 (.leaf (23, .ifCond .eq 29, 26, 52, 0, 0, .null)) (.leaf (26, .iload_n 3, 27, 3, 0, 0, .null))))) (.branch 33 (.branch 28 (.leaf (27, .iconst 0, 28, 0, 0, 0, .int 0)) (.branch 30 (.leaf (28, .bipush 100, 30, 0, 0, 0, .int 100)) (.leaf (30, .invokestatic 169, 33, 14, 0, 0, .null)))) (.branch 36 (.leaf (33, .ifCond .eq 19, 36, 52, 0, 0, .null)) (.branch 37 (.leaf (36, .aload_n 0, 37, 0, 0, 0, .null)) (.leaf (37, .getfield 254, 40, 0, 18, 0, .null))))))) (.branch 52 (.branch 45 (.branch 42 (.branch 41 (.leaf (40, .iconst 2, 41, 0, 0, 0, .int 2)) (.leaf (41, .iload_n 1, 42, 1, 0, 0, .null))) (.branch 43 (.leaf (42, .imul, 43, 0, 0, 0, .null)) (.branch 44 (.leaf (43, .iload_n 2, 44, 2, 0, 0, .null)) (.leaf (44, .iadd, 45, 0, 0, 0, .null))))) (.branch 47 (.branch 46 (.leaf (45, .ishr, 46, 0, 0, 0, .null)) (.leaf (46, .iconst 1, 47, 0, 0, 0, .int 1))) (.branch 48 (.leaf (47, .iand, 48, 0, 0, 0, .null)) (.branch 49 (.leaf (48, .iconst 1, 49, 0, 0, 0, .int 1)) (.leaf (49, .if_icmp .ne 5, 52, 54, 0, 0, .null)))))) (.branch 59 (.branch 54 (.branch 53 (.leaf (52, .iconst 0, 53, 0, 0, 0, .int 0)) (.leaf (53, .ireturn, 54, 0, 0, 0, .float 0))) (.branch 55 (.leaf (54, .aload_n 0, 55, 0, 0, 0, .null)) (.branch 56 (.leaf (55, .dup, 56, 0, 0, 0, .null)) (.leaf (56, .getfield 254, 59, 0, 18, 0, .null))))) (.branch 62 (.branch 60 (.leaf (59, .iconst 1, 60, 0, 0, 0, .int 1)) (.branch 61 (.leaf (60, .iconst 2, 61, 0, 0, 0, .int 2)) (.leaf (61, .iload_n 1, 62, 1, 0, 0, .null)))) (.branch 63 (.leaf (62, .imul, 63, 0, 0, 0, .null)) (.branch 64 (.leaf (63, .iload_n 2, 64, 2, 0, 0, .null)) (.leaf (64, .iadd, 65, 0, 0, 0, .null)))))))) (.branch 102 (.branch 81 (.branch 74 (.branch 67 (.branch 66 (.leaf (65, .ishl, 66, 0, 0, 0, .null)) (.leaf (66, .ior, 67, 0, 0, 0, .null))) (.branch 70 (.leaf (67, .putfield 254, 70, 0, 18, 0, .int 0)) (.branch 71 (.leaf (70, .aload_n 0, 71, 0, 0, 0, .null)) (.leaf (71, .getfield 128, 74, 0, 12, 0, .null))))) (.branch 78 (.branch 75 (.leaf (74, .aload_n 0, 75, 0, 0, 0, .null)) (.leaf (75, .getfield 138, 78, 0, 14, 0, .null))) (.branch 79 (.leaf (78, .iload_n 1, 79, 1, 0, 0, .null)) (.branch 80 (.leaf (79, .iaload, 80, 0, 0, 0, .null)) (.leaf (80, .aaload, 81, 0, 0, 0, .null)))))) (.branch 92 (.branch 84 (.branch 83 (.leaf (81, .astore 5, 83, 5, 0, 0, .null)) (.leaf (83, .aload_n 0, 84, 0, 0, 0, .null))) (.branch 87 (.leaf (84, .getfield 90, 87, 0, 4, 0, .null)) (.branch 89 (.leaf (87, .iload 4, 89, 4, 0, 0, .null)) (.leaf (89, .ifCond .eq 7, 92, 96, 0, 0, .null))))) (.branch 97 (.branch 93 (.leaf (92, .iconst 4, 93, 0, 0, 0, .int 4)) (.branch 96 (.leaf (93, .goto 4, 96, 97, 0, 0, .null)) (.leaf (96, .iconst 5, 97, 0, 0, 0, .int 5)))) (.branch 98 (.leaf (97, .iaload, 98, 0, 0, 0, .null)) (.branch 100 (.leaf (98, .istore 6, 100, 6, 0, 0, .null)) (.leaf (100, .aload 5, 102, 5, 0, 0, .null))))))) (.branch 120 (.branch 111 (.branch 106 (.branch 103 (.leaf (102, .dup, 103, 0, 0, 0, .null)) (.leaf (103, .getfield 273, 106, 4, 8, 0, .null))) (.branch 107 (.leaf (106, .iconst 1, 107, 0, 0, 0, .int 1)) (.branch 108 (.leaf (107, .iadd, 108, 0, 0, 0, .null)) (.leaf (108, .putfield 273, 111, 4, 8, 0, .int 0))))) (.branch 114 (.branch 113 (.leaf (111, .aload 5, 113, 5, 0, 0, .null)) (.leaf (113, .dup, 114, 0, 0, 0, .null))) (.branch 117 (.leaf (114, .getfield 276, 117, 4, 9, 0, .null)) (.branch 119 (.leaf (117, .iload 6, 119, 6, 0, 0, .null)) (.leaf (119, .iadd, 120, 0, 0, 0, .null)))))) (.branch 131 (.branch 125 (.branch 123 (.leaf (120, .putfield 276, 123, 4, 9, 0, .int 0)) (.leaf (123, .aload 5, 125, 5, 0, 0, .null))) (.branch 126 (.leaf (125, .dup, 126, 0, 0, 0, .null)) (.branch 129 (.leaf (126, .getfield 279, 129, 4, 10, 0, .null)) (.leaf (129, .iload 6, 131, 6, 0, 0, .null))))) (.branch 134 (.branch 132 (.leaf (131, .iload_n 3, 132, 3, 0, 0, .null)) (.branch 133 (.leaf (132, .imul, 133, 0, 0, 0, .null)) (.leaf (133, .iadd, 134, 0, 0, 0, .null)))) (.branch 137 (.leaf (134, .putfield 279, 137, 4, 10, 0, .int 0)) (.branch 138 (.leaf (137, .iconst 1, 138, 0, 0, 0, .int 1)) (.leaf (138, .ireturn, 139, 0, 0, 0, .float 0))))))))
def tb_X1_next : Lean.RArray am_E := .branch 64 (.branch 29 (.branch 14 (.branch 9 (.branch 4 (.branch 1 (.leaf (0, .aload_n 0, 1, 0, 0, 0, .null)) (.leaf (1, .getfield 182, 4, 0, 17, 0, .null))) (.branch 6 (.leaf (4, .bipush 99, 6, 0, 0, 0, .int 99)) (.leaf (6, .if_icmp .ne 5, 9, 11, 0, 0, .null)))) (.branch 11 (.branch 10 (.leaf (9, .iconst (-1), 10, 0, 0, 0, .int (-1))) (.leaf (10, .ireturn, 11, 0, 0, 0, .int 0))) (.branch 12 (.leaf (11, .iconst 0, 12, 0, 0, 0, .int 0)) (.branch 13 (.leaf (12, .istore_n 1, 13, 1, 0, 0, .null)) (.leaf (13, .iload_n 1, 14, 1, 0, 0, .null)))))) (.branch 22 (.branch 18 (.branch 15 (.leaf (14, .aload_n 0, 15, 0, 0, 0, .null)) (.leaf (15, .getfield 166, 18, 0, 15, 0, .null))) (.branch 21 (.leaf (18, .if_icmp .ge 66, 21, 84, 0, 0, .null)) (.leaf (21, .aload_n 0, 22, 0, 0, 0, .null)))) (.branch 26 (.branch 25 (.leaf (22, .getfield 128, 25, 0, 12, 0, .null)) (.leaf (25, .iload_n 1, 26, 1, 0, 0, .null))) (.branch 27 (.leaf (26, .aaload, 27, 0, 0, 0, .null)) (.branch 28 (.leaf (27, .astore_n 2, 28, 2, 0, 0, .null)) (.leaf (28, .aload_n 2, 29, 2, 0, 0, .null))))))) (.branch 48 (.branch 39 (.branch 35 (.branch 32 (.leaf (29, .getfield 188, 32, 4, 6, 0, .null)) (.leaf (32, .ifCond .lt 36, 35, 68, 0, 0, .null))) (.branch 36 (.leaf (35, .aload_n 2, 36, 2, 0, 0, .null)) (.leaf (36, .getfield 206, 39, 4, 4, 0, .null)))) (.branch 43 (.branch 40 (.leaf (39, .aload_n 0, 40, 0, 0, 0, .null)) (.leaf (40, .getfield 182, 43, 0, 17, 0, .null))) (.branch 44 (.leaf (43, .aload_n 0, 44, 0, 0, 0, .null)) (.branch 47 (.leaf (44, .getfield 134, 47, 0, 13, 0, .null)) (.leaf (47, .aload_n 2, 48, 2, 0, 0, .null)))))) (.branch 57 (.branch 52 (.branch 51 (.leaf (48, .getfield 188, 51, 4, 6, 0, .null)) (.leaf (51, .iconst 2, 52, 0, 0, 0, .int 2))) (.branch 53 (.leaf (52, .idiv, 53, 0, 0, 0, .null)) (.branch 54 (.leaf (53, .aaload, 54, 0, 0, 0, .null)) (.leaf (54, .getfield 212, 57, 5, 2, 0, .null))))) (.branch 59 (.branch 58 (.leaf (57, .iastore, 58, 0, 0, 0, .null)) (.leaf (58, .aload_n 2, 59, 2, 0, 0, .null))) (.branch 60 (.leaf (59, .dup, 60, 0, 0, 0, .null)) (.branch 63 (.leaf (60, .getfield 233, 63, 4, 7, 0, .null)) (.leaf (63, .iconst 1, 64, 0, 0, 0, .int 1)))))))) (.branch 97 (.branch 81 (.branch 70 (.branch 68 (.branch 65 (.leaf (64, .iadd, 65, 0, 0, 0, .null)) (.leaf (65, .putfield 233, 68, 4, 7, 0, .int 0))) (.branch 69 (.leaf (68, .aload_n 2, 69, 2, 0, 0, .null)) (.leaf (69, .iconst (-1), 70, 0, 0, 0, .int (-1))))) (.branch 74 (.branch 73 (.leaf (70, .putfield 188, 73, 4, 6, 0, .int 0)) (.leaf (73, .aload_n 0, 74, 0, 0, 0, .null))) (.branch 75 (.leaf (74, .aload_n 2, 75, 2, 0, 0, .null)) (.branch 78 (.leaf (75, .invokevirtual 282, 78, 35, 0, 0, .null)) (.leaf (78, .iinc 1 1, 81, 1, 0, 0, .int 1)))))) (.branch 87 (.branch 85 (.branch 84 (.leaf (81, .goto (-68), 84, 13, 0, 0, .null)) (.leaf (84, .iconst 0, 85, 0, 0, 0, .int 0))) (.branch 86 (.leaf (85, .istore_n 1, 86, 1, 0, 0, .null)) (.leaf (86, .iload_n 1, 87, 1, 0, 0, .null)))) (.branch 92 (.branch 89 (.leaf (87, .bipush 16, 89, 0, 0, 0, .int 16)) (.leaf (89, .if_icmp .ge 16, 92, 105, 0, 0, .null))) (.branch 93 (.leaf (92, .aload_n 0, 93, 0, 0, 0, .null)) (.branch 96 (.leaf (93, .getfield 138, 96, 0, 14, 0, .null)) (.leaf (96, .iload_n 1, 97, 1, 0, 0, .null))))))) (.branch 112 (.branch 105 (.branch 99 (.branch 98 (.leaf (97, .iconst (-1), 98, 0, 0, 0, .int (-1))) (.leaf (98, .iastore, 99, 0, 0, 0, .null))) (.branch 102 (.leaf (99, .iinc 1 1, 102, 1, 0, 0, .int 1)) (.leaf (102, .goto (-16), 105, 86, 0, 0, .null)))) (.branch 107 (.branch 106 (.leaf (105, .aload_n 0, 106, 0, 0, 0, .null)) (.leaf (106, .iconst 0, 107, 0, 0, 0, .int 0))) (.branch 110 (.leaf (107, .putfield 173, 110, 0, 16, 0, .int 0)) (.branch 111 (.leaf (110, .aload_n 0, 111, 0, 0, 0, .null)) (.leaf (111, .iconst 0, 112, 0, 0, 0, .int 0)))))) (.branch 121 (.branch 116 (.branch 115 (.leaf (112, .putfield 254, 115, 0, 18, 0, .int 0)) (.leaf (115, .aload_n 0, 116, 0, 0, 0, .null))) (.branch 117 (.leaf (116, .dup, 117, 0, 0, 0, .null)) (.branch 120 (.leaf (117, .getfield 182, 120, 0, 17, 0, .null)) (.leaf (120, .iconst 1, 121, 0, 0, 0, .int 1))))) (.branch 125 (.branch 122 (.leaf (121, .iadd, 122, 0, 0, 0, .null)) (.leaf (122, .putfield 182, 125, 0, 17, 0, .int 0))) (.branch 126 (.leaf (125, .aload_n 0, 126, 0, 0, 0, .null)) (.branch 129 (.leaf (126, .getfield 182, 129, 0, 17, 0, .null)) (.leaf (129, .ireturn, 130, 0, 0, 0, .int 0))))))))
def tb_X1_grade : Lean.RArray am_E := .branch 63 (.branch 32 (.branch 15 (.branch 8 (.branch 4 (.branch 1 (.leaf (0, .aload_n 1, 1, 1, 0, 0, .null)) (.leaf (1, .getfield 273, 4, 4, 8, 0, .null))) (.branch 5 (.leaf (4, .aload_n 0, 5, 0, 0, 0, .null)) (.leaf (5, .getfield 90, 8, 0, 4, 0, .null)))) (.branch 11 (.branch 10 (.leaf (8, .bipush 8, 10, 0, 0, 0, .int 8)) (.leaf (10, .iaload, 11, 0, 0, 0, .null))) (.branch 14 (.leaf (11, .if_icmp .lt 10, 14, 21, 0, 0, .null)) (.leaf (14, .aload_n 1, 15, 1, 0, 0, .null))))) (.branch 23 (.branch 21 (.branch 18 (.leaf (15, .getfield 276, 18, 4, 9, 0, .null)) (.leaf (18, .ifCond .ne 4, 21, 22, 0, 0, .null))) (.branch 22 (.leaf (21, .return_, 22, 0, 0, 0, .int 0)) (.leaf (22, .aload_n 1, 23, 1, 0, 0, .null)))) (.branch 27 (.branch 26 (.leaf (23, .getfield 279, 26, 4, 10, 0, .null)) (.leaf (26, .aload_n 0, 27, 0, 0, 0, .null))) (.branch 30 (.leaf (27, .getfield 90, 30, 0, 4, 0, .null)) (.leaf (30, .bipush 6, 32, 0, 0, 0, .int 6)))))) (.branch 46 (.branch 38 (.branch 34 (.branch 33 (.leaf (32, .iaload, 33, 0, 0, 0, .null)) (.leaf (33, .aload_n 1, 34, 1, 0, 0, .null))) (.branch 37 (.leaf (34, .getfield 276, 37, 4, 9, 0, .null)) (.leaf (37, .imul, 38, 0, 0, 0, .null)))) (.branch 42 (.branch 41 (.leaf (38, .if_icmp .lt 15, 41, 53, 0, 0, .null)) (.leaf (41, .aload_n 1, 42, 1, 0, 0, .null))) (.branch 45 (.leaf (42, .getfield 215, 45, 4, 5, 0, .null)) (.leaf (45, .iconst 1, 46, 0, 0, 0, .int 1))))) (.branch 54 (.branch 50 (.branch 49 (.leaf (46, .if_icmp .le 7, 49, 53, 0, 0, .null)) (.leaf (49, .iconst 1, 50, 0, 0, 0, .int 1))) (.branch 53 (.leaf (50, .goto 4, 53, 54, 0, 0, .null)) (.leaf (53, .iconst 0, 54, 0, 0, 0, .int 0)))) (.branch 56 (.branch 55 (.leaf (54, .istore_n 2, 55, 2, 0, 0, .null)) (.leaf (55, .iload_n 2, 56, 2, 0, 0, .null))) (.branch 59 (.leaf (56, .ifCond .ne 34, 59, 90, 0, 0, .null)) (.branch 60 (.leaf (59, .aload_n 1, 60, 1, 0, 0, .null)) (.leaf (60, .getfield 279, 63, 4, 10, 0, .null)))))))) (.branch 93 (.branch 78 (.branch 70 (.branch 67 (.branch 64 (.leaf (63, .aload_n 0, 64, 0, 0, 0, .null)) (.leaf (64, .getfield 90, 67, 0, 4, 0, .null))) (.branch 69 (.leaf (67, .bipush 7, 69, 0, 0, 0, .int 7)) (.leaf (69, .iaload, 70, 0, 0, 0, .null)))) (.branch 74 (.branch 71 (.leaf (70, .aload_n 1, 71, 1, 0, 0, .null)) (.leaf (71, .getfield 276, 74, 4, 9, 0, .null))) (.branch 75 (.leaf (74, .imul, 75, 0, 0, 0, .null)) (.leaf (75, .if_icmp .gt 15, 78, 90, 0, 0, .null))))) (.branch 86 (.branch 82 (.branch 79 (.leaf (78, .aload_n 1, 79, 1, 0, 0, .null)) (.leaf (79, .getfield 215, 82, 4, 5, 0, .null))) (.branch 83 (.leaf (82, .iconst 4, 83, 0, 0, 0, .int 4)) (.leaf (83, .if_icmp .ge 7, 86, 90, 0, 0, .null)))) (.branch 90 (.branch 87 (.leaf (86, .iconst 1, 87, 0, 0, 0, .int 1)) (.leaf (87, .goto 4, 90, 91, 0, 0, .null))) (.branch 91 (.leaf (90, .iconst 0, 91, 0, 0, 0, .int 0)) (.branch 92 (.leaf (91, .istore_n 3, 92, 3, 0, 0, .null)) (.leaf (92, .iload_n 2, 93, 2, 0, 0, .null))))))) (.branch 107 (.branch 101 (.branch 97 (.branch 96 (.leaf (93, .ifCond .ne 8, 96, 101, 0, 0, .null)) (.leaf (96, .iload_n 3, 97, 3, 0, 0, .null))) (.branch 100 (.leaf (97, .ifCond .ne 4, 100, 101, 0, 0, .null)) (.leaf (100, .return_, 101, 0, 0, 0, .int 0)))) (.branch 103 (.branch 102 (.leaf (101, .aload_n 1, 102, 1, 0, 0, .null)) (.leaf (102, .dup, 103, 0, 0, 0, .null))) (.branch 106 (.leaf (103, .getfield 215, 106, 4, 5, 0, .null)) (.leaf (106, .iload_n 2, 107, 2, 0, 0, .null))))) (.branch 115 (.branch 111 (.branch 110 (.leaf (107, .ifCond .eq 7, 110, 114, 0, 0, .null)) (.leaf (110, .iconst (-1), 111, 0, 0, 0, .int (-1)))) (.branch 114 (.leaf (111, .goto 4, 114, 115, 0, 0, .null)) (.leaf (114, .iconst 1, 115, 0, 0, 0, .int 1)))) (.branch 119 (.branch 116 (.leaf (115, .iadd, 116, 0, 0, 0, .null)) (.leaf (116, .putfield 215, 119, 4, 5, 0, .int 0))) (.branch 120 (.leaf (119, .aload_n 1, 120, 1, 0, 0, .null)) (.branch 123 (.leaf (120, .invokevirtual 285, 123, 95, 0, 0, .null)) (.leaf (123, .return_, 124, 0, 0, 0, .int 0))))))))
def tb_X1_stood : Lean.RArray am_E := .branch 19 (.branch 9 (.branch 2 (.branch 1 (.leaf (0, .aload_n 0, 1, 0, 0, 0, .null)) (.leaf (1, .iload_n 1, 2, 1, 0, 0, .null))) (.branch 5 (.leaf (2, .invokevirtual 179, 5, 16, 0, 0, .null)) (.branch 8 (.leaf (5, .ifCond .eq 31, 8, 36, 0, 0, .null)) (.leaf (8, .iload_n 2, 9, 2, 0, 0, .null))))) (.branch 14 (.branch 10 (.leaf (9, .iconst 0, 10, 0, 0, 0, .int 0)) (.branch 11 (.leaf (10, .aload_n 0, 11, 0, 0, 0, .null)) (.leaf (11, .getfield 182, 14, 0, 17, 0, .null)))) (.branch 15 (.leaf (14, .iconst 1, 15, 0, 0, 0, .int 1)) (.branch 16 (.leaf (15, .isub, 16, 0, 0, 0, .null)) (.leaf (16, .invokestatic 169, 19, 14, 0, 0, .null)))))) (.branch 28 (.branch 23 (.branch 22 (.leaf (19, .ifCond .eq 17, 22, 36, 0, 0, .null)) (.leaf (22, .aload_n 0, 23, 0, 0, 0, .null))) (.branch 26 (.leaf (23, .getfield 128, 26, 0, 12, 0, .null)) (.branch 27 (.leaf (26, .iload_n 1, 27, 1, 0, 0, .null)) (.leaf (27, .aaload, 28, 0, 0, 0, .null))))) (.branch 33 (.branch 31 (.leaf (28, .getfield 206, 31, 4, 4, 0, .null)) (.branch 32 (.leaf (31, .iload_n 2, 32, 2, 0, 0, .null)) (.leaf (32, .iaload, 33, 0, 0, 0, .null)))) (.branch 36 (.leaf (33, .goto 4, 36, 37, 0, 0, .null)) (.branch 37 (.leaf (36, .iconst (-1), 37, 0, 0, 0, .int (-1))) (.leaf (37, .ireturn, 38, 0, 0, 0, .int 0))))))
def tb_X1_together : Lean.RArray am_E := .branch 25 (.branch 10 (.branch 4 (.branch 2 (.branch 1 (.leaf (0, .iconst 0, 1, 0, 0, 0, .int 0)) (.leaf (1, .istore_n 1, 2, 1, 0, 0, .null))) (.branch 3 (.leaf (2, .iconst 0, 3, 0, 0, 0, .int 0)) (.leaf (3, .istore_n 2, 4, 2, 0, 0, .null)))) (.branch 6 (.branch 5 (.leaf (4, .iload_n 2, 5, 2, 0, 0, .null)) (.leaf (5, .iconst 2, 6, 0, 0, 0, .int 2))) (.branch 7 (.leaf (6, .aload_n 0, 7, 0, 0, 0, .null)) (.leaf (7, .getfield 173, 10, 0, 16, 0, .null))))) (.branch 16 (.branch 14 (.branch 11 (.leaf (10, .imul, 11, 0, 0, 0, .null)) (.leaf (11, .if_icmp .ge 41, 14, 52, 0, 0, .null))) (.branch 15 (.leaf (14, .iload_n 1, 15, 1, 0, 0, .null)) (.leaf (15, .aload_n 0, 16, 0, 0, 0, .null)))) (.branch 20 (.branch 19 (.leaf (16, .getfield 138, 19, 0, 14, 0, .null)) (.leaf (19, .iload_n 2, 20, 2, 0, 0, .null))) (.branch 21 (.leaf (20, .iaload, 21, 0, 0, 0, .null)) (.branch 24 (.leaf (21, .ifCond .ge 7, 24, 28, 0, 0, .null)) (.leaf (24, .iconst 0, 25, 0, 0, 0, .int 0))))))) (.branch 39 (.branch 33 (.branch 29 (.branch 28 (.leaf (25, .goto 19, 28, 44, 0, 0, .null)) (.leaf (28, .aload_n 0, 29, 0, 0, 0, .null))) (.branch 30 (.leaf (29, .aload_n 0, 30, 0, 0, 0, .null)) (.leaf (30, .getfield 128, 33, 0, 12, 0, .null)))) (.branch 37 (.branch 34 (.leaf (33, .aload_n 0, 34, 0, 0, 0, .null)) (.leaf (34, .getfield 138, 37, 0, 14, 0, .null))) (.branch 38 (.leaf (37, .iload_n 2, 38, 2, 0, 0, .null)) (.leaf (38, .iaload, 39, 0, 0, 0, .null))))) (.branch 45 (.branch 41 (.branch 40 (.leaf (39, .aaload, 40, 0, 0, 0, .null)) (.leaf (40, .iload_n 2, 41, 2, 0, 0, .null))) (.branch 44 (.leaf (41, .invokevirtual 243, 44, 24, 0, 0, .null)) (.leaf (44, .iadd, 45, 0, 0, 0, .null)))) (.branch 49 (.branch 46 (.leaf (45, .istore_n 1, 46, 1, 0, 0, .null)) (.leaf (46, .iinc 2 1, 49, 2, 0, 0, .int 1))) (.branch 52 (.leaf (49, .goto (-45), 52, 4, 0, 0, .null)) (.branch 53 (.leaf (52, .iload_n 1, 53, 1, 0, 0, .null)) (.leaf (53, .ireturn, 54, 0, 0, 0, .int 0)))))))
def tb_X1_count : Lean.RArray am_E := .branch 70 (.branch 55 (.branch 45 (.branch 40 (.branch 1 (.leaf (0, .iload_n 1, 1, 1, 0, 0, .null)) (.leaf (1, .tableswitch 106 0 5 #[39, 44, 49, 54, 93, 101], 40, 107, 0, 0, .null))) (.branch 41 (.leaf (40, .aload_n 0, 41, 0, 0, 0, .null)) (.branch 44 (.leaf (41, .getfield 182, 44, 0, 17, 0, .null)) (.leaf (44, .ireturn, 45, 0, 0, 0, .int 0))))) (.branch 50 (.branch 46 (.leaf (45, .aload_n 0, 46, 0, 0, 0, .null)) (.branch 49 (.leaf (46, .getfield 166, 49, 0, 15, 0, .null)) (.leaf (49, .ireturn, 50, 0, 0, 0, .int 0)))) (.branch 51 (.leaf (50, .aload_n 0, 51, 0, 0, 0, .null)) (.branch 54 (.leaf (51, .getfield 173, 54, 0, 16, 0, .null)) (.leaf (54, .ireturn, 55, 0, 0, 0, .int 0)))))) (.branch 60 (.branch 57 (.branch 56 (.leaf (55, .iconst 0, 56, 0, 0, 0, .int 0)) (.leaf (56, .istore_n 2, 57, 2, 0, 0, .null))) (.branch 58 (.leaf (57, .iconst 0, 58, 0, 0, 0, .int 0)) (.branch 59 (.leaf (58, .istore_n 3, 59, 3, 0, 0, .null)) (.leaf (59, .iload_n 3, 60, 3, 0, 0, .null))))) (.branch 65 (.branch 61 (.leaf (60, .iconst 2, 61, 0, 0, 0, .int 2)) (.branch 62 (.leaf (61, .aload_n 0, 62, 0, 0, 0, .null)) (.leaf (62, .getfield 173, 65, 0, 16, 0, .null)))) (.branch 66 (.leaf (65, .imul, 66, 0, 0, 0, .null)) (.branch 69 (.leaf (66, .if_icmp .ge 26, 69, 92, 0, 0, .null)) (.leaf (69, .iload_n 2, 70, 2, 0, 0, .null))))))) (.branch 89 (.branch 79 (.branch 74 (.branch 71 (.leaf (70, .aload_n 0, 71, 0, 0, 0, .null)) (.leaf (71, .getfield 138, 74, 0, 14, 0, .null))) (.branch 75 (.leaf (74, .iload_n 3, 75, 3, 0, 0, .null)) (.branch 76 (.leaf (75, .iaload, 76, 0, 0, 0, .null)) (.leaf (76, .ifCond .ge 7, 79, 83, 0, 0, .null))))) (.branch 84 (.branch 80 (.leaf (79, .iconst 0, 80, 0, 0, 0, .int 0)) (.branch 83 (.leaf (80, .goto 4, 83, 84, 0, 0, .null)) (.leaf (83, .iconst 1, 84, 0, 0, 0, .int 1)))) (.branch 85 (.leaf (84, .iadd, 85, 0, 0, 0, .null)) (.branch 86 (.leaf (85, .istore_n 2, 86, 2, 0, 0, .null)) (.leaf (86, .iinc 3 1, 89, 3, 0, 0, .int 1)))))) (.branch 101 (.branch 94 (.branch 92 (.leaf (89, .goto (-30), 92, 59, 0, 0, .null)) (.branch 93 (.leaf (92, .iload_n 2, 93, 2, 0, 0, .null)) (.leaf (93, .ireturn, 94, 0, 0, 0, .int 0)))) (.branch 95 (.leaf (94, .aload_n 0, 95, 0, 0, 0, .null)) (.branch 98 (.leaf (95, .getfield 254, 98, 0, 18, 0, .null)) (.leaf (98, .invokestatic 291, 101, 97, 0, 0, .null))))) (.branch 106 (.branch 102 (.leaf (101, .ireturn, 102, 0, 0, 0, .int 0)) (.branch 103 (.leaf (102, .aload_n 0, 103, 0, 0, 0, .null)) (.leaf (103, .getfield 3, 106, 0, 1, 0, .null)))) (.branch 107 (.leaf (106, .ireturn, 107, 0, 0, 0, .int 0)) (.branch 108 (.leaf (107, .iconst (-1), 108, 0, 0, 0, .int (-1))) (.leaf (108, .ireturn, 109, 0, 0, 0, .int 0)))))))
def tb_X1_about : Lean.RArray am_E := .branch 69 (.branch 17 (.branch 8 (.branch 2 (.branch 1 (.leaf (0, .aload_n 0, 1, 0, 0, 0, .null)) (.leaf (1, .iload_n 1, 2, 1, 0, 0, .null))) (.branch 5 (.leaf (2, .invokevirtual 179, 5, 16, 0, 0, .null)) (.leaf (5, .ifCond .ne 11, 8, 16, 0, 0, .null)))) (.branch 12 (.branch 11 (.leaf (8, .new 288, 11, 6, 6, 0, .null)) (.leaf (11, .dup, 12, 0, 0, 0, .null))) (.branch 15 (.leaf (12, .invokespecial 290, 15, 0, 7, 0, .null)) (.branch 16 (.leaf (15, .athrow, 16, 0, 0, 0, .null)) (.leaf (16, .aload_n 0, 17, 0, 0, 0, .null)))))) (.branch 23 (.branch 21 (.branch 20 (.leaf (17, .getfield 128, 20, 0, 12, 0, .null)) (.leaf (20, .iload_n 1, 21, 1, 0, 0, .null))) (.branch 22 (.leaf (21, .aaload, 22, 0, 0, 0, .null)) (.leaf (22, .astore_n 3, 23, 3, 0, 0, .null)))) (.branch 64 (.branch 24 (.leaf (23, .iload_n 2, 24, 2, 0, 0, .null)) (.leaf (24, .tableswitch 70 0 5 #[40, 45, 50, 55, 60, 65], 64, 94, 0, 0, .null))) (.branch 65 (.leaf (64, .aload_n 3, 65, 3, 0, 0, .null)) (.branch 68 (.leaf (65, .getfield 215, 68, 4, 5, 0, .null)) (.leaf (68, .ireturn, 69, 0, 0, 0, .int 0))))))) (.branch 84 (.branch 75 (.branch 73 (.branch 70 (.leaf (69, .aload_n 3, 70, 3, 0, 0, .null)) (.leaf (70, .getfield 188, 73, 4, 6, 0, .null))) (.branch 74 (.leaf (73, .ireturn, 74, 0, 0, 0, .int 0)) (.leaf (74, .aload_n 3, 75, 3, 0, 0, .null)))) (.branch 79 (.branch 78 (.leaf (75, .getfield 233, 78, 4, 7, 0, .null)) (.leaf (78, .ireturn, 79, 0, 0, 0, .int 0))) (.branch 80 (.leaf (79, .aload_n 3, 80, 3, 0, 0, .null)) (.branch 83 (.leaf (80, .getfield 273, 83, 4, 8, 0, .null)) (.leaf (83, .ireturn, 84, 0, 0, 0, .int 0)))))) (.branch 93 (.branch 88 (.branch 85 (.leaf (84, .aload_n 3, 85, 3, 0, 0, .null)) (.leaf (85, .getfield 276, 88, 4, 9, 0, .null))) (.branch 89 (.leaf (88, .ireturn, 89, 0, 0, 0, .int 0)) (.branch 90 (.leaf (89, .aload_n 3, 90, 3, 0, 0, .null)) (.leaf (90, .getfield 279, 93, 4, 10, 0, .null))))) (.branch 97 (.branch 94 (.leaf (93, .ireturn, 94, 0, 0, 0, .int 0)) (.leaf (94, .new 288, 97, 6, 6, 0, .null))) (.branch 98 (.leaf (97, .dup, 98, 0, 0, 0, .null)) (.branch 101 (.leaf (98, .invokespecial 290, 101, 0, 7, 0, .null)) (.leaf (101, .athrow, 102, 0, 0, 0, .null)))))))
def tb_X2_is : Lean.RArray am_E := .leaf (0, .return_, 1, 0, 0, 0, .int 0)
def tb_X2_init : Lean.RArray am_E := .branch 11 (.branch 5 (.branch 1 (.leaf (0, .aload_n 0, 1, 0, 0, 0, .null)) (.branch 4 (.leaf (1, .invokespecial 1, 4, 0, 9, 0, .null)) (.leaf (4, .aload_n 0, 5, 0, 0, 0, .null)))) (.branch 9 (.branch 6 (.leaf (5, .aload_n 1, 6, 1, 0, 0, .null)) (.leaf (6, .putfield 7, 9, 1, 0, 1, .null))) (.branch 10 (.leaf (9, .aload_n 0, 10, 0, 0, 0, .null)) (.leaf (10, .iload_n 2, 11, 2, 0, 0, .null))))) (.branch 19 (.branch 15 (.branch 14 (.leaf (11, .putfield 13, 14, 1, 1, 1, .int 0)) (.leaf (14, .aload_n 0, 15, 0, 0, 0, .null))) (.branch 16 (.leaf (15, .iload_n 3, 16, 3, 0, 0, .null)) (.leaf (16, .putfield 17, 19, 1, 2, 1, .int 0)))) (.branch 22 (.branch 20 (.leaf (19, .aload_n 0, 20, 0, 0, 0, .null)) (.leaf (20, .iload 4, 22, 4, 0, 0, .null))) (.branch 25 (.leaf (22, .putfield 20, 25, 1, 3, 1, .int 0)) (.leaf (25, .return_, 26, 0, 0, 0, .int 0)))))
def tb_X3_init : Lean.RArray am_E := .leaf (0, .return_, 1, 0, 0, 0, .int 0)
def tb_X4_init : Lean.RArray am_E := .branch 237 (.branch 120 (.branch 60 (.branch 32 (.branch 20 (.branch 10 (.branch 4 (.branch 1 (.leaf (0, .aload_n 0, 1, 0, 0, 0, .null)) (.leaf (1, .invokespecial 1, 4, 0, 9, 0, .null))) (.branch 5 (.leaf (4, .aload_n 0, 5, 0, 0, 0, .null)) (.branch 8 (.leaf (5, .sipush 180, 8, 0, 0, 0, .int 180)) (.leaf (8, .newarray .int, 10, 0, 180, 52, .null))))) (.branch 16 (.branch 13 (.leaf (10, .putfield 7, 13, 3, 1, 1, .null)) (.branch 14 (.leaf (13, .aload_n 0, 14, 0, 0, 0, .null)) (.leaf (14, .bipush 9, 16, 0, 0, 0, .int 9)))) (.branch 18 (.leaf (16, .newarray .int, 18, 0, 9, 54, .null)) (.branch 19 (.leaf (18, .dup, 19, 0, 0, 0, .null)) (.leaf (19, .iconst 0, 20, 0, 0, 0, .int 0)))))) (.branch 25 (.branch 22 (.branch 21 (.leaf (20, .iconst 3, 21, 0, 0, 0, .int 3)) (.leaf (21, .iastore, 22, 0, 0, 0, .null))) (.branch 23 (.leaf (22, .dup, 23, 0, 0, 0, .null)) (.branch 24 (.leaf (23, .iconst 1, 24, 0, 0, 0, .int 1)) (.leaf (24, .iconst 1, 25, 0, 0, 0, .int 1))))) (.branch 28 (.branch 26 (.leaf (25, .iastore, 26, 0, 0, 0, .null)) (.branch 27 (.leaf (26, .dup, 27, 0, 0, 0, .null)) (.leaf (27, .iconst 2, 28, 0, 0, 0, .int 2)))) (.branch 30 (.leaf (28, .bipush 60, 30, 0, 0, 0, .int 60)) (.branch 31 (.leaf (30, .iastore, 31, 0, 0, 0, .null)) (.leaf (31, .dup, 32, 0, 0, 0, .null))))))) (.branch 43 (.branch 37 (.branch 34 (.branch 33 (.leaf (32, .iconst 3, 33, 0, 0, 0, .int 3)) (.leaf (33, .iconst 5, 34, 0, 0, 0, .int 5))) (.branch 35 (.leaf (34, .iastore, 35, 0, 0, 0, .null)) (.branch 36 (.leaf (35, .dup, 36, 0, 0, 0, .null)) (.leaf (36, .iconst 4, 37, 0, 0, 0, .int 4))))) (.branch 40 (.branch 38 (.leaf (37, .iconst 2, 38, 0, 0, 0, .int 2)) (.branch 39 (.leaf (38, .iastore, 39, 0, 0, 0, .null)) (.leaf (39, .dup, 40, 0, 0, 0, .null)))) (.branch 41 (.leaf (40, .iconst 5, 41, 0, 0, 0, .int 5)) (.branch 42 (.leaf (41, .iconst 1, 42, 0, 0, 0, .int 1)) (.leaf (42, .iastore, 43, 0, 0, 0, .null)))))) (.branch 52 (.branch 48 (.branch 44 (.leaf (43, .dup, 44, 0, 0, 0, .null)) (.branch 46 (.leaf (44, .bipush 6, 46, 0, 0, 0, .int 6)) (.leaf (46, .bipush 80, 48, 0, 0, 0, .int 80)))) (.branch 49 (.leaf (48, .iastore, 49, 0, 0, 0, .null)) (.branch 50 (.leaf (49, .dup, 50, 0, 0, 0, .null)) (.leaf (50, .bipush 7, 52, 0, 0, 0, .int 7))))) (.branch 56 (.branch 54 (.leaf (52, .bipush 30, 54, 0, 0, 0, .int 30)) (.branch 55 (.leaf (54, .iastore, 55, 0, 0, 0, .null)) (.leaf (55, .dup, 56, 0, 0, 0, .null)))) (.branch 58 (.leaf (56, .bipush 8, 58, 0, 0, 0, .int 8)) (.branch 59 (.leaf (58, .iconst 4, 59, 0, 0, 0, .int 4)) (.leaf (59, .iastore, 60, 0, 0, 0, .null)))))))) (.branch 88 (.branch 75 (.branch 69 (.branch 64 (.branch 63 (.leaf (60, .putfield 13, 63, 3, 3, 1, .null)) (.leaf (63, .aload_n 0, 64, 0, 0, 0, .null))) (.branch 66 (.leaf (64, .bipush 9, 66, 0, 0, 0, .int 9)) (.branch 68 (.leaf (66, .newarray .int, 68, 0, 9, 55, .null)) (.leaf (68, .dup, 69, 0, 0, 0, .null))))) (.branch 72 (.branch 70 (.leaf (69, .iconst 0, 70, 0, 0, 0, .int 0)) (.branch 71 (.leaf (70, .iconst 3, 71, 0, 0, 0, .int 3)) (.leaf (71, .iastore, 72, 0, 0, 0, .null)))) (.branch 73 (.leaf (72, .dup, 73, 0, 0, 0, .null)) (.branch 74 (.leaf (73, .iconst 1, 74, 0, 0, 0, .int 1)) (.leaf (74, .iconst 1, 75, 0, 0, 0, .int 1)))))) (.branch 82 (.branch 78 (.branch 76 (.leaf (75, .iastore, 76, 0, 0, 0, .null)) (.branch 77 (.leaf (76, .dup, 77, 0, 0, 0, .null)) (.leaf (77, .iconst 2, 78, 0, 0, 0, .int 2)))) (.branch 80 (.leaf (78, .bipush 60, 80, 0, 0, 0, .int 60)) (.branch 81 (.leaf (80, .iastore, 81, 0, 0, 0, .null)) (.leaf (81, .dup, 82, 0, 0, 0, .null))))) (.branch 85 (.branch 83 (.leaf (82, .iconst 3, 83, 0, 0, 0, .int 3)) (.branch 84 (.leaf (83, .iconst 5, 84, 0, 0, 0, .int 5)) (.leaf (84, .iastore, 85, 0, 0, 0, .null)))) (.branch 86 (.leaf (85, .dup, 86, 0, 0, 0, .null)) (.branch 87 (.leaf (86, .iconst 4, 87, 0, 0, 0, .int 4)) (.leaf (87, .iconst 2, 88, 0, 0, 0, .int 2))))))) (.branch 102 (.branch 93 (.branch 90 (.branch 89 (.leaf (88, .iastore, 89, 0, 0, 0, .null)) (.leaf (89, .dup, 90, 0, 0, 0, .null))) (.branch 91 (.leaf (90, .iconst 5, 91, 0, 0, 0, .int 5)) (.branch 92 (.leaf (91, .iconst 1, 92, 0, 0, 0, .int 1)) (.leaf (92, .iastore, 93, 0, 0, 0, .null))))) (.branch 98 (.branch 94 (.leaf (93, .dup, 94, 0, 0, 0, .null)) (.branch 96 (.leaf (94, .bipush 6, 96, 0, 0, 0, .int 6)) (.leaf (96, .bipush 80, 98, 0, 0, 0, .int 80)))) (.branch 99 (.leaf (98, .iastore, 99, 0, 0, 0, .null)) (.branch 100 (.leaf (99, .dup, 100, 0, 0, 0, .null)) (.leaf (100, .bipush 7, 102, 0, 0, 0, .int 7)))))) (.branch 110 (.branch 106 (.branch 104 (.leaf (102, .bipush 30, 104, 0, 0, 0, .int 30)) (.branch 105 (.leaf (104, .iastore, 105, 0, 0, 0, .null)) (.leaf (105, .dup, 106, 0, 0, 0, .null)))) (.branch 108 (.leaf (106, .bipush 8, 108, 0, 0, 0, .int 8)) (.branch 109 (.leaf (108, .iconst 4, 109, 0, 0, 0, .int 4)) (.leaf (109, .iastore, 110, 0, 0, 0, .null))))) (.branch 116 (.branch 113 (.leaf (110, .putfield 16, 113, 3, 4, 1, .null)) (.branch 114 (.leaf (113, .aload_n 0, 114, 0, 0, 0, .null)) (.leaf (114, .bipush 9, 116, 0, 0, 0, .int 9)))) (.branch 118 (.leaf (116, .newarray .int, 118, 0, 9, 56, .null)) (.branch 119 (.leaf (118, .dup, 119, 0, 0, 0, .null)) (.leaf (119, .iconst 0, 120, 0, 0, 0, .int 0))))))))) (.branch 175 (.branch 143 (.branch 131 (.branch 125 (.branch 122 (.branch 121 (.leaf (120, .iconst 1, 121, 0, 0, 0, .int 1)) (.leaf (121, .iastore, 122, 0, 0, 0, .null))) (.branch 123 (.leaf (122, .dup, 123, 0, 0, 0, .null)) (.branch 124 (.leaf (123, .iconst 1, 124, 0, 0, 0, .int 1)) (.leaf (124, .iconst 0, 125, 0, 0, 0, .int 0))))) (.branch 128 (.branch 126 (.leaf (125, .iastore, 126, 0, 0, 0, .null)) (.branch 127 (.leaf (126, .dup, 127, 0, 0, 0, .null)) (.leaf (127, .iconst 2, 128, 0, 0, 0, .int 2)))) (.branch 129 (.leaf (128, .iconst 0, 129, 0, 0, 0, .int 0)) (.branch 130 (.leaf (129, .iastore, 130, 0, 0, 0, .null)) (.leaf (130, .dup, 131, 0, 0, 0, .null)))))) (.branch 137 (.branch 134 (.branch 132 (.leaf (131, .iconst 3, 132, 0, 0, 0, .int 3)) (.branch 133 (.leaf (132, .iconst 0, 133, 0, 0, 0, .int 0)) (.leaf (133, .iastore, 134, 0, 0, 0, .null)))) (.branch 135 (.leaf (134, .dup, 135, 0, 0, 0, .null)) (.branch 136 (.leaf (135, .iconst 4, 136, 0, 0, 0, .int 4)) (.leaf (136, .iconst 0, 137, 0, 0, 0, .int 0))))) (.branch 140 (.branch 138 (.leaf (137, .iastore, 138, 0, 0, 0, .null)) (.branch 139 (.leaf (138, .dup, 139, 0, 0, 0, .null)) (.leaf (139, .iconst 5, 140, 0, 0, 0, .int 5)))) (.branch 141 (.leaf (140, .iconst 0, 141, 0, 0, 0, .int 0)) (.branch 142 (.leaf (141, .iastore, 142, 0, 0, 0, .null)) (.leaf (142, .dup, 143, 0, 0, 0, .null))))))) (.branch 157 (.branch 150 (.branch 146 (.branch 145 (.leaf (143, .bipush 6, 145, 0, 0, 0, .int 6)) (.leaf (145, .iconst 1, 146, 0, 0, 0, .int 1))) (.branch 147 (.leaf (146, .iastore, 147, 0, 0, 0, .null)) (.branch 148 (.leaf (147, .dup, 148, 0, 0, 0, .null)) (.leaf (148, .bipush 7, 150, 0, 0, 0, .int 7))))) (.branch 153 (.branch 151 (.leaf (150, .iconst 0, 151, 0, 0, 0, .int 0)) (.branch 152 (.leaf (151, .iastore, 152, 0, 0, 0, .null)) (.leaf (152, .dup, 153, 0, 0, 0, .null)))) (.branch 155 (.leaf (153, .bipush 8, 155, 0, 0, 0, .int 8)) (.branch 156 (.leaf (155, .iconst 1, 156, 0, 0, 0, .int 1)) (.leaf (156, .iastore, 157, 0, 0, 0, .null)))))) (.branch 167 (.branch 163 (.branch 160 (.leaf (157, .putfield 19, 160, 3, 5, 1, .null)) (.branch 161 (.leaf (160, .aload_n 0, 161, 0, 0, 0, .null)) (.leaf (161, .bipush 9, 163, 0, 0, 0, .int 9)))) (.branch 165 (.leaf (163, .newarray .int, 165, 0, 9, 57, .null)) (.branch 166 (.leaf (165, .dup, 166, 0, 0, 0, .null)) (.leaf (166, .iconst 0, 167, 0, 0, 0, .int 0))))) (.branch 171 (.branch 169 (.leaf (167, .bipush 9, 169, 0, 0, 0, .int 9)) (.branch 170 (.leaf (169, .iastore, 170, 0, 0, 0, .null)) (.leaf (170, .dup, 171, 0, 0, 0, .null)))) (.branch 172 (.leaf (171, .iconst 1, 172, 0, 0, 0, .int 1)) (.branch 174 (.leaf (172, .bipush 9, 174, 0, 0, 0, .int 9)) (.leaf (174, .iastore, 175, 0, 0, 0, .null)))))))) (.branch 207 (.branch 190 (.branch 182 (.branch 177 (.branch 176 (.leaf (175, .dup, 176, 0, 0, 0, .null)) (.leaf (176, .iconst 2, 177, 0, 0, 0, .int 2))) (.branch 180 (.leaf (177, .sipush 200, 180, 0, 0, 0, .int 200)) (.branch 181 (.leaf (180, .iastore, 181, 0, 0, 0, .null)) (.leaf (181, .dup, 182, 0, 0, 0, .null))))) (.branch 186 (.branch 183 (.leaf (182, .iconst 3, 183, 0, 0, 0, .int 3)) (.branch 185 (.leaf (183, .bipush 50, 185, 0, 0, 0, .int 50)) (.leaf (185, .iastore, 186, 0, 0, 0, .null)))) (.branch 187 (.leaf (186, .dup, 187, 0, 0, 0, .null)) (.branch 188 (.leaf (187, .iconst 4, 188, 0, 0, 0, .int 4)) (.leaf (188, .bipush 9, 190, 0, 0, 0, .int 9)))))) (.branch 197 (.branch 193 (.branch 191 (.leaf (190, .iastore, 191, 0, 0, 0, .null)) (.branch 192 (.leaf (191, .dup, 192, 0, 0, 0, .null)) (.leaf (192, .iconst 5, 193, 0, 0, 0, .int 5)))) (.branch 195 (.leaf (193, .bipush 9, 195, 0, 0, 0, .int 9)) (.branch 196 (.leaf (195, .iastore, 196, 0, 0, 0, .null)) (.leaf (196, .dup, 197, 0, 0, 0, .null))))) (.branch 202 (.branch 199 (.leaf (197, .bipush 6, 199, 0, 0, 0, .int 6)) (.branch 201 (.leaf (199, .bipush 101, 201, 0, 0, 0, .int 101)) (.leaf (201, .iastore, 202, 0, 0, 0, .null)))) (.branch 203 (.leaf (202, .dup, 203, 0, 0, 0, .null)) (.branch 205 (.leaf (203, .bipush 7, 205, 0, 0, 0, .int 7)) (.leaf (205, .bipush 100, 207, 0, 0, 0, .int 100))))))) (.branch 224 (.branch 214 (.branch 209 (.branch 208 (.leaf (207, .iastore, 208, 0, 0, 0, .null)) (.leaf (208, .dup, 209, 0, 0, 0, .null))) (.branch 211 (.leaf (209, .bipush 8, 211, 0, 0, 0, .int 8)) (.branch 213 (.leaf (211, .bipush 20, 213, 0, 0, 0, .int 20)) (.leaf (213, .iastore, 214, 0, 0, 0, .null))))) (.branch 220 (.branch 217 (.leaf (214, .putfield 22, 217, 3, 6, 1, .null)) (.branch 218 (.leaf (217, .aload_n 0, 218, 0, 0, 0, .null)) (.leaf (218, .bipush 9, 220, 0, 0, 0, .int 9)))) (.branch 222 (.leaf (220, .newarray .int, 222, 0, 9, 58, .null)) (.branch 223 (.leaf (222, .dup, 223, 0, 0, 0, .null)) (.leaf (223, .iconst 0, 224, 0, 0, 0, .int 0)))))) (.branch 230 (.branch 227 (.branch 225 (.leaf (224, .iconst 3, 225, 0, 0, 0, .int 3)) (.branch 226 (.leaf (225, .iastore, 226, 0, 0, 0, .null)) (.leaf (226, .dup, 227, 0, 0, 0, .null)))) (.branch 228 (.leaf (227, .iconst 1, 228, 0, 0, 0, .int 1)) (.branch 229 (.leaf (228, .iconst 1, 229, 0, 0, 0, .int 1)) (.leaf (229, .iastore, 230, 0, 0, 0, .null))))) (.branch 234 (.branch 231 (.leaf (230, .dup, 231, 0, 0, 0, .null)) (.branch 232 (.leaf (231, .iconst 2, 232, 0, 0, 0, .int 2)) (.leaf (232, .bipush 60, 234, 0, 0, 0, .int 60)))) (.branch 235 (.leaf (234, .iastore, 235, 0, 0, 0, .null)) (.branch 236 (.leaf (235, .dup, 236, 0, 0, 0, .null)) (.leaf (236, .iconst 3, 237, 0, 0, 0, .int 3)))))))))) (.branch 396 (.branch 312 (.branch 267 (.branch 248 (.branch 242 (.branch 239 (.branch 238 (.leaf (237, .iconst 5, 238, 0, 0, 0, .int 5)) (.leaf (238, .iastore, 239, 0, 0, 0, .null))) (.branch 240 (.leaf (239, .dup, 240, 0, 0, 0, .null)) (.branch 241 (.leaf (240, .iconst 4, 241, 0, 0, 0, .int 4)) (.leaf (241, .iconst 2, 242, 0, 0, 0, .int 2))))) (.branch 245 (.branch 243 (.leaf (242, .iastore, 243, 0, 0, 0, .null)) (.branch 244 (.leaf (243, .dup, 244, 0, 0, 0, .null)) (.leaf (244, .iconst 5, 245, 0, 0, 0, .int 5)))) (.branch 246 (.leaf (245, .iconst 1, 246, 0, 0, 0, .int 1)) (.branch 247 (.leaf (246, .iastore, 247, 0, 0, 0, .null)) (.leaf (247, .dup, 248, 0, 0, 0, .null)))))) (.branch 258 (.branch 253 (.branch 250 (.leaf (248, .bipush 6, 250, 0, 0, 0, .int 6)) (.branch 252 (.leaf (250, .bipush 80, 252, 0, 0, 0, .int 80)) (.leaf (252, .iastore, 253, 0, 0, 0, .null)))) (.branch 254 (.leaf (253, .dup, 254, 0, 0, 0, .null)) (.branch 256 (.leaf (254, .bipush 7, 256, 0, 0, 0, .int 7)) (.leaf (256, .bipush 30, 258, 0, 0, 0, .int 30))))) (.branch 262 (.branch 259 (.leaf (258, .iastore, 259, 0, 0, 0, .null)) (.branch 260 (.leaf (259, .dup, 260, 0, 0, 0, .null)) (.leaf (260, .bipush 8, 262, 0, 0, 0, .int 8)))) (.branch 263 (.leaf (262, .iconst 4, 263, 0, 0, 0, .int 4)) (.branch 264 (.leaf (263, .iastore, 264, 0, 0, 0, .null)) (.leaf (264, .putfield 25, 267, 3, 7, 1, .null))))))) (.branch 288 (.branch 276 (.branch 270 (.branch 268 (.leaf (267, .aload_n 0, 268, 0, 0, 0, .null)) (.leaf (268, .bipush 20, 270, 0, 0, 0, .int 20))) (.branch 272 (.leaf (270, .newarray .int, 272, 0, 20, 68, .null)) (.branch 275 (.leaf (272, .putfield 28, 275, 3, 17, 1, .null)) (.leaf (275, .aload_n 0, 276, 0, 0, 0, .null))))) (.branch 283 (.branch 278 (.leaf (276, .bipush 20, 278, 0, 0, 0, .int 20)) (.branch 280 (.leaf (278, .newarray .int, 280, 0, 20, 69, .null)) (.leaf (280, .putfield 31, 283, 3, 18, 1, .null)))) (.branch 284 (.leaf (283, .aload_n 0, 284, 0, 0, 0, .null)) (.branch 286 (.leaf (284, .bipush 20, 286, 0, 0, 0, .int 20)) (.leaf (286, .newarray .int, 288, 0, 20, 70, .null)))))) (.branch 300 (.branch 294 (.branch 291 (.leaf (288, .putfield 34, 291, 3, 19, 1, .null)) (.branch 292 (.leaf (291, .aload_n 0, 292, 0, 0, 0, .null)) (.leaf (292, .bipush 20, 294, 0, 0, 0, .int 20)))) (.branch 296 (.leaf (294, .newarray .int, 296, 0, 20, 71, .null)) (.branch 299 (.leaf (296, .putfield 37, 299, 3, 20, 1, .null)) (.leaf (299, .aload_n 0, 300, 0, 0, 0, .null))))) (.branch 307 (.branch 302 (.leaf (300, .bipush 20, 302, 0, 0, 0, .int 20)) (.branch 304 (.leaf (302, .newarray .int, 304, 0, 20, 72, .null)) (.leaf (304, .putfield 40, 307, 3, 21, 1, .null)))) (.branch 308 (.leaf (307, .aload_n 0, 308, 0, 0, 0, .null)) (.branch 310 (.leaf (308, .bipush 20, 310, 0, 0, 0, .int 20)) (.leaf (310, .newarray .int, 312, 0, 20, 73, .null)))))))) (.branch 360 (.branch 335 (.branch 323 (.branch 316 (.branch 315 (.leaf (312, .putfield 43, 315, 3, 22, 1, .null)) (.leaf (315, .aload_n 0, 316, 0, 0, 0, .null))) (.branch 318 (.leaf (316, .bipush 20, 318, 0, 0, 0, .int 20)) (.branch 320 (.leaf (318, .newarray .int, 320, 0, 20, 74, .null)) (.leaf (320, .putfield 46, 323, 3, 23, 1, .null))))) (.branch 328 (.branch 324 (.leaf (323, .aload_n 0, 324, 0, 0, 0, .null)) (.branch 326 (.leaf (324, .bipush 20, 326, 0, 0, 0, .int 20)) (.leaf (326, .newarray .int, 328, 0, 20, 75, .null)))) (.branch 331 (.leaf (328, .putfield 49, 331, 3, 24, 1, .null)) (.branch 332 (.leaf (331, .aload_n 0, 332, 0, 0, 0, .null)) (.leaf (332, .sipush 2000, 335, 0, 0, 0, .int 2000)))))) (.branch 349 (.branch 341 (.branch 337 (.leaf (335, .newarray .int, 337, 0, 2000, 76, .null)) (.branch 340 (.leaf (337, .putfield 52, 340, 3, 25, 1, .null)) (.leaf (340, .aload_n 0, 341, 0, 0, 0, .null)))) (.branch 344 (.leaf (341, .sipush 2000, 344, 0, 0, 0, .int 2000)) (.branch 346 (.leaf (344, .newarray .boolean, 346, 2, 2000, 77, .null)) (.leaf (346, .putfield 55, 349, 3, 26, 1, .null))))) (.branch 354 (.branch 350 (.leaf (349, .aload_n 0, 350, 0, 0, 0, .null)) (.branch 352 (.leaf (350, .bipush 8, 352, 0, 0, 0, .int 8)) (.leaf (352, .newarray .int, 354, 0, 8, 78, .null)))) (.branch 357 (.leaf (354, .putfield 59, 357, 3, 27, 1, .null)) (.branch 358 (.leaf (357, .aload_n 0, 358, 0, 0, 0, .null)) (.leaf (358, .bipush 8, 360, 0, 0, 0, .int 8))))))) (.branch 382 (.branch 370 (.branch 365 (.branch 362 (.leaf (360, .newarray .int, 362, 0, 8, 79, .null)) (.leaf (362, .putfield 62, 365, 3, 28, 1, .null))) (.branch 366 (.leaf (365, .aload_n 0, 366, 0, 0, 0, .null)) (.branch 368 (.leaf (366, .bipush 8, 368, 0, 0, 0, .int 8)) (.leaf (368, .newarray .int, 370, 0, 8, 80, .null))))) (.branch 376 (.branch 373 (.leaf (370, .putfield 65, 373, 3, 29, 1, .null)) (.branch 374 (.leaf (373, .aload_n 0, 374, 0, 0, 0, .null)) (.leaf (374, .bipush 8, 376, 0, 0, 0, .int 8)))) (.branch 378 (.leaf (376, .newarray .int, 378, 0, 8, 81, .null)) (.branch 381 (.leaf (378, .putfield 68, 381, 3, 30, 1, .null)) (.leaf (381, .aload_n 0, 382, 0, 0, 0, .null)))))) (.branch 390 (.branch 387 (.branch 384 (.leaf (382, .bipush 16, 384, 0, 0, 0, .int 16)) (.branch 386 (.leaf (384, .newarray .int, 386, 0, 16, 82, .null)) (.leaf (386, .dup, 387, 0, 0, 0, .null)))) (.branch 388 (.leaf (387, .iconst 0, 388, 0, 0, 0, .int 0)) (.branch 389 (.leaf (388, .iconst (-1), 389, 0, 0, 0, .int (-1))) (.leaf (389, .iastore, 390, 0, 0, 0, .null))))) (.branch 393 (.branch 391 (.leaf (390, .dup, 391, 0, 0, 0, .null)) (.branch 392 (.leaf (391, .iconst 1, 392, 0, 0, 0, .int 1)) (.leaf (392, .iconst (-1), 393, 0, 0, 0, .int (-1))))) (.branch 394 (.leaf (393, .iastore, 394, 0, 0, 0, .null)) (.branch 395 (.leaf (394, .dup, 395, 0, 0, 0, .null)) (.leaf (395, .iconst 2, 396, 0, 0, 0, .int 2))))))))) (.branch 450 (.branch 421 (.branch 407 (.branch 401 (.branch 398 (.branch 397 (.leaf (396, .iconst (-1), 397, 0, 0, 0, .int (-1))) (.leaf (397, .iastore, 398, 0, 0, 0, .null))) (.branch 399 (.leaf (398, .dup, 399, 0, 0, 0, .null)) (.branch 400 (.leaf (399, .iconst 3, 400, 0, 0, 0, .int 3)) (.leaf (400, .iconst (-1), 401, 0, 0, 0, .int (-1)))))) (.branch 404 (.branch 402 (.leaf (401, .iastore, 402, 0, 0, 0, .null)) (.branch 403 (.leaf (402, .dup, 403, 0, 0, 0, .null)) (.leaf (403, .iconst 4, 404, 0, 0, 0, .int 4)))) (.branch 405 (.leaf (404, .iconst (-1), 405, 0, 0, 0, .int (-1))) (.branch 406 (.leaf (405, .iastore, 406, 0, 0, 0, .null)) (.leaf (406, .dup, 407, 0, 0, 0, .null)))))) (.branch 414 (.branch 410 (.branch 408 (.leaf (407, .iconst 5, 408, 0, 0, 0, .int 5)) (.branch 409 (.leaf (408, .iconst (-1), 409, 0, 0, 0, .int (-1))) (.leaf (409, .iastore, 410, 0, 0, 0, .null)))) (.branch 411 (.leaf (410, .dup, 411, 0, 0, 0, .null)) (.branch 413 (.leaf (411, .bipush 6, 413, 0, 0, 0, .int 6)) (.leaf (413, .iconst (-1), 414, 0, 0, 0, .int (-1)))))) (.branch 418 (.branch 415 (.leaf (414, .iastore, 415, 0, 0, 0, .null)) (.branch 416 (.leaf (415, .dup, 416, 0, 0, 0, .null)) (.leaf (416, .bipush 7, 418, 0, 0, 0, .int 7)))) (.branch 419 (.leaf (418, .iconst (-1), 419, 0, 0, 0, .int (-1))) (.branch 420 (.leaf (419, .iastore, 420, 0, 0, 0, .null)) (.leaf (420, .dup, 421, 0, 0, 0, .null))))))) (.branch 435 (.branch 428 (.branch 424 (.branch 423 (.leaf (421, .bipush 8, 423, 0, 0, 0, .int 8)) (.leaf (423, .iconst (-1), 424, 0, 0, 0, .int (-1)))) (.branch 425 (.leaf (424, .iastore, 425, 0, 0, 0, .null)) (.branch 426 (.leaf (425, .dup, 426, 0, 0, 0, .null)) (.leaf (426, .bipush 9, 428, 0, 0, 0, .int 9))))) (.branch 431 (.branch 429 (.leaf (428, .iconst (-1), 429, 0, 0, 0, .int (-1))) (.branch 430 (.leaf (429, .iastore, 430, 0, 0, 0, .null)) (.leaf (430, .dup, 431, 0, 0, 0, .null)))) (.branch 433 (.leaf (431, .bipush 10, 433, 0, 0, 0, .int 10)) (.branch 434 (.leaf (433, .iconst (-1), 434, 0, 0, 0, .int (-1))) (.leaf (434, .iastore, 435, 0, 0, 0, .null)))))) (.branch 443 (.branch 439 (.branch 436 (.leaf (435, .dup, 436, 0, 0, 0, .null)) (.branch 438 (.leaf (436, .bipush 11, 438, 0, 0, 0, .int 11)) (.leaf (438, .iconst (-1), 439, 0, 0, 0, .int (-1))))) (.branch 440 (.leaf (439, .iastore, 440, 0, 0, 0, .null)) (.branch 441 (.leaf (440, .dup, 441, 0, 0, 0, .null)) (.leaf (441, .bipush 12, 443, 0, 0, 0, .int 12))))) (.branch 446 (.branch 444 (.leaf (443, .iconst (-1), 444, 0, 0, 0, .int (-1))) (.branch 445 (.leaf (444, .iastore, 445, 0, 0, 0, .null)) (.leaf (445, .dup, 446, 0, 0, 0, .null)))) (.branch 448 (.leaf (446, .bipush 13, 448, 0, 0, 0, .int 13)) (.branch 449 (.leaf (448, .iconst (-1), 449, 0, 0, 0, .int (-1))) (.leaf (449, .iastore, 450, 0, 0, 0, .null)))))))) (.branch 491 (.branch 466 (.branch 456 (.branch 453 (.branch 451 (.leaf (450, .dup, 451, 0, 0, 0, .null)) (.leaf (451, .bipush 14, 453, 0, 0, 0, .int 14))) (.branch 454 (.leaf (453, .iconst (-1), 454, 0, 0, 0, .int (-1))) (.branch 455 (.leaf (454, .iastore, 455, 0, 0, 0, .null)) (.leaf (455, .dup, 456, 0, 0, 0, .null))))) (.branch 460 (.branch 458 (.leaf (456, .bipush 15, 458, 0, 0, 0, .int 15)) (.branch 459 (.leaf (458, .iconst (-1), 459, 0, 0, 0, .int (-1))) (.leaf (459, .iastore, 460, 0, 0, 0, .null)))) (.branch 463 (.leaf (460, .putfield 71, 463, 3, 31, 1, .null)) (.branch 464 (.leaf (463, .aload_n 0, 464, 0, 0, 0, .null)) (.leaf (464, .bipush 16, 466, 0, 0, 0, .int 16)))))) (.branch 479 (.branch 472 (.branch 468 (.leaf (466, .newarray .int, 468, 0, 16, 83, .null)) (.branch 471 (.leaf (468, .putfield 74, 471, 3, 32, 1, .null)) (.leaf (471, .aload_n 0, 472, 0, 0, 0, .null)))) (.branch 474 (.leaf (472, .bipush 16, 474, 0, 0, 0, .int 16)) (.branch 476 (.leaf (474, .newarray .int, 476, 0, 16, 88, .null)) (.leaf (476, .putfield 77, 479, 3, 37, 1, .null))))) (.branch 484 (.branch 480 (.leaf (479, .aload_n 0, 480, 0, 0, 0, .null)) (.branch 482 (.leaf (480, .bipush 16, 482, 0, 0, 0, .int 16)) (.leaf (482, .newarray .int, 484, 0, 16, 89, .null)))) (.branch 487 (.leaf (484, .putfield 80, 487, 3, 38, 1, .null)) (.branch 488 (.leaf (487, .aload_n 0, 488, 0, 0, 0, .null)) (.leaf (488, .sipush 320, 491, 0, 0, 0, .int 320))))))) (.branch 513 (.branch 501 (.branch 496 (.branch 493 (.leaf (491, .newarray .int, 493, 0, 320, 90, .null)) (.leaf (493, .putfield 83, 496, 3, 39, 1, .null))) (.branch 497 (.leaf (496, .aload_n 0, 497, 0, 0, 0, .null)) (.branch 499 (.leaf (497, .bipush 20, 499, 0, 0, 0, .int 20)) (.leaf (499, .newarray .int, 501, 0, 20, 91, .null))))) (.branch 507 (.branch 504 (.leaf (501, .putfield 86, 504, 3, 40, 1, .null)) (.branch 505 (.leaf (504, .aload_n 0, 505, 0, 0, 0, .null)) (.leaf (505, .bipush 16, 507, 0, 0, 0, .int 16)))) (.branch 509 (.leaf (507, .newarray .boolean, 509, 2, 16, 92, .null)) (.branch 512 (.leaf (509, .putfield 89, 512, 3, 41, 1, .null)) (.leaf (512, .aload_n 0, 513, 0, 0, 0, .null)))))) (.branch 525 (.branch 520 (.branch 515 (.leaf (513, .bipush 22, 515, 0, 0, 0, .int 22)) (.branch 517 (.leaf (515, .newarray .int, 517, 0, 22, 93, .null)) (.leaf (517, .putfield 92, 520, 3, 42, 1, .null)))) (.branch 521 (.leaf (520, .aload_n 0, 521, 0, 0, 0, .null)) (.branch 523 (.leaf (521, .bipush 22, 523, 0, 0, 0, .int 22)) (.leaf (523, .newarray .int, 525, 0, 22, 94, .null))))) (.branch 531 (.branch 528 (.leaf (525, .putfield 95, 528, 3, 43, 1, .null)) (.branch 529 (.leaf (528, .aload_n 0, 529, 0, 0, 0, .null)) (.leaf (529, .bipush 22, 531, 0, 0, 0, .int 22)))) (.branch 533 (.leaf (531, .newarray .int, 533, 0, 22, 95, .null)) (.branch 536 (.leaf (533, .putfield 98, 536, 3, 44, 1, .null)) (.leaf (536, .return_, 537, 0, 0, 0, .int 0))))))))))
def tb_X4_thrown : Lean.RArray am_E := .branch 1 (.leaf (0, .aload_n 0, 1, 0, 0, 0, .null)) (.branch 4 (.leaf (1, .getfield 101, 4, 3, 0, 0, .null)) (.leaf (4, .ireturn, 5, 0, 0, 0, .int 0)))
def tb_X4_feed : Lean.RArray am_E := .branch 25 (.branch 12 (.branch 5 (.branch 1 (.leaf (0, .aload_n 0, 1, 0, 0, 0, .null)) (.branch 2 (.leaf (1, .iconst 0, 2, 0, 0, 0, .int 0)) (.leaf (2, .putfield 101, 5, 3, 0, 0, .int 0)))) (.branch 9 (.branch 6 (.leaf (5, .aload_n 0, 6, 0, 0, 0, .null)) (.leaf (6, .getfield 105, 9, 3, 2, 0, .null))) (.branch 11 (.leaf (9, .bipush 20, 11, 0, 0, 0, .int 20)) (.leaf (11, .iadd, 12, 0, 0, 0, .null))))) (.branch 19 (.branch 15 (.leaf (12, .sipush 180, 15, 0, 0, 0, .int 180)) (.branch 18 (.leaf (15, .if_icmp .le 5, 18, 20, 0, 0, .null)) (.leaf (18, .iconst (-1), 19, 0, 0, 0, .int (-1))))) (.branch 21 (.branch 20 (.leaf (19, .ireturn, 20, 0, 0, 0, .int 0)) (.leaf (20, .aload_n 0, 21, 0, 0, 0, .null))) (.branch 22 (.leaf (21, .iload_n 1, 22, 1, 0, 0, .null)) (.leaf (22, .invokevirtual 108, 25, 46, 0, 0, .null)))))) (.branch 36 (.branch 30 (.branch 26 (.leaf (25, .aload_n 0, 26, 0, 0, 0, .null)) (.branch 27 (.leaf (26, .iload_n 2, 27, 2, 0, 0, .null)) (.leaf (27, .invokevirtual 108, 30, 46, 0, 0, .null)))) (.branch 32 (.branch 31 (.leaf (30, .aload_n 0, 31, 0, 0, 0, .null)) (.leaf (31, .iload_n 3, 32, 3, 0, 0, .null))) (.branch 35 (.leaf (32, .invokevirtual 108, 35, 46, 0, 0, .null)) (.leaf (35, .aload_n 0, 36, 0, 0, 0, .null))))) (.branch 44 (.branch 41 (.branch 38 (.leaf (36, .iload 4, 38, 4, 0, 0, .null)) (.leaf (38, .invokevirtual 108, 41, 46, 0, 0, .null))) (.branch 42 (.leaf (41, .aload_n 0, 42, 0, 0, 0, .null)) (.leaf (42, .iload 5, 44, 5, 0, 0, .null)))) (.branch 48 (.branch 47 (.leaf (44, .invokevirtual 108, 47, 46, 0, 0, .null)) (.leaf (47, .aload_n 0, 48, 0, 0, 0, .null))) (.branch 51 (.leaf (48, .getfield 105, 51, 3, 2, 0, .null)) (.leaf (51, .ireturn, 52, 0, 0, 0, .int 0))))))
def tb_X4_come : Lean.RArray am_E := .branch 18 (.branch 8 (.branch 3 (.branch 2 (.leaf (0, .bipush 24, 2, 0, 0, 0, .int 24)) (.leaf (2, .istore_n 2, 3, 2, 0, 0, .null))) (.branch 4 (.leaf (3, .iload_n 2, 4, 2, 0, 0, .null)) (.branch 7 (.leaf (4, .ifCond .lt 35, 7, 39, 0, 0, .null)) (.leaf (7, .aload_n 0, 8, 0, 0, 0, .null))))) (.branch 15 (.branch 11 (.leaf (8, .getfield 7, 11, 3, 1, 0, .null)) (.branch 12 (.leaf (11, .aload_n 0, 12, 0, 0, 0, .null)) (.leaf (12, .getfield 105, 15, 3, 2, 0, .null)))) (.branch 16 (.leaf (15, .iload_n 1, 16, 1, 0, 0, .null)) (.branch 17 (.leaf (16, .iload_n 2, 17, 2, 0, 0, .null)) (.leaf (17, .iushr, 18, 0, 0, 0, .null)))))) (.branch 28 (.branch 23 (.branch 21 (.leaf (18, .sipush 255, 21, 0, 0, 0, .int 255)) (.branch 22 (.leaf (21, .iand, 22, 0, 0, 0, .null)) (.leaf (22, .iastore, 23, 0, 0, 0, .null)))) (.branch 24 (.leaf (23, .aload_n 0, 24, 0, 0, 0, .null)) (.branch 25 (.leaf (24, .dup, 25, 0, 0, 0, .null)) (.leaf (25, .getfield 105, 28, 3, 2, 0, .null))))) (.branch 33 (.branch 29 (.leaf (28, .iconst 1, 29, 0, 0, 0, .int 1)) (.branch 30 (.leaf (29, .iadd, 30, 0, 0, 0, .null)) (.leaf (30, .putfield 105, 33, 3, 2, 0, .int 0)))) (.branch 36 (.leaf (33, .iinc 2 (-8), 36, 2, 0, 0, .int (-8))) (.branch 39 (.leaf (36, .goto (-33), 39, 3, 0, 0, .null)) (.leaf (39, .return_, 40, 0, 0, 0, .int 0))))))
def tb_X4_end : Lean.RArray am_E := .branch 14 (.branch 6 (.branch 2 (.branch 1 (.leaf (0, .aload_n 0, 1, 0, 0, 0, .null)) (.leaf (1, .iconst 0, 2, 0, 0, 0, .int 0))) (.branch 5 (.leaf (2, .putfield 101, 5, 3, 0, 0, .int 0)) (.leaf (5, .iload_n 1, 6, 1, 0, 0, .null)))) (.branch 10 (.branch 9 (.leaf (6, .ifCond .lt 11, 9, 17, 0, 0, .null)) (.leaf (9, .iload_n 1, 10, 1, 0, 0, .null))) (.branch 11 (.leaf (10, .aload_n 0, 11, 0, 0, 0, .null)) (.leaf (11, .getfield 105, 14, 3, 2, 0, .null))))) (.branch 20 (.branch 18 (.branch 17 (.leaf (14, .if_icmp .le 5, 17, 19, 0, 0, .null)) (.leaf (17, .iconst 0, 18, 0, 0, 0, .int 0))) (.branch 19 (.leaf (18, .ireturn, 19, 0, 0, 0, .float 0)) (.leaf (19, .aload_n 0, 20, 0, 0, 0, .null)))) (.branch 24 (.branch 21 (.leaf (20, .iload_n 1, 21, 1, 0, 0, .null)) (.leaf (21, .putfield 105, 24, 3, 2, 0, .int 0))) (.branch 25 (.leaf (24, .iconst 1, 25, 0, 0, 0, .int 1)) (.leaf (25, .ireturn, 26, 0, 0, 0, .float 0)))))
def tb_X4_rules : Lean.RArray am_E := .branch 58 (.branch 29 (.branch 14 (.branch 6 (.branch 2 (.branch 1 (.leaf (0, .aload_n 0, 1, 0, 0, 0, .null)) (.leaf (1, .iconst 0, 2, 0, 0, 0, .int 0))) (.branch 5 (.leaf (2, .putfield 101, 5, 3, 0, 0, .int 0)) (.leaf (5, .aload_n 0, 6, 0, 0, 0, .null)))) (.branch 10 (.branch 7 (.leaf (6, .aload_n 0, 7, 0, 0, 0, .null)) (.leaf (7, .getfield 105, 10, 3, 2, 0, .null))) (.branch 13 (.leaf (10, .putfield 112, 13, 3, 8, 0, .int 0)) (.leaf (13, .aload_n 0, 14, 0, 0, 0, .null))))) (.branch 20 (.branch 18 (.branch 15 (.leaf (14, .iconst 0, 15, 0, 0, 0, .int 0)) (.leaf (15, .putfield 105, 18, 3, 2, 0, .int 0))) (.branch 19 (.leaf (18, .aload_n 0, 19, 0, 0, 0, .null)) (.leaf (19, .iconst 0, 20, 0, 0, 0, .int 0)))) (.branch 24 (.branch 23 (.leaf (20, .putfield 158, 23, 3, 13, 0, .int 0)) (.leaf (23, .aload_n 0, 24, 0, 0, 0, .null))) (.branch 25 (.leaf (24, .iconst 0, 25, 0, 0, 0, .int 0)) (.branch 28 (.leaf (25, .putfield 171, 28, 3, 15, 0, .int 0)) (.leaf (28, .iconst 0, 29, 0, 0, 0, .int 0))))))) (.branch 45 (.branch 36 (.branch 31 (.branch 30 (.leaf (29, .istore_n 1, 30, 1, 0, 0, .null)) (.leaf (30, .iload_n 1, 31, 1, 0, 0, .null))) (.branch 33 (.leaf (31, .bipush 9, 33, 0, 0, 0, .int 9)) (.leaf (33, .if_icmp .ge 21, 36, 54, 0, 0, .null)))) (.branch 40 (.branch 37 (.leaf (36, .aload_n 0, 37, 0, 0, 0, .null)) (.leaf (37, .getfield 25, 40, 3, 7, 0, .null))) (.branch 41 (.leaf (40, .iload_n 1, 41, 1, 0, 0, .null)) (.branch 42 (.leaf (41, .aload_n 0, 42, 0, 0, 0, .null)) (.leaf (42, .getfield 16, 45, 3, 4, 0, .null)))))) (.branch 51 (.branch 47 (.branch 46 (.leaf (45, .iload_n 1, 46, 1, 0, 0, .null)) (.leaf (46, .iaload, 47, 0, 0, 0, .null))) (.branch 48 (.leaf (47, .iastore, 48, 0, 0, 0, .null)) (.leaf (48, .iinc 1 1, 51, 1, 0, 0, .int 1)))) (.branch 55 (.branch 54 (.leaf (51, .goto (-21), 54, 30, 0, 0, .null)) (.leaf (54, .iconst 0, 55, 0, 0, 0, .int 0))) (.branch 56 (.leaf (55, .istore_n 1, 56, 1, 0, 0, .null)) (.branch 57 (.leaf (56, .aload_n 0, 57, 0, 0, 0, .null)) (.leaf (57, .iconst 0, 58, 0, 0, 0, .int 0)))))))) (.branch 93 (.branch 76 (.branch 66 (.branch 62 (.branch 61 (.leaf (58, .putfield 115, 61, 3, 9, 0, .int 0)) (.leaf (61, .aload_n 0, 62, 0, 0, 0, .null))) (.branch 65 (.leaf (62, .invokevirtual 174, 65, 49, 0, 0, .null)) (.leaf (65, .aload_n 0, 66, 0, 0, 0, .null)))) (.branch 72 (.branch 69 (.leaf (66, .getfield 121, 69, 3, 11, 0, .null)) (.leaf (69, .ifCond .eq 27, 72, 96, 0, 0, .null))) (.branch 73 (.leaf (72, .aload_n 0, 73, 0, 0, 0, .null)) (.leaf (73, .invokevirtual 177, 76, 53, 0, 0, .null))))) (.branch 84 (.branch 80 (.branch 79 (.leaf (76, .ifCond .ne 10, 79, 86, 0, 0, .null)) (.leaf (79, .iconst (-1), 80, 0, 0, 0, .int (-1)))) (.branch 81 (.leaf (80, .aload_n 0, 81, 0, 0, 0, .null)) (.leaf (81, .getfield 161, 84, 3, 14, 0, .null)))) (.branch 86 (.branch 85 (.leaf (84, .isub, 85, 0, 0, 0, .null)) (.leaf (85, .ireturn, 86, 0, 0, 0, .int 0))) (.branch 89 (.leaf (86, .iinc 1 1, 89, 1, 0, 0, .int 1)) (.branch 90 (.leaf (89, .aload_n 0, 90, 0, 0, 0, .null)) (.leaf (90, .invokevirtual 174, 93, 49, 0, 0, .null))))))) (.branch 109 (.branch 99 (.branch 97 (.branch 96 (.leaf (93, .goto (-28), 96, 65, 0, 0, .null)) (.leaf (96, .iconst 0, 97, 0, 0, 0, .int 0))) (.branch 98 (.leaf (97, .istore_n 2, 98, 2, 0, 0, .null)) (.leaf (98, .iload_n 2, 99, 2, 0, 0, .null)))) (.branch 104 (.branch 101 (.leaf (99, .bipush 9, 101, 0, 0, 0, .int 9)) (.leaf (101, .if_icmp .ge 21, 104, 122, 0, 0, .null))) (.branch 105 (.leaf (104, .aload_n 0, 105, 0, 0, 0, .null)) (.branch 108 (.leaf (105, .getfield 13, 108, 3, 3, 0, .null)) (.leaf (108, .iload_n 2, 109, 2, 0, 0, .null)))))) (.branch 115 (.branch 113 (.branch 110 (.leaf (109, .aload_n 0, 110, 0, 0, 0, .null)) (.leaf (110, .getfield 25, 113, 3, 7, 0, .null))) (.branch 114 (.leaf (113, .iload_n 2, 114, 2, 0, 0, .null)) (.leaf (114, .iaload, 115, 0, 0, 0, .null)))) (.branch 119 (.branch 116 (.leaf (115, .iastore, 116, 0, 0, 0, .null)) (.leaf (116, .iinc 2 1, 119, 2, 0, 0, .int 1))) (.branch 122 (.leaf (119, .goto (-21), 122, 98, 0, 0, .null)) (.branch 123 (.leaf (122, .iload_n 1, 123, 1, 0, 0, .null)) (.leaf (123, .ireturn, 124, 0, 0, 0, .int 0))))))))
def tb_X4_go : Lean.RArray am_E := .branch 177 (.branch 94 (.branch 45 (.branch 22 (.branch 11 (.branch 4 (.branch 1 (.leaf (0, .aload_n 0, 1, 0, 0, 0, .null)) (.leaf (1, .getfield 115, 4, 3, 9, 0, .null))) (.branch 5 (.leaf (4, .aload_n 0, 5, 0, 0, 0, .null)) (.branch 8 (.leaf (5, .getfield 112, 8, 3, 8, 0, .null)) (.leaf (8, .if_icmp .ge 44, 11, 52, 0, 0, .null))))) (.branch 16 (.branch 12 (.leaf (11, .aload_n 0, 12, 0, 0, 0, .null)) (.branch 15 (.leaf (12, .getfield 7, 15, 3, 1, 0, .null)) (.leaf (15, .aload_n 0, 16, 0, 0, 0, .null)))) (.branch 19 (.leaf (16, .getfield 115, 19, 3, 9, 0, .null)) (.branch 20 (.leaf (19, .iaload, 20, 0, 0, 0, .null)) (.leaf (20, .bipush 32, 22, 0, 0, 0, .int 32)))))) (.branch 34 (.branch 29 (.branch 25 (.leaf (22, .if_icmp .eq 17, 25, 39, 0, 0, .null)) (.branch 26 (.leaf (25, .aload_n 0, 26, 0, 0, 0, .null)) (.leaf (26, .getfield 7, 29, 3, 1, 0, .null)))) (.branch 30 (.leaf (29, .aload_n 0, 30, 0, 0, 0, .null)) (.branch 33 (.leaf (30, .getfield 115, 33, 3, 9, 0, .null)) (.leaf (33, .iaload, 34, 0, 0, 0, .null))))) (.branch 40 (.branch 36 (.leaf (34, .bipush 10, 36, 0, 0, 0, .int 10)) (.branch 39 (.leaf (36, .if_icmp .ne 16, 39, 52, 0, 0, .null)) (.leaf (39, .aload_n 0, 40, 0, 0, 0, .null)))) (.branch 41 (.leaf (40, .dup, 41, 0, 0, 0, .null)) (.branch 44 (.leaf (41, .getfield 115, 44, 3, 9, 0, .null)) (.leaf (44, .iconst 1, 45, 0, 0, 0, .int 1))))))) (.branch 70 (.branch 54 (.branch 49 (.branch 46 (.leaf (45, .iadd, 46, 0, 0, 0, .null)) (.leaf (46, .putfield 115, 49, 3, 9, 0, .int 0))) (.branch 52 (.leaf (49, .goto (-49), 52, 0, 0, 0, .null)) (.branch 53 (.leaf (52, .aload_n 0, 53, 0, 0, 0, .null)) (.leaf (53, .aload_n 0, 54, 0, 0, 0, .null))))) (.branch 61 (.branch 57 (.leaf (54, .getfield 115, 57, 3, 9, 0, .null)) (.branch 60 (.leaf (57, .putfield 118, 60, 3, 10, 0, .int 0)) (.leaf (60, .aload_n 0, 61, 0, 0, 0, .null)))) (.branch 64 (.leaf (61, .getfield 112, 64, 3, 8, 0, .null)) (.branch 67 (.leaf (64, .sipush 160, 67, 0, 0, 0, .int 160)) (.leaf (67, .if_icmp .le 26, 70, 93, 0, 0, .null)))))) (.branch 84 (.branch 77 (.branch 71 (.leaf (70, .aload_n 0, 71, 0, 0, 0, .null)) (.branch 74 (.leaf (71, .getfield 118, 74, 3, 10, 0, .null)) (.leaf (74, .sipush 160, 77, 0, 0, 0, .int 160)))) (.branch 80 (.leaf (77, .if_icmp .lt 16, 80, 93, 0, 0, .null)) (.branch 81 (.leaf (80, .aload_n 0, 81, 0, 0, 0, .null)) (.leaf (81, .sipush 160, 84, 0, 0, 0, .int 160))))) (.branch 89 (.branch 87 (.leaf (84, .putfield 118, 87, 3, 10, 0, .int 0)) (.branch 88 (.leaf (87, .aload_n 0, 88, 0, 0, 0, .null)) (.leaf (88, .iconst 1, 89, 0, 0, 0, .int 1)))) (.branch 92 (.leaf (89, .putfield 121, 92, 3, 11, 0, .int 0)) (.branch 93 (.leaf (92, .return_, 93, 0, 0, 0, .int 0)) (.leaf (93, .aload_n 0, 94, 0, 0, 0, .null)))))))) (.branch 138 (.branch 115 (.branch 105 (.branch 98 (.branch 97 (.leaf (94, .getfield 115, 97, 3, 9, 0, .null)) (.leaf (97, .aload_n 0, 98, 0, 0, 0, .null))) (.branch 101 (.leaf (98, .getfield 112, 101, 3, 8, 0, .null)) (.branch 104 (.leaf (101, .if_icmp .lt 9, 104, 110, 0, 0, .null)) (.leaf (104, .aload_n 0, 105, 0, 0, 0, .null))))) (.branch 110 (.branch 106 (.leaf (105, .iconst 0, 106, 0, 0, 0, .int 0)) (.branch 109 (.leaf (106, .putfield 121, 109, 3, 11, 0, .int 0)) (.leaf (109, .return_, 110, 0, 0, 0, .int 0)))) (.branch 111 (.leaf (110, .aload_n 0, 111, 0, 0, 0, .null)) (.branch 114 (.leaf (111, .getfield 7, 114, 3, 1, 0, .null)) (.leaf (114, .aload_n 0, 115, 0, 0, 0, .null)))))) (.branch 127 (.branch 120 (.branch 118 (.leaf (115, .getfield 115, 118, 3, 9, 0, .null)) (.branch 119 (.leaf (118, .iaload, 119, 0, 0, 0, .null)) (.leaf (119, .istore_n 1, 120, 1, 0, 0, .null)))) (.branch 121 (.leaf (120, .iload_n 1, 121, 1, 0, 0, .null)) (.branch 124 (.leaf (121, .invokestatic 124, 124, 50, 0, 0, .null)) (.leaf (124, .ifCond .ne 36, 127, 160, 0, 0, .null))))) (.branch 134 (.branch 128 (.leaf (127, .iload_n 1, 128, 1, 0, 0, .null)) (.branch 131 (.leaf (128, .invokestatic 128, 131, 51, 0, 0, .null)) (.leaf (131, .ifCond .ne 29, 134, 160, 0, 0, .null)))) (.branch 135 (.leaf (134, .aload_n 0, 135, 0, 0, 0, .null)) (.branch 136 (.leaf (135, .iload_n 1, 136, 1, 0, 0, .null)) (.leaf (136, .bipush 59, 138, 0, 0, 0, .int 59))))))) (.branch 159 (.branch 149 (.branch 142 (.branch 141 (.leaf (138, .if_icmp .ne 7, 141, 145, 0, 0, .null)) (.leaf (141, .iconst 4, 142, 0, 0, 0, .int 4))) (.branch 145 (.leaf (142, .goto 4, 145, 146, 0, 0, .null)) (.branch 146 (.leaf (145, .iconst 1, 146, 0, 0, 0, .int 1)) (.leaf (146, .putfield 121, 149, 3, 11, 0, .int 0))))) (.branch 154 (.branch 150 (.leaf (149, .aload_n 0, 150, 0, 0, 0, .null)) (.branch 151 (.leaf (150, .dup, 151, 0, 0, 0, .null)) (.leaf (151, .getfield 115, 154, 3, 9, 0, .null)))) (.branch 155 (.leaf (154, .iconst 1, 155, 0, 0, 0, .int 1)) (.branch 156 (.leaf (155, .iadd, 156, 0, 0, 0, .null)) (.leaf (156, .putfield 115, 159, 3, 9, 0, .int 0)))))) (.branch 167 (.branch 164 (.branch 160 (.leaf (159, .return_, 160, 0, 0, 0, .int 0)) (.branch 161 (.leaf (160, .iload_n 1, 161, 1, 0, 0, .null)) (.leaf (161, .invokestatic 124, 164, 50, 0, 0, .null)))) (.branch 165 (.leaf (164, .istore_n 2, 165, 2, 0, 0, .null)) (.branch 166 (.leaf (165, .iconst 1, 166, 0, 0, 0, .int 1)) (.leaf (166, .istore_n 3, 167, 3, 0, 0, .null))))) (.branch 172 (.branch 168 (.leaf (167, .aload_n 0, 168, 0, 0, 0, .null)) (.branch 169 (.leaf (168, .lconst 0, 169, 0, 0, 0, .long 0)) (.leaf (169, .putfield 131, 172, 3, 16, 0, .long 0)))) (.branch 173 (.leaf (172, .aload_n 0, 173, 0, 0, 0, .null)) (.branch 174 (.leaf (173, .iconst 0, 174, 0, 0, 0, .int 0)) (.leaf (174, .putfield 135, 177, 3, 12, 0, .int 0))))))))) (.branch 269 (.branch 226 (.branch 202 (.branch 188 (.branch 179 (.branch 178 (.leaf (177, .aload_n 0, 178, 0, 0, 0, .null)) (.leaf (178, .aload_n 0, 179, 0, 0, 0, .null))) (.branch 182 (.leaf (179, .getfield 115, 182, 3, 9, 0, .null)) (.branch 185 (.leaf (182, .invokevirtual 138, 185, 52, 0, 0, .null)) (.leaf (185, .invokestatic 124, 188, 50, 0, 0, .null))))) (.branch 193 (.branch 191 (.leaf (188, .ifCond .ne 17, 191, 205, 0, 0, .null)) (.branch 192 (.leaf (191, .aload_n 0, 192, 0, 0, 0, .null)) (.leaf (192, .aload_n 0, 193, 0, 0, 0, .null)))) (.branch 196 (.leaf (193, .getfield 115, 196, 3, 9, 0, .null)) (.branch 199 (.leaf (196, .invokevirtual 138, 199, 52, 0, 0, .null)) (.leaf (199, .invokestatic 128, 202, 51, 0, 0, .null)))))) (.branch 214 (.branch 209 (.branch 205 (.leaf (202, .ifCond .eq 116, 205, 318, 0, 0, .null)) (.branch 206 (.leaf (205, .aload_n 0, 206, 0, 0, 0, .null)) (.leaf (206, .getfield 7, 209, 3, 1, 0, .null)))) (.branch 210 (.leaf (209, .aload_n 0, 210, 0, 0, 0, .null)) (.branch 213 (.leaf (210, .getfield 115, 213, 3, 9, 0, .null)) (.leaf (213, .iaload, 214, 0, 0, 0, .null))))) (.branch 220 (.branch 216 (.leaf (214, .istore 4, 216, 4, 0, 0, .null)) (.branch 217 (.leaf (216, .iload_n 3, 217, 3, 0, 0, .null)) (.leaf (217, .ifCond .eq 16, 220, 233, 0, 0, .null)))) (.branch 222 (.leaf (220, .iload 4, 222, 4, 0, 0, .null)) (.branch 225 (.leaf (222, .invokestatic 124, 225, 50, 0, 0, .null)) (.leaf (225, .iload_n 2, 226, 2, 0, 0, .null))))))) (.branch 245 (.branch 235 (.branch 230 (.branch 229 (.leaf (226, .if_icmp .ne 7, 229, 233, 0, 0, .null)) (.leaf (229, .iconst 1, 230, 0, 0, 0, .int 1))) (.branch 233 (.leaf (230, .goto 4, 233, 234, 0, 0, .null)) (.branch 234 (.leaf (233, .iconst 0, 234, 0, 0, 0, .int 0)) (.leaf (234, .istore_n 3, 235, 3, 0, 0, .null))))) (.branch 240 (.branch 236 (.leaf (235, .aload_n 0, 236, 0, 0, 0, .null)) (.branch 237 (.leaf (236, .aload_n 0, 237, 0, 0, 0, .null)) (.leaf (237, .getfield 115, 240, 3, 9, 0, .null)))) (.branch 241 (.leaf (240, .aload_n 0, 241, 0, 0, 0, .null)) (.branch 244 (.leaf (241, .getfield 118, 244, 3, 10, 0, .null)) (.leaf (244, .isub, 245, 0, 0, 0, .null)))))) (.branch 258 (.branch 253 (.branch 247 (.leaf (245, .bipush 6, 247, 0, 0, 0, .int 6)) (.branch 250 (.leaf (247, .if_icmp .ge 22, 250, 269, 0, 0, .null)) (.leaf (250, .ldc2_w 142, 253, 0, 0, 0, .long 27)))) (.branch 254 (.leaf (253, .aload_n 0, 254, 0, 0, 0, .null)) (.branch 257 (.leaf (254, .getfield 131, 257, 3, 16, 0, .null)) (.leaf (257, .lmul, 258, 0, 0, 0, .null))))) (.branch 262 (.branch 260 (.leaf (258, .iload 4, 260, 4, 0, 0, .null)) (.branch 261 (.leaf (260, .i2l, 261, 0, 0, 0, .null)) (.leaf (261, .ladd, 262, 0, 0, 0, .null)))) (.branch 265 (.leaf (262, .ldc2_w 144, 265, 0, 0, 0, .long 96)) (.branch 266 (.leaf (265, .lsub, 266, 0, 0, 0, .null)) (.leaf (266, .goto 6, 269, 272, 0, 0, .null)))))))) (.branch 311 (.branch 291 (.branch 280 (.branch 275 (.branch 272 (.leaf (269, .ldc2_w 146, 272, 0, 0, 0, .long (-1))) (.leaf (272, .putfield 131, 275, 3, 16, 0, .long 0))) (.branch 276 (.leaf (275, .aload_n 0, 276, 0, 0, 0, .null)) (.branch 279 (.leaf (276, .getfield 115, 279, 3, 9, 0, .null)) (.leaf (279, .aload_n 0, 280, 0, 0, 0, .null))))) (.branch 285 (.branch 283 (.leaf (280, .getfield 118, 283, 3, 10, 0, .null)) (.branch 284 (.leaf (283, .isub, 284, 0, 0, 0, .null)) (.leaf (284, .iconst 3, 285, 0, 0, 0, .int 3)))) (.branch 288 (.leaf (285, .if_icmp .ge 20, 288, 305, 0, 0, .null)) (.branch 289 (.leaf (288, .aload_n 0, 289, 0, 0, 0, .null)) (.leaf (289, .bipush 10, 291, 0, 0, 0, .int 10)))))) (.branch 301 (.branch 296 (.branch 292 (.leaf (291, .aload_n 0, 292, 0, 0, 0, .null)) (.branch 295 (.leaf (292, .getfield 135, 295, 3, 12, 0, .null)) (.leaf (295, .imul, 296, 0, 0, 0, .null)))) (.branch 298 (.leaf (296, .iload 4, 298, 4, 0, 0, .null)) (.branch 299 (.leaf (298, .iadd, 299, 0, 0, 0, .null)) (.leaf (299, .bipush 48, 301, 0, 0, 0, .int 48))))) (.branch 306 (.branch 302 (.leaf (301, .isub, 302, 0, 0, 0, .null)) (.branch 305 (.leaf (302, .putfield 135, 305, 3, 12, 0, .int 0)) (.leaf (305, .aload_n 0, 306, 0, 0, 0, .null)))) (.branch 307 (.leaf (306, .dup, 307, 0, 0, 0, .null)) (.branch 310 (.leaf (307, .getfield 115, 310, 3, 9, 0, .null)) (.leaf (310, .iconst 1, 311, 0, 0, 0, .int 1))))))) (.branch 335 (.branch 323 (.branch 318 (.branch 312 (.leaf (311, .iadd, 312, 0, 0, 0, .null)) (.branch 315 (.leaf (312, .putfield 115, 315, 3, 9, 0, .int 0)) (.leaf (315, .goto (-138), 318, 177, 0, 0, .null)))) (.branch 319 (.leaf (318, .aload_n 0, 319, 0, 0, 0, .null)) (.branch 320 (.leaf (319, .iload_n 3, 320, 3, 0, 0, .null)) (.leaf (320, .ifCond .eq 20, 323, 340, 0, 0, .null))))) (.branch 328 (.branch 324 (.leaf (323, .iload_n 2, 324, 2, 0, 0, .null)) (.branch 327 (.leaf (324, .ifCond .ne 20, 327, 344, 0, 0, .null)) (.leaf (327, .aload_n 0, 328, 0, 0, 0, .null)))) (.branch 331 (.leaf (328, .getfield 115, 331, 3, 9, 0, .null)) (.branch 332 (.leaf (331, .aload_n 0, 332, 0, 0, 0, .null)) (.leaf (332, .getfield 118, 335, 3, 10, 0, .null)))))) (.branch 345 (.branch 340 (.branch 336 (.leaf (335, .isub, 336, 0, 0, 0, .null)) (.branch 337 (.leaf (336, .iconst 3, 337, 0, 0, 0, .int 3)) (.leaf (337, .if_icmp .le 7, 340, 344, 0, 0, .null)))) (.branch 341 (.leaf (340, .iconst 1, 341, 0, 0, 0, .int 1)) (.branch 344 (.leaf (341, .goto 12, 344, 353, 0, 0, .null)) (.leaf (344, .iload_n 2, 345, 2, 0, 0, .null))))) (.branch 352 (.branch 348 (.leaf (345, .ifCond .eq 7, 348, 352, 0, 0, .null)) (.branch 349 (.leaf (348, .iconst 2, 349, 0, 0, 0, .int 2)) (.leaf (349, .goto 4, 352, 353, 0, 0, .null)))) (.branch 353 (.leaf (352, .iconst 3, 353, 0, 0, 0, .int 3)) (.branch 356 (.leaf (353, .putfield 121, 356, 3, 11, 0, .int 0)) (.leaf (356, .return_, 357, 0, 0, 0, .int 0)))))))))
def tb_X4_isLetter : Lean.RArray am_E := .branch 9 (.branch 3 (.branch 1 (.leaf (0, .iload_n 0, 1, 0, 0, 0, .null)) (.leaf (1, .bipush 97, 3, 0, 0, 0, .int 97))) (.branch 6 (.leaf (3, .if_icmp .lt 13, 6, 16, 0, 0, .null)) (.branch 7 (.leaf (6, .iload_n 0, 7, 0, 0, 0, .null)) (.leaf (7, .bipush 122, 9, 0, 0, 0, .int 122))))) (.branch 13 (.branch 12 (.leaf (9, .if_icmp .gt 7, 12, 16, 0, 0, .null)) (.leaf (12, .iconst 1, 13, 0, 0, 0, .int 1))) (.branch 16 (.leaf (13, .goto 4, 16, 17, 0, 0, .null)) (.branch 17 (.leaf (16, .iconst 0, 17, 0, 0, 0, .int 0)) (.leaf (17, .ireturn, 18, 0, 0, 0, .float 0)))))
def tb_X4_isDigit : Lean.RArray am_E := .branch 9 (.branch 3 (.branch 1 (.leaf (0, .iload_n 0, 1, 0, 0, 0, .null)) (.leaf (1, .bipush 48, 3, 0, 0, 0, .int 48))) (.branch 6 (.leaf (3, .if_icmp .lt 13, 6, 16, 0, 0, .null)) (.branch 7 (.leaf (6, .iload_n 0, 7, 0, 0, 0, .null)) (.leaf (7, .bipush 57, 9, 0, 0, 0, .int 57))))) (.branch 13 (.branch 12 (.leaf (9, .if_icmp .gt 7, 12, 16, 0, 0, .null)) (.leaf (12, .iconst 1, 13, 0, 0, 0, .int 1))) (.branch 16 (.leaf (13, .goto 4, 16, 17, 0, 0, .null)) (.branch 17 (.leaf (16, .iconst 0, 17, 0, 0, 0, .int 0)) (.leaf (17, .ireturn, 18, 0, 0, 0, .float 0)))))
def tb_X4_byteAt : Lean.RArray am_E := .branch 9 (.branch 2 (.branch 1 (.leaf (0, .iload_n 1, 1, 1, 0, 0, .null)) (.leaf (1, .aload_n 0, 2, 0, 0, 0, .null))) (.branch 5 (.leaf (2, .getfield 112, 5, 3, 8, 0, .null)) (.branch 8 (.leaf (5, .if_icmp .ge 12, 8, 17, 0, 0, .null)) (.leaf (8, .aload_n 0, 9, 0, 0, 0, .null))))) (.branch 14 (.branch 12 (.leaf (9, .getfield 7, 12, 3, 1, 0, .null)) (.branch 13 (.leaf (12, .iload_n 1, 13, 1, 0, 0, .null)) (.leaf (13, .iaload, 14, 0, 0, 0, .null)))) (.branch 17 (.leaf (14, .goto 4, 17, 18, 0, 0, .null)) (.branch 18 (.leaf (17, .iconst 0, 18, 0, 0, 0, .int 0)) (.leaf (18, .ireturn, 19, 0, 0, 0, .int 0)))))
def tb_X4_readRule : Lean.RArray am_E := .branch 65 (.branch 29 (.branch 15 (.branch 6 (.branch 4 (.branch 1 (.leaf (0, .aload_n 0, 1, 0, 0, 0, .null)) (.leaf (1, .invokevirtual 164, 4, 54, 0, 0, .null))) (.branch 5 (.leaf (4, .istore_n 1, 5, 1, 0, 0, .null)) (.leaf (5, .iload_n 1, 6, 1, 0, 0, .null)))) (.branch 10 (.branch 7 (.leaf (6, .iconst (-1), 7, 0, 0, 0, .int (-1))) (.leaf (7, .if_icmp .ne 9, 10, 16, 0, 0, .null))) (.branch 11 (.leaf (10, .aload_n 0, 11, 0, 0, 0, .null)) (.branch 12 (.leaf (11, .iconst 1, 12, 0, 0, 0, .int 1)) (.leaf (12, .invokevirtual 168, 15, 57, 0, 0, .null)))))) (.branch 22 (.branch 17 (.branch 16 (.leaf (15, .ireturn, 16, 0, 0, 0, .float 0)) (.leaf (16, .aload_n 0, 17, 0, 0, 0, .null))) (.branch 20 (.leaf (17, .getfield 171, 20, 3, 15, 0, .null)) (.branch 21 (.leaf (20, .iload_n 1, 21, 1, 0, 0, .null)) (.leaf (21, .ishr, 22, 0, 0, 0, .null))))) (.branch 24 (.branch 23 (.leaf (22, .iconst 1, 23, 0, 0, 0, .int 1)) (.leaf (23, .iand, 24, 0, 0, 0, .null))) (.branch 25 (.leaf (24, .iconst 1, 25, 0, 0, 0, .int 1)) (.branch 28 (.leaf (25, .if_icmp .ne 9, 28, 34, 0, 0, .null)) (.leaf (28, .aload_n 0, 29, 0, 0, 0, .null))))))) (.branch 47 (.branch 38 (.branch 33 (.branch 30 (.leaf (29, .iconst 3, 30, 0, 0, 0, .int 3)) (.leaf (30, .invokevirtual 168, 33, 57, 0, 0, .null))) (.branch 34 (.leaf (33, .ireturn, 34, 0, 0, 0, .float 0)) (.branch 35 (.leaf (34, .aload_n 0, 35, 0, 0, 0, .null)) (.leaf (35, .invokevirtual 174, 38, 49, 0, 0, .null))))) (.branch 42 (.branch 39 (.leaf (38, .aload_n 0, 39, 0, 0, 0, .null)) (.leaf (39, .getfield 121, 42, 3, 11, 0, .null))) (.branch 43 (.leaf (42, .iconst 3, 43, 0, 0, 0, .int 3)) (.branch 46 (.leaf (43, .if_icmp .eq 9, 46, 52, 0, 0, .null)) (.leaf (46, .aload_n 0, 47, 0, 0, 0, .null)))))) (.branch 56 (.branch 51 (.branch 48 (.leaf (47, .iconst 1, 48, 0, 0, 0, .int 1)) (.leaf (48, .invokevirtual 168, 51, 57, 0, 0, .null))) (.branch 52 (.leaf (51, .ireturn, 52, 0, 0, 0, .float 0)) (.branch 53 (.leaf (52, .aload_n 0, 53, 0, 0, 0, .null)) (.leaf (53, .getfield 135, 56, 3, 12, 0, .null))))) (.branch 60 (.branch 57 (.leaf (56, .aload_n 0, 57, 0, 0, 0, .null)) (.leaf (57, .getfield 19, 60, 3, 5, 0, .null))) (.branch 61 (.leaf (60, .iload_n 1, 61, 1, 0, 0, .null)) (.branch 62 (.leaf (61, .iaload, 62, 0, 0, 0, .null)) (.leaf (62, .if_icmp .lt 16, 65, 78, 0, 0, .null)))))))) (.branch 96 (.branch 80 (.branch 73 (.branch 69 (.branch 66 (.leaf (65, .aload_n 0, 66, 0, 0, 0, .null)) (.leaf (66, .getfield 135, 69, 3, 12, 0, .null))) (.branch 70 (.leaf (69, .aload_n 0, 70, 0, 0, 0, .null)) (.leaf (70, .getfield 22, 73, 3, 6, 0, .null)))) (.branch 75 (.branch 74 (.leaf (73, .iload_n 1, 74, 1, 0, 0, .null)) (.leaf (74, .iaload, 75, 0, 0, 0, .null))) (.branch 78 (.leaf (75, .if_icmp .le 9, 78, 84, 0, 0, .null)) (.branch 79 (.leaf (78, .aload_n 0, 79, 0, 0, 0, .null)) (.leaf (79, .iconst 2, 80, 0, 0, 0, .int 2)))))) (.branch 89 (.branch 84 (.branch 83 (.leaf (80, .invokevirtual 168, 83, 57, 0, 0, .null)) (.leaf (83, .ireturn, 84, 0, 0, 0, .float 0))) (.branch 85 (.leaf (84, .aload_n 0, 85, 0, 0, 0, .null)) (.branch 88 (.leaf (85, .getfield 25, 88, 3, 7, 0, .null)) (.leaf (88, .iload_n 1, 89, 1, 0, 0, .null))))) (.branch 93 (.branch 90 (.leaf (89, .aload_n 0, 90, 0, 0, 0, .null)) (.leaf (90, .getfield 135, 93, 3, 12, 0, .null))) (.branch 94 (.leaf (93, .iastore, 94, 0, 0, 0, .null)) (.branch 95 (.leaf (94, .aload_n 0, 95, 0, 0, 0, .null)) (.leaf (95, .dup, 96, 0, 0, 0, .null))))))) (.branch 114 (.branch 103 (.branch 100 (.branch 99 (.leaf (96, .getfield 171, 99, 3, 15, 0, .null)) (.leaf (99, .iconst 1, 100, 0, 0, 0, .int 1))) (.branch 101 (.leaf (100, .iload_n 1, 101, 1, 0, 0, .null)) (.branch 102 (.leaf (101, .ishl, 102, 0, 0, 0, .null)) (.leaf (102, .ior, 103, 0, 0, 0, .null))))) (.branch 107 (.branch 106 (.leaf (103, .putfield 171, 106, 3, 15, 0, .int 0)) (.leaf (106, .aload_n 0, 107, 0, 0, 0, .null))) (.branch 110 (.leaf (107, .invokevirtual 174, 110, 49, 0, 0, .null)) (.branch 111 (.leaf (110, .aload_n 0, 111, 0, 0, 0, .null)) (.leaf (111, .getfield 121, 114, 3, 11, 0, .null)))))) (.branch 123 (.branch 118 (.branch 115 (.leaf (114, .iconst 4, 115, 0, 0, 0, .int 4)) (.leaf (115, .if_icmp .eq 11, 118, 126, 0, 0, .null))) (.branch 119 (.leaf (118, .aload_n 0, 119, 0, 0, 0, .null)) (.branch 120 (.leaf (119, .iconst 1, 120, 0, 0, 0, .int 1)) (.leaf (120, .invokevirtual 168, 123, 57, 0, 0, .null))))) (.branch 127 (.branch 126 (.leaf (123, .ifCond .eq 7, 126, 130, 0, 0, .null)) (.leaf (126, .iconst 1, 127, 0, 0, 0, .int 1))) (.branch 130 (.leaf (127, .goto 4, 130, 131, 0, 0, .null)) (.branch 131 (.leaf (130, .iconst 0, 131, 0, 0, 0, .int 0)) (.leaf (131, .ireturn, 132, 0, 0, 0, .float 0))))))))
def tb_X4_ruleAtHand : Lean.RArray am_E := .branch 93 (.branch 47 (.branch 23 (.branch 11 (.branch 5 (.branch 1 (.leaf (0, .aload_n 0, 1, 0, 0, 0, .null)) (.branch 3 (.leaf (1, .bipush 114, 3, 0, 0, 0, .int 114)) (.leaf (3, .bipush 111, 5, 0, 0, 0, .int 111)))) (.branch 7 (.leaf (5, .bipush 119, 7, 0, 0, 0, .int 119)) (.branch 8 (.leaf (7, .iconst 0, 8, 0, 0, 0, .int 0)) (.leaf (8, .invokestatic 148, 11, 55, 0, 0, .null))))) (.branch 18 (.branch 14 (.leaf (11, .invokevirtual 152, 14, 56, 0, 0, .null)) (.branch 17 (.leaf (14, .ifCond .eq 5, 17, 19, 0, 0, .null)) (.leaf (17, .iconst 0, 18, 0, 0, 0, .int 0)))) (.branch 19 (.leaf (18, .ireturn, 19, 0, 0, 0, .int 0)) (.branch 20 (.leaf (19, .aload_n 0, 20, 0, 0, 0, .null)) (.leaf (20, .ldc2_w 142, 23, 0, 0, 0, .long 27)))))) (.branch 35 (.branch 29 (.branch 25 (.leaf (23, .bipush 97, 25, 0, 0, 0, .int 97)) (.branch 27 (.leaf (25, .bipush 103, 27, 0, 0, 0, .int 103)) (.leaf (27, .bipush 97, 29, 0, 0, 0, .int 97)))) (.branch 31 (.leaf (29, .bipush 105, 31, 0, 0, 0, .int 105)) (.branch 34 (.leaf (31, .invokestatic 148, 34, 55, 0, 0, .null)) (.leaf (34, .lmul, 35, 0, 0, 0, .null))))) (.branch 42 (.branch 38 (.leaf (35, .ldc2_w 156, 38, 0, 0, 0, .long 14)) (.branch 39 (.leaf (38, .ladd, 39, 0, 0, 0, .null)) (.leaf (39, .invokevirtual 152, 42, 56, 0, 0, .null)))) (.branch 45 (.leaf (42, .ifCond .eq 5, 45, 47, 0, 0, .null)) (.branch 46 (.leaf (45, .iconst 1, 46, 0, 0, 0, .int 1)) (.leaf (46, .ireturn, 47, 0, 0, 0, .int 0))))))) (.branch 69 (.branch 58 (.branch 52 (.branch 48 (.leaf (47, .aload_n 0, 48, 0, 0, 0, .null)) (.branch 50 (.leaf (48, .bipush 102, 50, 0, 0, 0, .int 102)) (.leaf (50, .bipush 97, 52, 0, 0, 0, .int 97)))) (.branch 54 (.leaf (52, .bipush 114, 54, 0, 0, 0, .int 114)) (.branch 55 (.leaf (54, .iconst 0, 55, 0, 0, 0, .int 0)) (.leaf (55, .invokestatic 148, 58, 55, 0, 0, .null))))) (.branch 65 (.branch 61 (.leaf (58, .invokevirtual 152, 61, 56, 0, 0, .null)) (.branch 64 (.leaf (61, .ifCond .eq 5, 64, 66, 0, 0, .null)) (.leaf (64, .iconst 2, 65, 0, 0, 0, .int 2)))) (.branch 66 (.leaf (65, .ireturn, 66, 0, 0, 0, .int 0)) (.branch 67 (.leaf (66, .aload_n 0, 67, 0, 0, 0, .null)) (.leaf (67, .bipush 102, 69, 0, 0, 0, .int 102)))))) (.branch 84 (.branch 75 (.branch 71 (.leaf (69, .bipush 97, 71, 0, 0, 0, .int 97)) (.branch 73 (.leaf (71, .bipush 105, 73, 0, 0, 0, .int 105)) (.leaf (73, .bipush 114, 75, 0, 0, 0, .int 114)))) (.branch 78 (.leaf (75, .invokestatic 148, 78, 55, 0, 0, .null)) (.branch 81 (.leaf (78, .invokevirtual 152, 81, 56, 0, 0, .null)) (.leaf (81, .ifCond .eq 5, 84, 86, 0, 0, .null))))) (.branch 87 (.branch 85 (.leaf (84, .iconst 3, 85, 0, 0, 0, .int 3)) (.branch 86 (.leaf (85, .ireturn, 86, 0, 0, 0, .int 0)) (.leaf (86, .aload_n 0, 87, 0, 0, 0, .null)))) (.branch 89 (.leaf (87, .bipush 119, 89, 0, 0, 0, .int 119)) (.branch 91 (.leaf (89, .bipush 111, 91, 0, 0, 0, .int 111)) (.leaf (91, .bipush 110, 93, 0, 0, 0, .int 110)))))))) (.branch 141 (.branch 117 (.branch 105 (.branch 100 (.branch 94 (.leaf (93, .iconst 0, 94, 0, 0, 0, .int 0)) (.branch 97 (.leaf (94, .invokestatic 148, 97, 55, 0, 0, .null)) (.leaf (97, .invokevirtual 152, 100, 56, 0, 0, .null)))) (.branch 103 (.leaf (100, .ifCond .eq 5, 103, 105, 0, 0, .null)) (.branch 104 (.leaf (103, .iconst 4, 104, 0, 0, 0, .int 4)) (.leaf (104, .ireturn, 105, 0, 0, 0, .int 0))))) (.branch 110 (.branch 106 (.leaf (105, .aload_n 0, 106, 0, 0, 0, .null)) (.branch 108 (.leaf (106, .bipush 108, 108, 0, 0, 0, .int 108)) (.leaf (108, .bipush 111, 110, 0, 0, 0, .int 111)))) (.branch 112 (.leaf (110, .bipush 115, 112, 0, 0, 0, .int 115)) (.branch 114 (.leaf (112, .bipush 116, 114, 0, 0, 0, .int 116)) (.leaf (114, .invokestatic 148, 117, 55, 0, 0, .null)))))) (.branch 128 (.branch 124 (.branch 120 (.leaf (117, .invokevirtual 152, 120, 56, 0, 0, .null)) (.branch 123 (.leaf (120, .ifCond .eq 5, 123, 125, 0, 0, .null)) (.leaf (123, .iconst 5, 124, 0, 0, 0, .int 5)))) (.branch 125 (.leaf (124, .ireturn, 125, 0, 0, 0, .int 0)) (.branch 126 (.leaf (125, .aload_n 0, 126, 0, 0, 0, .null)) (.leaf (126, .bipush 117, 128, 0, 0, 0, .int 117))))) (.branch 132 (.branch 130 (.leaf (128, .bipush 112, 130, 0, 0, 0, .int 112)) (.branch 131 (.leaf (130, .iconst 0, 131, 0, 0, 0, .int 0)) (.leaf (131, .iconst 0, 132, 0, 0, 0, .int 0)))) (.branch 135 (.leaf (132, .invokestatic 148, 135, 55, 0, 0, .null)) (.branch 138 (.leaf (135, .invokevirtual 152, 138, 56, 0, 0, .null)) (.leaf (138, .ifCond .eq 6, 141, 144, 0, 0, .null))))))) (.branch 165 (.branch 151 (.branch 145 (.branch 143 (.leaf (141, .bipush 6, 143, 0, 0, 0, .int 6)) (.branch 144 (.leaf (143, .ireturn, 144, 0, 0, 0, .int 0)) (.leaf (144, .aload_n 0, 145, 0, 0, 0, .null)))) (.branch 147 (.leaf (145, .bipush 100, 147, 0, 0, 0, .int 100)) (.branch 149 (.leaf (147, .bipush 111, 149, 0, 0, 0, .int 111)) (.leaf (149, .bipush 119, 151, 0, 0, 0, .int 119))))) (.branch 159 (.branch 153 (.leaf (151, .bipush 110, 153, 0, 0, 0, .int 110)) (.branch 156 (.leaf (153, .invokestatic 148, 156, 55, 0, 0, .null)) (.leaf (156, .invokevirtual 152, 159, 56, 0, 0, .null)))) (.branch 162 (.leaf (159, .ifCond .eq 6, 162, 165, 0, 0, .null)) (.branch 164 (.leaf (162, .bipush 7, 164, 0, 0, 0, .int 7)) (.leaf (164, .ireturn, 165, 0, 0, 0, .int 0)))))) (.branch 175 (.branch 170 (.branch 166 (.leaf (165, .aload_n 0, 166, 0, 0, 0, .null)) (.branch 168 (.leaf (166, .bipush 111, 168, 0, 0, 0, .int 111)) (.leaf (168, .bipush 102, 170, 0, 0, 0, .int 102)))) (.branch 171 (.leaf (170, .iconst 0, 171, 0, 0, 0, .int 0)) (.branch 172 (.leaf (171, .iconst 0, 172, 0, 0, 0, .int 0)) (.leaf (172, .invokestatic 148, 175, 55, 0, 0, .null))))) (.branch 183 (.branch 178 (.leaf (175, .invokevirtual 152, 178, 56, 0, 0, .null)) (.branch 181 (.leaf (178, .ifCond .eq 8, 181, 186, 0, 0, .null)) (.leaf (181, .bipush 8, 183, 0, 0, 0, .int 8)))) (.branch 186 (.leaf (183, .goto 4, 186, 187, 0, 0, .null)) (.branch 187 (.leaf (186, .iconst (-1), 187, 0, 0, 0, .int (-1))) (.leaf (187, .ireturn, 188, 0, 0, 0, .int 0))))))))
def tb_X4_spelt : Lean.RArray am_E := .branch 30 (.branch 13 (.branch 8 (.branch 4 (.branch 3 (.leaf (0, .ldc2_w 142, 3, 0, 0, 0, .long 27)) (.leaf (3, .iload_n 0, 4, 0, 0, 0, .null))) (.branch 5 (.leaf (4, .i2l, 5, 0, 0, 0, .null)) (.leaf (5, .ldc2_w 144, 8, 0, 0, 0, .long 96)))) (.branch 10 (.branch 9 (.leaf (8, .lsub, 9, 0, 0, 0, .null)) (.leaf (9, .lmul, 10, 0, 0, 0, .null))) (.branch 11 (.leaf (10, .iload_n 1, 11, 1, 0, 0, .null)) (.branch 12 (.leaf (11, .i2l, 12, 0, 0, 0, .null)) (.leaf (12, .ladd, 13, 0, 0, 0, .null)))))) (.branch 20 (.branch 17 (.branch 16 (.leaf (13, .ldc2_w 144, 16, 0, 0, 0, .long 96)) (.leaf (16, .lsub, 17, 0, 0, 0, .null))) (.branch 19 (.leaf (17, .lstore 4, 19, 4, 0, 0, .null)) (.leaf (19, .iload_n 2, 20, 2, 0, 0, .null)))) (.branch 26 (.branch 23 (.leaf (20, .ifCond .le 18, 23, 38, 0, 0, .null)) (.leaf (23, .ldc2_w 142, 26, 0, 0, 0, .long 27))) (.branch 28 (.leaf (26, .lload 4, 28, 4, 0, 0, .null)) (.branch 29 (.leaf (28, .lmul, 29, 0, 0, 0, .null)) (.leaf (29, .iload_n 2, 30, 2, 0, 0, .null))))))) (.branch 47 (.branch 36 (.branch 32 (.branch 31 (.leaf (30, .i2l, 31, 0, 0, 0, .null)) (.leaf (31, .ladd, 32, 0, 0, 0, .null))) (.branch 35 (.leaf (32, .ldc2_w 144, 35, 0, 0, 0, .long 96)) (.leaf (35, .lsub, 36, 0, 0, 0, .null)))) (.branch 39 (.branch 38 (.leaf (36, .lstore 4, 38, 4, 0, 0, .null)) (.leaf (38, .iload_n 3, 39, 3, 0, 0, .null))) (.branch 42 (.leaf (39, .ifCond .le 19, 42, 58, 0, 0, .null)) (.branch 45 (.leaf (42, .ldc2_w 142, 45, 0, 0, 0, .long 27)) (.leaf (45, .lload 4, 47, 4, 0, 0, .null)))))) (.branch 51 (.branch 49 (.branch 48 (.leaf (47, .lmul, 48, 0, 0, 0, .null)) (.leaf (48, .iload_n 3, 49, 3, 0, 0, .null))) (.branch 50 (.leaf (49, .i2l, 50, 0, 0, 0, .null)) (.leaf (50, .ladd, 51, 0, 0, 0, .null)))) (.branch 55 (.branch 54 (.leaf (51, .ldc2_w 144, 54, 0, 0, 0, .long 96)) (.leaf (54, .lsub, 55, 0, 0, 0, .null))) (.branch 58 (.leaf (55, .goto 5, 58, 60, 0, 0, .null)) (.branch 60 (.leaf (58, .lload 4, 60, 4, 0, 0, .null)) (.leaf (60, .lreturn, 61, 0, 0, 0, .int 0)))))))
def tb_X4_isKey : Lean.RArray am_E := .branch 12 (.branch 5 (.branch 1 (.leaf (0, .aload_n 0, 1, 0, 0, 0, .null)) (.branch 4 (.leaf (1, .getfield 121, 4, 3, 11, 0, .null)) (.leaf (4, .iconst 2, 5, 0, 0, 0, .int 2)))) (.branch 8 (.leaf (5, .if_icmp .ne 16, 8, 21, 0, 0, .null)) (.branch 9 (.leaf (8, .aload_n 0, 9, 0, 0, 0, .null)) (.leaf (9, .getfield 131, 12, 3, 16, 0, .null))))) (.branch 17 (.branch 13 (.leaf (12, .lload_n 1, 13, 1, 0, 0, .null)) (.branch 14 (.leaf (13, .lcmp, 14, 0, 0, 0, .null)) (.leaf (14, .ifCond .ne 7, 17, 21, 0, 0, .null)))) (.branch 21 (.branch 18 (.leaf (17, .iconst 1, 18, 0, 0, 0, .int 1)) (.leaf (18, .goto 4, 21, 22, 0, 0, .null))) (.branch 22 (.leaf (21, .iconst 0, 22, 0, 0, 0, .int 0)) (.leaf (22, .ireturn, 23, 0, 0, 0, .float 0)))))
def tb_X4_bad : Lean.RArray am_E := .branch 13 (.branch 5 (.branch 1 (.leaf (0, .aload_n 0, 1, 0, 0, 0, .null)) (.branch 2 (.leaf (1, .aload_n 0, 2, 0, 0, 0, .null)) (.leaf (2, .getfield 121, 5, 3, 11, 0, .null)))) (.branch 9 (.branch 6 (.leaf (5, .iconst 1, 6, 0, 0, 0, .int 1)) (.leaf (6, .if_icmp .ne 7, 9, 13, 0, 0, .null))) (.branch 10 (.leaf (9, .iconst 1, 10, 0, 0, 0, .int 1)) (.leaf (10, .goto 4, 13, 14, 0, 0, .null))))) (.branch 19 (.branch 17 (.branch 14 (.leaf (13, .iload_n 1, 14, 1, 0, 0, .null)) (.leaf (14, .putfield 158, 17, 3, 13, 0, .int 0))) (.branch 18 (.leaf (17, .aload_n 0, 18, 0, 0, 0, .null)) (.leaf (18, .aload_n 0, 19, 0, 0, 0, .null)))) (.branch 25 (.branch 22 (.leaf (19, .getfield 118, 22, 3, 10, 0, .null)) (.leaf (22, .putfield 161, 25, 3, 14, 0, .int 0))) (.branch 26 (.leaf (25, .iconst 0, 26, 0, 0, 0, .int 0)) (.leaf (26, .ireturn, 27, 0, 0, 0, .float 0)))))
def tb_X4_fault : Lean.RArray am_E := .branch 5 (.branch 1 (.leaf (0, .aload_n 0, 1, 0, 0, 0, .null)) (.branch 2 (.leaf (1, .iconst 0, 2, 0, 0, 0, .int 0)) (.leaf (2, .putfield 101, 5, 3, 0, 0, .int 0)))) (.branch 6 (.leaf (5, .aload_n 0, 6, 0, 0, 0, .null)) (.branch 9 (.leaf (6, .getfield 158, 9, 3, 13, 0, .null)) (.leaf (9, .ireturn, 10, 0, 0, 0, .int 0))))
def tb_X4_rule : Lean.RArray am_E := .branch 12 (.branch 5 (.branch 1 (.leaf (0, .aload_n 0, 1, 0, 0, 0, .null)) (.branch 2 (.leaf (1, .iconst 0, 2, 0, 0, 0, .int 0)) (.leaf (2, .putfield 101, 5, 3, 0, 0, .int 0)))) (.branch 9 (.branch 6 (.leaf (5, .iload_n 1, 6, 1, 0, 0, .null)) (.leaf (6, .ifCond .lt 9, 9, 15, 0, 0, .null))) (.branch 10 (.leaf (9, .iload_n 1, 10, 1, 0, 0, .null)) (.leaf (10, .bipush 9, 12, 0, 0, 0, .int 9))))) (.branch 20 (.branch 16 (.branch 15 (.leaf (12, .if_icmp .lt 7, 15, 19, 0, 0, .null)) (.leaf (15, .iconst (-1), 16, 0, 0, 0, .int (-1)))) (.branch 19 (.leaf (16, .goto 9, 19, 25, 0, 0, .null)) (.leaf (19, .aload_n 0, 20, 0, 0, 0, .null)))) (.branch 24 (.branch 23 (.leaf (20, .getfield 13, 23, 3, 3, 0, .null)) (.leaf (23, .iload_n 1, 24, 1, 0, 0, .null))) (.branch 25 (.leaf (24, .iaload, 25, 0, 0, 0, .null)) (.leaf (25, .ireturn, 26, 0, 0, 0, .int 0)))))
def tb_X4_umpire : Lean.RArray am_E := .branch 62 (.branch 31 (.branch 15 (.branch 6 (.branch 2 (.branch 1 (.leaf (0, .aload_n 0, 1, 0, 0, 0, .null)) (.leaf (1, .iconst 0, 2, 0, 0, 0, .int 0))) (.branch 5 (.leaf (2, .putfield 101, 5, 3, 0, 0, .int 0)) (.leaf (5, .aload_n 0, 6, 0, 0, 0, .null)))) (.branch 11 (.branch 9 (.leaf (6, .getfield 181, 9, 3, 33, 0, .null)) (.leaf (9, .bipush 20, 11, 0, 0, 0, .int 20))) (.branch 14 (.leaf (11, .if_icmp .eq 44, 14, 55, 0, 0, .null)) (.leaf (14, .iload_n 1, 15, 1, 0, 0, .null))))) (.branch 24 (.branch 18 (.branch 16 (.leaf (15, .iconst 0, 16, 0, 0, 0, .int 0)) (.leaf (16, .bipush 99, 18, 0, 0, 0, .int 99))) (.branch 21 (.leaf (18, .invokestatic 187, 21, 61, 0, 0, .null)) (.leaf (21, .ifCond .eq 34, 24, 55, 0, 0, .null)))) (.branch 26 (.branch 25 (.leaf (24, .iload_n 2, 25, 2, 0, 0, .null)) (.leaf (25, .iconst 0, 26, 0, 0, 0, .int 0))) (.branch 28 (.leaf (26, .bipush 99, 28, 0, 0, 0, .int 99)) (.leaf (28, .invokestatic 187, 31, 61, 0, 0, .null)))))) (.branch 46 (.branch 37 (.branch 35 (.branch 34 (.leaf (31, .ifCond .eq 24, 34, 55, 0, 0, .null)) (.leaf (34, .iload_n 3, 35, 3, 0, 0, .null))) (.branch 36 (.leaf (35, .iconst 1, 36, 0, 0, 0, .int 1)) (.leaf (36, .iconst 4, 37, 0, 0, 0, .int 4)))) (.branch 43 (.branch 40 (.leaf (37, .invokestatic 187, 40, 61, 0, 0, .null)) (.leaf (40, .ifCond .eq 15, 43, 55, 0, 0, .null))) (.branch 45 (.leaf (43, .iload 4, 45, 4, 0, 0, .null)) (.leaf (45, .iconst 0, 46, 0, 0, 0, .int 0))))) (.branch 56 (.branch 52 (.branch 49 (.leaf (46, .sipush 4095, 49, 0, 0, 0, .int 4095)) (.leaf (49, .invokestatic 187, 52, 61, 0, 0, .null))) (.branch 55 (.leaf (52, .ifCond .ne 5, 55, 57, 0, 0, .null)) (.leaf (55, .iconst (-1), 56, 0, 0, 0, .int (-1))))) (.branch 58 (.branch 57 (.leaf (56, .ireturn, 57, 0, 0, 0, .int 0)) (.leaf (57, .aload_n 0, 58, 0, 0, 0, .null))) (.branch 61 (.leaf (58, .getfield 28, 61, 3, 17, 0, .null)) (.leaf (61, .aload_n 0, 62, 0, 0, 0, .null))))))) (.branch 88 (.branch 76 (.branch 68 (.branch 66 (.branch 65 (.leaf (62, .getfield 181, 65, 3, 33, 0, .null)) (.leaf (65, .iload_n 1, 66, 1, 0, 0, .null))) (.branch 67 (.leaf (66, .iastore, 67, 0, 0, 0, .null)) (.leaf (67, .aload_n 0, 68, 0, 0, 0, .null)))) (.branch 72 (.branch 71 (.leaf (68, .getfield 31, 71, 3, 18, 0, .null)) (.leaf (71, .aload_n 0, 72, 0, 0, 0, .null))) (.branch 75 (.leaf (72, .getfield 181, 75, 3, 33, 0, .null)) (.leaf (75, .iload_n 2, 76, 2, 0, 0, .null))))) (.branch 82 (.branch 78 (.branch 77 (.leaf (76, .iastore, 77, 0, 0, 0, .null)) (.leaf (77, .aload_n 0, 78, 0, 0, 0, .null))) (.branch 81 (.leaf (78, .getfield 34, 81, 3, 19, 0, .null)) (.leaf (81, .aload_n 0, 82, 0, 0, 0, .null)))) (.branch 86 (.branch 85 (.leaf (82, .getfield 181, 85, 3, 33, 0, .null)) (.leaf (85, .iload_n 3, 86, 3, 0, 0, .null))) (.branch 87 (.leaf (86, .iastore, 87, 0, 0, 0, .null)) (.leaf (87, .aload_n 0, 88, 0, 0, 0, .null)))))) (.branch 103 (.branch 97 (.branch 92 (.branch 91 (.leaf (88, .getfield 37, 91, 3, 20, 0, .null)) (.leaf (91, .aload_n 0, 92, 0, 0, 0, .null))) (.branch 95 (.leaf (92, .getfield 181, 95, 3, 33, 0, .null)) (.leaf (95, .iload 4, 97, 4, 0, 0, .null)))) (.branch 99 (.branch 98 (.leaf (97, .iastore, 98, 0, 0, 0, .null)) (.leaf (98, .aload_n 0, 99, 0, 0, 0, .null))) (.branch 100 (.leaf (99, .dup, 100, 0, 0, 0, .null)) (.leaf (100, .getfield 181, 103, 3, 33, 0, .null))))) (.branch 109 (.branch 105 (.branch 104 (.leaf (103, .iconst 1, 104, 0, 0, 0, .int 1)) (.leaf (104, .iadd, 105, 0, 0, 0, .null))) (.branch 108 (.leaf (105, .putfield 181, 108, 3, 33, 0, .int 0)) (.leaf (108, .aload_n 0, 109, 0, 0, 0, .null)))) (.branch 113 (.branch 112 (.leaf (109, .getfield 181, 112, 3, 33, 0, .null)) (.leaf (112, .iconst 1, 113, 0, 0, 0, .int 1))) (.branch 114 (.leaf (113, .isub, 114, 0, 0, 0, .null)) (.leaf (114, .ireturn, 115, 0, 0, 0, .int 0)))))))
def tb_X4_isIn : Lean.RArray am_E := .branch 7 (.branch 2 (.branch 1 (.leaf (0, .iload_n 0, 1, 0, 0, 0, .null)) (.leaf (1, .iload_n 1, 2, 1, 0, 0, .null))) (.branch 5 (.leaf (2, .if_icmp .lt 12, 5, 14, 0, 0, .null)) (.branch 6 (.leaf (5, .iload_n 0, 6, 0, 0, 0, .null)) (.leaf (6, .iload_n 2, 7, 2, 0, 0, .null))))) (.branch 11 (.branch 10 (.leaf (7, .if_icmp .gt 7, 10, 14, 0, 0, .null)) (.leaf (10, .iconst 1, 11, 0, 0, 0, .int 1))) (.branch 14 (.leaf (11, .goto 4, 14, 15, 0, 0, .null)) (.branch 15 (.leaf (14, .iconst 0, 15, 0, 0, 0, .int 0)) (.leaf (15, .ireturn, 16, 0, 0, 0, .float 0)))))
def tb_X4_away : Lean.RArray am_E := .branch 43 (.branch 20 (.branch 7 (.branch 2 (.branch 1 (.leaf (0, .aload_n 0, 1, 0, 0, 0, .null)) (.leaf (1, .iconst 0, 2, 0, 0, 0, .int 0))) (.branch 5 (.leaf (2, .putfield 101, 5, 3, 0, 0, .int 0)) (.branch 6 (.leaf (5, .aload_n 0, 6, 0, 0, 0, .null)) (.leaf (6, .iload_n 1, 7, 1, 0, 0, .null))))) (.branch 14 (.branch 10 (.leaf (7, .invokevirtual 191, 10, 63, 0, 0, .null)) (.branch 13 (.leaf (10, .ifCond .eq 48, 13, 58, 0, 0, .null)) (.leaf (13, .iload_n 2, 14, 2, 0, 0, .null)))) (.branch 15 (.leaf (14, .aload_n 0, 15, 0, 0, 0, .null)) (.branch 18 (.leaf (15, .getfield 194, 18, 3, 35, 0, .null)) (.leaf (18, .bipush 99, 20, 0, 0, 0, .int 99)))))) (.branch 31 (.branch 26 (.branch 23 (.leaf (20, .invokestatic 187, 23, 61, 0, 0, .null)) (.leaf (23, .ifCond .eq 35, 26, 58, 0, 0, .null))) (.branch 27 (.leaf (26, .iload_n 2, 27, 2, 0, 0, .null)) (.branch 28 (.leaf (27, .aload_n 0, 28, 0, 0, 0, .null)) (.leaf (28, .getfield 194, 31, 3, 35, 0, .null))))) (.branch 36 (.branch 34 (.leaf (31, .if_icmp .ne 12, 34, 43, 0, 0, .null)) (.branch 35 (.leaf (34, .aload_n 0, 35, 0, 0, 0, .null)) (.leaf (35, .iload_n 1, 36, 1, 0, 0, .null)))) (.branch 39 (.leaf (36, .invokevirtual 197, 39, 64, 0, 0, .null)) (.branch 40 (.leaf (39, .iconst (-1), 40, 0, 0, 0, .int (-1))) (.leaf (40, .if_icmp .ne 18, 43, 58, 0, 0, .null))))))) (.branch 59 (.branch 51 (.branch 47 (.branch 44 (.leaf (43, .aload_n 0, 44, 0, 0, 0, .null)) (.leaf (44, .getfield 55, 47, 3, 26, 0, .null))) (.branch 49 (.leaf (47, .bipush 100, 49, 0, 0, 0, .int 100)) (.branch 50 (.leaf (49, .iload_n 1, 50, 1, 0, 0, .null)) (.leaf (50, .imul, 51, 0, 0, 0, .null))))) (.branch 54 (.branch 52 (.leaf (51, .iload_n 2, 52, 2, 0, 0, .null)) (.branch 53 (.leaf (52, .iadd, 53, 0, 0, 0, .null)) (.leaf (53, .baload, 54, 0, 0, 0, .null)))) (.branch 55 (.leaf (54, .iload_n 3, 55, 3, 0, 0, .null)) (.branch 58 (.leaf (55, .if_icmp .ne 5, 58, 60, 0, 0, .null)) (.leaf (58, .iconst 0, 59, 0, 0, 0, .int 0)))))) (.branch 68 (.branch 64 (.branch 60 (.leaf (59, .ireturn, 60, 0, 0, 0, .float 0)) (.branch 61 (.leaf (60, .aload_n 0, 61, 0, 0, 0, .null)) (.leaf (61, .getfield 55, 64, 3, 26, 0, .null)))) (.branch 66 (.leaf (64, .bipush 100, 66, 0, 0, 0, .int 100)) (.branch 67 (.leaf (66, .iload_n 1, 67, 1, 0, 0, .null)) (.leaf (67, .imul, 68, 0, 0, 0, .null))))) (.branch 71 (.branch 69 (.leaf (68, .iload_n 2, 69, 2, 0, 0, .null)) (.branch 70 (.leaf (69, .iadd, 70, 0, 0, 0, .null)) (.leaf (70, .iload_n 3, 71, 3, 0, 0, .null)))) (.branch 72 (.leaf (71, .bastore, 72, 0, 0, 0, .null)) (.branch 73 (.leaf (72, .iconst 1, 73, 0, 0, 0, .int 1)) (.leaf (73, .ireturn, 74, 0, 0, 0, .float 0)))))))
def tb_X4_isUmpire : Lean.RArray am_E := .branch 9 (.branch 4 (.branch 1 (.leaf (0, .iload_n 1, 1, 1, 0, 0, .null)) (.leaf (1, .ifCond .lt 15, 4, 16, 0, 0, .null))) (.branch 5 (.leaf (4, .iload_n 1, 5, 1, 0, 0, .null)) (.branch 6 (.leaf (5, .aload_n 0, 6, 0, 0, 0, .null)) (.leaf (6, .getfield 181, 9, 3, 33, 0, .null))))) (.branch 13 (.branch 12 (.leaf (9, .if_icmp .ge 7, 12, 16, 0, 0, .null)) (.leaf (12, .iconst 1, 13, 0, 0, 0, .int 1))) (.branch 16 (.leaf (13, .goto 4, 16, 17, 0, 0, .null)) (.branch 17 (.leaf (16, .iconst 0, 17, 0, 0, 0, .int 0)) (.leaf (17, .ireturn, 18, 0, 0, 0, .float 0)))))
def tb_X4_seatOf : Lean.RArray am_E := .branch 16 (.branch 5 (.branch 2 (.branch 1 (.leaf (0, .iconst 0, 1, 0, 0, 0, .int 0)) (.leaf (1, .istore_n 2, 2, 2, 0, 0, .null))) (.branch 3 (.leaf (2, .iload_n 2, 3, 2, 0, 0, .null)) (.branch 4 (.leaf (3, .iconst 2, 4, 0, 0, 0, .int 2)) (.leaf (4, .aload_n 0, 5, 0, 0, 0, .null))))) (.branch 9 (.branch 8 (.leaf (5, .getfield 184, 8, 3, 34, 0, .null)) (.leaf (8, .imul, 9, 0, 0, 0, .null))) (.branch 12 (.leaf (9, .if_icmp .ge 21, 12, 30, 0, 0, .null)) (.branch 13 (.leaf (12, .aload_n 0, 13, 0, 0, 0, .null)) (.leaf (13, .getfield 71, 16, 3, 31, 0, .null)))))) (.branch 23 (.branch 18 (.branch 17 (.leaf (16, .iload_n 2, 17, 2, 0, 0, .null)) (.leaf (17, .iaload, 18, 0, 0, 0, .null))) (.branch 19 (.leaf (18, .iload_n 1, 19, 1, 0, 0, .null)) (.branch 22 (.leaf (19, .if_icmp .ne 5, 22, 24, 0, 0, .null)) (.leaf (22, .iload_n 2, 23, 2, 0, 0, .null))))) (.branch 27 (.branch 24 (.leaf (23, .ireturn, 24, 0, 0, 0, .int 0)) (.leaf (24, .iinc 2 1, 27, 2, 0, 0, .int 1))) (.branch 30 (.leaf (27, .goto (-25), 30, 2, 0, 0, .null)) (.branch 31 (.leaf (30, .iconst (-1), 31, 0, 0, 0, .int (-1))) (.leaf (31, .ireturn, 32, 0, 0, 0, .int 0))))))
def tb_X4_game : Lean.RArray am_E := .branch 97 (.branch 49 (.branch 24 (.branch 11 (.branch 5 (.branch 1 (.leaf (0, .aload_n 0, 1, 0, 0, 0, .null)) (.branch 2 (.leaf (1, .iconst 0, 2, 0, 0, 0, .int 0)) (.leaf (2, .putfield 101, 5, 3, 0, 0, .int 0)))) (.branch 6 (.leaf (5, .aload_n 0, 6, 0, 0, 0, .null)) (.branch 9 (.leaf (6, .getfield 184, 9, 3, 34, 0, .null)) (.leaf (9, .bipush 8, 11, 0, 0, 0, .int 8))))) (.branch 16 (.branch 14 (.leaf (11, .if_icmp .eq 60, 14, 71, 0, 0, .null)) (.branch 15 (.leaf (14, .iload_n 1, 15, 1, 0, 0, .null)) (.leaf (15, .iconst 0, 16, 0, 0, 0, .int 0)))) (.branch 18 (.leaf (16, .bipush 99, 18, 0, 0, 0, .int 99)) (.branch 21 (.leaf (18, .invokestatic 187, 21, 61, 0, 0, .null)) (.leaf (21, .ifCond .eq 50, 24, 71, 0, 0, .null)))))) (.branch 35 (.branch 28 (.branch 25 (.leaf (24, .iload_n 2, 25, 2, 0, 0, .null)) (.branch 26 (.leaf (25, .iconst 0, 26, 0, 0, 0, .int 0)) (.leaf (26, .bipush 99, 28, 0, 0, 0, .int 99)))) (.branch 31 (.leaf (28, .invokestatic 187, 31, 61, 0, 0, .null)) (.branch 34 (.leaf (31, .ifCond .eq 40, 34, 71, 0, 0, .null)) (.leaf (34, .iload_n 3, 35, 3, 0, 0, .null))))) (.branch 41 (.branch 36 (.leaf (35, .iconst 0, 36, 0, 0, 0, .int 0)) (.branch 38 (.leaf (36, .bipush 11, 38, 0, 0, 0, .int 11)) (.leaf (38, .invokestatic 187, 41, 61, 0, 0, .null)))) (.branch 46 (.branch 44 (.leaf (41, .ifCond .eq 30, 44, 71, 0, 0, .null)) (.leaf (44, .iload 4, 46, 4, 0, 0, .null))) (.branch 47 (.leaf (46, .iconst 0, 47, 0, 0, 0, .int 0)) (.leaf (47, .bipush 11, 49, 0, 0, 0, .int 11))))))) (.branch 74 (.branch 63 (.branch 56 (.branch 52 (.leaf (49, .invokestatic 187, 52, 61, 0, 0, .null)) (.branch 55 (.leaf (52, .ifCond .eq 19, 55, 71, 0, 0, .null)) (.leaf (55, .iload_n 3, 56, 3, 0, 0, .null)))) (.branch 58 (.leaf (56, .iload 4, 58, 4, 0, 0, .null)) (.branch 61 (.leaf (58, .if_icmp .eq 13, 61, 71, 0, 0, .null)) (.leaf (61, .iload 5, 63, 5, 0, 0, .null))))) (.branch 68 (.branch 64 (.leaf (63, .iconst 1, 64, 0, 0, 0, .int 1)) (.branch 65 (.leaf (64, .iconst 4, 65, 0, 0, 0, .int 4)) (.leaf (65, .invokestatic 187, 68, 61, 0, 0, .null)))) (.branch 72 (.branch 71 (.leaf (68, .ifCond .ne 5, 71, 73, 0, 0, .null)) (.leaf (71, .iconst (-1), 72, 0, 0, 0, .int (-1)))) (.branch 73 (.leaf (72, .ireturn, 73, 0, 0, 0, .int 0)) (.leaf (73, .aload_n 0, 74, 0, 0, 0, .null)))))) (.branch 84 (.branch 81 (.branch 77 (.leaf (74, .getfield 59, 77, 3, 27, 0, .null)) (.branch 78 (.leaf (77, .aload_n 0, 78, 0, 0, 0, .null)) (.leaf (78, .getfield 184, 81, 3, 34, 0, .null)))) (.branch 82 (.leaf (81, .iload_n 1, 82, 1, 0, 0, .null)) (.branch 83 (.leaf (82, .iastore, 83, 0, 0, 0, .null)) (.leaf (83, .aload_n 0, 84, 0, 0, 0, .null))))) (.branch 91 (.branch 87 (.leaf (84, .getfield 62, 87, 3, 28, 0, .null)) (.branch 88 (.leaf (87, .aload_n 0, 88, 0, 0, 0, .null)) (.leaf (88, .getfield 184, 91, 3, 34, 0, .null)))) (.branch 93 (.branch 92 (.leaf (91, .iload_n 2, 92, 2, 0, 0, .null)) (.leaf (92, .iastore, 93, 0, 0, 0, .null))) (.branch 94 (.leaf (93, .aload_n 0, 94, 0, 0, 0, .null)) (.leaf (94, .getfield 65, 97, 3, 29, 0, .null)))))))) (.branch 137 (.branch 115 (.branch 105 (.branch 102 (.branch 98 (.leaf (97, .aload_n 0, 98, 0, 0, 0, .null)) (.branch 101 (.leaf (98, .getfield 184, 101, 3, 34, 0, .null)) (.leaf (101, .iconst 1, 102, 0, 0, 0, .int 1)))) (.branch 103 (.leaf (102, .iload_n 3, 103, 3, 0, 0, .null)) (.branch 104 (.leaf (103, .ishl, 104, 0, 0, 0, .null)) (.leaf (104, .iconst 1, 105, 0, 0, 0, .int 1))))) (.branch 109 (.branch 107 (.leaf (105, .iload 4, 107, 4, 0, 0, .null)) (.branch 108 (.leaf (107, .ishl, 108, 0, 0, 0, .null)) (.leaf (108, .ior, 109, 0, 0, 0, .null)))) (.branch 111 (.branch 110 (.leaf (109, .iastore, 110, 0, 0, 0, .null)) (.leaf (110, .aload_n 0, 111, 0, 0, 0, .null))) (.branch 114 (.leaf (111, .getfield 68, 114, 3, 30, 0, .null)) (.leaf (114, .aload_n 0, 115, 0, 0, 0, .null)))))) (.branch 126 (.branch 121 (.branch 118 (.leaf (115, .getfield 184, 118, 3, 34, 0, .null)) (.branch 120 (.leaf (118, .iload 5, 120, 5, 0, 0, .null)) (.leaf (120, .iastore, 121, 0, 0, 0, .null)))) (.branch 122 (.leaf (121, .iconst 2, 122, 0, 0, 0, .int 2)) (.branch 123 (.leaf (122, .aload_n 0, 123, 0, 0, 0, .null)) (.leaf (123, .getfield 184, 126, 3, 34, 0, .null))))) (.branch 131 (.branch 127 (.leaf (126, .imul, 127, 0, 0, 0, .null)) (.branch 129 (.leaf (127, .istore 6, 129, 6, 0, 0, .null)) (.leaf (129, .iload 6, 131, 6, 0, 0, .null)))) (.branch 133 (.branch 132 (.leaf (131, .iconst 2, 132, 0, 0, 0, .int 2)) (.leaf (132, .aload_n 0, 133, 0, 0, 0, .null))) (.branch 136 (.leaf (133, .getfield 184, 136, 3, 34, 0, .null)) (.leaf (136, .imul, 137, 0, 0, 0, .null))))))) (.branch 158 (.branch 148 (.branch 142 (.branch 138 (.leaf (137, .iconst 2, 138, 0, 0, 0, .int 2)) (.branch 139 (.leaf (138, .iadd, 139, 0, 0, 0, .null)) (.leaf (139, .if_icmp .ge 25, 142, 164, 0, 0, .null)))) (.branch 143 (.leaf (142, .aload_n 0, 143, 0, 0, 0, .null)) (.branch 146 (.leaf (143, .getfield 71, 146, 3, 31, 0, .null)) (.leaf (146, .iload 6, 148, 6, 0, 0, .null))))) (.branch 151 (.branch 149 (.leaf (148, .iconst (-1), 149, 0, 0, 0, .int (-1))) (.branch 150 (.leaf (149, .iastore, 150, 0, 0, 0, .null)) (.leaf (150, .aload_n 0, 151, 0, 0, 0, .null)))) (.branch 156 (.branch 154 (.leaf (151, .getfield 74, 154, 3, 32, 0, .null)) (.leaf (154, .iload 6, 156, 6, 0, 0, .null))) (.branch 157 (.leaf (156, .iconst 0, 157, 0, 0, 0, .int 0)) (.leaf (157, .iastore, 158, 0, 0, 0, .null)))))) (.branch 170 (.branch 165 (.branch 161 (.leaf (158, .iinc 6 1, 161, 6, 0, 0, .int 1)) (.branch 164 (.leaf (161, .goto (-32), 164, 129, 0, 0, .null)) (.leaf (164, .aload_n 0, 165, 0, 0, 0, .null)))) (.branch 166 (.leaf (165, .dup, 166, 0, 0, 0, .null)) (.branch 169 (.leaf (166, .getfield 184, 169, 3, 34, 0, .null)) (.leaf (169, .iconst 1, 170, 0, 0, 0, .int 1))))) (.branch 175 (.branch 171 (.leaf (170, .iadd, 171, 0, 0, 0, .null)) (.branch 174 (.leaf (171, .putfield 184, 174, 3, 34, 0, .int 0)) (.leaf (174, .aload_n 0, 175, 0, 0, 0, .null)))) (.branch 179 (.branch 178 (.leaf (175, .getfield 184, 178, 3, 34, 0, .null)) (.leaf (178, .iconst 1, 179, 0, 0, 0, .int 1))) (.branch 180 (.leaf (179, .isub, 180, 0, 0, 0, .null)) (.leaf (180, .ireturn, 181, 0, 0, 0, .int 0))))))))
def tb_X4_may : Lean.RArray am_E := .branch 18 (.branch 7 (.branch 2 (.branch 1 (.leaf (0, .aload_n 0, 1, 0, 0, 0, .null)) (.leaf (1, .iconst 0, 2, 0, 0, 0, .int 0))) (.branch 5 (.leaf (2, .putfield 101, 5, 3, 0, 0, .int 0)) (.branch 6 (.leaf (5, .aload_n 0, 6, 0, 0, 0, .null)) (.leaf (6, .iload_n 1, 7, 1, 0, 0, .null))))) (.branch 13 (.branch 10 (.leaf (7, .invokevirtual 191, 10, 63, 0, 0, .null)) (.leaf (10, .ifCond .eq 24, 13, 34, 0, 0, .null))) (.branch 14 (.leaf (13, .aload_n 0, 14, 0, 0, 0, .null)) (.branch 15 (.leaf (14, .iload_n 2, 15, 2, 0, 0, .null)) (.leaf (15, .invokevirtual 207, 18, 67, 0, 0, .null)))))) (.branch 27 (.branch 22 (.branch 21 (.leaf (18, .ifCond .eq 16, 21, 34, 0, 0, .null)) (.leaf (21, .aload_n 0, 22, 0, 0, 0, .null))) (.branch 23 (.leaf (22, .iload_n 1, 23, 1, 0, 0, .null)) (.branch 24 (.leaf (23, .iload_n 2, 24, 2, 0, 0, .null)) (.leaf (24, .invokevirtual 210, 27, 68, 0, 0, .null))))) (.branch 31 (.branch 30 (.leaf (27, .ifCond .eq 7, 30, 34, 0, 0, .null)) (.leaf (30, .iconst 1, 31, 0, 0, 0, .int 1))) (.branch 34 (.leaf (31, .goto 4, 34, 35, 0, 0, .null)) (.branch 35 (.leaf (34, .iconst 0, 35, 0, 0, 0, .int 0)) (.leaf (35, .ireturn, 36, 0, 0, 0, .float 0))))))
def tb_X4_isSeat : Lean.RArray am_E := .branch 10 (.branch 5 (.branch 1 (.leaf (0, .iload_n 1, 1, 1, 0, 0, .null)) (.branch 4 (.leaf (1, .ifCond .lt 17, 4, 18, 0, 0, .null)) (.leaf (4, .iload_n 1, 5, 1, 0, 0, .null)))) (.branch 6 (.leaf (5, .iconst 2, 6, 0, 0, 0, .int 2)) (.branch 7 (.leaf (6, .aload_n 0, 7, 0, 0, 0, .null)) (.leaf (7, .getfield 184, 10, 3, 34, 0, .null))))) (.branch 15 (.branch 11 (.leaf (10, .imul, 11, 0, 0, 0, .null)) (.branch 14 (.leaf (11, .if_icmp .ge 7, 14, 18, 0, 0, .null)) (.leaf (14, .iconst 1, 15, 0, 0, 0, .int 1)))) (.branch 18 (.leaf (15, .goto 4, 18, 19, 0, 0, .null)) (.branch 19 (.leaf (18, .iconst 0, 19, 0, 0, 0, .int 0)) (.leaf (19, .ireturn, 20, 0, 0, 0, .float 0)))))
def tb_X4_mayHave : Lean.RArray am_E := .branch 93 (.branch 44 (.branch 21 (.branch 10 (.branch 3 (.branch 1 (.leaf (0, .iload_n 2, 1, 2, 0, 0, .null)) (.branch 2 (.leaf (1, .iconst 2, 2, 0, 0, 0, .int 2)) (.leaf (2, .idiv, 3, 0, 0, 0, .null)))) (.branch 5 (.branch 4 (.leaf (3, .istore_n 3, 4, 3, 0, 0, .null)) (.leaf (4, .aload_n 0, 5, 0, 0, 0, .null))) (.branch 8 (.leaf (5, .getfield 55, 8, 3, 26, 0, .null)) (.leaf (8, .bipush 100, 10, 0, 0, 0, .int 100))))) (.branch 13 (.branch 11 (.leaf (10, .iload_n 1, 11, 1, 0, 0, .null)) (.branch 12 (.leaf (11, .imul, 12, 0, 0, 0, .null)) (.leaf (12, .aload_n 0, 13, 0, 0, 0, .null)))) (.branch 17 (.branch 16 (.leaf (13, .getfield 194, 16, 3, 35, 0, .null)) (.leaf (16, .iadd, 17, 0, 0, 0, .null))) (.branch 18 (.leaf (17, .baload, 18, 0, 0, 0, .null)) (.leaf (18, .ifCond .ne 53, 21, 71, 0, 0, .null)))))) (.branch 32 (.branch 26 (.branch 22 (.leaf (21, .aload_n 0, 22, 0, 0, 0, .null)) (.branch 25 (.leaf (22, .getfield 37, 25, 3, 20, 0, .null)) (.leaf (25, .iload_n 1, 26, 1, 0, 0, .null)))) (.branch 28 (.branch 27 (.leaf (26, .iaload, 27, 0, 0, 0, .null)) (.leaf (27, .aload_n 0, 28, 0, 0, 0, .null))) (.branch 31 (.leaf (28, .getfield 65, 31, 3, 29, 0, .null)) (.leaf (31, .iload_n 3, 32, 3, 0, 0, .null))))) (.branch 38 (.branch 34 (.branch 33 (.leaf (32, .iaload, 33, 0, 0, 0, .null)) (.leaf (33, .iand, 34, 0, 0, 0, .null))) (.branch 37 (.leaf (34, .ifCond .ne 37, 37, 71, 0, 0, .null)) (.leaf (37, .aload_n 0, 38, 0, 0, 0, .null)))) (.branch 42 (.branch 41 (.leaf (38, .getfield 34, 41, 3, 19, 0, .null)) (.leaf (41, .iload_n 1, 42, 1, 0, 0, .null))) (.branch 43 (.leaf (42, .iaload, 43, 0, 0, 0, .null)) (.leaf (43, .aload_n 0, 44, 0, 0, 0, .null))))))) (.branch 67 (.branch 53 (.branch 49 (.branch 47 (.leaf (44, .getfield 68, 47, 3, 30, 0, .null)) (.branch 48 (.leaf (47, .iload_n 3, 48, 3, 0, 0, .null)) (.leaf (48, .iaload, 49, 0, 0, 0, .null)))) (.branch 51 (.branch 50 (.leaf (49, .iload_n 2, 50, 2, 0, 0, .null)) (.leaf (50, .iconst 2, 51, 0, 0, 0, .int 2))) (.branch 52 (.leaf (51, .irem, 52, 0, 0, 0, .null)) (.leaf (52, .iadd, 53, 0, 0, 0, .null))))) (.branch 59 (.branch 57 (.branch 56 (.leaf (53, .if_icmp .gt 18, 56, 71, 0, 0, .null)) (.leaf (56, .aload_n 0, 57, 0, 0, 0, .null))) (.branch 58 (.leaf (57, .iload_n 1, 58, 1, 0, 0, .null)) (.leaf (58, .iload_n 2, 59, 2, 0, 0, .null)))) (.branch 63 (.branch 62 (.leaf (59, .invokevirtual 204, 62, 69, 0, 0, .null)) (.leaf (62, .aload_n 0, 63, 0, 0, 0, .null))) (.branch 66 (.leaf (63, .getfield 13, 66, 3, 3, 0, .null)) (.leaf (66, .iconst 2, 67, 0, 0, 0, .int 2)))))) (.branch 78 (.branch 72 (.branch 68 (.leaf (67, .iaload, 68, 0, 0, 0, .null)) (.branch 71 (.leaf (68, .if_icmp .le 5, 71, 73, 0, 0, .null)) (.leaf (71, .iconst 0, 72, 0, 0, 0, .int 0)))) (.branch 74 (.branch 73 (.leaf (72, .ireturn, 73, 0, 0, 0, .float 0)) (.leaf (73, .iconst 0, 74, 0, 0, 0, .int 0))) (.branch 76 (.leaf (74, .istore 4, 76, 4, 0, 0, .null)) (.leaf (76, .iload 4, 78, 4, 0, 0, .null))))) (.branch 84 (.branch 82 (.branch 79 (.leaf (78, .aload_n 0, 79, 0, 0, 0, .null)) (.leaf (79, .getfield 13, 82, 3, 3, 0, .null))) (.branch 83 (.leaf (82, .iconst 0, 83, 0, 0, 0, .int 0)) (.leaf (83, .iaload, 84, 0, 0, 0, .null)))) (.branch 89 (.branch 87 (.leaf (84, .if_icmp .ge 40, 87, 124, 0, 0, .null)) (.leaf (87, .iload 4, 89, 4, 0, 0, .null))) (.branch 90 (.leaf (89, .aload_n 0, 90, 0, 0, 0, .null)) (.leaf (90, .getfield 194, 93, 3, 35, 0, .null)))))))) (.branch 146 (.branch 118 (.branch 105 (.branch 100 (.branch 96 (.leaf (93, .if_icmp .ge 31, 96, 124, 0, 0, .null)) (.branch 97 (.leaf (96, .aload_n 0, 97, 0, 0, 0, .null)) (.leaf (97, .getfield 52, 100, 3, 25, 0, .null)))) (.branch 103 (.branch 102 (.leaf (100, .bipush 100, 102, 0, 0, 0, .int 100)) (.leaf (102, .iload_n 1, 103, 1, 0, 0, .null))) (.branch 104 (.leaf (103, .imul, 104, 0, 0, 0, .null)) (.leaf (104, .aload_n 0, 105, 0, 0, 0, .null))))) (.branch 111 (.branch 109 (.branch 108 (.leaf (105, .getfield 194, 108, 3, 35, 0, .null)) (.leaf (108, .iadd, 109, 0, 0, 0, .null))) (.branch 110 (.leaf (109, .iconst 1, 110, 0, 0, 0, .int 1)) (.leaf (110, .isub, 111, 0, 0, 0, .null)))) (.branch 114 (.branch 113 (.leaf (111, .iload 4, 113, 4, 0, 0, .null)) (.leaf (113, .isub, 114, 0, 0, 0, .null))) (.branch 115 (.leaf (114, .iaload, 115, 0, 0, 0, .null)) (.leaf (115, .ifCond .eq 9, 118, 124, 0, 0, .null)))))) (.branch 132 (.branch 126 (.branch 121 (.leaf (118, .iinc 4 1, 121, 4, 0, 0, .int 1)) (.branch 124 (.leaf (121, .goto (-45), 124, 76, 0, 0, .null)) (.leaf (124, .iload 4, 126, 4, 0, 0, .null)))) (.branch 130 (.branch 127 (.leaf (126, .aload_n 0, 127, 0, 0, 0, .null)) (.leaf (127, .getfield 13, 130, 3, 3, 0, .null))) (.branch 131 (.leaf (130, .iconst 0, 131, 0, 0, 0, .int 0)) (.leaf (131, .iaload, 132, 0, 0, 0, .null))))) (.branch 138 (.branch 136 (.branch 135 (.leaf (132, .if_icmp .ne 5, 135, 137, 0, 0, .null)) (.leaf (135, .iconst 0, 136, 0, 0, 0, .int 0))) (.branch 137 (.leaf (136, .ireturn, 137, 0, 0, 0, .float 0)) (.leaf (137, .iconst 1, 138, 0, 0, 0, .int 1)))) (.branch 142 (.branch 140 (.leaf (138, .istore 5, 140, 5, 0, 0, .null)) (.leaf (140, .iload 5, 142, 5, 0, 0, .null))) (.branch 143 (.leaf (142, .aload_n 0, 143, 0, 0, 0, .null)) (.leaf (143, .getfield 13, 146, 3, 3, 0, .null))))))) (.branch 173 (.branch 160 (.branch 151 (.branch 147 (.leaf (146, .iconst 1, 147, 0, 0, 0, .int 1)) (.branch 148 (.leaf (147, .iaload, 148, 0, 0, 0, .null)) (.leaf (148, .if_icmp .gt 47, 151, 195, 0, 0, .null)))) (.branch 154 (.branch 153 (.leaf (151, .iload 5, 153, 5, 0, 0, .null)) (.leaf (153, .aload_n 0, 154, 0, 0, 0, .null))) (.branch 157 (.leaf (154, .getfield 194, 157, 3, 35, 0, .null)) (.leaf (157, .if_icmp .gt 38, 160, 195, 0, 0, .null))))) (.branch 167 (.branch 164 (.branch 161 (.leaf (160, .aload_n 0, 161, 0, 0, 0, .null)) (.leaf (161, .getfield 52, 164, 3, 25, 0, .null))) (.branch 166 (.leaf (164, .bipush 100, 166, 0, 0, 0, .int 100)) (.leaf (166, .iload_n 1, 167, 1, 0, 0, .null)))) (.branch 169 (.branch 168 (.leaf (167, .imul, 168, 0, 0, 0, .null)) (.leaf (168, .aload_n 0, 169, 0, 0, 0, .null))) (.branch 172 (.leaf (169, .getfield 194, 172, 3, 35, 0, .null)) (.leaf (172, .iadd, 173, 0, 0, 0, .null)))))) (.branch 183 (.branch 177 (.branch 175 (.leaf (173, .iload 5, 175, 5, 0, 0, .null)) (.branch 176 (.leaf (175, .isub, 176, 0, 0, 0, .null)) (.leaf (176, .iaload, 177, 0, 0, 0, .null)))) (.branch 181 (.branch 178 (.leaf (177, .aload_n 0, 178, 0, 0, 0, .null)) (.leaf (178, .getfield 65, 181, 3, 29, 0, .null))) (.branch 182 (.leaf (181, .iload_n 3, 182, 3, 0, 0, .null)) (.leaf (182, .iaload, 183, 0, 0, 0, .null))))) (.branch 189 (.branch 187 (.branch 184 (.leaf (183, .iand, 184, 0, 0, 0, .null)) (.leaf (184, .ifCond .eq 5, 187, 189, 0, 0, .null))) (.branch 188 (.leaf (187, .iconst 0, 188, 0, 0, 0, .int 0)) (.leaf (188, .ireturn, 189, 0, 0, 0, .float 0)))) (.branch 195 (.branch 192 (.leaf (189, .iinc 5 1, 192, 5, 0, 0, .int 1)) (.leaf (192, .goto (-52), 195, 140, 0, 0, .null))) (.branch 196 (.leaf (195, .iconst 1, 196, 0, 0, 0, .int 1)) (.leaf (196, .ireturn, 197, 0, 0, 0, .float 0))))))))
def tb_X4_miles : Lean.RArray am_E := .branch 18 (.branch 10 (.branch 5 (.branch 1 (.leaf (0, .aload_n 0, 1, 0, 0, 0, .null)) (.branch 4 (.leaf (1, .getfield 28, 4, 3, 17, 0, .null)) (.leaf (4, .iload_n 1, 5, 1, 0, 0, .null)))) (.branch 6 (.leaf (5, .iaload, 6, 0, 0, 0, .null)) (.branch 7 (.leaf (6, .aload_n 0, 7, 0, 0, 0, .null)) (.leaf (7, .getfield 59, 10, 3, 27, 0, .null))))) (.branch 13 (.branch 11 (.leaf (10, .iload_n 2, 11, 2, 0, 0, .null)) (.branch 12 (.leaf (11, .iconst 2, 12, 0, 0, 0, .int 2)) (.leaf (12, .idiv, 13, 0, 0, 0, .null)))) (.branch 14 (.leaf (13, .iaload, 14, 0, 0, 0, .null)) (.branch 17 (.leaf (14, .invokestatic 200, 17, 70, 0, 0, .null)) (.leaf (17, .aload_n 0, 18, 0, 0, 0, .null)))))) (.branch 28 (.branch 23 (.branch 21 (.leaf (18, .getfield 31, 21, 3, 18, 0, .null)) (.branch 22 (.leaf (21, .iload_n 1, 22, 1, 0, 0, .null)) (.leaf (22, .iaload, 23, 0, 0, 0, .null)))) (.branch 24 (.leaf (23, .aload_n 0, 24, 0, 0, 0, .null)) (.branch 27 (.leaf (24, .getfield 62, 27, 3, 28, 0, .null)) (.leaf (27, .iload_n 2, 28, 2, 0, 0, .null))))) (.branch 31 (.branch 29 (.leaf (28, .iconst 2, 29, 0, 0, 0, .int 2)) (.branch 30 (.leaf (29, .idiv, 30, 0, 0, 0, .null)) (.leaf (30, .iaload, 31, 0, 0, 0, .null)))) (.branch 34 (.leaf (31, .invokestatic 200, 34, 70, 0, 0, .null)) (.branch 35 (.leaf (34, .iadd, 35, 0, 0, 0, .null)) (.leaf (35, .ireturn, 36, 0, 0, 0, .int 0))))))
def tb_X4_less : Lean.RArray am_E := .branch 7 (.branch 2 (.branch 1 (.leaf (0, .iload_n 0, 1, 0, 0, 0, .null)) (.leaf (1, .iload_n 1, 2, 1, 0, 0, .null))) (.branch 5 (.leaf (2, .if_icmp .le 9, 5, 11, 0, 0, .null)) (.branch 6 (.leaf (5, .iload_n 0, 6, 0, 0, 0, .null)) (.leaf (6, .iload_n 1, 7, 1, 0, 0, .null))))) (.branch 12 (.branch 8 (.leaf (7, .isub, 8, 0, 0, 0, .null)) (.branch 11 (.leaf (8, .goto 6, 11, 14, 0, 0, .null)) (.leaf (11, .iload_n 1, 12, 1, 0, 0, .null)))) (.branch 13 (.leaf (12, .iload_n 0, 13, 0, 0, 0, .null)) (.branch 14 (.leaf (13, .isub, 14, 0, 0, 0, .null)) (.leaf (14, .ireturn, 15, 0, 0, 0, .int 0)))))
def tb_X4_cost : Lean.RArray am_E := .branch 15 (.branch 6 (.branch 2 (.branch 1 (.leaf (0, .aload_n 0, 1, 0, 0, 0, .null)) (.leaf (1, .iconst 0, 2, 0, 0, 0, .int 0))) (.branch 5 (.leaf (2, .putfield 101, 5, 3, 0, 0, .int 0)) (.leaf (5, .aload_n 0, 6, 0, 0, 0, .null)))) (.branch 10 (.branch 7 (.leaf (6, .iload_n 1, 7, 1, 0, 0, .null)) (.leaf (7, .invokevirtual 191, 10, 63, 0, 0, .null))) (.branch 13 (.leaf (10, .ifCond .eq 20, 13, 30, 0, 0, .null)) (.branch 14 (.leaf (13, .aload_n 0, 14, 0, 0, 0, .null)) (.leaf (14, .iload_n 2, 15, 2, 0, 0, .null)))))) (.branch 23 (.branch 21 (.branch 18 (.leaf (15, .invokevirtual 207, 18, 67, 0, 0, .null)) (.leaf (18, .ifCond .eq 12, 21, 30, 0, 0, .null))) (.branch 22 (.leaf (21, .aload_n 0, 22, 0, 0, 0, .null)) (.leaf (22, .iload_n 1, 23, 1, 0, 0, .null)))) (.branch 27 (.branch 24 (.leaf (23, .iload_n 2, 24, 2, 0, 0, .null)) (.leaf (24, .invokevirtual 214, 27, 72, 0, 0, .null))) (.branch 30 (.leaf (27, .goto 4, 30, 31, 0, 0, .null)) (.branch 31 (.leaf (30, .iconst (-1), 31, 0, 0, 0, .int (-1))) (.leaf (31, .ireturn, 32, 0, 0, 0, .int 0))))))
def tb_X4_costOf : Lean.RArray am_E := .branch 11 (.branch 3 (.branch 1 (.leaf (0, .aload_n 0, 1, 0, 0, 0, .null)) (.branch 2 (.leaf (1, .iload_n 1, 2, 1, 0, 0, .null)) (.leaf (2, .iload_n 2, 3, 2, 0, 0, .null)))) (.branch 7 (.branch 6 (.leaf (3, .invokevirtual 204, 6, 69, 0, 0, .null)) (.leaf (6, .aload_n 0, 7, 0, 0, 0, .null))) (.branch 10 (.leaf (7, .getfield 13, 10, 3, 3, 0, .null)) (.leaf (10, .iconst 3, 11, 0, 0, 0, .int 3))))) (.branch 17 (.branch 13 (.branch 12 (.leaf (11, .iaload, 12, 0, 0, 0, .null)) (.leaf (12, .aload_n 0, 13, 0, 0, 0, .null))) (.branch 16 (.leaf (13, .getfield 49, 16, 3, 24, 0, .null)) (.leaf (16, .iload_n 1, 17, 1, 0, 0, .null)))) (.branch 19 (.branch 18 (.leaf (17, .iaload, 18, 0, 0, 0, .null)) (.leaf (18, .imul, 19, 0, 0, 0, .null))) (.branch 20 (.leaf (19, .iadd, 20, 0, 0, 0, .null)) (.leaf (20, .ireturn, 21, 0, 0, 0, .int 0)))))
def tb_X4_send : Lean.RArray am_E := .branch 12 (.branch 5 (.branch 1 (.leaf (0, .aload_n 0, 1, 0, 0, 0, .null)) (.branch 2 (.leaf (1, .iconst 0, 2, 0, 0, 0, .int 0)) (.leaf (2, .putfield 101, 5, 3, 0, 0, .int 0)))) (.branch 6 (.leaf (5, .aload_n 0, 6, 0, 0, 0, .null)) (.branch 9 (.leaf (6, .getfield 250, 9, 3, 36, 0, .null)) (.leaf (9, .ifCond .le 5, 12, 14, 0, 0, .null))))) (.branch 15 (.branch 13 (.leaf (12, .iconst (-1), 13, 0, 0, 0, .int (-1))) (.branch 14 (.leaf (13, .ireturn, 14, 0, 0, 0, .int 0)) (.leaf (14, .aload_n 0, 15, 0, 0, 0, .null)))) (.branch 19 (.branch 18 (.leaf (15, .invokevirtual 253, 18, 74, 0, 0, .null)) (.leaf (18, .aload_n 0, 19, 0, 0, 0, .null))) (.branch 22 (.leaf (19, .invokevirtual 256, 22, 83, 0, 0, .null)) (.leaf (22, .ireturn, 23, 0, 0, 0, .int 0)))))
def tb_X4_settle : Lean.RArray am_E := .branch 78 (.branch 32 (.branch 18 (.branch 8 (.branch 5 (.branch 1 (.leaf (0, .iconst 2, 1, 0, 0, 0, .int 2)) (.branch 2 (.leaf (1, .aload_n 0, 2, 0, 0, 0, .null)) (.leaf (2, .getfield 184, 5, 3, 34, 0, .null)))) (.branch 6 (.leaf (5, .imul, 6, 0, 0, 0, .null)) (.branch 7 (.leaf (6, .istore_n 1, 7, 1, 0, 0, .null)) (.leaf (7, .iconst 0, 8, 0, 0, 0, .int 0))))) (.branch 11 (.branch 9 (.leaf (8, .istore_n 2, 9, 2, 0, 0, .null)) (.branch 10 (.leaf (9, .iload_n 2, 10, 2, 0, 0, .null)) (.leaf (10, .iload_n 1, 11, 1, 0, 0, .null)))) (.branch 14 (.leaf (11, .if_icmp .ge 70, 14, 81, 0, 0, .null)) (.branch 15 (.leaf (14, .aload_n 0, 15, 0, 0, 0, .null)) (.leaf (15, .getfield 71, 18, 3, 31, 0, .null)))))) (.branch 26 (.branch 21 (.branch 19 (.leaf (18, .iload_n 2, 19, 2, 0, 0, .null)) (.branch 20 (.leaf (19, .iconst (-1), 20, 0, 0, 0, .int (-1))) (.leaf (20, .iastore, 21, 0, 0, 0, .null)))) (.branch 22 (.leaf (21, .aload_n 0, 22, 0, 0, 0, .null)) (.branch 25 (.leaf (22, .getfield 89, 25, 3, 41, 0, .null)) (.leaf (25, .iload_n 2, 26, 2, 0, 0, .null))))) (.branch 29 (.branch 27 (.leaf (26, .iconst 1, 27, 0, 0, 0, .int 1)) (.branch 28 (.leaf (27, .bastore, 28, 0, 0, 0, .null)) (.leaf (28, .iconst 0, 29, 0, 0, 0, .int 0)))) (.branch 30 (.leaf (29, .istore_n 3, 30, 3, 0, 0, .null)) (.branch 31 (.leaf (30, .iload_n 3, 31, 3, 0, 0, .null)) (.leaf (31, .aload_n 0, 32, 0, 0, 0, .null))))))) (.branch 51 (.branch 45 (.branch 39 (.branch 35 (.leaf (32, .getfield 181, 35, 3, 33, 0, .null)) (.branch 38 (.leaf (35, .if_icmp .ge 40, 38, 75, 0, 0, .null)) (.leaf (38, .aload_n 0, 39, 0, 0, 0, .null)))) (.branch 42 (.leaf (39, .getfield 83, 42, 3, 39, 0, .null)) (.branch 44 (.leaf (42, .bipush 20, 44, 0, 0, 0, .int 20)) (.leaf (44, .iload_n 2, 45, 2, 0, 0, .null))))) (.branch 48 (.branch 46 (.leaf (45, .imul, 46, 0, 0, 0, .null)) (.branch 47 (.leaf (46, .iload_n 3, 47, 3, 0, 0, .null)) (.leaf (47, .iadd, 48, 0, 0, 0, .null)))) (.branch 49 (.leaf (48, .aload_n 0, 49, 0, 0, 0, .null)) (.branch 50 (.leaf (49, .iload_n 3, 50, 3, 0, 0, .null)) (.leaf (50, .iload_n 2, 51, 2, 0, 0, .null)))))) (.branch 63 (.branch 58 (.branch 54 (.leaf (51, .invokevirtual 210, 54, 68, 0, 0, .null)) (.branch 57 (.leaf (54, .ifCond .eq 12, 57, 66, 0, 0, .null)) (.leaf (57, .aload_n 0, 58, 0, 0, 0, .null)))) (.branch 59 (.leaf (58, .iload_n 3, 59, 3, 0, 0, .null)) (.branch 60 (.leaf (59, .iload_n 2, 60, 2, 0, 0, .null)) (.leaf (60, .invokevirtual 214, 63, 72, 0, 0, .null))))) (.branch 69 (.branch 66 (.leaf (63, .goto 5, 66, 68, 0, 0, .null)) (.branch 68 (.leaf (66, .ldc 218, 68, 0, 0, 0, .int 100000000)) (.leaf (68, .iastore, 69, 0, 0, 0, .null)))) (.branch 72 (.leaf (69, .iinc 3 1, 72, 3, 0, 0, .int 1)) (.branch 75 (.leaf (72, .goto (-42), 75, 30, 0, 0, .null)) (.leaf (75, .iinc 2 1, 78, 2, 0, 0, .int 1)))))))) (.branch 118 (.branch 98 (.branch 88 (.branch 83 (.branch 81 (.leaf (78, .goto (-69), 81, 9, 0, 0, .null)) (.branch 82 (.leaf (81, .iconst 0, 82, 0, 0, 0, .int 0)) (.leaf (82, .istore_n 2, 83, 2, 0, 0, .null)))) (.branch 84 (.leaf (83, .iload_n 2, 84, 2, 0, 0, .null)) (.branch 85 (.leaf (84, .aload_n 0, 85, 0, 0, 0, .null)) (.leaf (85, .getfield 181, 88, 3, 33, 0, .null))))) (.branch 95 (.branch 91 (.leaf (88, .if_icmp .ge 16, 91, 104, 0, 0, .null)) (.branch 92 (.leaf (91, .aload_n 0, 92, 0, 0, 0, .null)) (.leaf (92, .getfield 86, 95, 3, 40, 0, .null)))) (.branch 96 (.leaf (95, .iload_n 2, 96, 2, 0, 0, .null)) (.branch 97 (.leaf (96, .iconst (-1), 97, 0, 0, 0, .int (-1))) (.leaf (97, .iastore, 98, 0, 0, 0, .null)))))) (.branch 108 (.branch 105 (.branch 101 (.leaf (98, .iinc 2 1, 101, 2, 0, 0, .int 1)) (.branch 104 (.leaf (101, .goto (-18), 104, 83, 0, 0, .null)) (.leaf (104, .iconst 0, 105, 0, 0, 0, .int 0)))) (.branch 106 (.leaf (105, .istore_n 2, 106, 2, 0, 0, .null)) (.branch 107 (.leaf (106, .iload_n 2, 107, 2, 0, 0, .null)) (.leaf (107, .iload_n 1, 108, 1, 0, 0, .null))))) (.branch 115 (.branch 111 (.leaf (108, .if_icmp .ge 26, 111, 134, 0, 0, .null)) (.branch 112 (.leaf (111, .aload_n 0, 112, 0, 0, 0, .null)) (.leaf (112, .getfield 89, 115, 3, 41, 0, .null)))) (.branch 116 (.leaf (115, .iload_n 2, 116, 2, 0, 0, .null)) (.branch 117 (.leaf (116, .iconst 0, 117, 0, 0, 0, .int 0)) (.leaf (117, .bastore, 118, 0, 0, 0, .null))))))) (.branch 138 (.branch 128 (.branch 123 (.branch 119 (.leaf (118, .aload_n 0, 119, 0, 0, 0, .null)) (.branch 120 (.leaf (119, .iload_n 1, 120, 1, 0, 0, .null)) (.leaf (120, .invokevirtual 222, 123, 75, 0, 0, .null)))) (.branch 124 (.leaf (123, .aload_n 0, 124, 0, 0, 0, .null)) (.branch 125 (.leaf (124, .iload_n 2, 125, 2, 0, 0, .null)) (.leaf (125, .invokevirtual 225, 128, 77, 0, 0, .null))))) (.branch 135 (.branch 131 (.leaf (128, .iinc 2 1, 131, 2, 0, 0, .int 1)) (.branch 134 (.leaf (131, .goto (-25), 134, 106, 0, 0, .null)) (.leaf (134, .iconst 0, 135, 0, 0, 0, .int 0)))) (.branch 136 (.leaf (135, .istore_n 2, 136, 2, 0, 0, .null)) (.branch 137 (.leaf (136, .iload_n 2, 137, 2, 0, 0, .null)) (.leaf (137, .iload_n 1, 138, 1, 0, 0, .null)))))) (.branch 148 (.branch 143 (.branch 141 (.leaf (138, .if_icmp .ge 22, 141, 160, 0, 0, .null)) (.branch 142 (.leaf (141, .aload_n 0, 142, 0, 0, 0, .null)) (.leaf (142, .iload_n 2, 143, 2, 0, 0, .null)))) (.branch 144 (.leaf (143, .iload_n 1, 144, 1, 0, 0, .null)) (.branch 147 (.leaf (144, .invokevirtual 228, 147, 78, 0, 0, .null)) (.leaf (147, .aload_n 0, 148, 0, 0, 0, .null))))) (.branch 153 (.branch 151 (.leaf (148, .getfield 89, 151, 3, 41, 0, .null)) (.branch 152 (.leaf (151, .iload_n 2, 152, 2, 0, 0, .null)) (.leaf (152, .iconst 1, 153, 0, 0, 0, .int 1)))) (.branch 157 (.branch 154 (.leaf (153, .bastore, 154, 0, 0, 0, .null)) (.leaf (154, .iinc 2 1, 157, 2, 0, 0, .int 1))) (.branch 160 (.leaf (157, .goto (-21), 160, 136, 0, 0, .null)) (.leaf (160, .return_, 161, 0, 0, 0, .int 0))))))))
def tb_X4_seek : Lean.RArray am_E := .branch 89 (.branch 40 (.branch 20 (.branch 8 (.branch 3 (.branch 1 (.leaf (0, .iconst 0, 1, 0, 0, 0, .int 0)) (.branch 2 (.leaf (1, .istore_n 2, 2, 2, 0, 0, .null)) (.leaf (2, .iload_n 2, 3, 2, 0, 0, .null)))) (.branch 4 (.leaf (3, .iload_n 1, 4, 1, 0, 0, .null)) (.branch 7 (.leaf (4, .if_icmp .ge 24, 7, 28, 0, 0, .null)) (.leaf (7, .aload_n 0, 8, 0, 0, 0, .null))))) (.branch 14 (.branch 11 (.leaf (8, .getfield 77, 11, 3, 37, 0, .null)) (.branch 12 (.leaf (11, .iload_n 2, 12, 2, 0, 0, .null)) (.leaf (12, .ldc 217, 14, 0, 0, 0, .int 1000000)))) (.branch 16 (.branch 15 (.leaf (14, .iastore, 15, 0, 0, 0, .null)) (.leaf (15, .aload_n 0, 16, 0, 0, 0, .null))) (.branch 19 (.leaf (16, .getfield 80, 19, 3, 38, 0, .null)) (.leaf (19, .iload_n 2, 20, 2, 0, 0, .null)))))) (.branch 31 (.branch 25 (.branch 21 (.leaf (20, .iconst (-1), 21, 0, 0, 0, .int (-1))) (.branch 22 (.leaf (21, .iastore, 22, 0, 0, 0, .null)) (.leaf (22, .iinc 2 1, 25, 2, 0, 0, .int 1)))) (.branch 29 (.branch 28 (.leaf (25, .goto (-23), 28, 2, 0, 0, .null)) (.leaf (28, .iconst 1, 29, 0, 0, 0, .int 1))) (.branch 30 (.leaf (29, .istore_n 2, 30, 2, 0, 0, .null)) (.leaf (30, .iload_n 2, 31, 2, 0, 0, .null))))) (.branch 36 (.branch 34 (.leaf (31, .ifCond .eq 159, 34, 190, 0, 0, .null)) (.branch 35 (.leaf (34, .iconst 0, 35, 0, 0, 0, .int 0)) (.leaf (35, .istore_n 2, 36, 2, 0, 0, .null)))) (.branch 38 (.branch 37 (.leaf (36, .iconst 0, 37, 0, 0, 0, .int 0)) (.leaf (37, .istore_n 3, 38, 3, 0, 0, .null))) (.branch 39 (.leaf (38, .iload_n 3, 39, 3, 0, 0, .null)) (.leaf (39, .iload_n 1, 40, 1, 0, 0, .null))))))) (.branch 65 (.branch 52 (.branch 46 (.branch 43 (.leaf (40, .if_icmp .ge 147, 43, 187, 0, 0, .null)) (.branch 44 (.leaf (43, .iconst 0, 44, 0, 0, 0, .int 0)) (.leaf (44, .istore 4, 46, 4, 0, 0, .null)))) (.branch 48 (.leaf (46, .iload 4, 48, 4, 0, 0, .null)) (.branch 49 (.leaf (48, .aload_n 0, 49, 0, 0, 0, .null)) (.leaf (49, .getfield 181, 52, 3, 33, 0, .null))))) (.branch 59 (.branch 55 (.leaf (52, .if_icmp .ge 129, 55, 181, 0, 0, .null)) (.branch 56 (.leaf (55, .aload_n 0, 56, 0, 0, 0, .null)) (.leaf (56, .getfield 89, 59, 3, 41, 0, .null)))) (.branch 61 (.branch 60 (.leaf (59, .iload_n 3, 60, 3, 0, 0, .null)) (.leaf (60, .baload, 61, 0, 0, 0, .null))) (.branch 64 (.leaf (61, .ifCond .ne 120, 64, 181, 0, 0, .null)) (.leaf (64, .aload_n 0, 65, 0, 0, 0, .null)))))) (.branch 76 (.branch 71 (.branch 68 (.leaf (65, .getfield 83, 68, 3, 39, 0, .null)) (.branch 70 (.leaf (68, .bipush 20, 70, 0, 0, 0, .int 20)) (.leaf (70, .iload_n 3, 71, 3, 0, 0, .null)))) (.branch 74 (.branch 72 (.leaf (71, .imul, 72, 0, 0, 0, .null)) (.leaf (72, .iload 4, 74, 4, 0, 0, .null))) (.branch 75 (.leaf (74, .iadd, 75, 0, 0, 0, .null)) (.leaf (75, .iaload, 76, 0, 0, 0, .null))))) (.branch 82 (.branch 78 (.leaf (76, .ldc 218, 78, 0, 0, 0, .int 100000000)) (.branch 81 (.leaf (78, .if_icmp .eq 97, 81, 175, 0, 0, .null)) (.leaf (81, .aload_n 0, 82, 0, 0, 0, .null)))) (.branch 86 (.branch 85 (.leaf (82, .getfield 71, 85, 3, 31, 0, .null)) (.leaf (85, .iload_n 3, 86, 3, 0, 0, .null))) (.branch 87 (.leaf (86, .iaload, 87, 0, 0, 0, .null)) (.leaf (87, .iload 4, 89, 4, 0, 0, .null)))))))) (.branch 139 (.branch 114 (.branch 102 (.branch 96 (.branch 92 (.leaf (89, .if_icmp .ne 6, 92, 95, 0, 0, .null)) (.branch 95 (.leaf (92, .goto 83, 95, 175, 0, 0, .null)) (.leaf (95, .aload_n 0, 96, 0, 0, 0, .null)))) (.branch 99 (.leaf (96, .getfield 86, 99, 3, 40, 0, .null)) (.branch 101 (.leaf (99, .iload 4, 101, 4, 0, 0, .null)) (.leaf (101, .iaload, 102, 0, 0, 0, .null))))) (.branch 108 (.branch 104 (.leaf (102, .istore 5, 104, 5, 0, 0, .null)) (.branch 105 (.leaf (104, .aload_n 0, 105, 0, 0, 0, .null)) (.leaf (105, .getfield 83, 108, 3, 39, 0, .null)))) (.branch 111 (.branch 110 (.leaf (108, .bipush 20, 110, 0, 0, 0, .int 20)) (.leaf (110, .iload_n 3, 111, 3, 0, 0, .null))) (.branch 112 (.leaf (111, .imul, 112, 0, 0, 0, .null)) (.leaf (112, .iload 4, 114, 4, 0, 0, .null)))))) (.branch 126 (.branch 118 (.branch 115 (.leaf (114, .iadd, 115, 0, 0, 0, .null)) (.branch 116 (.leaf (115, .iaload, 116, 0, 0, 0, .null)) (.leaf (116, .iload 5, 118, 5, 0, 0, .null)))) (.branch 122 (.branch 119 (.leaf (118, .iconst (-1), 119, 0, 0, 0, .int (-1))) (.leaf (119, .if_icmp .ne 7, 122, 126, 0, 0, .null))) (.branch 123 (.leaf (122, .iconst 0, 123, 0, 0, 0, .int 0)) (.leaf (123, .goto 17, 126, 140, 0, 0, .null))))) (.branch 132 (.branch 127 (.leaf (126, .aload_n 0, 127, 0, 0, 0, .null)) (.branch 130 (.leaf (127, .getfield 77, 130, 3, 37, 0, .null)) (.leaf (130, .iload 5, 132, 5, 0, 0, .null)))) (.branch 134 (.branch 133 (.leaf (132, .iaload, 133, 0, 0, 0, .null)) (.leaf (133, .aload_n 0, 134, 0, 0, 0, .null))) (.branch 136 (.leaf (134, .iload 5, 136, 5, 0, 0, .null)) (.leaf (136, .invokevirtual 219, 139, 76, 0, 0, .null))))))) (.branch 164 (.branch 150 (.branch 143 (.branch 140 (.leaf (139, .isub, 140, 0, 0, 0, .null)) (.branch 141 (.leaf (140, .iadd, 141, 0, 0, 0, .null)) (.leaf (141, .istore 6, 143, 6, 0, 0, .null)))) (.branch 146 (.branch 145 (.leaf (143, .iload 6, 145, 6, 0, 0, .null)) (.leaf (145, .aload_n 0, 146, 0, 0, 0, .null))) (.branch 149 (.leaf (146, .getfield 77, 149, 3, 37, 0, .null)) (.leaf (149, .iload_n 3, 150, 3, 0, 0, .null))))) (.branch 157 (.branch 151 (.leaf (150, .iaload, 151, 0, 0, 0, .null)) (.branch 154 (.leaf (151, .if_icmp .lt 6, 154, 157, 0, 0, .null)) (.leaf (154, .goto 21, 157, 175, 0, 0, .null)))) (.branch 161 (.branch 158 (.leaf (157, .aload_n 0, 158, 0, 0, 0, .null)) (.leaf (158, .getfield 77, 161, 3, 37, 0, .null))) (.branch 162 (.leaf (161, .iload_n 3, 162, 3, 0, 0, .null)) (.leaf (162, .iload 6, 164, 6, 0, 0, .null)))))) (.branch 174 (.branch 169 (.branch 165 (.leaf (164, .iastore, 165, 0, 0, 0, .null)) (.branch 166 (.leaf (165, .aload_n 0, 166, 0, 0, 0, .null)) (.leaf (166, .getfield 80, 169, 3, 38, 0, .null)))) (.branch 172 (.branch 170 (.leaf (169, .iload_n 3, 170, 3, 0, 0, .null)) (.leaf (170, .iload 4, 172, 4, 0, 0, .null))) (.branch 173 (.leaf (172, .iastore, 173, 0, 0, 0, .null)) (.leaf (173, .iconst 1, 174, 0, 0, 0, .int 1))))) (.branch 181 (.branch 175 (.leaf (174, .istore_n 2, 175, 2, 0, 0, .null)) (.branch 178 (.leaf (175, .iinc 4 1, 178, 4, 0, 0, .int 1)) (.leaf (178, .goto (-132), 181, 46, 0, 0, .null)))) (.branch 187 (.branch 184 (.leaf (181, .iinc 3 1, 184, 3, 0, 0, .int 1)) (.leaf (184, .goto (-146), 187, 38, 0, 0, .null))) (.branch 190 (.leaf (187, .goto (-157), 190, 30, 0, 0, .null)) (.leaf (190, .return_, 191, 0, 0, 0, .int 0))))))))
def tb_X4_pays : Lean.RArray am_E := .branch 19 (.branch 7 (.branch 4 (.branch 1 (.leaf (0, .aload_n 0, 1, 0, 0, 0, .null)) (.leaf (1, .getfield 71, 4, 3, 31, 0, .null))) (.branch 5 (.leaf (4, .iload_n 1, 5, 1, 0, 0, .null)) (.branch 6 (.leaf (5, .iaload, 6, 0, 0, 0, .null)) (.leaf (6, .iconst (-1), 7, 0, 0, 0, .int (-1)))))) (.branch 12 (.branch 10 (.leaf (7, .if_icmp .ne 8, 10, 15, 0, 0, .null)) (.leaf (10, .ldc 217, 12, 0, 0, 0, .int 1000000))) (.branch 15 (.leaf (12, .goto 19, 15, 31, 0, 0, .null)) (.branch 16 (.leaf (15, .aload_n 0, 16, 0, 0, 0, .null)) (.leaf (16, .getfield 83, 19, 3, 39, 0, .null)))))) (.branch 27 (.branch 22 (.branch 21 (.leaf (19, .bipush 20, 21, 0, 0, 0, .int 20)) (.leaf (21, .iload_n 1, 22, 1, 0, 0, .null))) (.branch 23 (.leaf (22, .imul, 23, 0, 0, 0, .null)) (.branch 24 (.leaf (23, .aload_n 0, 24, 0, 0, 0, .null)) (.leaf (24, .getfield 71, 27, 3, 31, 0, .null))))) (.branch 29 (.branch 28 (.leaf (27, .iload_n 1, 28, 1, 0, 0, .null)) (.leaf (28, .iaload, 29, 0, 0, 0, .null))) (.branch 30 (.leaf (29, .iadd, 30, 0, 0, 0, .null)) (.branch 31 (.leaf (30, .iaload, 31, 0, 0, 0, .null)) (.leaf (31, .ireturn, 32, 0, 0, 0, .int 0))))))
def tb_X4_change : Lean.RArray am_E := .branch 28 (.branch 13 (.branch 4 (.branch 2 (.branch 1 (.leaf (0, .iload_n 1, 1, 1, 0, 0, .null)) (.leaf (1, .istore_n 2, 2, 2, 0, 0, .null))) (.branch 3 (.leaf (2, .iload_n 2, 3, 2, 0, 0, .null)) (.leaf (3, .iconst (-1), 4, 0, 0, 0, .int (-1))))) (.branch 8 (.branch 7 (.leaf (4, .if_icmp .eq 52, 7, 56, 0, 0, .null)) (.leaf (7, .aload_n 0, 8, 0, 0, 0, .null))) (.branch 11 (.leaf (8, .getfield 80, 11, 3, 38, 0, .null)) (.branch 12 (.leaf (11, .iload_n 2, 12, 2, 0, 0, .null)) (.leaf (12, .iaload, 13, 0, 0, 0, .null)))))) (.branch 19 (.branch 15 (.branch 14 (.leaf (13, .istore_n 3, 14, 3, 0, 0, .null)) (.leaf (14, .iload_n 3, 15, 3, 0, 0, .null))) (.branch 16 (.leaf (15, .iconst (-1), 16, 0, 0, 0, .int (-1))) (.leaf (16, .if_icmp .ne 7, 19, 23, 0, 0, .null)))) (.branch 23 (.branch 20 (.leaf (19, .iconst (-1), 20, 0, 0, 0, .int (-1))) (.leaf (20, .goto 9, 23, 29, 0, 0, .null))) (.branch 24 (.leaf (23, .aload_n 0, 24, 0, 0, 0, .null)) (.branch 27 (.leaf (24, .getfield 86, 27, 3, 40, 0, .null)) (.leaf (27, .iload_n 3, 28, 3, 0, 0, .null))))))) (.branch 40 (.branch 35 (.branch 31 (.branch 29 (.leaf (28, .iaload, 29, 0, 0, 0, .null)) (.leaf (29, .istore 4, 31, 4, 0, 0, .null))) (.branch 32 (.leaf (31, .aload_n 0, 32, 0, 0, 0, .null)) (.leaf (32, .getfield 71, 35, 3, 31, 0, .null)))) (.branch 37 (.branch 36 (.leaf (35, .iload_n 2, 36, 2, 0, 0, .null)) (.leaf (36, .iload_n 3, 37, 3, 0, 0, .null))) (.branch 38 (.leaf (37, .iastore, 38, 0, 0, 0, .null)) (.branch 39 (.leaf (38, .iload_n 3, 39, 3, 0, 0, .null)) (.leaf (39, .iconst (-1), 40, 0, 0, 0, .int (-1))))))) (.branch 49 (.branch 44 (.branch 43 (.leaf (40, .if_icmp .eq 10, 43, 50, 0, 0, .null)) (.leaf (43, .aload_n 0, 44, 0, 0, 0, .null))) (.branch 47 (.leaf (44, .getfield 86, 47, 3, 40, 0, .null)) (.branch 48 (.leaf (47, .iload_n 3, 48, 3, 0, 0, .null)) (.leaf (48, .iload_n 2, 49, 2, 0, 0, .null))))) (.branch 52 (.branch 50 (.leaf (49, .iastore, 50, 0, 0, 0, .null)) (.leaf (50, .iload 4, 52, 4, 0, 0, .null))) (.branch 53 (.leaf (52, .istore_n 2, 53, 2, 0, 0, .null)) (.branch 56 (.leaf (53, .goto (-51), 56, 2, 0, 0, .null)) (.leaf (56, .return_, 57, 0, 0, 0, .int 0)))))))
def tb_X4_lessen : Lean.RArray am_E := .branch 123 (.branch 63 (.branch 31 (.branch 12 (.branch 6 (.branch 2 (.branch 1 (.leaf (0, .aload_n 0, 1, 0, 0, 0, .null)) (.leaf (1, .iload_n 1, 2, 1, 0, 0, .null))) (.branch 5 (.leaf (2, .invokevirtual 236, 5, 79, 0, 0, .null)) (.leaf (5, .istore_n 3, 6, 3, 0, 0, .null)))) (.branch 9 (.branch 7 (.leaf (6, .iconst 0, 7, 0, 0, 0, .int 0)) (.leaf (7, .istore 4, 9, 4, 0, 0, .null))) (.branch 11 (.leaf (9, .iload 4, 11, 4, 0, 0, .null)) (.leaf (11, .aload_n 0, 12, 0, 0, 0, .null))))) (.branch 21 (.branch 18 (.branch 15 (.leaf (12, .getfield 181, 15, 3, 33, 0, .null)) (.leaf (15, .if_icmp .ge 244, 18, 259, 0, 0, .null))) (.branch 20 (.leaf (18, .iload 4, 20, 4, 0, 0, .null)) (.leaf (20, .iload_n 3, 21, 3, 0, 0, .null)))) (.branch 25 (.branch 24 (.leaf (21, .if_icmp .eq 238, 24, 259, 0, 0, .null)) (.leaf (24, .aload_n 0, 25, 0, 0, 0, .null))) (.branch 28 (.leaf (25, .getfield 83, 28, 3, 39, 0, .null)) (.branch 30 (.leaf (28, .bipush 20, 30, 0, 0, 0, .int 20)) (.leaf (30, .iload_n 1, 31, 1, 0, 0, .null))))))) (.branch 47 (.branch 36 (.branch 34 (.branch 32 (.leaf (31, .imul, 32, 0, 0, 0, .null)) (.leaf (32, .iload 4, 34, 4, 0, 0, .null))) (.branch 35 (.leaf (34, .iadd, 35, 0, 0, 0, .null)) (.leaf (35, .iaload, 36, 0, 0, 0, .null)))) (.branch 41 (.branch 38 (.leaf (36, .ldc 218, 38, 0, 0, 0, .int 100000000)) (.leaf (38, .if_icmp .eq 215, 41, 253, 0, 0, .null))) (.branch 42 (.leaf (41, .aload_n 0, 42, 0, 0, 0, .null)) (.branch 45 (.leaf (42, .getfield 86, 45, 3, 40, 0, .null)) (.leaf (45, .iload 4, 47, 4, 0, 0, .null)))))) (.branch 53 (.branch 49 (.branch 48 (.leaf (47, .iaload, 48, 0, 0, 0, .null)) (.leaf (48, .iconst (-1), 49, 0, 0, 0, .int (-1)))) (.branch 52 (.leaf (49, .if_icmp .eq 21, 52, 70, 0, 0, .null)) (.leaf (52, .aload_n 0, 53, 0, 0, 0, .null)))) (.branch 57 (.branch 56 (.leaf (53, .getfield 89, 56, 3, 41, 0, .null)) (.leaf (56, .aload_n 0, 57, 0, 0, 0, .null))) (.branch 60 (.leaf (57, .getfield 86, 60, 3, 40, 0, .null)) (.branch 62 (.leaf (60, .iload 4, 62, 4, 0, 0, .null)) (.leaf (62, .iaload, 63, 0, 0, 0, .null)))))))) (.branch 95 (.branch 78 (.branch 71 (.branch 67 (.branch 64 (.leaf (63, .baload, 64, 0, 0, 0, .null)) (.leaf (64, .ifCond .eq 6, 67, 70, 0, 0, .null))) (.branch 70 (.leaf (67, .goto 186, 70, 253, 0, 0, .null)) (.leaf (70, .aload_n 0, 71, 0, 0, 0, .null)))) (.branch 74 (.branch 73 (.leaf (71, .iload 4, 73, 4, 0, 0, .null)) (.leaf (73, .iload_n 1, 74, 1, 0, 0, .null))) (.branch 75 (.leaf (74, .iload_n 2, 75, 2, 0, 0, .null)) (.leaf (75, .invokevirtual 246, 78, 80, 0, 0, .null))))) (.branch 84 (.branch 82 (.branch 79 (.leaf (78, .aload_n 0, 79, 0, 0, 0, .null)) (.leaf (79, .getfield 92, 82, 3, 42, 0, .null))) (.branch 83 (.leaf (82, .iload_n 3, 83, 3, 0, 0, .null)) (.leaf (83, .iaload, 84, 0, 0, 0, .null)))) (.branch 89 (.branch 86 (.leaf (84, .ldc 218, 86, 0, 0, 0, .int 100000000)) (.leaf (86, .if_icmp .eq 167, 89, 253, 0, 0, .null))) (.branch 90 (.leaf (89, .aload_n 0, 90, 0, 0, 0, .null)) (.branch 93 (.leaf (90, .getfield 83, 93, 3, 39, 0, .null)) (.leaf (93, .bipush 20, 95, 0, 0, 0, .int 20))))))) (.branch 107 (.branch 100 (.branch 97 (.branch 96 (.leaf (95, .iload_n 1, 96, 1, 0, 0, .null)) (.leaf (96, .imul, 97, 0, 0, 0, .null))) (.branch 99 (.leaf (97, .iload 4, 99, 4, 0, 0, .null)) (.leaf (99, .iadd, 100, 0, 0, 0, .null)))) (.branch 102 (.branch 101 (.leaf (100, .iaload, 101, 0, 0, 0, .null)) (.leaf (101, .aload_n 0, 102, 0, 0, 0, .null))) (.branch 103 (.leaf (102, .iload_n 1, 103, 1, 0, 0, .null)) (.branch 106 (.leaf (103, .invokevirtual 219, 106, 76, 0, 0, .null)) (.leaf (106, .isub, 107, 0, 0, 0, .null)))))) (.branch 113 (.branch 111 (.branch 108 (.leaf (107, .aload_n 0, 108, 0, 0, 0, .null)) (.leaf (108, .getfield 92, 111, 3, 42, 0, .null))) (.branch 112 (.leaf (111, .iload_n 3, 112, 3, 0, 0, .null)) (.leaf (112, .iaload, 113, 0, 0, 0, .null)))) (.branch 117 (.branch 114 (.leaf (113, .iadd, 114, 0, 0, 0, .null)) (.leaf (114, .ifCond .eq 6, 117, 120, 0, 0, .null))) (.branch 120 (.leaf (117, .goto 136, 120, 253, 0, 0, .null)) (.branch 121 (.leaf (120, .iload_n 3, 121, 3, 0, 0, .null)) (.leaf (121, .istore 5, 123, 5, 0, 0, .null))))))))) (.branch 189 (.branch 156 (.branch 138 (.branch 131 (.branch 127 (.branch 125 (.leaf (123, .iload 5, 125, 5, 0, 0, .null)) (.leaf (125, .iload 4, 127, 4, 0, 0, .null))) (.branch 130 (.leaf (127, .if_icmp .eq 51, 130, 178, 0, 0, .null)) (.leaf (130, .aload_n 0, 131, 0, 0, 0, .null)))) (.branch 136 (.branch 134 (.leaf (131, .getfield 98, 134, 3, 44, 0, .null)) (.leaf (134, .iload 5, 136, 5, 0, 0, .null))) (.branch 137 (.leaf (136, .iaload, 137, 0, 0, 0, .null)) (.leaf (137, .iconst (-1), 138, 0, 0, 0, .int (-1)))))) (.branch 146 (.branch 142 (.branch 141 (.leaf (138, .if_icmp .eq 28, 141, 166, 0, 0, .null)) (.leaf (141, .aload_n 0, 142, 0, 0, 0, .null))) (.branch 145 (.leaf (142, .getfield 71, 145, 3, 31, 0, .null)) (.leaf (145, .aload_n 0, 146, 0, 0, 0, .null)))) (.branch 151 (.branch 149 (.leaf (146, .getfield 98, 149, 3, 44, 0, .null)) (.leaf (149, .iload 5, 151, 5, 0, 0, .null))) (.branch 152 (.leaf (151, .iaload, 152, 0, 0, 0, .null)) (.branch 154 (.leaf (152, .iload 5, 154, 5, 0, 0, .null)) (.leaf (154, .bipush 20, 156, 0, 0, 0, .int 20))))))) (.branch 173 (.branch 165 (.branch 160 (.branch 159 (.leaf (156, .if_icmp .ne 7, 159, 163, 0, 0, .null)) (.leaf (159, .iconst (-1), 160, 0, 0, 0, .int (-1)))) (.branch 163 (.leaf (160, .goto 5, 163, 165, 0, 0, .null)) (.leaf (163, .iload 5, 165, 5, 0, 0, .null)))) (.branch 167 (.branch 166 (.leaf (165, .iastore, 166, 0, 0, 0, .null)) (.leaf (166, .aload_n 0, 167, 0, 0, 0, .null))) (.branch 170 (.leaf (167, .getfield 95, 170, 3, 43, 0, .null)) (.branch 172 (.leaf (170, .iload 5, 172, 5, 0, 0, .null)) (.leaf (172, .iaload, 173, 0, 0, 0, .null)))))) (.branch 182 (.branch 178 (.branch 175 (.leaf (173, .istore 5, 175, 5, 0, 0, .null)) (.leaf (175, .goto (-52), 178, 123, 0, 0, .null))) (.branch 179 (.leaf (178, .aload_n 0, 179, 0, 0, 0, .null)) (.leaf (179, .getfield 71, 182, 3, 31, 0, .null)))) (.branch 185 (.branch 183 (.leaf (182, .iload_n 1, 183, 1, 0, 0, .null)) (.leaf (183, .iload 4, 185, 4, 0, 0, .null))) (.branch 186 (.leaf (185, .iastore, 186, 0, 0, 0, .null)) (.branch 187 (.leaf (186, .iconst 0, 187, 0, 0, 0, .int 0)) (.leaf (187, .istore 6, 189, 6, 0, 0, .null)))))))) (.branch 225 (.branch 206 (.branch 198 (.branch 192 (.branch 191 (.leaf (189, .iload 6, 191, 6, 0, 0, .null)) (.leaf (191, .aload_n 0, 192, 0, 0, 0, .null))) (.branch 195 (.leaf (192, .getfield 181, 195, 3, 33, 0, .null)) (.leaf (195, .if_icmp .ge 17, 198, 212, 0, 0, .null)))) (.branch 202 (.branch 199 (.leaf (198, .aload_n 0, 199, 0, 0, 0, .null)) (.leaf (199, .getfield 86, 202, 3, 40, 0, .null))) (.branch 204 (.leaf (202, .iload 6, 204, 6, 0, 0, .null)) (.branch 205 (.leaf (204, .iconst (-1), 205, 0, 0, 0, .int (-1))) (.leaf (205, .iastore, 206, 0, 0, 0, .null)))))) (.branch 215 (.branch 212 (.branch 209 (.leaf (206, .iinc 6 1, 209, 6, 0, 0, .int 1)) (.leaf (209, .goto (-20), 212, 189, 0, 0, .null))) (.branch 213 (.leaf (212, .iconst 0, 213, 0, 0, 0, .int 0)) (.leaf (213, .istore 6, 215, 6, 0, 0, .null)))) (.branch 218 (.branch 217 (.leaf (215, .iload 6, 217, 6, 0, 0, .null)) (.leaf (217, .iload_n 2, 218, 2, 0, 0, .null))) (.branch 221 (.leaf (218, .if_icmp .ge 34, 221, 252, 0, 0, .null)) (.branch 222 (.leaf (221, .aload_n 0, 222, 0, 0, 0, .null)) (.leaf (222, .getfield 71, 225, 3, 31, 0, .null))))))) (.branch 242 (.branch 232 (.branch 228 (.branch 227 (.leaf (225, .iload 6, 227, 6, 0, 0, .null)) (.leaf (227, .iaload, 228, 0, 0, 0, .null))) (.branch 229 (.leaf (228, .iconst (-1), 229, 0, 0, 0, .int (-1))) (.leaf (229, .if_icmp .eq 17, 232, 246, 0, 0, .null)))) (.branch 236 (.branch 233 (.leaf (232, .aload_n 0, 233, 0, 0, 0, .null)) (.leaf (233, .getfield 86, 236, 3, 40, 0, .null))) (.branch 237 (.leaf (236, .aload_n 0, 237, 0, 0, 0, .null)) (.branch 240 (.leaf (237, .getfield 71, 240, 3, 31, 0, .null)) (.leaf (240, .iload 6, 242, 6, 0, 0, .null)))))) (.branch 249 (.branch 245 (.branch 243 (.leaf (242, .iaload, 243, 0, 0, 0, .null)) (.leaf (243, .iload 6, 245, 6, 0, 0, .null))) (.branch 246 (.leaf (245, .iastore, 246, 0, 0, 0, .null)) (.leaf (246, .iinc 6 1, 249, 6, 0, 0, .int 1)))) (.branch 253 (.branch 252 (.leaf (249, .goto (-34), 252, 215, 0, 0, .null)) (.leaf (252, .return_, 253, 0, 0, 0, .int 0))) (.branch 256 (.leaf (253, .iinc 4 1, 256, 4, 0, 0, .int 1)) (.branch 259 (.leaf (256, .goto (-247), 259, 9, 0, 0, .null)) (.leaf (259, .return_, 260, 0, 0, 0, .int 0)))))))))
def tb_X4_placeOf : Lean.RArray am_E := .branch 10 (.branch 5 (.branch 1 (.leaf (0, .aload_n 0, 1, 0, 0, 0, .null)) (.branch 4 (.leaf (1, .getfield 71, 4, 3, 31, 0, .null)) (.leaf (4, .iload_n 1, 5, 1, 0, 0, .null)))) (.branch 6 (.leaf (5, .iaload, 6, 0, 0, 0, .null)) (.branch 7 (.leaf (6, .iconst (-1), 7, 0, 0, 0, .int (-1))) (.leaf (7, .if_icmp .ne 8, 10, 15, 0, 0, .null))))) (.branch 16 (.branch 12 (.leaf (10, .bipush 20, 12, 0, 0, 0, .int 20)) (.branch 15 (.leaf (12, .goto 9, 15, 21, 0, 0, .null)) (.leaf (15, .aload_n 0, 16, 0, 0, 0, .null)))) (.branch 20 (.branch 19 (.leaf (16, .getfield 71, 19, 3, 31, 0, .null)) (.leaf (19, .iload_n 1, 20, 1, 0, 0, .null))) (.branch 21 (.leaf (20, .iaload, 21, 0, 0, 0, .null)) (.leaf (21, .ireturn, 22, 0, 0, 0, .int 0)))))
def tb_X4_ways : Lean.RArray am_E := .branch 139 (.branch 65 (.branch 33 (.branch 18 (.branch 7 (.branch 3 (.branch 1 (.leaf (0, .iconst 0, 1, 0, 0, 0, .int 0)) (.leaf (1, .istore 4, 3, 4, 0, 0, .null))) (.branch 5 (.leaf (3, .iload 4, 5, 4, 0, 0, .null)) (.leaf (5, .bipush 22, 7, 0, 0, 0, .int 22)))) (.branch 11 (.branch 10 (.leaf (7, .if_icmp .ge 18, 10, 25, 0, 0, .null)) (.leaf (10, .aload_n 0, 11, 0, 0, 0, .null))) (.branch 14 (.leaf (11, .getfield 92, 14, 3, 42, 0, .null)) (.branch 16 (.leaf (14, .iload 4, 16, 4, 0, 0, .null)) (.leaf (16, .ldc 218, 18, 0, 0, 0, .int 100000000)))))) (.branch 26 (.branch 22 (.branch 19 (.leaf (18, .iastore, 19, 0, 0, 0, .null)) (.leaf (19, .iinc 4 1, 22, 4, 0, 0, .int 1))) (.branch 25 (.leaf (22, .goto (-19), 25, 3, 0, 0, .null)) (.leaf (25, .aload_n 0, 26, 0, 0, 0, .null)))) (.branch 30 (.branch 29 (.leaf (26, .getfield 92, 29, 3, 42, 0, .null)) (.leaf (29, .iload_n 1, 30, 1, 0, 0, .null))) (.branch 31 (.leaf (30, .iconst 0, 31, 0, 0, 0, .int 0)) (.branch 32 (.leaf (31, .iastore, 32, 0, 0, 0, .null)) (.leaf (32, .aload_n 0, 33, 0, 0, 0, .null))))))) (.branch 48 (.branch 39 (.branch 37 (.branch 36 (.leaf (33, .getfield 95, 36, 3, 43, 0, .null)) (.leaf (36, .iload_n 1, 37, 1, 0, 0, .null))) (.branch 38 (.leaf (37, .iconst (-1), 38, 0, 0, 0, .int (-1))) (.leaf (38, .iastore, 39, 0, 0, 0, .null)))) (.branch 41 (.branch 40 (.leaf (39, .aload_n 0, 40, 0, 0, 0, .null)) (.leaf (40, .iconst 1, 41, 0, 0, 0, .int 1))) (.branch 44 (.leaf (41, .putfield 232, 44, 3, 45, 0, .float 0)) (.branch 45 (.leaf (44, .aload_n 0, 45, 0, 0, 0, .null)) (.leaf (45, .getfield 232, 48, 3, 45, 0, .null)))))) (.branch 56 (.branch 52 (.branch 51 (.leaf (48, .ifCond .eq 231, 51, 279, 0, 0, .null)) (.leaf (51, .aload_n 0, 52, 0, 0, 0, .null))) (.branch 53 (.leaf (52, .iconst 0, 53, 0, 0, 0, .int 0)) (.leaf (53, .putfield 232, 56, 3, 45, 0, .float 0)))) (.branch 59 (.branch 57 (.leaf (56, .iconst 0, 57, 0, 0, 0, .int 0)) (.leaf (57, .istore 4, 59, 4, 0, 0, .null))) (.branch 61 (.leaf (59, .iload 4, 61, 4, 0, 0, .null)) (.branch 62 (.leaf (61, .iload_n 3, 62, 3, 0, 0, .null)) (.leaf (62, .if_icmp .ge 47, 65, 109, 0, 0, .null)))))))) (.branch 100 (.branch 82 (.branch 72 (.branch 68 (.branch 67 (.leaf (65, .iload 4, 67, 4, 0, 0, .null)) (.leaf (67, .iload_n 2, 68, 2, 0, 0, .null))) (.branch 71 (.leaf (68, .if_icmp .eq 35, 71, 103, 0, 0, .null)) (.leaf (71, .aload_n 0, 72, 0, 0, 0, .null)))) (.branch 77 (.branch 75 (.leaf (72, .getfield 89, 75, 3, 41, 0, .null)) (.leaf (75, .iload 4, 77, 4, 0, 0, .null))) (.branch 78 (.leaf (77, .baload, 78, 0, 0, 0, .null)) (.branch 81 (.leaf (78, .ifCond .ne 25, 81, 103, 0, 0, .null)) (.leaf (81, .aload_n 0, 82, 0, 0, 0, .null)))))) (.branch 91 (.branch 86 (.branch 85 (.leaf (82, .getfield 92, 85, 3, 42, 0, .null)) (.leaf (85, .aload_n 0, 86, 0, 0, 0, .null))) (.branch 88 (.leaf (86, .iload 4, 88, 4, 0, 0, .null)) (.leaf (88, .invokevirtual 236, 91, 79, 0, 0, .null)))) (.branch 94 (.branch 92 (.leaf (91, .iaload, 92, 0, 0, 0, .null)) (.leaf (92, .ldc 218, 94, 0, 0, 0, .int 100000000))) (.branch 97 (.leaf (94, .if_icmp .ge 9, 97, 103, 0, 0, .null)) (.branch 98 (.leaf (97, .aload_n 0, 98, 0, 0, 0, .null)) (.leaf (98, .iload 4, 100, 4, 0, 0, .null))))))) (.branch 121 (.branch 110 (.branch 106 (.branch 103 (.leaf (100, .invokevirtual 239, 103, 81, 0, 0, .null)) (.leaf (103, .iinc 4 1, 106, 4, 0, 0, .int 1))) (.branch 109 (.leaf (106, .goto (-47), 109, 59, 0, 0, .null)) (.leaf (109, .iconst 0, 110, 0, 0, 0, .int 0)))) (.branch 114 (.branch 112 (.leaf (110, .istore 4, 112, 4, 0, 0, .null)) (.leaf (112, .iload 4, 114, 4, 0, 0, .null))) (.branch 115 (.leaf (114, .aload_n 0, 115, 0, 0, 0, .null)) (.branch 118 (.leaf (115, .getfield 181, 118, 3, 33, 0, .null)) (.leaf (118, .if_icmp .ge 102, 121, 220, 0, 0, .null)))))) (.branch 129 (.branch 125 (.branch 122 (.leaf (121, .aload_n 0, 122, 0, 0, 0, .null)) (.leaf (122, .getfield 86, 125, 3, 40, 0, .null))) (.branch 127 (.leaf (125, .iload 4, 127, 4, 0, 0, .null)) (.branch 128 (.leaf (127, .iaload, 128, 0, 0, 0, .null)) (.leaf (128, .iconst (-1), 129, 0, 0, 0, .int (-1)))))) (.branch 133 (.branch 132 (.leaf (129, .if_icmp .ne 31, 132, 160, 0, 0, .null)) (.leaf (132, .aload_n 0, 133, 0, 0, 0, .null))) (.branch 136 (.leaf (133, .getfield 92, 136, 3, 42, 0, .null)) (.branch 138 (.leaf (136, .iload 4, 138, 4, 0, 0, .null)) (.leaf (138, .iaload, 139, 0, 0, 0, .null))))))))) (.branch 208 (.branch 172 (.branch 156 (.branch 147 (.branch 144 (.branch 141 (.leaf (139, .ldc 218, 141, 0, 0, 0, .int 100000000)) (.leaf (141, .if_icmp .ge 19, 144, 160, 0, 0, .null))) (.branch 145 (.leaf (144, .aload_n 0, 145, 0, 0, 0, .null)) (.leaf (145, .bipush 21, 147, 0, 0, 0, .int 21)))) (.branch 151 (.branch 148 (.leaf (147, .aload_n 0, 148, 0, 0, 0, .null)) (.leaf (148, .getfield 92, 151, 3, 42, 0, .null))) (.branch 153 (.leaf (151, .iload 4, 153, 4, 0, 0, .null)) (.branch 154 (.leaf (153, .iaload, 154, 0, 0, 0, .null)) (.leaf (154, .iload 4, 156, 4, 0, 0, .null)))))) (.branch 164 (.branch 160 (.branch 157 (.leaf (156, .iconst (-1), 157, 0, 0, 0, .int (-1))) (.leaf (157, .invokevirtual 242, 160, 82, 0, 0, .null))) (.branch 161 (.leaf (160, .aload_n 0, 161, 0, 0, 0, .null)) (.leaf (161, .getfield 86, 164, 3, 40, 0, .null)))) (.branch 167 (.branch 166 (.leaf (164, .iload 4, 166, 4, 0, 0, .null)) (.leaf (166, .iaload, 167, 0, 0, 0, .null))) (.branch 168 (.leaf (167, .iconst (-1), 168, 0, 0, 0, .int (-1))) (.branch 171 (.leaf (168, .if_icmp .eq 46, 171, 214, 0, 0, .null)) (.leaf (171, .aload_n 0, 172, 0, 0, 0, .null))))))) (.branch 190 (.branch 181 (.branch 176 (.branch 175 (.leaf (172, .getfield 89, 175, 3, 41, 0, .null)) (.leaf (175, .aload_n 0, 176, 0, 0, 0, .null))) (.branch 179 (.leaf (176, .getfield 86, 179, 3, 40, 0, .null)) (.leaf (179, .iload 4, 181, 4, 0, 0, .null)))) (.branch 183 (.branch 182 (.leaf (181, .iaload, 182, 0, 0, 0, .null)) (.leaf (182, .baload, 183, 0, 0, 0, .null))) (.branch 186 (.leaf (183, .ifCond .ne 31, 186, 214, 0, 0, .null)) (.branch 187 (.leaf (186, .aload_n 0, 187, 0, 0, 0, .null)) (.leaf (187, .getfield 92, 190, 3, 42, 0, .null)))))) (.branch 199 (.branch 193 (.branch 192 (.leaf (190, .bipush 21, 192, 0, 0, 0, .int 21)) (.leaf (192, .iaload, 193, 0, 0, 0, .null))) (.branch 195 (.leaf (193, .ldc 218, 195, 0, 0, 0, .int 100000000)) (.branch 198 (.leaf (195, .if_icmp .ge 19, 198, 214, 0, 0, .null)) (.leaf (198, .aload_n 0, 199, 0, 0, 0, .null))))) (.branch 202 (.branch 201 (.leaf (199, .iload 4, 201, 4, 0, 0, .null)) (.leaf (201, .aload_n 0, 202, 0, 0, 0, .null))) (.branch 205 (.leaf (202, .getfield 92, 205, 3, 42, 0, .null)) (.branch 207 (.leaf (205, .bipush 21, 207, 0, 0, 0, .int 21)) (.leaf (207, .iaload, 208, 0, 0, 0, .null)))))))) (.branch 244 (.branch 227 (.branch 217 (.branch 211 (.branch 210 (.leaf (208, .bipush 21, 210, 0, 0, 0, .int 21)) (.leaf (210, .iconst (-1), 211, 0, 0, 0, .int (-1)))) (.branch 214 (.leaf (211, .invokevirtual 242, 214, 82, 0, 0, .null)) (.leaf (214, .iinc 4 1, 217, 4, 0, 0, .int 1)))) (.branch 221 (.branch 220 (.leaf (217, .goto (-105), 220, 112, 0, 0, .null)) (.leaf (220, .aload_n 0, 221, 0, 0, 0, .null))) (.branch 224 (.leaf (221, .getfield 92, 224, 3, 42, 0, .null)) (.branch 226 (.leaf (224, .bipush 20, 226, 0, 0, 0, .int 20)) (.leaf (226, .iaload, 227, 0, 0, 0, .null)))))) (.branch 235 (.branch 232 (.branch 229 (.leaf (227, .ldc 218, 229, 0, 0, 0, .int 100000000)) (.leaf (229, .if_icmp .ge 19, 232, 248, 0, 0, .null))) (.branch 233 (.leaf (232, .aload_n 0, 233, 0, 0, 0, .null)) (.leaf (233, .bipush 21, 235, 0, 0, 0, .int 21)))) (.branch 239 (.branch 236 (.leaf (235, .aload_n 0, 236, 0, 0, 0, .null)) (.leaf (236, .getfield 92, 239, 3, 42, 0, .null))) (.branch 241 (.leaf (239, .bipush 20, 241, 0, 0, 0, .int 20)) (.branch 242 (.leaf (241, .iaload, 242, 0, 0, 0, .null)) (.leaf (242, .bipush 20, 244, 0, 0, 0, .int 20))))))) (.branch 261 (.branch 252 (.branch 248 (.branch 245 (.leaf (244, .iconst (-1), 245, 0, 0, 0, .int (-1))) (.leaf (245, .invokevirtual 242, 248, 82, 0, 0, .null))) (.branch 249 (.leaf (248, .aload_n 0, 249, 0, 0, 0, .null)) (.leaf (249, .getfield 92, 252, 3, 42, 0, .null)))) (.branch 255 (.branch 254 (.leaf (252, .bipush 21, 254, 0, 0, 0, .int 21)) (.leaf (254, .iaload, 255, 0, 0, 0, .null))) (.branch 257 (.leaf (255, .ldc 218, 257, 0, 0, 0, .int 100000000)) (.branch 260 (.leaf (257, .if_icmp .ge (-213), 260, 44, 0, 0, .null)) (.leaf (260, .aload_n 0, 261, 0, 0, 0, .null)))))) (.branch 270 (.branch 264 (.branch 263 (.leaf (261, .bipush 20, 263, 0, 0, 0, .int 20)) (.leaf (263, .aload_n 0, 264, 0, 0, 0, .null))) (.branch 267 (.leaf (264, .getfield 92, 267, 3, 42, 0, .null)) (.branch 269 (.leaf (267, .bipush 21, 269, 0, 0, 0, .int 21)) (.leaf (269, .iaload, 270, 0, 0, 0, .null))))) (.branch 273 (.branch 272 (.leaf (270, .bipush 21, 272, 0, 0, 0, .int 21)) (.leaf (272, .iconst (-1), 273, 0, 0, 0, .int (-1)))) (.branch 276 (.leaf (273, .invokevirtual 242, 276, 82, 0, 0, .null)) (.branch 279 (.leaf (276, .goto (-232), 279, 44, 0, 0, .null)) (.leaf (279, .return_, 280, 0, 0, 0, .int 0)))))))))
def tb_X4_moves : Lean.RArray am_E := .branch 63 (.branch 29 (.branch 13 (.branch 6 (.branch 2 (.branch 1 (.leaf (0, .aload_n 0, 1, 0, 0, 0, .null)) (.leaf (1, .iload_n 1, 2, 1, 0, 0, .null))) (.branch 5 (.leaf (2, .invokevirtual 236, 5, 79, 0, 0, .null)) (.leaf (5, .istore_n 2, 6, 2, 0, 0, .null)))) (.branch 10 (.branch 7 (.leaf (6, .aload_n 0, 7, 0, 0, 0, .null)) (.leaf (7, .getfield 92, 10, 3, 42, 0, .null))) (.branch 11 (.leaf (10, .iload_n 2, 11, 2, 0, 0, .null)) (.branch 12 (.leaf (11, .iaload, 12, 0, 0, 0, .null)) (.leaf (12, .aload_n 0, 13, 0, 0, 0, .null)))))) (.branch 20 (.branch 17 (.branch 14 (.leaf (13, .iload_n 1, 14, 1, 0, 0, .null)) (.leaf (14, .invokevirtual 219, 17, 76, 0, 0, .null))) (.branch 18 (.leaf (17, .isub, 18, 0, 0, 0, .null)) (.branch 19 (.leaf (18, .istore_n 3, 19, 3, 0, 0, .null)) (.leaf (19, .iload_n 2, 20, 2, 0, 0, .null))))) (.branch 25 (.branch 22 (.leaf (20, .bipush 20, 22, 0, 0, 0, .int 20)) (.leaf (22, .if_icmp .eq 15, 25, 37, 0, 0, .null))) (.branch 26 (.leaf (25, .aload_n 0, 26, 0, 0, 0, .null)) (.branch 28 (.leaf (26, .bipush 20, 28, 0, 0, 0, .int 20)) (.leaf (28, .iload_n 3, 29, 3, 0, 0, .null))))))) (.branch 43 (.branch 34 (.branch 32 (.branch 31 (.leaf (29, .ldc 217, 31, 0, 0, 0, .int 1000000)) (.leaf (31, .iadd, 32, 0, 0, 0, .null))) (.branch 33 (.leaf (32, .iload_n 2, 33, 2, 0, 0, .null)) (.leaf (33, .iload_n 1, 34, 1, 0, 0, .null)))) (.branch 38 (.branch 37 (.leaf (34, .invokevirtual 242, 37, 82, 0, 0, .null)) (.leaf (37, .iconst 0, 38, 0, 0, 0, .int 0))) (.branch 40 (.leaf (38, .istore 4, 40, 4, 0, 0, .null)) (.branch 42 (.leaf (40, .iload 4, 42, 4, 0, 0, .null)) (.leaf (42, .aload_n 0, 43, 0, 0, 0, .null)))))) (.branch 55 (.branch 49 (.branch 46 (.leaf (43, .getfield 181, 46, 3, 33, 0, .null)) (.leaf (46, .if_icmp .ge 83, 49, 129, 0, 0, .null))) (.branch 51 (.leaf (49, .iload 4, 51, 4, 0, 0, .null)) (.branch 52 (.leaf (51, .iload_n 2, 52, 2, 0, 0, .null)) (.leaf (52, .if_icmp .eq 71, 55, 123, 0, 0, .null))))) (.branch 59 (.branch 56 (.leaf (55, .aload_n 0, 56, 0, 0, 0, .null)) (.leaf (56, .getfield 83, 59, 3, 39, 0, .null))) (.branch 61 (.leaf (59, .bipush 20, 61, 0, 0, 0, .int 20)) (.branch 62 (.leaf (61, .iload_n 1, 62, 1, 0, 0, .null)) (.leaf (62, .imul, 63, 0, 0, 0, .null)))))))) (.branch 98 (.branch 79 (.branch 69 (.branch 66 (.branch 65 (.leaf (63, .iload 4, 65, 4, 0, 0, .null)) (.leaf (65, .iadd, 66, 0, 0, 0, .null))) (.branch 67 (.leaf (66, .iaload, 67, 0, 0, 0, .null)) (.leaf (67, .ldc 218, 69, 0, 0, 0, .int 100000000)))) (.branch 73 (.branch 72 (.leaf (69, .if_icmp .eq 54, 72, 123, 0, 0, .null)) (.leaf (72, .aload_n 0, 73, 0, 0, 0, .null))) (.branch 76 (.leaf (73, .getfield 86, 76, 3, 40, 0, .null)) (.branch 78 (.leaf (76, .iload 4, 78, 4, 0, 0, .null)) (.leaf (78, .iaload, 79, 0, 0, 0, .null)))))) (.branch 88 (.branch 83 (.branch 80 (.leaf (79, .iconst (-1), 80, 0, 0, 0, .int (-1))) (.leaf (80, .if_icmp .eq 21, 83, 101, 0, 0, .null))) (.branch 84 (.leaf (83, .aload_n 0, 84, 0, 0, 0, .null)) (.branch 87 (.leaf (84, .getfield 89, 87, 3, 41, 0, .null)) (.leaf (87, .aload_n 0, 88, 0, 0, 0, .null))))) (.branch 93 (.branch 91 (.leaf (88, .getfield 86, 91, 3, 40, 0, .null)) (.leaf (91, .iload 4, 93, 4, 0, 0, .null))) (.branch 94 (.leaf (93, .iaload, 94, 0, 0, 0, .null)) (.branch 95 (.leaf (94, .baload, 95, 0, 0, 0, .null)) (.leaf (95, .ifCond .eq 6, 98, 101, 0, 0, .null))))))) (.branch 113 (.branch 105 (.branch 102 (.branch 101 (.leaf (98, .goto 25, 101, 123, 0, 0, .null)) (.leaf (101, .aload_n 0, 102, 0, 0, 0, .null))) (.branch 104 (.leaf (102, .iload 4, 104, 4, 0, 0, .null)) (.leaf (104, .iload_n 3, 105, 3, 0, 0, .null)))) (.branch 109 (.branch 106 (.leaf (105, .aload_n 0, 106, 0, 0, 0, .null)) (.leaf (106, .getfield 83, 109, 3, 39, 0, .null))) (.branch 111 (.leaf (109, .bipush 20, 111, 0, 0, 0, .int 20)) (.branch 112 (.leaf (111, .iload_n 1, 112, 1, 0, 0, .null)) (.leaf (112, .imul, 113, 0, 0, 0, .null)))))) (.branch 119 (.branch 116 (.branch 115 (.leaf (113, .iload 4, 115, 4, 0, 0, .null)) (.leaf (115, .iadd, 116, 0, 0, 0, .null))) (.branch 117 (.leaf (116, .iaload, 117, 0, 0, 0, .null)) (.branch 118 (.leaf (117, .iadd, 118, 0, 0, 0, .null)) (.leaf (118, .iload_n 2, 119, 2, 0, 0, .null))))) (.branch 123 (.branch 120 (.leaf (119, .iload_n 1, 120, 1, 0, 0, .null)) (.leaf (120, .invokevirtual 242, 123, 82, 0, 0, .null))) (.branch 126 (.leaf (123, .iinc 4 1, 126, 4, 0, 0, .int 1)) (.branch 129 (.leaf (126, .goto (-86), 129, 40, 0, 0, .null)) (.leaf (129, .return_, 130, 0, 0, 0, .int 0))))))))
def tb_X4_offer : Lean.RArray am_E := .branch 19 (.branch 10 (.branch 5 (.branch 1 (.leaf (0, .iload_n 2, 1, 2, 0, 0, .null)) (.branch 2 (.leaf (1, .aload_n 0, 2, 0, 0, 0, .null)) (.leaf (2, .getfield 92, 5, 3, 42, 0, .null)))) (.branch 6 (.leaf (5, .iload_n 1, 6, 1, 0, 0, .null)) (.branch 7 (.leaf (6, .iaload, 7, 0, 0, 0, .null)) (.leaf (7, .if_icmp .lt 4, 10, 11, 0, 0, .null))))) (.branch 15 (.branch 11 (.leaf (10, .return_, 11, 0, 0, 0, .int 0)) (.branch 12 (.leaf (11, .aload_n 0, 12, 0, 0, 0, .null)) (.leaf (12, .getfield 92, 15, 3, 42, 0, .null)))) (.branch 17 (.branch 16 (.leaf (15, .iload_n 1, 16, 1, 0, 0, .null)) (.leaf (16, .iload_n 2, 17, 2, 0, 0, .null))) (.branch 18 (.leaf (17, .iastore, 18, 0, 0, 0, .null)) (.leaf (18, .aload_n 0, 19, 0, 0, 0, .null)))))) (.branch 29 (.branch 24 (.branch 22 (.leaf (19, .getfield 95, 22, 3, 43, 0, .null)) (.branch 23 (.leaf (22, .iload_n 1, 23, 1, 0, 0, .null)) (.leaf (23, .iload_n 3, 24, 3, 0, 0, .null)))) (.branch 25 (.leaf (24, .iastore, 25, 0, 0, 0, .null)) (.branch 26 (.leaf (25, .aload_n 0, 26, 0, 0, 0, .null)) (.leaf (26, .getfield 98, 29, 3, 44, 0, .null))))) (.branch 33 (.branch 30 (.leaf (29, .iload_n 1, 30, 1, 0, 0, .null)) (.branch 32 (.leaf (30, .iload 4, 32, 4, 0, 0, .null)) (.leaf (32, .iastore, 33, 0, 0, 0, .null)))) (.branch 35 (.branch 34 (.leaf (33, .aload_n 0, 34, 0, 0, 0, .null)) (.leaf (34, .iconst 1, 35, 0, 0, 0, .int 1))) (.branch 38 (.leaf (35, .putfield 232, 38, 3, 45, 0, .float 0)) (.leaf (38, .return_, 39, 0, 0, 0, .int 0))))))
def tb_X4_filled : Lean.RArray am_E := .branch 14 (.branch 5 (.branch 2 (.branch 1 (.leaf (0, .iconst 0, 1, 0, 0, 0, .int 0)) (.leaf (1, .istore_n 1, 2, 1, 0, 0, .null))) (.branch 3 (.leaf (2, .iconst 0, 3, 0, 0, 0, .int 0)) (.branch 4 (.leaf (3, .istore_n 2, 4, 2, 0, 0, .null)) (.leaf (4, .iload_n 2, 5, 2, 0, 0, .null))))) (.branch 7 (.branch 6 (.leaf (5, .iconst 2, 6, 0, 0, 0, .int 2)) (.leaf (6, .aload_n 0, 7, 0, 0, 0, .null))) (.branch 10 (.leaf (7, .getfield 184, 10, 3, 34, 0, .null)) (.branch 11 (.leaf (10, .imul, 11, 0, 0, 0, .null)) (.leaf (11, .if_icmp .ge 22, 14, 33, 0, 0, .null)))))) (.branch 21 (.branch 18 (.branch 15 (.leaf (14, .aload_n 0, 15, 0, 0, 0, .null)) (.leaf (15, .getfield 71, 18, 3, 31, 0, .null))) (.branch 19 (.leaf (18, .iload_n 2, 19, 2, 0, 0, .null)) (.branch 20 (.leaf (19, .iaload, 20, 0, 0, 0, .null)) (.leaf (20, .iconst (-1), 21, 0, 0, 0, .int (-1)))))) (.branch 30 (.branch 24 (.leaf (21, .if_icmp .eq 6, 24, 27, 0, 0, .null)) (.branch 27 (.leaf (24, .iinc 1 1, 27, 1, 0, 0, .int 1)) (.leaf (27, .iinc 2 1, 30, 2, 0, 0, .int 1)))) (.branch 33 (.leaf (30, .goto (-26), 33, 4, 0, 0, .null)) (.branch 34 (.leaf (33, .iload_n 1, 34, 1, 0, 0, .null)) (.leaf (34, .ireturn, 35, 0, 0, 0, .int 0))))))
def tb_X4_off : Lean.RArray am_E := .branch 107 (.branch 56 (.branch 28 (.branch 14 (.branch 6 (.branch 2 (.branch 1 (.leaf (0, .aload_n 0, 1, 0, 0, 0, .null)) (.leaf (1, .iconst 0, 2, 0, 0, 0, .int 0))) (.branch 5 (.leaf (2, .putfield 101, 5, 3, 0, 0, .int 0)) (.leaf (5, .aload_n 0, 6, 0, 0, 0, .null)))) (.branch 10 (.branch 7 (.leaf (6, .iload_n 1, 7, 1, 0, 0, .null)) (.leaf (7, .invokevirtual 191, 10, 63, 0, 0, .null))) (.branch 13 (.leaf (10, .ifCond .eq 11, 13, 21, 0, 0, .null)) (.leaf (13, .aload_n 0, 14, 0, 0, 0, .null))))) (.branch 22 (.branch 18 (.branch 15 (.leaf (14, .iload_n 1, 15, 1, 0, 0, .null)) (.leaf (15, .invokevirtual 197, 18, 64, 0, 0, .null))) (.branch 21 (.leaf (18, .goto 4, 21, 22, 0, 0, .null)) (.leaf (21, .iconst (-1), 22, 0, 0, 0, .int (-1))))) (.branch 24 (.branch 23 (.leaf (22, .istore_n 2, 23, 2, 0, 0, .null)) (.leaf (23, .iload_n 2, 24, 2, 0, 0, .null))) (.branch 25 (.leaf (24, .iconst (-1), 25, 0, 0, 0, .int (-1))) (.leaf (25, .if_icmp .eq 10, 28, 35, 0, 0, .null)))))) (.branch 43 (.branch 36 (.branch 32 (.branch 29 (.leaf (28, .aload_n 0, 29, 0, 0, 0, .null)) (.leaf (29, .getfield 250, 32, 3, 36, 0, .null))) (.branch 35 (.leaf (32, .ifCond .le 5, 35, 37, 0, 0, .null)) (.leaf (35, .iconst (-1), 36, 0, 0, 0, .int (-1))))) (.branch 38 (.branch 37 (.leaf (36, .ireturn, 37, 0, 0, 0, .int 0)) (.leaf (37, .aload_n 0, 38, 0, 0, 0, .null))) (.branch 41 (.leaf (38, .getfield 55, 41, 3, 26, 0, .null)) (.leaf (41, .bipush 100, 43, 0, 0, 0, .int 100))))) (.branch 49 (.branch 45 (.branch 44 (.leaf (43, .iload_n 1, 44, 1, 0, 0, .null)) (.leaf (44, .imul, 45, 0, 0, 0, .null))) (.branch 46 (.leaf (45, .aload_n 0, 46, 0, 0, 0, .null)) (.leaf (46, .getfield 194, 49, 3, 35, 0, .null)))) (.branch 51 (.branch 50 (.leaf (49, .iadd, 50, 0, 0, 0, .null)) (.leaf (50, .iconst 1, 51, 0, 0, 0, .int 1))) (.branch 52 (.leaf (51, .bastore, 52, 0, 0, 0, .null)) (.branch 53 (.leaf (52, .aload_n 0, 53, 0, 0, 0, .null)) (.leaf (53, .getfield 71, 56, 3, 31, 0, .null)))))))) (.branch 78 (.branch 66 (.branch 60 (.branch 58 (.branch 57 (.leaf (56, .iload_n 2, 57, 2, 0, 0, .null)) (.leaf (57, .iconst (-1), 58, 0, 0, 0, .int (-1)))) (.branch 59 (.leaf (58, .iastore, 59, 0, 0, 0, .null)) (.leaf (59, .aload_n 0, 60, 0, 0, 0, .null)))) (.branch 64 (.branch 61 (.leaf (60, .iload_n 2, 61, 2, 0, 0, .null)) (.leaf (61, .invokevirtual 259, 64, 85, 0, 0, .null))) (.branch 65 (.leaf (64, .istore_n 3, 65, 3, 0, 0, .null)) (.leaf (65, .iload_n 3, 66, 3, 0, 0, .null))))) (.branch 74 (.branch 70 (.branch 67 (.leaf (66, .iconst (-1), 67, 0, 0, 0, .int (-1))) (.leaf (67, .if_icmp .eq 12, 70, 79, 0, 0, .null))) (.branch 71 (.leaf (70, .aload_n 0, 71, 0, 0, 0, .null)) (.leaf (71, .getfield 71, 74, 3, 31, 0, .null)))) (.branch 76 (.branch 75 (.leaf (74, .iload_n 2, 75, 2, 0, 0, .null)) (.leaf (75, .iload_n 3, 76, 3, 0, 0, .null))) (.branch 77 (.leaf (76, .iastore, 77, 0, 0, 0, .null)) (.leaf (77, .iconst 1, 78, 0, 0, 0, .int 1)))))) (.branch 91 (.branch 84 (.branch 81 (.branch 79 (.leaf (78, .ireturn, 79, 0, 0, 0, .int 0)) (.leaf (79, .ldc 218, 81, 0, 0, 0, .int 100000000))) (.branch 83 (.leaf (81, .istore 4, 83, 4, 0, 0, .null)) (.leaf (83, .iconst (-1), 84, 0, 0, 0, .int (-1))))) (.branch 87 (.branch 86 (.leaf (84, .istore 5, 86, 5, 0, 0, .null)) (.leaf (86, .iconst 0, 87, 0, 0, 0, .int 0))) (.branch 89 (.leaf (87, .istore 6, 89, 6, 0, 0, .null)) (.leaf (89, .iload 6, 91, 6, 0, 0, .null))))) (.branch 97 (.branch 93 (.branch 92 (.leaf (91, .iconst 2, 92, 0, 0, 0, .int 2)) (.leaf (92, .aload_n 0, 93, 0, 0, 0, .null))) (.branch 96 (.leaf (93, .getfield 184, 96, 3, 34, 0, .null)) (.leaf (96, .imul, 97, 0, 0, 0, .null)))) (.branch 101 (.branch 100 (.leaf (97, .if_icmp .ge 99, 100, 196, 0, 0, .null)) (.leaf (100, .aload_n 0, 101, 0, 0, 0, .null))) (.branch 104 (.leaf (101, .getfield 71, 104, 3, 31, 0, .null)) (.branch 106 (.leaf (104, .iload 6, 106, 6, 0, 0, .null)) (.leaf (106, .iaload, 107, 0, 0, 0, .null))))))))) (.branch 172 (.branch 139 (.branch 122 (.branch 115 (.branch 111 (.branch 109 (.leaf (107, .istore 7, 109, 7, 0, 0, .null)) (.leaf (109, .iload 7, 111, 7, 0, 0, .null))) (.branch 112 (.leaf (111, .iconst (-1), 112, 0, 0, 0, .int (-1))) (.leaf (112, .if_icmp .eq 78, 115, 190, 0, 0, .null)))) (.branch 118 (.branch 116 (.leaf (115, .aload_n 0, 116, 0, 0, 0, .null)) (.leaf (116, .iload 7, 118, 7, 0, 0, .null))) (.branch 119 (.leaf (118, .iload_n 2, 119, 2, 0, 0, .null)) (.leaf (119, .invokevirtual 210, 122, 68, 0, 0, .null))))) (.branch 131 (.branch 128 (.branch 125 (.leaf (122, .ifCond .ne 6, 125, 128, 0, 0, .null)) (.leaf (125, .goto 65, 128, 190, 0, 0, .null))) (.branch 129 (.leaf (128, .aload_n 0, 129, 0, 0, 0, .null)) (.leaf (129, .iload 6, 131, 6, 0, 0, .null)))) (.branch 136 (.branch 134 (.leaf (131, .invokevirtual 259, 134, 85, 0, 0, .null)) (.leaf (134, .istore 8, 136, 8, 0, 0, .null))) (.branch 138 (.leaf (136, .iload 8, 138, 8, 0, 0, .null)) (.leaf (138, .iconst (-1), 139, 0, 0, 0, .int (-1))))))) (.branch 155 (.branch 148 (.branch 145 (.branch 142 (.leaf (139, .if_icmp .ne 6, 142, 145, 0, 0, .null)) (.leaf (142, .goto 48, 145, 190, 0, 0, .null))) (.branch 146 (.leaf (145, .aload_n 0, 146, 0, 0, 0, .null)) (.leaf (146, .iload 7, 148, 7, 0, 0, .null)))) (.branch 152 (.branch 149 (.leaf (148, .iload_n 2, 149, 2, 0, 0, .null)) (.leaf (149, .invokevirtual 214, 152, 72, 0, 0, .null))) (.branch 153 (.leaf (152, .aload_n 0, 153, 0, 0, 0, .null)) (.leaf (153, .iload 8, 155, 8, 0, 0, .null))))) (.branch 162 (.branch 160 (.branch 157 (.leaf (155, .iload 6, 157, 6, 0, 0, .null)) (.leaf (157, .invokevirtual 214, 160, 72, 0, 0, .null))) (.branch 161 (.leaf (160, .iadd, 161, 0, 0, 0, .null)) (.leaf (161, .aload_n 0, 162, 0, 0, 0, .null)))) (.branch 166 (.branch 164 (.leaf (162, .iload 7, 164, 7, 0, 0, .null)) (.leaf (164, .iload 6, 166, 6, 0, 0, .null))) (.branch 169 (.leaf (166, .invokevirtual 214, 169, 72, 0, 0, .null)) (.branch 170 (.leaf (169, .isub, 170, 0, 0, 0, .null)) (.leaf (170, .istore 9, 172, 9, 0, 0, .null)))))))) (.branch 207 (.branch 190 (.branch 182 (.branch 176 (.branch 174 (.leaf (172, .iload 9, 174, 9, 0, 0, .null)) (.leaf (174, .iload 4, 176, 4, 0, 0, .null))) (.branch 179 (.leaf (176, .if_icmp .lt 6, 179, 182, 0, 0, .null)) (.leaf (179, .goto 11, 182, 190, 0, 0, .null)))) (.branch 186 (.branch 184 (.leaf (182, .iload 9, 184, 9, 0, 0, .null)) (.leaf (184, .istore 4, 186, 4, 0, 0, .null))) (.branch 188 (.leaf (186, .iload 6, 188, 6, 0, 0, .null)) (.leaf (188, .istore 5, 190, 5, 0, 0, .null))))) (.branch 199 (.branch 196 (.branch 193 (.leaf (190, .iinc 6 1, 193, 6, 0, 0, .int 1)) (.leaf (193, .goto (-104), 196, 89, 0, 0, .null))) (.branch 198 (.leaf (196, .iload 5, 198, 5, 0, 0, .null)) (.leaf (198, .iconst (-1), 199, 0, 0, 0, .int (-1))))) (.branch 203 (.branch 202 (.leaf (199, .if_icmp .ne 5, 202, 204, 0, 0, .null)) (.leaf (202, .iconst 0, 203, 0, 0, 0, .int 0))) (.branch 204 (.leaf (203, .ireturn, 204, 0, 0, 0, .int 0)) (.branch 205 (.leaf (204, .aload_n 0, 205, 0, 0, 0, .null)) (.leaf (205, .iload 5, 207, 5, 0, 0, .null))))))) (.branch 223 (.branch 216 (.branch 212 (.branch 210 (.leaf (207, .invokevirtual 259, 210, 85, 0, 0, .null)) (.leaf (210, .istore 6, 212, 6, 0, 0, .null))) (.branch 213 (.leaf (212, .aload_n 0, 213, 0, 0, 0, .null)) (.leaf (213, .getfield 71, 216, 3, 31, 0, .null)))) (.branch 218 (.branch 217 (.leaf (216, .iload_n 2, 217, 2, 0, 0, .null)) (.leaf (217, .aload_n 0, 218, 0, 0, 0, .null))) (.branch 221 (.leaf (218, .getfield 71, 221, 3, 31, 0, .null)) (.leaf (221, .iload 5, 223, 5, 0, 0, .null))))) (.branch 229 (.branch 225 (.branch 224 (.leaf (223, .iaload, 224, 0, 0, 0, .null)) (.leaf (224, .iastore, 225, 0, 0, 0, .null))) (.branch 226 (.leaf (225, .aload_n 0, 226, 0, 0, 0, .null)) (.leaf (226, .getfield 71, 229, 3, 31, 0, .null)))) (.branch 233 (.branch 231 (.leaf (229, .iload 5, 231, 5, 0, 0, .null)) (.leaf (231, .iload 6, 233, 6, 0, 0, .null))) (.branch 234 (.leaf (233, .iastore, 234, 0, 0, 0, .null)) (.branch 235 (.leaf (234, .iconst 2, 235, 0, 0, 0, .int 2)) (.leaf (235, .ireturn, 236, 0, 0, 0, .int 0)))))))))
def tb_X4_spare : Lean.RArray am_E := .branch 30 (.branch 13 (.branch 4 (.branch 2 (.branch 1 (.leaf (0, .iconst (-1), 1, 0, 0, 0, .int (-1))) (.leaf (1, .istore_n 2, 2, 2, 0, 0, .null))) (.branch 3 (.leaf (2, .iconst 0, 3, 0, 0, 0, .int 0)) (.leaf (3, .istore_n 3, 4, 3, 0, 0, .null)))) (.branch 6 (.branch 5 (.leaf (4, .iload_n 3, 5, 3, 0, 0, .null)) (.leaf (5, .aload_n 0, 6, 0, 0, 0, .null))) (.branch 9 (.leaf (6, .getfield 181, 9, 3, 33, 0, .null)) (.branch 12 (.leaf (9, .if_icmp .ge 49, 12, 58, 0, 0, .null)) (.leaf (12, .aload_n 0, 13, 0, 0, 0, .null)))))) (.branch 21 (.branch 17 (.branch 14 (.leaf (13, .iload_n 3, 14, 3, 0, 0, .null)) (.leaf (14, .invokevirtual 197, 17, 64, 0, 0, .null))) (.branch 18 (.leaf (17, .iconst (-1), 18, 0, 0, 0, .int (-1))) (.leaf (18, .if_icmp .ne 34, 21, 52, 0, 0, .null)))) (.branch 23 (.branch 22 (.leaf (21, .aload_n 0, 22, 0, 0, 0, .null)) (.leaf (22, .iload_n 3, 23, 3, 0, 0, .null))) (.branch 24 (.leaf (23, .iload_n 1, 24, 1, 0, 0, .null)) (.branch 27 (.leaf (24, .invokevirtual 210, 27, 68, 0, 0, .null)) (.leaf (27, .ifCond .eq 25, 30, 52, 0, 0, .null))))))) (.branch 43 (.branch 36 (.branch 32 (.branch 31 (.leaf (30, .iload_n 2, 31, 2, 0, 0, .null)) (.leaf (31, .iconst (-1), 32, 0, 0, 0, .int (-1)))) (.branch 35 (.leaf (32, .if_icmp .eq 18, 35, 50, 0, 0, .null)) (.leaf (35, .aload_n 0, 36, 0, 0, 0, .null)))) (.branch 38 (.branch 37 (.leaf (36, .iload_n 3, 37, 3, 0, 0, .null)) (.leaf (37, .iload_n 1, 38, 1, 0, 0, .null))) (.branch 41 (.leaf (38, .invokevirtual 214, 41, 72, 0, 0, .null)) (.branch 42 (.leaf (41, .aload_n 0, 42, 0, 0, 0, .null)) (.leaf (42, .iload_n 2, 43, 2, 0, 0, .null)))))) (.branch 51 (.branch 47 (.branch 44 (.leaf (43, .iload_n 1, 44, 1, 0, 0, .null)) (.leaf (44, .invokevirtual 214, 47, 72, 0, 0, .null))) (.branch 50 (.leaf (47, .if_icmp .ge 5, 50, 52, 0, 0, .null)) (.leaf (50, .iload_n 3, 51, 3, 0, 0, .null)))) (.branch 55 (.branch 52 (.leaf (51, .istore_n 2, 52, 2, 0, 0, .null)) (.leaf (52, .iinc 3 1, 55, 3, 0, 0, .int 1))) (.branch 58 (.leaf (55, .goto (-51), 58, 4, 0, 0, .null)) (.branch 59 (.leaf (58, .iload_n 2, 59, 2, 0, 0, .null)) (.leaf (59, .ireturn, 60, 0, 0, 0, .int 0)))))))
def tb_X4_seat : Lean.RArray am_E := .branch 13 (.branch 5 (.branch 1 (.leaf (0, .aload_n 0, 1, 0, 0, 0, .null)) (.branch 2 (.leaf (1, .iconst 0, 2, 0, 0, 0, .int 0)) (.leaf (2, .putfield 101, 5, 3, 0, 0, .int 0)))) (.branch 7 (.branch 6 (.leaf (5, .aload_n 0, 6, 0, 0, 0, .null)) (.leaf (6, .iload_n 1, 7, 1, 0, 0, .null))) (.branch 10 (.leaf (7, .invokevirtual 207, 10, 67, 0, 0, .null)) (.leaf (10, .ifCond .eq 12, 13, 22, 0, 0, .null))))) (.branch 18 (.branch 14 (.leaf (13, .aload_n 0, 14, 0, 0, 0, .null)) (.branch 17 (.leaf (14, .getfield 71, 17, 3, 31, 0, .null)) (.leaf (17, .iload_n 1, 18, 1, 0, 0, .null)))) (.branch 22 (.branch 19 (.leaf (18, .iaload, 19, 0, 0, 0, .null)) (.leaf (19, .goto 4, 22, 23, 0, 0, .null))) (.branch 23 (.leaf (22, .iconst (-1), 23, 0, 0, 0, .int (-1))) (.leaf (23, .ireturn, 24, 0, 0, 0, .int 0)))))
def tb_X4_mark : Lean.RArray am_E := .branch 79 (.branch 42 (.branch 19 (.branch 7 (.branch 2 (.branch 1 (.leaf (0, .aload_n 0, 1, 0, 0, 0, .null)) (.leaf (1, .iconst 0, 2, 0, 0, 0, .int 0))) (.branch 5 (.leaf (2, .putfield 101, 5, 3, 0, 0, .int 0)) (.branch 6 (.leaf (5, .aload_n 0, 6, 0, 0, 0, .null)) (.leaf (6, .iload_n 1, 7, 1, 0, 0, .null))))) (.branch 14 (.branch 10 (.leaf (7, .invokevirtual 207, 10, 67, 0, 0, .null)) (.branch 13 (.leaf (10, .ifCond .eq 46, 13, 56, 0, 0, .null)) (.leaf (13, .aload_n 0, 14, 0, 0, 0, .null)))) (.branch 17 (.leaf (14, .getfield 71, 17, 3, 31, 0, .null)) (.branch 18 (.leaf (17, .iload_n 1, 18, 1, 0, 0, .null)) (.leaf (18, .iaload, 19, 0, 0, 0, .null)))))) (.branch 29 (.branch 24 (.branch 20 (.leaf (19, .iconst (-1), 20, 0, 0, 0, .int (-1))) (.branch 23 (.leaf (20, .if_icmp .eq 36, 23, 56, 0, 0, .null)) (.leaf (23, .iload_n 2, 24, 2, 0, 0, .null)))) (.branch 25 (.leaf (24, .iconst 0, 25, 0, 0, 0, .int 0)) (.branch 26 (.leaf (25, .iconst 1, 26, 0, 0, 0, .int 1)) (.leaf (26, .invokestatic 187, 29, 61, 0, 0, .null))))) (.branch 34 (.branch 32 (.leaf (29, .ifCond .eq 27, 32, 56, 0, 0, .null)) (.branch 33 (.leaf (32, .iload_n 3, 33, 3, 0, 0, .null)) (.leaf (33, .iconst 0, 34, 0, 0, 0, .int 0)))) (.branch 36 (.leaf (34, .bipush 100, 36, 0, 0, 0, .int 100)) (.branch 39 (.leaf (36, .invokestatic 187, 39, 61, 0, 0, .null)) (.leaf (39, .ifCond .eq 17, 42, 56, 0, 0, .null))))))) (.branch 57 (.branch 49 (.branch 46 (.branch 43 (.leaf (42, .aload_n 0, 43, 0, 0, 0, .null)) (.leaf (43, .getfield 74, 46, 3, 32, 0, .null))) (.branch 47 (.leaf (46, .iload_n 1, 47, 1, 0, 0, .null)) (.branch 48 (.leaf (47, .iaload, 48, 0, 0, 0, .null)) (.leaf (48, .iload_n 2, 49, 2, 0, 0, .null))))) (.branch 52 (.branch 50 (.leaf (49, .ishr, 50, 0, 0, 0, .null)) (.branch 51 (.leaf (50, .iconst 1, 51, 0, 0, 0, .int 1)) (.leaf (51, .iand, 52, 0, 0, 0, .null)))) (.branch 53 (.leaf (52, .iconst 1, 53, 0, 0, 0, .int 1)) (.branch 56 (.leaf (53, .if_icmp .ne 5, 56, 58, 0, 0, .null)) (.leaf (56, .iconst 0, 57, 0, 0, 0, .int 0)))))) (.branch 66 (.branch 62 (.branch 58 (.leaf (57, .ireturn, 58, 0, 0, 0, .float 0)) (.branch 59 (.leaf (58, .aload_n 0, 59, 0, 0, 0, .null)) (.leaf (59, .getfield 71, 62, 3, 31, 0, .null)))) (.branch 63 (.leaf (62, .iload_n 1, 63, 1, 0, 0, .null)) (.branch 64 (.leaf (63, .iaload, 64, 0, 0, 0, .null)) (.leaf (64, .istore 5, 66, 5, 0, 0, .null))))) (.branch 72 (.branch 67 (.leaf (66, .aload_n 0, 67, 0, 0, 0, .null)) (.branch 70 (.leaf (67, .getfield 13, 70, 3, 3, 0, .null)) (.leaf (70, .iload 4, 72, 4, 0, 0, .null)))) (.branch 75 (.leaf (72, .ifCond .eq 7, 75, 79, 0, 0, .null)) (.branch 76 (.leaf (75, .iconst 4, 76, 0, 0, 0, .int 4)) (.leaf (76, .goto 4, 79, 80, 0, 0, .null)))))))) (.branch 110 (.branch 93 (.branch 87 (.branch 81 (.branch 80 (.leaf (79, .iconst 5, 80, 0, 0, 0, .int 5)) (.leaf (80, .iaload, 81, 0, 0, 0, .null))) (.branch 83 (.leaf (81, .istore 6, 83, 6, 0, 0, .null)) (.branch 84 (.leaf (83, .aload_n 0, 84, 0, 0, 0, .null)) (.leaf (84, .getfield 74, 87, 3, 32, 0, .null))))) (.branch 90 (.branch 88 (.leaf (87, .iload_n 1, 88, 1, 0, 0, .null)) (.branch 89 (.leaf (88, .dup2, 89, 0, 0, 0, .null)) (.leaf (89, .iaload, 90, 0, 0, 0, .null)))) (.branch 91 (.leaf (90, .iconst 1, 91, 0, 0, 0, .int 1)) (.branch 92 (.leaf (91, .iload_n 2, 92, 2, 0, 0, .null)) (.leaf (92, .ishl, 93, 0, 0, 0, .null)))))) (.branch 102 (.branch 96 (.branch 94 (.leaf (93, .ior, 94, 0, 0, 0, .null)) (.branch 95 (.leaf (94, .iastore, 95, 0, 0, 0, .null)) (.leaf (95, .aload_n 0, 96, 0, 0, 0, .null)))) (.branch 99 (.leaf (96, .getfield 40, 99, 3, 21, 0, .null)) (.branch 101 (.leaf (99, .iload 5, 101, 5, 0, 0, .null)) (.leaf (101, .dup2, 102, 0, 0, 0, .null))))) (.branch 105 (.branch 103 (.leaf (102, .iaload, 103, 0, 0, 0, .null)) (.branch 104 (.leaf (103, .iconst 1, 104, 0, 0, 0, .int 1)) (.leaf (104, .iadd, 105, 0, 0, 0, .null)))) (.branch 106 (.leaf (105, .iastore, 106, 0, 0, 0, .null)) (.branch 107 (.leaf (106, .aload_n 0, 107, 0, 0, 0, .null)) (.leaf (107, .getfield 43, 110, 3, 22, 0, .null))))))) (.branch 128 (.branch 118 (.branch 114 (.branch 112 (.leaf (110, .iload 5, 112, 5, 0, 0, .null)) (.branch 113 (.leaf (112, .dup2, 113, 0, 0, 0, .null)) (.leaf (113, .iaload, 114, 0, 0, 0, .null)))) (.branch 116 (.leaf (114, .iload 6, 116, 6, 0, 0, .null)) (.branch 117 (.leaf (116, .iadd, 117, 0, 0, 0, .null)) (.leaf (117, .iastore, 118, 0, 0, 0, .null))))) (.branch 124 (.branch 119 (.leaf (118, .aload_n 0, 119, 0, 0, 0, .null)) (.branch 122 (.leaf (119, .getfield 46, 122, 3, 23, 0, .null)) (.leaf (122, .iload 5, 124, 5, 0, 0, .null)))) (.branch 125 (.leaf (124, .dup2, 125, 0, 0, 0, .null)) (.branch 126 (.leaf (125, .iaload, 126, 0, 0, 0, .null)) (.leaf (126, .iload 6, 128, 6, 0, 0, .null)))))) (.branch 134 (.branch 131 (.branch 129 (.leaf (128, .iload_n 3, 129, 3, 0, 0, .null)) (.branch 130 (.leaf (129, .imul, 130, 0, 0, 0, .null)) (.leaf (130, .iadd, 131, 0, 0, 0, .null)))) (.branch 132 (.leaf (131, .iastore, 132, 0, 0, 0, .null)) (.branch 133 (.leaf (132, .aload_n 0, 133, 0, 0, 0, .null)) (.leaf (133, .dup, 134, 0, 0, 0, .null))))) (.branch 139 (.branch 137 (.leaf (134, .getfield 250, 137, 3, 36, 0, .null)) (.branch 138 (.leaf (137, .iconst 1, 138, 0, 0, 0, .int 1)) (.leaf (138, .iadd, 139, 0, 0, 0, .null)))) (.branch 142 (.leaf (139, .putfield 250, 142, 3, 36, 0, .int 0)) (.branch 143 (.leaf (142, .iconst 1, 143, 0, 0, 0, .int 1)) (.leaf (143, .ireturn, 144, 0, 0, 0, .float 0))))))))
def tb_X4_next : Lean.RArray am_E := .branch 140 (.branch 68 (.branch 34 (.branch 17 (.branch 9 (.branch 2 (.branch 1 (.leaf (0, .aload_n 0, 1, 0, 0, 0, .null)) (.leaf (1, .iconst 0, 2, 0, 0, 0, .int 0))) (.branch 5 (.leaf (2, .putfield 101, 5, 3, 0, 0, .int 0)) (.branch 6 (.leaf (5, .aload_n 0, 6, 0, 0, 0, .null)) (.leaf (6, .getfield 194, 9, 3, 35, 0, .null))))) (.branch 14 (.branch 11 (.leaf (9, .bipush 99, 11, 0, 0, 0, .int 99)) (.leaf (11, .if_icmp .ne 5, 14, 16, 0, 0, .null))) (.branch 15 (.leaf (14, .iconst (-1), 15, 0, 0, 0, .int (-1))) (.branch 16 (.leaf (15, .ireturn, 16, 0, 0, 0, .int 0)) (.leaf (16, .iconst 0, 17, 0, 0, 0, .int 0)))))) (.branch 24 (.branch 19 (.branch 18 (.leaf (17, .istore_n 1, 18, 1, 0, 0, .null)) (.leaf (18, .iload_n 1, 19, 1, 0, 0, .null))) (.branch 20 (.leaf (19, .iconst 2, 20, 0, 0, 0, .int 2)) (.branch 21 (.leaf (20, .aload_n 0, 21, 0, 0, 0, .null)) (.leaf (21, .getfield 184, 24, 3, 34, 0, .null))))) (.branch 29 (.branch 25 (.leaf (24, .imul, 25, 0, 0, 0, .null)) (.branch 28 (.leaf (25, .if_icmp .ge 64, 28, 89, 0, 0, .null)) (.leaf (28, .aload_n 0, 29, 0, 0, 0, .null)))) (.branch 32 (.leaf (29, .getfield 71, 32, 3, 31, 0, .null)) (.branch 33 (.leaf (32, .iload_n 1, 33, 1, 0, 0, .null)) (.leaf (33, .iaload, 34, 0, 0, 0, .null))))))) (.branch 53 (.branch 45 (.branch 38 (.branch 35 (.leaf (34, .iconst (-1), 35, 0, 0, 0, .int (-1))) (.leaf (35, .if_icmp .ne 6, 38, 41, 0, 0, .null))) (.branch 41 (.leaf (38, .goto 45, 41, 83, 0, 0, .null)) (.branch 42 (.leaf (41, .aload_n 0, 42, 0, 0, 0, .null)) (.leaf (42, .getfield 52, 45, 3, 25, 0, .null))))) (.branch 48 (.branch 47 (.leaf (45, .bipush 100, 47, 0, 0, 0, .int 100)) (.leaf (47, .aload_n 0, 48, 0, 0, 0, .null))) (.branch 51 (.leaf (48, .getfield 71, 51, 3, 31, 0, .null)) (.branch 52 (.leaf (51, .iload_n 1, 52, 1, 0, 0, .null)) (.leaf (52, .iaload, 53, 0, 0, 0, .null)))))) (.branch 60 (.branch 55 (.branch 54 (.leaf (53, .imul, 54, 0, 0, 0, .null)) (.leaf (54, .aload_n 0, 55, 0, 0, 0, .null))) (.branch 58 (.leaf (55, .getfield 194, 58, 3, 35, 0, .null)) (.branch 59 (.leaf (58, .iadd, 59, 0, 0, 0, .null)) (.leaf (59, .aload_n 0, 60, 0, 0, 0, .null))))) (.branch 65 (.branch 63 (.leaf (60, .getfield 65, 63, 3, 29, 0, .null)) (.branch 64 (.leaf (63, .iload_n 1, 64, 1, 0, 0, .null)) (.leaf (64, .iconst 2, 65, 0, 0, 0, .int 2)))) (.branch 66 (.leaf (65, .idiv, 66, 0, 0, 0, .null)) (.branch 67 (.leaf (66, .iaload, 67, 0, 0, 0, .null)) (.leaf (67, .iastore, 68, 0, 0, 0, .null)))))))) (.branch 103 (.branch 82 (.branch 77 (.branch 72 (.branch 69 (.leaf (68, .aload_n 0, 69, 0, 0, 0, .null)) (.leaf (69, .getfield 49, 72, 3, 24, 0, .null))) (.branch 73 (.leaf (72, .aload_n 0, 73, 0, 0, 0, .null)) (.branch 76 (.leaf (73, .getfield 71, 76, 3, 31, 0, .null)) (.leaf (76, .iload_n 1, 77, 1, 0, 0, .null))))) (.branch 79 (.branch 78 (.leaf (77, .iaload, 78, 0, 0, 0, .null)) (.leaf (78, .dup2, 79, 0, 0, 0, .null))) (.branch 80 (.leaf (79, .iaload, 80, 0, 0, 0, .null)) (.branch 81 (.leaf (80, .iconst 1, 81, 0, 0, 0, .int 1)) (.leaf (81, .iadd, 82, 0, 0, 0, .null)))))) (.branch 91 (.branch 86 (.branch 83 (.leaf (82, .iastore, 83, 0, 0, 0, .null)) (.leaf (83, .iinc 1 1, 86, 1, 0, 0, .int 1))) (.branch 89 (.leaf (86, .goto (-68), 89, 18, 0, 0, .null)) (.branch 90 (.leaf (89, .iconst 0, 90, 0, 0, 0, .int 0)) (.leaf (90, .istore_n 1, 91, 1, 0, 0, .null))))) (.branch 96 (.branch 92 (.leaf (91, .iload_n 1, 92, 1, 0, 0, .null)) (.branch 93 (.leaf (92, .aload_n 0, 93, 0, 0, 0, .null)) (.leaf (93, .getfield 181, 96, 3, 33, 0, .null)))) (.branch 99 (.leaf (96, .if_icmp .ge 157, 99, 253, 0, 0, .null)) (.branch 100 (.leaf (99, .aload_n 0, 100, 0, 0, 0, .null)) (.leaf (100, .getfield 40, 103, 3, 21, 0, .null))))))) (.branch 121 (.branch 111 (.branch 105 (.branch 104 (.leaf (103, .iload_n 1, 104, 1, 0, 0, .null)) (.leaf (104, .iaload, 105, 0, 0, 0, .null))) (.branch 106 (.leaf (105, .aload_n 0, 106, 0, 0, 0, .null)) (.branch 109 (.leaf (106, .getfield 13, 109, 3, 3, 0, .null)) (.leaf (109, .bipush 8, 111, 0, 0, 0, .int 8))))) (.branch 116 (.branch 112 (.leaf (111, .iaload, 112, 0, 0, 0, .null)) (.branch 115 (.leaf (112, .if_icmp .lt 135, 115, 247, 0, 0, .null)) (.leaf (115, .aload_n 0, 116, 0, 0, 0, .null)))) (.branch 119 (.leaf (116, .getfield 43, 119, 3, 22, 0, .null)) (.branch 120 (.leaf (119, .iload_n 1, 120, 1, 0, 0, .null)) (.leaf (120, .iaload, 121, 0, 0, 0, .null)))))) (.branch 132 (.branch 127 (.branch 124 (.leaf (121, .ifCond .ne 6, 124, 127, 0, 0, .null)) (.leaf (124, .goto 123, 127, 247, 0, 0, .null))) (.branch 128 (.leaf (127, .aload_n 0, 128, 0, 0, 0, .null)) (.branch 131 (.leaf (128, .getfield 34, 131, 3, 19, 0, .null)) (.leaf (131, .iload_n 1, 132, 1, 0, 0, .null))))) (.branch 135 (.branch 133 (.leaf (132, .iaload, 133, 0, 0, 0, .null)) (.branch 134 (.leaf (133, .istore_n 2, 134, 2, 0, 0, .null)) (.leaf (134, .aload_n 0, 135, 0, 0, 0, .null)))) (.branch 138 (.leaf (135, .getfield 46, 138, 3, 23, 0, .null)) (.branch 139 (.leaf (138, .iload_n 1, 139, 1, 0, 0, .null)) (.leaf (139, .iaload, 140, 0, 0, 0, .null))))))))) (.branch 209 (.branch 172 (.branch 157 (.branch 148 (.branch 144 (.branch 141 (.leaf (140, .aload_n 0, 141, 0, 0, 0, .null)) (.leaf (141, .getfield 13, 144, 3, 3, 0, .null))) (.branch 146 (.leaf (144, .bipush 6, 146, 0, 0, 0, .int 6)) (.branch 147 (.leaf (146, .iaload, 147, 0, 0, 0, .null)) (.leaf (147, .aload_n 0, 148, 0, 0, 0, .null))))) (.branch 152 (.branch 151 (.leaf (148, .getfield 43, 151, 3, 22, 0, .null)) (.leaf (151, .iload_n 1, 152, 1, 0, 0, .null))) (.branch 153 (.leaf (152, .iaload, 153, 0, 0, 0, .null)) (.branch 154 (.leaf (153, .imul, 154, 0, 0, 0, .null)) (.leaf (154, .if_icmp .lt 21, 157, 175, 0, 0, .null)))))) (.branch 166 (.branch 159 (.branch 158 (.leaf (157, .iload_n 2, 158, 2, 0, 0, .null)) (.leaf (158, .iconst 1, 159, 0, 0, 0, .int 1))) (.branch 162 (.leaf (159, .if_icmp .le 16, 162, 175, 0, 0, .null)) (.branch 163 (.leaf (162, .aload_n 0, 163, 0, 0, 0, .null)) (.leaf (163, .getfield 34, 166, 3, 19, 0, .null))))) (.branch 169 (.branch 167 (.leaf (166, .iload_n 1, 167, 1, 0, 0, .null)) (.branch 168 (.leaf (167, .dup2, 168, 0, 0, 0, .null)) (.leaf (168, .iaload, 169, 0, 0, 0, .null)))) (.branch 170 (.leaf (169, .iconst 1, 170, 0, 0, 0, .int 1)) (.branch 171 (.leaf (170, .isub, 171, 0, 0, 0, .null)) (.leaf (171, .iastore, 172, 0, 0, 0, .null))))))) (.branch 192 (.branch 181 (.branch 176 (.branch 175 (.leaf (172, .goto 41, 175, 213, 0, 0, .null)) (.leaf (175, .aload_n 0, 176, 0, 0, 0, .null))) (.branch 179 (.leaf (176, .getfield 46, 179, 3, 23, 0, .null)) (.branch 180 (.leaf (179, .iload_n 1, 180, 1, 0, 0, .null)) (.leaf (180, .iaload, 181, 0, 0, 0, .null))))) (.branch 187 (.branch 182 (.leaf (181, .aload_n 0, 182, 0, 0, 0, .null)) (.branch 185 (.leaf (182, .getfield 13, 185, 3, 3, 0, .null)) (.leaf (185, .bipush 7, 187, 0, 0, 0, .int 7)))) (.branch 188 (.leaf (187, .iaload, 188, 0, 0, 0, .null)) (.branch 189 (.leaf (188, .aload_n 0, 189, 0, 0, 0, .null)) (.leaf (189, .getfield 43, 192, 3, 22, 0, .null)))))) (.branch 199 (.branch 194 (.branch 193 (.leaf (192, .iload_n 1, 193, 1, 0, 0, .null)) (.leaf (193, .iaload, 194, 0, 0, 0, .null))) (.branch 195 (.leaf (194, .imul, 195, 0, 0, 0, .null)) (.branch 198 (.leaf (195, .if_icmp .gt 18, 198, 213, 0, 0, .null)) (.leaf (198, .iload_n 2, 199, 2, 0, 0, .null))))) (.branch 204 (.branch 200 (.leaf (199, .iconst 4, 200, 0, 0, 0, .int 4)) (.branch 203 (.leaf (200, .if_icmp .ge 13, 203, 213, 0, 0, .null)) (.leaf (203, .aload_n 0, 204, 0, 0, 0, .null)))) (.branch 207 (.leaf (204, .getfield 34, 207, 3, 19, 0, .null)) (.branch 208 (.leaf (207, .iload_n 1, 208, 1, 0, 0, .null)) (.leaf (208, .dup2, 209, 0, 0, 0, .null)))))))) (.branch 240 (.branch 223 (.branch 214 (.branch 211 (.branch 210 (.leaf (209, .iaload, 210, 0, 0, 0, .null)) (.leaf (210, .iconst 1, 211, 0, 0, 0, .int 1))) (.branch 212 (.leaf (211, .iadd, 212, 0, 0, 0, .null)) (.branch 213 (.leaf (212, .iastore, 213, 0, 0, 0, .null)) (.leaf (213, .aload_n 0, 214, 0, 0, 0, .null))))) (.branch 218 (.branch 217 (.leaf (214, .getfield 34, 217, 3, 19, 0, .null)) (.leaf (217, .iload_n 1, 218, 1, 0, 0, .null))) (.branch 219 (.leaf (218, .iaload, 219, 0, 0, 0, .null)) (.branch 220 (.leaf (219, .iload_n 2, 220, 2, 0, 0, .null)) (.leaf (220, .if_icmp .ne 6, 223, 226, 0, 0, .null)))))) (.branch 232 (.branch 227 (.branch 226 (.leaf (223, .goto 24, 226, 247, 0, 0, .null)) (.leaf (226, .aload_n 0, 227, 0, 0, 0, .null))) (.branch 230 (.leaf (227, .getfield 40, 230, 3, 21, 0, .null)) (.branch 231 (.leaf (230, .iload_n 1, 231, 1, 0, 0, .null)) (.leaf (231, .iconst 0, 232, 0, 0, 0, .int 0))))) (.branch 237 (.branch 233 (.leaf (232, .iastore, 233, 0, 0, 0, .null)) (.branch 234 (.leaf (233, .aload_n 0, 234, 0, 0, 0, .null)) (.leaf (234, .getfield 43, 237, 3, 22, 0, .null)))) (.branch 238 (.leaf (237, .iload_n 1, 238, 1, 0, 0, .null)) (.branch 239 (.leaf (238, .iconst 0, 239, 0, 0, 0, .int 0)) (.leaf (239, .iastore, 240, 0, 0, 0, .null))))))) (.branch 259 (.branch 247 (.branch 244 (.branch 241 (.leaf (240, .aload_n 0, 241, 0, 0, 0, .null)) (.leaf (241, .getfield 46, 244, 3, 23, 0, .null))) (.branch 245 (.leaf (244, .iload_n 1, 245, 1, 0, 0, .null)) (.branch 246 (.leaf (245, .iconst 0, 246, 0, 0, 0, .int 0)) (.leaf (246, .iastore, 247, 0, 0, 0, .null))))) (.branch 254 (.branch 250 (.leaf (247, .iinc 1 1, 250, 1, 0, 0, .int 1)) (.branch 253 (.leaf (250, .goto (-159), 253, 91, 0, 0, .null)) (.leaf (253, .aload_n 0, 254, 0, 0, 0, .null)))) (.branch 255 (.leaf (254, .iconst 0, 255, 0, 0, 0, .int 0)) (.branch 258 (.leaf (255, .putfield 184, 258, 3, 34, 0, .int 0)) (.leaf (258, .aload_n 0, 259, 0, 0, 0, .null)))))) (.branch 268 (.branch 263 (.branch 260 (.leaf (259, .iconst 0, 260, 0, 0, 0, .int 0)) (.leaf (260, .putfield 250, 263, 3, 36, 0, .int 0))) (.branch 264 (.leaf (263, .aload_n 0, 264, 0, 0, 0, .null)) (.branch 265 (.leaf (264, .dup, 265, 0, 0, 0, .null)) (.leaf (265, .getfield 194, 268, 3, 35, 0, .null))))) (.branch 273 (.branch 269 (.leaf (268, .iconst 1, 269, 0, 0, 0, .int 1)) (.branch 270 (.leaf (269, .iadd, 270, 0, 0, 0, .null)) (.leaf (270, .putfield 194, 273, 3, 35, 0, .int 0)))) (.branch 274 (.leaf (273, .aload_n 0, 274, 0, 0, 0, .null)) (.branch 277 (.leaf (274, .getfield 194, 277, 3, 35, 0, .null)) (.leaf (277, .ireturn, 278, 0, 0, 0, .int 0)))))))))
def tb_X4_about : Lean.RArray am_E := .branch 72 (.branch 21 (.branch 9 (.branch 2 (.branch 1 (.leaf (0, .aload_n 0, 1, 0, 0, 0, .null)) (.leaf (1, .iload_n 1, 2, 1, 0, 0, .null))) (.branch 5 (.leaf (2, .invokevirtual 191, 5, 63, 0, 0, .null)) (.branch 8 (.leaf (5, .ifCond .eq 12, 8, 17, 0, 0, .null)) (.leaf (8, .iload_n 2, 9, 2, 0, 0, .null))))) (.branch 14 (.branch 12 (.leaf (9, .ifCond .lt 8, 12, 17, 0, 0, .null)) (.branch 13 (.leaf (12, .iload_n 2, 13, 2, 0, 0, .null)) (.leaf (13, .iconst 5, 14, 0, 0, 0, .int 5)))) (.branch 17 (.leaf (14, .if_icmp .le 8, 17, 22, 0, 0, .null)) (.branch 18 (.leaf (17, .aload_n 0, 18, 0, 0, 0, .null)) (.leaf (18, .invokevirtual 262, 21, 90, 0, 0, .null)))))) (.branch 64 (.branch 24 (.branch 22 (.leaf (21, .ireturn, 22, 0, 0, 0, .int 0)) (.branch 23 (.leaf (22, .aload_n 0, 23, 0, 0, 0, .null)) (.leaf (23, .iconst 0, 24, 0, 0, 0, .int 0)))) (.branch 27 (.leaf (24, .putfield 101, 27, 3, 0, 0, .int 0)) (.branch 28 (.leaf (27, .iload_n 2, 28, 2, 0, 0, .null)) (.leaf (28, .tableswitch 70 0 4 #[36, 43, 49, 56, 63], 64, 98, 0, 0, .null))))) (.branch 69 (.branch 65 (.leaf (64, .aload_n 0, 65, 0, 0, 0, .null)) (.branch 68 (.leaf (65, .getfield 34, 68, 3, 19, 0, .null)) (.leaf (68, .iload_n 1, 69, 1, 0, 0, .null)))) (.branch 70 (.leaf (69, .iaload, 70, 0, 0, 0, .null)) (.branch 71 (.leaf (70, .ireturn, 71, 0, 0, 0, .int 0)) (.leaf (71, .aload_n 0, 72, 0, 0, 0, .null))))))) (.branch 89 (.branch 81 (.branch 76 (.branch 73 (.leaf (72, .iload_n 1, 73, 1, 0, 0, .null)) (.leaf (73, .invokevirtual 197, 76, 64, 0, 0, .null))) (.branch 77 (.leaf (76, .ireturn, 77, 0, 0, 0, .int 0)) (.branch 78 (.leaf (77, .aload_n 0, 78, 0, 0, 0, .null)) (.leaf (78, .getfield 49, 81, 3, 24, 0, .null))))) (.branch 84 (.branch 82 (.leaf (81, .iload_n 1, 82, 1, 0, 0, .null)) (.branch 83 (.leaf (82, .iaload, 83, 0, 0, 0, .null)) (.leaf (83, .ireturn, 84, 0, 0, 0, .int 0)))) (.branch 85 (.leaf (84, .aload_n 0, 85, 0, 0, 0, .null)) (.branch 88 (.leaf (85, .getfield 40, 88, 3, 21, 0, .null)) (.leaf (88, .iload_n 1, 89, 1, 0, 0, .null)))))) (.branch 97 (.branch 92 (.branch 90 (.leaf (89, .iaload, 90, 0, 0, 0, .null)) (.branch 91 (.leaf (90, .ireturn, 91, 0, 0, 0, .int 0)) (.leaf (91, .aload_n 0, 92, 0, 0, 0, .null)))) (.branch 95 (.leaf (92, .getfield 43, 95, 3, 22, 0, .null)) (.branch 96 (.leaf (95, .iload_n 1, 96, 1, 0, 0, .null)) (.leaf (96, .iaload, 97, 0, 0, 0, .null))))) (.branch 102 (.branch 98 (.leaf (97, .ireturn, 98, 0, 0, 0, .int 0)) (.branch 99 (.leaf (98, .aload_n 0, 99, 0, 0, 0, .null)) (.leaf (99, .getfield 46, 102, 3, 23, 0, .null)))) (.branch 103 (.leaf (102, .iload_n 1, 103, 1, 0, 0, .null)) (.branch 104 (.leaf (103, .iaload, 104, 0, 0, 0, .null)) (.leaf (104, .ireturn, 105, 0, 0, 0, .int 0)))))))
def tb_X4_refuse : Lean.RArray am_E := .branch 2 (.branch 1 (.leaf (0, .aload_n 0, 1, 0, 0, 0, .null)) (.leaf (1, .iconst 1, 2, 0, 0, 0, .int 1))) (.branch 5 (.leaf (2, .putfield 101, 5, 3, 0, 0, .int 0)) (.branch 6 (.leaf (5, .iconst 0, 6, 0, 0, 0, .int 0)) (.leaf (6, .ireturn, 7, 0, 0, 0, .int 0))))
def tb_X4_stood : Lean.RArray am_E := .branch 21 (.branch 10 (.branch 5 (.branch 1 (.leaf (0, .aload_n 0, 1, 0, 0, 0, .null)) (.branch 2 (.leaf (1, .iconst 0, 2, 0, 0, 0, .int 0)) (.leaf (2, .putfield 101, 5, 3, 0, 0, .int 0)))) (.branch 6 (.leaf (5, .aload_n 0, 6, 0, 0, 0, .null)) (.branch 7 (.leaf (6, .iload_n 1, 7, 1, 0, 0, .null)) (.leaf (7, .invokevirtual 191, 10, 63, 0, 0, .null))))) (.branch 15 (.branch 13 (.leaf (10, .ifCond .eq 31, 13, 41, 0, 0, .null)) (.branch 14 (.leaf (13, .iload_n 2, 14, 2, 0, 0, .null)) (.leaf (14, .iconst 0, 15, 0, 0, 0, .int 0)))) (.branch 19 (.branch 16 (.leaf (15, .aload_n 0, 16, 0, 0, 0, .null)) (.leaf (16, .getfield 194, 19, 3, 35, 0, .null))) (.branch 20 (.leaf (19, .iconst 1, 20, 0, 0, 0, .int 1)) (.leaf (20, .isub, 21, 0, 0, 0, .null)))))) (.branch 34 (.branch 28 (.branch 24 (.leaf (21, .invokestatic 187, 24, 61, 0, 0, .null)) (.branch 27 (.leaf (24, .ifCond .eq 17, 27, 41, 0, 0, .null)) (.leaf (27, .aload_n 0, 28, 0, 0, 0, .null)))) (.branch 31 (.leaf (28, .getfield 52, 31, 3, 25, 0, .null)) (.branch 33 (.leaf (31, .bipush 100, 33, 0, 0, 0, .int 100)) (.leaf (33, .iload_n 1, 34, 1, 0, 0, .null))))) (.branch 37 (.branch 35 (.leaf (34, .imul, 35, 0, 0, 0, .null)) (.branch 36 (.leaf (35, .iload_n 2, 36, 2, 0, 0, .null)) (.leaf (36, .iadd, 37, 0, 0, 0, .null)))) (.branch 41 (.branch 38 (.leaf (37, .iaload, 38, 0, 0, 0, .null)) (.leaf (38, .goto 4, 41, 42, 0, 0, .null))) (.branch 42 (.leaf (41, .iconst (-1), 42, 0, 0, 0, .int (-1))) (.leaf (42, .ireturn, 43, 0, 0, 0, .int 0))))))
def tb_X4_together : Lean.RArray am_E := .branch 24 (.branch 10 (.branch 6 (.branch 2 (.branch 1 (.leaf (0, .aload_n 0, 1, 0, 0, 0, .null)) (.leaf (1, .iconst 0, 2, 0, 0, 0, .int 0))) (.branch 5 (.leaf (2, .putfield 101, 5, 3, 0, 0, .int 0)) (.leaf (5, .iconst 0, 6, 0, 0, 0, .int 0)))) (.branch 8 (.branch 7 (.leaf (6, .istore_n 1, 7, 1, 0, 0, .null)) (.leaf (7, .iconst 0, 8, 0, 0, 0, .int 0))) (.branch 9 (.leaf (8, .istore_n 2, 9, 2, 0, 0, .null)) (.leaf (9, .iload_n 2, 10, 2, 0, 0, .null))))) (.branch 16 (.branch 12 (.branch 11 (.leaf (10, .iconst 2, 11, 0, 0, 0, .int 2)) (.leaf (11, .aload_n 0, 12, 0, 0, 0, .null))) (.branch 15 (.leaf (12, .getfield 184, 15, 3, 34, 0, .null)) (.leaf (15, .imul, 16, 0, 0, 0, .null)))) (.branch 20 (.branch 19 (.leaf (16, .if_icmp .ge 33, 19, 49, 0, 0, .null)) (.leaf (19, .aload_n 0, 20, 0, 0, 0, .null))) (.branch 23 (.leaf (20, .getfield 71, 23, 3, 31, 0, .null)) (.leaf (23, .iload_n 2, 24, 2, 0, 0, .null)))))) (.branch 36 (.branch 30 (.branch 26 (.branch 25 (.leaf (24, .iaload, 25, 0, 0, 0, .null)) (.leaf (25, .iconst (-1), 26, 0, 0, 0, .int (-1)))) (.branch 29 (.leaf (26, .if_icmp .eq 17, 29, 43, 0, 0, .null)) (.leaf (29, .iload_n 1, 30, 1, 0, 0, .null)))) (.branch 32 (.branch 31 (.leaf (30, .aload_n 0, 31, 0, 0, 0, .null)) (.leaf (31, .aload_n 0, 32, 0, 0, 0, .null))) (.branch 35 (.leaf (32, .getfield 71, 35, 3, 31, 0, .null)) (.leaf (35, .iload_n 2, 36, 2, 0, 0, .null))))) (.branch 42 (.branch 38 (.branch 37 (.leaf (36, .iaload, 37, 0, 0, 0, .null)) (.leaf (37, .iload_n 2, 38, 2, 0, 0, .null))) (.branch 41 (.leaf (38, .invokevirtual 214, 41, 72, 0, 0, .null)) (.leaf (41, .iadd, 42, 0, 0, 0, .null)))) (.branch 46 (.branch 43 (.leaf (42, .istore_n 1, 43, 1, 0, 0, .null)) (.leaf (43, .iinc 2 1, 46, 2, 0, 0, .int 1))) (.branch 49 (.leaf (46, .goto (-37), 49, 9, 0, 0, .null)) (.branch 50 (.leaf (49, .iload_n 1, 50, 1, 0, 0, .null)) (.leaf (50, .ireturn, 51, 0, 0, 0, .int 0)))))))
def tb_X4_count : Lean.RArray am_E := .branch 55 (.branch 45 (.branch 5 (.branch 1 (.leaf (0, .aload_n 0, 1, 0, 0, 0, .null)) (.branch 2 (.leaf (1, .iconst 0, 2, 0, 0, 0, .int 0)) (.leaf (2, .putfield 101, 5, 3, 0, 0, .int 0)))) (.branch 6 (.leaf (5, .iload_n 1, 6, 1, 0, 0, .null)) (.branch 44 (.leaf (6, .tableswitch 68 0 5 #[38, 43, 48, 53, 58, 63], 44, 74, 0, 0, .null)) (.leaf (44, .aload_n 0, 45, 0, 0, 0, .null))))) (.branch 50 (.branch 48 (.leaf (45, .getfield 194, 48, 3, 35, 0, .null)) (.branch 49 (.leaf (48, .ireturn, 49, 0, 0, 0, .int 0)) (.leaf (49, .aload_n 0, 50, 0, 0, 0, .null)))) (.branch 53 (.leaf (50, .getfield 181, 53, 3, 33, 0, .null)) (.branch 54 (.leaf (53, .ireturn, 54, 0, 0, 0, .int 0)) (.leaf (54, .aload_n 0, 55, 0, 0, 0, .null)))))) (.branch 65 (.branch 60 (.branch 58 (.leaf (55, .getfield 184, 58, 3, 34, 0, .null)) (.branch 59 (.leaf (58, .ireturn, 59, 0, 0, 0, .int 0)) (.leaf (59, .aload_n 0, 60, 0, 0, 0, .null)))) (.branch 63 (.leaf (60, .invokevirtual 256, 63, 83, 0, 0, .null)) (.branch 64 (.leaf (63, .ireturn, 64, 0, 0, 0, .int 0)) (.leaf (64, .aload_n 0, 65, 0, 0, 0, .null))))) (.branch 70 (.branch 68 (.leaf (65, .getfield 250, 68, 3, 36, 0, .null)) (.branch 69 (.leaf (68, .ireturn, 69, 0, 0, 0, .int 0)) (.leaf (69, .aload_n 0, 70, 0, 0, 0, .null)))) (.branch 74 (.branch 73 (.leaf (70, .getfield 105, 73, 3, 2, 0, .null)) (.leaf (73, .ireturn, 74, 0, 0, 0, .int 0))) (.branch 75 (.leaf (74, .iconst (-1), 75, 0, 0, 0, .int (-1))) (.leaf (75, .ireturn, 76, 0, 0, 0, .int 0))))))
def tb_X5_init : Lean.RArray am_E := .branch 25 (.branch 12 (.branch 5 (.branch 1 (.leaf (0, .aload_n 0, 1, 0, 0, 0, .null)) (.branch 4 (.leaf (1, .invokespecial 3, 4, 0, 9, 0, .null)) (.leaf (4, .aload_n 0, 5, 0, 0, 0, .null)))) (.branch 7 (.leaf (5, .bipush 100, 7, 0, 0, 0, .int 100)) (.branch 9 (.leaf (7, .newarray .boolean, 9, 2, 100, 2, .null)) (.leaf (9, .putfield 9, 12, 4, 3, 1, .null))))) (.branch 17 (.branch 13 (.leaf (12, .aload_n 0, 13, 0, 0, 0, .null)) (.branch 15 (.leaf (13, .bipush 100, 15, 0, 0, 0, .int 100)) (.leaf (15, .newarray .int, 17, 0, 100, 3, .null)))) (.branch 21 (.branch 20 (.leaf (17, .putfield 15, 20, 4, 4, 1, .null)) (.leaf (20, .aload_n 0, 21, 0, 0, 0, .null))) (.branch 22 (.leaf (21, .iconst (-1), 22, 0, 0, 0, .int (-1))) (.leaf (22, .putfield 19, 25, 4, 6, 0, .int 0)))))) (.branch 35 (.branch 30 (.branch 26 (.leaf (25, .aload_n 0, 26, 0, 0, 0, .null)) (.branch 27 (.leaf (26, .iload_n 1, 27, 1, 0, 0, .null)) (.leaf (27, .putfield 23, 30, 4, 0, 1, .int 0)))) (.branch 31 (.leaf (30, .aload_n 0, 31, 0, 0, 0, .null)) (.branch 32 (.leaf (31, .iload_n 2, 32, 2, 0, 0, .null)) (.leaf (32, .putfield 26, 35, 4, 1, 1, .int 0))))) (.branch 40 (.branch 36 (.leaf (35, .aload_n 0, 36, 0, 0, 0, .null)) (.branch 37 (.leaf (36, .iload_n 3, 37, 3, 0, 0, .null)) (.leaf (37, .putfield 29, 40, 4, 5, 0, .int 0)))) (.branch 43 (.branch 41 (.leaf (40, .aload_n 0, 41, 0, 0, 0, .null)) (.leaf (41, .iload 4, 43, 4, 0, 0, .null))) (.branch 46 (.leaf (43, .putfield 32, 46, 4, 2, 1, .int 0)) (.leaf (46, .return_, 47, 0, 0, 0, .int 0))))))
def tb_X5_forget : Lean.RArray am_E := .branch 7 (.branch 2 (.branch 1 (.leaf (0, .aload_n 0, 1, 0, 0, 0, .null)) (.leaf (1, .iconst 0, 2, 0, 0, 0, .int 0))) (.branch 5 (.leaf (2, .putfield 35, 5, 4, 8, 0, .int 0)) (.branch 6 (.leaf (5, .aload_n 0, 6, 0, 0, 0, .null)) (.leaf (6, .iconst 0, 7, 0, 0, 0, .int 0))))) (.branch 11 (.branch 10 (.leaf (7, .putfield 38, 10, 4, 9, 0, .int 0)) (.leaf (10, .aload_n 0, 11, 0, 0, 0, .null))) (.branch 12 (.leaf (11, .iconst 0, 12, 0, 0, 0, .int 0)) (.branch 15 (.leaf (12, .putfield 41, 15, 4, 10, 0, .int 0)) (.leaf (15, .return_, 16, 0, 0, 0, .int 0)))))
def tb_X6_init : Lean.RArray am_E := .branch 11 (.branch 5 (.branch 1 (.leaf (0, .aload_n 0, 1, 0, 0, 0, .null)) (.branch 4 (.leaf (1, .invokespecial 1, 4, 0, 9, 0, .null)) (.leaf (4, .aload_n 0, 5, 0, 0, 0, .null)))) (.branch 9 (.branch 6 (.leaf (5, .iload_n 1, 6, 1, 0, 0, .null)) (.leaf (6, .putfield 7, 9, 5, 0, 1, .int 0))) (.branch 10 (.leaf (9, .aload_n 0, 10, 0, 0, 0, .null)) (.leaf (10, .iload_n 2, 11, 2, 0, 0, .null))))) (.branch 19 (.branch 15 (.branch 14 (.leaf (11, .putfield 13, 14, 5, 1, 1, .int 0)) (.leaf (14, .aload_n 0, 15, 0, 0, 0, .null))) (.branch 16 (.leaf (15, .iload_n 3, 16, 3, 0, 0, .null)) (.leaf (16, .putfield 16, 19, 5, 2, 1, .int 0)))) (.branch 22 (.branch 20 (.leaf (19, .aload_n 0, 20, 0, 0, 0, .null)) (.leaf (20, .iload 4, 22, 4, 0, 0, .null))) (.branch 25 (.leaf (22, .putfield 19, 25, 5, 3, 1, .int 0)) (.leaf (25, .return_, 26, 0, 0, 0, .int 0)))))
def tb_J9_bitCount : Lean.RArray am_E := .branch 27 (.branch 14 (.branch 7 (.branch 2 (.branch 1 (.leaf (0, .iload_n 0, 1, 0, 0, 0, .null)) (.leaf (1, .iload_n 0, 2, 0, 0, 0, .null))) (.branch 3 (.leaf (2, .iconst 1, 3, 0, 0, 0, .int 1)) (.branch 4 (.leaf (3, .iushr, 4, 0, 0, 0, .null)) (.leaf (4, .ldc_w 265, 7, 0, 0, 0, .int 1431655765))))) (.branch 9 (.branch 8 (.leaf (7, .iand, 8, 0, 0, 0, .null)) (.leaf (8, .isub, 9, 0, 0, 0, .null))) (.branch 10 (.leaf (9, .istore_n 0, 10, 0, 0, 0, .null)) (.branch 11 (.leaf (10, .iload_n 0, 11, 0, 0, 0, .null)) (.leaf (11, .ldc_w 266, 14, 0, 0, 0, .int 858993459)))))) (.branch 21 (.branch 16 (.branch 15 (.leaf (14, .iand, 15, 0, 0, 0, .null)) (.leaf (15, .iload_n 0, 16, 0, 0, 0, .null))) (.branch 17 (.leaf (16, .iconst 2, 17, 0, 0, 0, .int 2)) (.branch 18 (.leaf (17, .iushr, 18, 0, 0, 0, .null)) (.leaf (18, .ldc_w 266, 21, 0, 0, 0, .int 858993459))))) (.branch 24 (.branch 22 (.leaf (21, .iand, 22, 0, 0, 0, .null)) (.branch 23 (.leaf (22, .iadd, 23, 0, 0, 0, .null)) (.leaf (23, .istore_n 0, 24, 0, 0, 0, .null)))) (.branch 25 (.leaf (24, .iload_n 0, 25, 0, 0, 0, .null)) (.branch 26 (.leaf (25, .iload_n 0, 26, 0, 0, 0, .null)) (.leaf (26, .iconst 4, 27, 0, 0, 0, .int 4))))))) (.branch 40 (.branch 34 (.branch 29 (.branch 28 (.leaf (27, .iushr, 28, 0, 0, 0, .null)) (.leaf (28, .iadd, 29, 0, 0, 0, .null))) (.branch 32 (.leaf (29, .ldc_w 267, 32, 0, 0, 0, .int 252645135)) (.branch 33 (.leaf (32, .iand, 33, 0, 0, 0, .null)) (.leaf (33, .istore_n 0, 34, 0, 0, 0, .null))))) (.branch 36 (.branch 35 (.leaf (34, .iload_n 0, 35, 0, 0, 0, .null)) (.leaf (35, .iload_n 0, 36, 0, 0, 0, .null))) (.branch 38 (.leaf (36, .bipush 8, 38, 0, 0, 0, .int 8)) (.branch 39 (.leaf (38, .iushr, 39, 0, 0, 0, .null)) (.leaf (39, .iadd, 40, 0, 0, 0, .null)))))) (.branch 46 (.branch 42 (.branch 41 (.leaf (40, .istore_n 0, 41, 0, 0, 0, .null)) (.leaf (41, .iload_n 0, 42, 0, 0, 0, .null))) (.branch 43 (.leaf (42, .iload_n 0, 43, 0, 0, 0, .null)) (.branch 45 (.leaf (43, .bipush 16, 45, 0, 0, 0, .int 16)) (.leaf (45, .iushr, 46, 0, 0, 0, .null))))) (.branch 49 (.branch 47 (.leaf (46, .iadd, 47, 0, 0, 0, .null)) (.branch 48 (.leaf (47, .istore_n 0, 48, 0, 0, 0, .null)) (.leaf (48, .iload_n 0, 49, 0, 0, 0, .null)))) (.branch 51 (.leaf (49, .bipush 63, 51, 0, 0, 0, .int 63)) (.branch 52 (.leaf (51, .iand, 52, 0, 0, 0, .null)) (.leaf (52, .ireturn, 53, 0, 0, 0, .int 0)))))))
def am_tbs : Lean.RArray (Lean.RArray am_E) := .branch 49 (.branch 24 (.branch 12 (.branch 6 (.branch 3 (.branch 1 (.leaf (tb_X1_feed)) (.branch 2 (.leaf (tb_X1_four)) (.leaf (tb_X1_end)))) (.branch 4 (.leaf (tb_X1_rules)) (.branch 5 (.leaf (tb_X1_readRules)) (.leaf (tb_X1_nextToken))))) (.branch 9 (.branch 7 (.leaf (tb_X1_peek)) (.branch 8 (.leaf (tb_X1_isLetter)) (.leaf (tb_X1_isDigit)))) (.branch 10 (.leaf (tb_X1_wrong)) (.branch 11 (.leaf (tb_X1_fault)) (.leaf (tb_X1_rule)))))) (.branch 18 (.branch 15 (.branch 13 (.leaf (tb_X1_init)) (.branch 14 (.leaf (tb_X1_umpire)) (.leaf (tb_X1_isIn)))) (.branch 16 (.leaf (tb_X1_away)) (.branch 17 (.leaf (tb_X1_isUmpire)) (.leaf (tb_X1_game))))) (.branch 21 (.branch 19 (.leaf (tb_X1_may)) (.branch 20 (.leaf (tb_X1_isSeat)) (.leaf (tb_X1_mayHave)))) (.branch 22 (.leaf (tb_X1_milesOf)) (.branch 23 (.leaf (tb_X1_isTired)) (.leaf (tb_X1_cost))))))) (.branch 36 (.branch 30 (.branch 27 (.branch 25 (.leaf (tb_X1_costOf)) (.branch 26 (.leaf (tb_X1_send)) (.leaf (tb_X1_sit)))) (.branch 28 (.leaf (tb_X1_solve)) (.branch 29 (.leaf (tb_X1_enter)) (.leaf (tb_X1_holds))))) (.branch 33 (.branch 31 (.leaf (tb_X1_off)) (.branch 32 (.leaf (tb_X1_cheapest)) (.leaf (tb_X1_seat)))) (.branch 34 (.leaf (tb_X1_mark)) (.branch 35 (.leaf (tb_X1_next)) (.leaf (tb_X1_grade)))))) (.branch 42 (.branch 39 (.branch 37 (.leaf (tb_X1_stood)) (.branch 38 (.leaf (tb_X1_together)) (.leaf (tb_X1_count)))) (.branch 40 (.leaf (tb_X1_about)) (.branch 41 (.leaf (tb_X2_is)) (.leaf (tb_X2_init))))) (.branch 45 (.branch 43 (.leaf (tb_X3_init)) (.branch 44 (.leaf (tb_X4_init)) (.leaf (tb_X4_thrown)))) (.branch 47 (.branch 46 (.leaf (tb_X4_feed)) (.leaf (tb_X4_come))) (.branch 48 (.leaf (tb_X4_end)) (.leaf (tb_X4_rules)))))))) (.branch 73 (.branch 61 (.branch 55 (.branch 52 (.branch 50 (.leaf (tb_X4_go)) (.branch 51 (.leaf (tb_X4_isLetter)) (.leaf (tb_X4_isDigit)))) (.branch 53 (.leaf (tb_X4_byteAt)) (.branch 54 (.leaf (tb_X4_readRule)) (.leaf (tb_X4_ruleAtHand))))) (.branch 58 (.branch 56 (.leaf (tb_X4_spelt)) (.branch 57 (.leaf (tb_X4_isKey)) (.leaf (tb_X4_bad)))) (.branch 59 (.leaf (tb_X4_fault)) (.branch 60 (.leaf (tb_X4_rule)) (.leaf (tb_X4_umpire)))))) (.branch 67 (.branch 64 (.branch 62 (.leaf (tb_X4_isIn)) (.branch 63 (.leaf (tb_X4_away)) (.leaf (tb_X4_isUmpire)))) (.branch 65 (.leaf (tb_X4_seatOf)) (.branch 66 (.leaf (tb_X4_game)) (.leaf (tb_X4_may))))) (.branch 70 (.branch 68 (.leaf (tb_X4_isSeat)) (.branch 69 (.leaf (tb_X4_mayHave)) (.leaf (tb_X4_miles)))) (.branch 71 (.leaf (tb_X4_less)) (.branch 72 (.leaf (tb_X4_cost)) (.leaf (tb_X4_costOf))))))) (.branch 85 (.branch 79 (.branch 76 (.branch 74 (.leaf (tb_X4_send)) (.branch 75 (.leaf (tb_X4_settle)) (.leaf (tb_X4_seek)))) (.branch 77 (.leaf (tb_X4_pays)) (.branch 78 (.leaf (tb_X4_change)) (.leaf (tb_X4_lessen))))) (.branch 82 (.branch 80 (.leaf (tb_X4_placeOf)) (.branch 81 (.leaf (tb_X4_ways)) (.leaf (tb_X4_moves)))) (.branch 83 (.leaf (tb_X4_offer)) (.branch 84 (.leaf (tb_X4_filled)) (.leaf (tb_X4_off)))))) (.branch 91 (.branch 88 (.branch 86 (.leaf (tb_X4_spare)) (.branch 87 (.leaf (tb_X4_seat)) (.leaf (tb_X4_mark)))) (.branch 89 (.leaf (tb_X4_next)) (.branch 90 (.leaf (tb_X4_about)) (.leaf (tb_X4_refuse))))) (.branch 94 (.branch 92 (.leaf (tb_X4_stood)) (.branch 93 (.leaf (tb_X4_together)) (.leaf (tb_X4_count)))) (.branch 96 (.branch 95 (.leaf (tb_X5_init)) (.leaf (tb_X5_forget))) (.branch 97 (.leaf (tb_X6_init)) (.leaf (tb_J9_bitCount))))))))
def am_inf : Lean.RArray (Nat × Nat × Nat × Nat × Nat) := .branch 49 (.branch 24 (.branch 12 (.branch 6 (.branch 3 (.branch 1 (.leaf (6, 6, 0, 0, 0)) (.branch 2 (.leaf (3, 2, 0, 0, 0)) (.leaf (2, 2, 0, 0, 0)))) (.branch 4 (.leaf (2, 1, 0, 0, 0)) (.branch 5 (.leaf (5, 1, 0, 0, 0)) (.leaf (4, 1, 0, 0, 0))))) (.branch 9 (.branch 7 (.leaf (1, 1, 0, 0, 0)) (.branch 8 (.leaf (1, 1, 1, 0, 0)) (.leaf (1, 1, 1, 0, 0)))) (.branch 10 (.leaf (2, 2, 0, 0, 0)) (.branch 11 (.leaf (1, 1, 0, 0, 0)) (.leaf (2, 2, 0, 0, 0)))))) (.branch 18 (.branch 15 (.branch 13 (.leaf (2, 1, 2, 0, 0)) (.branch 14 (.leaf (5, 5, 0, 0, 0)) (.leaf (3, 3, 1, 0, 0)))) (.branch 16 (.leaf (4, 4, 0, 0, 0)) (.branch 17 (.leaf (2, 2, 0, 0, 0)) (.leaf (6, 6, 0, 0, 0))))) (.branch 21 (.branch 19 (.leaf (3, 3, 0, 0, 0)) (.branch 20 (.leaf (2, 2, 0, 0, 0)) (.leaf (5, 3, 0, 0, 0)))) (.branch 22 (.leaf (2, 2, 1, 0, 0)) (.branch 23 (.leaf (3, 2, 0, 0, 0)) (.leaf (3, 3, 0, 0, 0))))))) (.branch 36 (.branch 30 (.branch 27 (.branch 25 (.leaf (3, 3, 0, 0, 0)) (.branch 26 (.leaf (8, 1, 0, 0, 0)) (.leaf (3, 3, 0, 0, 0)))) (.branch 28 (.leaf (6, 3, 0, 0, 0)) (.branch 29 (.leaf (9, 3, 0, 0, 0)) (.leaf (9, 6, 0, 0, 0))))) (.branch 33 (.branch 31 (.leaf (9, 2, 0, 0, 0)) (.branch 32 (.leaf (4, 2, 0, 0, 0)) (.leaf (2, 2, 0, 0, 0)))) (.branch 34 (.leaf (7, 5, 0, 0, 0)) (.branch 35 (.leaf (3, 1, 0, 0, 0)) (.leaf (4, 2, 0, 0, 0)))))) (.branch 42 (.branch 39 (.branch 37 (.leaf (3, 3, 0, 0, 0)) (.branch 38 (.leaf (3, 1, 0, 0, 0)) (.leaf (4, 2, 0, 0, 0)))) (.branch 40 (.leaf (4, 3, 0, 0, 0)) (.branch 41 (.leaf (5, 4, 0, 1, 1)) (.leaf (5, 5, 2, 1, 1))))) (.branch 45 (.branch 43 (.leaf (1, 1, 2, 2, 2)) (.branch 44 (.leaf (1, 1, 2, 3, 3)) (.leaf (1, 1, 0, 3, 3)))) (.branch 47 (.branch 46 (.leaf (6, 6, 0, 3, 3)) (.leaf (3, 2, 0, 3, 3))) (.branch 48 (.leaf (2, 2, 0, 3, 3)) (.leaf (3, 1, 0, 3, 3)))))))) (.branch 73 (.branch 61 (.branch 55 (.branch 52 (.branch 50 (.leaf (5, 1, 0, 3, 3)) (.branch 51 (.leaf (1, 1, 1, 3, 3)) (.leaf (1, 1, 1, 3, 3)))) (.branch 53 (.leaf (2, 2, 0, 3, 3)) (.branch 54 (.leaf (2, 1, 0, 3, 3)) (.leaf (1, 1, 0, 3, 3))))) (.branch 58 (.branch 56 (.leaf (6, 4, 1, 3, 3)) (.branch 57 (.leaf (3, 2, 0, 3, 3)) (.leaf (2, 2, 0, 3, 3)))) (.branch 59 (.leaf (1, 1, 0, 3, 3)) (.branch 60 (.leaf (2, 2, 0, 3, 3)) (.leaf (5, 5, 0, 3, 3)))))) (.branch 67 (.branch 64 (.branch 62 (.leaf (3, 3, 1, 3, 3)) (.branch 63 (.leaf (4, 4, 0, 3, 3)) (.leaf (2, 2, 0, 3, 3)))) (.branch 65 (.leaf (3, 2, 0, 3, 3)) (.branch 66 (.leaf (7, 6, 0, 3, 3)) (.leaf (3, 3, 0, 3, 3))))) (.branch 70 (.branch 68 (.leaf (2, 2, 0, 3, 3)) (.branch 69 (.leaf (6, 3, 0, 3, 3)) (.leaf (3, 3, 0, 3, 3)))) (.branch 71 (.leaf (2, 2, 1, 3, 3)) (.branch 72 (.leaf (3, 3, 0, 3, 3)) (.leaf (3, 3, 0, 3, 3))))))) (.branch 85 (.branch 79 (.branch 76 (.branch 74 (.leaf (1, 1, 0, 3, 3)) (.branch 75 (.leaf (4, 1, 0, 3, 3)) (.leaf (7, 2, 0, 3, 3)))) (.branch 77 (.leaf (2, 2, 0, 3, 3)) (.branch 78 (.leaf (5, 2, 0, 3, 3)) (.leaf (7, 3, 0, 3, 3))))) (.branch 82 (.branch 80 (.leaf (2, 2, 0, 3, 3)) (.branch 81 (.leaf (5, 4, 0, 3, 3)) (.leaf (5, 2, 0, 3, 3)))) (.branch 83 (.leaf (5, 5, 0, 3, 3)) (.branch 84 (.leaf (3, 1, 0, 3, 3)) (.leaf (10, 2, 0, 3, 3)))))) (.branch 91 (.branch 88 (.branch 86 (.leaf (4, 2, 0, 3, 3)) (.branch 87 (.leaf (2, 2, 0, 3, 3)) (.leaf (7, 5, 0, 3, 3)))) (.branch 89 (.leaf (3, 1, 0, 3, 3)) (.branch 90 (.leaf (3, 3, 0, 3, 3)) (.leaf (1, 1, 0, 3, 3))))) (.branch 94 (.branch 92 (.leaf (3, 3, 0, 3, 3)) (.branch 93 (.leaf (3, 1, 0, 3, 3)) (.leaf (2, 2, 0, 3, 3)))) (.branch 96 (.branch 95 (.leaf (5, 5, 2, 4, 4)) (.leaf (1, 1, 0, 4, 4))) (.branch 97 (.leaf (5, 5, 2, 5, 5)) (.leaf (1, 1, 1, 7, 99))))))))
def am_isp (k : Nat) : Bool := Nat.beq k 40 || Nat.beq k 42
abbrev k_X1_feed : Nat := 0
abbrev k_X1_four : Nat := 1
abbrev k_X1_end : Nat := 2
abbrev k_X1_rules : Nat := 3
abbrev k_X1_readRules : Nat := 4
abbrev k_X1_nextToken : Nat := 5
abbrev k_X1_peek : Nat := 6
abbrev k_X1_isLetter : Nat := 7
abbrev k_X1_isDigit : Nat := 8
abbrev k_X1_wrong : Nat := 9
abbrev k_X1_fault : Nat := 10
abbrev k_X1_rule : Nat := 11
abbrev k_X1_init : Nat := 12
abbrev k_X1_umpire : Nat := 13
abbrev k_X1_isIn : Nat := 14
abbrev k_X1_away : Nat := 15
abbrev k_X1_isUmpire : Nat := 16
abbrev k_X1_game : Nat := 17
abbrev k_X1_may : Nat := 18
abbrev k_X1_isSeat : Nat := 19
abbrev k_X1_mayHave : Nat := 20
abbrev k_X1_milesOf : Nat := 21
abbrev k_X1_isTired : Nat := 22
abbrev k_X1_cost : Nat := 23
abbrev k_X1_costOf : Nat := 24
abbrev k_X1_send : Nat := 25
abbrev k_X1_sit : Nat := 26
abbrev k_X1_solve : Nat := 27
abbrev k_X1_enter : Nat := 28
abbrev k_X1_holds : Nat := 29
abbrev k_X1_off : Nat := 30
abbrev k_X1_cheapest : Nat := 31
abbrev k_X1_seat : Nat := 32
abbrev k_X1_mark : Nat := 33
abbrev k_X1_next : Nat := 34
abbrev k_X1_grade : Nat := 35
abbrev k_X1_stood : Nat := 36
abbrev k_X1_together : Nat := 37
abbrev k_X1_count : Nat := 38
abbrev k_X1_about : Nat := 39
abbrev k_X2_is : Nat := 40
abbrev k_X2_init : Nat := 41
abbrev k_X3_init : Nat := 42
abbrev k_X4_init : Nat := 43
abbrev k_X4_thrown : Nat := 44
abbrev k_X4_feed : Nat := 45
abbrev k_X4_come : Nat := 46
abbrev k_X4_end : Nat := 47
abbrev k_X4_rules : Nat := 48
abbrev k_X4_go : Nat := 49
abbrev k_X4_isLetter : Nat := 50
abbrev k_X4_isDigit : Nat := 51
abbrev k_X4_byteAt : Nat := 52
abbrev k_X4_readRule : Nat := 53
abbrev k_X4_ruleAtHand : Nat := 54
abbrev k_X4_spelt : Nat := 55
abbrev k_X4_isKey : Nat := 56
abbrev k_X4_bad : Nat := 57
abbrev k_X4_fault : Nat := 58
abbrev k_X4_rule : Nat := 59
abbrev k_X4_umpire : Nat := 60
abbrev k_X4_isIn : Nat := 61
abbrev k_X4_away : Nat := 62
abbrev k_X4_isUmpire : Nat := 63
abbrev k_X4_seatOf : Nat := 64
abbrev k_X4_game : Nat := 65
abbrev k_X4_may : Nat := 66
abbrev k_X4_isSeat : Nat := 67
abbrev k_X4_mayHave : Nat := 68
abbrev k_X4_miles : Nat := 69
abbrev k_X4_less : Nat := 70
abbrev k_X4_cost : Nat := 71
abbrev k_X4_costOf : Nat := 72
abbrev k_X4_send : Nat := 73
abbrev k_X4_settle : Nat := 74
abbrev k_X4_seek : Nat := 75
abbrev k_X4_pays : Nat := 76
abbrev k_X4_change : Nat := 77
abbrev k_X4_lessen : Nat := 78
abbrev k_X4_placeOf : Nat := 79
abbrev k_X4_ways : Nat := 80
abbrev k_X4_moves : Nat := 81
abbrev k_X4_offer : Nat := 82
abbrev k_X4_filled : Nat := 83
abbrev k_X4_off : Nat := 84
abbrev k_X4_spare : Nat := 85
abbrev k_X4_seat : Nat := 86
abbrev k_X4_mark : Nat := 87
abbrev k_X4_next : Nat := 88
abbrev k_X4_about : Nat := 89
abbrev k_X4_refuse : Nat := 90
abbrev k_X4_stood : Nat := 91
abbrev k_X4_together : Nat := 92
abbrev k_X4_count : Nat := 93
abbrev k_X5_init : Nat := 94
abbrev k_X5_forget : Nat := 95
abbrev k_X6_init : Nat := 96
abbrev k_J9_bitCount : Nat := 97
def am_y (k : Nat) : MethodName := match k with
  | 0 => yX1_feed
  | 1 => yX1_four
  | 2 => yX1_end
  | 3 => yX1_rules
  | 4 => yX1_readRules
  | 5 => yX1_nextToken
  | 6 => yX1_peek
  | 7 => yX1_isLetter
  | 8 => yX1_isDigit
  | 9 => yX1_wrong
  | 10 => yX1_fault
  | 11 => yX1_rule
  | 12 => yX1_init
  | 13 => yX1_umpire
  | 14 => yX1_isIn
  | 15 => yX1_away
  | 16 => yX1_isUmpire
  | 17 => yX1_game
  | 18 => yX1_may
  | 19 => yX1_isSeat
  | 20 => yX1_mayHave
  | 21 => yX1_milesOf
  | 22 => yX1_isTired
  | 23 => yX1_cost
  | 24 => yX1_costOf
  | 25 => yX1_send
  | 26 => yX1_sit
  | 27 => yX1_solve
  | 28 => yX1_enter
  | 29 => yX1_holds
  | 30 => yX1_off
  | 31 => yX1_cheapest
  | 32 => yX1_seat
  | 33 => yX1_mark
  | 34 => yX1_next
  | 35 => yX1_grade
  | 36 => yX1_stood
  | 37 => yX1_together
  | 38 => yX1_count
  | 39 => yX1_about
  | 40 => yX2_is
  | 41 => yX2_init
  | 42 => yX3_init
  | 43 => yX4_init
  | 44 => yX4_thrown
  | 45 => yX4_feed
  | 46 => yX4_come
  | 47 => yX4_end
  | 48 => yX4_rules
  | 49 => yX4_go
  | 50 => yX4_isLetter
  | 51 => yX4_isDigit
  | 52 => yX4_byteAt
  | 53 => yX4_readRule
  | 54 => yX4_ruleAtHand
  | 55 => yX4_spelt
  | 56 => yX4_isKey
  | 57 => yX4_bad
  | 58 => yX4_fault
  | 59 => yX4_rule
  | 60 => yX4_umpire
  | 61 => yX4_isIn
  | 62 => yX4_away
  | 63 => yX4_isUmpire
  | 64 => yX4_seatOf
  | 65 => yX4_game
  | 66 => yX4_may
  | 67 => yX4_isSeat
  | 68 => yX4_mayHave
  | 69 => yX4_miles
  | 70 => yX4_less
  | 71 => yX4_cost
  | 72 => yX4_costOf
  | 73 => yX4_send
  | 74 => yX4_settle
  | 75 => yX4_seek
  | 76 => yX4_pays
  | 77 => yX4_change
  | 78 => yX4_lessen
  | 79 => yX4_placeOf
  | 80 => yX4_ways
  | 81 => yX4_moves
  | 82 => yX4_offer
  | 83 => yX4_filled
  | 84 => yX4_off
  | 85 => yX4_spare
  | 86 => yX4_seat
  | 87 => yX4_mark
  | 88 => yX4_next
  | 89 => yX4_about
  | 90 => yX4_refuse
  | 91 => yX4_stood
  | 92 => yX4_together
  | 93 => yX4_count
  | 94 => yX5_init
  | 95 => yX5_forget
  | 96 => yX6_init
  | _ => yJ9_bitCount
def am_b (k : Nat) : ByteArray := match k with
  | 0 => cX1_feed
  | 1 => cX1_four
  | 2 => cX1_end
  | 3 => cX1_rules
  | 4 => cX1_readRules
  | 5 => cX1_nextToken
  | 6 => cX1_peek
  | 7 => cX1_isLetter
  | 8 => cX1_isDigit
  | 9 => cX1_wrong
  | 10 => cX1_fault
  | 11 => cX1_rule
  | 12 => cX1_init
  | 13 => cX1_umpire
  | 14 => cX1_isIn
  | 15 => cX1_away
  | 16 => cX1_isUmpire
  | 17 => cX1_game
  | 18 => cX1_may
  | 19 => cX1_isSeat
  | 20 => cX1_mayHave
  | 21 => cX1_milesOf
  | 22 => cX1_isTired
  | 23 => cX1_cost
  | 24 => cX1_costOf
  | 25 => cX1_send
  | 26 => cX1_sit
  | 27 => cX1_solve
  | 28 => cX1_enter
  | 29 => cX1_holds
  | 30 => cX1_off
  | 31 => cX1_cheapest
  | 32 => cX1_seat
  | 33 => cX1_mark
  | 34 => cX1_next
  | 35 => cX1_grade
  | 36 => cX1_stood
  | 37 => cX1_together
  | 38 => cX1_count
  | 39 => cX1_about
  | 40 => cX2_is
  | 41 => cX2_init
  | 42 => cX3_init
  | 43 => cX4_init
  | 44 => cX4_thrown
  | 45 => cX4_feed
  | 46 => cX4_come
  | 47 => cX4_end
  | 48 => cX4_rules
  | 49 => cX4_go
  | 50 => cX4_isLetter
  | 51 => cX4_isDigit
  | 52 => cX4_byteAt
  | 53 => cX4_readRule
  | 54 => cX4_ruleAtHand
  | 55 => cX4_spelt
  | 56 => cX4_isKey
  | 57 => cX4_bad
  | 58 => cX4_fault
  | 59 => cX4_rule
  | 60 => cX4_umpire
  | 61 => cX4_isIn
  | 62 => cX4_away
  | 63 => cX4_isUmpire
  | 64 => cX4_seatOf
  | 65 => cX4_game
  | 66 => cX4_may
  | 67 => cX4_isSeat
  | 68 => cX4_mayHave
  | 69 => cX4_miles
  | 70 => cX4_less
  | 71 => cX4_cost
  | 72 => cX4_costOf
  | 73 => cX4_send
  | 74 => cX4_settle
  | 75 => cX4_seek
  | 76 => cX4_pays
  | 77 => cX4_change
  | 78 => cX4_lessen
  | 79 => cX4_placeOf
  | 80 => cX4_ways
  | 81 => cX4_moves
  | 82 => cX4_offer
  | 83 => cX4_filled
  | 84 => cX4_off
  | 85 => cX4_spare
  | 86 => cX4_seat
  | 87 => cX4_mark
  | 88 => cX4_next
  | 89 => cX4_about
  | 90 => cX4_refuse
  | 91 => cX4_stood
  | 92 => cX4_together
  | 93 => cX4_count
  | 94 => cX5_init
  | 95 => cX5_forget
  | 96 => cX6_init
  | _ => cJ9_bitCount
def am_r (k : Nat) : Option FieldType := match k with
  | 0 => (Option.some Jvm.ClassFile.FieldType.int)
  | 1 => (Option.none : Option Jvm.ClassFile.FieldType)
  | 2 => (Option.some Jvm.ClassFile.FieldType.boolean)
  | 3 => (Option.some Jvm.ClassFile.FieldType.int)
  | 4 => (Option.some Jvm.ClassFile.FieldType.int)
  | 5 => (Option.none : Option Jvm.ClassFile.FieldType)
  | 6 => (Option.some Jvm.ClassFile.FieldType.int)
  | 7 => (Option.some Jvm.ClassFile.FieldType.boolean)
  | 8 => (Option.some Jvm.ClassFile.FieldType.boolean)
  | 9 => (Option.some (Jvm.ClassFile.FieldType.object "WicketBoard$Fault"))
  | 10 => (Option.some Jvm.ClassFile.FieldType.int)
  | 11 => (Option.some Jvm.ClassFile.FieldType.int)
  | 12 => (Option.none : Option Jvm.ClassFile.FieldType)
  | 13 => (Option.some Jvm.ClassFile.FieldType.int)
  | 14 => (Option.some Jvm.ClassFile.FieldType.boolean)
  | 15 => (Option.some Jvm.ClassFile.FieldType.boolean)
  | 16 => (Option.some Jvm.ClassFile.FieldType.boolean)
  | 17 => (Option.some Jvm.ClassFile.FieldType.int)
  | 18 => (Option.some Jvm.ClassFile.FieldType.boolean)
  | 19 => (Option.some Jvm.ClassFile.FieldType.boolean)
  | 20 => (Option.some Jvm.ClassFile.FieldType.boolean)
  | 21 => (Option.some Jvm.ClassFile.FieldType.int)
  | 22 => (Option.some Jvm.ClassFile.FieldType.boolean)
  | 23 => (Option.some Jvm.ClassFile.FieldType.int)
  | 24 => (Option.some Jvm.ClassFile.FieldType.int)
  | 25 => (Option.some Jvm.ClassFile.FieldType.int)
  | 26 => (Option.none : Option Jvm.ClassFile.FieldType)
  | 27 => (Option.some Jvm.ClassFile.FieldType.long)
  | 28 => (Option.none : Option Jvm.ClassFile.FieldType)
  | 29 => (Option.some Jvm.ClassFile.FieldType.boolean)
  | 30 => (Option.some Jvm.ClassFile.FieldType.int)
  | 31 => (Option.some Jvm.ClassFile.FieldType.int)
  | 32 => (Option.some Jvm.ClassFile.FieldType.int)
  | 33 => (Option.some Jvm.ClassFile.FieldType.boolean)
  | 34 => (Option.some Jvm.ClassFile.FieldType.int)
  | 35 => (Option.none : Option Jvm.ClassFile.FieldType)
  | 36 => (Option.some Jvm.ClassFile.FieldType.int)
  | 37 => (Option.some Jvm.ClassFile.FieldType.int)
  | 38 => (Option.some Jvm.ClassFile.FieldType.int)
  | 39 => (Option.some Jvm.ClassFile.FieldType.int)
  | 40 => (Option.some Jvm.ClassFile.FieldType.boolean)
  | 41 => (Option.none : Option Jvm.ClassFile.FieldType)
  | 42 => (Option.none : Option Jvm.ClassFile.FieldType)
  | 43 => (Option.none : Option Jvm.ClassFile.FieldType)
  | 44 => (Option.some Jvm.ClassFile.FieldType.int)
  | 45 => (Option.some Jvm.ClassFile.FieldType.int)
  | 46 => (Option.none : Option Jvm.ClassFile.FieldType)
  | 47 => (Option.some Jvm.ClassFile.FieldType.boolean)
  | 48 => (Option.some Jvm.ClassFile.FieldType.int)
  | 49 => (Option.none : Option Jvm.ClassFile.FieldType)
  | 50 => (Option.some Jvm.ClassFile.FieldType.boolean)
  | 51 => (Option.some Jvm.ClassFile.FieldType.boolean)
  | 52 => (Option.some Jvm.ClassFile.FieldType.int)
  | 53 => (Option.some Jvm.ClassFile.FieldType.boolean)
  | 54 => (Option.some Jvm.ClassFile.FieldType.int)
  | 55 => (Option.some Jvm.ClassFile.FieldType.long)
  | 56 => (Option.some Jvm.ClassFile.FieldType.boolean)
  | 57 => (Option.some Jvm.ClassFile.FieldType.boolean)
  | 58 => (Option.some Jvm.ClassFile.FieldType.int)
  | 59 => (Option.some Jvm.ClassFile.FieldType.int)
  | 60 => (Option.some Jvm.ClassFile.FieldType.int)
  | 61 => (Option.some Jvm.ClassFile.FieldType.boolean)
  | 62 => (Option.some Jvm.ClassFile.FieldType.boolean)
  | 63 => (Option.some Jvm.ClassFile.FieldType.boolean)
  | 64 => (Option.some Jvm.ClassFile.FieldType.int)
  | 65 => (Option.some Jvm.ClassFile.FieldType.int)
  | 66 => (Option.some Jvm.ClassFile.FieldType.boolean)
  | 67 => (Option.some Jvm.ClassFile.FieldType.boolean)
  | 68 => (Option.some Jvm.ClassFile.FieldType.boolean)
  | 69 => (Option.some Jvm.ClassFile.FieldType.int)
  | 70 => (Option.some Jvm.ClassFile.FieldType.int)
  | 71 => (Option.some Jvm.ClassFile.FieldType.int)
  | 72 => (Option.some Jvm.ClassFile.FieldType.int)
  | 73 => (Option.some Jvm.ClassFile.FieldType.int)
  | 74 => (Option.none : Option Jvm.ClassFile.FieldType)
  | 75 => (Option.none : Option Jvm.ClassFile.FieldType)
  | 76 => (Option.some Jvm.ClassFile.FieldType.int)
  | 77 => (Option.none : Option Jvm.ClassFile.FieldType)
  | 78 => (Option.none : Option Jvm.ClassFile.FieldType)
  | 79 => (Option.some Jvm.ClassFile.FieldType.int)
  | 80 => (Option.none : Option Jvm.ClassFile.FieldType)
  | 81 => (Option.none : Option Jvm.ClassFile.FieldType)
  | 82 => (Option.none : Option Jvm.ClassFile.FieldType)
  | 83 => (Option.some Jvm.ClassFile.FieldType.int)
  | 84 => (Option.some Jvm.ClassFile.FieldType.int)
  | 85 => (Option.some Jvm.ClassFile.FieldType.int)
  | 86 => (Option.some Jvm.ClassFile.FieldType.int)
  | 87 => (Option.some Jvm.ClassFile.FieldType.boolean)
  | 88 => (Option.some Jvm.ClassFile.FieldType.int)
  | 89 => (Option.some Jvm.ClassFile.FieldType.int)
  | 90 => (Option.some Jvm.ClassFile.FieldType.int)
  | 91 => (Option.some Jvm.ClassFile.FieldType.int)
  | 92 => (Option.some Jvm.ClassFile.FieldType.int)
  | 93 => (Option.some Jvm.ClassFile.FieldType.int)
  | 94 => (Option.none : Option Jvm.ClassFile.FieldType)
  | 95 => (Option.none : Option Jvm.ClassFile.FieldType)
  | 96 => (Option.none : Option Jvm.ClassFile.FieldType)
  | _ => (Option.some Jvm.ClassFile.FieldType.int)
def am_ow (n : Nat) : String := match n with
  | 0 => RX1
  | 1 => RX2
  | 2 => RX3
  | 3 => RX4
  | 4 => RX5
  | 5 => RX6
  | 6 => RJ6
  | _ => RJ9
abbrev am_cl : List vw_C := [(RX1, TX1, 27), (RX2, TX2, 4), (RX3, TX3, 8), (RX4, TX4, 46), (RX5, TX5, 11), (RX6, TX6, 4), (RJ8, TJ8, 6)]
/-- links: (own, index, class, field) -/
def am_fl : List (Nat × Nat × Nat × Nat) := [(0, 3, 0, 1), (0, 11, 0, 0), (0, 15, 0, 8), (0, 18, 0, 2), (0, 25, 0, 9), (0, 28, 0, 10), (0, 38, 0, 11), (0, 41, 0, 6), (0, 45, 2, 6), (0, 50, 2, 7), (0, 57, 0, 3), (0, 71, 1, 1), (0, 74, 1, 2), (0, 77, 0, 5), (0, 81, 0, 7), (0, 84, 1, 3), (0, 90, 0, 4), (0, 128, 0, 12), (0, 134, 0, 13), (0, 138, 0, 14), (0, 141, 0, 19), (0, 144, 0, 20), (0, 147, 0, 21), (0, 150, 0, 22), (0, 153, 0, 23), (0, 156, 0, 24), (0, 159, 0, 25), (0, 163, 0, 26), (0, 166, 0, 15), (0, 173, 0, 16), (0, 182, 0, 17), (0, 185, 4, 3), (0, 188, 4, 6), (0, 192, 4, 0), (0, 195, 5, 0), (0, 202, 4, 1), (0, 205, 5, 1), (0, 206, 4, 4), (0, 209, 4, 2), (0, 212, 5, 2), (0, 215, 4, 5), (0, 218, 5, 3), (0, 233, 4, 7), (0, 254, 0, 18), (0, 273, 4, 8), (0, 276, 4, 9), (0, 279, 4, 10), (1, 7, 1, 0), (1, 13, 1, 1), (1, 17, 1, 2), (1, 20, 1, 3), (3, 7, 3, 1), (3, 13, 3, 3), (3, 16, 3, 4), (3, 19, 3, 5), (3, 22, 3, 6), (3, 25, 3, 7), (3, 28, 3, 17), (3, 31, 3, 18), (3, 34, 3, 19), (3, 37, 3, 20), (3, 40, 3, 21), (3, 43, 3, 22), (3, 46, 3, 23), (3, 49, 3, 24), (3, 52, 3, 25), (3, 55, 3, 26), (3, 59, 3, 27), (3, 62, 3, 28), (3, 65, 3, 29), (3, 68, 3, 30), (3, 71, 3, 31), (3, 74, 3, 32), (3, 77, 3, 37), (3, 80, 3, 38), (3, 83, 3, 39), (3, 86, 3, 40), (3, 89, 3, 41), (3, 92, 3, 42), (3, 95, 3, 43), (3, 98, 3, 44), (3, 101, 3, 0), (3, 105, 3, 2), (3, 112, 3, 8), (3, 115, 3, 9), (3, 118, 3, 10), (3, 121, 3, 11), (3, 131, 3, 16), (3, 135, 3, 12), (3, 158, 3, 13), (3, 161, 3, 14), (3, 171, 3, 15), (3, 181, 3, 33), (3, 184, 3, 34), (3, 194, 3, 35), (3, 232, 3, 45), (3, 250, 3, 36), (4, 9, 4, 3), (4, 15, 4, 4), (4, 19, 4, 6), (4, 23, 4, 0), (4, 26, 4, 1), (4, 29, 4, 5), (4, 32, 4, 2), (4, 35, 4, 8), (4, 38, 4, 9), (4, 41, 4, 10), (5, 7, 5, 0), (5, 13, 5, 1), (5, 16, 5, 2), (5, 19, 5, 3)]
def am_ml : List (Nat × Nat × Nat) := [(0, 7, 1), (0, 21, 6), (0, 31, 7), (0, 35, 8), (0, 53, 5), (0, 61, 40), (0, 67, 9), (0, 87, 4), (0, 93, 1001), (0, 99, 1000), (0, 106, 41), (0, 125, 42), (0, 169, 14), (0, 176, 94), (0, 179, 16), (0, 191, 96), (0, 196, 1002), (0, 221, 21), (0, 225, 22), (0, 229, 1003), (0, 236, 19), (0, 239, 20), (0, 243, 24), (0, 247, 28), (0, 257, 26), (0, 262, 27), (0, 266, 29), (0, 270, 31), (0, 282, 35), (0, 285, 95), (0, 291, 97), (1, 1, 1000), (3, 1, 1000), (3, 108, 46), (3, 124, 50), (3, 128, 51), (3, 138, 52), (3, 148, 55), (3, 152, 56), (3, 164, 54), (3, 168, 57), (3, 174, 49), (3, 177, 53), (3, 187, 61), (3, 191, 63), (3, 197, 64), (3, 200, 70), (3, 204, 69), (3, 207, 67), (3, 210, 68), (3, 214, 72), (3, 219, 76), (3, 222, 75), (3, 225, 77), (3, 228, 78), (3, 236, 79), (3, 239, 81), (3, 242, 82), (3, 246, 80), (3, 253, 74), (3, 256, 83), (3, 259, 85), (3, 262, 90), (4, 3, 1000), (5, 1, 1000)]
def am_cn : List (Nat × Nat × Nat) := [(0, 46, 2), (0, 62, 1), (0, 62, 104), (0, 126, 4), (0, 126, 105), (0, 132, 5), (0, 132, 106), (0, 288, 6)]
def am_ki : List (Nat × Nat × Int32) := [(0, 253, 2147483647), (0, 260, 100000), (0, 261, 100000000), (3, 217, 1000000), (3, 218, 100000000), (7, 265, 1431655765), (7, 266, 858993459), (7, 267, 252645135)]
def am_kl : List (Nat × Nat × Int64) := [(3, 142, 27), (3, 144, 96), (3, 146, -1), (3, 156, 14)]
def am_sl : List (Nat × Nat × Nat) := [(0, 104, 0), (0, 109, 1), (0, 111, 2), (0, 113, 3), (0, 115, 4), (0, 117, 5), (0, 119, 6), (0, 121, 7), (0, 123, 8)]
end
section
/-! THE ABSTRACT MACHINE: heap = abstract address → cell; a call hands on the whole heap. Fuel, depth, method, pc, locals, stack, (heap, cells made, slots made). -/
set_option maxRecDepth 100000
abbrev am_H : Type := Nat → Option va_E
abbrev am_S : Type := am_H × Nat × Nat
abbrev am_R : Type := (Option Value ⊕ Nat) × am_S
abbrev am_L : Type := List (Option Value)
def am_ext : Nat := 1000000
def am_in (i : Int32) (n : Nat) : Bool := !(decide (i < 0)) && decide (i.toNatClampNeg < n)
def am_c2 (v : Value) : Bool := Nat.beq v.category 2
/-- the slot ahead holds no long -/
def am_ahead (L : am_L) (i : Nat) : Bool := match i with
  | 0 => true
  | j + 1 => match L[j]? with
    | some (some v) => !(am_c2 v)
    | _ => true
def am_lg (L : am_L) (a : Nat) : Option Value := match L[a]? with
  | some (some v) => some v
  | _ => none
def am_fg (fs : List Value) (b : Nat) : Option Value := fs[b]?
def am_put1 (L : am_L) (i : Nat) (v : Value) : am_L := L.set i (some v)
def am_put2 (L : am_L) (i : Nat) (v : Value) : am_L := (L.set i (some v)).set (i + 1) none
def am_lay : List Value → am_L
  | [] => []
  | v :: vs => bif am_c2 v then some v :: none :: am_lay vs else some v :: am_lay vs
def am_pad : Nat → am_L → am_L
  | 0, _ => []
  | n + 1, [] => none :: am_pad n []
  | n + 1, x :: l => x :: am_pad n l
def am_ent (args : List Value) (n : Nat) : am_L := am_pad n (am_lay args)
def am_mL (k : Nat) : Nat := (am_inf.get k).1
def am_mN (k : Nat) : Nat := (am_inf.get k).2.1
def am_mK (k : Nat) : Nat := (am_inf.get k).2.2.1
def am_mO (k : Nat) : Nat := (am_inf.get k).2.2.2.1
def am_mC (k : Nat) : Nat := (am_inf.get k).2.2.2.2
def am_cat (l : List Value) : Nat := (l.map fun v => v.category).sum
/-- where a new cell goes -/
def am_new (c : Nat) (L : am_L) (S : am_S) : Nat := match c with
  | 0 => 5000 + S.2.1
  | 1 => match S.1 0 with
    | some (.inr (_, fs)) => match am_fg fs 15 with
      | some (.int x) => 1000 + 3 * x.toNatClampNeg
      | _ => 0
    | _ => 0
  | 2 => match am_lg L 0 with
    | some (.ref o) => o + 1
    | _ => 0
  | 3 => match am_lg L 0 with
    | some (.ref o) => o + 2
    | _ => 0
  | c => c - 10
def am_df (ci : Nat) : List Value := match ci with
  | 0 => [.null, .int 0, .int 0, .null, .null, .null, .null, .int 0, .int 0, .int 0, .int 0, .int 0, .null, .null, .null, .int 0, .int 0, .int 0, .int 0, .null, .null, .null, .null, .null, .null, .null, .null]
  | 1 => [.null, .int 0, .int 0, .int 0]
  | 4 => [.int 0, .int 0, .int 0, .null, .null, .int 0, .int 0, .int 0, .int 0, .int 0, .int 0]
  | 5 => [.int 0, .int 0, .int 0, .int 0]
  | 2 => [.null, .null, .null, .null, .null, .int 0, .int 0, .int 0]
  | 3 => [.int 0, .null, .int 0, .null, .null, .null, .null, .null, .int 0, .int 0, .int 0, .int 0, .int 0, .int 0, .int 0, .int 0, .long 0, .null, .null, .null, .null, .null, .null, .null, .null, .null, .null, .null, .null, .null, .null, .null, .null, .int 0, .int 0, .int 0, .int 0, .null, .null, .null, .null, .null, .null, .null, .null, .int 0]
  | _ => []
def am_ad (S : am_S) (q : Nat) (e : va_E) (n : Nat) : am_S := (va_up S.1 q (some e), S.2.1 + 1, S.2.2 + n)
def am_wr (S : am_S) (q : Nat) (e : va_E) : am_S := (va_up S.1 q (some e), S.2)
/-- a cell is free for a new one -/
def am_fr (S : am_S) (q : Nat) : Bool := match S.1 q with
  | none => Nat.blt q am_ext
  | some _ => false
/-- class of the elements of an array of references -/
def am_el (t : Nat) : Nat := match t with
  | 4 => 1
  | 5 => 4
  | 6 => 5
  | _ => 99
def am_z (t : Nat) : (Nat → Int32) ⊕ (Nat → Int64) ⊕ (Nat → UInt32) ⊕ (Nat → UInt64) ⊕ (Nat → Option Nat) := match t with
  | 0 => .inl (fun _ => 0)
  | 1 => .inl (fun _ => 0)
  | 2 => .inl (fun _ => 0)
  | 3 => .inr (.inl (fun _ => 0))
  | _ => .inr (.inr (.inr (.inr (fun _ => none))))
def am_len : List Nat := [3, 5, 3, 4, 3, 4, 2, 4, 2]
def am_byt : List (List Int32) := [[114, 111, 119], [97, 103, 97, 105, 110], [102, 97, 114], [102, 97, 105, 114], [119, 111, 110], [108, 111, 115, 116], [117, 112], [100, 111, 119, 110], [111, 102]]
/-- where an exception is caught (rules alone) -/
def am_hd (k pc : Nat) : Option Nat := bif Nat.beq k k_X1_rules && Nat.beq pc 51 then some 75 else none
def am_str (o : Nat) : Bool := Nat.ble am_ext o && Nat.blt (o - am_ext) 9
def am_rcv (k' : Nat) (args : List Value) (S : am_S) : Bool := bif Nat.beq (am_mK k') 1 then true else
  match args with
  | .ref o :: _ => bif Nat.beq (am_mC k') 50 then am_str o else match S.1 o with
    | some (.inr (ci, _)) => Nat.beq ci (am_mC k')
    | _ => false
  | _ => false
def am_call (rec : Nat → Nat → Nat → am_L → List Value → am_S → Option am_R) (d k pc k' nx : Nat) (L : am_L) (st : List Value) (S : am_S) : Option am_R := match d with
  | 0 => none
  | d' + 1 =>
    bif Nat.ble (am_mN k') st.length && Nat.ble (am_cat (st.drop (am_mN k'))) 8 && Nat.ble (am_lay (st.take (am_mN k')).reverse).length (am_mL k') && am_rcv k' (st.take (am_mN k')).reverse S then
      match rec d' k' 0 (am_ent (st.take (am_mN k')).reverse (am_mL k')) [] S with
      | some (.inl r, S') => rec (d' + 1) k nx L (r.toList ++ st.drop (am_mN k')) S'
      | some (.inr o, S') => match am_hd k pc, S'.1 o with
        | some hp, some (.inr (2, _)) => rec (d' + 1) k hp L [.ref o] S'
        | _, _ => none
      | none => none
    else none
def am_do (rec : Nat → Nat → Nat → am_L → List Value → am_S → Option am_R) (d k pc : Nat) (i : Instr) (nx a b c : Nat) (v : Value) (L : am_L) (st : List Value) (S : am_S) : Option am_R := match i with
  | .iload _ => match am_lg L a with
    | some (.int x) => rec d k nx L (.int x :: st) S
    | _ => none
  | .iload_n _ => match am_lg L a with
    | some (.int x) => rec d k nx L (.int x :: st) S
    | _ => none
  | .lload _ => match am_lg L a with
    | some (.long x) => rec d k nx L (.long x :: st) S
    | _ => none
  | .lload_n _ => match am_lg L a with
    | some (.long x) => rec d k nx L (.long x :: st) S
    | _ => none
  | .aload _ => match am_lg L a with
    | some (.ref x) => rec d k nx L (.ref x :: st) S
    | some .null => rec d k nx L (.null :: st) S
    | _ => none
  | .aload_n _ => match am_lg L a with
    | some (.ref x) => rec d k nx L (.ref x :: st) S
    | some .null => rec d k nx L (.null :: st) S
    | _ => none
  | .iconst _ => rec d k nx L (v :: st) S
  | .bipush _ => rec d k nx L (v :: st) S
  | .sipush _ => rec d k nx L (v :: st) S
  | .lconst _ => rec d k nx L (v :: st) S
  | .ldc _ => rec d k nx L (v :: st) S
  | .ldc_w _ => rec d k nx L (v :: st) S
  | .ldc2_w _ => rec d k nx L (v :: st) S
  | .aconst_null => rec d k nx L (.null :: st) S
  | .getstatic _ => rec d k nx L (v :: st) S
  | .istore _ => match st with
    | .int x :: st => bif Nat.blt a L.length && am_ahead L a then rec d k nx (am_put1 L a (.int x)) st S else none
    | _ => none
  | .istore_n _ => match st with
    | .int x :: st => bif Nat.blt a L.length && am_ahead L a then rec d k nx (am_put1 L a (.int x)) st S else none
    | _ => none
  | .astore _ => match st with
    | .ref x :: st => bif Nat.blt a L.length && am_ahead L a then rec d k nx (am_put1 L a (.ref x)) st S else none
    | _ => none
  | .astore_n _ => match st with
    | .ref x :: st => bif Nat.blt a L.length && am_ahead L a then rec d k nx (am_put1 L a (.ref x)) st S else none
    | _ => none
  | .lstore _ => match st with
    | .long x :: st => bif Nat.blt (a + 1) L.length && am_ahead L a then rec d k nx (am_put2 L a (.long x)) st S else none
    | _ => none
  | .lstore_n _ => match st with
    | .long x :: st => bif Nat.blt (a + 1) L.length && am_ahead L a then rec d k nx (am_put2 L a (.long x)) st S else none
    | _ => none
  | .iinc _ _ => match am_lg L a, v with
    | some (.int x), .int y => bif Nat.blt a L.length && am_ahead L a then rec d k nx (am_put1 L a (.int (x + y))) st S else none
    | _, _ => none
  | .iadd => match st with
    | .int y :: .int x :: st => rec d k nx L (.int (x + y) :: st) S
    | _ => none
  | .isub => match st with
    | .int y :: .int x :: st => rec d k nx L (.int (x - y) :: st) S
    | _ => none
  | .imul => match st with
    | .int y :: .int x :: st => rec d k nx L (.int (x * y) :: st) S
    | _ => none
  | .iand => match st with
    | .int y :: .int x :: st => rec d k nx L (.int (x &&& y) :: st) S
    | _ => none
  | .ior => match st with
    | .int y :: .int x :: st => rec d k nx L (.int (x ||| y) :: st) S
    | _ => none
  | .idiv => match st with
    | .int y :: .int x :: st => if y = 0 then none else rec d k nx L (.int (x / y) :: st) S
    | _ => none
  | .irem => match st with
    | .int y :: .int x :: st => if y = 0 then none else rec d k nx L (.int (x - x / y * y) :: st) S
    | _ => none
  | .ineg => match st with
    | .int x :: st => rec d k nx L (.int (-x) :: st) S
    | _ => none
  | .ishl => match st with
    | .int y :: .int x :: st => rec d k nx L (.int (x <<< (y &&& 31)) :: st) S
    | _ => none
  | .ishr => match st with
    | .int y :: .int x :: st => rec d k nx L (.int (x >>> (y &&& 31)) :: st) S
    | _ => none
  | .iushr => match st with
    | .int y :: .int x :: st => rec d k nx L (.int (x.toUInt32 >>> (y.toUInt32 &&& Int32.toUInt32 31)).toInt32 :: st) S
    | _ => none
  | .i2b => match st with
    | .int x :: st => rec d k nx L (.int x.toInt8.toInt32 :: st) S
    | _ => none
  | .i2c => match st with
    | .int x :: st => rec d k nx L (.int (x.toUInt32 % 65536).toInt32 :: st) S
    | _ => none
  | .i2l => match st with
    | .int x :: st => rec d k nx L (.long x.toInt64 :: st) S
    | _ => none
  | .ladd => match st with
    | .long y :: .long x :: st => rec d k nx L (.long (x + y) :: st) S
    | _ => none
  | .lsub => match st with
    | .long y :: .long x :: st => rec d k nx L (.long (x - y) :: st) S
    | _ => none
  | .lmul => match st with
    | .long y :: .long x :: st => rec d k nx L (.long (x * y) :: st) S
    | _ => none
  | .lcmp => match st with
    | .long y :: .long x :: st => rec d k nx L (.int (lg_cmp x y) :: st) S
    | _ => none
  | .dup => match st with
    | w :: st => bif Nat.beq w.category 1 then rec d k nx L (w :: w :: st) S else none
    | _ => none
  | .pop => match st with
    | w :: st => bif Nat.beq w.category 1 then rec d k nx L st S else none
    | _ => none
  | .dup2 => match st with
    | w :: u :: st => bif Nat.beq w.category 1 && Nat.beq u.category 1 then rec d k nx L (w :: u :: w :: u :: st) S else none
    | _ => none
  | .pop2 => match st with
    | .long _ :: st => rec d k nx L st S
    | _ => none
  | .goto _ => rec d k a L st S
  | .if_icmp cn _ => match st with
    | .int y :: .int x :: st => match cn with
      | .eq => if x = y then rec d k a L st S else rec d k nx L st S
      | .ne => if x = y then rec d k nx L st S else rec d k a L st S
      | .lt => if x < y then rec d k a L st S else rec d k nx L st S
      | .ge => if y ≤ x then rec d k a L st S else rec d k nx L st S
      | .gt => if y < x then rec d k a L st S else rec d k nx L st S
      | .le => if x ≤ y then rec d k a L st S else rec d k nx L st S
    | _ => none
  | .ifCond cn _ => match st with
    | .int x :: st => match cn with
      | .eq => if x = 0 then rec d k a L st S else rec d k nx L st S
      | .ne => if x = 0 then rec d k nx L st S else rec d k a L st S
      | .lt => if x < 0 then rec d k a L st S else rec d k nx L st S
      | .ge => if 0 ≤ x then rec d k a L st S else rec d k nx L st S
      | .gt => if 0 < x then rec d k a L st S else rec d k nx L st S
      | .le => if x ≤ 0 then rec d k a L st S else rec d k nx L st S
    | _ => none
  | .tableswitch _ lo hi offs => match st with
    | .int x :: st => if x.toInt < lo ∨ hi < x.toInt then rec d k a L st S else
        match (offs[(x.toInt - lo).toNat]? : Option Int) with
        | some off => if 0 ≤ (pc : Int) + off then rec d k ((pc : Int) + off).toNat L st S else none
        | none => none
    | _ => none
  | .getfield _ => match st with
    | .ref o :: st => bif Nat.beq a 50 then (bif am_str o then (match b with
        | 0 => rec d k nx L (.ref (o + 100) :: st) S
        | 1 => rec d k nx L (.int 0 :: st) S
        | _ => none) else none) else match S.1 o with
      | some (.inr (ci, fs)) => bif Nat.beq ci a then
          match am_fg fs b with
          | some w => rec d k nx L (w :: st) S
          | none => none
        else none
      | _ => none
    | _ => none
  | .putfield _ => match st with
    | w :: .ref o :: st => match S.1 o with
      | some (.inr (ci, fs)) => bif Nat.beq ci a && Nat.blt b fs.length then
          match v, w with
          | .int _, .int x => rec d k nx L st (am_wr S o (.inr (ci, fs.set b (.int x))))
          | .long _, .long x => rec d k nx L st (am_wr S o (.inr (ci, fs.set b (.long x))))
          | .float _, .int x => if x = 0 ∨ x = 1 then rec d k nx L st (am_wr S o (.inr (ci, fs.set b (.int x)))) else none
          | .null, .ref x => rec d k nx L st (am_wr S o (.inr (ci, fs.set b (.ref x))))
          | .null, .null => rec d k nx L st (am_wr S o (.inr (ci, fs.set b .null)))
          | .null, .retAddr x => rec d k nx L st (am_wr S o (.inr (ci, fs.set b (.retAddr x))))
          | _, _ => none
        else none
      | _ => none
    | _ => none
  | .iaload => match st with
    | .int j :: .ref o :: st => match S.1 o with
      | some (.inl (t, n, .inl f)) => bif Nat.beq t 0 && am_in j n then rec d k nx L (.int (f j.toNatClampNeg) :: st) S else none
      | _ => none
    | _ => none
  | .baload => match st with
    | .int j :: .ref o :: st => match S.1 o with
      | some (.inl (t, n, .inl f)) => bif (Nat.beq t 1 || Nat.beq t 2) && am_in j n then rec d k nx L (.int (f j.toNatClampNeg) :: st) S else none
      | none => bif Nat.ble 100 (o - am_ext) && am_str (o - 100) && am_in j (am_len.getD (o - am_ext - 100) 0) then rec d k nx L (.int ((am_byt.getD (o - am_ext - 100) []).getD j.toNatClampNeg 0) :: st) S else none
      | _ => none
    | _ => none
  | .laload => match st with
    | .int j :: .ref o :: st => match S.1 o with
      | some (.inl (t, n, .inr (.inl f))) => bif Nat.beq t 3 && am_in j n then rec d k nx L (.long (f j.toNatClampNeg) :: st) S else none
      | _ => none
    | _ => none
  | .aaload => match st with
    | .int j :: .ref o :: st => match S.1 o with
      | some (.inl (t, n, .inr (.inr (.inr (.inr f))))) => bif Nat.ble 4 t && Nat.ble t 6 && am_in j n then rec d k nx L (va_rf (f j.toNatClampNeg) :: st) S else none
      | _ => none
    | _ => none
  | .iastore => match st with
    | .int x :: .int j :: .ref o :: st => match S.1 o with
      | some (.inl (t, n, .inl f)) => bif Nat.beq t 0 && am_in j n then rec d k nx L st (am_wr S o (.inl (t, n, .inl (upd f j.toNatClampNeg x)))) else none
      | _ => none
    | _ => none
  | .bastore => match st with
    | .int x :: .int j :: .ref o :: st => match S.1 o with
      | some (.inl (t, n, .inl f)) => bif am_in j n then
          match t with
          | 1 => rec d k nx L st (am_wr S o (.inl (1, n, .inl (upd f j.toNatClampNeg (vp_nar .byte x)))))
          | 2 => rec d k nx L st (am_wr S o (.inl (2, n, .inl (upd f j.toNatClampNeg (vp_nar .boolean x)))))
          | _ => none
        else none
      | _ => none
    | _ => none
  | .lastore => match st with
    | .long x :: .int j :: .ref o :: st => match S.1 o with
      | some (.inl (t, n, .inr (.inl f))) => bif Nat.beq t 3 && am_in j n then rec d k nx L st (am_wr S o (.inl (t, n, .inr (.inl (vp_updL f j.toNatClampNeg x))))) else none
      | _ => none
    | _ => none
  | .aastore => match st with
    | .ref x :: .int j :: .ref o :: st => match S.1 o, S.1 x with
      | some (.inl (t, n, .inr (.inr (.inr (.inr f))))), some (.inr (ci, _)) => bif Nat.ble 4 t && Nat.ble t 6 && Nat.beq (am_el t) ci && am_in j n then rec d k nx L st (am_wr S o (.inl (t, n, .inr (.inr (.inr (.inr (va_up f j.toNatClampNeg (some x)))))))) else none
      | _, _ => none
    | _ => none
  | .arraylength => match st with
    | .ref o :: st => match S.1 o with
      | some (.inl (t, x)) => bif Nat.ble t 6 then rec d k nx L (.int (Int32.ofNat x.1) :: st) S else none
      | none => bif Nat.ble 100 (o - am_ext) && am_str (o - 100) then rec d k nx L (.int (Int32.ofNat (am_len.getD (o - am_ext - 100) 0)) :: st) S else none
      | _ => none
    | _ => none
  | .newarray _ => match st with
    | .int n :: st => if n = Int32.ofNat b then bif Nat.ble b 10000 && am_fr S (am_new c L S) then rec d k nx L (.ref (am_new c L S) :: st) (am_ad S (am_new c L S) (.inl (a, b, am_z a)) b) else none else none
    | _ => none
  | .anewarray _ => match st with
    | .int n :: st => if n = Int32.ofNat b then bif Nat.ble b 10000 && am_fr S (am_new c L S) then rec d k nx L (.ref (am_new c L S) :: st) (am_ad S (am_new c L S) (.inl (a, b, am_z a)) b) else none else none
    | _ => none
  | .new _ => bif Nat.blt a 6 && am_fr S (am_new c L S) then rec d k nx L (.ref (am_new c L S) :: st) (am_ad S (am_new c L S) (.inr (a, am_df a)) b) else none
  | .ireturn => match st with
    | [.int x] => match v with
      | .int _ => some (.inl (some (.int x)), S)
      | .double _ => if vp_nar .char x = x then some (.inl (some (.int x)), S) else none
      | .long _ => if vp_nar .byte x = x then some (.inl (some (.int x)), S) else none
      | _ => if x = 0 ∨ x = 1 then some (.inl (some (.int x)), S) else none
    | _ => none
  | .lreturn => match st with
    | [.long x] => some (.inl (some (.long x)), S)
    | _ => none
  | .areturn => match st with
    | [.ref x] => some (.inl (some (.ref x)), S)
    | _ => none
  | .return_ => match st with
    | [] => some (.inl none, S)
    | _ => none
  | .athrow => match st with
    | [.ref o] => bif Nat.beq k k_X1_readRules then some (.inr o, S) else none
    | _ => none
  | .invokevirtual _ => bif Nat.beq b 0 && Nat.beq (am_mK a) 0 then am_call rec d k pc a nx L st S else none
  | .invokestatic _ => match b with
    | 0 => bif Nat.beq (am_mK a) 1 then am_call rec d k pc a nx L st S else none
    | 8 => match st with
      | .int n :: .int dp :: .ref o :: .int sp :: .ref o0 :: st => match S.1 o0, S.1 o, d with
        | some (.inl (t0, n0, .inl f)), some (.inl (t1, n1, .inl g)), _ + 1 => bif Nat.beq t0 0 && Nat.beq t1 0 && !(decide (sp < 0)) && !(decide (dp < 0)) && !(decide (n < 0)) && decide (sp.toNatClampNeg + n.toNatClampNeg ≤ n0) && decide (dp.toNatClampNeg + n.toNatClampNeg ≤ n1) && Nat.ble (am_cat st) 8 then rec d k nx L st (am_wr S o (.inl (0, n1, .inl (va_cpy f g sp.toNatClampNeg dp.toNatClampNeg n.toNatClampNeg)))) else none
        | _, _, _ => none
      | _ => none
    | 10 => match st, d with
      | .int x :: st, _ + 1 => bif Nat.ble (am_cat st) 8 then rec d k nx L (.int (if 0 ≤ x then x else 0 - x) :: st) S else none
      | _, _ => none
    | 11 => match st, d with
      | .int y :: .int x :: st, _ + 1 => bif Nat.ble (am_cat st) 8 then rec d k nx L (.int (if x < y then y else x) :: st) S else none
      | _, _ => none
    | _ => none
  | .invokespecial _ => match b with
    | 0 => bif Nat.beq (am_mK a) 2 then am_call rec d k pc a nx L st S else none
    | 9 => match st, d with
      | .ref o :: st, _ + 1 => bif Nat.ble (am_cat st) 8 then rec d k nx L st S else none
      | _, _ => none
    | _ => none
  | _ => none
def am_body (rec : Nat → Nat → Nat → am_L → List Value → am_S → Option am_R) (d k pc : Nat) (L : am_L) (st : List Value) (S : am_S) : Option am_R := match (am_tbs.get k).get pc with
  | (q, i, nx, a, b, c, v) => bif Nat.beq q pc then am_do rec d k pc i nx a b c v L st S else none
def am_run : Nat → Nat → Nat → Nat → am_L → List Value → am_S → Option am_R
  | 0 => fun _ _ _ _ _ _ => none
  | n + 1 => am_body (am_run n)
end
section
set_option maxRecDepth 100000
/-! what the tables rest on, printed by facts.py -/
def am_C (n : Nat) : String := match n with
  | 0 => RX1
  | 1 => RX2
  | 2 => RX3
  | 3 => RX4
  | 4 => RX5
  | _ => RX6
def am_T (n : Nat) : u_T := match n with
  | 0 => TX1
  | 1 => TX2
  | 2 => TX3
  | 3 => TX4
  | 4 => TX5
  | _ => TX6
def am_N (n : Nat) : Nat := match n with
  | 0 => 27
  | 1 => 4
  | 2 => 8
  | 3 => 46
  | 4 => 11
  | _ => 4
def am_tf (n : Nat) : Nat → FieldType := match n with
  | 0 => tyX1
  | 1 => tyX2
  | 2 => tyX3
  | 3 => tyX4
  | 4 => tyX5
  | _ => tyX6
theorem am_clx : ∀ n, n < 6 → am_cl[n]? = some (am_C n, am_T n, am_N n) := fun n h => match n, h with
  | 0, _ => rfl
  | 1, _ => rfl
  | 2, _ => rfl
  | 3, _ => rfl
  | 4, _ => rfl
  | 5, _ => rfl
  | n + 6, h => absurd h (by omega)
theorem am_inx : ∀ n, n < 6 → ∀ w ∈ u_ws (am_C n) (am_T n) (am_N n), w ∈ lw_all := fun n h => match n, h with
  | 0, _ => in_X1
  | 1, _ => in_X2
  | 2, _ => in_X3
  | 3, _ => in_X4
  | 4, _ => in_X5
  | 5, _ => in_X6
  | n + 6, h => absurd h (by omega)
theorem am_tyx : ∀ n, n < 6 → ∀ k, k < am_N n → parseFieldDescriptor ((am_T n) k).2.2.1 = some (am_tf n k) := fun n h => match n, h with
  | 0, _ => tyX1_ok
  | 1, _ => tyX2_ok
  | 2, _ => tyX3_ok
  | 3, _ => tyX4_ok
  | 4, _ => tyX5_ok
  | 5, _ => tyX6_ok
  | n + 6, h => absurd h (by omega)
theorem am_nmx : ∀ n, n < 6 → ∀ a, a < am_N n → ∀ b, b < am_N n → a ≠ b → ((am_T n) a).2.1 ≠ ((am_T n) b).2.1 := fun n h => match n, h with
  | 0, _ => nmX1
  | 1, _ => nmX2
  | 2, _ => nmX3
  | 3, _ => nmX4
  | 4, _ => nmX5
  | 5, _ => nmX6
  | n + 6, h => absurd h (by omega)
theorem am_ibx : ∀ n, n < 6 → Cond.instantiable (am_C n) (am_N n) ∈ lw_all := fun n h => match n, h with
  | 0, _ => q67
  | 1, _ => q172
  | 2, _ => q203
  | 3, _ => q580
  | 4, _ => q363
  | 5, _ => q424
  | n + 6, h => absurd h (by omega)
theorem am_itx : ∀ n, n < 6 → Cond.initialized (am_C n) ∈ lw_all := fun n h => match n, h with
  | 0, _ => q43
  | 1, _ => q44
  | 2, _ => q47
  | 3, _ => q48
  | 4, _ => q54
  | 5, _ => q55
  | n + 6, h => absurd h (by omega)
theorem am_dfx : ∀ n, n < 6 → ∀ j, j < am_N n → defaultValue (am_tf n j) = vp_V (am_df n) j := fun n h => match n, h with
  | 0, _ => by decide +kernel
  | 1, _ => by decide +kernel
  | 2, _ => by decide +kernel
  | 3, _ => by decide +kernel
  | 4, _ => by decide +kernel
  | 5, _ => by decide +kernel
  | n + 6, h => absurd h (by omega)
theorem am_flx : ∀ x ∈ am_fl, x.2.2.1 < 6 ∧ x.2.2.2 < am_N x.2.2.1 ∧ Cond.fieldLink (am_ow x.1) x.2.1 ((am_T x.2.2.1) x.2.2.2).1 ((am_T x.2.2.1) x.2.2.2).2.1 ((am_T x.2.2.1) x.2.2.2).2.2.1 ∈ lw_all :=
  List.forall_mem_cons.mpr ⟨⟨by decide, by decide, q274⟩, List.forall_mem_cons.mpr ⟨⟨by decide, by decide, q273⟩, List.forall_mem_cons.mpr ⟨⟨by decide, by decide, q281⟩, List.forall_mem_cons.mpr ⟨⟨by decide, by decide, q275⟩, List.forall_mem_cons.mpr ⟨⟨by decide, by decide, q282⟩, List.forall_mem_cons.mpr ⟨⟨by decide, by decide, q283⟩, List.forall_mem_cons.mpr ⟨⟨by decide, by decide, q284⟩, List.forall_mem_cons.mpr ⟨⟨by decide, by decide, q279⟩, List.forall_mem_cons.mpr ⟨⟨by decide, by decide, q249⟩, List.forall_mem_cons.mpr ⟨⟨by decide, by decide, q250⟩, List.forall_mem_cons.mpr ⟨⟨by decide, by decide, q276⟩, List.forall_mem_cons.mpr ⟨⟨by decide, by decide, q180⟩, List.forall_mem_cons.mpr ⟨⟨by decide, by decide, q182⟩, List.forall_mem_cons.mpr ⟨⟨by decide, by decide, q278⟩, List.forall_mem_cons.mpr ⟨⟨by decide, by decide, q280⟩, List.forall_mem_cons.mpr ⟨⟨by decide, by decide, q184⟩, List.forall_mem_cons.mpr ⟨⟨by decide, by decide, q277⟩, List.forall_mem_cons.mpr ⟨⟨by decide, by decide, q285⟩, List.forall_mem_cons.mpr ⟨⟨by decide, by decide, q286⟩, List.forall_mem_cons.mpr ⟨⟨by decide, by decide, q287⟩, List.forall_mem_cons.mpr ⟨⟨by decide, by decide, q292⟩, List.forall_mem_cons.mpr ⟨⟨by decide, by decide, q293⟩, List.forall_mem_cons.mpr ⟨⟨by decide, by decide, q294⟩, List.forall_mem_cons.mpr ⟨⟨by decide, by decide, q295⟩, List.forall_mem_cons.mpr ⟨⟨by decide, by decide, q296⟩, List.forall_mem_cons.mpr ⟨⟨by decide, by decide, q297⟩, List.forall_mem_cons.mpr ⟨⟨by decide, by decide, q298⟩, List.forall_mem_cons.mpr ⟨⟨by decide, by decide, q299⟩, List.forall_mem_cons.mpr ⟨⟨by decide, by decide, q288⟩, List.forall_mem_cons.mpr ⟨⟨by decide, by decide, q289⟩, List.forall_mem_cons.mpr ⟨⟨by decide, by decide, q290⟩, List.forall_mem_cons.mpr ⟨⟨by decide, by decide, q375⟩, List.forall_mem_cons.mpr ⟨⟨by decide, by decide, q381⟩, List.forall_mem_cons.mpr ⟨⟨by decide, by decide, q369⟩, List.forall_mem_cons.mpr ⟨⟨by decide, by decide, q430⟩, List.forall_mem_cons.mpr ⟨⟨by decide, by decide, q371⟩, List.forall_mem_cons.mpr ⟨⟨by decide, by decide, q432⟩, List.forall_mem_cons.mpr ⟨⟨by decide, by decide, q377⟩, List.forall_mem_cons.mpr ⟨⟨by decide, by decide, q373⟩, List.forall_mem_cons.mpr ⟨⟨by decide, by decide, q434⟩, List.forall_mem_cons.mpr ⟨⟨by decide, by decide, q379⟩, List.forall_mem_cons.mpr ⟨⟨by decide, by decide, q436⟩, List.forall_mem_cons.mpr ⟨⟨by decide, by decide, q382⟩, List.forall_mem_cons.mpr ⟨⟨by decide, by decide, q291⟩, List.forall_mem_cons.mpr ⟨⟨by decide, by decide, q384⟩, List.forall_mem_cons.mpr ⟨⟨by decide, by decide, q386⟩, List.forall_mem_cons.mpr ⟨⟨by decide, by decide, q388⟩, List.forall_mem_cons.mpr ⟨⟨by decide, by decide, q178⟩, List.forall_mem_cons.mpr ⟨⟨by decide, by decide, q179⟩, List.forall_mem_cons.mpr ⟨⟨by decide, by decide, q181⟩, List.forall_mem_cons.mpr ⟨⟨by decide, by decide, q183⟩, List.forall_mem_cons.mpr ⟨⟨by decide, by decide, q586⟩, List.forall_mem_cons.mpr ⟨⟨by decide, by decide, q588⟩, List.forall_mem_cons.mpr ⟨⟨by decide, by decide, q589⟩, List.forall_mem_cons.mpr ⟨⟨by decide, by decide, q590⟩, List.forall_mem_cons.mpr ⟨⟨by decide, by decide, q591⟩, List.forall_mem_cons.mpr ⟨⟨by decide, by decide, q592⟩, List.forall_mem_cons.mpr ⟨⟨by decide, by decide, q602⟩, List.forall_mem_cons.mpr ⟨⟨by decide, by decide, q603⟩, List.forall_mem_cons.mpr ⟨⟨by decide, by decide, q604⟩, List.forall_mem_cons.mpr ⟨⟨by decide, by decide, q605⟩, List.forall_mem_cons.mpr ⟨⟨by decide, by decide, q606⟩, List.forall_mem_cons.mpr ⟨⟨by decide, by decide, q607⟩, List.forall_mem_cons.mpr ⟨⟨by decide, by decide, q608⟩, List.forall_mem_cons.mpr ⟨⟨by decide, by decide, q609⟩, List.forall_mem_cons.mpr ⟨⟨by decide, by decide, q610⟩, List.forall_mem_cons.mpr ⟨⟨by decide, by decide, q611⟩, List.forall_mem_cons.mpr ⟨⟨by decide, by decide, q612⟩, List.forall_mem_cons.mpr ⟨⟨by decide, by decide, q613⟩, List.forall_mem_cons.mpr ⟨⟨by decide, by decide, q614⟩, List.forall_mem_cons.mpr ⟨⟨by decide, by decide, q615⟩, List.forall_mem_cons.mpr ⟨⟨by decide, by decide, q616⟩, List.forall_mem_cons.mpr ⟨⟨by decide, by decide, q617⟩, List.forall_mem_cons.mpr ⟨⟨by decide, by decide, q622⟩, List.forall_mem_cons.mpr ⟨⟨by decide, by decide, q623⟩, List.forall_mem_cons.mpr ⟨⟨by decide, by decide, q624⟩, List.forall_mem_cons.mpr ⟨⟨by decide, by decide, q625⟩, List.forall_mem_cons.mpr ⟨⟨by decide, by decide, q626⟩, List.forall_mem_cons.mpr ⟨⟨by decide, by decide, q627⟩, List.forall_mem_cons.mpr ⟨⟨by decide, by decide, q628⟩, List.forall_mem_cons.mpr ⟨⟨by decide, by decide, q629⟩, List.forall_mem_cons.mpr ⟨⟨by decide, by decide, q585⟩, List.forall_mem_cons.mpr ⟨⟨by decide, by decide, q587⟩, List.forall_mem_cons.mpr ⟨⟨by decide, by decide, q593⟩, List.forall_mem_cons.mpr ⟨⟨by decide, by decide, q594⟩, List.forall_mem_cons.mpr ⟨⟨by decide, by decide, q595⟩, List.forall_mem_cons.mpr ⟨⟨by decide, by decide, q596⟩, List.forall_mem_cons.mpr ⟨⟨by decide, by decide, q601⟩, List.forall_mem_cons.mpr ⟨⟨by decide, by decide, q597⟩, List.forall_mem_cons.mpr ⟨⟨by decide, by decide, q598⟩, List.forall_mem_cons.mpr ⟨⟨by decide, by decide, q599⟩, List.forall_mem_cons.mpr ⟨⟨by decide, by decide, q600⟩, List.forall_mem_cons.mpr ⟨⟨by decide, by decide, q618⟩, List.forall_mem_cons.mpr ⟨⟨by decide, by decide, q619⟩, List.forall_mem_cons.mpr ⟨⟨by decide, by decide, q620⟩, List.forall_mem_cons.mpr ⟨⟨by decide, by decide, q630⟩, List.forall_mem_cons.mpr ⟨⟨by decide, by decide, q621⟩, List.forall_mem_cons.mpr ⟨⟨by decide, by decide, q374⟩, List.forall_mem_cons.mpr ⟨⟨by decide, by decide, q376⟩, List.forall_mem_cons.mpr ⟨⟨by decide, by decide, q380⟩, List.forall_mem_cons.mpr ⟨⟨by decide, by decide, q368⟩, List.forall_mem_cons.mpr ⟨⟨by decide, by decide, q370⟩, List.forall_mem_cons.mpr ⟨⟨by decide, by decide, q378⟩, List.forall_mem_cons.mpr ⟨⟨by decide, by decide, q372⟩, List.forall_mem_cons.mpr ⟨⟨by decide, by decide, q383⟩, List.forall_mem_cons.mpr ⟨⟨by decide, by decide, q385⟩, List.forall_mem_cons.mpr ⟨⟨by decide, by decide, q387⟩, List.forall_mem_cons.mpr ⟨⟨by decide, by decide, q429⟩, List.forall_mem_cons.mpr ⟨⟨by decide, by decide, q431⟩, List.forall_mem_cons.mpr ⟨⟨by decide, by decide, q433⟩, List.forall_mem_cons.mpr ⟨⟨by decide, by decide, q435⟩, (fun _ h => absurd h List.not_mem_nil)⟩⟩⟩⟩⟩⟩⟩⟩⟩⟩⟩⟩⟩⟩⟩⟩⟩⟩⟩⟩⟩⟩⟩⟩⟩⟩⟩⟩⟩⟩⟩⟩⟩⟩⟩⟩⟩⟩⟩⟩⟩⟩⟩⟩⟩⟩⟩⟩⟩⟩⟩⟩⟩⟩⟩⟩⟩⟩⟩⟩⟩⟩⟩⟩⟩⟩⟩⟩⟩⟩⟩⟩⟩⟩⟩⟩⟩⟩⟩⟩⟩⟩⟩⟩⟩⟩⟩⟩⟩⟩⟩⟩⟩⟩⟩⟩⟩⟩⟩⟩⟩⟩⟩⟩⟩⟩⟩⟩⟩⟩⟩
theorem am_mlx : ∀ x ∈ am_ml, (x.2.2 < 1000 → Cond.methodLink (am_ow x.1) x.2.1 (am_y x.2.2) ∈ lw_all ∧ x.2.2 < 98 ∧ x.2.2 ≠ k_X1_rules) ∧ (x.2.2 = 1000 → Cond.methodLink (am_ow x.1) x.2.1 objectInit ∈ lw_all) ∧ (x.2.2 = 1001 → Cond.methodLink (am_ow x.1) x.2.1 arraycopyName ∈ lw_all) ∧ (x.2.2 = 1002 → Cond.methodLink (am_ow x.1) x.2.1 Lib.Math.abs.name ∈ lw_all) ∧ (x.2.2 = 1003 → Cond.methodLink (am_ow x.1) x.2.1 Lib.Math.max.name ∈ lw_all) :=
  List.forall_mem_cons.mpr ⟨⟨fun _ => ⟨q64, by decide, by decide⟩, fun h => absurd h (by decide), fun h => absurd h (by decide), fun h => absurd h (by decide), fun h => absurd h (by decide)⟩, List.forall_mem_cons.mpr ⟨⟨fun _ => ⟨q86, by decide, by decide⟩, fun h => absurd h (by decide), fun h => absurd h (by decide), fun h => absurd h (by decide), fun h => absurd h (by decide)⟩, List.forall_mem_cons.mpr ⟨⟨fun _ => ⟨q90, by decide, by decide⟩, fun h => absurd h (by decide), fun h => absurd h (by decide), fun h => absurd h (by decide), fun h => absurd h (by decide)⟩, List.forall_mem_cons.mpr ⟨⟨fun _ => ⟨q93, by decide, by decide⟩, fun h => absurd h (by decide), fun h => absurd h (by decide), fun h => absurd h (by decide), fun h => absurd h (by decide)⟩, List.forall_mem_cons.mpr ⟨⟨fun _ => ⟨q82, by decide, by decide⟩, fun h => absurd h (by decide), fun h => absurd h (by decide), fun h => absurd h (by decide), fun h => absurd h (by decide)⟩, List.forall_mem_cons.mpr ⟨⟨fun _ => ⟨q96, by decide, by decide⟩, fun h => absurd h (by decide), fun h => absurd h (by decide), fun h => absurd h (by decide), fun h => absurd h (by decide)⟩, List.forall_mem_cons.mpr ⟨⟨fun _ => ⟨q148, by decide, by decide⟩, fun h => absurd h (by decide), fun h => absurd h (by decide), fun h => absurd h (by decide), fun h => absurd h (by decide)⟩, List.forall_mem_cons.mpr ⟨⟨fun _ => ⟨q78, by decide, by decide⟩, fun h => absurd h (by decide), fun h => absurd h (by decide), fun h => absurd h (by decide), fun h => absurd h (by decide)⟩, List.forall_mem_cons.mpr ⟨⟨fun h => absurd h (by decide), fun h => absurd h (by decide), fun _ => q152, fun h => absurd h (by decide), fun h => absurd h (by decide)⟩, List.forall_mem_cons.mpr ⟨⟨fun h => absurd h (by decide), fun _ => q167, fun h => absurd h (by decide), fun h => absurd h (by decide), fun h => absurd h (by decide)⟩, List.forall_mem_cons.mpr ⟨⟨fun _ => ⟨q174, by decide, by decide⟩, fun h => absurd h (by decide), fun h => absurd h (by decide), fun h => absurd h (by decide), fun h => absurd h (by decide)⟩, List.forall_mem_cons.mpr ⟨⟨fun _ => ⟨q240, by decide, by decide⟩, fun h => absurd h (by decide), fun h => absurd h (by decide), fun h => absurd h (by decide), fun h => absurd h (by decide)⟩, List.forall_mem_cons.mpr ⟨⟨fun _ => ⟨q360, by decide, by decide⟩, fun h => absurd h (by decide), fun h => absurd h (by decide), fun h => absurd h (by decide), fun h => absurd h (by decide)⟩, List.forall_mem_cons.mpr ⟨⟨fun _ => ⟨q364, by decide, by decide⟩, fun h => absurd h (by decide), fun h => absurd h (by decide), fun h => absurd h (by decide), fun h => absurd h (by decide)⟩, List.forall_mem_cons.mpr ⟨⟨fun _ => ⟨q416, by decide, by decide⟩, fun h => absurd h (by decide), fun h => absurd h (by decide), fun h => absurd h (by decide), fun h => absurd h (by decide)⟩, List.forall_mem_cons.mpr ⟨⟨fun _ => ⟨q425, by decide, by decide⟩, fun h => absurd h (by decide), fun h => absurd h (by decide), fun h => absurd h (by decide), fun h => absurd h (by decide)⟩, List.forall_mem_cons.mpr ⟨⟨fun h => absurd h (by decide), fun h => absurd h (by decide), fun h => absurd h (by decide), fun _ => q461, fun h => absurd h (by decide)⟩, List.forall_mem_cons.mpr ⟨⟨fun _ => ⟨q458, by decide, by decide⟩, fun h => absurd h (by decide), fun h => absurd h (by decide), fun h => absurd h (by decide), fun h => absurd h (by decide)⟩, List.forall_mem_cons.mpr ⟨⟨fun _ => ⟨q464, by decide, by decide⟩, fun h => absurd h (by decide), fun h => absurd h (by decide), fun h => absurd h (by decide), fun h => absurd h (by decide)⟩, List.forall_mem_cons.mpr ⟨⟨fun h => absurd h (by decide), fun h => absurd h (by decide), fun h => absurd h (by decide), fun h => absurd h (by decide), fun _ => q468⟩, List.forall_mem_cons.mpr ⟨⟨fun _ => ⟨q450, by decide, by decide⟩, fun h => absurd h (by decide), fun h => absurd h (by decide), fun h => absurd h (by decide), fun h => absurd h (by decide)⟩, List.forall_mem_cons.mpr ⟨⟨fun _ => ⟨q454, by decide, by decide⟩, fun h => absurd h (by decide), fun h => absurd h (by decide), fun h => absurd h (by decide), fun h => absurd h (by decide)⟩, List.forall_mem_cons.mpr ⟨⟨fun _ => ⟨q475, by decide, by decide⟩, fun h => absurd h (by decide), fun h => absurd h (by decide), fun h => absurd h (by decide), fun h => absurd h (by decide)⟩, List.forall_mem_cons.mpr ⟨⟨fun _ => ⟨q493, by decide, by decide⟩, fun h => absurd h (by decide), fun h => absurd h (by decide), fun h => absurd h (by decide), fun h => absurd h (by decide)⟩, List.forall_mem_cons.mpr ⟨⟨fun _ => ⟨q483, by decide, by decide⟩, fun h => absurd h (by decide), fun h => absurd h (by decide), fun h => absurd h (by decide), fun h => absurd h (by decide)⟩, List.forall_mem_cons.mpr ⟨⟨fun _ => ⟨q489, by decide, by decide⟩, fun h => absurd h (by decide), fun h => absurd h (by decide), fun h => absurd h (by decide), fun h => absurd h (by decide)⟩, List.forall_mem_cons.mpr ⟨⟨fun _ => ⟨q498, by decide, by decide⟩, fun h => absurd h (by decide), fun h => absurd h (by decide), fun h => absurd h (by decide), fun h => absurd h (by decide)⟩, List.forall_mem_cons.mpr ⟨⟨fun _ => ⟨q506, by decide, by decide⟩, fun h => absurd h (by decide), fun h => absurd h (by decide), fun h => absurd h (by decide), fun h => absurd h (by decide)⟩, List.forall_mem_cons.mpr ⟨⟨fun _ => ⟨q522, by decide, by decide⟩, fun h => absurd h (by decide), fun h => absurd h (by decide), fun h => absurd h (by decide), fun h => absurd h (by decide)⟩, List.forall_mem_cons.mpr ⟨⟨fun _ => ⟨q526, by decide, by decide⟩, fun h => absurd h (by decide), fun h => absurd h (by decide), fun h => absurd h (by decide), fun h => absurd h (by decide)⟩, List.forall_mem_cons.mpr ⟨⟨fun _ => ⟨q542, by decide, by decide⟩, fun h => absurd h (by decide), fun h => absurd h (by decide), fun h => absurd h (by decide), fun h => absurd h (by decide)⟩, List.forall_mem_cons.mpr ⟨⟨fun h => absurd h (by decide), fun _ => q177, fun h => absurd h (by decide), fun h => absurd h (by decide), fun h => absurd h (by decide)⟩, List.forall_mem_cons.mpr ⟨⟨fun h => absurd h (by decide), fun _ => q584, fun h => absurd h (by decide), fun h => absurd h (by decide), fun h => absurd h (by decide)⟩, List.forall_mem_cons.mpr ⟨⟨fun _ => ⟨q732, by decide, by decide⟩, fun h => absurd h (by decide), fun h => absurd h (by decide), fun h => absurd h (by decide), fun h => absurd h (by decide)⟩, List.forall_mem_cons.mpr ⟨⟨fun _ => ⟨q748, by decide, by decide⟩, fun h => absurd h (by decide), fun h => absurd h (by decide), fun h => absurd h (by decide), fun h => absurd h (by decide)⟩, List.forall_mem_cons.mpr ⟨⟨fun _ => ⟨q751, by decide, by decide⟩, fun h => absurd h (by decide), fun h => absurd h (by decide), fun h => absurd h (by decide), fun h => absurd h (by decide)⟩, List.forall_mem_cons.mpr ⟨⟨fun _ => ⟨q754, by decide, by decide⟩, fun h => absurd h (by decide), fun h => absurd h (by decide), fun h => absurd h (by decide), fun h => absurd h (by decide)⟩, List.forall_mem_cons.mpr ⟨⟨fun _ => ⟨q769, by decide, by decide⟩, fun h => absurd h (by decide), fun h => absurd h (by decide), fun h => absurd h (by decide), fun h => absurd h (by decide)⟩, List.forall_mem_cons.mpr ⟨⟨fun _ => ⟨q772, by decide, by decide⟩, fun h => absurd h (by decide), fun h => absurd h (by decide), fun h => absurd h (by decide), fun h => absurd h (by decide)⟩, List.forall_mem_cons.mpr ⟨⟨fun _ => ⟨q765, by decide, by decide⟩, fun h => absurd h (by decide), fun h => absurd h (by decide), fun h => absurd h (by decide), fun h => absurd h (by decide)⟩, List.forall_mem_cons.mpr ⟨⟨fun _ => ⟨q777, by decide, by decide⟩, fun h => absurd h (by decide), fun h => absurd h (by decide), fun h => absurd h (by decide), fun h => absurd h (by decide)⟩, List.forall_mem_cons.mpr ⟨⟨fun _ => ⟨q744, by decide, by decide⟩, fun h => absurd h (by decide), fun h => absurd h (by decide), fun h => absurd h (by decide), fun h => absurd h (by decide)⟩, List.forall_mem_cons.mpr ⟨⟨fun _ => ⟨q761, by decide, by decide⟩, fun h => absurd h (by decide), fun h => absurd h (by decide), fun h => absurd h (by decide), fun h => absurd h (by decide)⟩, List.forall_mem_cons.mpr ⟨⟨fun _ => ⟨q793, by decide, by decide⟩, fun h => absurd h (by decide), fun h => absurd h (by decide), fun h => absurd h (by decide), fun h => absurd h (by decide)⟩, List.forall_mem_cons.mpr ⟨⟨fun _ => ⟨q800, by decide, by decide⟩, fun h => absurd h (by decide), fun h => absurd h (by decide), fun h => absurd h (by decide), fun h => absurd h (by decide)⟩, List.forall_mem_cons.mpr ⟨⟨fun _ => ⟨q804, by decide, by decide⟩, fun h => absurd h (by decide), fun h => absurd h (by decide), fun h => absurd h (by decide), fun h => absurd h (by decide)⟩, List.forall_mem_cons.mpr ⟨⟨fun _ => ⟨q828, by decide, by decide⟩, fun h => absurd h (by decide), fun h => absurd h (by decide), fun h => absurd h (by decide), fun h => absurd h (by decide)⟩, List.forall_mem_cons.mpr ⟨⟨fun _ => ⟨q824, by decide, by decide⟩, fun h => absurd h (by decide), fun h => absurd h (by decide), fun h => absurd h (by decide), fun h => absurd h (by decide)⟩, List.forall_mem_cons.mpr ⟨⟨fun _ => ⟨q816, by decide, by decide⟩, fun h => absurd h (by decide), fun h => absurd h (by decide), fun h => absurd h (by decide), fun h => absurd h (by decide)⟩, List.forall_mem_cons.mpr ⟨⟨fun _ => ⟨q820, by decide, by decide⟩, fun h => absurd h (by decide), fun h => absurd h (by decide), fun h => absurd h (by decide), fun h => absurd h (by decide)⟩, List.forall_mem_cons.mpr ⟨⟨fun _ => ⟨q835, by decide, by decide⟩, fun h => absurd h (by decide), fun h => absurd h (by decide), fun h => absurd h (by decide), fun h => absurd h (by decide)⟩, List.forall_mem_cons.mpr ⟨⟨fun _ => ⟨q853, by decide, by decide⟩, fun h => absurd h (by decide), fun h => absurd h (by decide), fun h => absurd h (by decide), fun h => absurd h (by decide)⟩, List.forall_mem_cons.mpr ⟨⟨fun _ => ⟨q848, by decide, by decide⟩, fun h => absurd h (by decide), fun h => absurd h (by decide), fun h => absurd h (by decide), fun h => absurd h (by decide)⟩, List.forall_mem_cons.mpr ⟨⟨fun _ => ⟨q857, by decide, by decide⟩, fun h => absurd h (by decide), fun h => absurd h (by decide), fun h => absurd h (by decide), fun h => absurd h (by decide)⟩, List.forall_mem_cons.mpr ⟨⟨fun _ => ⟨q861, by decide, by decide⟩, fun h => absurd h (by decide), fun h => absurd h (by decide), fun h => absurd h (by decide), fun h => absurd h (by decide)⟩, List.forall_mem_cons.mpr ⟨⟨fun _ => ⟨q865, by decide, by decide⟩, fun h => absurd h (by decide), fun h => absurd h (by decide), fun h => absurd h (by decide), fun h => absurd h (by decide)⟩, List.forall_mem_cons.mpr ⟨⟨fun _ => ⟨q873, by decide, by decide⟩, fun h => absurd h (by decide), fun h => absurd h (by decide), fun h => absurd h (by decide), fun h => absurd h (by decide)⟩, List.forall_mem_cons.mpr ⟨⟨fun _ => ⟨q877, by decide, by decide⟩, fun h => absurd h (by decide), fun h => absurd h (by decide), fun h => absurd h (by decide), fun h => absurd h (by decide)⟩, List.forall_mem_cons.mpr ⟨⟨fun _ => ⟨q869, by decide, by decide⟩, fun h => absurd h (by decide), fun h => absurd h (by decide), fun h => absurd h (by decide), fun h => absurd h (by decide)⟩, List.forall_mem_cons.mpr ⟨⟨fun _ => ⟨q843, by decide, by decide⟩, fun h => absurd h (by decide), fun h => absurd h (by decide), fun h => absurd h (by decide), fun h => absurd h (by decide)⟩, List.forall_mem_cons.mpr ⟨⟨fun _ => ⟨q881, by decide, by decide⟩, fun h => absurd h (by decide), fun h => absurd h (by decide), fun h => absurd h (by decide), fun h => absurd h (by decide)⟩, List.forall_mem_cons.mpr ⟨⟨fun _ => ⟨q889, by decide, by decide⟩, fun h => absurd h (by decide), fun h => absurd h (by decide), fun h => absurd h (by decide), fun h => absurd h (by decide)⟩, List.forall_mem_cons.mpr ⟨⟨fun _ => ⟨q909, by decide, by decide⟩, fun h => absurd h (by decide), fun h => absurd h (by decide), fun h => absurd h (by decide), fun h => absurd h (by decide)⟩, List.forall_mem_cons.mpr ⟨⟨fun h => absurd h (by decide), fun _ => q367, fun h => absurd h (by decide), fun h => absurd h (by decide), fun h => absurd h (by decide)⟩, List.forall_mem_cons.mpr ⟨⟨fun h => absurd h (by decide), fun _ => q428, fun h => absurd h (by decide), fun h => absurd h (by decide), fun h => absurd h (by decide)⟩, (fun _ h => absurd h List.not_mem_nil)⟩⟩⟩⟩⟩⟩⟩⟩⟩⟩⟩⟩⟩⟩⟩⟩⟩⟩⟩⟩⟩⟩⟩⟩⟩⟩⟩⟩⟩⟩⟩⟩⟩⟩⟩⟩⟩⟩⟩⟩⟩⟩⟩⟩⟩⟩⟩⟩⟩⟩⟩⟩⟩⟩⟩⟩⟩⟩⟩⟩⟩⟩⟩⟩⟩
theorem am_cnx : ∀ x ∈ am_cn, (x.2.2 < 6 → Cond.classLink (am_ow x.1) x.2.1 (am_C x.2.2) ∈ lw_all) ∧ (100 ≤ x.2.2 → Cond.classLink (am_ow x.1) x.2.1 (am_C (am_el (x.2.2 - 100))) ∈ lw_all) :=
  List.forall_mem_cons.mpr ⟨⟨fun _ => q77, fun h => absurd h (by decide)⟩, List.forall_mem_cons.mpr ⟨⟨fun _ => q170, fun h => absurd h (by decide)⟩, List.forall_mem_cons.mpr ⟨⟨fun h => absurd h (by decide), fun _ => q170⟩, List.forall_mem_cons.mpr ⟨⟨fun _ => q269, fun h => absurd h (by decide)⟩, List.forall_mem_cons.mpr ⟨⟨fun h => absurd h (by decide), fun _ => q269⟩, List.forall_mem_cons.mpr ⟨⟨fun _ => q271, fun h => absurd h (by decide)⟩, List.forall_mem_cons.mpr ⟨⟨fun h => absurd h (by decide), fun _ => q271⟩, List.forall_mem_cons.mpr ⟨⟨fun h => absurd h (by decide), fun h => absurd h (by decide)⟩, (fun _ h => absurd h List.not_mem_nil)⟩⟩⟩⟩⟩⟩⟩⟩
theorem am_kix : ∀ x ∈ am_ki, Cond.constant (am_ow x.1) x.2.1 x.2.2 ∈ lw_all :=
  List.forall_mem_cons.mpr ⟨q497, List.forall_mem_cons.mpr ⟨q487, List.forall_mem_cons.mpr ⟨q488, List.forall_mem_cons.mpr ⟨q852, List.forall_mem_cons.mpr ⟨q847, List.forall_mem_cons.mpr ⟨q545, List.forall_mem_cons.mpr ⟨q546, List.forall_mem_cons.mpr ⟨q547, (fun _ h => absurd h List.not_mem_nil)⟩⟩⟩⟩⟩⟩⟩⟩
theorem am_klx : ∀ x ∈ am_kl, Cond.constantLong (am_ow x.1) x.2.1 x.2.2 ∈ lw_all :=
  List.forall_mem_cons.mpr ⟨q758, List.forall_mem_cons.mpr ⟨q759, List.forall_mem_cons.mpr ⟨q760, List.forall_mem_cons.mpr ⟨q776, (fun _ h => absurd h List.not_mem_nil)⟩⟩⟩⟩
def am_sx (n : Nat) : Nat := match n with
  | 0 => 104
  | 1 => 109
  | 2 => 111
  | 3 => 113
  | 4 => 115
  | 5 => 117
  | 6 => 119
  | 7 => 121
  | _ => 123
def am_tx (n : Nat) : String := match n with
  | 0 => "row"
  | 1 => "again"
  | 2 => "far"
  | 3 => "fair"
  | 4 => "won"
  | 5 => "lost"
  | 6 => "up"
  | 7 => "down"
  | _ => "of"
theorem am_slx : ∀ x ∈ am_sl, x.1 = 0 ∧ x.2.2 < 9 ∧ am_sx x.2.2 = x.2.1 :=
  List.forall_mem_cons.mpr ⟨⟨rfl, by decide, rfl⟩, List.forall_mem_cons.mpr ⟨⟨rfl, by decide, rfl⟩, List.forall_mem_cons.mpr ⟨⟨rfl, by decide, rfl⟩, List.forall_mem_cons.mpr ⟨⟨rfl, by decide, rfl⟩, List.forall_mem_cons.mpr ⟨⟨rfl, by decide, rfl⟩, List.forall_mem_cons.mpr ⟨⟨rfl, by decide, rfl⟩, List.forall_mem_cons.mpr ⟨⟨rfl, by decide, rfl⟩, List.forall_mem_cons.mpr ⟨⟨rfl, by decide, rfl⟩, List.forall_mem_cons.mpr ⟨⟨rfl, by decide, rfl⟩, (fun _ h => absurd h List.not_mem_nil)⟩⟩⟩⟩⟩⟩⟩⟩⟩
theorem am_codex : ∀ n, n < 98 → n ≠ k_X1_rules → Cond.code (am_y n) (am_b n) (am_mL n) (am_r n) ∈ lw_all := fun n h => match n, h with
  | 0, _ => fun _ => q63
  | 1, _ => fun _ => q68
  | 2, _ => fun _ => q72
  | 3, _ => fun h => absurd rfl h
  | 4, _ => fun _ => q81
  | 5, _ => fun _ => q85
  | 6, _ => fun _ => q89
  | 7, _ => fun _ => q92
  | 8, _ => fun _ => q95
  | 9, _ => fun _ => q151
  | 10, _ => fun _ => q158
  | 11, _ => fun _ => q162
  | 12, _ => fun _ => q166
  | 13, _ => fun _ => q359
  | 14, _ => fun _ => q362
  | 15, _ => fun _ => q415
  | 16, _ => fun _ => q419
  | 17, _ => fun _ => q423
  | 18, _ => fun _ => q449
  | 19, _ => fun _ => q453
  | 20, _ => fun _ => q457
  | 21, _ => fun _ => q460
  | 22, _ => fun _ => q467
  | 23, _ => fun _ => q474
  | 24, _ => fun _ => q478
  | 25, _ => fun _ => q482
  | 26, _ => fun _ => q486
  | 27, _ => fun _ => q492
  | 28, _ => fun _ => q496
  | 29, _ => fun _ => q501
  | 30, _ => fun _ => q505
  | 31, _ => fun _ => q509
  | 32, _ => fun _ => q513
  | 33, _ => fun _ => q517
  | 34, _ => fun _ => q521
  | 35, _ => fun _ => q525
  | 36, _ => fun _ => q533
  | 37, _ => fun _ => q537
  | 38, _ => fun _ => q541
  | 39, _ => fun _ => q555
  | 40, _ => fun _ => q99
  | 41, _ => fun _ => q176
  | 42, _ => fun _ => q242
  | 43, _ => fun _ => q583
  | 44, _ => fun _ => q727
  | 45, _ => fun _ => q731
  | 46, _ => fun _ => q735
  | 47, _ => fun _ => q739
  | 48, _ => fun _ => q743
  | 49, _ => fun _ => q747
  | 50, _ => fun _ => q750
  | 51, _ => fun _ => q753
  | 52, _ => fun _ => q757
  | 53, _ => fun _ => q764
  | 54, _ => fun _ => q768
  | 55, _ => fun _ => q771
  | 56, _ => fun _ => q775
  | 57, _ => fun _ => q780
  | 58, _ => fun _ => q784
  | 59, _ => fun _ => q788
  | 60, _ => fun _ => q792
  | 61, _ => fun _ => q795
  | 62, _ => fun _ => q799
  | 63, _ => fun _ => q803
  | 64, _ => fun _ => q807
  | 65, _ => fun _ => q811
  | 66, _ => fun _ => q815
  | 67, _ => fun _ => q819
  | 68, _ => fun _ => q823
  | 69, _ => fun _ => q827
  | 70, _ => fun _ => q830
  | 71, _ => fun _ => q834
  | 72, _ => fun _ => q838
  | 73, _ => fun _ => q842
  | 74, _ => fun _ => q846
  | 75, _ => fun _ => q851
  | 76, _ => fun _ => q856
  | 77, _ => fun _ => q860
  | 78, _ => fun _ => q864
  | 79, _ => fun _ => q868
  | 80, _ => fun _ => q872
  | 81, _ => fun _ => q876
  | 82, _ => fun _ => q880
  | 83, _ => fun _ => q884
  | 84, _ => fun _ => q888
  | 85, _ => fun _ => q892
  | 86, _ => fun _ => q896
  | 87, _ => fun _ => q900
  | 88, _ => fun _ => q904
  | 89, _ => fun _ => q908
  | 90, _ => fun _ => q912
  | 91, _ => fun _ => q916
  | 92, _ => fun _ => q920
  | 93, _ => fun _ => q924
  | 94, _ => fun _ => q366
  | 95, _ => fun _ => q529
  | 96, _ => fun _ => q427
  | 97, _ => fun _ => q544
  | n + 98, h => absurd h (by omega)
theorem am_initx : ∀ n, n < 98 → Cond.initialized (am_y n).cls ∈ lw_all := fun n h => match n, h with
  | 0, _ => q43
  | 1, _ => q43
  | 2, _ => q43
  | 3, _ => q43
  | 4, _ => q43
  | 5, _ => q43
  | 6, _ => q43
  | 7, _ => q43
  | 8, _ => q43
  | 9, _ => q43
  | 10, _ => q43
  | 11, _ => q43
  | 12, _ => q43
  | 13, _ => q43
  | 14, _ => q43
  | 15, _ => q43
  | 16, _ => q43
  | 17, _ => q43
  | 18, _ => q43
  | 19, _ => q43
  | 20, _ => q43
  | 21, _ => q43
  | 22, _ => q43
  | 23, _ => q43
  | 24, _ => q43
  | 25, _ => q43
  | 26, _ => q43
  | 27, _ => q43
  | 28, _ => q43
  | 29, _ => q43
  | 30, _ => q43
  | 31, _ => q43
  | 32, _ => q43
  | 33, _ => q43
  | 34, _ => q43
  | 35, _ => q43
  | 36, _ => q43
  | 37, _ => q43
  | 38, _ => q43
  | 39, _ => q43
  | 40, _ => q44
  | 41, _ => q44
  | 42, _ => q47
  | 43, _ => q48
  | 44, _ => q48
  | 45, _ => q48
  | 46, _ => q48
  | 47, _ => q48
  | 48, _ => q48
  | 49, _ => q48
  | 50, _ => q48
  | 51, _ => q48
  | 52, _ => q48
  | 53, _ => q48
  | 54, _ => q48
  | 55, _ => q48
  | 56, _ => q48
  | 57, _ => q48
  | 58, _ => q48
  | 59, _ => q48
  | 60, _ => q48
  | 61, _ => q48
  | 62, _ => q48
  | 63, _ => q48
  | 64, _ => q48
  | 65, _ => q48
  | 66, _ => q48
  | 67, _ => q48
  | 68, _ => q48
  | 69, _ => q48
  | 70, _ => q48
  | 71, _ => q48
  | 72, _ => q48
  | 73, _ => q48
  | 74, _ => q48
  | 75, _ => q48
  | 76, _ => q48
  | 77, _ => q48
  | 78, _ => q48
  | 79, _ => q48
  | 80, _ => q48
  | 81, _ => q48
  | 82, _ => q48
  | 83, _ => q48
  | 84, _ => q48
  | 85, _ => q48
  | 86, _ => q48
  | 87, _ => q48
  | 88, _ => q48
  | 89, _ => q48
  | 90, _ => q48
  | 91, _ => q48
  | 92, _ => q48
  | 93, _ => q48
  | 94, _ => q54
  | 95, _ => q54
  | 96, _ => q55
  | 97, _ => q59
  | n + 98, h => absurd h (by omega)
theorem am_plx : ∀ n, n < 98 → plainName (am_y n).cls = true ∧ ((am_y n).cls ≠ "java/lang/invoke/MethodHandle" ∧ (am_y n).cls ≠ "java/lang/invoke/VarHandle") ∧ (parseMethodDescriptor (am_y n).desc).map (fun d => d.parameters.length) = some (am_mN n - if am_mK n = 1 then 0 else 1) ∧ am_mL n ≤ 16 ∧ (am_y n).cls = am_ow (am_mO n) ∧ (am_mK n = 1 ∨ 1 ≤ am_mN n) := fun n h => match n, h with
  | 0, _ => ⟨by decide +kernel, ⟨by decide +kernel, by decide +kernel⟩, by decide +kernel, by decide, rfl, by decide⟩
  | 1, _ => ⟨by decide +kernel, ⟨by decide +kernel, by decide +kernel⟩, by decide +kernel, by decide, rfl, by decide⟩
  | 2, _ => ⟨by decide +kernel, ⟨by decide +kernel, by decide +kernel⟩, by decide +kernel, by decide, rfl, by decide⟩
  | 3, _ => ⟨by decide +kernel, ⟨by decide +kernel, by decide +kernel⟩, by decide +kernel, by decide, rfl, by decide⟩
  | 4, _ => ⟨by decide +kernel, ⟨by decide +kernel, by decide +kernel⟩, by decide +kernel, by decide, rfl, by decide⟩
  | 5, _ => ⟨by decide +kernel, ⟨by decide +kernel, by decide +kernel⟩, by decide +kernel, by decide, rfl, by decide⟩
  | 6, _ => ⟨by decide +kernel, ⟨by decide +kernel, by decide +kernel⟩, by decide +kernel, by decide, rfl, by decide⟩
  | 7, _ => ⟨by decide +kernel, ⟨by decide +kernel, by decide +kernel⟩, by decide +kernel, by decide, rfl, by decide⟩
  | 8, _ => ⟨by decide +kernel, ⟨by decide +kernel, by decide +kernel⟩, by decide +kernel, by decide, rfl, by decide⟩
  | 9, _ => ⟨by decide +kernel, ⟨by decide +kernel, by decide +kernel⟩, by decide +kernel, by decide, rfl, by decide⟩
  | 10, _ => ⟨by decide +kernel, ⟨by decide +kernel, by decide +kernel⟩, by decide +kernel, by decide, rfl, by decide⟩
  | 11, _ => ⟨by decide +kernel, ⟨by decide +kernel, by decide +kernel⟩, by decide +kernel, by decide, rfl, by decide⟩
  | 12, _ => ⟨by decide +kernel, ⟨by decide +kernel, by decide +kernel⟩, by decide +kernel, by decide, rfl, by decide⟩
  | 13, _ => ⟨by decide +kernel, ⟨by decide +kernel, by decide +kernel⟩, by decide +kernel, by decide, rfl, by decide⟩
  | 14, _ => ⟨by decide +kernel, ⟨by decide +kernel, by decide +kernel⟩, by decide +kernel, by decide, rfl, by decide⟩
  | 15, _ => ⟨by decide +kernel, ⟨by decide +kernel, by decide +kernel⟩, by decide +kernel, by decide, rfl, by decide⟩
  | 16, _ => ⟨by decide +kernel, ⟨by decide +kernel, by decide +kernel⟩, by decide +kernel, by decide, rfl, by decide⟩
  | 17, _ => ⟨by decide +kernel, ⟨by decide +kernel, by decide +kernel⟩, by decide +kernel, by decide, rfl, by decide⟩
  | 18, _ => ⟨by decide +kernel, ⟨by decide +kernel, by decide +kernel⟩, by decide +kernel, by decide, rfl, by decide⟩
  | 19, _ => ⟨by decide +kernel, ⟨by decide +kernel, by decide +kernel⟩, by decide +kernel, by decide, rfl, by decide⟩
  | 20, _ => ⟨by decide +kernel, ⟨by decide +kernel, by decide +kernel⟩, by decide +kernel, by decide, rfl, by decide⟩
  | 21, _ => ⟨by decide +kernel, ⟨by decide +kernel, by decide +kernel⟩, by decide +kernel, by decide, rfl, by decide⟩
  | 22, _ => ⟨by decide +kernel, ⟨by decide +kernel, by decide +kernel⟩, by decide +kernel, by decide, rfl, by decide⟩
  | 23, _ => ⟨by decide +kernel, ⟨by decide +kernel, by decide +kernel⟩, by decide +kernel, by decide, rfl, by decide⟩
  | 24, _ => ⟨by decide +kernel, ⟨by decide +kernel, by decide +kernel⟩, by decide +kernel, by decide, rfl, by decide⟩
  | 25, _ => ⟨by decide +kernel, ⟨by decide +kernel, by decide +kernel⟩, by decide +kernel, by decide, rfl, by decide⟩
  | 26, _ => ⟨by decide +kernel, ⟨by decide +kernel, by decide +kernel⟩, by decide +kernel, by decide, rfl, by decide⟩
  | 27, _ => ⟨by decide +kernel, ⟨by decide +kernel, by decide +kernel⟩, by decide +kernel, by decide, rfl, by decide⟩
  | 28, _ => ⟨by decide +kernel, ⟨by decide +kernel, by decide +kernel⟩, by decide +kernel, by decide, rfl, by decide⟩
  | 29, _ => ⟨by decide +kernel, ⟨by decide +kernel, by decide +kernel⟩, by decide +kernel, by decide, rfl, by decide⟩
  | 30, _ => ⟨by decide +kernel, ⟨by decide +kernel, by decide +kernel⟩, by decide +kernel, by decide, rfl, by decide⟩
  | 31, _ => ⟨by decide +kernel, ⟨by decide +kernel, by decide +kernel⟩, by decide +kernel, by decide, rfl, by decide⟩
  | 32, _ => ⟨by decide +kernel, ⟨by decide +kernel, by decide +kernel⟩, by decide +kernel, by decide, rfl, by decide⟩
  | 33, _ => ⟨by decide +kernel, ⟨by decide +kernel, by decide +kernel⟩, by decide +kernel, by decide, rfl, by decide⟩
  | 34, _ => ⟨by decide +kernel, ⟨by decide +kernel, by decide +kernel⟩, by decide +kernel, by decide, rfl, by decide⟩
  | 35, _ => ⟨by decide +kernel, ⟨by decide +kernel, by decide +kernel⟩, by decide +kernel, by decide, rfl, by decide⟩
  | 36, _ => ⟨by decide +kernel, ⟨by decide +kernel, by decide +kernel⟩, by decide +kernel, by decide, rfl, by decide⟩
  | 37, _ => ⟨by decide +kernel, ⟨by decide +kernel, by decide +kernel⟩, by decide +kernel, by decide, rfl, by decide⟩
  | 38, _ => ⟨by decide +kernel, ⟨by decide +kernel, by decide +kernel⟩, by decide +kernel, by decide, rfl, by decide⟩
  | 39, _ => ⟨by decide +kernel, ⟨by decide +kernel, by decide +kernel⟩, by decide +kernel, by decide, rfl, by decide⟩
  | 40, _ => ⟨by decide +kernel, ⟨by decide +kernel, by decide +kernel⟩, by decide +kernel, by decide, rfl, by decide⟩
  | 41, _ => ⟨by decide +kernel, ⟨by decide +kernel, by decide +kernel⟩, by decide +kernel, by decide, rfl, by decide⟩
  | 42, _ => ⟨by decide +kernel, ⟨by decide +kernel, by decide +kernel⟩, by decide +kernel, by decide, rfl, by decide⟩
  | 43, _ => ⟨by decide +kernel, ⟨by decide +kernel, by decide +kernel⟩, by decide +kernel, by decide, rfl, by decide⟩
  | 44, _ => ⟨by decide +kernel, ⟨by decide +kernel, by decide +kernel⟩, by decide +kernel, by decide, rfl, by decide⟩
  | 45, _ => ⟨by decide +kernel, ⟨by decide +kernel, by decide +kernel⟩, by decide +kernel, by decide, rfl, by decide⟩
  | 46, _ => ⟨by decide +kernel, ⟨by decide +kernel, by decide +kernel⟩, by decide +kernel, by decide, rfl, by decide⟩
  | 47, _ => ⟨by decide +kernel, ⟨by decide +kernel, by decide +kernel⟩, by decide +kernel, by decide, rfl, by decide⟩
  | 48, _ => ⟨by decide +kernel, ⟨by decide +kernel, by decide +kernel⟩, by decide +kernel, by decide, rfl, by decide⟩
  | 49, _ => ⟨by decide +kernel, ⟨by decide +kernel, by decide +kernel⟩, by decide +kernel, by decide, rfl, by decide⟩
  | 50, _ => ⟨by decide +kernel, ⟨by decide +kernel, by decide +kernel⟩, by decide +kernel, by decide, rfl, by decide⟩
  | 51, _ => ⟨by decide +kernel, ⟨by decide +kernel, by decide +kernel⟩, by decide +kernel, by decide, rfl, by decide⟩
  | 52, _ => ⟨by decide +kernel, ⟨by decide +kernel, by decide +kernel⟩, by decide +kernel, by decide, rfl, by decide⟩
  | 53, _ => ⟨by decide +kernel, ⟨by decide +kernel, by decide +kernel⟩, by decide +kernel, by decide, rfl, by decide⟩
  | 54, _ => ⟨by decide +kernel, ⟨by decide +kernel, by decide +kernel⟩, by decide +kernel, by decide, rfl, by decide⟩
  | 55, _ => ⟨by decide +kernel, ⟨by decide +kernel, by decide +kernel⟩, by decide +kernel, by decide, rfl, by decide⟩
  | 56, _ => ⟨by decide +kernel, ⟨by decide +kernel, by decide +kernel⟩, by decide +kernel, by decide, rfl, by decide⟩
  | 57, _ => ⟨by decide +kernel, ⟨by decide +kernel, by decide +kernel⟩, by decide +kernel, by decide, rfl, by decide⟩
  | 58, _ => ⟨by decide +kernel, ⟨by decide +kernel, by decide +kernel⟩, by decide +kernel, by decide, rfl, by decide⟩
  | 59, _ => ⟨by decide +kernel, ⟨by decide +kernel, by decide +kernel⟩, by decide +kernel, by decide, rfl, by decide⟩
  | 60, _ => ⟨by decide +kernel, ⟨by decide +kernel, by decide +kernel⟩, by decide +kernel, by decide, rfl, by decide⟩
  | 61, _ => ⟨by decide +kernel, ⟨by decide +kernel, by decide +kernel⟩, by decide +kernel, by decide, rfl, by decide⟩
  | 62, _ => ⟨by decide +kernel, ⟨by decide +kernel, by decide +kernel⟩, by decide +kernel, by decide, rfl, by decide⟩
  | 63, _ => ⟨by decide +kernel, ⟨by decide +kernel, by decide +kernel⟩, by decide +kernel, by decide, rfl, by decide⟩
  | 64, _ => ⟨by decide +kernel, ⟨by decide +kernel, by decide +kernel⟩, by decide +kernel, by decide, rfl, by decide⟩
  | 65, _ => ⟨by decide +kernel, ⟨by decide +kernel, by decide +kernel⟩, by decide +kernel, by decide, rfl, by decide⟩
  | 66, _ => ⟨by decide +kernel, ⟨by decide +kernel, by decide +kernel⟩, by decide +kernel, by decide, rfl, by decide⟩
  | 67, _ => ⟨by decide +kernel, ⟨by decide +kernel, by decide +kernel⟩, by decide +kernel, by decide, rfl, by decide⟩
  | 68, _ => ⟨by decide +kernel, ⟨by decide +kernel, by decide +kernel⟩, by decide +kernel, by decide, rfl, by decide⟩
  | 69, _ => ⟨by decide +kernel, ⟨by decide +kernel, by decide +kernel⟩, by decide +kernel, by decide, rfl, by decide⟩
  | 70, _ => ⟨by decide +kernel, ⟨by decide +kernel, by decide +kernel⟩, by decide +kernel, by decide, rfl, by decide⟩
  | 71, _ => ⟨by decide +kernel, ⟨by decide +kernel, by decide +kernel⟩, by decide +kernel, by decide, rfl, by decide⟩
  | 72, _ => ⟨by decide +kernel, ⟨by decide +kernel, by decide +kernel⟩, by decide +kernel, by decide, rfl, by decide⟩
  | 73, _ => ⟨by decide +kernel, ⟨by decide +kernel, by decide +kernel⟩, by decide +kernel, by decide, rfl, by decide⟩
  | 74, _ => ⟨by decide +kernel, ⟨by decide +kernel, by decide +kernel⟩, by decide +kernel, by decide, rfl, by decide⟩
  | 75, _ => ⟨by decide +kernel, ⟨by decide +kernel, by decide +kernel⟩, by decide +kernel, by decide, rfl, by decide⟩
  | 76, _ => ⟨by decide +kernel, ⟨by decide +kernel, by decide +kernel⟩, by decide +kernel, by decide, rfl, by decide⟩
  | 77, _ => ⟨by decide +kernel, ⟨by decide +kernel, by decide +kernel⟩, by decide +kernel, by decide, rfl, by decide⟩
  | 78, _ => ⟨by decide +kernel, ⟨by decide +kernel, by decide +kernel⟩, by decide +kernel, by decide, rfl, by decide⟩
  | 79, _ => ⟨by decide +kernel, ⟨by decide +kernel, by decide +kernel⟩, by decide +kernel, by decide, rfl, by decide⟩
  | 80, _ => ⟨by decide +kernel, ⟨by decide +kernel, by decide +kernel⟩, by decide +kernel, by decide, rfl, by decide⟩
  | 81, _ => ⟨by decide +kernel, ⟨by decide +kernel, by decide +kernel⟩, by decide +kernel, by decide, rfl, by decide⟩
  | 82, _ => ⟨by decide +kernel, ⟨by decide +kernel, by decide +kernel⟩, by decide +kernel, by decide, rfl, by decide⟩
  | 83, _ => ⟨by decide +kernel, ⟨by decide +kernel, by decide +kernel⟩, by decide +kernel, by decide, rfl, by decide⟩
  | 84, _ => ⟨by decide +kernel, ⟨by decide +kernel, by decide +kernel⟩, by decide +kernel, by decide, rfl, by decide⟩
  | 85, _ => ⟨by decide +kernel, ⟨by decide +kernel, by decide +kernel⟩, by decide +kernel, by decide, rfl, by decide⟩
  | 86, _ => ⟨by decide +kernel, ⟨by decide +kernel, by decide +kernel⟩, by decide +kernel, by decide, rfl, by decide⟩
  | 87, _ => ⟨by decide +kernel, ⟨by decide +kernel, by decide +kernel⟩, by decide +kernel, by decide, rfl, by decide⟩
  | 88, _ => ⟨by decide +kernel, ⟨by decide +kernel, by decide +kernel⟩, by decide +kernel, by decide, rfl, by decide⟩
  | 89, _ => ⟨by decide +kernel, ⟨by decide +kernel, by decide +kernel⟩, by decide +kernel, by decide, rfl, by decide⟩
  | 90, _ => ⟨by decide +kernel, ⟨by decide +kernel, by decide +kernel⟩, by decide +kernel, by decide, rfl, by decide⟩
  | 91, _ => ⟨by decide +kernel, ⟨by decide +kernel, by decide +kernel⟩, by decide +kernel, by decide, rfl, by decide⟩
  | 92, _ => ⟨by decide +kernel, ⟨by decide +kernel, by decide +kernel⟩, by decide +kernel, by decide, rfl, by decide⟩
  | 93, _ => ⟨by decide +kernel, ⟨by decide +kernel, by decide +kernel⟩, by decide +kernel, by decide, rfl, by decide⟩
  | 94, _ => ⟨by decide +kernel, ⟨by decide +kernel, by decide +kernel⟩, by decide +kernel, by decide, rfl, by decide⟩
  | 95, _ => ⟨by decide +kernel, ⟨by decide +kernel, by decide +kernel⟩, by decide +kernel, by decide, rfl, by decide⟩
  | 96, _ => ⟨by decide +kernel, ⟨by decide +kernel, by decide +kernel⟩, by decide +kernel, by decide, rfl, by decide⟩
  | 97, _ => ⟨by decide +kernel, ⟨by decide +kernel, by decide +kernel⟩, by decide +kernel, by decide, rfl, by decide⟩
  | n + 98, h => absurd h (by omega)
theorem am_kdx : ∀ n, n < 98 → (am_mK n = 0 → Cond.instanceMethod (am_y n) ∈ lw_all ∧ Cond.selects (am_C (am_mC n)) (am_y n) (am_y n) ∈ lw_all ∧ am_mC n < 6 ∧ (am_y n).cls = am_C (am_mC n)) ∧ (am_mK n = 1 → Cond.static (am_y n) ∈ lw_all) ∧ (am_mK n = 2 → Cond.instanceMethod (am_y n) ∈ lw_all ∧ (am_y n).name = "<init>" ∧ am_r n = none ∧ am_mC n < 6 ∧ (am_y n).cls = am_C (am_mC n)) := fun n h => match n, h with
  | 0, _ => ⟨fun _ => ⟨q61, q62, by decide, rfl⟩, fun h => absurd h (by decide), fun h => absurd h (by decide)⟩
  | 1, _ => ⟨fun _ => ⟨q66, qs0, by decide, rfl⟩, fun h => absurd h (by decide), fun h => absurd h (by decide)⟩
  | 2, _ => ⟨fun _ => ⟨q70, q71, by decide, rfl⟩, fun h => absurd h (by decide), fun h => absurd h (by decide)⟩
  | 3, _ => ⟨fun _ => ⟨q74, q75, by decide, rfl⟩, fun h => absurd h (by decide), fun h => absurd h (by decide)⟩
  | 4, _ => ⟨fun _ => ⟨q80, qs1, by decide, rfl⟩, fun h => absurd h (by decide), fun h => absurd h (by decide)⟩
  | 5, _ => ⟨fun _ => ⟨q84, qs2, by decide, rfl⟩, fun h => absurd h (by decide), fun h => absurd h (by decide)⟩
  | 6, _ => ⟨fun _ => ⟨q88, qs3, by decide, rfl⟩, fun h => absurd h (by decide), fun h => absurd h (by decide)⟩
  | 7, _ => ⟨fun h => absurd h (by decide), fun _ => q91, fun h => absurd h (by decide)⟩
  | 8, _ => ⟨fun h => absurd h (by decide), fun _ => q94, fun h => absurd h (by decide)⟩
  | 9, _ => ⟨fun _ => ⟨q150, qs4, by decide, rfl⟩, fun h => absurd h (by decide), fun h => absurd h (by decide)⟩
  | 10, _ => ⟨fun _ => ⟨q156, q157, by decide, rfl⟩, fun h => absurd h (by decide), fun h => absurd h (by decide)⟩
  | 11, _ => ⟨fun _ => ⟨q160, q161, by decide, rfl⟩, fun h => absurd h (by decide), fun h => absurd h (by decide)⟩
  | 12, _ => ⟨fun h => absurd h (by decide), fun h => absurd h (by decide), fun _ => ⟨q165, rfl, rfl, by decide, rfl⟩⟩
  | 13, _ => ⟨fun _ => ⟨q357, q358, by decide, rfl⟩, fun h => absurd h (by decide), fun h => absurd h (by decide)⟩
  | 14, _ => ⟨fun h => absurd h (by decide), fun _ => q361, fun h => absurd h (by decide)⟩
  | 15, _ => ⟨fun _ => ⟨q413, q414, by decide, rfl⟩, fun h => absurd h (by decide), fun h => absurd h (by decide)⟩
  | 16, _ => ⟨fun _ => ⟨q418, qs6, by decide, rfl⟩, fun h => absurd h (by decide), fun h => absurd h (by decide)⟩
  | 17, _ => ⟨fun _ => ⟨q421, q422, by decide, rfl⟩, fun h => absurd h (by decide), fun h => absurd h (by decide)⟩
  | 18, _ => ⟨fun _ => ⟨q447, q448, by decide, rfl⟩, fun h => absurd h (by decide), fun h => absurd h (by decide)⟩
  | 19, _ => ⟨fun _ => ⟨q452, qs7, by decide, rfl⟩, fun h => absurd h (by decide), fun h => absurd h (by decide)⟩
  | 20, _ => ⟨fun _ => ⟨q456, qs8, by decide, rfl⟩, fun h => absurd h (by decide), fun h => absurd h (by decide)⟩
  | 21, _ => ⟨fun h => absurd h (by decide), fun _ => q459, fun h => absurd h (by decide)⟩
  | 22, _ => ⟨fun _ => ⟨q466, qs9, by decide, rfl⟩, fun h => absurd h (by decide), fun h => absurd h (by decide)⟩
  | 23, _ => ⟨fun _ => ⟨q472, q473, by decide, rfl⟩, fun h => absurd h (by decide), fun h => absurd h (by decide)⟩
  | 24, _ => ⟨fun _ => ⟨q477, qs10, by decide, rfl⟩, fun h => absurd h (by decide), fun h => absurd h (by decide)⟩
  | 25, _ => ⟨fun _ => ⟨q480, q481, by decide, rfl⟩, fun h => absurd h (by decide), fun h => absurd h (by decide)⟩
  | 26, _ => ⟨fun _ => ⟨q485, qs11, by decide, rfl⟩, fun h => absurd h (by decide), fun h => absurd h (by decide)⟩
  | 27, _ => ⟨fun _ => ⟨q491, qs12, by decide, rfl⟩, fun h => absurd h (by decide), fun h => absurd h (by decide)⟩
  | 28, _ => ⟨fun _ => ⟨q495, qs13, by decide, rfl⟩, fun h => absurd h (by decide), fun h => absurd h (by decide)⟩
  | 29, _ => ⟨fun _ => ⟨q500, qs14, by decide, rfl⟩, fun h => absurd h (by decide), fun h => absurd h (by decide)⟩
  | 30, _ => ⟨fun _ => ⟨q503, q504, by decide, rfl⟩, fun h => absurd h (by decide), fun h => absurd h (by decide)⟩
  | 31, _ => ⟨fun _ => ⟨q508, qs15, by decide, rfl⟩, fun h => absurd h (by decide), fun h => absurd h (by decide)⟩
  | 32, _ => ⟨fun _ => ⟨q511, q512, by decide, rfl⟩, fun h => absurd h (by decide), fun h => absurd h (by decide)⟩
  | 33, _ => ⟨fun _ => ⟨q515, q516, by decide, rfl⟩, fun h => absurd h (by decide), fun h => absurd h (by decide)⟩
  | 34, _ => ⟨fun _ => ⟨q519, q520, by decide, rfl⟩, fun h => absurd h (by decide), fun h => absurd h (by decide)⟩
  | 35, _ => ⟨fun _ => ⟨q524, qs16, by decide, rfl⟩, fun h => absurd h (by decide), fun h => absurd h (by decide)⟩
  | 36, _ => ⟨fun _ => ⟨q531, q532, by decide, rfl⟩, fun h => absurd h (by decide), fun h => absurd h (by decide)⟩
  | 37, _ => ⟨fun _ => ⟨q535, q536, by decide, rfl⟩, fun h => absurd h (by decide), fun h => absurd h (by decide)⟩
  | 38, _ => ⟨fun _ => ⟨q539, q540, by decide, rfl⟩, fun h => absurd h (by decide), fun h => absurd h (by decide)⟩
  | 39, _ => ⟨fun _ => ⟨q553, q554, by decide, rfl⟩, fun h => absurd h (by decide), fun h => absurd h (by decide)⟩
  | 40, _ => ⟨fun _ => ⟨q97, q98, by decide, rfl⟩, fun h => absurd h (by decide), fun h => absurd h (by decide)⟩
  | 41, _ => ⟨fun h => absurd h (by decide), fun h => absurd h (by decide), fun _ => ⟨q175, rfl, rfl, by decide, rfl⟩⟩
  | 42, _ => ⟨fun h => absurd h (by decide), fun h => absurd h (by decide), fun _ => ⟨q241, rfl, rfl, by decide, rfl⟩⟩
  | 43, _ => ⟨fun h => absurd h (by decide), fun h => absurd h (by decide), fun _ => ⟨q582, rfl, rfl, by decide, rfl⟩⟩
  | 44, _ => ⟨fun _ => ⟨q725, q726, by decide, rfl⟩, fun h => absurd h (by decide), fun h => absurd h (by decide)⟩
  | 45, _ => ⟨fun _ => ⟨q729, q730, by decide, rfl⟩, fun h => absurd h (by decide), fun h => absurd h (by decide)⟩
  | 46, _ => ⟨fun _ => ⟨q734, qs17, by decide, rfl⟩, fun h => absurd h (by decide), fun h => absurd h (by decide)⟩
  | 47, _ => ⟨fun _ => ⟨q737, q738, by decide, rfl⟩, fun h => absurd h (by decide), fun h => absurd h (by decide)⟩
  | 48, _ => ⟨fun _ => ⟨q741, q742, by decide, rfl⟩, fun h => absurd h (by decide), fun h => absurd h (by decide)⟩
  | 49, _ => ⟨fun _ => ⟨q746, qs18, by decide, rfl⟩, fun h => absurd h (by decide), fun h => absurd h (by decide)⟩
  | 50, _ => ⟨fun h => absurd h (by decide), fun _ => q749, fun h => absurd h (by decide)⟩
  | 51, _ => ⟨fun h => absurd h (by decide), fun _ => q752, fun h => absurd h (by decide)⟩
  | 52, _ => ⟨fun _ => ⟨q756, qs19, by decide, rfl⟩, fun h => absurd h (by decide), fun h => absurd h (by decide)⟩
  | 53, _ => ⟨fun _ => ⟨q763, qs20, by decide, rfl⟩, fun h => absurd h (by decide), fun h => absurd h (by decide)⟩
  | 54, _ => ⟨fun _ => ⟨q767, qs21, by decide, rfl⟩, fun h => absurd h (by decide), fun h => absurd h (by decide)⟩
  | 55, _ => ⟨fun h => absurd h (by decide), fun _ => q770, fun h => absurd h (by decide)⟩
  | 56, _ => ⟨fun _ => ⟨q774, qs22, by decide, rfl⟩, fun h => absurd h (by decide), fun h => absurd h (by decide)⟩
  | 57, _ => ⟨fun _ => ⟨q779, qs23, by decide, rfl⟩, fun h => absurd h (by decide), fun h => absurd h (by decide)⟩
  | 58, _ => ⟨fun _ => ⟨q782, q783, by decide, rfl⟩, fun h => absurd h (by decide), fun h => absurd h (by decide)⟩
  | 59, _ => ⟨fun _ => ⟨q786, q787, by decide, rfl⟩, fun h => absurd h (by decide), fun h => absurd h (by decide)⟩
  | 60, _ => ⟨fun _ => ⟨q790, q791, by decide, rfl⟩, fun h => absurd h (by decide), fun h => absurd h (by decide)⟩
  | 61, _ => ⟨fun h => absurd h (by decide), fun _ => q794, fun h => absurd h (by decide)⟩
  | 62, _ => ⟨fun _ => ⟨q797, q798, by decide, rfl⟩, fun h => absurd h (by decide), fun h => absurd h (by decide)⟩
  | 63, _ => ⟨fun _ => ⟨q802, qs24, by decide, rfl⟩, fun h => absurd h (by decide), fun h => absurd h (by decide)⟩
  | 64, _ => ⟨fun _ => ⟨q806, qs25, by decide, rfl⟩, fun h => absurd h (by decide), fun h => absurd h (by decide)⟩
  | 65, _ => ⟨fun _ => ⟨q809, q810, by decide, rfl⟩, fun h => absurd h (by decide), fun h => absurd h (by decide)⟩
  | 66, _ => ⟨fun _ => ⟨q813, q814, by decide, rfl⟩, fun h => absurd h (by decide), fun h => absurd h (by decide)⟩
  | 67, _ => ⟨fun _ => ⟨q818, qs26, by decide, rfl⟩, fun h => absurd h (by decide), fun h => absurd h (by decide)⟩
  | 68, _ => ⟨fun _ => ⟨q822, qs27, by decide, rfl⟩, fun h => absurd h (by decide), fun h => absurd h (by decide)⟩
  | 69, _ => ⟨fun _ => ⟨q826, qs28, by decide, rfl⟩, fun h => absurd h (by decide), fun h => absurd h (by decide)⟩
  | 70, _ => ⟨fun h => absurd h (by decide), fun _ => q829, fun h => absurd h (by decide)⟩
  | 71, _ => ⟨fun _ => ⟨q832, q833, by decide, rfl⟩, fun h => absurd h (by decide), fun h => absurd h (by decide)⟩
  | 72, _ => ⟨fun _ => ⟨q837, qs29, by decide, rfl⟩, fun h => absurd h (by decide), fun h => absurd h (by decide)⟩
  | 73, _ => ⟨fun _ => ⟨q840, q841, by decide, rfl⟩, fun h => absurd h (by decide), fun h => absurd h (by decide)⟩
  | 74, _ => ⟨fun _ => ⟨q845, qs30, by decide, rfl⟩, fun h => absurd h (by decide), fun h => absurd h (by decide)⟩
  | 75, _ => ⟨fun _ => ⟨q850, qs31, by decide, rfl⟩, fun h => absurd h (by decide), fun h => absurd h (by decide)⟩
  | 76, _ => ⟨fun _ => ⟨q855, qs32, by decide, rfl⟩, fun h => absurd h (by decide), fun h => absurd h (by decide)⟩
  | 77, _ => ⟨fun _ => ⟨q859, qs33, by decide, rfl⟩, fun h => absurd h (by decide), fun h => absurd h (by decide)⟩
  | 78, _ => ⟨fun _ => ⟨q863, qs34, by decide, rfl⟩, fun h => absurd h (by decide), fun h => absurd h (by decide)⟩
  | 79, _ => ⟨fun _ => ⟨q867, qs35, by decide, rfl⟩, fun h => absurd h (by decide), fun h => absurd h (by decide)⟩
  | 80, _ => ⟨fun _ => ⟨q871, qs36, by decide, rfl⟩, fun h => absurd h (by decide), fun h => absurd h (by decide)⟩
  | 81, _ => ⟨fun _ => ⟨q875, qs37, by decide, rfl⟩, fun h => absurd h (by decide), fun h => absurd h (by decide)⟩
  | 82, _ => ⟨fun _ => ⟨q879, qs38, by decide, rfl⟩, fun h => absurd h (by decide), fun h => absurd h (by decide)⟩
  | 83, _ => ⟨fun _ => ⟨q883, qs39, by decide, rfl⟩, fun h => absurd h (by decide), fun h => absurd h (by decide)⟩
  | 84, _ => ⟨fun _ => ⟨q886, q887, by decide, rfl⟩, fun h => absurd h (by decide), fun h => absurd h (by decide)⟩
  | 85, _ => ⟨fun _ => ⟨q891, qs40, by decide, rfl⟩, fun h => absurd h (by decide), fun h => absurd h (by decide)⟩
  | 86, _ => ⟨fun _ => ⟨q894, q895, by decide, rfl⟩, fun h => absurd h (by decide), fun h => absurd h (by decide)⟩
  | 87, _ => ⟨fun _ => ⟨q898, q899, by decide, rfl⟩, fun h => absurd h (by decide), fun h => absurd h (by decide)⟩
  | 88, _ => ⟨fun _ => ⟨q902, q903, by decide, rfl⟩, fun h => absurd h (by decide), fun h => absurd h (by decide)⟩
  | 89, _ => ⟨fun _ => ⟨q906, q907, by decide, rfl⟩, fun h => absurd h (by decide), fun h => absurd h (by decide)⟩
  | 90, _ => ⟨fun _ => ⟨q911, qs41, by decide, rfl⟩, fun h => absurd h (by decide), fun h => absurd h (by decide)⟩
  | 91, _ => ⟨fun _ => ⟨q914, q915, by decide, rfl⟩, fun h => absurd h (by decide), fun h => absurd h (by decide)⟩
  | 92, _ => ⟨fun _ => ⟨q918, q919, by decide, rfl⟩, fun h => absurd h (by decide), fun h => absurd h (by decide)⟩
  | 93, _ => ⟨fun _ => ⟨q922, q923, by decide, rfl⟩, fun h => absurd h (by decide), fun h => absurd h (by decide)⟩
  | 94, _ => ⟨fun h => absurd h (by decide), fun h => absurd h (by decide), fun _ => ⟨q365, rfl, rfl, by decide, rfl⟩⟩
  | 95, _ => ⟨fun _ => ⟨q527, q528, by decide, rfl⟩, fun h => absurd h (by decide), fun h => absurd h (by decide)⟩
  | 96, _ => ⟨fun h => absurd h (by decide), fun h => absurd h (by decide), fun _ => ⟨q426, rfl, rfl, by decide, rfl⟩⟩
  | 97, _ => ⟨fun h => absurd h (by decide), fun _ => q543, fun h => absurd h (by decide)⟩
  | n + 98, h => absurd h (by omega)
end
