-- ===== PART A: goes FIRST, ahead of the names: the tables' words, and 'selects' of the private methods out of them =====
/-- a private method of a class that the tables say can be made, by its rows of tables_1 -/
def lw_okq (q : MethodName × Nat) : Prop := (q.1.cls ≠ "java/lang/invoke/MethodHandle" ∧ q.1.cls ≠ "java/lang/invoke/VarHandle") ∧ Cond.instantiable q.1.cls q.2 ∈ tables_1 ∧ Cond.privateMethod q.1 ∈ tables_1 ∧ Cond.instanceMethod q.1 ∈ tables_1
set_option maxRecDepth 100000
theorem lw_t1 {w : Cond} (h : w ∈ tables_1_1) : w ∈ tables_1 := List.mem_append_left _ h
theorem lw_t2 {w : Cond} (h : w ∈ tables_1_2) : w ∈ tables_1 := List.mem_append_right _ (List.mem_append_left _ h)
theorem lw_t3 {w : Cond} (h : w ∈ tables_1_3) : w ∈ tables_1 := List.mem_append_right _ (List.mem_append_right _ (List.mem_append_left _ h))
theorem lw_t4 {w : Cond} (h : w ∈ tables_1_4) : w ∈ tables_1 := List.mem_append_right _ (List.mem_append_right _ (List.mem_append_right _ (List.mem_append_left _ h)))
theorem lw_t5 {w : Cond} (h : w ∈ tables_1_5) : w ∈ tables_1 := List.mem_append_right _ (List.mem_append_right _ (List.mem_append_right _ (List.mem_append_right _ (List.mem_append_left _ h))))
theorem lw_t6 {w : Cond} (h : w ∈ tables_1_6) : w ∈ tables_1 := List.mem_append_right _ (List.mem_append_right _ (List.mem_append_right _ (List.mem_append_right _ (List.mem_append_right _ h))))
theorem lw_p0 : lw_okq (⟨"TrapdoorVotes$Reader", "next", "()V"⟩, 8) := ⟨⟨by decide +kernel, by decide +kernel⟩, lw_t1 (List.mem_of_getElem? (i := 44) rfl), lw_t1 (List.mem_of_getElem? (i := 97) rfl), lw_t1 (List.mem_of_getElem? (i := 98) rfl)⟩
theorem lw_p1 : lw_okq (⟨"TrapdoorVotes$Reader", "at", "(I)I"⟩, 8) := ⟨⟨by decide +kernel, by decide +kernel⟩, lw_t1 (List.mem_of_getElem? (i := 44) rfl), lw_t1 (List.mem_of_getElem? (i := 101) rfl), lw_t1 (List.mem_of_getElem? (i := 102) rfl)⟩
theorem lw_p2 : lw_okq (⟨"TrapdoorVotes$Reader", "must", "(ZI)V"⟩, 8) := ⟨⟨by decide +kernel, by decide +kernel⟩, lw_t1 (List.mem_of_getElem? (i := 44) rfl), lw_t1 (List.mem_of_getElem? (i := 110) rfl), lw_t1 (List.mem_of_getElem? (i := 111) rfl)⟩
theorem lw_p3 : lw_okq (⟨"java/lang/NullPointerException", "getExtendedNPEMessage", "()Ljava/lang/String;"⟩, 8) := ⟨⟨by decide +kernel, by decide +kernel⟩, lw_t1 (List.mem_of_getElem? (i := 155) rfl), lw_t1 (List.mem_of_getElem? (i := 153) rfl), lw_t1 (List.mem_of_getElem? (i := 154) rfl)⟩
theorem lw_p4 : lw_okq (⟨"java/lang/Throwable", "fillInStackTrace", "(I)Ljava/lang/Throwable;"⟩, 6) := ⟨⟨by decide +kernel, by decide +kernel⟩, lw_t1 (List.mem_of_getElem? (i := 167) rfl), lw_t1 (List.mem_of_getElem? (i := 165) rfl), lw_t1 (List.mem_of_getElem? (i := 166) rfl)⟩
theorem lw_p5 : lw_okq (⟨"TrapdoorVotes$Reader", "line", "()V"⟩, 8) := ⟨⟨by decide +kernel, by decide +kernel⟩, lw_t1 (List.mem_of_getElem? (i := 44) rfl), lw_t1 (List.mem_of_getElem? (i := 234) rfl), lw_t1 (List.mem_of_getElem? (i := 235) rfl)⟩
theorem lw_p6 : lw_okq (⟨"TrapdoorVotes$Reader", "isWord", "(Ljava/lang/String;)Z"⟩, 8) := ⟨⟨by decide +kernel, by decide +kernel⟩, lw_t1 (List.mem_of_getElem? (i := 44) rfl), lw_t2 (List.mem_of_getElem? (i := 0) rfl), lw_t2 (List.mem_of_getElem? (i := 1) rfl)⟩
theorem lw_p7 : lw_okq (⟨"TrapdoorVotes$Reader", "handOf", "(I)V"⟩, 8) := ⟨⟨by decide +kernel, by decide +kernel⟩, lw_t1 (List.mem_of_getElem? (i := 44) rfl), lw_t2 (List.mem_of_getElem? (i := 52) rfl), lw_t2 (List.mem_of_getElem? (i := 53) rfl)⟩
theorem lw_p8 : lw_okq (⟨"TrapdoorVotes$Reader", "number", "(II)I"⟩, 8) := ⟨⟨by decide +kernel, by decide +kernel⟩, lw_t1 (List.mem_of_getElem? (i := 44) rfl), lw_t2 (List.mem_of_getElem? (i := 56) rfl), lw_t2 (List.mem_of_getElem? (i := 57) rfl)⟩
theorem lw_p9 : lw_okq (⟨"TrapdoorVotes$Reader", "other", "(III)I"⟩, 8) := ⟨⟨by decide +kernel, by decide +kernel⟩, lw_t1 (List.mem_of_getElem? (i := 44) rfl), lw_t2 (List.mem_of_getElem? (i := 60) rfl), lw_t2 (List.mem_of_getElem? (i := 61) rfl)⟩
theorem lw_p10 : lw_okq (⟨"TrapdoorVotes$Reader", "ministerOf", "()V"⟩, 8) := ⟨⟨by decide +kernel, by decide +kernel⟩, lw_t1 (List.mem_of_getElem? (i := 44) rfl), lw_t2 (List.mem_of_getElem? (i := 67) rfl), lw_t2 (List.mem_of_getElem? (i := 68) rfl)⟩
theorem lw_p11 : lw_okq (⟨"TrapdoorVotes$Reader", "more", "(I)V"⟩, 8) := ⟨⟨by decide +kernel, by decide +kernel⟩, lw_t1 (List.mem_of_getElem? (i := 44) rfl), lw_t2 (List.mem_of_getElem? (i := 75) rfl), lw_t2 (List.mem_of_getElem? (i := 76) rfl)⟩
theorem lw_p12 : lw_okq (⟨"TrapdoorVotes", "isHand", "(I)Z"⟩, 17) := ⟨⟨by decide +kernel, by decide +kernel⟩, lw_t2 (List.mem_of_getElem? (i := 135) rfl), lw_t2 (List.mem_of_getElem? (i := 133) rfl), lw_t2 (List.mem_of_getElem? (i := 134) rfl)⟩
theorem lw_p13 : lw_okq (⟨"TrapdoorVotes", "isMinister", "(I)Z"⟩, 17) := ⟨⟨by decide +kernel, by decide +kernel⟩, lw_t2 (List.mem_of_getElem? (i := 135) rfl), lw_t2 (List.mem_of_getElem? (i := 143) rfl), lw_t2 (List.mem_of_getElem? (i := 144) rfl)⟩
theorem lw_p14 : lw_okq (⟨"TrapdoorVotes", "altered", "(III)I"⟩, 17) := ⟨⟨by decide +kernel, by decide +kernel⟩, lw_t2 (List.mem_of_getElem? (i := 135) rfl), lw_t2 (List.mem_of_getElem? (i := 179) rfl), lw_t2 (List.mem_of_getElem? (i := 180) rfl)⟩
theorem lw_p15 : lw_okq (⟨"TrapdoorVotes$Stage", "treads", "(I)V"⟩, 7) := ⟨⟨by decide +kernel, by decide +kernel⟩, lw_t1 (List.mem_of_getElem? (i := 52) rfl), lw_t2 (List.mem_of_getElem? (i := 210) rfl), lw_t2 (List.mem_of_getElem? (i := 211) rfl)⟩
def lw_privs_1 : List (MethodName × Nat) := [(⟨"TrapdoorVotes$Reader", "next", "()V"⟩, 8), (⟨"TrapdoorVotes$Reader", "at", "(I)I"⟩, 8), (⟨"TrapdoorVotes$Reader", "must", "(ZI)V"⟩, 8), (⟨"java/lang/NullPointerException", "getExtendedNPEMessage", "()Ljava/lang/String;"⟩, 8), (⟨"java/lang/Throwable", "fillInStackTrace", "(I)Ljava/lang/Throwable;"⟩, 6), (⟨"TrapdoorVotes$Reader", "line", "()V"⟩, 8), (⟨"TrapdoorVotes$Reader", "isWord", "(Ljava/lang/String;)Z"⟩, 8), (⟨"TrapdoorVotes$Reader", "handOf", "(I)V"⟩, 8), (⟨"TrapdoorVotes$Reader", "number", "(II)I"⟩, 8), (⟨"TrapdoorVotes$Reader", "other", "(III)I"⟩, 8), (⟨"TrapdoorVotes$Reader", "ministerOf", "()V"⟩, 8), (⟨"TrapdoorVotes$Reader", "more", "(I)V"⟩, 8), (⟨"TrapdoorVotes", "isHand", "(I)Z"⟩, 17), (⟨"TrapdoorVotes", "isMinister", "(I)Z"⟩, 17), (⟨"TrapdoorVotes", "altered", "(III)I"⟩, 17), (⟨"TrapdoorVotes$Stage", "treads", "(I)V"⟩, 7)]
theorem lw_r1 : ∀ q ∈ lw_privs_1, lw_okq q := List.forall_mem_cons.mpr ⟨lw_p0, List.forall_mem_cons.mpr ⟨lw_p1, List.forall_mem_cons.mpr ⟨lw_p2, List.forall_mem_cons.mpr ⟨lw_p3, List.forall_mem_cons.mpr ⟨lw_p4, List.forall_mem_cons.mpr ⟨lw_p5, List.forall_mem_cons.mpr ⟨lw_p6, List.forall_mem_cons.mpr ⟨lw_p7, List.forall_mem_cons.mpr ⟨lw_p8, List.forall_mem_cons.mpr ⟨lw_p9, List.forall_mem_cons.mpr ⟨lw_p10, List.forall_mem_cons.mpr ⟨lw_p11, List.forall_mem_cons.mpr ⟨lw_p12, List.forall_mem_cons.mpr ⟨lw_p13, List.forall_mem_cons.mpr ⟨lw_p14, List.forall_mem_cons.mpr ⟨lw_p15, fun _ h => absurd h List.not_mem_nil⟩⟩⟩⟩⟩⟩⟩⟩⟩⟩⟩⟩⟩⟩⟩⟩
theorem lw_p16 : lw_okq (⟨"TrapdoorVotes$Stage", "drops", "(II)V"⟩, 7) := ⟨⟨by decide +kernel, by decide +kernel⟩, lw_t1 (List.mem_of_getElem? (i := 52) rfl), lw_t2 (List.mem_of_getElem? (i := 218) rfl), lw_t2 (List.mem_of_getElem? (i := 219) rfl)⟩
theorem lw_p17 : lw_okq (⟨"TrapdoorVotes", "fallsOf", "(LTrapdoorVotes$Stage;I)I"⟩, 17) := ⟨⟨by decide +kernel, by decide +kernel⟩, lw_t2 (List.mem_of_getElem? (i := 135) rfl), lw_t2 (List.mem_of_getElem? (i := 231) rfl), lw_t2 (List.mem_of_getElem? (i := 232) rfl)⟩
theorem lw_p18 : lw_okq (⟨"TrapdoorVotes", "lastsOf", "(LTrapdoorVotes$Stage;I)I"⟩, 17) := ⟨⟨by decide +kernel, by decide +kernel⟩, lw_t2 (List.mem_of_getElem? (i := 135) rfl), lw_t3 (List.mem_of_getElem? (i := 3) rfl), lw_t3 (List.mem_of_getElem? (i := 4) rfl)⟩
theorem lw_p19 : lw_okq (⟨"TrapdoorVotes", "without", "(I)V"⟩, 17) := ⟨⟨by decide +kernel, by decide +kernel⟩, lw_t2 (List.mem_of_getElem? (i := 135) rfl), lw_t3 (List.mem_of_getElem? (i := 27) rfl), lw_t3 (List.mem_of_getElem? (i := 28) rfl)⟩
theorem lw_p20 : lw_okq (⟨"TrapdoorVotes", "isLess", "(I)Z"⟩, 17) := ⟨⟨by decide +kernel, by decide +kernel⟩, lw_t2 (List.mem_of_getElem? (i := 135) rfl), lw_t3 (List.mem_of_getElem? (i := 31) rfl), lw_t3 (List.mem_of_getElem? (i := 32) rfl)⟩
theorem lw_p21 : lw_okq (⟨"TrapdoorVotes", "bySilence", "(IIII)J"⟩, 17) := ⟨⟨by decide +kernel, by decide +kernel⟩, lw_t2 (List.mem_of_getElem? (i := 135) rfl), lw_t3 (List.mem_of_getElem? (i := 50) rfl), lw_t3 (List.mem_of_getElem? (i := 51) rfl)⟩
theorem lw_p22 : lw_okq (⟨"TrapdoorVotes", "isAsSeen", "(I)Z"⟩, 17) := ⟨⟨by decide +kernel, by decide +kernel⟩, lw_t2 (List.mem_of_getElem? (i := 135) rfl), lw_t3 (List.mem_of_getElem? (i := 77) rfl), lw_t3 (List.mem_of_getElem? (i := 78) rfl)⟩
theorem lw_p23 : lw_okq (⟨"TrapdoorVotes", "squaresOf", "(I)I"⟩, 17) := ⟨⟨by decide +kernel, by decide +kernel⟩, lw_t2 (List.mem_of_getElem? (i := 135) rfl), lw_t3 (List.mem_of_getElem? (i := 85) rfl), lw_t3 (List.mem_of_getElem? (i := 86) rfl)⟩
theorem lw_p24 : lw_okq (⟨"TrapdoorVotes", "takesIn", "(Ljava/lang/Object;III)I"⟩, 17) := ⟨⟨by decide +kernel, by decide +kernel⟩, lw_t2 (List.mem_of_getElem? (i := 135) rfl), lw_t4 (List.mem_of_getElem? (i := 79) rfl), lw_t4 (List.mem_of_getElem? (i := 80) rfl)⟩
theorem lw_p25 : lw_okq (⟨"TrapdoorVotesModel", "firstDraft", "()V"⟩, 32) := ⟨⟨by decide +kernel, by decide +kernel⟩, lw_t4 (List.mem_of_getElem? (i := 116) rfl), lw_t4 (List.mem_of_getElem? (i := 122) rfl), lw_t4 (List.mem_of_getElem? (i := 123) rfl)⟩
theorem lw_p26 : lw_okq (⟨"TrapdoorVotesModel", "tellAll", "(II)V"⟩, 32) := ⟨⟨by decide +kernel, by decide +kernel⟩, lw_t4 (List.mem_of_getElem? (i := 116) rfl), lw_t4 (List.mem_of_getElem? (i := 126) rfl), lw_t4 (List.mem_of_getElem? (i := 127) rfl)⟩
theorem lw_p27 : lw_okq (⟨"TrapdoorVotesModel", "keepDraft", "()V"⟩, 32) := ⟨⟨by decide +kernel, by decide +kernel⟩, lw_t4 (List.mem_of_getElem? (i := 116) rfl), lw_t4 (List.mem_of_getElem? (i := 130) rfl), lw_t4 (List.mem_of_getElem? (i := 131) rfl)⟩
theorem lw_p28 : lw_okq (⟨"TrapdoorVotesModel", "reads", "()V"⟩, 32) := ⟨⟨by decide +kernel, by decide +kernel⟩, lw_t4 (List.mem_of_getElem? (i := 116) rfl), lw_t5 (List.mem_of_getElem? (i := 8) rfl), lw_t5 (List.mem_of_getElem? (i := 9) rfl)⟩
theorem lw_p29 : lw_okq (⟨"TrapdoorVotesModel", "byteAt", "(I)I"⟩, 32) := ⟨⟨by decide +kernel, by decide +kernel⟩, lw_t4 (List.mem_of_getElem? (i := 116) rfl), lw_t5 (List.mem_of_getElem? (i := 12) rfl), lw_t5 (List.mem_of_getElem? (i := 13) rfl)⟩
theorem lw_p30 : lw_okq (⟨"TrapdoorVotesModel", "requires", "(ZI)V"⟩, 32) := ⟨⟨by decide +kernel, by decide +kernel⟩, lw_t4 (List.mem_of_getElem? (i := 116) rfl), lw_t5 (List.mem_of_getElem? (i := 20) rfl), lw_t5 (List.mem_of_getElem? (i := 21) rfl)⟩
theorem lw_p31 : lw_okq (⟨"TrapdoorVotesModel", "readLine", "()V"⟩, 32) := ⟨⟨by decide +kernel, by decide +kernel⟩, lw_t4 (List.mem_of_getElem? (i := 116) rfl), lw_t5 (List.mem_of_getElem? (i := 24) rfl), lw_t5 (List.mem_of_getElem? (i := 25) rfl)⟩
def lw_privs_2 : List (MethodName × Nat) := [(⟨"TrapdoorVotes$Stage", "drops", "(II)V"⟩, 7), (⟨"TrapdoorVotes", "fallsOf", "(LTrapdoorVotes$Stage;I)I"⟩, 17), (⟨"TrapdoorVotes", "lastsOf", "(LTrapdoorVotes$Stage;I)I"⟩, 17), (⟨"TrapdoorVotes", "without", "(I)V"⟩, 17), (⟨"TrapdoorVotes", "isLess", "(I)Z"⟩, 17), (⟨"TrapdoorVotes", "bySilence", "(IIII)J"⟩, 17), (⟨"TrapdoorVotes", "isAsSeen", "(I)Z"⟩, 17), (⟨"TrapdoorVotes", "squaresOf", "(I)I"⟩, 17), (⟨"TrapdoorVotes", "takesIn", "(Ljava/lang/Object;III)I"⟩, 17), (⟨"TrapdoorVotesModel", "firstDraft", "()V"⟩, 32), (⟨"TrapdoorVotesModel", "tellAll", "(II)V"⟩, 32), (⟨"TrapdoorVotesModel", "keepDraft", "()V"⟩, 32), (⟨"TrapdoorVotesModel", "reads", "()V"⟩, 32), (⟨"TrapdoorVotesModel", "byteAt", "(I)I"⟩, 32), (⟨"TrapdoorVotesModel", "requires", "(ZI)V"⟩, 32), (⟨"TrapdoorVotesModel", "readLine", "()V"⟩, 32)]
theorem lw_r2 : ∀ q ∈ lw_privs_2, lw_okq q := List.forall_mem_cons.mpr ⟨lw_p16, List.forall_mem_cons.mpr ⟨lw_p17, List.forall_mem_cons.mpr ⟨lw_p18, List.forall_mem_cons.mpr ⟨lw_p19, List.forall_mem_cons.mpr ⟨lw_p20, List.forall_mem_cons.mpr ⟨lw_p21, List.forall_mem_cons.mpr ⟨lw_p22, List.forall_mem_cons.mpr ⟨lw_p23, List.forall_mem_cons.mpr ⟨lw_p24, List.forall_mem_cons.mpr ⟨lw_p25, List.forall_mem_cons.mpr ⟨lw_p26, List.forall_mem_cons.mpr ⟨lw_p27, List.forall_mem_cons.mpr ⟨lw_p28, List.forall_mem_cons.mpr ⟨lw_p29, List.forall_mem_cons.mpr ⟨lw_p30, List.forall_mem_cons.mpr ⟨lw_p31, fun _ h => absurd h List.not_mem_nil⟩⟩⟩⟩⟩⟩⟩⟩⟩⟩⟩⟩⟩⟩⟩⟩
theorem lw_p32 : lw_okq (⟨"TrapdoorVotesModel", "lineNow", "()I"⟩, 32) := ⟨⟨by decide +kernel, by decide +kernel⟩, lw_t4 (List.mem_of_getElem? (i := 116) rfl), lw_t5 (List.mem_of_getElem? (i := 28) rfl), lw_t5 (List.mem_of_getElem? (i := 29) rfl)⟩
theorem lw_p33 : lw_okq (⟨"TrapdoorVotesModel", "is", "(IIII)Z"⟩, 32) := ⟨⟨by decide +kernel, by decide +kernel⟩, lw_t4 (List.mem_of_getElem? (i := 116) rfl), lw_t5 (List.mem_of_getElem? (i := 32) rfl), lw_t5 (List.mem_of_getElem? (i := 33) rfl)⟩
theorem lw_p34 : lw_okq (⟨"TrapdoorVotesModel", "ends", "(II)Z"⟩, 32) := ⟨⟨by decide +kernel, by decide +kernel⟩, lw_t4 (List.mem_of_getElem? (i := 116) rfl), lw_t5 (List.mem_of_getElem? (i := 36) rfl), lw_t5 (List.mem_of_getElem? (i := 37) rfl)⟩
theorem lw_p35 : lw_okq (⟨"TrapdoorVotesModel", "readLineOf", "(I)V"⟩, 32) := ⟨⟨by decide +kernel, by decide +kernel⟩, lw_t4 (List.mem_of_getElem? (i := 116) rfl), lw_t5 (List.mem_of_getElem? (i := 40) rfl), lw_t5 (List.mem_of_getElem? (i := 41) rfl)⟩
theorem lw_p36 : lw_okq (⟨"TrapdoorVotesModel", "readBoots", "()V"⟩, 32) := ⟨⟨by decide +kernel, by decide +kernel⟩, lw_t4 (List.mem_of_getElem? (i := 116) rfl), lw_t5 (List.mem_of_getElem? (i := 44) rfl), lw_t5 (List.mem_of_getElem? (i := 45) rfl)⟩
theorem lw_p37 : lw_okq (⟨"TrapdoorVotesModel", "readNumber", "(II)I"⟩, 32) := ⟨⟨by decide +kernel, by decide +kernel⟩, lw_t4 (List.mem_of_getElem? (i := 116) rfl), lw_t5 (List.mem_of_getElem? (i := 48) rfl), lw_t5 (List.mem_of_getElem? (i := 49) rfl)⟩
theorem lw_p38 : lw_okq (⟨"TrapdoorVotesModel", "looked", "(II)I"⟩, 32) := ⟨⟨by decide +kernel, by decide +kernel⟩, lw_t4 (List.mem_of_getElem? (i := 116) rfl), lw_t5 (List.mem_of_getElem? (i := 52) rfl), lw_t5 (List.mem_of_getElem? (i := 53) rfl)⟩
theorem lw_p39 : lw_okq (⟨"TrapdoorVotesModel", "starts", "()V"⟩, 32) := ⟨⟨by decide +kernel, by decide +kernel⟩, lw_t4 (List.mem_of_getElem? (i := 116) rfl), lw_t5 (List.mem_of_getElem? (i := 64) rfl), lw_t5 (List.mem_of_getElem? (i := 65) rfl)⟩
theorem lw_p40 : lw_okq (⟨"TrapdoorVotesModel", "wants", "(I)I"⟩, 32) := ⟨⟨by decide +kernel, by decide +kernel⟩, lw_t4 (List.mem_of_getElem? (i := 116) rfl), lw_t5 (List.mem_of_getElem? (i := 68) rfl), lw_t5 (List.mem_of_getElem? (i := 69) rfl)⟩
theorem lw_p41 : lw_okq (⟨"TrapdoorVotesModel", "of", "(II)I"⟩, 32) := ⟨⟨by decide +kernel, by decide +kernel⟩, lw_t4 (List.mem_of_getElem? (i := 116) rfl), lw_t5 (List.mem_of_getElem? (i := 72) rfl), lw_t5 (List.mem_of_getElem? (i := 73) rfl)⟩
theorem lw_p42 : lw_okq (⟨"TrapdoorVotesModel", "upNow", "()I"⟩, 32) := ⟨⟨by decide +kernel, by decide +kernel⟩, lw_t4 (List.mem_of_getElem? (i := 116) rfl), lw_t5 (List.mem_of_getElem? (i := 79) rfl), lw_t5 (List.mem_of_getElem? (i := 80) rfl)⟩
theorem lw_p43 : lw_okq (⟨"TrapdoorVotesModel", "isDown", "(I)Z"⟩, 32) := ⟨⟨by decide +kernel, by decide +kernel⟩, lw_t4 (List.mem_of_getElem? (i := 116) rfl), lw_t5 (List.mem_of_getElem? (i := 83) rfl), lw_t5 (List.mem_of_getElem? (i := 84) rfl)⟩
theorem lw_p44 : lw_okq (⟨"TrapdoorVotesModel", "ofMinister", "(II)I"⟩, 32) := ⟨⟨by decide +kernel, by decide +kernel⟩, lw_t4 (List.mem_of_getElem? (i := 116) rfl), lw_t5 (List.mem_of_getElem? (i := 87) rfl), lw_t5 (List.mem_of_getElem? (i := 88) rfl)⟩
theorem lw_p45 : lw_okq (⟨"TrapdoorVotesModel", "temperOfAll", "()I"⟩, 32) := ⟨⟨by decide +kernel, by decide +kernel⟩, lw_t4 (List.mem_of_getElem? (i := 116) rfl), lw_t5 (List.mem_of_getElem? (i := 91) rfl), lw_t5 (List.mem_of_getElem? (i := 92) rfl)⟩
theorem lw_p46 : lw_okq (⟨"TrapdoorVotesModel", "handsAt", "(I)I"⟩, 32) := ⟨⟨by decide +kernel, by decide +kernel⟩, lw_t4 (List.mem_of_getElem? (i := 116) rfl), lw_t5 (List.mem_of_getElem? (i := 104) rfl), lw_t5 (List.mem_of_getElem? (i := 105) rfl)⟩
theorem lw_p47 : lw_okq (⟨"TrapdoorVotesModel", "isHand", "(I)Z"⟩, 32) := ⟨⟨by decide +kernel, by decide +kernel⟩, lw_t4 (List.mem_of_getElem? (i := 116) rfl), lw_t5 (List.mem_of_getElem? (i := 112) rfl), lw_t5 (List.mem_of_getElem? (i := 113) rfl)⟩
def lw_privs_3 : List (MethodName × Nat) := [(⟨"TrapdoorVotesModel", "lineNow", "()I"⟩, 32), (⟨"TrapdoorVotesModel", "is", "(IIII)Z"⟩, 32), (⟨"TrapdoorVotesModel", "ends", "(II)Z"⟩, 32), (⟨"TrapdoorVotesModel", "readLineOf", "(I)V"⟩, 32), (⟨"TrapdoorVotesModel", "readBoots", "()V"⟩, 32), (⟨"TrapdoorVotesModel", "readNumber", "(II)I"⟩, 32), (⟨"TrapdoorVotesModel", "looked", "(II)I"⟩, 32), (⟨"TrapdoorVotesModel", "starts", "()V"⟩, 32), (⟨"TrapdoorVotesModel", "wants", "(I)I"⟩, 32), (⟨"TrapdoorVotesModel", "of", "(II)I"⟩, 32), (⟨"TrapdoorVotesModel", "upNow", "()I"⟩, 32), (⟨"TrapdoorVotesModel", "isDown", "(I)Z"⟩, 32), (⟨"TrapdoorVotesModel", "ofMinister", "(II)I"⟩, 32), (⟨"TrapdoorVotesModel", "temperOfAll", "()I"⟩, 32), (⟨"TrapdoorVotesModel", "handsAt", "(I)I"⟩, 32), (⟨"TrapdoorVotesModel", "isHand", "(I)Z"⟩, 32)]
theorem lw_r3 : ∀ q ∈ lw_privs_3, lw_okq q := List.forall_mem_cons.mpr ⟨lw_p32, List.forall_mem_cons.mpr ⟨lw_p33, List.forall_mem_cons.mpr ⟨lw_p34, List.forall_mem_cons.mpr ⟨lw_p35, List.forall_mem_cons.mpr ⟨lw_p36, List.forall_mem_cons.mpr ⟨lw_p37, List.forall_mem_cons.mpr ⟨lw_p38, List.forall_mem_cons.mpr ⟨lw_p39, List.forall_mem_cons.mpr ⟨lw_p40, List.forall_mem_cons.mpr ⟨lw_p41, List.forall_mem_cons.mpr ⟨lw_p42, List.forall_mem_cons.mpr ⟨lw_p43, List.forall_mem_cons.mpr ⟨lw_p44, List.forall_mem_cons.mpr ⟨lw_p45, List.forall_mem_cons.mpr ⟨lw_p46, List.forall_mem_cons.mpr ⟨lw_p47, fun _ h => absurd h List.not_mem_nil⟩⟩⟩⟩⟩⟩⟩⟩⟩⟩⟩⟩⟩⟩⟩⟩
theorem lw_p48 : lw_okq (⟨"TrapdoorVotesModel", "isMinister", "(I)Z"⟩, 32) := ⟨⟨by decide +kernel, by decide +kernel⟩, lw_t4 (List.mem_of_getElem? (i := 116) rfl), lw_t5 (List.mem_of_getElem? (i := 120) rfl), lw_t5 (List.mem_of_getElem? (i := 121) rfl)⟩
theorem lw_p49 : lw_okq (⟨"TrapdoorVotesModel", "becomes", "(II)I"⟩, 32) := ⟨⟨by decide +kernel, by decide +kernel⟩, lw_t4 (List.mem_of_getElem? (i := 116) rfl), lw_t5 (List.mem_of_getElem? (i := 132) rfl), lw_t5 (List.mem_of_getElem? (i := 133) rfl)⟩
theorem lw_p50 : lw_okq (⟨"TrapdoorVotesModel", "turnsGo", "(I)V"⟩, 32) := ⟨⟨by decide +kernel, by decide +kernel⟩, lw_t4 (List.mem_of_getElem? (i := 116) rfl), lw_t5 (List.mem_of_getElem? (i := 155) rfl), lw_t5 (List.mem_of_getElem? (i := 156) rfl)⟩
theorem lw_p51 : lw_okq (⟨"TrapdoorVotesModel", "turnGoes", "(Z)V"⟩, 32) := ⟨⟨by decide +kernel, by decide +kernel⟩, lw_t4 (List.mem_of_getElem? (i := 116) rfl), lw_t5 (List.mem_of_getElem? (i := 159) rfl), lw_t5 (List.mem_of_getElem? (i := 160) rfl)⟩
theorem lw_p52 : lw_okq (⟨"TrapdoorVotesModel", "ministerTreads", "(I)V"⟩, 32) := ⟨⟨by decide +kernel, by decide +kernel⟩, lw_t4 (List.mem_of_getElem? (i := 116) rfl), lw_t5 (List.mem_of_getElem? (i := 163) rfl), lw_t5 (List.mem_of_getElem? (i := 164) rfl)⟩
theorem lw_p53 : lw_okq (⟨"TrapdoorVotesModel", "isUnder", "(II)Z"⟩, 32) := ⟨⟨by decide +kernel, by decide +kernel⟩, lw_t4 (List.mem_of_getElem? (i := 116) rfl), lw_t5 (List.mem_of_getElem? (i := 167) rfl), lw_t5 (List.mem_of_getElem? (i := 168) rfl)⟩
theorem lw_p54 : lw_okq (⟨"TrapdoorVotesModel", "becomesOf", "(III)V"⟩, 32) := ⟨⟨by decide +kernel, by decide +kernel⟩, lw_t4 (List.mem_of_getElem? (i := 116) rfl), lw_t5 (List.mem_of_getElem? (i := 174) rfl), lw_t5 (List.mem_of_getElem? (i := 175) rfl)⟩
theorem lw_p55 : lw_okq (⟨"TrapdoorVotesModel", "drawnAt", "(I)I"⟩, 32) := ⟨⟨by decide +kernel, by decide +kernel⟩, lw_t4 (List.mem_of_getElem? (i := 116) rfl), lw_t5 (List.mem_of_getElem? (i := 178) rfl), lw_t5 (List.mem_of_getElem? (i := 179) rfl)⟩
theorem lw_p56 : lw_okq (⟨"TrapdoorVotesModel", "stepsTo", "(II)V"⟩, 32) := ⟨⟨by decide +kernel, by decide +kernel⟩, lw_t4 (List.mem_of_getElem? (i := 116) rfl), lw_t5 (List.mem_of_getElem? (i := 182) rfl), lw_t5 (List.mem_of_getElem? (i := 183) rfl)⟩
theorem lw_p57 : lw_okq (⟨"TrapdoorVotesModel", "settles", "()V"⟩, 32) := ⟨⟨by decide +kernel, by decide +kernel⟩, lw_t4 (List.mem_of_getElem? (i := 116) rfl), lw_t5 (List.mem_of_getElem? (i := 186) rfl), lw_t5 (List.mem_of_getElem? (i := 187) rfl)⟩
theorem lw_p58 : lw_okq (⟨"TrapdoorVotesModel", "turnsTo", "(I)I"⟩, 32) := ⟨⟨by decide +kernel, by decide +kernel⟩, lw_t4 (List.mem_of_getElem? (i := 116) rfl), lw_t5 (List.mem_of_getElem? (i := 206) rfl), lw_t5 (List.mem_of_getElem? (i := 207) rfl)⟩
theorem lw_p59 : lw_okq (⟨"TrapdoorVotesModel", "startsJudging", "(I)V"⟩, 32) := ⟨⟨by decide +kernel, by decide +kernel⟩, lw_t4 (List.mem_of_getElem? (i := 116) rfl), lw_t5 (List.mem_of_getElem? (i := 217) rfl), lw_t5 (List.mem_of_getElem? (i := 218) rfl)⟩
theorem lw_p60 : lw_okq (⟨"TrapdoorVotesModel", "judges", "(II)V"⟩, 32) := ⟨⟨by decide +kernel, by decide +kernel⟩, lw_t4 (List.mem_of_getElem? (i := 116) rfl), lw_t5 (List.mem_of_getElem? (i := 222) rfl), lw_t5 (List.mem_of_getElem? (i := 223) rfl)⟩
theorem lw_p61 : lw_okq (⟨"TrapdoorVotesModel", "fallsIn", "(I)I"⟩, 32) := ⟨⟨by decide +kernel, by decide +kernel⟩, lw_t4 (List.mem_of_getElem? (i := 116) rfl), lw_t5 (List.mem_of_getElem? (i := 238) rfl), lw_t5 (List.mem_of_getElem? (i := 239) rfl)⟩
theorem lw_p62 : lw_okq (⟨"TrapdoorVotesModel", "judged", "(I)I"⟩, 32) := ⟨⟨by decide +kernel, by decide +kernel⟩, lw_t4 (List.mem_of_getElem? (i := 116) rfl), lw_t6 (List.mem_of_getElem? (i := 2) rfl), lw_t6 (List.mem_of_getElem? (i := 3) rfl)⟩
theorem lw_p63 : lw_okq (⟨"TrapdoorVotesModel", "findOdds", "(III)V"⟩, 32) := ⟨⟨by decide +kernel, by decide +kernel⟩, lw_t4 (List.mem_of_getElem? (i := 116) rfl), lw_t6 (List.mem_of_getElem? (i := 21) rfl), lw_t6 (List.mem_of_getElem? (i := 22) rfl)⟩
def lw_privs_4 : List (MethodName × Nat) := [(⟨"TrapdoorVotesModel", "isMinister", "(I)Z"⟩, 32), (⟨"TrapdoorVotesModel", "becomes", "(II)I"⟩, 32), (⟨"TrapdoorVotesModel", "turnsGo", "(I)V"⟩, 32), (⟨"TrapdoorVotesModel", "turnGoes", "(Z)V"⟩, 32), (⟨"TrapdoorVotesModel", "ministerTreads", "(I)V"⟩, 32), (⟨"TrapdoorVotesModel", "isUnder", "(II)Z"⟩, 32), (⟨"TrapdoorVotesModel", "becomesOf", "(III)V"⟩, 32), (⟨"TrapdoorVotesModel", "drawnAt", "(I)I"⟩, 32), (⟨"TrapdoorVotesModel", "stepsTo", "(II)V"⟩, 32), (⟨"TrapdoorVotesModel", "settles", "()V"⟩, 32), (⟨"TrapdoorVotesModel", "turnsTo", "(I)I"⟩, 32), (⟨"TrapdoorVotesModel", "startsJudging", "(I)V"⟩, 32), (⟨"TrapdoorVotesModel", "judges", "(II)V"⟩, 32), (⟨"TrapdoorVotesModel", "fallsIn", "(I)I"⟩, 32), (⟨"TrapdoorVotesModel", "judged", "(I)I"⟩, 32), (⟨"TrapdoorVotesModel", "findOdds", "(III)V"⟩, 32)]
theorem lw_r4 : ∀ q ∈ lw_privs_4, lw_okq q := List.forall_mem_cons.mpr ⟨lw_p48, List.forall_mem_cons.mpr ⟨lw_p49, List.forall_mem_cons.mpr ⟨lw_p50, List.forall_mem_cons.mpr ⟨lw_p51, List.forall_mem_cons.mpr ⟨lw_p52, List.forall_mem_cons.mpr ⟨lw_p53, List.forall_mem_cons.mpr ⟨lw_p54, List.forall_mem_cons.mpr ⟨lw_p55, List.forall_mem_cons.mpr ⟨lw_p56, List.forall_mem_cons.mpr ⟨lw_p57, List.forall_mem_cons.mpr ⟨lw_p58, List.forall_mem_cons.mpr ⟨lw_p59, List.forall_mem_cons.mpr ⟨lw_p60, List.forall_mem_cons.mpr ⟨lw_p61, List.forall_mem_cons.mpr ⟨lw_p62, List.forall_mem_cons.mpr ⟨lw_p63, fun _ h => absurd h List.not_mem_nil⟩⟩⟩⟩⟩⟩⟩⟩⟩⟩⟩⟩⟩⟩⟩⟩
theorem lw_p64 : lw_okq (⟨"TrapdoorVotesModel", "which", "(II)I"⟩, 32) := ⟨⟨by decide +kernel, by decide +kernel⟩, lw_t4 (List.mem_of_getElem? (i := 116) rfl), lw_t6 (List.mem_of_getElem? (i := 47) rfl), lw_t6 (List.mem_of_getElem? (i := 48) rfl)⟩
theorem lw_p65 : lw_okq (⟨"TrapdoorVotesModel", "isSoWith", "(II)Z"⟩, 32) := ⟨⟨by decide +kernel, by decide +kernel⟩, lw_t4 (List.mem_of_getElem? (i := 116) rfl), lw_t6 (List.mem_of_getElem? (i := 51) rfl), lw_t6 (List.mem_of_getElem? (i := 52) rfl)⟩
theorem lw_p66 : lw_okq (⟨"TrapdoorVotesModel", "copies", "(II)V"⟩, 32) := ⟨⟨by decide +kernel, by decide +kernel⟩, lw_t4 (List.mem_of_getElem? (i := 116) rfl), lw_t6 (List.mem_of_getElem? (i := 72) rfl), lw_t6 (List.mem_of_getElem? (i := 73) rfl)⟩
def lw_privs_5 : List (MethodName × Nat) := [(⟨"TrapdoorVotesModel", "which", "(II)I"⟩, 32), (⟨"TrapdoorVotesModel", "isSoWith", "(II)Z"⟩, 32), (⟨"TrapdoorVotesModel", "copies", "(II)V"⟩, 32)]
theorem lw_r5 : ∀ q ∈ lw_privs_5, lw_okq q := List.forall_mem_cons.mpr ⟨lw_p64, List.forall_mem_cons.mpr ⟨lw_p65, List.forall_mem_cons.mpr ⟨lw_p66, fun _ h => absurd h List.not_mem_nil⟩⟩⟩
def lw_privs : List (MethodName × Nat) := lw_privs_1 ++ (lw_privs_2 ++ (lw_privs_3 ++ (lw_privs_4 ++ (lw_privs_5))))
def lw_tbl : List Cond := k2_sels lw_privs ++ tables_1
theorem lw_privs_ok : ∀ q ∈ lw_privs, lw_okq q := by
  show ∀ q ∈ lw_privs_1 ++ (lw_privs_2 ++ (lw_privs_3 ++ (lw_privs_4 ++ (lw_privs_5)))), lw_okq q
  exact List.forall_mem_append.mpr ⟨lw_r1, List.forall_mem_append.mpr ⟨lw_r2, List.forall_mem_append.mpr ⟨lw_r3, List.forall_mem_append.mpr ⟨lw_r4, lw_r5⟩⟩⟩⟩
-- ===== ONE list of words for every method: the tables' words that hold all through a run =====
def lw_all : List Cond := lw_tbl.filter goodWord
/-- a word of the tables by its place: claim/WORDS.tsv -/
theorem lw_w {w : Cond} (i : Nat) (h : lw_tbl[i]? = some w) (g : goodWord w = true) : w ∈ lw_all := List.mem_filter.mpr ⟨List.mem_of_getElem? h, g⟩
theorem lw_all_tbl {w : Cond} (h : w ∈ lw_all) : w ∈ lw_tbl := (List.mem_filter.mp h).1
theorem lw_self : GoodIn lw_all lw_all := fun w h => ⟨h, good_of_word (List.mem_filter.mp h).2⟩
/-- a class's field words, by their places -/
theorem lw_in (ws : List Cond) (ps : List Nat) (hp : ws = ps.filterMap (fun i => lw_tbl[i]?)) (hg : ws.all goodWord = true) : ∀ w ∈ ws, w ∈ lw_all := by
  intro w h
  have h1 := List.all_eq_true.mp hg w h
  rw [hp] at h
  obtain ⟨i, -, hi⟩ := List.mem_filterMap.mp h
  exact lw_w i hi h1
/-- the words of a contract for the method y with code b, L locals, answer r -/
abbrev ws_ (y : MethodName) (b : ByteArray) (L : Nat) (r : Option FieldType) : List Cond := Cond.code y b L r :: lw_all
theorem lw_meth {y : MethodName} {b : ByteArray} {L : Nat} {r : Option FieldType} (h : Cond.code y b L r ∈ lw_all) : GoodIn lw_all (ws_ y b L r) := by
  intro w hw
  rcases List.mem_cons.mp hw with e | e
  · rw [e]
    exact lw_self _ h
  · exact lw_self _ e
theorem lw_app {a c : List Cond} (ha : ∀ w ∈ a, w ∈ lw_all) (hc : GoodIn lw_all c) : GoodIn lw_all (a ++ c) := by
  intro w hw
  rcases List.mem_append.mp hw with e | e
  · exact lw_self w (ha w e)
  · exact hc w e
/-- what a call through an object asks: cwV n hts (lw_V ..) -/
theorem lw_V {own : String} {idx : Nat} {C : String} {y : MethodName} {b : ByteArray} {L : Nat} {r : Option FieldType} (h1 : Cond.methodLink own idx y ∈ lw_all) (h2 : Cond.instanceMethod y ∈ lw_all) (h3 : Cond.selects C y y ∈ lw_all) (h4 : Cond.initialized C ∈ lw_all) (h5 : Cond.code y b L r ∈ lw_all) : GoodIn lw_all (wsV own idx C y (ws_ y b L r)) := by
  refine lw_app ?_ (lw_meth h5)
  intro w hw
  simp only [List.mem_cons, List.not_mem_nil, or_false] at hw
  rcases hw with e | e | e | e
  · rw [e]; exact h1
  · rw [e]; exact h2
  · rw [e]; exact h3
  · rw [e]; exact h4
/-- what a static call asks: va_cwS n hts (lw_S ..) -/
theorem lw_S {own : String} {idx : Nat} {y : MethodName} {b : ByteArray} {L : Nat} {r : Option FieldType} (h1 : Cond.methodLink own idx y ∈ lw_all) (h2 : Cond.static y ∈ lw_all) (h3 : Cond.initialized y.cls ∈ lw_all) (h4 : Cond.code y b L r ∈ lw_all) : GoodIn lw_all (va_wsS own idx y (ws_ y b L r)) := by
  refine lw_app ?_ (lw_meth h4)
  intro w hw
  simp only [List.mem_cons, List.not_mem_nil, or_false] at hw
  rcases hw with e | e | e
  · rw [e]; exact h1
  · rw [e]; exact h2
  · rw [e]; exact h3
/-- the words of a contract for a method WITH HANDLERS (hh: its table) -/
abbrev wsW_ (y : MethodName) (b : ByteArray) (L : Nat) (r : Option FieldType) (hh : List (Nat × Nat × Nat × Nat)) : List Cond := Cond.codeWith y b L r hh :: lw_all
theorem lw_methW {y : MethodName} {b : ByteArray} {L : Nat} {r : Option FieldType} {hh : List (Nat × Nat × Nat × Nat)} (h : Cond.codeWith y b L r hh ∈ lw_all) : GoodIn lw_all (wsW_ y b L r hh) := by
  intro w hw
  rcases List.mem_cons.mp hw with e | e
  · rw [e]
    exact lw_self _ h
  · exact lw_self _ e
/-- any list of words by their places (lw_in), good -/
theorem lw_good {ws : List Cond} (h : ∀ w ∈ ws, w ∈ lw_all) : GoodIn lw_all ws := fun w hw => lw_self w (h w hw)
/-- what a call of a method with handlers asks: vx_cwVW n hts (lw_VW ..), vx_cwSW n hts (lw_SW ..) -/
theorem lw_VW {own : String} {idx : Nat} {C : String} {y : MethodName} {b : ByteArray} {L : Nat} {r : Option FieldType} {hh : List (Nat × Nat × Nat × Nat)} (h1 : Cond.methodLink own idx y ∈ lw_all) (h2 : Cond.instanceMethod y ∈ lw_all) (h3 : Cond.selects C y y ∈ lw_all) (h4 : Cond.initialized C ∈ lw_all) (h5 : Cond.codeWith y b L r hh ∈ lw_all) : GoodIn lw_all (wsV own idx C y (wsW_ y b L r hh)) := by
  refine lw_app ?_ (lw_methW h5)
  intro w hw
  simp only [List.mem_cons, List.not_mem_nil, or_false] at hw
  rcases hw with e | e | e | e
  · rw [e]; exact h1
  · rw [e]; exact h2
  · rw [e]; exact h3
  · rw [e]; exact h4
theorem lw_SW {own : String} {idx : Nat} {y : MethodName} {b : ByteArray} {L : Nat} {r : Option FieldType} {hh : List (Nat × Nat × Nat × Nat)} (h1 : Cond.methodLink own idx y ∈ lw_all) (h2 : Cond.static y ∈ lw_all) (h3 : Cond.initialized y.cls ∈ lw_all) (h4 : Cond.codeWith y b L r hh ∈ lw_all) : GoodIn lw_all (va_wsS own idx y (wsW_ y b L r hh)) := by
  refine lw_app ?_ (lw_methW h4)
  intro w hw
  simp only [List.mem_cons, List.not_mem_nil, or_false] at hw
  rcases hw with e | e | e
  · rw [e]; exact h1
  · rw [e]; exact h2
  · rw [e]; exact h3
/-- a word by its place in its run of the tables -/
theorem lw_at {r : List Cond} (hr : ∀ w ∈ r, w ∈ lw_tbl) {w : Cond} (i : Nat) (h : r[i]? = some w) : w ∈ lw_tbl := hr w (List.mem_of_getElem? h)
theorem lw_g {w : Cond} (h : w ∈ lw_tbl) (g : goodWord w = true) : w ∈ lw_all := List.mem_filter.mpr ⟨h, g⟩
theorem lw_ms : ∀ w ∈ k2_sels lw_privs, w ∈ lw_tbl := fun w h => show w ∈ k2_sels lw_privs ++ tables_1 from List.mem_append_left _ h
theorem lw_m1 : ∀ w ∈ tables_1_1, w ∈ lw_tbl := fun w h => show w ∈ k2_sels lw_privs ++ tables_1 from List.mem_append_right (k2_sels lw_privs) (show w ∈ tables_1 from List.mem_append_left _ h)
theorem lw_m2 : ∀ w ∈ tables_1_2, w ∈ lw_tbl := fun w h => show w ∈ k2_sels lw_privs ++ tables_1 from List.mem_append_right (k2_sels lw_privs) (show w ∈ tables_1 from List.mem_append_right _ (List.mem_append_left _ h))
theorem lw_m3 : ∀ w ∈ tables_1_3, w ∈ lw_tbl := fun w h => show w ∈ k2_sels lw_privs ++ tables_1 from List.mem_append_right (k2_sels lw_privs) (show w ∈ tables_1 from List.mem_append_right _ (List.mem_append_right _ (List.mem_append_left _ h)))
theorem lw_m4 : ∀ w ∈ tables_1_4, w ∈ lw_tbl := fun w h => show w ∈ k2_sels lw_privs ++ tables_1 from List.mem_append_right (k2_sels lw_privs) (show w ∈ tables_1 from List.mem_append_right _ (List.mem_append_right _ (List.mem_append_right _ (List.mem_append_left _ h))))
theorem lw_m5 : ∀ w ∈ tables_1_5, w ∈ lw_tbl := fun w h => show w ∈ k2_sels lw_privs ++ tables_1 from List.mem_append_right (k2_sels lw_privs) (show w ∈ tables_1 from List.mem_append_right _ (List.mem_append_right _ (List.mem_append_right _ (List.mem_append_right _ (List.mem_append_left _ h)))))
theorem lw_m6 : ∀ w ∈ tables_1_6, w ∈ lw_tbl := fun w h => show w ∈ k2_sels lw_privs ++ tables_1 from List.mem_append_right (k2_sels lw_privs) (show w ∈ tables_1 from List.mem_append_right _ (List.mem_append_right _ (List.mem_append_right _ (List.mem_append_right _ (List.mem_append_right _ h)))))
theorem qs0 : (Cond.selects "TrapdoorVotes$Reader" ⟨"TrapdoorVotes$Reader", "next", "()V"⟩ ⟨"TrapdoorVotes$Reader", "next", "()V"⟩) ∈ lw_all := lw_g (lw_at lw_ms 0 rfl) rfl
theorem qs1 : (Cond.selects "TrapdoorVotes$Reader" ⟨"TrapdoorVotes$Reader", "at", "(I)I"⟩ ⟨"TrapdoorVotes$Reader", "at", "(I)I"⟩) ∈ lw_all := lw_g (lw_at lw_ms 1 rfl) rfl
theorem qs2 : (Cond.selects "TrapdoorVotes$Reader" ⟨"TrapdoorVotes$Reader", "must", "(ZI)V"⟩ ⟨"TrapdoorVotes$Reader", "must", "(ZI)V"⟩) ∈ lw_all := lw_g (lw_at lw_ms 2 rfl) rfl
theorem qs3 : (Cond.selects "java/lang/NullPointerException" ⟨"java/lang/NullPointerException", "getExtendedNPEMessage", "()Ljava/lang/String;"⟩ ⟨"java/lang/NullPointerException", "getExtendedNPEMessage", "()Ljava/lang/String;"⟩) ∈ lw_all := lw_g (lw_at lw_ms 3 rfl) rfl
theorem qs4 : (Cond.selects "java/lang/Throwable" ⟨"java/lang/Throwable", "fillInStackTrace", "(I)Ljava/lang/Throwable;"⟩ ⟨"java/lang/Throwable", "fillInStackTrace", "(I)Ljava/lang/Throwable;"⟩) ∈ lw_all := lw_g (lw_at lw_ms 4 rfl) rfl
theorem qs5 : (Cond.selects "TrapdoorVotes$Reader" ⟨"TrapdoorVotes$Reader", "line", "()V"⟩ ⟨"TrapdoorVotes$Reader", "line", "()V"⟩) ∈ lw_all := lw_g (lw_at lw_ms 5 rfl) rfl
theorem qs6 : (Cond.selects "TrapdoorVotes$Reader" ⟨"TrapdoorVotes$Reader", "isWord", "(Ljava/lang/String;)Z"⟩ ⟨"TrapdoorVotes$Reader", "isWord", "(Ljava/lang/String;)Z"⟩) ∈ lw_all := lw_g (lw_at lw_ms 6 rfl) rfl
theorem qs7 : (Cond.selects "TrapdoorVotes$Reader" ⟨"TrapdoorVotes$Reader", "handOf", "(I)V"⟩ ⟨"TrapdoorVotes$Reader", "handOf", "(I)V"⟩) ∈ lw_all := lw_g (lw_at lw_ms 7 rfl) rfl
theorem qs8 : (Cond.selects "TrapdoorVotes$Reader" ⟨"TrapdoorVotes$Reader", "number", "(II)I"⟩ ⟨"TrapdoorVotes$Reader", "number", "(II)I"⟩) ∈ lw_all := lw_g (lw_at lw_ms 8 rfl) rfl
theorem qs9 : (Cond.selects "TrapdoorVotes$Reader" ⟨"TrapdoorVotes$Reader", "other", "(III)I"⟩ ⟨"TrapdoorVotes$Reader", "other", "(III)I"⟩) ∈ lw_all := lw_g (lw_at lw_ms 9 rfl) rfl
theorem qs10 : (Cond.selects "TrapdoorVotes$Reader" ⟨"TrapdoorVotes$Reader", "ministerOf", "()V"⟩ ⟨"TrapdoorVotes$Reader", "ministerOf", "()V"⟩) ∈ lw_all := lw_g (lw_at lw_ms 10 rfl) rfl
theorem qs11 : (Cond.selects "TrapdoorVotes$Reader" ⟨"TrapdoorVotes$Reader", "more", "(I)V"⟩ ⟨"TrapdoorVotes$Reader", "more", "(I)V"⟩) ∈ lw_all := lw_g (lw_at lw_ms 11 rfl) rfl
theorem qs12 : (Cond.selects "TrapdoorVotes" ⟨"TrapdoorVotes", "isHand", "(I)Z"⟩ ⟨"TrapdoorVotes", "isHand", "(I)Z"⟩) ∈ lw_all := lw_g (lw_at lw_ms 12 rfl) rfl
theorem qs13 : (Cond.selects "TrapdoorVotes" ⟨"TrapdoorVotes", "isMinister", "(I)Z"⟩ ⟨"TrapdoorVotes", "isMinister", "(I)Z"⟩) ∈ lw_all := lw_g (lw_at lw_ms 13 rfl) rfl
theorem qs14 : (Cond.selects "TrapdoorVotes" ⟨"TrapdoorVotes", "altered", "(III)I"⟩ ⟨"TrapdoorVotes", "altered", "(III)I"⟩) ∈ lw_all := lw_g (lw_at lw_ms 14 rfl) rfl
theorem qs15 : (Cond.selects "TrapdoorVotes$Stage" ⟨"TrapdoorVotes$Stage", "treads", "(I)V"⟩ ⟨"TrapdoorVotes$Stage", "treads", "(I)V"⟩) ∈ lw_all := lw_g (lw_at lw_ms 15 rfl) rfl
theorem qs16 : (Cond.selects "TrapdoorVotes$Stage" ⟨"TrapdoorVotes$Stage", "drops", "(II)V"⟩ ⟨"TrapdoorVotes$Stage", "drops", "(II)V"⟩) ∈ lw_all := lw_g (lw_at lw_ms 16 rfl) rfl
theorem qs17 : (Cond.selects "TrapdoorVotes" ⟨"TrapdoorVotes", "fallsOf", "(LTrapdoorVotes$Stage;I)I"⟩ ⟨"TrapdoorVotes", "fallsOf", "(LTrapdoorVotes$Stage;I)I"⟩) ∈ lw_all := lw_g (lw_at lw_ms 17 rfl) rfl
theorem qs18 : (Cond.selects "TrapdoorVotes" ⟨"TrapdoorVotes", "lastsOf", "(LTrapdoorVotes$Stage;I)I"⟩ ⟨"TrapdoorVotes", "lastsOf", "(LTrapdoorVotes$Stage;I)I"⟩) ∈ lw_all := lw_g (lw_at lw_ms 18 rfl) rfl
theorem qs19 : (Cond.selects "TrapdoorVotes" ⟨"TrapdoorVotes", "without", "(I)V"⟩ ⟨"TrapdoorVotes", "without", "(I)V"⟩) ∈ lw_all := lw_g (lw_at lw_ms 19 rfl) rfl
theorem qs20 : (Cond.selects "TrapdoorVotes" ⟨"TrapdoorVotes", "isLess", "(I)Z"⟩ ⟨"TrapdoorVotes", "isLess", "(I)Z"⟩) ∈ lw_all := lw_g (lw_at lw_ms 20 rfl) rfl
theorem qs21 : (Cond.selects "TrapdoorVotes" ⟨"TrapdoorVotes", "bySilence", "(IIII)J"⟩ ⟨"TrapdoorVotes", "bySilence", "(IIII)J"⟩) ∈ lw_all := lw_g (lw_at lw_ms 21 rfl) rfl
theorem qs22 : (Cond.selects "TrapdoorVotes" ⟨"TrapdoorVotes", "isAsSeen", "(I)Z"⟩ ⟨"TrapdoorVotes", "isAsSeen", "(I)Z"⟩) ∈ lw_all := lw_g (lw_at lw_ms 22 rfl) rfl
theorem qs23 : (Cond.selects "TrapdoorVotes" ⟨"TrapdoorVotes", "squaresOf", "(I)I"⟩ ⟨"TrapdoorVotes", "squaresOf", "(I)I"⟩) ∈ lw_all := lw_g (lw_at lw_ms 23 rfl) rfl
theorem qs24 : (Cond.selects "TrapdoorVotes" ⟨"TrapdoorVotes", "takesIn", "(Ljava/lang/Object;III)I"⟩ ⟨"TrapdoorVotes", "takesIn", "(Ljava/lang/Object;III)I"⟩) ∈ lw_all := lw_g (lw_at lw_ms 24 rfl) rfl
theorem qs25 : (Cond.selects "TrapdoorVotesModel" ⟨"TrapdoorVotesModel", "firstDraft", "()V"⟩ ⟨"TrapdoorVotesModel", "firstDraft", "()V"⟩) ∈ lw_all := lw_g (lw_at lw_ms 25 rfl) rfl
theorem qs26 : (Cond.selects "TrapdoorVotesModel" ⟨"TrapdoorVotesModel", "tellAll", "(II)V"⟩ ⟨"TrapdoorVotesModel", "tellAll", "(II)V"⟩) ∈ lw_all := lw_g (lw_at lw_ms 26 rfl) rfl
theorem qs27 : (Cond.selects "TrapdoorVotesModel" ⟨"TrapdoorVotesModel", "keepDraft", "()V"⟩ ⟨"TrapdoorVotesModel", "keepDraft", "()V"⟩) ∈ lw_all := lw_g (lw_at lw_ms 27 rfl) rfl
theorem qs28 : (Cond.selects "TrapdoorVotesModel" ⟨"TrapdoorVotesModel", "reads", "()V"⟩ ⟨"TrapdoorVotesModel", "reads", "()V"⟩) ∈ lw_all := lw_g (lw_at lw_ms 28 rfl) rfl
theorem qs29 : (Cond.selects "TrapdoorVotesModel" ⟨"TrapdoorVotesModel", "byteAt", "(I)I"⟩ ⟨"TrapdoorVotesModel", "byteAt", "(I)I"⟩) ∈ lw_all := lw_g (lw_at lw_ms 29 rfl) rfl
theorem qs30 : (Cond.selects "TrapdoorVotesModel" ⟨"TrapdoorVotesModel", "requires", "(ZI)V"⟩ ⟨"TrapdoorVotesModel", "requires", "(ZI)V"⟩) ∈ lw_all := lw_g (lw_at lw_ms 30 rfl) rfl
theorem qs31 : (Cond.selects "TrapdoorVotesModel" ⟨"TrapdoorVotesModel", "readLine", "()V"⟩ ⟨"TrapdoorVotesModel", "readLine", "()V"⟩) ∈ lw_all := lw_g (lw_at lw_ms 31 rfl) rfl
theorem qs32 : (Cond.selects "TrapdoorVotesModel" ⟨"TrapdoorVotesModel", "lineNow", "()I"⟩ ⟨"TrapdoorVotesModel", "lineNow", "()I"⟩) ∈ lw_all := lw_g (lw_at lw_ms 32 rfl) rfl
theorem qs33 : (Cond.selects "TrapdoorVotesModel" ⟨"TrapdoorVotesModel", "is", "(IIII)Z"⟩ ⟨"TrapdoorVotesModel", "is", "(IIII)Z"⟩) ∈ lw_all := lw_g (lw_at lw_ms 33 rfl) rfl
theorem qs34 : (Cond.selects "TrapdoorVotesModel" ⟨"TrapdoorVotesModel", "ends", "(II)Z"⟩ ⟨"TrapdoorVotesModel", "ends", "(II)Z"⟩) ∈ lw_all := lw_g (lw_at lw_ms 34 rfl) rfl
theorem qs35 : (Cond.selects "TrapdoorVotesModel" ⟨"TrapdoorVotesModel", "readLineOf", "(I)V"⟩ ⟨"TrapdoorVotesModel", "readLineOf", "(I)V"⟩) ∈ lw_all := lw_g (lw_at lw_ms 35 rfl) rfl
theorem qs36 : (Cond.selects "TrapdoorVotesModel" ⟨"TrapdoorVotesModel", "readBoots", "()V"⟩ ⟨"TrapdoorVotesModel", "readBoots", "()V"⟩) ∈ lw_all := lw_g (lw_at lw_ms 36 rfl) rfl
theorem qs37 : (Cond.selects "TrapdoorVotesModel" ⟨"TrapdoorVotesModel", "readNumber", "(II)I"⟩ ⟨"TrapdoorVotesModel", "readNumber", "(II)I"⟩) ∈ lw_all := lw_g (lw_at lw_ms 37 rfl) rfl
theorem qs38 : (Cond.selects "TrapdoorVotesModel" ⟨"TrapdoorVotesModel", "looked", "(II)I"⟩ ⟨"TrapdoorVotesModel", "looked", "(II)I"⟩) ∈ lw_all := lw_g (lw_at lw_ms 38 rfl) rfl
theorem qs39 : (Cond.selects "TrapdoorVotesModel" ⟨"TrapdoorVotesModel", "starts", "()V"⟩ ⟨"TrapdoorVotesModel", "starts", "()V"⟩) ∈ lw_all := lw_g (lw_at lw_ms 39 rfl) rfl
theorem qs40 : (Cond.selects "TrapdoorVotesModel" ⟨"TrapdoorVotesModel", "wants", "(I)I"⟩ ⟨"TrapdoorVotesModel", "wants", "(I)I"⟩) ∈ lw_all := lw_g (lw_at lw_ms 40 rfl) rfl
theorem qs41 : (Cond.selects "TrapdoorVotesModel" ⟨"TrapdoorVotesModel", "of", "(II)I"⟩ ⟨"TrapdoorVotesModel", "of", "(II)I"⟩) ∈ lw_all := lw_g (lw_at lw_ms 41 rfl) rfl
theorem qs42 : (Cond.selects "TrapdoorVotesModel" ⟨"TrapdoorVotesModel", "upNow", "()I"⟩ ⟨"TrapdoorVotesModel", "upNow", "()I"⟩) ∈ lw_all := lw_g (lw_at lw_ms 42 rfl) rfl
theorem qs43 : (Cond.selects "TrapdoorVotesModel" ⟨"TrapdoorVotesModel", "isDown", "(I)Z"⟩ ⟨"TrapdoorVotesModel", "isDown", "(I)Z"⟩) ∈ lw_all := lw_g (lw_at lw_ms 43 rfl) rfl
theorem qs44 : (Cond.selects "TrapdoorVotesModel" ⟨"TrapdoorVotesModel", "ofMinister", "(II)I"⟩ ⟨"TrapdoorVotesModel", "ofMinister", "(II)I"⟩) ∈ lw_all := lw_g (lw_at lw_ms 44 rfl) rfl
theorem qs45 : (Cond.selects "TrapdoorVotesModel" ⟨"TrapdoorVotesModel", "temperOfAll", "()I"⟩ ⟨"TrapdoorVotesModel", "temperOfAll", "()I"⟩) ∈ lw_all := lw_g (lw_at lw_ms 45 rfl) rfl
theorem qs46 : (Cond.selects "TrapdoorVotesModel" ⟨"TrapdoorVotesModel", "handsAt", "(I)I"⟩ ⟨"TrapdoorVotesModel", "handsAt", "(I)I"⟩) ∈ lw_all := lw_g (lw_at lw_ms 46 rfl) rfl
theorem qs47 : (Cond.selects "TrapdoorVotesModel" ⟨"TrapdoorVotesModel", "isHand", "(I)Z"⟩ ⟨"TrapdoorVotesModel", "isHand", "(I)Z"⟩) ∈ lw_all := lw_g (lw_at lw_ms 47 rfl) rfl
theorem qs48 : (Cond.selects "TrapdoorVotesModel" ⟨"TrapdoorVotesModel", "isMinister", "(I)Z"⟩ ⟨"TrapdoorVotesModel", "isMinister", "(I)Z"⟩) ∈ lw_all := lw_g (lw_at lw_ms 48 rfl) rfl
theorem qs49 : (Cond.selects "TrapdoorVotesModel" ⟨"TrapdoorVotesModel", "becomes", "(II)I"⟩ ⟨"TrapdoorVotesModel", "becomes", "(II)I"⟩) ∈ lw_all := lw_g (lw_at lw_ms 49 rfl) rfl
theorem qs50 : (Cond.selects "TrapdoorVotesModel" ⟨"TrapdoorVotesModel", "turnsGo", "(I)V"⟩ ⟨"TrapdoorVotesModel", "turnsGo", "(I)V"⟩) ∈ lw_all := lw_g (lw_at lw_ms 50 rfl) rfl
theorem qs51 : (Cond.selects "TrapdoorVotesModel" ⟨"TrapdoorVotesModel", "turnGoes", "(Z)V"⟩ ⟨"TrapdoorVotesModel", "turnGoes", "(Z)V"⟩) ∈ lw_all := lw_g (lw_at lw_ms 51 rfl) rfl
theorem qs52 : (Cond.selects "TrapdoorVotesModel" ⟨"TrapdoorVotesModel", "ministerTreads", "(I)V"⟩ ⟨"TrapdoorVotesModel", "ministerTreads", "(I)V"⟩) ∈ lw_all := lw_g (lw_at lw_ms 52 rfl) rfl
theorem qs53 : (Cond.selects "TrapdoorVotesModel" ⟨"TrapdoorVotesModel", "isUnder", "(II)Z"⟩ ⟨"TrapdoorVotesModel", "isUnder", "(II)Z"⟩) ∈ lw_all := lw_g (lw_at lw_ms 53 rfl) rfl
theorem qs54 : (Cond.selects "TrapdoorVotesModel" ⟨"TrapdoorVotesModel", "becomesOf", "(III)V"⟩ ⟨"TrapdoorVotesModel", "becomesOf", "(III)V"⟩) ∈ lw_all := lw_g (lw_at lw_ms 54 rfl) rfl
theorem qs55 : (Cond.selects "TrapdoorVotesModel" ⟨"TrapdoorVotesModel", "drawnAt", "(I)I"⟩ ⟨"TrapdoorVotesModel", "drawnAt", "(I)I"⟩) ∈ lw_all := lw_g (lw_at lw_ms 55 rfl) rfl
theorem qs56 : (Cond.selects "TrapdoorVotesModel" ⟨"TrapdoorVotesModel", "stepsTo", "(II)V"⟩ ⟨"TrapdoorVotesModel", "stepsTo", "(II)V"⟩) ∈ lw_all := lw_g (lw_at lw_ms 56 rfl) rfl
theorem qs57 : (Cond.selects "TrapdoorVotesModel" ⟨"TrapdoorVotesModel", "settles", "()V"⟩ ⟨"TrapdoorVotesModel", "settles", "()V"⟩) ∈ lw_all := lw_g (lw_at lw_ms 57 rfl) rfl
theorem qs58 : (Cond.selects "TrapdoorVotesModel" ⟨"TrapdoorVotesModel", "turnsTo", "(I)I"⟩ ⟨"TrapdoorVotesModel", "turnsTo", "(I)I"⟩) ∈ lw_all := lw_g (lw_at lw_ms 58 rfl) rfl
theorem qs59 : (Cond.selects "TrapdoorVotesModel" ⟨"TrapdoorVotesModel", "startsJudging", "(I)V"⟩ ⟨"TrapdoorVotesModel", "startsJudging", "(I)V"⟩) ∈ lw_all := lw_g (lw_at lw_ms 59 rfl) rfl
theorem qs60 : (Cond.selects "TrapdoorVotesModel" ⟨"TrapdoorVotesModel", "judges", "(II)V"⟩ ⟨"TrapdoorVotesModel", "judges", "(II)V"⟩) ∈ lw_all := lw_g (lw_at lw_ms 60 rfl) rfl
theorem qs61 : (Cond.selects "TrapdoorVotesModel" ⟨"TrapdoorVotesModel", "fallsIn", "(I)I"⟩ ⟨"TrapdoorVotesModel", "fallsIn", "(I)I"⟩) ∈ lw_all := lw_g (lw_at lw_ms 61 rfl) rfl
theorem qs62 : (Cond.selects "TrapdoorVotesModel" ⟨"TrapdoorVotesModel", "judged", "(I)I"⟩ ⟨"TrapdoorVotesModel", "judged", "(I)I"⟩) ∈ lw_all := lw_g (lw_at lw_ms 62 rfl) rfl
theorem qs63 : (Cond.selects "TrapdoorVotesModel" ⟨"TrapdoorVotesModel", "findOdds", "(III)V"⟩ ⟨"TrapdoorVotesModel", "findOdds", "(III)V"⟩) ∈ lw_all := lw_g (lw_at lw_ms 63 rfl) rfl
theorem qs64 : (Cond.selects "TrapdoorVotesModel" ⟨"TrapdoorVotesModel", "which", "(II)I"⟩ ⟨"TrapdoorVotesModel", "which", "(II)I"⟩) ∈ lw_all := lw_g (lw_at lw_ms 64 rfl) rfl
theorem qs65 : (Cond.selects "TrapdoorVotesModel" ⟨"TrapdoorVotesModel", "isSoWith", "(II)Z"⟩ ⟨"TrapdoorVotesModel", "isSoWith", "(II)Z"⟩) ∈ lw_all := lw_g (lw_at lw_ms 65 rfl) rfl
theorem qs66 : (Cond.selects "TrapdoorVotesModel" ⟨"TrapdoorVotesModel", "copies", "(II)V"⟩ ⟨"TrapdoorVotesModel", "copies", "(II)V"⟩) ∈ lw_all := lw_g (lw_at lw_ms 66 rfl) rfl
