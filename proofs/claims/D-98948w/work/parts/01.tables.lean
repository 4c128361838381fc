-- ===== PART A: goes FIRST, ahead of the names: the tables' words, and 'selects' of the private methods out of them =====
/-- a private method of a class that the tables say can be made, by its rows of tables_1 -/
def lw_okq (q : MethodName × Nat) : Prop := (q.1.cls ≠ "java/lang/invoke/MethodHandle" ∧ q.1.cls ≠ "java/lang/invoke/VarHandle") ∧ Cond.instantiable q.1.cls q.2 ∈ tables_1 ∧ Cond.privateMethod q.1 ∈ tables_1 ∧ Cond.instanceMethod q.1 ∈ tables_1
set_option maxRecDepth 100000
theorem lw_t1 {w : Cond} (h : w ∈ tables_1_1) : w ∈ tables_1 := List.mem_append_left _ h
theorem lw_t2 {w : Cond} (h : w ∈ tables_1_2) : w ∈ tables_1 := List.mem_append_right _ (List.mem_append_left _ h)
theorem lw_t3 {w : Cond} (h : w ∈ tables_1_3) : w ∈ tables_1 := List.mem_append_right _ (List.mem_append_right _ (List.mem_append_left _ h))
theorem lw_t4 {w : Cond} (h : w ∈ tables_1_4) : w ∈ tables_1 := List.mem_append_right _ (List.mem_append_right _ (List.mem_append_right _ (List.mem_append_left _ h)))
theorem lw_t5 {w : Cond} (h : w ∈ tables_1_5) : w ∈ tables_1 := List.mem_append_right _ (List.mem_append_right _ (List.mem_append_right _ (List.mem_append_right _ (List.mem_append_left _ h))))
theorem lw_t6 {w : Cond} (h : w ∈ tables_1_6) : w ∈ tables_1 := List.mem_append_right _ (List.mem_append_right _ (List.mem_append_right _ (List.mem_append_right _ (List.mem_append_right _ (List.mem_append_left _ h)))))
theorem lw_t7 {w : Cond} (h : w ∈ tables_1_7) : w ∈ tables_1 := List.mem_append_right _ (List.mem_append_right _ (List.mem_append_right _ (List.mem_append_right _ (List.mem_append_right _ (List.mem_append_right _ (List.mem_append_left _ h))))))
theorem lw_t8 {w : Cond} (h : w ∈ tables_1_8) : w ∈ tables_1 := List.mem_append_right _ (List.mem_append_right _ (List.mem_append_right _ (List.mem_append_right _ (List.mem_append_right _ (List.mem_append_right _ (List.mem_append_right _ h))))))
theorem lw_p0 : lw_okq (⟨"SandKeepsSea", "words", "(I)LSandKeepsSea$Words;"⟩, 32) := ⟨⟨by decide +kernel, by decide +kernel⟩, lw_t1 (List.mem_of_getElem? (i := 28) rfl), lw_t1 (List.mem_of_getElem? (i := 233) rfl), lw_t1 (List.mem_of_getElem? (i := 234) rfl)⟩
theorem lw_p1 : lw_okq (⟨"java/lang/Throwable", "fillInStackTrace", "(I)Ljava/lang/Throwable;"⟩, 6) := ⟨⟨by decide +kernel, by decide +kernel⟩, lw_t2 (List.mem_of_getElem? (i := 73) rfl), lw_t2 (List.mem_of_getElem? (i := 71) rfl), lw_t2 (List.mem_of_getElem? (i := 72) rfl)⟩
theorem lw_p2 : lw_okq (⟨"SandKeepsSea$Rule", "held", "(I)I"⟩, 8) := ⟨⟨by decide +kernel, by decide +kernel⟩, lw_t2 (List.mem_of_getElem? (i := 178) rfl), lw_t2 (List.mem_of_getElem? (i := 205) rfl), lw_t2 (List.mem_of_getElem? (i := 206) rfl)⟩
theorem lw_p3 : lw_okq (⟨"SandKeepsSea$Rule", "sum", "(I)I"⟩, 8) := ⟨⟨by decide +kernel, by decide +kernel⟩, lw_t2 (List.mem_of_getElem? (i := 178) rfl), lw_t2 (List.mem_of_getElem? (i := 209) rfl), lw_t2 (List.mem_of_getElem? (i := 210) rfl)⟩
theorem lw_p4 : lw_okq (⟨"SandKeepsSea$Rule", "product", "(I)I"⟩, 8) := ⟨⟨by decide +kernel, by decide +kernel⟩, lw_t2 (List.mem_of_getElem? (i := 178) rfl), lw_t2 (List.mem_of_getElem? (i := 213) rfl), lw_t2 (List.mem_of_getElem? (i := 214) rfl)⟩
theorem lw_p5 : lw_okq (⟨"SandKeepsSea$Rule", "thing", "(I)I"⟩, 8) := ⟨⟨by decide +kernel, by decide +kernel⟩, lw_t2 (List.mem_of_getElem? (i := 178) rfl), lw_t2 (List.mem_of_getElem? (i := 217) rfl), lw_t2 (List.mem_of_getElem? (i := 218) rfl)⟩
theorem lw_p6 : lw_okq (⟨"SandKeepsSea$Rule", "value", "(I)I"⟩, 8) := ⟨⟨by decide +kernel, by decide +kernel⟩, lw_t2 (List.mem_of_getElem? (i := 178) rfl), lw_t3 (List.mem_of_getElem? (i := 0) rfl), lw_t3 (List.mem_of_getElem? (i := 1) rfl)⟩
theorem lw_p7 : lw_okq (⟨"SandKeepsSea", "refusesGo", "(LSandKeepsSea$Beach;II)I"⟩, 32) := ⟨⟨by decide +kernel, by decide +kernel⟩, lw_t1 (List.mem_of_getElem? (i := 28) rfl), lw_t3 (List.mem_of_getElem? (i := 71) rfl), lw_t3 (List.mem_of_getElem? (i := 72) rfl)⟩
theorem lw_p8 : lw_okq (⟨"SandKeepsSea", "isKid", "(I)Z"⟩, 32) := ⟨⟨by decide +kernel, by decide +kernel⟩, lw_t1 (List.mem_of_getElem? (i := 28) rfl), lw_t3 (List.mem_of_getElem? (i := 75) rfl), lw_t3 (List.mem_of_getElem? (i := 76) rfl)⟩
theorem lw_p9 : lw_okq (⟨"SandKeepsSea", "isCell", "(I)Z"⟩, 32) := ⟨⟨by decide +kernel, by decide +kernel⟩, lw_t1 (List.mem_of_getElem? (i := 28) rfl), lw_t3 (List.mem_of_getElem? (i := 79) rfl), lw_t3 (List.mem_of_getElem? (i := 80) rfl)⟩
theorem lw_p10 : lw_okq (⟨"SandKeepsSea", "remember", "(LSandKeepsSea$Beach;)V"⟩, 32) := ⟨⟨by decide +kernel, by decide +kernel⟩, lw_t1 (List.mem_of_getElem? (i := 28) rfl), lw_t3 (List.mem_of_getElem? (i := 83) rfl), lw_t3 (List.mem_of_getElem? (i := 84) rfl)⟩
theorem lw_p11 : lw_okq (⟨"SandKeepsSea", "refusesHome", "(I)I"⟩, 32) := ⟨⟨by decide +kernel, by decide +kernel⟩, lw_t1 (List.mem_of_getElem? (i := 28) rfl), lw_t3 (List.mem_of_getElem? (i := 96) rfl), lw_t3 (List.mem_of_getElem? (i := 97) rfl)⟩
theorem lw_p12 : lw_okq (⟨"SandKeepsSea", "refusesSpade", "(I)I"⟩, 32) := ⟨⟨by decide +kernel, by decide +kernel⟩, lw_t1 (List.mem_of_getElem? (i := 28) rfl), lw_t3 (List.mem_of_getElem? (i := 104) rfl), lw_t3 (List.mem_of_getElem? (i := 105) rfl)⟩
theorem lw_p13 : lw_okq (⟨"SandKeepsSea", "treats", "(LSandKeepsSea$Beach;II)V"⟩, 32) := ⟨⟨by decide +kernel, by decide +kernel⟩, lw_t1 (List.mem_of_getElem? (i := 28) rfl), lw_t3 (List.mem_of_getElem? (i := 115) rfl), lw_t3 (List.mem_of_getElem? (i := 116) rfl)⟩
theorem lw_p14 : lw_okq (⟨"SandKeepsSea", "goSpells", "(LSandKeepsSea$Beach;I)I"⟩, 32) := ⟨⟨by decide +kernel, by decide +kernel⟩, lw_t1 (List.mem_of_getElem? (i := 28) rfl), lw_t3 (List.mem_of_getElem? (i := 132) rfl), lw_t3 (List.mem_of_getElem? (i := 133) rfl)⟩
theorem lw_p15 : lw_okq (⟨"SandKeepsSea", "goSpell", "(LSandKeepsSea$Beach;)I"⟩, 32) := ⟨⟨by decide +kernel, by decide +kernel⟩, lw_t1 (List.mem_of_getElem? (i := 28) rfl), lw_t3 (List.mem_of_getElem? (i := 136) rfl), lw_t3 (List.mem_of_getElem? (i := 137) rfl)⟩
def lw_privs_1 : List (MethodName × Nat) := [(⟨"SandKeepsSea", "words", "(I)LSandKeepsSea$Words;"⟩, 32), (⟨"java/lang/Throwable", "fillInStackTrace", "(I)Ljava/lang/Throwable;"⟩, 6), (⟨"SandKeepsSea$Rule", "held", "(I)I"⟩, 8), (⟨"SandKeepsSea$Rule", "sum", "(I)I"⟩, 8), (⟨"SandKeepsSea$Rule", "product", "(I)I"⟩, 8), (⟨"SandKeepsSea$Rule", "thing", "(I)I"⟩, 8), (⟨"SandKeepsSea$Rule", "value", "(I)I"⟩, 8), (⟨"SandKeepsSea", "refusesGo", "(LSandKeepsSea$Beach;II)I"⟩, 32), (⟨"SandKeepsSea", "isKid", "(I)Z"⟩, 32), (⟨"SandKeepsSea", "isCell", "(I)Z"⟩, 32), (⟨"SandKeepsSea", "remember", "(LSandKeepsSea$Beach;)V"⟩, 32), (⟨"SandKeepsSea", "refusesHome", "(I)I"⟩, 32), (⟨"SandKeepsSea", "refusesSpade", "(I)I"⟩, 32), (⟨"SandKeepsSea", "treats", "(LSandKeepsSea$Beach;II)V"⟩, 32), (⟨"SandKeepsSea", "goSpells", "(LSandKeepsSea$Beach;I)I"⟩, 32), (⟨"SandKeepsSea", "goSpell", "(LSandKeepsSea$Beach;)I"⟩, 32)]
theorem lw_r1 : ∀ q ∈ lw_privs_1, lw_okq q := List.forall_mem_cons.mpr ⟨lw_p0, List.forall_mem_cons.mpr ⟨lw_p1, List.forall_mem_cons.mpr ⟨lw_p2, List.forall_mem_cons.mpr ⟨lw_p3, List.forall_mem_cons.mpr ⟨lw_p4, List.forall_mem_cons.mpr ⟨lw_p5, List.forall_mem_cons.mpr ⟨lw_p6, List.forall_mem_cons.mpr ⟨lw_p7, List.forall_mem_cons.mpr ⟨lw_p8, List.forall_mem_cons.mpr ⟨lw_p9, List.forall_mem_cons.mpr ⟨lw_p10, List.forall_mem_cons.mpr ⟨lw_p11, List.forall_mem_cons.mpr ⟨lw_p12, List.forall_mem_cons.mpr ⟨lw_p13, List.forall_mem_cons.mpr ⟨lw_p14, List.forall_mem_cons.mpr ⟨lw_p15, fun _ h => absurd h List.not_mem_nil⟩⟩⟩⟩⟩⟩⟩⟩⟩⟩⟩⟩⟩⟩⟩⟩
theorem lw_p16 : lw_okq (⟨"SandKeepsSea", "bucketsOf", "(LSandKeepsSea$Beach;I)I"⟩, 32) := ⟨⟨by decide +kernel, by decide +kernel⟩, lw_t1 (List.mem_of_getElem? (i := 28) rfl), lw_t3 (List.mem_of_getElem? (i := 141) rfl), lw_t3 (List.mem_of_getElem? (i := 142) rfl)⟩
theorem lw_p17 : lw_okq (⟨"SandKeepsSea", "isBesideFriend", "(LSandKeepsSea$Beach;I)Z"⟩, 32) := ⟨⟨by decide +kernel, by decide +kernel⟩, lw_t1 (List.mem_of_getElem? (i := 28) rfl), lw_t3 (List.mem_of_getElem? (i := 145) rfl), lw_t3 (List.mem_of_getElem? (i := 146) rfl)⟩
theorem lw_p18 : lw_okq (⟨"SandKeepsSea", "areFriends", "(II)Z"⟩, 32) := ⟨⟨by decide +kernel, by decide +kernel⟩, lw_t1 (List.mem_of_getElem? (i := 28) rfl), lw_t3 (List.mem_of_getElem? (i := 149) rfl), lw_t3 (List.mem_of_getElem? (i := 150) rfl)⟩
theorem lw_p19 : lw_okq (⟨"SandKeepsSea", "tell", "(J)V"⟩, 32) := ⟨⟨by decide +kernel, by decide +kernel⟩, lw_t1 (List.mem_of_getElem? (i := 28) rfl), lw_t3 (List.mem_of_getElem? (i := 156) rfl), lw_t3 (List.mem_of_getElem? (i := 157) rfl)⟩
theorem lw_p20 : lw_okq (⟨"SandKeepsSea", "levelOf", "(LSandKeepsSea$Beach;I)I"⟩, 32) := ⟨⟨by decide +kernel, by decide +kernel⟩, lw_t1 (List.mem_of_getElem? (i := 28) rfl), lw_t3 (List.mem_of_getElem? (i := 164) rfl), lw_t3 (List.mem_of_getElem? (i := 165) rfl)⟩
theorem lw_p21 : lw_okq (⟨"SandKeepsSea", "goTide", "(LSandKeepsSea$Beach;)I"⟩, 32) := ⟨⟨by decide +kernel, by decide +kernel⟩, lw_t1 (List.mem_of_getElem? (i := 28) rfl), lw_t3 (List.mem_of_getElem? (i := 176) rfl), lw_t3 (List.mem_of_getElem? (i := 177) rfl)⟩
theorem lw_p22 : lw_okq (⟨"SandKeepsSea", "below", "(LSandKeepsSea$Beach;I)I"⟩, 32) := ⟨⟨by decide +kernel, by decide +kernel⟩, lw_t1 (List.mem_of_getElem? (i := 28) rfl), lw_t3 (List.mem_of_getElem? (i := 180) rfl), lw_t3 (List.mem_of_getElem? (i := 181) rfl)⟩
theorem lw_p23 : lw_okq (⟨"SandKeepsSea", "topOf", "(LSandKeepsSea$Beach;I)I"⟩, 32) := ⟨⟨by decide +kernel, by decide +kernel⟩, lw_t1 (List.mem_of_getElem? (i := 28) rfl), lw_t3 (List.mem_of_getElem? (i := 184) rfl), lw_t3 (List.mem_of_getElem? (i := 185) rfl)⟩
theorem lw_p24 : lw_okq (⟨"SandKeepsSea$Beach", "spill", "(III)Z"⟩, 7) := ⟨⟨by decide +kernel, by decide +kernel⟩, lw_t1 (List.mem_of_getElem? (i := 36) rfl), lw_t3 (List.mem_of_getElem? (i := 192) rfl), lw_t3 (List.mem_of_getElem? (i := 193) rfl)⟩
theorem lw_p25 : lw_okq (⟨"SandKeepsSea$Order", "act", "()V"⟩, 8) := ⟨⟨by decide +kernel, by decide +kernel⟩, lw_t3 (List.mem_of_getElem? (i := 209) rfl), lw_t4 (List.mem_of_getElem? (i := 1) rfl), lw_t4 (List.mem_of_getElem? (i := 2) rfl)⟩
theorem lw_p26 : lw_okq (⟨"SandKeepsSea", "act", "(CII)Z"⟩, 32) := ⟨⟨by decide +kernel, by decide +kernel⟩, lw_t1 (List.mem_of_getElem? (i := 28) rfl), lw_t4 (List.mem_of_getElem? (i := 101) rfl), lw_t4 (List.mem_of_getElem? (i := 102) rfl)⟩
theorem lw_p27 : lw_okq (⟨"SandKeepsSea", "holdsOn", "()I"⟩, 32) := ⟨⟨by decide +kernel, by decide +kernel⟩, lw_t1 (List.mem_of_getElem? (i := 28) rfl), lw_t4 (List.mem_of_getElem? (i := 117) rfl), lw_t4 (List.mem_of_getElem? (i := 118) rfl)⟩
theorem lw_p28 : lw_okq (⟨"SandKeepsSea", "breaks", "(I)I"⟩, 32) := ⟨⟨by decide +kernel, by decide +kernel⟩, lw_t1 (List.mem_of_getElem? (i := 28) rfl), lw_t4 (List.mem_of_getElem? (i := 126) rfl), lw_t4 (List.mem_of_getElem? (i := 127) rfl)⟩
theorem lw_p29 : lw_okq (⟨"SandKeepsSea", "isFlood", "(II)Z"⟩, 32) := ⟨⟨by decide +kernel, by decide +kernel⟩, lw_t1 (List.mem_of_getElem? (i := 28) rfl), lw_t4 (List.mem_of_getElem? (i := 138) rfl), lw_t4 (List.mem_of_getElem? (i := 139) rfl)⟩
theorem lw_p30 : lw_okq (⟨"SandKeepsSea", "floodedBy", "(II[I)I"⟩, 32) := ⟨⟨by decide +kernel, by decide +kernel⟩, lw_t1 (List.mem_of_getElem? (i := 28) rfl), lw_t4 (List.mem_of_getElem? (i := 143) rfl), lw_t4 (List.mem_of_getElem? (i := 144) rfl)⟩
theorem lw_p31 : lw_okq (⟨"SandKeepsSea$Crew", "send", "(II)V"⟩, 6) := ⟨⟨by decide +kernel, by decide +kernel⟩, lw_t4 (List.mem_of_getElem? (i := 155) rfl), lw_t4 (List.mem_of_getElem? (i := 190) rfl), lw_t4 (List.mem_of_getElem? (i := 191) rfl)⟩
def lw_privs_2 : List (MethodName × Nat) := [(⟨"SandKeepsSea", "bucketsOf", "(LSandKeepsSea$Beach;I)I"⟩, 32), (⟨"SandKeepsSea", "isBesideFriend", "(LSandKeepsSea$Beach;I)Z"⟩, 32), (⟨"SandKeepsSea", "areFriends", "(II)Z"⟩, 32), (⟨"SandKeepsSea", "tell", "(J)V"⟩, 32), (⟨"SandKeepsSea", "levelOf", "(LSandKeepsSea$Beach;I)I"⟩, 32), (⟨"SandKeepsSea", "goTide", "(LSandKeepsSea$Beach;)I"⟩, 32), (⟨"SandKeepsSea", "below", "(LSandKeepsSea$Beach;I)I"⟩, 32), (⟨"SandKeepsSea", "topOf", "(LSandKeepsSea$Beach;I)I"⟩, 32), (⟨"SandKeepsSea$Beach", "spill", "(III)Z"⟩, 7), (⟨"SandKeepsSea$Order", "act", "()V"⟩, 8), (⟨"SandKeepsSea", "act", "(CII)Z"⟩, 32), (⟨"SandKeepsSea", "holdsOn", "()I"⟩, 32), (⟨"SandKeepsSea", "breaks", "(I)I"⟩, 32), (⟨"SandKeepsSea", "isFlood", "(II)Z"⟩, 32), (⟨"SandKeepsSea", "floodedBy", "(II[I)I"⟩, 32), (⟨"SandKeepsSea$Crew", "send", "(II)V"⟩, 6)]
theorem lw_r2 : ∀ q ∈ lw_privs_2, lw_okq q := List.forall_mem_cons.mpr ⟨lw_p16, List.forall_mem_cons.mpr ⟨lw_p17, List.forall_mem_cons.mpr ⟨lw_p18, List.forall_mem_cons.mpr ⟨lw_p19, List.forall_mem_cons.mpr ⟨lw_p20, List.forall_mem_cons.mpr ⟨lw_p21, List.forall_mem_cons.mpr ⟨lw_p22, List.forall_mem_cons.mpr ⟨lw_p23, List.forall_mem_cons.mpr ⟨lw_p24, List.forall_mem_cons.mpr ⟨lw_p25, List.forall_mem_cons.mpr ⟨lw_p26, List.forall_mem_cons.mpr ⟨lw_p27, List.forall_mem_cons.mpr ⟨lw_p28, List.forall_mem_cons.mpr ⟨lw_p29, List.forall_mem_cons.mpr ⟨lw_p30, List.forall_mem_cons.mpr ⟨lw_p31, fun _ h => absurd h List.not_mem_nil⟩⟩⟩⟩⟩⟩⟩⟩⟩⟩⟩⟩⟩⟩⟩⟩
theorem lw_p32 : lw_okq (⟨"SandKeepsSea", "bucketsBy", "(I)I"⟩, 32) := ⟨⟨by decide +kernel, by decide +kernel⟩, lw_t1 (List.mem_of_getElem? (i := 28) rfl), lw_t5 (List.mem_of_getElem? (i := 12) rfl), lw_t5 (List.mem_of_getElem? (i := 13) rfl)⟩
theorem lw_p33 : lw_okq (⟨"SandKeepsSea", "findWays", "()V"⟩, 32) := ⟨⟨by decide +kernel, by decide +kernel⟩, lw_t1 (List.mem_of_getElem? (i := 28) rfl), lw_t5 (List.mem_of_getElem? (i := 40) rfl), lw_t5 (List.mem_of_getElem? (i := 41) rfl)⟩
theorem lw_p34 : lw_okq (⟨"SandKeepsSea", "goWays", "(I)V"⟩, 32) := ⟨⟨by decide +kernel, by decide +kernel⟩, lw_t1 (List.mem_of_getElem? (i := 28) rfl), lw_t5 (List.mem_of_getElem? (i := 44) rfl), lw_t5 (List.mem_of_getElem? (i := 45) rfl)⟩
theorem lw_p35 : lw_okq (⟨"SandKeepsSea", "draw", "(I)I"⟩, 32) := ⟨⟨by decide +kernel, by decide +kernel⟩, lw_t1 (List.mem_of_getElem? (i := 28) rfl), lw_t5 (List.mem_of_getElem? (i := 78) rfl), lw_t5 (List.mem_of_getElem? (i := 79) rfl)⟩
theorem lw_p36 : lw_okq (⟨"SandKeepsSeaModel", "begins", "(I)I"⟩, 53) := ⟨⟨by decide +kernel, by decide +kernel⟩, lw_t5 (List.mem_of_getElem? (i := 160) rfl), lw_t6 (List.mem_of_getElem? (i := 106) rfl), lw_t6 (List.mem_of_getElem? (i := 107) rfl)⟩
theorem lw_p37 : lw_okq (⟨"SandKeepsSeaModel", "takes", "(I)Z"⟩, 53) := ⟨⟨by decide +kernel, by decide +kernel⟩, lw_t5 (List.mem_of_getElem? (i := 160) rfl), lw_t6 (List.mem_of_getElem? (i := 111) rfl), lw_t6 (List.mem_of_getElem? (i := 112) rfl)⟩
theorem lw_p38 : lw_okq (⟨"SandKeepsSeaModel", "number", "(I)I"⟩, 53) := ⟨⟨by decide +kernel, by decide +kernel⟩, lw_t5 (List.mem_of_getElem? (i := 160) rfl), lw_t6 (List.mem_of_getElem? (i := 118) rfl), lw_t6 (List.mem_of_getElem? (i := 119) rfl)⟩
theorem lw_p39 : lw_okq (⟨"SandKeepsSeaModel", "isDigit", "()Z"⟩, 53) := ⟨⟨by decide +kernel, by decide +kernel⟩, lw_t5 (List.mem_of_getElem? (i := 160) rfl), lw_t6 (List.mem_of_getElem? (i := 122) rfl), lw_t6 (List.mem_of_getElem? (i := 123) rfl)⟩
theorem lw_p40 : lw_okq (⟨"SandKeepsSeaModel", "readsChild", "()Z"⟩, 53) := ⟨⟨by decide +kernel, by decide +kernel⟩, lw_t5 (List.mem_of_getElem? (i := 160) rfl), lw_t6 (List.mem_of_getElem? (i := 132) rfl), lw_t6 (List.mem_of_getElem? (i := 133) rfl)⟩
theorem lw_p41 : lw_okq (⟨"SandKeepsSeaModel", "numberIn", "(III)I"⟩, 53) := ⟨⟨by decide +kernel, by decide +kernel⟩, lw_t5 (List.mem_of_getElem? (i := 160) rfl), lw_t6 (List.mem_of_getElem? (i := 136) rfl), lw_t6 (List.mem_of_getElem? (i := 137) rfl)⟩
theorem lw_p42 : lw_okq (⟨"SandKeepsSeaModel", "signIn", "(III)I"⟩, 53) := ⟨⟨by decide +kernel, by decide +kernel⟩, lw_t5 (List.mem_of_getElem? (i := 160) rfl), lw_t6 (List.mem_of_getElem? (i := 140) rfl), lw_t6 (List.mem_of_getElem? (i := 141) rfl)⟩
theorem lw_p43 : lw_okq (⟨"SandKeepsSeaModel", "faultOf", "(IIZ)I"⟩, 53) := ⟨⟨by decide +kernel, by decide +kernel⟩, lw_t5 (List.mem_of_getElem? (i := 160) rfl), lw_t6 (List.mem_of_getElem? (i := 144) rfl), lw_t6 (List.mem_of_getElem? (i := 145) rfl)⟩
theorem lw_p44 : lw_okq (⟨"SandKeepsSeaModel", "readsRule", "()I"⟩, 53) := ⟨⟨by decide +kernel, by decide +kernel⟩, lw_t5 (List.mem_of_getElem? (i := 160) rfl), lw_t6 (List.mem_of_getElem? (i := 152) rfl), lw_t6 (List.mem_of_getElem? (i := 153) rfl)⟩
theorem lw_p45 : lw_okq (⟨"SandKeepsSeaModel", "readsRank", "(I)Z"⟩, 53) := ⟨⟨by decide +kernel, by decide +kernel⟩, lw_t5 (List.mem_of_getElem? (i := 160) rfl), lw_t6 (List.mem_of_getElem? (i := 156) rfl), lw_t6 (List.mem_of_getElem? (i := 157) rfl)⟩
theorem lw_p46 : lw_okq (⟨"SandKeepsSeaModel", "readsThing", "()Z"⟩, 53) := ⟨⟨by decide +kernel, by decide +kernel⟩, lw_t5 (List.mem_of_getElem? (i := 160) rfl), lw_t6 (List.mem_of_getElem? (i := 160) rfl), lw_t6 (List.mem_of_getElem? (i := 161) rfl)⟩
theorem lw_p47 : lw_okq (⟨"SandKeepsSeaModel", "codes", "(I)V"⟩, 53) := ⟨⟨by decide +kernel, by decide +kernel⟩, lw_t5 (List.mem_of_getElem? (i := 160) rfl), lw_t6 (List.mem_of_getElem? (i := 164) rfl), lw_t6 (List.mem_of_getElem? (i := 165) rfl)⟩
def lw_privs_3 : List (MethodName × Nat) := [(⟨"SandKeepsSea", "bucketsBy", "(I)I"⟩, 32), (⟨"SandKeepsSea", "findWays", "()V"⟩, 32), (⟨"SandKeepsSea", "goWays", "(I)V"⟩, 32), (⟨"SandKeepsSea", "draw", "(I)I"⟩, 32), (⟨"SandKeepsSeaModel", "begins", "(I)I"⟩, 53), (⟨"SandKeepsSeaModel", "takes", "(I)Z"⟩, 53), (⟨"SandKeepsSeaModel", "number", "(I)I"⟩, 53), (⟨"SandKeepsSeaModel", "isDigit", "()Z"⟩, 53), (⟨"SandKeepsSeaModel", "readsChild", "()Z"⟩, 53), (⟨"SandKeepsSeaModel", "numberIn", "(III)I"⟩, 53), (⟨"SandKeepsSeaModel", "signIn", "(III)I"⟩, 53), (⟨"SandKeepsSeaModel", "faultOf", "(IIZ)I"⟩, 53), (⟨"SandKeepsSeaModel", "readsRule", "()I"⟩, 53), (⟨"SandKeepsSeaModel", "readsRank", "(I)Z"⟩, 53), (⟨"SandKeepsSeaModel", "readsThing", "()Z"⟩, 53), (⟨"SandKeepsSeaModel", "codes", "(I)V"⟩, 53)]
theorem lw_r3 : ∀ q ∈ lw_privs_3, lw_okq q := List.forall_mem_cons.mpr ⟨lw_p32, List.forall_mem_cons.mpr ⟨lw_p33, List.forall_mem_cons.mpr ⟨lw_p34, List.forall_mem_cons.mpr ⟨lw_p35, List.forall_mem_cons.mpr ⟨lw_p36, List.forall_mem_cons.mpr ⟨lw_p37, List.forall_mem_cons.mpr ⟨lw_p38, List.forall_mem_cons.mpr ⟨lw_p39, List.forall_mem_cons.mpr ⟨lw_p40, List.forall_mem_cons.mpr ⟨lw_p41, List.forall_mem_cons.mpr ⟨lw_p42, List.forall_mem_cons.mpr ⟨lw_p43, List.forall_mem_cons.mpr ⟨lw_p44, List.forall_mem_cons.mpr ⟨lw_p45, List.forall_mem_cons.mpr ⟨lw_p46, List.forall_mem_cons.mpr ⟨lw_p47, fun _ h => absurd h List.not_mem_nil⟩⟩⟩⟩⟩⟩⟩⟩⟩⟩⟩⟩⟩⟩⟩⟩
theorem lw_p48 : lw_okq (⟨"SandKeepsSeaModel", "takesOf", "(Ljava/lang/String;)I"⟩, 53) := ⟨⟨by decide +kernel, by decide +kernel⟩, lw_t5 (List.mem_of_getElem? (i := 160) rfl), lw_t6 (List.mem_of_getElem? (i := 169) rfl), lw_t6 (List.mem_of_getElem? (i := 170) rfl)⟩
theorem lw_p49 : lw_okq (⟨"SandKeepsSeaModel", "among", "(Ljava/lang/String;)I"⟩, 53) := ⟨⟨by decide +kernel, by decide +kernel⟩, lw_t5 (List.mem_of_getElem? (i := 160) rfl), lw_t6 (List.mem_of_getElem? (i := 173) rfl), lw_t6 (List.mem_of_getElem? (i := 174) rfl)⟩
theorem lw_p50 : lw_okq (⟨"SandKeepsSeaModel", "laysCode", "([II)V"⟩, 53) := ⟨⟨by decide +kernel, by decide +kernel⟩, lw_t5 (List.mem_of_getElem? (i := 160) rfl), lw_t6 (List.mem_of_getElem? (i := 201) rfl), lw_t6 (List.mem_of_getElem? (i := 202) rfl)⟩
theorem lw_p51 : lw_okq (⟨"SandKeepsSeaModel", "isCell", "(I)Z"⟩, 53) := ⟨⟨by decide +kernel, by decide +kernel⟩, lw_t5 (List.mem_of_getElem? (i := 160) rfl), lw_t6 (List.mem_of_getElem? (i := 209) rfl), lw_t6 (List.mem_of_getElem? (i := 210) rfl)⟩
theorem lw_p52 : lw_okq (⟨"SandKeepsSeaModel", "refuse", "()I"⟩, 53) := ⟨⟨by decide +kernel, by decide +kernel⟩, lw_t5 (List.mem_of_getElem? (i := 160) rfl), lw_t6 (List.mem_of_getElem? (i := 214) rfl), lw_t6 (List.mem_of_getElem? (i := 215) rfl)⟩
theorem lw_p53 : lw_okq (⟨"SandKeepsSeaModel", "childrenAt", "([II)I"⟩, 53) := ⟨⟨by decide +kernel, by decide +kernel⟩, lw_t5 (List.mem_of_getElem? (i := 160) rfl), lw_t6 (List.mem_of_getElem? (i := 221) rfl), lw_t6 (List.mem_of_getElem? (i := 222) rfl)⟩
theorem lw_p54 : lw_okq (⟨"SandKeepsSeaModel", "topOf", "([II)I"⟩, 53) := ⟨⟨by decide +kernel, by decide +kernel⟩, lw_t5 (List.mem_of_getElem? (i := 160) rfl), lw_t6 (List.mem_of_getElem? (i := 228) rfl), lw_t6 (List.mem_of_getElem? (i := 229) rfl)⟩
theorem lw_p55 : lw_okq (⟨"SandKeepsSeaModel", "isChild", "(I)Z"⟩, 53) := ⟨⟨by decide +kernel, by decide +kernel⟩, lw_t5 (List.mem_of_getElem? (i := 160) rfl), lw_t6 (List.mem_of_getElem? (i := 236) rfl), lw_t6 (List.mem_of_getElem? (i := 237) rfl)⟩
theorem lw_p56 : lw_okq (⟨"SandKeepsSeaModel", "bucketsOf", "([II)I"⟩, 53) := ⟨⟨by decide +kernel, by decide +kernel⟩, lw_t5 (List.mem_of_getElem? (i := 160) rfl), lw_t7 (List.mem_of_getElem? (i := 3) rfl), lw_t7 (List.mem_of_getElem? (i := 4) rfl)⟩
theorem lw_p57 : lw_okq (⟨"SandKeepsSeaModel", "hasFriend", "([II)Z"⟩, 53) := ⟨⟨by decide +kernel, by decide +kernel⟩, lw_t5 (List.mem_of_getElem? (i := 160) rfl), lw_t7 (List.mem_of_getElem? (i := 7) rfl), lw_t7 (List.mem_of_getElem? (i := 8) rfl)⟩
theorem lw_p58 : lw_okq (⟨"SandKeepsSeaModel", "areNear", "([III)Z"⟩, 53) := ⟨⟨by decide +kernel, by decide +kernel⟩, lw_t5 (List.mem_of_getElem? (i := 160) rfl), lw_t7 (List.mem_of_getElem? (i := 11) rfl), lw_t7 (List.mem_of_getElem? (i := 12) rfl)⟩
theorem lw_p59 : lw_okq (⟨"SandKeepsSeaModel", "putsBy", "()V"⟩, 53) := ⟨⟨by decide +kernel, by decide +kernel⟩, lw_t5 (List.mem_of_getElem? (i := 160) rfl), lw_t7 (List.mem_of_getElem? (i := 37) rfl), lw_t7 (List.mem_of_getElem? (i := 38) rfl)⟩
theorem lw_p60 : lw_okq (⟨"SandKeepsSeaModel", "goes", "([III)I"⟩, 53) := ⟨⟨by decide +kernel, by decide +kernel⟩, lw_t5 (List.mem_of_getElem? (i := 160) rfl), lw_t7 (List.mem_of_getElem? (i := 41) rfl), lw_t7 (List.mem_of_getElem? (i := 42) rfl)⟩
theorem lw_p61 : lw_okq (⟨"SandKeepsSeaModel", "counts", "(I)I"⟩, 53) := ⟨⟨by decide +kernel, by decide +kernel⟩, lw_t5 (List.mem_of_getElem? (i := 160) rfl), lw_t7 (List.mem_of_getElem? (i := 45) rfl), lw_t7 (List.mem_of_getElem? (i := 46) rfl)⟩
theorem lw_p62 : lw_okq (⟨"SandKeepsSeaModel", "adds", "(I)I"⟩, 53) := ⟨⟨by decide +kernel, by decide +kernel⟩, lw_t5 (List.mem_of_getElem? (i := 160) rfl), lw_t7 (List.mem_of_getElem? (i := 49) rfl), lw_t7 (List.mem_of_getElem? (i := 50) rfl)⟩
theorem lw_p63 : lw_okq (⟨"SandKeepsSeaModel", "goesHome", "(I)I"⟩, 53) := ⟨⟨by decide +kernel, by decide +kernel⟩, lw_t5 (List.mem_of_getElem? (i := 160) rfl), lw_t7 (List.mem_of_getElem? (i := 57) rfl), lw_t7 (List.mem_of_getElem? (i := 58) rfl)⟩
def lw_privs_4 : List (MethodName × Nat) := [(⟨"SandKeepsSeaModel", "takesOf", "(Ljava/lang/String;)I"⟩, 53), (⟨"SandKeepsSeaModel", "among", "(Ljava/lang/String;)I"⟩, 53), (⟨"SandKeepsSeaModel", "laysCode", "([II)V"⟩, 53), (⟨"SandKeepsSeaModel", "isCell", "(I)Z"⟩, 53), (⟨"SandKeepsSeaModel", "refuse", "()I"⟩, 53), (⟨"SandKeepsSeaModel", "childrenAt", "([II)I"⟩, 53), (⟨"SandKeepsSeaModel", "topOf", "([II)I"⟩, 53), (⟨"SandKeepsSeaModel", "isChild", "(I)Z"⟩, 53), (⟨"SandKeepsSeaModel", "bucketsOf", "([II)I"⟩, 53), (⟨"SandKeepsSeaModel", "hasFriend", "([II)Z"⟩, 53), (⟨"SandKeepsSeaModel", "areNear", "([III)Z"⟩, 53), (⟨"SandKeepsSeaModel", "putsBy", "()V"⟩, 53), (⟨"SandKeepsSeaModel", "goes", "([III)I"⟩, 53), (⟨"SandKeepsSeaModel", "counts", "(I)I"⟩, 53), (⟨"SandKeepsSeaModel", "adds", "(I)I"⟩, 53), (⟨"SandKeepsSeaModel", "goesHome", "(I)I"⟩, 53)]
theorem lw_r4 : ∀ q ∈ lw_privs_4, lw_okq q := List.forall_mem_cons.mpr ⟨lw_p48, List.forall_mem_cons.mpr ⟨lw_p49, List.forall_mem_cons.mpr ⟨lw_p50, List.forall_mem_cons.mpr ⟨lw_p51, List.forall_mem_cons.mpr ⟨lw_p52, List.forall_mem_cons.mpr ⟨lw_p53, List.forall_mem_cons.mpr ⟨lw_p54, List.forall_mem_cons.mpr ⟨lw_p55, List.forall_mem_cons.mpr ⟨lw_p56, List.forall_mem_cons.mpr ⟨lw_p57, List.forall_mem_cons.mpr ⟨lw_p58, List.forall_mem_cons.mpr ⟨lw_p59, List.forall_mem_cons.mpr ⟨lw_p60, List.forall_mem_cons.mpr ⟨lw_p61, List.forall_mem_cons.mpr ⟨lw_p62, List.forall_mem_cons.mpr ⟨lw_p63, fun _ h => absurd h List.not_mem_nil⟩⟩⟩⟩⟩⟩⟩⟩⟩⟩⟩⟩⟩⟩⟩⟩
theorem lw_p64 : lw_okq (⟨"SandKeepsSeaModel", "spadeFor", "(I)I"⟩, 53) := ⟨⟨by decide +kernel, by decide +kernel⟩, lw_t5 (List.mem_of_getElem? (i := 160) rfl), lw_t7 (List.mem_of_getElem? (i := 65) rfl), lw_t7 (List.mem_of_getElem? (i := 66) rfl)⟩
theorem lw_p65 : lw_okq (⟨"SandKeepsSeaModel", "treatsOne", "(I)I"⟩, 53) := ⟨⟨by decide +kernel, by decide +kernel⟩, lw_t5 (List.mem_of_getElem? (i := 160) rfl), lw_t7 (List.mem_of_getElem? (i := 73) rfl), lw_t7 (List.mem_of_getElem? (i := 74) rfl)⟩
theorem lw_p66 : lw_okq (⟨"SandKeepsSeaModel", "digs", "(I)I"⟩, 53) := ⟨⟨by decide +kernel, by decide +kernel⟩, lw_t5 (List.mem_of_getElem? (i := 160) rfl), lw_t7 (List.mem_of_getElem? (i := 81) rfl), lw_t7 (List.mem_of_getElem? (i := 82) rfl)⟩
theorem lw_p67 : lw_okq (⟨"SandKeepsSeaModel", "wallAll", "([I)I"⟩, 53) := ⟨⟨by decide +kernel, by decide +kernel⟩, lw_t5 (List.mem_of_getElem? (i := 160) rfl), lw_t7 (List.mem_of_getElem? (i := 90) rfl), lw_t7 (List.mem_of_getElem? (i := 91) rfl)⟩
theorem lw_p68 : lw_okq (⟨"SandKeepsSeaModel", "builds", "([II)V"⟩, 53) := ⟨⟨by decide +kernel, by decide +kernel⟩, lw_t5 (List.mem_of_getElem? (i := 160) rfl), lw_t7 (List.mem_of_getElem? (i := 94) rfl), lw_t7 (List.mem_of_getElem? (i := 95) rfl)⟩
theorem lw_p69 : lw_okq (⟨"SandKeepsSeaModel", "spellGoes", "([I)V"⟩, 53) := ⟨⟨by decide +kernel, by decide +kernel⟩, lw_t5 (List.mem_of_getElem? (i := 160) rfl), lw_t7 (List.mem_of_getElem? (i := 98) rfl), lw_t7 (List.mem_of_getElem? (i := 99) rfl)⟩
theorem lw_p70 : lw_okq (⟨"SandKeepsSeaModel", "enters", "(J)V"⟩, 53) := ⟨⟨by decide +kernel, by decide +kernel⟩, lw_t5 (List.mem_of_getElem? (i := 160) rfl), lw_t7 (List.mem_of_getElem? (i := 102) rfl), lw_t7 (List.mem_of_getElem? (i := 103) rfl)⟩
theorem lw_p71 : lw_okq (⟨"SandKeepsSeaModel", "deepAll", "([I)I"⟩, 53) := ⟨⟨by decide +kernel, by decide +kernel⟩, lw_t5 (List.mem_of_getElem? (i := 160) rfl), lw_t7 (List.mem_of_getElem? (i := 110) rfl), lw_t7 (List.mem_of_getElem? (i := 111) rfl)⟩
theorem lw_p72 : lw_okq (⟨"SandKeepsSeaModel", "tideComes", "([I)I"⟩, 53) := ⟨⟨by decide +kernel, by decide +kernel⟩, lw_t5 (List.mem_of_getElem? (i := 160) rfl), lw_t7 (List.mem_of_getElem? (i := 114) rfl), lw_t7 (List.mem_of_getElem? (i := 115) rfl)⟩
theorem lw_p73 : lw_okq (⟨"SandKeepsSeaModel", "levelOf", "([II)I"⟩, 53) := ⟨⟨by decide +kernel, by decide +kernel⟩, lw_t5 (List.mem_of_getElem? (i := 160) rfl), lw_t7 (List.mem_of_getElem? (i := 118) rfl), lw_t7 (List.mem_of_getElem? (i := 119) rfl)⟩
theorem lw_p74 : lw_okq (⟨"SandKeepsSeaModel", "ruled", "()I"⟩, 53) := ⟨⟨by decide +kernel, by decide +kernel⟩, lw_t5 (List.mem_of_getElem? (i := 160) rfl), lw_t7 (List.mem_of_getElem? (i := 122) rfl), lw_t7 (List.mem_of_getElem? (i := 123) rfl)⟩
theorem lw_p75 : lw_okq (⟨"SandKeepsSeaModel", "lowBy", "([II)I"⟩, 53) := ⟨⟨by decide +kernel, by decide +kernel⟩, lw_t5 (List.mem_of_getElem? (i := 160) rfl), lw_t7 (List.mem_of_getElem? (i := 129) rfl), lw_t7 (List.mem_of_getElem? (i := 130) rfl)⟩
theorem lw_p76 : lw_okq (⟨"SandKeepsSeaModel", "waterGoes", "([I)V"⟩, 53) := ⟨⟨by decide +kernel, by decide +kernel⟩, lw_t5 (List.mem_of_getElem? (i := 160) rfl), lw_t7 (List.mem_of_getElem? (i := 133) rfl), lw_t7 (List.mem_of_getElem? (i := 134) rfl)⟩
theorem lw_p77 : lw_okq (⟨"SandKeepsSeaModel", "wet", "([I)I"⟩, 53) := ⟨⟨by decide +kernel, by decide +kernel⟩, lw_t5 (List.mem_of_getElem? (i := 160) rfl), lw_t7 (List.mem_of_getElem? (i := 142) rfl), lw_t7 (List.mem_of_getElem? (i := 143) rfl)⟩
theorem lw_p78 : lw_okq (⟨"SandKeepsSeaModel", "readsAct", "()Z"⟩, 53) := ⟨⟨by decide +kernel, by decide +kernel⟩, lw_t5 (List.mem_of_getElem? (i := 160) rfl), lw_t7 (List.mem_of_getElem? (i := 150) rfl), lw_t7 (List.mem_of_getElem? (i := 151) rfl)⟩
theorem lw_p79 : lw_okq (⟨"SandKeepsSeaModel", "does", "(I)Z"⟩, 53) := ⟨⟨by decide +kernel, by decide +kernel⟩, lw_t5 (List.mem_of_getElem? (i := 160) rfl), lw_t7 (List.mem_of_getElem? (i := 157) rfl), lw_t7 (List.mem_of_getElem? (i := 158) rfl)⟩
def lw_privs_5 : List (MethodName × Nat) := [(⟨"SandKeepsSeaModel", "spadeFor", "(I)I"⟩, 53), (⟨"SandKeepsSeaModel", "treatsOne", "(I)I"⟩, 53), (⟨"SandKeepsSeaModel", "digs", "(I)I"⟩, 53), (⟨"SandKeepsSeaModel", "wallAll", "([I)I"⟩, 53), (⟨"SandKeepsSeaModel", "builds", "([II)V"⟩, 53), (⟨"SandKeepsSeaModel", "spellGoes", "([I)V"⟩, 53), (⟨"SandKeepsSeaModel", "enters", "(J)V"⟩, 53), (⟨"SandKeepsSeaModel", "deepAll", "([I)I"⟩, 53), (⟨"SandKeepsSeaModel", "tideComes", "([I)I"⟩, 53), (⟨"SandKeepsSeaModel", "levelOf", "([II)I"⟩, 53), (⟨"SandKeepsSeaModel", "ruled", "()I"⟩, 53), (⟨"SandKeepsSeaModel", "lowBy", "([II)I"⟩, 53), (⟨"SandKeepsSeaModel", "waterGoes", "([I)V"⟩, 53), (⟨"SandKeepsSeaModel", "wet", "([I)I"⟩, 53), (⟨"SandKeepsSeaModel", "readsAct", "()Z"⟩, 53), (⟨"SandKeepsSeaModel", "does", "(I)Z"⟩, 53)]
theorem lw_r5 : ∀ q ∈ lw_privs_5, lw_okq q := List.forall_mem_cons.mpr ⟨lw_p64, List.forall_mem_cons.mpr ⟨lw_p65, List.forall_mem_cons.mpr ⟨lw_p66, List.forall_mem_cons.mpr ⟨lw_p67, List.forall_mem_cons.mpr ⟨lw_p68, List.forall_mem_cons.mpr ⟨lw_p69, List.forall_mem_cons.mpr ⟨lw_p70, List.forall_mem_cons.mpr ⟨lw_p71, List.forall_mem_cons.mpr ⟨lw_p72, List.forall_mem_cons.mpr ⟨lw_p73, List.forall_mem_cons.mpr ⟨lw_p74, List.forall_mem_cons.mpr ⟨lw_p75, List.forall_mem_cons.mpr ⟨lw_p76, List.forall_mem_cons.mpr ⟨lw_p77, List.forall_mem_cons.mpr ⟨lw_p78, List.forall_mem_cons.mpr ⟨lw_p79, fun _ h => absurd h List.not_mem_nil⟩⟩⟩⟩⟩⟩⟩⟩⟩⟩⟩⟩⟩⟩⟩⟩
theorem lw_p80 : lw_okq (⟨"SandKeepsSeaModel", "puts", "()V"⟩, 53) := ⟨⟨by decide +kernel, by decide +kernel⟩, lw_t5 (List.mem_of_getElem? (i := 160) rfl), lw_t7 (List.mem_of_getElem? (i := 169) rfl), lw_t7 (List.mem_of_getElem? (i := 170) rfl)⟩
theorem lw_p81 : lw_okq (⟨"SandKeepsSeaModel", "breaksIn", "()I"⟩, 53) := ⟨⟨by decide +kernel, by decide +kernel⟩, lw_t5 (List.mem_of_getElem? (i := 160) rfl), lw_t7 (List.mem_of_getElem? (i := 173) rfl), lw_t7 (List.mem_of_getElem? (i := 174) rfl)⟩
theorem lw_p82 : lw_okq (⟨"SandKeepsSeaModel", "breakMany", "(I)I"⟩, 53) := ⟨⟨by decide +kernel, by decide +kernel⟩, lw_t5 (List.mem_of_getElem? (i := 160) rfl), lw_t7 (List.mem_of_getElem? (i := 182) rfl), lw_t7 (List.mem_of_getElem? (i := 183) rfl)⟩
theorem lw_p83 : lw_okq (⟨"SandKeepsSeaModel", "isHigh", "([I)Z"⟩, 53) := ⟨⟨by decide +kernel, by decide +kernel⟩, lw_t5 (List.mem_of_getElem? (i := 160) rfl), lw_t7 (List.mem_of_getElem? (i := 190) rfl), lw_t7 (List.mem_of_getElem? (i := 191) rfl)⟩
theorem lw_p84 : lw_okq (⟨"SandKeepsSeaModel", "canFlood", "(II)Z"⟩, 53) := ⟨⟨by decide +kernel, by decide +kernel⟩, lw_t5 (List.mem_of_getElem? (i := 160) rfl), lw_t7 (List.mem_of_getElem? (i := 198) rfl), lw_t7 (List.mem_of_getElem? (i := 199) rfl)⟩
theorem lw_p85 : lw_okq (⟨"SandKeepsSeaModel", "floodsFrom", "(II)V"⟩, 53) := ⟨⟨by decide +kernel, by decide +kernel⟩, lw_t5 (List.mem_of_getElem? (i := 160) rfl), lw_t7 (List.mem_of_getElem? (i := 203) rfl), lw_t7 (List.mem_of_getElem? (i := 204) rfl)⟩
theorem lw_p86 : lw_okq (⟨"SandKeepsSeaModel", "crewsFrom", "(IIII)V"⟩, 53) := ⟨⟨by decide +kernel, by decide +kernel⟩, lw_t5 (List.mem_of_getElem? (i := 160) rfl), lw_t7 (List.mem_of_getElem? (i := 216) rfl), lw_t7 (List.mem_of_getElem? (i := 217) rfl)⟩
theorem lw_p87 : lw_okq (⟨"SandKeepsSeaModel", "crewHolds", "(I)Z"⟩, 53) := ⟨⟨by decide +kernel, by decide +kernel⟩, lw_t5 (List.mem_of_getElem? (i := 160) rfl), lw_t7 (List.mem_of_getElem? (i := 220) rfl), lw_t7 (List.mem_of_getElem? (i := 221) rfl)⟩
theorem lw_p88 : lw_okq (⟨"SandKeepsSeaModel", "bucketsAll", "([I)I"⟩, 53) := ⟨⟨by decide +kernel, by decide +kernel⟩, lw_t5 (List.mem_of_getElem? (i := 160) rfl), lw_t7 (List.mem_of_getElem? (i := 238) rfl), lw_t7 (List.mem_of_getElem? (i := 239) rfl)⟩
theorem lw_p89 : lw_okq (⟨"SandKeepsSeaModel", "laysPlaces", "()V"⟩, 53) := ⟨⟨by decide +kernel, by decide +kernel⟩, lw_t5 (List.mem_of_getElem? (i := 160) rfl), lw_t8 (List.mem_of_getElem? (i := 26) rfl), lw_t8 (List.mem_of_getElem? (i := 27) rfl)⟩
theorem lw_p90 : lw_okq (⟨"SandKeepsSeaModel", "placesFrom", "(I)V"⟩, 53) := ⟨⟨by decide +kernel, by decide +kernel⟩, lw_t5 (List.mem_of_getElem? (i := 160) rfl), lw_t8 (List.mem_of_getElem? (i := 30) rfl), lw_t8 (List.mem_of_getElem? (i := 31) rfl)⟩
theorem lw_p91 : lw_okq (⟨"SandKeepsSeaModel", "isAsSeen", "()Z"⟩, 53) := ⟨⟨by decide +kernel, by decide +kernel⟩, lw_t5 (List.mem_of_getElem? (i := 160) rfl), lw_t8 (List.mem_of_getElem? (i := 34) rfl), lw_t8 (List.mem_of_getElem? (i := 35) rfl)⟩
theorem lw_p92 : lw_okq (⟨"SandKeepsSeaModel", "draws", "(I)I"⟩, 53) := ⟨⟨by decide +kernel, by decide +kernel⟩, lw_t5 (List.mem_of_getElem? (i := 160) rfl), lw_t8 (List.mem_of_getElem? (i := 68) rfl), lw_t8 (List.mem_of_getElem? (i := 69) rfl)⟩
def lw_privs_6 : List (MethodName × Nat) := [(⟨"SandKeepsSeaModel", "puts", "()V"⟩, 53), (⟨"SandKeepsSeaModel", "breaksIn", "()I"⟩, 53), (⟨"SandKeepsSeaModel", "breakMany", "(I)I"⟩, 53), (⟨"SandKeepsSeaModel", "isHigh", "([I)Z"⟩, 53), (⟨"SandKeepsSeaModel", "canFlood", "(II)Z"⟩, 53), (⟨"SandKeepsSeaModel", "floodsFrom", "(II)V"⟩, 53), (⟨"SandKeepsSeaModel", "crewsFrom", "(IIII)V"⟩, 53), (⟨"SandKeepsSeaModel", "crewHolds", "(I)Z"⟩, 53), (⟨"SandKeepsSeaModel", "bucketsAll", "([I)I"⟩, 53), (⟨"SandKeepsSeaModel", "laysPlaces", "()V"⟩, 53), (⟨"SandKeepsSeaModel", "placesFrom", "(I)V"⟩, 53), (⟨"SandKeepsSeaModel", "isAsSeen", "()Z"⟩, 53), (⟨"SandKeepsSeaModel", "draws", "(I)I"⟩, 53)]
theorem lw_r6 : ∀ q ∈ lw_privs_6, lw_okq q := List.forall_mem_cons.mpr ⟨lw_p80, List.forall_mem_cons.mpr ⟨lw_p81, List.forall_mem_cons.mpr ⟨lw_p82, List.forall_mem_cons.mpr ⟨lw_p83, List.forall_mem_cons.mpr ⟨lw_p84, List.forall_mem_cons.mpr ⟨lw_p85, List.forall_mem_cons.mpr ⟨lw_p86, List.forall_mem_cons.mpr ⟨lw_p87, List.forall_mem_cons.mpr ⟨lw_p88, List.forall_mem_cons.mpr ⟨lw_p89, List.forall_mem_cons.mpr ⟨lw_p90, List.forall_mem_cons.mpr ⟨lw_p91, List.forall_mem_cons.mpr ⟨lw_p92, fun _ h => absurd h List.not_mem_nil⟩⟩⟩⟩⟩⟩⟩⟩⟩⟩⟩⟩⟩
def lw_privs : List (MethodName × Nat) := lw_privs_1 ++ (lw_privs_2 ++ (lw_privs_3 ++ (lw_privs_4 ++ (lw_privs_5 ++ (lw_privs_6)))))
def lw_tbl : List Cond := k2_sels lw_privs ++ tables_1
theorem lw_privs_ok : ∀ q ∈ lw_privs, lw_okq q := by
  show ∀ q ∈ lw_privs_1 ++ (lw_privs_2 ++ (lw_privs_3 ++ (lw_privs_4 ++ (lw_privs_5 ++ (lw_privs_6))))), lw_okq q
  exact List.forall_mem_append.mpr ⟨lw_r1, List.forall_mem_append.mpr ⟨lw_r2, List.forall_mem_append.mpr ⟨lw_r3, List.forall_mem_append.mpr ⟨lw_r4, List.forall_mem_append.mpr ⟨lw_r5, lw_r6⟩⟩⟩⟩⟩
-- ===== ONE list of words for every method: the tables' words that hold all through a run =====
def lw_all : List Cond := lw_tbl.filter goodWord
/-- a word of the tables by its place: claim/WORDS.tsv -/
theorem lw_w {w : Cond} (i : Nat) (h : lw_tbl[i]? = some w) (g : goodWord w = true) : w ∈ lw_all := List.mem_filter.mpr ⟨List.mem_of_getElem? h, g⟩
theorem lw_all_tbl {w : Cond} (h : w ∈ lw_all) : w ∈ lw_tbl := (List.mem_filter.mp h).1
theorem lw_self : GoodIn lw_all lw_all := fun w h => ⟨h, good_of_word (List.mem_filter.mp h).2⟩
/-- a class's field words, by their places -/
theorem lw_in (ws : List Cond) (ps : List Nat) (hp : ws = ps.filterMap (fun i => lw_tbl[i]?)) (hg : ws.all goodWord = true) : ∀ w ∈ ws, w ∈ lw_all := by
  intro w h
  have h1 := List.all_eq_true.mp hg w h
  rw [hp] at h
  obtain ⟨i, -, hi⟩ := List.mem_filterMap.mp h
  exact lw_w i hi h1
/-- the words of a contract for the method y with code b, L locals, answer r -/
abbrev ws_ (y : MethodName) (b : ByteArray) (L : Nat) (r : Option FieldType) : List Cond := Cond.code y b L r :: lw_all
theorem lw_meth {y : MethodName} {b : ByteArray} {L : Nat} {r : Option FieldType} (h : Cond.code y b L r ∈ lw_all) : GoodIn lw_all (ws_ y b L r) := by
  intro w hw
  rcases List.mem_cons.mp hw with e | e
  · rw [e]
    exact lw_self _ h
  · exact lw_self _ e
theorem lw_app {a c : List Cond} (ha : ∀ w ∈ a, w ∈ lw_all) (hc : GoodIn lw_all c) : GoodIn lw_all (a ++ c) := by
  intro w hw
  rcases List.mem_append.mp hw with e | e
  · exact lw_self w (ha w e)
  · exact hc w e
/-- what a call through an object asks: cwV n hts (lw_V ..) -/
theorem lw_V {own : String} {idx : Nat} {C : String} {y : MethodName} {b : ByteArray} {L : Nat} {r : Option FieldType} (h1 : Cond.methodLink own idx y ∈ lw_all) (h2 : Cond.instanceMethod y ∈ lw_all) (h3 : Cond.selects C y y ∈ lw_all) (h4 : Cond.initialized C ∈ lw_all) (h5 : Cond.code y b L r ∈ lw_all) : GoodIn lw_all (wsV own idx C y (ws_ y b L r)) := by
  refine lw_app ?_ (lw_meth h5)
  intro w hw
  simp only [List.mem_cons, List.not_mem_nil, or_false] at hw
  rcases hw with e | e | e | e
  · rw [e]; exact h1
  · rw [e]; exact h2
  · rw [e]; exact h3
  · rw [e]; exact h4
/-- what a static call asks: va_cwS n hts (lw_S ..) -/
theorem lw_S {own : String} {idx : Nat} {y : MethodName} {b : ByteArray} {L : Nat} {r : Option FieldType} (h1 : Cond.methodLink own idx y ∈ lw_all) (h2 : Cond.static y ∈ lw_all) (h3 : Cond.initialized y.cls ∈ lw_all) (h4 : Cond.code y b L r ∈ lw_all) : GoodIn lw_all (va_wsS own idx y (ws_ y b L r)) := by
  refine lw_app ?_ (lw_meth h4)
  intro w hw
  simp only [List.mem_cons, List.not_mem_nil, or_false] at hw
  rcases hw with e | e | e
  · rw [e]; exact h1
  · rw [e]; exact h2
  · rw [e]; exact h3
/-- the words of a contract for a method WITH HANDLERS (hh: its table) -/
abbrev wsW_ (y : MethodName) (b : ByteArray) (L : Nat) (r : Option FieldType) (hh : List (Nat × Nat × Nat × Nat)) : List Cond := Cond.codeWith y b L r hh :: lw_all
theorem lw_methW {y : MethodName} {b : ByteArray} {L : Nat} {r : Option FieldType} {hh : List (Nat × Nat × Nat × Nat)} (h : Cond.codeWith y b L r hh ∈ lw_all) : GoodIn lw_all (wsW_ y b L r hh) := by
  intro w hw
  rcases List.mem_cons.mp hw with e | e
  · rw [e]
    exact lw_self _ h
  · exact lw_self _ e
/-- any list of words by their places (lw_in), good -/
theorem lw_good {ws : List Cond} (h : ∀ w ∈ ws, w ∈ lw_all) : GoodIn lw_all ws := fun w hw => lw_self w (h w hw)
/-- what a call of a method with handlers asks: vx_cwVW n hts (lw_VW ..), vx_cwSW n hts (lw_SW ..) -/
theorem lw_VW {own : String} {idx : Nat} {C : String} {y : MethodName} {b : ByteArray} {L : Nat} {r : Option FieldType} {hh : List (Nat × Nat × Nat × Nat)} (h1 : Cond.methodLink own idx y ∈ lw_all) (h2 : Cond.instanceMethod y ∈ lw_all) (h3 : Cond.selects C y y ∈ lw_all) (h4 : Cond.initialized C ∈ lw_all) (h5 : Cond.codeWith y b L r hh ∈ lw_all) : GoodIn lw_all (wsV own idx C y (wsW_ y b L r hh)) := by
  refine lw_app ?_ (lw_methW h5)
  intro w hw
  simp only [List.mem_cons, List.not_mem_nil, or_false] at hw
  rcases hw with e | e | e | e
  · rw [e]; exact h1
  · rw [e]; exact h2
  · rw [e]; exact h3
  · rw [e]; exact h4
theorem lw_SW {own : String} {idx : Nat} {y : MethodName} {b : ByteArray} {L : Nat} {r : Option FieldType} {hh : List (Nat × Nat × Nat × Nat)} (h1 : Cond.methodLink own idx y ∈ lw_all) (h2 : Cond.static y ∈ lw_all) (h3 : Cond.initialized y.cls ∈ lw_all) (h4 : Cond.codeWith y b L r hh ∈ lw_all) : GoodIn lw_all (va_wsS own idx y (wsW_ y b L r hh)) := by
  refine lw_app ?_ (lw_methW h4)
  intro w hw
  simp only [List.mem_cons, List.not_mem_nil, or_false] at hw
  rcases hw with e | e | e
  · rw [e]; exact h1
  · rw [e]; exact h2
  · rw [e]; exact h3
/-- a word by its place in its run of the tables -/
theorem lw_at {r : List Cond} (hr : ∀ w ∈ r, w ∈ lw_tbl) {w : Cond} (i : Nat) (h : r[i]? = some w) : w ∈ lw_tbl := hr w (List.mem_of_getElem? h)
theorem lw_g {w : Cond} (h : w ∈ lw_tbl) (g : goodWord w = true) : w ∈ lw_all := List.mem_filter.mpr ⟨h, g⟩
theorem lw_ms : ∀ w ∈ k2_sels lw_privs, w ∈ lw_tbl := fun w h => show w ∈ k2_sels lw_privs ++ tables_1 from List.mem_append_left _ h
theorem lw_m1 : ∀ w ∈ tables_1_1, w ∈ lw_tbl := fun w h => show w ∈ k2_sels lw_privs ++ tables_1 from List.mem_append_right (k2_sels lw_privs) (show w ∈ tables_1 from List.mem_append_left _ h)
theorem lw_m2 : ∀ w ∈ tables_1_2, w ∈ lw_tbl := fun w h => show w ∈ k2_sels lw_privs ++ tables_1 from List.mem_append_right (k2_sels lw_privs) (show w ∈ tables_1 from List.mem_append_right _ (List.mem_append_left _ h))
theorem lw_m3 : ∀ w ∈ tables_1_3, w ∈ lw_tbl := fun w h => show w ∈ k2_sels lw_privs ++ tables_1 from List.mem_append_right (k2_sels lw_privs) (show w ∈ tables_1 from List.mem_append_right _ (List.mem_append_right _ (List.mem_append_left _ h)))
theorem lw_m4 : ∀ w ∈ tables_1_4, w ∈ lw_tbl := fun w h => show w ∈ k2_sels lw_privs ++ tables_1 from List.mem_append_right (k2_sels lw_privs) (show w ∈ tables_1 from List.mem_append_right _ (List.mem_append_right _ (List.mem_append_right _ (List.mem_append_left _ h))))
theorem lw_m5 : ∀ w ∈ tables_1_5, w ∈ lw_tbl := fun w h => show w ∈ k2_sels lw_privs ++ tables_1 from List.mem_append_right (k2_sels lw_privs) (show w ∈ tables_1 from List.mem_append_right _ (List.mem_append_right _ (List.mem_append_right _ (List.mem_append_right _ (List.mem_append_left _ h)))))
theorem lw_m6 : ∀ w ∈ tables_1_6, w ∈ lw_tbl := fun w h => show w ∈ k2_sels lw_privs ++ tables_1 from List.mem_append_right (k2_sels lw_privs) (show w ∈ tables_1 from List.mem_append_right _ (List.mem_append_right _ (List.mem_append_right _ (List.mem_append_right _ (List.mem_append_right _ (List.mem_append_left _ h))))))
theorem lw_m7 : ∀ w ∈ tables_1_7, w ∈ lw_tbl := fun w h => show w ∈ k2_sels lw_privs ++ tables_1 from List.mem_append_right (k2_sels lw_privs) (show w ∈ tables_1 from List.mem_append_right _ (List.mem_append_right _ (List.mem_append_right _ (List.mem_append_right _ (List.mem_append_right _ (List.mem_append_right _ (List.mem_append_left _ h)))))))
theorem lw_m8 : ∀ w ∈ tables_1_8, w ∈ lw_tbl := fun w h => show w ∈ k2_sels lw_privs ++ tables_1 from List.mem_append_right (k2_sels lw_privs) (show w ∈ tables_1 from List.mem_append_right _ (List.mem_append_right _ (List.mem_append_right _ (List.mem_append_right _ (List.mem_append_right _ (List.mem_append_right _ (List.mem_append_right _ h)))))))
theorem qs0 : (Cond.selects "SandKeepsSea" ⟨"SandKeepsSea", "words", "(I)LSandKeepsSea$Words;"⟩ ⟨"SandKeepsSea", "words", "(I)LSandKeepsSea$Words;"⟩) ∈ lw_all := lw_g (lw_at lw_ms 0 rfl) rfl
theorem qs1 : (Cond.selects "java/lang/Throwable" ⟨"java/lang/Throwable", "fillInStackTrace", "(I)Ljava/lang/Throwable;"⟩ ⟨"java/lang/Throwable", "fillInStackTrace", "(I)Ljava/lang/Throwable;"⟩) ∈ lw_all := lw_g (lw_at lw_ms 1 rfl) rfl
theorem qs2 : (Cond.selects "SandKeepsSea$Rule" ⟨"SandKeepsSea$Rule", "held", "(I)I"⟩ ⟨"SandKeepsSea$Rule", "held", "(I)I"⟩) ∈ lw_all := lw_g (lw_at lw_ms 2 rfl) rfl
theorem qs3 : (Cond.selects "SandKeepsSea$Rule" ⟨"SandKeepsSea$Rule", "sum", "(I)I"⟩ ⟨"SandKeepsSea$Rule", "sum", "(I)I"⟩) ∈ lw_all := lw_g (lw_at lw_ms 3 rfl) rfl
theorem qs4 : (Cond.selects "SandKeepsSea$Rule" ⟨"SandKeepsSea$Rule", "product", "(I)I"⟩ ⟨"SandKeepsSea$Rule", "product", "(I)I"⟩) ∈ lw_all := lw_g (lw_at lw_ms 4 rfl) rfl
theorem qs5 : (Cond.selects "SandKeepsSea$Rule" ⟨"SandKeepsSea$Rule", "thing", "(I)I"⟩ ⟨"SandKeepsSea$Rule", "thing", "(I)I"⟩) ∈ lw_all := lw_g (lw_at lw_ms 5 rfl) rfl
theorem qs6 : (Cond.selects "SandKeepsSea$Rule" ⟨"SandKeepsSea$Rule", "value", "(I)I"⟩ ⟨"SandKeepsSea$Rule", "value", "(I)I"⟩) ∈ lw_all := lw_g (lw_at lw_ms 6 rfl) rfl
theorem qs7 : (Cond.selects "SandKeepsSea" ⟨"SandKeepsSea", "refusesGo", "(LSandKeepsSea$Beach;II)I"⟩ ⟨"SandKeepsSea", "refusesGo", "(LSandKeepsSea$Beach;II)I"⟩) ∈ lw_all := lw_g (lw_at lw_ms 7 rfl) rfl
theorem qs8 : (Cond.selects "SandKeepsSea" ⟨"SandKeepsSea", "isKid", "(I)Z"⟩ ⟨"SandKeepsSea", "isKid", "(I)Z"⟩) ∈ lw_all := lw_g (lw_at lw_ms 8 rfl) rfl
theorem qs9 : (Cond.selects "SandKeepsSea" ⟨"SandKeepsSea", "isCell", "(I)Z"⟩ ⟨"SandKeepsSea", "isCell", "(I)Z"⟩) ∈ lw_all := lw_g (lw_at lw_ms 9 rfl) rfl
theorem qs10 : (Cond.selects "SandKeepsSea" ⟨"SandKeepsSea", "remember", "(LSandKeepsSea$Beach;)V"⟩ ⟨"SandKeepsSea", "remember", "(LSandKeepsSea$Beach;)V"⟩) ∈ lw_all := lw_g (lw_at lw_ms 10 rfl) rfl
theorem qs11 : (Cond.selects "SandKeepsSea" ⟨"SandKeepsSea", "refusesHome", "(I)I"⟩ ⟨"SandKeepsSea", "refusesHome", "(I)I"⟩) ∈ lw_all := lw_g (lw_at lw_ms 11 rfl) rfl
theorem qs12 : (Cond.selects "SandKeepsSea" ⟨"SandKeepsSea", "refusesSpade", "(I)I"⟩ ⟨"SandKeepsSea", "refusesSpade", "(I)I"⟩) ∈ lw_all := lw_g (lw_at lw_ms 12 rfl) rfl
theorem qs13 : (Cond.selects "SandKeepsSea" ⟨"SandKeepsSea", "treats", "(LSandKeepsSea$Beach;II)V"⟩ ⟨"SandKeepsSea", "treats", "(LSandKeepsSea$Beach;II)V"⟩) ∈ lw_all := lw_g (lw_at lw_ms 13 rfl) rfl
theorem qs14 : (Cond.selects "SandKeepsSea" ⟨"SandKeepsSea", "goSpells", "(LSandKeepsSea$Beach;I)I"⟩ ⟨"SandKeepsSea", "goSpells", "(LSandKeepsSea$Beach;I)I"⟩) ∈ lw_all := lw_g (lw_at lw_ms 14 rfl) rfl
theorem qs15 : (Cond.selects "SandKeepsSea" ⟨"SandKeepsSea", "goSpell", "(LSandKeepsSea$Beach;)I"⟩ ⟨"SandKeepsSea", "goSpell", "(LSandKeepsSea$Beach;)I"⟩) ∈ lw_all := lw_g (lw_at lw_ms 15 rfl) rfl
theorem qs16 : (Cond.selects "SandKeepsSea" ⟨"SandKeepsSea", "bucketsOf", "(LSandKeepsSea$Beach;I)I"⟩ ⟨"SandKeepsSea", "bucketsOf", "(LSandKeepsSea$Beach;I)I"⟩) ∈ lw_all := lw_g (lw_at lw_ms 16 rfl) rfl
theorem qs17 : (Cond.selects "SandKeepsSea" ⟨"SandKeepsSea", "isBesideFriend", "(LSandKeepsSea$Beach;I)Z"⟩ ⟨"SandKeepsSea", "isBesideFriend", "(LSandKeepsSea$Beach;I)Z"⟩) ∈ lw_all := lw_g (lw_at lw_ms 17 rfl) rfl
theorem qs18 : (Cond.selects "SandKeepsSea" ⟨"SandKeepsSea", "areFriends", "(II)Z"⟩ ⟨"SandKeepsSea", "areFriends", "(II)Z"⟩) ∈ lw_all := lw_g (lw_at lw_ms 18 rfl) rfl
theorem qs19 : (Cond.selects "SandKeepsSea" ⟨"SandKeepsSea", "tell", "(J)V"⟩ ⟨"SandKeepsSea", "tell", "(J)V"⟩) ∈ lw_all := lw_g (lw_at lw_ms 19 rfl) rfl
theorem qs20 : (Cond.selects "SandKeepsSea" ⟨"SandKeepsSea", "levelOf", "(LSandKeepsSea$Beach;I)I"⟩ ⟨"SandKeepsSea", "levelOf", "(LSandKeepsSea$Beach;I)I"⟩) ∈ lw_all := lw_g (lw_at lw_ms 20 rfl) rfl
theorem qs21 : (Cond.selects "SandKeepsSea" ⟨"SandKeepsSea", "goTide", "(LSandKeepsSea$Beach;)I"⟩ ⟨"SandKeepsSea", "goTide", "(LSandKeepsSea$Beach;)I"⟩) ∈ lw_all := lw_g (lw_at lw_ms 21 rfl) rfl
theorem qs22 : (Cond.selects "SandKeepsSea" ⟨"SandKeepsSea", "below", "(LSandKeepsSea$Beach;I)I"⟩ ⟨"SandKeepsSea", "below", "(LSandKeepsSea$Beach;I)I"⟩) ∈ lw_all := lw_g (lw_at lw_ms 22 rfl) rfl
theorem qs23 : (Cond.selects "SandKeepsSea" ⟨"SandKeepsSea", "topOf", "(LSandKeepsSea$Beach;I)I"⟩ ⟨"SandKeepsSea", "topOf", "(LSandKeepsSea$Beach;I)I"⟩) ∈ lw_all := lw_g (lw_at lw_ms 23 rfl) rfl
theorem qs24 : (Cond.selects "SandKeepsSea$Beach" ⟨"SandKeepsSea$Beach", "spill", "(III)Z"⟩ ⟨"SandKeepsSea$Beach", "spill", "(III)Z"⟩) ∈ lw_all := lw_g (lw_at lw_ms 24 rfl) rfl
theorem qs25 : (Cond.selects "SandKeepsSea$Order" ⟨"SandKeepsSea$Order", "act", "()V"⟩ ⟨"SandKeepsSea$Order", "act", "()V"⟩) ∈ lw_all := lw_g (lw_at lw_ms 25 rfl) rfl
theorem qs26 : (Cond.selects "SandKeepsSea" ⟨"SandKeepsSea", "act", "(CII)Z"⟩ ⟨"SandKeepsSea", "act", "(CII)Z"⟩) ∈ lw_all := lw_g (lw_at lw_ms 26 rfl) rfl
theorem qs27 : (Cond.selects "SandKeepsSea" ⟨"SandKeepsSea", "holdsOn", "()I"⟩ ⟨"SandKeepsSea", "holdsOn", "()I"⟩) ∈ lw_all := lw_g (lw_at lw_ms 27 rfl) rfl
theorem qs28 : (Cond.selects "SandKeepsSea" ⟨"SandKeepsSea", "breaks", "(I)I"⟩ ⟨"SandKeepsSea", "breaks", "(I)I"⟩) ∈ lw_all := lw_g (lw_at lw_ms 28 rfl) rfl
theorem qs29 : (Cond.selects "SandKeepsSea" ⟨"SandKeepsSea", "isFlood", "(II)Z"⟩ ⟨"SandKeepsSea", "isFlood", "(II)Z"⟩) ∈ lw_all := lw_g (lw_at lw_ms 29 rfl) rfl
theorem qs30 : (Cond.selects "SandKeepsSea" ⟨"SandKeepsSea", "floodedBy", "(II[I)I"⟩ ⟨"SandKeepsSea", "floodedBy", "(II[I)I"⟩) ∈ lw_all := lw_g (lw_at lw_ms 30 rfl) rfl
theorem qs31 : (Cond.selects "SandKeepsSea$Crew" ⟨"SandKeepsSea$Crew", "send", "(II)V"⟩ ⟨"SandKeepsSea$Crew", "send", "(II)V"⟩) ∈ lw_all := lw_g (lw_at lw_ms 31 rfl) rfl
theorem qs32 : (Cond.selects "SandKeepsSea" ⟨"SandKeepsSea", "bucketsBy", "(I)I"⟩ ⟨"SandKeepsSea", "bucketsBy", "(I)I"⟩) ∈ lw_all := lw_g (lw_at lw_ms 32 rfl) rfl
theorem qs33 : (Cond.selects "SandKeepsSea" ⟨"SandKeepsSea", "findWays", "()V"⟩ ⟨"SandKeepsSea", "findWays", "()V"⟩) ∈ lw_all := lw_g (lw_at lw_ms 33 rfl) rfl
theorem qs34 : (Cond.selects "SandKeepsSea" ⟨"SandKeepsSea", "goWays", "(I)V"⟩ ⟨"SandKeepsSea", "goWays", "(I)V"⟩) ∈ lw_all := lw_g (lw_at lw_ms 34 rfl) rfl
theorem qs35 : (Cond.selects "SandKeepsSea" ⟨"SandKeepsSea", "draw", "(I)I"⟩ ⟨"SandKeepsSea", "draw", "(I)I"⟩) ∈ lw_all := lw_g (lw_at lw_ms 35 rfl) rfl
theorem qs36 : (Cond.selects "SandKeepsSeaModel" ⟨"SandKeepsSeaModel", "begins", "(I)I"⟩ ⟨"SandKeepsSeaModel", "begins", "(I)I"⟩) ∈ lw_all := lw_g (lw_at lw_ms 36 rfl) rfl
theorem qs37 : (Cond.selects "SandKeepsSeaModel" ⟨"SandKeepsSeaModel", "takes", "(I)Z"⟩ ⟨"SandKeepsSeaModel", "takes", "(I)Z"⟩) ∈ lw_all := lw_g (lw_at lw_ms 37 rfl) rfl
theorem qs38 : (Cond.selects "SandKeepsSeaModel" ⟨"SandKeepsSeaModel", "number", "(I)I"⟩ ⟨"SandKeepsSeaModel", "number", "(I)I"⟩) ∈ lw_all := lw_g (lw_at lw_ms 38 rfl) rfl
theorem qs39 : (Cond.selects "SandKeepsSeaModel" ⟨"SandKeepsSeaModel", "isDigit", "()Z"⟩ ⟨"SandKeepsSeaModel", "isDigit", "()Z"⟩) ∈ lw_all := lw_g (lw_at lw_ms 39 rfl) rfl
theorem qs40 : (Cond.selects "SandKeepsSeaModel" ⟨"SandKeepsSeaModel", "readsChild", "()Z"⟩ ⟨"SandKeepsSeaModel", "readsChild", "()Z"⟩) ∈ lw_all := lw_g (lw_at lw_ms 40 rfl) rfl
theorem qs41 : (Cond.selects "SandKeepsSeaModel" ⟨"SandKeepsSeaModel", "numberIn", "(III)I"⟩ ⟨"SandKeepsSeaModel", "numberIn", "(III)I"⟩) ∈ lw_all := lw_g (lw_at lw_ms 41 rfl) rfl
theorem qs42 : (Cond.selects "SandKeepsSeaModel" ⟨"SandKeepsSeaModel", "signIn", "(III)I"⟩ ⟨"SandKeepsSeaModel", "signIn", "(III)I"⟩) ∈ lw_all := lw_g (lw_at lw_ms 42 rfl) rfl
theorem qs43 : (Cond.selects "SandKeepsSeaModel" ⟨"SandKeepsSeaModel", "faultOf", "(IIZ)I"⟩ ⟨"SandKeepsSeaModel", "faultOf", "(IIZ)I"⟩) ∈ lw_all := lw_g (lw_at lw_ms 43 rfl) rfl
theorem qs44 : (Cond.selects "SandKeepsSeaModel" ⟨"SandKeepsSeaModel", "readsRule", "()I"⟩ ⟨"SandKeepsSeaModel", "readsRule", "()I"⟩) ∈ lw_all := lw_g (lw_at lw_ms 44 rfl) rfl
theorem qs45 : (Cond.selects "SandKeepsSeaModel" ⟨"SandKeepsSeaModel", "readsRank", "(I)Z"⟩ ⟨"SandKeepsSeaModel", "readsRank", "(I)Z"⟩) ∈ lw_all := lw_g (lw_at lw_ms 45 rfl) rfl
theorem qs46 : (Cond.selects "SandKeepsSeaModel" ⟨"SandKeepsSeaModel", "readsThing", "()Z"⟩ ⟨"SandKeepsSeaModel", "readsThing", "()Z"⟩) ∈ lw_all := lw_g (lw_at lw_ms 46 rfl) rfl
theorem qs47 : (Cond.selects "SandKeepsSeaModel" ⟨"SandKeepsSeaModel", "codes", "(I)V"⟩ ⟨"SandKeepsSeaModel", "codes", "(I)V"⟩) ∈ lw_all := lw_g (lw_at lw_ms 47 rfl) rfl
theorem qs48 : (Cond.selects "SandKeepsSeaModel" ⟨"SandKeepsSeaModel", "takesOf", "(Ljava/lang/String;)I"⟩ ⟨"SandKeepsSeaModel", "takesOf", "(Ljava/lang/String;)I"⟩) ∈ lw_all := lw_g (lw_at lw_ms 48 rfl) rfl
theorem qs49 : (Cond.selects "SandKeepsSeaModel" ⟨"SandKeepsSeaModel", "among", "(Ljava/lang/String;)I"⟩ ⟨"SandKeepsSeaModel", "among", "(Ljava/lang/String;)I"⟩) ∈ lw_all := lw_g (lw_at lw_ms 49 rfl) rfl
theorem qs50 : (Cond.selects "SandKeepsSeaModel" ⟨"SandKeepsSeaModel", "laysCode", "([II)V"⟩ ⟨"SandKeepsSeaModel", "laysCode", "([II)V"⟩) ∈ lw_all := lw_g (lw_at lw_ms 50 rfl) rfl
theorem qs51 : (Cond.selects "SandKeepsSeaModel" ⟨"SandKeepsSeaModel", "isCell", "(I)Z"⟩ ⟨"SandKeepsSeaModel", "isCell", "(I)Z"⟩) ∈ lw_all := lw_g (lw_at lw_ms 51 rfl) rfl
theorem qs52 : (Cond.selects "SandKeepsSeaModel" ⟨"SandKeepsSeaModel", "refuse", "()I"⟩ ⟨"SandKeepsSeaModel", "refuse", "()I"⟩) ∈ lw_all := lw_g (lw_at lw_ms 52 rfl) rfl
theorem qs53 : (Cond.selects "SandKeepsSeaModel" ⟨"SandKeepsSeaModel", "childrenAt", "([II)I"⟩ ⟨"SandKeepsSeaModel", "childrenAt", "([II)I"⟩) ∈ lw_all := lw_g (lw_at lw_ms 53 rfl) rfl
theorem qs54 : (Cond.selects "SandKeepsSeaModel" ⟨"SandKeepsSeaModel", "topOf", "([II)I"⟩ ⟨"SandKeepsSeaModel", "topOf", "([II)I"⟩) ∈ lw_all := lw_g (lw_at lw_ms 54 rfl) rfl
theorem qs55 : (Cond.selects "SandKeepsSeaModel" ⟨"SandKeepsSeaModel", "isChild", "(I)Z"⟩ ⟨"SandKeepsSeaModel", "isChild", "(I)Z"⟩) ∈ lw_all := lw_g (lw_at lw_ms 55 rfl) rfl
theorem qs56 : (Cond.selects "SandKeepsSeaModel" ⟨"SandKeepsSeaModel", "bucketsOf", "([II)I"⟩ ⟨"SandKeepsSeaModel", "bucketsOf", "([II)I"⟩) ∈ lw_all := lw_g (lw_at lw_ms 56 rfl) rfl
theorem qs57 : (Cond.selects "SandKeepsSeaModel" ⟨"SandKeepsSeaModel", "hasFriend", "([II)Z"⟩ ⟨"SandKeepsSeaModel", "hasFriend", "([II)Z"⟩) ∈ lw_all := lw_g (lw_at lw_ms 57 rfl) rfl
theorem qs58 : (Cond.selects "SandKeepsSeaModel" ⟨"SandKeepsSeaModel", "areNear", "([III)Z"⟩ ⟨"SandKeepsSeaModel", "areNear", "([III)Z"⟩) ∈ lw_all := lw_g (lw_at lw_ms 58 rfl) rfl
theorem qs59 : (Cond.selects "SandKeepsSeaModel" ⟨"SandKeepsSeaModel", "putsBy", "()V"⟩ ⟨"SandKeepsSeaModel", "putsBy", "()V"⟩) ∈ lw_all := lw_g (lw_at lw_ms 59 rfl) rfl
theorem qs60 : (Cond.selects "SandKeepsSeaModel" ⟨"SandKeepsSeaModel", "goes", "([III)I"⟩ ⟨"SandKeepsSeaModel", "goes", "([III)I"⟩) ∈ lw_all := lw_g (lw_at lw_ms 60 rfl) rfl
theorem qs61 : (Cond.selects "SandKeepsSeaModel" ⟨"SandKeepsSeaModel", "counts", "(I)I"⟩ ⟨"SandKeepsSeaModel", "counts", "(I)I"⟩) ∈ lw_all := lw_g (lw_at lw_ms 61 rfl) rfl
theorem qs62 : (Cond.selects "SandKeepsSeaModel" ⟨"SandKeepsSeaModel", "adds", "(I)I"⟩ ⟨"SandKeepsSeaModel", "adds", "(I)I"⟩) ∈ lw_all := lw_g (lw_at lw_ms 62 rfl) rfl
theorem qs63 : (Cond.selects "SandKeepsSeaModel" ⟨"SandKeepsSeaModel", "goesHome", "(I)I"⟩ ⟨"SandKeepsSeaModel", "goesHome", "(I)I"⟩) ∈ lw_all := lw_g (lw_at lw_ms 63 rfl) rfl
theorem qs64 : (Cond.selects "SandKeepsSeaModel" ⟨"SandKeepsSeaModel", "spadeFor", "(I)I"⟩ ⟨"SandKeepsSeaModel", "spadeFor", "(I)I"⟩) ∈ lw_all := lw_g (lw_at lw_ms 64 rfl) rfl
theorem qs65 : (Cond.selects "SandKeepsSeaModel" ⟨"SandKeepsSeaModel", "treatsOne", "(I)I"⟩ ⟨"SandKeepsSeaModel", "treatsOne", "(I)I"⟩) ∈ lw_all := lw_g (lw_at lw_ms 65 rfl) rfl
theorem qs66 : (Cond.selects "SandKeepsSeaModel" ⟨"SandKeepsSeaModel", "digs", "(I)I"⟩ ⟨"SandKeepsSeaModel", "digs", "(I)I"⟩) ∈ lw_all := lw_g (lw_at lw_ms 66 rfl) rfl
theorem qs67 : (Cond.selects "SandKeepsSeaModel" ⟨"SandKeepsSeaModel", "wallAll", "([I)I"⟩ ⟨"SandKeepsSeaModel", "wallAll", "([I)I"⟩) ∈ lw_all := lw_g (lw_at lw_ms 67 rfl) rfl
theorem qs68 : (Cond.selects "SandKeepsSeaModel" ⟨"SandKeepsSeaModel", "builds", "([II)V"⟩ ⟨"SandKeepsSeaModel", "builds", "([II)V"⟩) ∈ lw_all := lw_g (lw_at lw_ms 68 rfl) rfl
theorem qs69 : (Cond.selects "SandKeepsSeaModel" ⟨"SandKeepsSeaModel", "spellGoes", "([I)V"⟩ ⟨"SandKeepsSeaModel", "spellGoes", "([I)V"⟩) ∈ lw_all := lw_g (lw_at lw_ms 69 rfl) rfl
theorem qs70 : (Cond.selects "SandKeepsSeaModel" ⟨"SandKeepsSeaModel", "enters", "(J)V"⟩ ⟨"SandKeepsSeaModel", "enters", "(J)V"⟩) ∈ lw_all := lw_g (lw_at lw_ms 70 rfl) rfl
theorem qs71 : (Cond.selects "SandKeepsSeaModel" ⟨"SandKeepsSeaModel", "deepAll", "([I)I"⟩ ⟨"SandKeepsSeaModel", "deepAll", "([I)I"⟩) ∈ lw_all := lw_g (lw_at lw_ms 71 rfl) rfl
theorem qs72 : (Cond.selects "SandKeepsSeaModel" ⟨"SandKeepsSeaModel", "tideComes", "([I)I"⟩ ⟨"SandKeepsSeaModel", "tideComes", "([I)I"⟩) ∈ lw_all := lw_g (lw_at lw_ms 72 rfl) rfl
theorem qs73 : (Cond.selects "SandKeepsSeaModel" ⟨"SandKeepsSeaModel", "levelOf", "([II)I"⟩ ⟨"SandKeepsSeaModel", "levelOf", "([II)I"⟩) ∈ lw_all := lw_g (lw_at lw_ms 73 rfl) rfl
theorem qs74 : (Cond.selects "SandKeepsSeaModel" ⟨"SandKeepsSeaModel", "ruled", "()I"⟩ ⟨"SandKeepsSeaModel", "ruled", "()I"⟩) ∈ lw_all := lw_g (lw_at lw_ms 74 rfl) rfl
theorem qs75 : (Cond.selects "SandKeepsSeaModel" ⟨"SandKeepsSeaModel", "lowBy", "([II)I"⟩ ⟨"SandKeepsSeaModel", "lowBy", "([II)I"⟩) ∈ lw_all := lw_g (lw_at lw_ms 75 rfl) rfl
theorem qs76 : (Cond.selects "SandKeepsSeaModel" ⟨"SandKeepsSeaModel", "waterGoes", "([I)V"⟩ ⟨"SandKeepsSeaModel", "waterGoes", "([I)V"⟩) ∈ lw_all := lw_g (lw_at lw_ms 76 rfl) rfl
theorem qs77 : (Cond.selects "SandKeepsSeaModel" ⟨"SandKeepsSeaModel", "wet", "([I)I"⟩ ⟨"SandKeepsSeaModel", "wet", "([I)I"⟩) ∈ lw_all := lw_g (lw_at lw_ms 77 rfl) rfl
theorem qs78 : (Cond.selects "SandKeepsSeaModel" ⟨"SandKeepsSeaModel", "readsAct", "()Z"⟩ ⟨"SandKeepsSeaModel", "readsAct", "()Z"⟩) ∈ lw_all := lw_g (lw_at lw_ms 78 rfl) rfl
theorem qs79 : (Cond.selects "SandKeepsSeaModel" ⟨"SandKeepsSeaModel", "does", "(I)Z"⟩ ⟨"SandKeepsSeaModel", "does", "(I)Z"⟩) ∈ lw_all := lw_g (lw_at lw_ms 79 rfl) rfl
theorem qs80 : (Cond.selects "SandKeepsSeaModel" ⟨"SandKeepsSeaModel", "puts", "()V"⟩ ⟨"SandKeepsSeaModel", "puts", "()V"⟩) ∈ lw_all := lw_g (lw_at lw_ms 80 rfl) rfl
theorem qs81 : (Cond.selects "SandKeepsSeaModel" ⟨"SandKeepsSeaModel", "breaksIn", "()I"⟩ ⟨"SandKeepsSeaModel", "breaksIn", "()I"⟩) ∈ lw_all := lw_g (lw_at lw_ms 81 rfl) rfl
theorem qs82 : (Cond.selects "SandKeepsSeaModel" ⟨"SandKeepsSeaModel", "breakMany", "(I)I"⟩ ⟨"SandKeepsSeaModel", "breakMany", "(I)I"⟩) ∈ lw_all := lw_g (lw_at lw_ms 82 rfl) rfl
theorem qs83 : (Cond.selects "SandKeepsSeaModel" ⟨"SandKeepsSeaModel", "isHigh", "([I)Z"⟩ ⟨"SandKeepsSeaModel", "isHigh", "([I)Z"⟩) ∈ lw_all := lw_g (lw_at lw_ms 83 rfl) rfl
theorem qs84 : (Cond.selects "SandKeepsSeaModel" ⟨"SandKeepsSeaModel", "canFlood", "(II)Z"⟩ ⟨"SandKeepsSeaModel", "canFlood", "(II)Z"⟩) ∈ lw_all := lw_g (lw_at lw_ms 84 rfl) rfl
theorem qs85 : (Cond.selects "SandKeepsSeaModel" ⟨"SandKeepsSeaModel", "floodsFrom", "(II)V"⟩ ⟨"SandKeepsSeaModel", "floodsFrom", "(II)V"⟩) ∈ lw_all := lw_g (lw_at lw_ms 85 rfl) rfl
theorem qs86 : (Cond.selects "SandKeepsSeaModel" ⟨"SandKeepsSeaModel", "crewsFrom", "(IIII)V"⟩ ⟨"SandKeepsSeaModel", "crewsFrom", "(IIII)V"⟩) ∈ lw_all := lw_g (lw_at lw_ms 86 rfl) rfl
theorem qs87 : (Cond.selects "SandKeepsSeaModel" ⟨"SandKeepsSeaModel", "crewHolds", "(I)Z"⟩ ⟨"SandKeepsSeaModel", "crewHolds", "(I)Z"⟩) ∈ lw_all := lw_g (lw_at lw_ms 87 rfl) rfl
theorem qs88 : (Cond.selects "SandKeepsSeaModel" ⟨"SandKeepsSeaModel", "bucketsAll", "([I)I"⟩ ⟨"SandKeepsSeaModel", "bucketsAll", "([I)I"⟩) ∈ lw_all := lw_g (lw_at lw_ms 88 rfl) rfl
theorem qs89 : (Cond.selects "SandKeepsSeaModel" ⟨"SandKeepsSeaModel", "laysPlaces", "()V"⟩ ⟨"SandKeepsSeaModel", "laysPlaces", "()V"⟩) ∈ lw_all := lw_g (lw_at lw_ms 89 rfl) rfl
theorem qs90 : (Cond.selects "SandKeepsSeaModel" ⟨"SandKeepsSeaModel", "placesFrom", "(I)V"⟩ ⟨"SandKeepsSeaModel", "placesFrom", "(I)V"⟩) ∈ lw_all := lw_g (lw_at lw_ms 90 rfl) rfl
theorem qs91 : (Cond.selects "SandKeepsSeaModel" ⟨"SandKeepsSeaModel", "isAsSeen", "()Z"⟩ ⟨"SandKeepsSeaModel", "isAsSeen", "()Z"⟩) ∈ lw_all := lw_g (lw_at lw_ms 91 rfl) rfl
theorem qs92 : (Cond.selects "SandKeepsSeaModel" ⟨"SandKeepsSeaModel", "draws", "(I)I"⟩ ⟨"SandKeepsSeaModel", "draws", "(I)I"⟩) ∈ lw_all := lw_g (lw_at lw_ms 92 rfl) rfl
