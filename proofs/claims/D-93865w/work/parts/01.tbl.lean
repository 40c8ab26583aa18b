-- ===== PART A: goes FIRST, ahead of the names: the tables' words, and 'selects' of the private methods out of them =====
/-- a private method of a class that the tables say can be made, by its rows of tables_1 -/
def lw_okq (q : MethodName × Nat) : Prop := (q.1.cls ≠ "java/lang/invoke/MethodHandle" ∧ q.1.cls ≠ "java/lang/invoke/VarHandle") ∧ Cond.instantiable q.1.cls q.2 ∈ tables_1 ∧ Cond.privateMethod q.1 ∈ tables_1 ∧ Cond.instanceMethod q.1 ∈ tables_1
set_option maxRecDepth 100000
theorem lw_t1 {w : Cond} (h : w ∈ tables_1_1) : w ∈ tables_1 := List.mem_append_left _ h
theorem lw_t2 {w : Cond} (h : w ∈ tables_1_2) : w ∈ tables_1 := List.mem_append_right _ (List.mem_append_left _ h)
theorem lw_t3 {w : Cond} (h : w ∈ tables_1_3) : w ∈ tables_1 := List.mem_append_right _ (List.mem_append_right _ (List.mem_append_left _ h))
theorem lw_t4 {w : Cond} (h : w ∈ tables_1_4) : w ∈ tables_1 := List.mem_append_right _ (List.mem_append_right _ (List.mem_append_right _ (List.mem_append_left _ h)))
theorem lw_t5 {w : Cond} (h : w ∈ tables_1_5) : w ∈ tables_1 := List.mem_append_right _ (List.mem_append_right _ (List.mem_append_right _ (List.mem_append_right _ (List.mem_append_left _ h))))
theorem lw_t6 {w : Cond} (h : w ∈ tables_1_6) : w ∈ tables_1 := List.mem_append_right _ (List.mem_append_right _ (List.mem_append_right _ (List.mem_append_right _ (List.mem_append_right _ (List.mem_append_left _ h)))))
theorem lw_t7 {w : Cond} (h : w ∈ tables_1_7) : w ∈ tables_1 := List.mem_append_right _ (List.mem_append_right _ (List.mem_append_right _ (List.mem_append_right _ (List.mem_append_right _ (List.mem_append_right _ h)))))
theorem lw_p0 : lw_okq (⟨"BeforeTheEnd", "feedIt", "(IJ)I"⟩, 31) := ⟨⟨by decide +kernel, by decide +kernel⟩, lw_t1 (List.mem_of_getElem? (i := 29) rfl), lw_t1 (List.mem_of_getElem? (i := 188) rfl), lw_t1 (List.mem_of_getElem? (i := 189) rfl)⟩
theorem lw_p1 : lw_okq (⟨"java/lang/Throwable", "fillInStackTrace", "(I)Ljava/lang/Throwable;"⟩, 6) := ⟨⟨by decide +kernel, by decide +kernel⟩, lw_t1 (List.mem_of_getElem? (i := 233) rfl), lw_t1 (List.mem_of_getElem? (i := 231) rfl), lw_t1 (List.mem_of_getElem? (i := 232) rfl)⟩
theorem lw_p2 : lw_okq (⟨"BeforeTheEnd", "refuse", "(I)I"⟩, 31) := ⟨⟨by decide +kernel, by decide +kernel⟩, lw_t1 (List.mem_of_getElem? (i := 29) rfl), lw_t2 (List.mem_of_getElem? (i := 33) rfl), lw_t2 (List.mem_of_getElem? (i := 34) rfl)⟩
theorem lw_p3 : lw_okq (⟨"BeforeTheEnd", "act", "(IIII)I"⟩, 31) := ⟨⟨by decide +kernel, by decide +kernel⟩, lw_t1 (List.mem_of_getElem? (i := 29) rfl), lw_t2 (List.mem_of_getElem? (i := 41) rfl), lw_t2 (List.mem_of_getElem? (i := 42) rfl)⟩
theorem lw_p4 : lw_okq (⟨"BeforeTheEnd", "doIt", "(IIII)I"⟩, 31) := ⟨⟨by decide +kernel, by decide +kernel⟩, lw_t1 (List.mem_of_getElem? (i := 29) rfl), lw_t2 (List.mem_of_getElem? (i := 45) rfl), lw_t2 (List.mem_of_getElem? (i := 46) rfl)⟩
theorem lw_p5 : lw_okq (⟨"BeforeTheEnd", "ofQuiz", "(III)I"⟩, 31) := ⟨⟨by decide +kernel, by decide +kernel⟩, lw_t1 (List.mem_of_getElem? (i := 29) rfl), lw_t2 (List.mem_of_getElem? (i := 49) rfl), lw_t2 (List.mem_of_getElem? (i := 50) rfl)⟩
theorem lw_p6 : lw_okq (⟨"BeforeTheEnd", "readQuiz", "()I"⟩, 31) := ⟨⟨by decide +kernel, by decide +kernel⟩, lw_t1 (List.mem_of_getElem? (i := 29) rfl), lw_t2 (List.mem_of_getElem? (i := 53) rfl), lw_t2 (List.mem_of_getElem? (i := 54) rfl)⟩
theorem lw_p7 : lw_okq (⟨"BeforeTheEnd$Reader", "here", "()I"⟩, 3) := ⟨⟨by decide +kernel, by decide +kernel⟩, lw_t2 (List.mem_of_getElem? (i := 57) rfl), lw_t2 (List.mem_of_getElem? (i := 81) rfl), lw_t2 (List.mem_of_getElem? (i := 82) rfl)⟩
theorem lw_p8 : lw_okq (⟨"BeforeTheEnd$Reader", "mustStand", "(Z)V"⟩, 3) := ⟨⟨by decide +kernel, by decide +kernel⟩, lw_t2 (List.mem_of_getElem? (i := 57) rfl), lw_t2 (List.mem_of_getElem? (i := 85) rfl), lw_t2 (List.mem_of_getElem? (i := 86) rfl)⟩
theorem lw_p9 : lw_okq (⟨"BeforeTheEnd$Reader", "word", "(I)LBeforeTheEnd$Told;"⟩, 3) := ⟨⟨by decide +kernel, by decide +kernel⟩, lw_t2 (List.mem_of_getElem? (i := 57) rfl), lw_t2 (List.mem_of_getElem? (i := 107) rfl), lw_t2 (List.mem_of_getElem? (i := 108) rfl)⟩
theorem lw_p10 : lw_okq (⟨"BeforeTheEnd$Reader", "number", "(I)I"⟩, 3) := ⟨⟨by decide +kernel, by decide +kernel⟩, lw_t2 (List.mem_of_getElem? (i := 57) rfl), lw_t2 (List.mem_of_getElem? (i := 111) rfl), lw_t2 (List.mem_of_getElem? (i := 112) rfl)⟩
theorem lw_p11 : lw_okq (⟨"BeforeTheEnd$Reader", "digit", "()I"⟩, 3) := ⟨⟨by decide +kernel, by decide +kernel⟩, lw_t2 (List.mem_of_getElem? (i := 57) rfl), lw_t2 (List.mem_of_getElem? (i := 115) rfl), lw_t2 (List.mem_of_getElem? (i := 116) rfl)⟩
theorem lw_p12 : lw_okq (⟨"BeforeTheEnd$Reader", "take", "(I)V"⟩, 3) := ⟨⟨by decide +kernel, by decide +kernel⟩, lw_t2 (List.mem_of_getElem? (i := 57) rfl), lw_t2 (List.mem_of_getElem? (i := 124) rfl), lw_t2 (List.mem_of_getElem? (i := 125) rfl)⟩
theorem lw_p13 : lw_okq (⟨"BeforeTheEnd$Reader", "player", "(I)LBeforeTheEnd$Told;"⟩, 3) := ⟨⟨by decide +kernel, by decide +kernel⟩, lw_t2 (List.mem_of_getElem? (i := 57) rfl), lw_t2 (List.mem_of_getElem? (i := 154) rfl), lw_t2 (List.mem_of_getElem? (i := 155) rfl)⟩
theorem lw_p14 : lw_okq (⟨"BeforeTheEnd", "wordTold", "(II)I"⟩, 31) := ⟨⟨by decide +kernel, by decide +kernel⟩, lw_t1 (List.mem_of_getElem? (i := 29) rfl), lw_t3 (List.mem_of_getElem? (i := 152) rfl), lw_t3 (List.mem_of_getElem? (i := 153) rfl)⟩
theorem lw_p15 : lw_okq (⟨"BeforeTheEnd", "mustBeWord", "(I)V"⟩, 31) := ⟨⟨by decide +kernel, by decide +kernel⟩, lw_t1 (List.mem_of_getElem? (i := 29) rfl), lw_t3 (List.mem_of_getElem? (i := 156) rfl), lw_t3 (List.mem_of_getElem? (i := 157) rfl)⟩
def lw_privs_1 : List (MethodName × Nat) := [(⟨"BeforeTheEnd", "feedIt", "(IJ)I"⟩, 31), (⟨"java/lang/Throwable", "fillInStackTrace", "(I)Ljava/lang/Throwable;"⟩, 6), (⟨"BeforeTheEnd", "refuse", "(I)I"⟩, 31), (⟨"BeforeTheEnd", "act", "(IIII)I"⟩, 31), (⟨"BeforeTheEnd", "doIt", "(IIII)I"⟩, 31), (⟨"BeforeTheEnd", "ofQuiz", "(III)I"⟩, 31), (⟨"BeforeTheEnd", "readQuiz", "()I"⟩, 31), (⟨"BeforeTheEnd$Reader", "here", "()I"⟩, 3), (⟨"BeforeTheEnd$Reader", "mustStand", "(Z)V"⟩, 3), (⟨"BeforeTheEnd$Reader", "word", "(I)LBeforeTheEnd$Told;"⟩, 3), (⟨"BeforeTheEnd$Reader", "number", "(I)I"⟩, 3), (⟨"BeforeTheEnd$Reader", "digit", "()I"⟩, 3), (⟨"BeforeTheEnd$Reader", "take", "(I)V"⟩, 3), (⟨"BeforeTheEnd$Reader", "player", "(I)LBeforeTheEnd$Told;"⟩, 3), (⟨"BeforeTheEnd", "wordTold", "(II)I"⟩, 31), (⟨"BeforeTheEnd", "mustBeWord", "(I)V"⟩, 31)]
theorem lw_r1 : ∀ q ∈ lw_privs_1, lw_okq q := List.forall_mem_cons.mpr ⟨lw_p0, List.forall_mem_cons.mpr ⟨lw_p1, List.forall_mem_cons.mpr ⟨lw_p2, List.forall_mem_cons.mpr ⟨lw_p3, List.forall_mem_cons.mpr ⟨lw_p4, List.forall_mem_cons.mpr ⟨lw_p5, List.forall_mem_cons.mpr ⟨lw_p6, List.forall_mem_cons.mpr ⟨lw_p7, List.forall_mem_cons.mpr ⟨lw_p8, List.forall_mem_cons.mpr ⟨lw_p9, List.forall_mem_cons.mpr ⟨lw_p10, List.forall_mem_cons.mpr ⟨lw_p11, List.forall_mem_cons.mpr ⟨lw_p12, List.forall_mem_cons.mpr ⟨lw_p13, List.forall_mem_cons.mpr ⟨lw_p14, List.forall_mem_cons.mpr ⟨lw_p15, fun _ h => absurd h List.not_mem_nil⟩⟩⟩⟩⟩⟩⟩⟩⟩⟩⟩⟩⟩⟩⟩⟩
theorem lw_p16 : lw_okq (⟨"BeforeTheEnd", "playerTold", "(II)I"⟩, 31) := ⟨⟨by decide +kernel, by decide +kernel⟩, lw_t1 (List.mem_of_getElem? (i := 29) rfl), lw_t3 (List.mem_of_getElem? (i := 165) rfl), lw_t3 (List.mem_of_getElem? (i := 166) rfl)⟩
theorem lw_p17 : lw_okq (⟨"BeforeTheEnd", "mustBePlayer", "(I)V"⟩, 31) := ⟨⟨by decide +kernel, by decide +kernel⟩, lw_t1 (List.mem_of_getElem? (i := 29) rfl), lw_t3 (List.mem_of_getElem? (i := 169) rfl), lw_t3 (List.mem_of_getElem? (i := 170) rfl)⟩
theorem lw_p18 : lw_okq (⟨"BeforeTheEnd", "mustBeWhole", "()V"⟩, 31) := ⟨⟨by decide +kernel, by decide +kernel⟩, lw_t1 (List.mem_of_getElem? (i := 29) rfl), lw_t3 (List.mem_of_getElem? (i := 219) rfl), lw_t3 (List.mem_of_getElem? (i := 220) rfl)⟩
theorem lw_p19 : lw_okq (⟨"BeforeTheEnd", "guessOf", "(II)I"⟩, 31) := ⟨⟨by decide +kernel, by decide +kernel⟩, lw_t1 (List.mem_of_getElem? (i := 29) rfl), lw_t3 (List.mem_of_getElem? (i := 223) rfl), lw_t3 (List.mem_of_getElem? (i := 224) rfl)⟩
theorem lw_p20 : lw_okq (⟨"BeforeTheEnd$Tree", "findUnits", "()V"⟩, 9) := ⟨⟨by decide +kernel, by decide +kernel⟩, lw_t1 (List.mem_of_getElem? (i := 37) rfl), lw_t3 (List.mem_of_getElem? (i := 231) rfl), lw_t3 (List.mem_of_getElem? (i := 232) rfl)⟩
theorem lw_p21 : lw_okq (⟨"BeforeTheEnd$Tree", "sumOf", "(IZ)J"⟩, 9) := ⟨⟨by decide +kernel, by decide +kernel⟩, lw_t1 (List.mem_of_getElem? (i := 37) rfl), lw_t3 (List.mem_of_getElem? (i := 235) rfl), lw_t3 (List.mem_of_getElem? (i := 236) rfl)⟩
theorem lw_p22 : lw_okq (⟨"BeforeTheEnd", "pointsTold", "(II)I"⟩, 31) := ⟨⟨by decide +kernel, by decide +kernel⟩, lw_t1 (List.mem_of_getElem? (i := 29) rfl), lw_t4 (List.mem_of_getElem? (i := 5) rfl), lw_t4 (List.mem_of_getElem? (i := 6) rfl)⟩
theorem lw_p23 : lw_okq (⟨"BeforeTheEnd", "setTold", "(II)I"⟩, 31) := ⟨⟨by decide +kernel, by decide +kernel⟩, lw_t1 (List.mem_of_getElem? (i := 29) rfl), lw_t4 (List.mem_of_getElem? (i := 15) rfl), lw_t4 (List.mem_of_getElem? (i := 16) rfl)⟩
theorem lw_p24 : lw_okq (⟨"BeforeTheEnd", "toldAt", "(I)LBeforeTheEnd$ToldPlayer;"⟩, 31) := ⟨⟨by decide +kernel, by decide +kernel⟩, lw_t1 (List.mem_of_getElem? (i := 29) rfl), lw_t4 (List.mem_of_getElem? (i := 19) rfl), lw_t4 (List.mem_of_getElem? (i := 20) rfl)⟩
theorem lw_p25 : lw_okq (⟨"BeforeTheEnd", "doesPress", "(LBeforeTheEnd$Player;IZ)Z"⟩, 31) := ⟨⟨by decide +kernel, by decide +kernel⟩, lw_t1 (List.mem_of_getElem? (i := 29) rfl), lw_t4 (List.mem_of_getElem? (i := 23) rfl), lw_t4 (List.mem_of_getElem? (i := 24) rfl)⟩
theorem lw_p26 : lw_okq (⟨"BeforeTheEnd", "findValues", "(LBeforeTheEnd$Player;)I"⟩, 31) := ⟨⟨by decide +kernel, by decide +kernel⟩, lw_t1 (List.mem_of_getElem? (i := 29) rfl), lw_t4 (List.mem_of_getElem? (i := 40) rfl), lw_t4 (List.mem_of_getElem? (i := 41) rfl)⟩
theorem lw_p27 : lw_okq (⟨"BeforeTheEnd", "pressWorth", "(LBeforeTheEnd$Player;II)J"⟩, 31) := ⟨⟨by decide +kernel, by decide +kernel⟩, lw_t1 (List.mem_of_getElem? (i := 29) rfl), lw_t4 (List.mem_of_getElem? (i := 44) rfl), lw_t4 (List.mem_of_getElem? (i := 45) rfl)⟩
theorem lw_p28 : lw_okq (⟨"BeforeTheEnd", "ofGames", "(IIII)I"⟩, 31) := ⟨⟨by decide +kernel, by decide +kernel⟩, lw_t1 (List.mem_of_getElem? (i := 29) rfl), lw_t4 (List.mem_of_getElem? (i := 90) rfl), lw_t4 (List.mem_of_getElem? (i := 91) rfl)⟩
theorem lw_p29 : lw_okq (⟨"BeforeTheEnd", "runTold", "(II)I"⟩, 31) := ⟨⟨by decide +kernel, by decide +kernel⟩, lw_t1 (List.mem_of_getElem? (i := 29) rfl), lw_t4 (List.mem_of_getElem? (i := 94) rfl), lw_t4 (List.mem_of_getElem? (i := 95) rfl)⟩
theorem lw_p30 : lw_okq (⟨"BeforeTheEnd", "runTo", "(I)V"⟩, 31) := ⟨⟨by decide +kernel, by decide +kernel⟩, lw_t1 (List.mem_of_getElem? (i := 29) rfl), lw_t4 (List.mem_of_getElem? (i := 99) rfl), lw_t4 (List.mem_of_getElem? (i := 100) rfl)⟩
theorem lw_p31 : lw_okq (⟨"BeforeTheEnd", "quickest", "(I)I"⟩, 31) := ⟨⟨by decide +kernel, by decide +kernel⟩, lw_t1 (List.mem_of_getElem? (i := 29) rfl), lw_t4 (List.mem_of_getElem? (i := 107) rfl), lw_t4 (List.mem_of_getElem? (i := 108) rfl)⟩
def lw_privs_2 : List (MethodName × Nat) := [(⟨"BeforeTheEnd", "playerTold", "(II)I"⟩, 31), (⟨"BeforeTheEnd", "mustBePlayer", "(I)V"⟩, 31), (⟨"BeforeTheEnd", "mustBeWhole", "()V"⟩, 31), (⟨"BeforeTheEnd", "guessOf", "(II)I"⟩, 31), (⟨"BeforeTheEnd$Tree", "findUnits", "()V"⟩, 9), (⟨"BeforeTheEnd$Tree", "sumOf", "(IZ)J"⟩, 9), (⟨"BeforeTheEnd", "pointsTold", "(II)I"⟩, 31), (⟨"BeforeTheEnd", "setTold", "(II)I"⟩, 31), (⟨"BeforeTheEnd", "toldAt", "(I)LBeforeTheEnd$ToldPlayer;"⟩, 31), (⟨"BeforeTheEnd", "doesPress", "(LBeforeTheEnd$Player;IZ)Z"⟩, 31), (⟨"BeforeTheEnd", "findValues", "(LBeforeTheEnd$Player;)I"⟩, 31), (⟨"BeforeTheEnd", "pressWorth", "(LBeforeTheEnd$Player;II)J"⟩, 31), (⟨"BeforeTheEnd", "ofGames", "(IIII)I"⟩, 31), (⟨"BeforeTheEnd", "runTold", "(II)I"⟩, 31), (⟨"BeforeTheEnd", "runTo", "(I)V"⟩, 31), (⟨"BeforeTheEnd", "quickest", "(I)I"⟩, 31)]
theorem lw_r2 : ∀ q ∈ lw_privs_2, lw_okq q := List.forall_mem_cons.mpr ⟨lw_p16, List.forall_mem_cons.mpr ⟨lw_p17, List.forall_mem_cons.mpr ⟨lw_p18, List.forall_mem_cons.mpr ⟨lw_p19, List.forall_mem_cons.mpr ⟨lw_p20, List.forall_mem_cons.mpr ⟨lw_p21, List.forall_mem_cons.mpr ⟨lw_p22, List.forall_mem_cons.mpr ⟨lw_p23, List.forall_mem_cons.mpr ⟨lw_p24, List.forall_mem_cons.mpr ⟨lw_p25, List.forall_mem_cons.mpr ⟨lw_p26, List.forall_mem_cons.mpr ⟨lw_p27, List.forall_mem_cons.mpr ⟨lw_p28, List.forall_mem_cons.mpr ⟨lw_p29, List.forall_mem_cons.mpr ⟨lw_p30, List.forall_mem_cons.mpr ⟨lw_p31, fun _ h => absurd h List.not_mem_nil⟩⟩⟩⟩⟩⟩⟩⟩⟩⟩⟩⟩⟩⟩⟩⟩
theorem lw_p32 : lw_okq (⟨"BeforeTheEnd", "replyOf", "(II)I"⟩, 31) := ⟨⟨by decide +kernel, by decide +kernel⟩, lw_t1 (List.mem_of_getElem? (i := 29) rfl), lw_t4 (List.mem_of_getElem? (i := 112) rfl), lw_t4 (List.mem_of_getElem? (i := 113) rfl)⟩
theorem lw_p33 : lw_okq (⟨"BeforeTheEnd", "runAll", "()V"⟩, 31) := ⟨⟨by decide +kernel, by decide +kernel⟩, lw_t1 (List.mem_of_getElem? (i := 29) rfl), lw_t4 (List.mem_of_getElem? (i := 119) rfl), lw_t4 (List.mem_of_getElem? (i := 120) rfl)⟩
theorem lw_p34 : lw_okq (⟨"BeforeTheEnd", "restTold", "(II)I"⟩, 31) := ⟨⟨by decide +kernel, by decide +kernel⟩, lw_t1 (List.mem_of_getElem? (i := 29) rfl), lw_t4 (List.mem_of_getElem? (i := 123) rfl), lw_t4 (List.mem_of_getElem? (i := 124) rfl)⟩
theorem lw_p35 : lw_okq (⟨"BeforeTheEnd", "restOf", "(II)I"⟩, 31) := ⟨⟨by decide +kernel, by decide +kernel⟩, lw_t1 (List.mem_of_getElem? (i := 29) rfl), lw_t4 (List.mem_of_getElem? (i := 127) rfl), lw_t4 (List.mem_of_getElem? (i := 128) rfl)⟩
theorem lw_p36 : lw_okq (⟨"BeforeTheEnd", "wrongFor", "(I)I"⟩, 31) := ⟨⟨by decide +kernel, by decide +kernel⟩, lw_t1 (List.mem_of_getElem? (i := 29) rfl), lw_t4 (List.mem_of_getElem? (i := 132) rfl), lw_t4 (List.mem_of_getElem? (i := 133) rfl)⟩
theorem lw_p37 : lw_okq (⟨"BeforeTheEnd", "earlyFor", "(I)I"⟩, 31) := ⟨⟨by decide +kernel, by decide +kernel⟩, lw_t1 (List.mem_of_getElem? (i := 29) rfl), lw_t4 (List.mem_of_getElem? (i := 136) rfl), lw_t4 (List.mem_of_getElem? (i := 137) rfl)⟩
theorem lw_p38 : lw_okq (⟨"BeforeTheEnd", "silentTold", "(II)I"⟩, 31) := ⟨⟨by decide +kernel, by decide +kernel⟩, lw_t1 (List.mem_of_getElem? (i := 29) rfl), lw_t4 (List.mem_of_getElem? (i := 141) rfl), lw_t4 (List.mem_of_getElem? (i := 142) rfl)⟩
theorem lw_p39 : lw_okq (⟨"BeforeTheEnd", "silentOf", "(LBeforeTheEnd$Sure;I)I"⟩, 31) := ⟨⟨by decide +kernel, by decide +kernel⟩, lw_t1 (List.mem_of_getElem? (i := 29) rfl), lw_t4 (List.mem_of_getElem? (i := 145) rfl), lw_t4 (List.mem_of_getElem? (i := 146) rfl)⟩
theorem lw_p40 : lw_okq (⟨"BeforeTheEnd", "partnersTold", "(III)I"⟩, 31) := ⟨⟨by decide +kernel, by decide +kernel⟩, lw_t1 (List.mem_of_getElem? (i := 29) rfl), lw_t4 (List.mem_of_getElem? (i := 150) rfl), lw_t4 (List.mem_of_getElem? (i := 151) rfl)⟩
theorem lw_p41 : lw_okq (⟨"BeforeTheEnd", "partnerFor", "(III)I"⟩, 31) := ⟨⟨by decide +kernel, by decide +kernel⟩, lw_t1 (List.mem_of_getElem? (i := 29) rfl), lw_t4 (List.mem_of_getElem? (i := 154) rfl), lw_t4 (List.mem_of_getElem? (i := 155) rfl)⟩
theorem lw_p42 : lw_okq (⟨"BeforeTheEnd", "ofRest", "(IIII)I"⟩, 31) := ⟨⟨by decide +kernel, by decide +kernel⟩, lw_t1 (List.mem_of_getElem? (i := 29) rfl), lw_t4 (List.mem_of_getElem? (i := 158) rfl), lw_t4 (List.mem_of_getElem? (i := 159) rfl)⟩
theorem lw_p43 : lw_okq (⟨"BeforeTheEnd", "factIt", "(I)I"⟩, 31) := ⟨⟨by decide +kernel, by decide +kernel⟩, lw_t1 (List.mem_of_getElem? (i := 29) rfl), lw_t4 (List.mem_of_getElem? (i := 162) rfl), lw_t4 (List.mem_of_getElem? (i := 163) rfl)⟩
theorem lw_p44 : lw_okq (⟨"BeforeTheEnd", "hadTold", "(II)I"⟩, 31) := ⟨⟨by decide +kernel, by decide +kernel⟩, lw_t1 (List.mem_of_getElem? (i := 29) rfl), lw_t4 (List.mem_of_getElem? (i := 167) rfl), lw_t4 (List.mem_of_getElem? (i := 168) rfl)⟩
theorem lw_p45 : lw_okq (⟨"BeforeTheEnd", "hadBy", "([II)I"⟩, 31) := ⟨⟨by decide +kernel, by decide +kernel⟩, lw_t1 (List.mem_of_getElem? (i := 29) rfl), lw_t4 (List.mem_of_getElem? (i := 172) rfl), lw_t4 (List.mem_of_getElem? (i := 173) rfl)⟩
theorem lw_p46 : lw_okq (⟨"BeforeTheEnd", "orderTold", "(IZ)I"⟩, 31) := ⟨⟨by decide +kernel, by decide +kernel⟩, lw_t1 (List.mem_of_getElem? (i := 29) rfl), lw_t4 (List.mem_of_getElem? (i := 176) rfl), lw_t4 (List.mem_of_getElem? (i := 177) rfl)⟩
theorem lw_p47 : lw_okq (⟨"BeforeTheEnd", "seek", "(IIZ)V"⟩, 31) := ⟨⟨by decide +kernel, by decide +kernel⟩, lw_t1 (List.mem_of_getElem? (i := 29) rfl), lw_t4 (List.mem_of_getElem? (i := 180) rfl), lw_t4 (List.mem_of_getElem? (i := 181) rfl)⟩
def lw_privs_3 : List (MethodName × Nat) := [(⟨"BeforeTheEnd", "replyOf", "(II)I"⟩, 31), (⟨"BeforeTheEnd", "runAll", "()V"⟩, 31), (⟨"BeforeTheEnd", "restTold", "(II)I"⟩, 31), (⟨"BeforeTheEnd", "restOf", "(II)I"⟩, 31), (⟨"BeforeTheEnd", "wrongFor", "(I)I"⟩, 31), (⟨"BeforeTheEnd", "earlyFor", "(I)I"⟩, 31), (⟨"BeforeTheEnd", "silentTold", "(II)I"⟩, 31), (⟨"BeforeTheEnd", "silentOf", "(LBeforeTheEnd$Sure;I)I"⟩, 31), (⟨"BeforeTheEnd", "partnersTold", "(III)I"⟩, 31), (⟨"BeforeTheEnd", "partnerFor", "(III)I"⟩, 31), (⟨"BeforeTheEnd", "ofRest", "(IIII)I"⟩, 31), (⟨"BeforeTheEnd", "factIt", "(I)I"⟩, 31), (⟨"BeforeTheEnd", "hadTold", "(II)I"⟩, 31), (⟨"BeforeTheEnd", "hadBy", "([II)I"⟩, 31), (⟨"BeforeTheEnd", "orderTold", "(IZ)I"⟩, 31), (⟨"BeforeTheEnd", "seek", "(IIZ)V"⟩, 31)]
theorem lw_r3 : ∀ q ∈ lw_privs_3, lw_okq q := List.forall_mem_cons.mpr ⟨lw_p32, List.forall_mem_cons.mpr ⟨lw_p33, List.forall_mem_cons.mpr ⟨lw_p34, List.forall_mem_cons.mpr ⟨lw_p35, List.forall_mem_cons.mpr ⟨lw_p36, List.forall_mem_cons.mpr ⟨lw_p37, List.forall_mem_cons.mpr ⟨lw_p38, List.forall_mem_cons.mpr ⟨lw_p39, List.forall_mem_cons.mpr ⟨lw_p40, List.forall_mem_cons.mpr ⟨lw_p41, List.forall_mem_cons.mpr ⟨lw_p42, List.forall_mem_cons.mpr ⟨lw_p43, List.forall_mem_cons.mpr ⟨lw_p44, List.forall_mem_cons.mpr ⟨lw_p45, List.forall_mem_cons.mpr ⟨lw_p46, List.forall_mem_cons.mpr ⟨lw_p47, fun _ h => absurd h List.not_mem_nil⟩⟩⟩⟩⟩⟩⟩⟩⟩⟩⟩⟩⟩⟩⟩⟩
theorem lw_p48 : lw_okq (⟨"BeforeTheEnd", "eveningTold", "(III)I"⟩, 31) := ⟨⟨by decide +kernel, by decide +kernel⟩, lw_t1 (List.mem_of_getElem? (i := 29) rfl), lw_t4 (List.mem_of_getElem? (i := 185) rfl), lw_t4 (List.mem_of_getElem? (i := 186) rfl)⟩
theorem lw_p49 : lw_okq (⟨"BeforeTheEnd", "eveningOf", "(III)I"⟩, 31) := ⟨⟨by decide +kernel, by decide +kernel⟩, lw_t1 (List.mem_of_getElem? (i := 29) rfl), lw_t4 (List.mem_of_getElem? (i := 190) rfl), lw_t4 (List.mem_of_getElem? (i := 191) rfl)⟩
theorem lw_p50 : lw_okq (⟨"BeforeTheEnd", "drawnEnd", "()I"⟩, 31) := ⟨⟨by decide +kernel, by decide +kernel⟩, lw_t1 (List.mem_of_getElem? (i := 29) rfl), lw_t4 (List.mem_of_getElem? (i := 194) rfl), lw_t4 (List.mem_of_getElem? (i := 195) rfl)⟩
theorem lw_p51 : lw_okq (⟨"BeforeTheEnd", "draw", "(I)I"⟩, 31) := ⟨⟨by decide +kernel, by decide +kernel⟩, lw_t1 (List.mem_of_getElem? (i := 29) rfl), lw_t4 (List.mem_of_getElem? (i := 199) rfl), lw_t4 (List.mem_of_getElem? (i := 200) rfl)⟩
theorem lw_p52 : lw_okq (⟨"BeforeTheEnd", "judgeRow", "(I)I"⟩, 31) := ⟨⟨by decide +kernel, by decide +kernel⟩, lw_t1 (List.mem_of_getElem? (i := 29) rfl), lw_t4 (List.mem_of_getElem? (i := 207) rfl), lw_t4 (List.mem_of_getElem? (i := 208) rfl)⟩
theorem lw_p53 : lw_okq (⟨"BeforeTheEnd", "takeImage", "()I"⟩, 31) := ⟨⟨by decide +kernel, by decide +kernel⟩, lw_t1 (List.mem_of_getElem? (i := 29) rfl), lw_t4 (List.mem_of_getElem? (i := 211) rfl), lw_t4 (List.mem_of_getElem? (i := 212) rfl)⟩
theorem lw_p54 : lw_okq (⟨"BeforeTheEnd", "goOn", "()I"⟩, 31) := ⟨⟨by decide +kernel, by decide +kernel⟩, lw_t1 (List.mem_of_getElem? (i := 29) rfl), lw_t4 (List.mem_of_getElem? (i := 233) rfl), lw_t4 (List.mem_of_getElem? (i := 234) rfl)⟩
theorem lw_p55 : lw_okq (⟨"BeforeTheEnd", "chanceTold", "(III)J"⟩, 31) := ⟨⟨by decide +kernel, by decide +kernel⟩, lw_t1 (List.mem_of_getElem? (i := 29) rfl), lw_t5 (List.mem_of_getElem? (i := 17) rfl), lw_t5 (List.mem_of_getElem? (i := 18) rfl)⟩
theorem lw_p56 : lw_okq (⟨"BeforeTheEnd", "allTold", "(III)J"⟩, 31) := ⟨⟨by decide +kernel, by decide +kernel⟩, lw_t1 (List.mem_of_getElem? (i := 29) rfl), lw_t5 (List.mem_of_getElem? (i := 56) rfl), lw_t5 (List.mem_of_getElem? (i := 57) rfl)⟩
theorem lw_p57 : lw_okq (⟨"BeforeTheEnd", "valueTold", "(III)J"⟩, 31) := ⟨⟨by decide +kernel, by decide +kernel⟩, lw_t1 (List.mem_of_getElem? (i := 29) rfl), lw_t5 (List.mem_of_getElem? (i := 76) rfl), lw_t5 (List.mem_of_getElem? (i := 77) rfl)⟩
theorem lw_p58 : lw_okq (⟨"BeforeTheEnd", "actFar", "(IIII)I"⟩, 31) := ⟨⟨by decide +kernel, by decide +kernel⟩, lw_t1 (List.mem_of_getElem? (i := 29) rfl), lw_t5 (List.mem_of_getElem? (i := 128) rfl), lw_t5 (List.mem_of_getElem? (i := 129) rfl)⟩
theorem lw_p59 : lw_okq (⟨"BeforeTheEndModel", "no", "(I)I"⟩, 52) := ⟨⟨by decide +kernel, by decide +kernel⟩, lw_t5 (List.mem_of_getElem? (i := 155) rfl), lw_t6 (List.mem_of_getElem? (i := 85) rfl), lw_t6 (List.mem_of_getElem? (i := 86) rfl)⟩
theorem lw_p60 : lw_okq (⟨"BeforeTheEndModel", "statement", "()Z"⟩, 52) := ⟨⟨by decide +kernel, by decide +kernel⟩, lw_t5 (List.mem_of_getElem? (i := 155) rfl), lw_t6 (List.mem_of_getElem? (i := 94) rfl), lw_t6 (List.mem_of_getElem? (i := 95) rfl)⟩
theorem lw_p61 : lw_okq (⟨"BeforeTheEndModel", "sign", "()I"⟩, 52) := ⟨⟨by decide +kernel, by decide +kernel⟩, lw_t5 (List.mem_of_getElem? (i := 155) rfl), lw_t6 (List.mem_of_getElem? (i := 98) rfl), lw_t6 (List.mem_of_getElem? (i := 99) rfl)⟩
theorem lw_p62 : lw_okq (⟨"BeforeTheEndModel", "readsWord", "(I)Z"⟩, 52) := ⟨⟨by decide +kernel, by decide +kernel⟩, lw_t5 (List.mem_of_getElem? (i := 155) rfl), lw_t6 (List.mem_of_getElem? (i := 102) rfl), lw_t6 (List.mem_of_getElem? (i := 103) rfl)⟩
theorem lw_p63 : lw_okq (⟨"BeforeTheEndModel", "number", "(I)I"⟩, 52) := ⟨⟨by decide +kernel, by decide +kernel⟩, lw_t5 (List.mem_of_getElem? (i := 155) rfl), lw_t6 (List.mem_of_getElem? (i := 106) rfl), lw_t6 (List.mem_of_getElem? (i := 107) rfl)⟩
def lw_privs_4 : List (MethodName × Nat) := [(⟨"BeforeTheEnd", "eveningTold", "(III)I"⟩, 31), (⟨"BeforeTheEnd", "eveningOf", "(III)I"⟩, 31), (⟨"BeforeTheEnd", "drawnEnd", "()I"⟩, 31), (⟨"BeforeTheEnd", "draw", "(I)I"⟩, 31), (⟨"BeforeTheEnd", "judgeRow", "(I)I"⟩, 31), (⟨"BeforeTheEnd", "takeImage", "()I"⟩, 31), (⟨"BeforeTheEnd", "goOn", "()I"⟩, 31), (⟨"BeforeTheEnd", "chanceTold", "(III)J"⟩, 31), (⟨"BeforeTheEnd", "allTold", "(III)J"⟩, 31), (⟨"BeforeTheEnd", "valueTold", "(III)J"⟩, 31), (⟨"BeforeTheEnd", "actFar", "(IIII)I"⟩, 31), (⟨"BeforeTheEndModel", "no", "(I)I"⟩, 52), (⟨"BeforeTheEndModel", "statement", "()Z"⟩, 52), (⟨"BeforeTheEndModel", "sign", "()I"⟩, 52), (⟨"BeforeTheEndModel", "readsWord", "(I)Z"⟩, 52), (⟨"BeforeTheEndModel", "number", "(I)I"⟩, 52)]
theorem lw_r4 : ∀ q ∈ lw_privs_4, lw_okq q := List.forall_mem_cons.mpr ⟨lw_p48, List.forall_mem_cons.mpr ⟨lw_p49, List.forall_mem_cons.mpr ⟨lw_p50, List.forall_mem_cons.mpr ⟨lw_p51, List.forall_mem_cons.mpr ⟨lw_p52, List.forall_mem_cons.mpr ⟨lw_p53, List.forall_mem_cons.mpr ⟨lw_p54, List.forall_mem_cons.mpr ⟨lw_p55, List.forall_mem_cons.mpr ⟨lw_p56, List.forall_mem_cons.mpr ⟨lw_p57, List.forall_mem_cons.mpr ⟨lw_p58, List.forall_mem_cons.mpr ⟨lw_p59, List.forall_mem_cons.mpr ⟨lw_p60, List.forall_mem_cons.mpr ⟨lw_p61, List.forall_mem_cons.mpr ⟨lw_p62, List.forall_mem_cons.mpr ⟨lw_p63, fun _ h => absurd h List.not_mem_nil⟩⟩⟩⟩⟩⟩⟩⟩⟩⟩⟩⟩⟩⟩⟩⟩
theorem lw_p64 : lw_okq (⟨"BeforeTheEndModel", "takes", "(I)Z"⟩, 52) := ⟨⟨by decide +kernel, by decide +kernel⟩, lw_t5 (List.mem_of_getElem? (i := 155) rfl), lw_t6 (List.mem_of_getElem? (i := 113) rfl), lw_t6 (List.mem_of_getElem? (i := 114) rfl)⟩
theorem lw_p65 : lw_okq (⟨"BeforeTheEndModel", "readsPlayer", "(I)Z"⟩, 52) := ⟨⟨by decide +kernel, by decide +kernel⟩, lw_t5 (List.mem_of_getElem? (i := 155) rfl), lw_t6 (List.mem_of_getElem? (i := 117) rfl), lw_t6 (List.mem_of_getElem? (i := 118) rfl)⟩
theorem lw_p66 : lw_okq (⟨"BeforeTheEndModel", "readsKnown", "(I)Z"⟩, 52) := ⟨⟨by decide +kernel, by decide +kernel⟩, lw_t5 (List.mem_of_getElem? (i := 155) rfl), lw_t6 (List.mem_of_getElem? (i := 124) rfl), lw_t6 (List.mem_of_getElem? (i := 125) rfl)⟩
theorem lw_p67 : lw_okq (⟨"BeforeTheEndModel", "comes", "(I)Z"⟩, 52) := ⟨⟨by decide +kernel, by decide +kernel⟩, lw_t5 (List.mem_of_getElem? (i := 155) rfl), lw_t6 (List.mem_of_getElem? (i := 128) rfl), lw_t6 (List.mem_of_getElem? (i := 129) rfl)⟩
theorem lw_p68 : lw_okq (⟨"BeforeTheEndModel", "isWord", "(I)Z"⟩, 52) := ⟨⟨by decide +kernel, by decide +kernel⟩, lw_t5 (List.mem_of_getElem? (i := 155) rfl), lw_t6 (List.mem_of_getElem? (i := 132) rfl), lw_t6 (List.mem_of_getElem? (i := 133) rfl)⟩
theorem lw_p69 : lw_okq (⟨"BeforeTheEndModel", "comesWord", "(III)V"⟩, 52) := ⟨⟨by decide +kernel, by decide +kernel⟩, lw_t5 (List.mem_of_getElem? (i := 155) rfl), lw_t6 (List.mem_of_getElem? (i := 136) rfl), lw_t6 (List.mem_of_getElem? (i := 137) rfl)⟩
theorem lw_p70 : lw_okq (⟨"BeforeTheEndModel", "nexts", "(I)I"⟩, 52) := ⟨⟨by decide +kernel, by decide +kernel⟩, lw_t5 (List.mem_of_getElem? (i := 155) rfl), lw_t6 (List.mem_of_getElem? (i := 144) rfl), lw_t6 (List.mem_of_getElem? (i := 145) rfl)⟩
theorem lw_p71 : lw_okq (⟨"BeforeTheEndModel", "isPlayer", "(I)Z"⟩, 52) := ⟨⟨by decide +kernel, by decide +kernel⟩, lw_t5 (List.mem_of_getElem? (i := 155) rfl), lw_t6 (List.mem_of_getElem? (i := 152) rfl), lw_t6 (List.mem_of_getElem? (i := 153) rfl)⟩
theorem lw_p72 : lw_okq (⟨"BeforeTheEndModel", "isWhole", "()Z"⟩, 52) := ⟨⟨by decide +kernel, by decide +kernel⟩, lw_t5 (List.mem_of_getElem? (i := 155) rfl), lw_t6 (List.mem_of_getElem? (i := 160) rfl), lw_t6 (List.mem_of_getElem? (i := 161) rfl)⟩
theorem lw_p73 : lw_okq (⟨"BeforeTheEndModel", "isBehind", "(II)Z"⟩, 52) := ⟨⟨by decide +kernel, by decide +kernel⟩, lw_t5 (List.mem_of_getElem? (i := 155) rfl), lw_t6 (List.mem_of_getElem? (i := 168) rfl), lw_t6 (List.mem_of_getElem? (i := 169) rfl)⟩
theorem lw_p74 : lw_okq (⟨"BeforeTheEndModel", "noLong", "(I)J"⟩, 52) := ⟨⟨by decide +kernel, by decide +kernel⟩, lw_t5 (List.mem_of_getElem? (i := 155) rfl), lw_t6 (List.mem_of_getElem? (i := 176) rfl), lw_t6 (List.mem_of_getElem? (i := 177) rfl)⟩
theorem lw_p75 : lw_okq (⟨"BeforeTheEndModel", "findShares", "()V"⟩, 52) := ⟨⟨by decide +kernel, by decide +kernel⟩, lw_t5 (List.mem_of_getElem? (i := 155) rfl), lw_t6 (List.mem_of_getElem? (i := 181) rfl), lw_t6 (List.mem_of_getElem? (i := 182) rfl)⟩
theorem lw_p76 : lw_okq (⟨"BeforeTheEndModel", "sumOf", "(I)I"⟩, 52) := ⟨⟨by decide +kernel, by decide +kernel⟩, lw_t5 (List.mem_of_getElem? (i := 155) rfl), lw_t6 (List.mem_of_getElem? (i := 185) rfl), lw_t6 (List.mem_of_getElem? (i := 186) rfl)⟩
theorem lw_p77 : lw_okq (⟨"BeforeTheEndModel", "commonOf", "(I)I"⟩, 52) := ⟨⟨by decide +kernel, by decide +kernel⟩, lw_t5 (List.mem_of_getElem? (i := 155) rfl), lw_t6 (List.mem_of_getElem? (i := 189) rfl), lw_t6 (List.mem_of_getElem? (i := 190) rfl)⟩
theorem lw_p78 : lw_okq (⟨"BeforeTheEndModel", "guessOf", "(II)I"⟩, 52) := ⟨⟨by decide +kernel, by decide +kernel⟩, lw_t5 (List.mem_of_getElem? (i := 155) rfl), lw_t6 (List.mem_of_getElem? (i := 203) rfl), lw_t6 (List.mem_of_getElem? (i := 204) rfl)⟩
theorem lw_p79 : lw_okq (⟨"BeforeTheEndModel", "finds", "()V"⟩, 52) := ⟨⟨by decide +kernel, by decide +kernel⟩, lw_t5 (List.mem_of_getElem? (i := 155) rfl), lw_t6 (List.mem_of_getElem? (i := 219) rfl), lw_t6 (List.mem_of_getElem? (i := 220) rfl)⟩
def lw_privs_5 : List (MethodName × Nat) := [(⟨"BeforeTheEndModel", "takes", "(I)Z"⟩, 52), (⟨"BeforeTheEndModel", "readsPlayer", "(I)Z"⟩, 52), (⟨"BeforeTheEndModel", "readsKnown", "(I)Z"⟩, 52), (⟨"BeforeTheEndModel", "comes", "(I)Z"⟩, 52), (⟨"BeforeTheEndModel", "isWord", "(I)Z"⟩, 52), (⟨"BeforeTheEndModel", "comesWord", "(III)V"⟩, 52), (⟨"BeforeTheEndModel", "nexts", "(I)I"⟩, 52), (⟨"BeforeTheEndModel", "isPlayer", "(I)Z"⟩, 52), (⟨"BeforeTheEndModel", "isWhole", "()Z"⟩, 52), (⟨"BeforeTheEndModel", "isBehind", "(II)Z"⟩, 52), (⟨"BeforeTheEndModel", "noLong", "(I)J"⟩, 52), (⟨"BeforeTheEndModel", "findShares", "()V"⟩, 52), (⟨"BeforeTheEndModel", "sumOf", "(I)I"⟩, 52), (⟨"BeforeTheEndModel", "commonOf", "(I)I"⟩, 52), (⟨"BeforeTheEndModel", "guessOf", "(II)I"⟩, 52), (⟨"BeforeTheEndModel", "finds", "()V"⟩, 52)]
theorem lw_r5 : ∀ q ∈ lw_privs_5, lw_okq q := List.forall_mem_cons.mpr ⟨lw_p64, List.forall_mem_cons.mpr ⟨lw_p65, List.forall_mem_cons.mpr ⟨lw_p66, List.forall_mem_cons.mpr ⟨lw_p67, List.forall_mem_cons.mpr ⟨lw_p68, List.forall_mem_cons.mpr ⟨lw_p69, List.forall_mem_cons.mpr ⟨lw_p70, List.forall_mem_cons.mpr ⟨lw_p71, List.forall_mem_cons.mpr ⟨lw_p72, List.forall_mem_cons.mpr ⟨lw_p73, List.forall_mem_cons.mpr ⟨lw_p74, List.forall_mem_cons.mpr ⟨lw_p75, List.forall_mem_cons.mpr ⟨lw_p76, List.forall_mem_cons.mpr ⟨lw_p77, List.forall_mem_cons.mpr ⟨lw_p78, List.forall_mem_cons.mpr ⟨lw_p79, fun _ h => absurd h List.not_mem_nil⟩⟩⟩⟩⟩⟩⟩⟩⟩⟩⟩⟩⟩⟩⟩⟩
theorem lw_p80 : lw_okq (⟨"BeforeTheEndModel", "findPresses", "()V"⟩, 52) := ⟨⟨by decide +kernel, by decide +kernel⟩, lw_t5 (List.mem_of_getElem? (i := 155) rfl), lw_t6 (List.mem_of_getElem? (i := 223) rfl), lw_t6 (List.mem_of_getElem? (i := 224) rfl)⟩
theorem lw_p81 : lw_okq (⟨"BeforeTheEndModel", "findAlone", "(I)V"⟩, 52) := ⟨⟨by decide +kernel, by decide +kernel⟩, lw_t5 (List.mem_of_getElem? (i := 155) rfl), lw_t6 (List.mem_of_getElem? (i := 227) rfl), lw_t6 (List.mem_of_getElem? (i := 228) rfl)⟩
theorem lw_p82 : lw_okq (⟨"BeforeTheEndModel", "pressWorth", "(II)J"⟩, 52) := ⟨⟨by decide +kernel, by decide +kernel⟩, lw_t5 (List.mem_of_getElem? (i := 155) rfl), lw_t6 (List.mem_of_getElem? (i := 231) rfl), lw_t6 (List.mem_of_getElem? (i := 232) rfl)⟩
theorem lw_p83 : lw_okq (⟨"BeforeTheEndModel", "sureOf", "(I)I"⟩, 52) := ⟨⟨by decide +kernel, by decide +kernel⟩, lw_t5 (List.mem_of_getElem? (i := 155) rfl), lw_t6 (List.mem_of_getElem? (i := 235) rfl), lw_t6 (List.mem_of_getElem? (i := 236) rfl)⟩
theorem lw_p84 : lw_okq (⟨"BeforeTheEndModel", "pressing", "(II)I"⟩, 52) := ⟨⟨by decide +kernel, by decide +kernel⟩, lw_t5 (List.mem_of_getElem? (i := 155) rfl), lw_t6 (List.mem_of_getElem? (i := 239) rfl), lw_t7 (List.mem_of_getElem? (i := 0) rfl)⟩
theorem lw_p85 : lw_okq (⟨"BeforeTheEndModel", "mayPress", "(III)Z"⟩, 52) := ⟨⟨by decide +kernel, by decide +kernel⟩, lw_t5 (List.mem_of_getElem? (i := 155) rfl), lw_t7 (List.mem_of_getElem? (i := 3) rfl), lw_t7 (List.mem_of_getElem? (i := 4) rfl)⟩
theorem lw_p86 : lw_okq (⟨"BeforeTheEndModel", "isSure", "(III)Z"⟩, 52) := ⟨⟨by decide +kernel, by decide +kernel⟩, lw_t5 (List.mem_of_getElem? (i := 155) rfl), lw_t7 (List.mem_of_getElem? (i := 7) rfl), lw_t7 (List.mem_of_getElem? (i := 8) rfl)⟩
theorem lw_p87 : lw_okq (⟨"BeforeTheEndModel", "runs", "(I)V"⟩, 52) := ⟨⟨by decide +kernel, by decide +kernel⟩, lw_t5 (List.mem_of_getElem? (i := 155) rfl), lw_t7 (List.mem_of_getElem? (i := 16) rfl), lw_t7 (List.mem_of_getElem? (i := 17) rfl)⟩
theorem lw_p88 : lw_okq (⟨"BeforeTheEndModel", "answers", "(I)I"⟩, 52) := ⟨⟨by decide +kernel, by decide +kernel⟩, lw_t5 (List.mem_of_getElem? (i := 155) rfl), lw_t7 (List.mem_of_getElem? (i := 20) rfl), lw_t7 (List.mem_of_getElem? (i := 21) rfl)⟩
theorem lw_p89 : lw_okq (⟨"BeforeTheEndModel", "isOver", "(III)Z"⟩, 52) := ⟨⟨by decide +kernel, by decide +kernel⟩, lw_t5 (List.mem_of_getElem? (i := 155) rfl), lw_t7 (List.mem_of_getElem? (i := 24) rfl), lw_t7 (List.mem_of_getElem? (i := 25) rfl)⟩
theorem lw_p90 : lw_okq (⟨"BeforeTheEndModel", "inAll", "(III)J"⟩, 52) := ⟨⟨by decide +kernel, by decide +kernel⟩, lw_t5 (List.mem_of_getElem? (i := 155) rfl), lw_t7 (List.mem_of_getElem? (i := 32) rfl), lw_t7 (List.mem_of_getElem? (i := 33) rfl)⟩
theorem lw_p91 : lw_okq (⟨"BeforeTheEndModel", "sumOver", "(II)J"⟩, 52) := ⟨⟨by decide +kernel, by decide +kernel⟩, lw_t5 (List.mem_of_getElem? (i := 155) rfl), lw_t7 (List.mem_of_getElem? (i := 36) rfl), lw_t7 (List.mem_of_getElem? (i := 37) rfl)⟩
theorem lw_p92 : lw_okq (⟨"BeforeTheEndModel", "replyOf", "(II)I"⟩, 52) := ⟨⟨by decide +kernel, by decide +kernel⟩, lw_t5 (List.mem_of_getElem? (i := 155) rfl), lw_t7 (List.mem_of_getElem? (i := 64) rfl), lw_t7 (List.mem_of_getElem? (i := 65) rfl)⟩
theorem lw_p93 : lw_okq (⟨"BeforeTheEndModel", "tries", "(II)V"⟩, 52) := ⟨⟨by decide +kernel, by decide +kernel⟩, lw_t5 (List.mem_of_getElem? (i := 155) rfl), lw_t7 (List.mem_of_getElem? (i := 68) rfl), lw_t7 (List.mem_of_getElem? (i := 69) rfl)⟩
theorem lw_p94 : lw_okq (⟨"BeforeTheEndModel", "takesReply", "(I)Z"⟩, 52) := ⟨⟨by decide +kernel, by decide +kernel⟩, lw_t5 (List.mem_of_getElem? (i := 155) rfl), lw_t7 (List.mem_of_getElem? (i := 76) rfl), lw_t7 (List.mem_of_getElem? (i := 77) rfl)⟩
theorem lw_p95 : lw_okq (⟨"BeforeTheEndModel", "hadOf", "(I)I"⟩, 52) := ⟨⟨by decide +kernel, by decide +kernel⟩, lw_t5 (List.mem_of_getElem? (i := 155) rfl), lw_t7 (List.mem_of_getElem? (i := 105) rfl), lw_t7 (List.mem_of_getElem? (i := 106) rfl)⟩
def lw_privs_6 : List (MethodName × Nat) := [(⟨"BeforeTheEndModel", "findPresses", "()V"⟩, 52), (⟨"BeforeTheEndModel", "findAlone", "(I)V"⟩, 52), (⟨"BeforeTheEndModel", "pressWorth", "(II)J"⟩, 52), (⟨"BeforeTheEndModel", "sureOf", "(I)I"⟩, 52), (⟨"BeforeTheEndModel", "pressing", "(II)I"⟩, 52), (⟨"BeforeTheEndModel", "mayPress", "(III)Z"⟩, 52), (⟨"BeforeTheEndModel", "isSure", "(III)Z"⟩, 52), (⟨"BeforeTheEndModel", "runs", "(I)V"⟩, 52), (⟨"BeforeTheEndModel", "answers", "(I)I"⟩, 52), (⟨"BeforeTheEndModel", "isOver", "(III)Z"⟩, 52), (⟨"BeforeTheEndModel", "inAll", "(III)J"⟩, 52), (⟨"BeforeTheEndModel", "sumOver", "(II)J"⟩, 52), (⟨"BeforeTheEndModel", "replyOf", "(II)I"⟩, 52), (⟨"BeforeTheEndModel", "tries", "(II)V"⟩, 52), (⟨"BeforeTheEndModel", "takesReply", "(I)Z"⟩, 52), (⟨"BeforeTheEndModel", "hadOf", "(I)I"⟩, 52)]
theorem lw_r6 : ∀ q ∈ lw_privs_6, lw_okq q := List.forall_mem_cons.mpr ⟨lw_p80, List.forall_mem_cons.mpr ⟨lw_p81, List.forall_mem_cons.mpr ⟨lw_p82, List.forall_mem_cons.mpr ⟨lw_p83, List.forall_mem_cons.mpr ⟨lw_p84, List.forall_mem_cons.mpr ⟨lw_p85, List.forall_mem_cons.mpr ⟨lw_p86, List.forall_mem_cons.mpr ⟨lw_p87, List.forall_mem_cons.mpr ⟨lw_p88, List.forall_mem_cons.mpr ⟨lw_p89, List.forall_mem_cons.mpr ⟨lw_p90, List.forall_mem_cons.mpr ⟨lw_p91, List.forall_mem_cons.mpr ⟨lw_p92, List.forall_mem_cons.mpr ⟨lw_p93, List.forall_mem_cons.mpr ⟨lw_p94, List.forall_mem_cons.mpr ⟨lw_p95, fun _ h => absurd h List.not_mem_nil⟩⟩⟩⟩⟩⟩⟩⟩⟩⟩⟩⟩⟩⟩⟩⟩
theorem lw_p96 : lw_okq (⟨"BeforeTheEndModel", "best", "(ZI)I"⟩, 52) := ⟨⟨by decide +kernel, by decide +kernel⟩, lw_t5 (List.mem_of_getElem? (i := 155) rfl), lw_t7 (List.mem_of_getElem? (i := 116) rfl), lw_t7 (List.mem_of_getElem? (i := 117) rfl)⟩
theorem lw_p97 : lw_okq (⟨"BeforeTheEndModel", "ordered", "(I)V"⟩, 52) := ⟨⟨by decide +kernel, by decide +kernel⟩, lw_t5 (List.mem_of_getElem? (i := 155) rfl), lw_t7 (List.mem_of_getElem? (i := 120) rfl), lw_t7 (List.mem_of_getElem? (i := 121) rfl)⟩
theorem lw_p98 : lw_okq (⟨"BeforeTheEndModel", "lower", "(I)I"⟩, 52) := ⟨⟨by decide +kernel, by decide +kernel⟩, lw_t5 (List.mem_of_getElem? (i := 155) rfl), lw_t7 (List.mem_of_getElem? (i := 132) rfl), lw_t7 (List.mem_of_getElem? (i := 133) rfl)⟩
theorem lw_p99 : lw_okq (⟨"BeforeTheEndModel", "drawn", "()I"⟩, 52) := ⟨⟨by decide +kernel, by decide +kernel⟩, lw_t5 (List.mem_of_getElem? (i := 155) rfl), lw_t7 (List.mem_of_getElem? (i := 137) rfl), lw_t7 (List.mem_of_getElem? (i := 138) rfl)⟩
theorem lw_p100 : lw_okq (⟨"BeforeTheEndModel", "passesAll", "()V"⟩, 52) := ⟨⟨by decide +kernel, by decide +kernel⟩, lw_t5 (List.mem_of_getElem? (i := 155) rfl), lw_t7 (List.mem_of_getElem? (i := 156) rfl), lw_t7 (List.mem_of_getElem? (i := 157) rfl)⟩
theorem lw_p101 : lw_okq (⟨"BeforeTheEndModel", "passes", "([I)V"⟩, 52) := ⟨⟨by decide +kernel, by decide +kernel⟩, lw_t5 (List.mem_of_getElem? (i := 155) rfl), lw_t7 (List.mem_of_getElem? (i := 160) rfl), lw_t7 (List.mem_of_getElem? (i := 161) rfl)⟩
theorem lw_p102 : lw_okq (⟨"BeforeTheEndModel", "passOne", "(I)I"⟩, 52) := ⟨⟨by decide +kernel, by decide +kernel⟩, lw_t5 (List.mem_of_getElem? (i := 155) rfl), lw_t7 (List.mem_of_getElem? (i := 164) rfl), lw_t7 (List.mem_of_getElem? (i := 165) rfl)⟩
def lw_privs_7 : List (MethodName × Nat) := [(⟨"BeforeTheEndModel", "best", "(ZI)I"⟩, 52), (⟨"BeforeTheEndModel", "ordered", "(I)V"⟩, 52), (⟨"BeforeTheEndModel", "lower", "(I)I"⟩, 52), (⟨"BeforeTheEndModel", "drawn", "()I"⟩, 52), (⟨"BeforeTheEndModel", "passesAll", "()V"⟩, 52), (⟨"BeforeTheEndModel", "passes", "([I)V"⟩, 52), (⟨"BeforeTheEndModel", "passOne", "(I)I"⟩, 52)]
theorem lw_r7 : ∀ q ∈ lw_privs_7, lw_okq q := List.forall_mem_cons.mpr ⟨lw_p96, List.forall_mem_cons.mpr ⟨lw_p97, List.forall_mem_cons.mpr ⟨lw_p98, List.forall_mem_cons.mpr ⟨lw_p99, List.forall_mem_cons.mpr ⟨lw_p100, List.forall_mem_cons.mpr ⟨lw_p101, List.forall_mem_cons.mpr ⟨lw_p102, fun _ h => absurd h List.not_mem_nil⟩⟩⟩⟩⟩⟩⟩
def lw_privs : List (MethodName × Nat) := lw_privs_1 ++ (lw_privs_2 ++ (lw_privs_3 ++ (lw_privs_4 ++ (lw_privs_5 ++ (lw_privs_6 ++ (lw_privs_7))))))
def lw_tbl : List Cond := k2_sels lw_privs ++ tables_1
theorem lw_privs_ok : ∀ q ∈ lw_privs, lw_okq q := by
  show ∀ q ∈ lw_privs_1 ++ (lw_privs_2 ++ (lw_privs_3 ++ (lw_privs_4 ++ (lw_privs_5 ++ (lw_privs_6 ++ (lw_privs_7)))))), lw_okq q
  exact List.forall_mem_append.mpr ⟨lw_r1, List.forall_mem_append.mpr ⟨lw_r2, List.forall_mem_append.mpr ⟨lw_r3, List.forall_mem_append.mpr ⟨lw_r4, List.forall_mem_append.mpr ⟨lw_r5, List.forall_mem_append.mpr ⟨lw_r6, lw_r7⟩⟩⟩⟩⟩⟩
-- ===== ONE list of words for every method: the tables' words that hold all through a run =====
def lw_all : List Cond := lw_tbl.filter goodWord
/-- a word of the tables by its place: claim/WORDS.tsv -/
theorem lw_w {w : Cond} (i : Nat) (h : lw_tbl[i]? = some w) (g : goodWord w = true) : w ∈ lw_all := List.mem_filter.mpr ⟨List.mem_of_getElem? h, g⟩
theorem lw_all_tbl {w : Cond} (h : w ∈ lw_all) : w ∈ lw_tbl := (List.mem_filter.mp h).1
theorem lw_self : GoodIn lw_all lw_all := fun w h => ⟨h, good_of_word (List.mem_filter.mp h).2⟩
/-- a class's field words, by their places -/
theorem lw_in (ws : List Cond) (ps : List Nat) (hp : ws = ps.filterMap (fun i => lw_tbl[i]?)) (hg : ws.all goodWord = true) : ∀ w ∈ ws, w ∈ lw_all := by
  intro w h
  have h1 := List.all_eq_true.mp hg w h
  rw [hp] at h
  obtain ⟨i, -, hi⟩ := List.mem_filterMap.mp h
  exact lw_w i hi h1
/-- the words of a contract for the method y with code b, L locals, answer r -/
abbrev ws_ (y : MethodName) (b : ByteArray) (L : Nat) (r : Option FieldType) : List Cond := Cond.code y b L r :: lw_all
theorem lw_meth {y : MethodName} {b : ByteArray} {L : Nat} {r : Option FieldType} (h : Cond.code y b L r ∈ lw_all) : GoodIn lw_all (ws_ y b L r) := by
  intro w hw
  rcases List.mem_cons.mp hw with e | e
  · rw [e]
    exact lw_self _ h
  · exact lw_self _ e
theorem lw_app {a c : List Cond} (ha : ∀ w ∈ a, w ∈ lw_all) (hc : GoodIn lw_all c) : GoodIn lw_all (a ++ c) := by
  intro w hw
  rcases List.mem_append.mp hw with e | e
  · exact lw_self w (ha w e)
  · exact hc w e
/-- what a call through an object asks: cwV n hts (lw_V ..) -/
theorem lw_V {own : String} {idx : Nat} {C : String} {y : MethodName} {b : ByteArray} {L : Nat} {r : Option FieldType} (h1 : Cond.methodLink own idx y ∈ lw_all) (h2 : Cond.instanceMethod y ∈ lw_all) (h3 : Cond.selects C y y ∈ lw_all) (h4 : Cond.initialized C ∈ lw_all) (h5 : Cond.code y b L r ∈ lw_all) : GoodIn lw_all (wsV own idx C y (ws_ y b L r)) := by
  refine lw_app ?_ (lw_meth h5)
  intro w hw
  simp only [List.mem_cons, List.not_mem_nil, or_false] at hw
  rcases hw with e | e | e | e
  · rw [e]; exact h1
  · rw [e]; exact h2
  · rw [e]; exact h3
  · rw [e]; exact h4
/-- what a static call asks: va_cwS n hts (lw_S ..) -/
theorem lw_S {own : String} {idx : Nat} {y : MethodName} {b : ByteArray} {L : Nat} {r : Option FieldType} (h1 : Cond.methodLink own idx y ∈ lw_all) (h2 : Cond.static y ∈ lw_all) (h3 : Cond.initialized y.cls ∈ lw_all) (h4 : Cond.code y b L r ∈ lw_all) : GoodIn lw_all (va_wsS own idx y (ws_ y b L r)) := by
  refine lw_app ?_ (lw_meth h4)
  intro w hw
  simp only [List.mem_cons, List.not_mem_nil, or_false] at hw
  rcases hw with e | e | e
  · rw [e]; exact h1
  · rw [e]; exact h2
  · rw [e]; exact h3
/-- the words of a contract for a method WITH HANDLERS (hh: its table) -/
abbrev wsW_ (y : MethodName) (b : ByteArray) (L : Nat) (r : Option FieldType) (hh : List (Nat × Nat × Nat × Nat)) : List Cond := Cond.codeWith y b L r hh :: lw_all
theorem lw_methW {y : MethodName} {b : ByteArray} {L : Nat} {r : Option FieldType} {hh : List (Nat × Nat × Nat × Nat)} (h : Cond.codeWith y b L r hh ∈ lw_all) : GoodIn lw_all (wsW_ y b L r hh) := by
  intro w hw
  rcases List.mem_cons.mp hw with e | e
  · rw [e]
    exact lw_self _ h
  · exact lw_self _ e
/-- any list of words by their places (lw_in), good -/
theorem lw_good {ws : List Cond} (h : ∀ w ∈ ws, w ∈ lw_all) : GoodIn lw_all ws := fun w hw => lw_self w (h w hw)
/-- what a call of a method with handlers asks: vx_cwVW n hts (lw_VW ..), vx_cwSW n hts (lw_SW ..) -/
theorem lw_VW {own : String} {idx : Nat} {C : String} {y : MethodName} {b : ByteArray} {L : Nat} {r : Option FieldType} {hh : List (Nat × Nat × Nat × Nat)} (h1 : Cond.methodLink own idx y ∈ lw_all) (h2 : Cond.instanceMethod y ∈ lw_all) (h3 : Cond.selects C y y ∈ lw_all) (h4 : Cond.initialized C ∈ lw_all) (h5 : Cond.codeWith y b L r hh ∈ lw_all) : GoodIn lw_all (wsV own idx C y (wsW_ y b L r hh)) := by
  refine lw_app ?_ (lw_methW h5)
  intro w hw
  simp only [List.mem_cons, List.not_mem_nil, or_false] at hw
  rcases hw with e | e | e | e
  · rw [e]; exact h1
  · rw [e]; exact h2
  · rw [e]; exact h3
  · rw [e]; exact h4
theorem lw_SW {own : String} {idx : Nat} {y : MethodName} {b : ByteArray} {L : Nat} {r : Option FieldType} {hh : List (Nat × Nat × Nat × Nat)} (h1 : Cond.methodLink own idx y ∈ lw_all) (h2 : Cond.static y ∈ lw_all) (h3 : Cond.initialized y.cls ∈ lw_all) (h4 : Cond.codeWith y b L r hh ∈ lw_all) : GoodIn lw_all (va_wsS own idx y (wsW_ y b L r hh)) := by
  refine lw_app ?_ (lw_methW h4)
  intro w hw
  simp only [List.mem_cons, List.not_mem_nil, or_false] at hw
  rcases hw with e | e | e
  · rw [e]; exact h1
  · rw [e]; exact h2
  · rw [e]; exact h3
/-- a word by its place in its run of the tables -/
theorem lw_at {r : List Cond} (hr : ∀ w ∈ r, w ∈ lw_tbl) {w : Cond} (i : Nat) (h : r[i]? = some w) : w ∈ lw_tbl := hr w (List.mem_of_getElem? h)
theorem lw_g {w : Cond} (h : w ∈ lw_tbl) (g : goodWord w = true) : w ∈ lw_all := List.mem_filter.mpr ⟨h, g⟩
theorem lw_ms : ∀ w ∈ k2_sels lw_privs, w ∈ lw_tbl := fun w h => show w ∈ k2_sels lw_privs ++ tables_1 from List.mem_append_left _ h
theorem lw_m1 : ∀ w ∈ tables_1_1, w ∈ lw_tbl := fun w h => show w ∈ k2_sels lw_privs ++ tables_1 from List.mem_append_right (k2_sels lw_privs) (show w ∈ tables_1 from List.mem_append_left _ h)
theorem lw_m2 : ∀ w ∈ tables_1_2, w ∈ lw_tbl := fun w h => show w ∈ k2_sels lw_privs ++ tables_1 from List.mem_append_right (k2_sels lw_privs) (show w ∈ tables_1 from List.mem_append_right _ (List.mem_append_left _ h))
theorem lw_m3 : ∀ w ∈ tables_1_3, w ∈ lw_tbl := fun w h => show w ∈ k2_sels lw_privs ++ tables_1 from List.mem_append_right (k2_sels lw_privs) (show w ∈ tables_1 from List.mem_append_right _ (List.mem_append_right _ (List.mem_append_left _ h)))
theorem lw_m4 : ∀ w ∈ tables_1_4, w ∈ lw_tbl := fun w h => show w ∈ k2_sels lw_privs ++ tables_1 from List.mem_append_right (k2_sels lw_privs) (show w ∈ tables_1 from List.mem_append_right _ (List.mem_append_right _ (List.mem_append_right _ (List.mem_append_left _ h))))
theorem lw_m5 : ∀ w ∈ tables_1_5, w ∈ lw_tbl := fun w h => show w ∈ k2_sels lw_privs ++ tables_1 from List.mem_append_right (k2_sels lw_privs) (show w ∈ tables_1 from List.mem_append_right _ (List.mem_append_right _ (List.mem_append_right _ (List.mem_append_right _ (List.mem_append_left _ h)))))
theorem lw_m6 : ∀ w ∈ tables_1_6, w ∈ lw_tbl := fun w h => show w ∈ k2_sels lw_privs ++ tables_1 from List.mem_append_right (k2_sels lw_privs) (show w ∈ tables_1 from List.mem_append_right _ (List.mem_append_right _ (List.mem_append_right _ (List.mem_append_right _ (List.mem_append_right _ (List.mem_append_left _ h))))))
theorem lw_m7 : ∀ w ∈ tables_1_7, w ∈ lw_tbl := fun w h => show w ∈ k2_sels lw_privs ++ tables_1 from List.mem_append_right (k2_sels lw_privs) (show w ∈ tables_1 from List.mem_append_right _ (List.mem_append_right _ (List.mem_append_right _ (List.mem_append_right _ (List.mem_append_right _ (List.mem_append_right _ h))))))
theorem qs0 : (Cond.selects "BeforeTheEnd" ⟨"BeforeTheEnd", "feedIt", "(IJ)I"⟩ ⟨"BeforeTheEnd", "feedIt", "(IJ)I"⟩) ∈ lw_all := lw_g (lw_at lw_ms 0 rfl) rfl
theorem qs1 : (Cond.selects "java/lang/Throwable" ⟨"java/lang/Throwable", "fillInStackTrace", "(I)Ljava/lang/Throwable;"⟩ ⟨"java/lang/Throwable", "fillInStackTrace", "(I)Ljava/lang/Throwable;"⟩) ∈ lw_all := lw_g (lw_at lw_ms 1 rfl) rfl
theorem qs2 : (Cond.selects "BeforeTheEnd" ⟨"BeforeTheEnd", "refuse", "(I)I"⟩ ⟨"BeforeTheEnd", "refuse", "(I)I"⟩) ∈ lw_all := lw_g (lw_at lw_ms 2 rfl) rfl
theorem qs3 : (Cond.selects "BeforeTheEnd" ⟨"BeforeTheEnd", "act", "(IIII)I"⟩ ⟨"BeforeTheEnd", "act", "(IIII)I"⟩) ∈ lw_all := lw_g (lw_at lw_ms 3 rfl) rfl
theorem qs4 : (Cond.selects "BeforeTheEnd" ⟨"BeforeTheEnd", "doIt", "(IIII)I"⟩ ⟨"BeforeTheEnd", "doIt", "(IIII)I"⟩) ∈ lw_all := lw_g (lw_at lw_ms 4 rfl) rfl
theorem qs5 : (Cond.selects "BeforeTheEnd" ⟨"BeforeTheEnd", "ofQuiz", "(III)I"⟩ ⟨"BeforeTheEnd", "ofQuiz", "(III)I"⟩) ∈ lw_all := lw_g (lw_at lw_ms 5 rfl) rfl
theorem qs6 : (Cond.selects "BeforeTheEnd" ⟨"BeforeTheEnd", "readQuiz", "()I"⟩ ⟨"BeforeTheEnd", "readQuiz", "()I"⟩) ∈ lw_all := lw_g (lw_at lw_ms 6 rfl) rfl
theorem qs7 : (Cond.selects "BeforeTheEnd$Reader" ⟨"BeforeTheEnd$Reader", "here", "()I"⟩ ⟨"BeforeTheEnd$Reader", "here", "()I"⟩) ∈ lw_all := lw_g (lw_at lw_ms 7 rfl) rfl
theorem qs8 : (Cond.selects "BeforeTheEnd$Reader" ⟨"BeforeTheEnd$Reader", "mustStand", "(Z)V"⟩ ⟨"BeforeTheEnd$Reader", "mustStand", "(Z)V"⟩) ∈ lw_all := lw_g (lw_at lw_ms 8 rfl) rfl
theorem qs9 : (Cond.selects "BeforeTheEnd$Reader" ⟨"BeforeTheEnd$Reader", "word", "(I)LBeforeTheEnd$Told;"⟩ ⟨"BeforeTheEnd$Reader", "word", "(I)LBeforeTheEnd$Told;"⟩) ∈ lw_all := lw_g (lw_at lw_ms 9 rfl) rfl
theorem qs10 : (Cond.selects "BeforeTheEnd$Reader" ⟨"BeforeTheEnd$Reader", "number", "(I)I"⟩ ⟨"BeforeTheEnd$Reader", "number", "(I)I"⟩) ∈ lw_all := lw_g (lw_at lw_ms 10 rfl) rfl
theorem qs11 : (Cond.selects "BeforeTheEnd$Reader" ⟨"BeforeTheEnd$Reader", "digit", "()I"⟩ ⟨"BeforeTheEnd$Reader", "digit", "()I"⟩) ∈ lw_all := lw_g (lw_at lw_ms 11 rfl) rfl
theorem qs12 : (Cond.selects "BeforeTheEnd$Reader" ⟨"BeforeTheEnd$Reader", "take", "(I)V"⟩ ⟨"BeforeTheEnd$Reader", "take", "(I)V"⟩) ∈ lw_all := lw_g (lw_at lw_ms 12 rfl) rfl
theorem qs13 : (Cond.selects "BeforeTheEnd$Reader" ⟨"BeforeTheEnd$Reader", "player", "(I)LBeforeTheEnd$Told;"⟩ ⟨"BeforeTheEnd$Reader", "player", "(I)LBeforeTheEnd$Told;"⟩) ∈ lw_all := lw_g (lw_at lw_ms 13 rfl) rfl
theorem qs14 : (Cond.selects "BeforeTheEnd" ⟨"BeforeTheEnd", "wordTold", "(II)I"⟩ ⟨"BeforeTheEnd", "wordTold", "(II)I"⟩) ∈ lw_all := lw_g (lw_at lw_ms 14 rfl) rfl
theorem qs15 : (Cond.selects "BeforeTheEnd" ⟨"BeforeTheEnd", "mustBeWord", "(I)V"⟩ ⟨"BeforeTheEnd", "mustBeWord", "(I)V"⟩) ∈ lw_all := lw_g (lw_at lw_ms 15 rfl) rfl
theorem qs16 : (Cond.selects "BeforeTheEnd" ⟨"BeforeTheEnd", "playerTold", "(II)I"⟩ ⟨"BeforeTheEnd", "playerTold", "(II)I"⟩) ∈ lw_all := lw_g (lw_at lw_ms 16 rfl) rfl
theorem qs17 : (Cond.selects "BeforeTheEnd" ⟨"BeforeTheEnd", "mustBePlayer", "(I)V"⟩ ⟨"BeforeTheEnd", "mustBePlayer", "(I)V"⟩) ∈ lw_all := lw_g (lw_at lw_ms 17 rfl) rfl
theorem qs18 : (Cond.selects "BeforeTheEnd" ⟨"BeforeTheEnd", "mustBeWhole", "()V"⟩ ⟨"BeforeTheEnd", "mustBeWhole", "()V"⟩) ∈ lw_all := lw_g (lw_at lw_ms 18 rfl) rfl
theorem qs19 : (Cond.selects "BeforeTheEnd" ⟨"BeforeTheEnd", "guessOf", "(II)I"⟩ ⟨"BeforeTheEnd", "guessOf", "(II)I"⟩) ∈ lw_all := lw_g (lw_at lw_ms 19 rfl) rfl
theorem qs20 : (Cond.selects "BeforeTheEnd$Tree" ⟨"BeforeTheEnd$Tree", "findUnits", "()V"⟩ ⟨"BeforeTheEnd$Tree", "findUnits", "()V"⟩) ∈ lw_all := lw_g (lw_at lw_ms 20 rfl) rfl
theorem qs21 : (Cond.selects "BeforeTheEnd$Tree" ⟨"BeforeTheEnd$Tree", "sumOf", "(IZ)J"⟩ ⟨"BeforeTheEnd$Tree", "sumOf", "(IZ)J"⟩) ∈ lw_all := lw_g (lw_at lw_ms 21 rfl) rfl
theorem qs22 : (Cond.selects "BeforeTheEnd" ⟨"BeforeTheEnd", "pointsTold", "(II)I"⟩ ⟨"BeforeTheEnd", "pointsTold", "(II)I"⟩) ∈ lw_all := lw_g (lw_at lw_ms 22 rfl) rfl
theorem qs23 : (Cond.selects "BeforeTheEnd" ⟨"BeforeTheEnd", "setTold", "(II)I"⟩ ⟨"BeforeTheEnd", "setTold", "(II)I"⟩) ∈ lw_all := lw_g (lw_at lw_ms 23 rfl) rfl
theorem qs24 : (Cond.selects "BeforeTheEnd" ⟨"BeforeTheEnd", "toldAt", "(I)LBeforeTheEnd$ToldPlayer;"⟩ ⟨"BeforeTheEnd", "toldAt", "(I)LBeforeTheEnd$ToldPlayer;"⟩) ∈ lw_all := lw_g (lw_at lw_ms 24 rfl) rfl
theorem qs25 : (Cond.selects "BeforeTheEnd" ⟨"BeforeTheEnd", "doesPress", "(LBeforeTheEnd$Player;IZ)Z"⟩ ⟨"BeforeTheEnd", "doesPress", "(LBeforeTheEnd$Player;IZ)Z"⟩) ∈ lw_all := lw_g (lw_at lw_ms 25 rfl) rfl
theorem qs26 : (Cond.selects "BeforeTheEnd" ⟨"BeforeTheEnd", "findValues", "(LBeforeTheEnd$Player;)I"⟩ ⟨"BeforeTheEnd", "findValues", "(LBeforeTheEnd$Player;)I"⟩) ∈ lw_all := lw_g (lw_at lw_ms 26 rfl) rfl
theorem qs27 : (Cond.selects "BeforeTheEnd" ⟨"BeforeTheEnd", "pressWorth", "(LBeforeTheEnd$Player;II)J"⟩ ⟨"BeforeTheEnd", "pressWorth", "(LBeforeTheEnd$Player;II)J"⟩) ∈ lw_all := lw_g (lw_at lw_ms 27 rfl) rfl
theorem qs28 : (Cond.selects "BeforeTheEnd" ⟨"BeforeTheEnd", "ofGames", "(IIII)I"⟩ ⟨"BeforeTheEnd", "ofGames", "(IIII)I"⟩) ∈ lw_all := lw_g (lw_at lw_ms 28 rfl) rfl
theorem qs29 : (Cond.selects "BeforeTheEnd" ⟨"BeforeTheEnd", "runTold", "(II)I"⟩ ⟨"BeforeTheEnd", "runTold", "(II)I"⟩) ∈ lw_all := lw_g (lw_at lw_ms 29 rfl) rfl
theorem qs30 : (Cond.selects "BeforeTheEnd" ⟨"BeforeTheEnd", "runTo", "(I)V"⟩ ⟨"BeforeTheEnd", "runTo", "(I)V"⟩) ∈ lw_all := lw_g (lw_at lw_ms 30 rfl) rfl
theorem qs31 : (Cond.selects "BeforeTheEnd" ⟨"BeforeTheEnd", "quickest", "(I)I"⟩ ⟨"BeforeTheEnd", "quickest", "(I)I"⟩) ∈ lw_all := lw_g (lw_at lw_ms 31 rfl) rfl
theorem qs32 : (Cond.selects "BeforeTheEnd" ⟨"BeforeTheEnd", "replyOf", "(II)I"⟩ ⟨"BeforeTheEnd", "replyOf", "(II)I"⟩) ∈ lw_all := lw_g (lw_at lw_ms 32 rfl) rfl
theorem qs33 : (Cond.selects "BeforeTheEnd" ⟨"BeforeTheEnd", "runAll", "()V"⟩ ⟨"BeforeTheEnd", "runAll", "()V"⟩) ∈ lw_all := lw_g (lw_at lw_ms 33 rfl) rfl
theorem qs34 : (Cond.selects "BeforeTheEnd" ⟨"BeforeTheEnd", "restTold", "(II)I"⟩ ⟨"BeforeTheEnd", "restTold", "(II)I"⟩) ∈ lw_all := lw_g (lw_at lw_ms 34 rfl) rfl
theorem qs35 : (Cond.selects "BeforeTheEnd" ⟨"BeforeTheEnd", "restOf", "(II)I"⟩ ⟨"BeforeTheEnd", "restOf", "(II)I"⟩) ∈ lw_all := lw_g (lw_at lw_ms 35 rfl) rfl
theorem qs36 : (Cond.selects "BeforeTheEnd" ⟨"BeforeTheEnd", "wrongFor", "(I)I"⟩ ⟨"BeforeTheEnd", "wrongFor", "(I)I"⟩) ∈ lw_all := lw_g (lw_at lw_ms 36 rfl) rfl
theorem qs37 : (Cond.selects "BeforeTheEnd" ⟨"BeforeTheEnd", "earlyFor", "(I)I"⟩ ⟨"BeforeTheEnd", "earlyFor", "(I)I"⟩) ∈ lw_all := lw_g (lw_at lw_ms 37 rfl) rfl
theorem qs38 : (Cond.selects "BeforeTheEnd" ⟨"BeforeTheEnd", "silentTold", "(II)I"⟩ ⟨"BeforeTheEnd", "silentTold", "(II)I"⟩) ∈ lw_all := lw_g (lw_at lw_ms 38 rfl) rfl
theorem qs39 : (Cond.selects "BeforeTheEnd" ⟨"BeforeTheEnd", "silentOf", "(LBeforeTheEnd$Sure;I)I"⟩ ⟨"BeforeTheEnd", "silentOf", "(LBeforeTheEnd$Sure;I)I"⟩) ∈ lw_all := lw_g (lw_at lw_ms 39 rfl) rfl
theorem qs40 : (Cond.selects "BeforeTheEnd" ⟨"BeforeTheEnd", "partnersTold", "(III)I"⟩ ⟨"BeforeTheEnd", "partnersTold", "(III)I"⟩) ∈ lw_all := lw_g (lw_at lw_ms 40 rfl) rfl
theorem qs41 : (Cond.selects "BeforeTheEnd" ⟨"BeforeTheEnd", "partnerFor", "(III)I"⟩ ⟨"BeforeTheEnd", "partnerFor", "(III)I"⟩) ∈ lw_all := lw_g (lw_at lw_ms 41 rfl) rfl
theorem qs42 : (Cond.selects "BeforeTheEnd" ⟨"BeforeTheEnd", "ofRest", "(IIII)I"⟩ ⟨"BeforeTheEnd", "ofRest", "(IIII)I"⟩) ∈ lw_all := lw_g (lw_at lw_ms 42 rfl) rfl
theorem qs43 : (Cond.selects "BeforeTheEnd" ⟨"BeforeTheEnd", "factIt", "(I)I"⟩ ⟨"BeforeTheEnd", "factIt", "(I)I"⟩) ∈ lw_all := lw_g (lw_at lw_ms 43 rfl) rfl
theorem qs44 : (Cond.selects "BeforeTheEnd" ⟨"BeforeTheEnd", "hadTold", "(II)I"⟩ ⟨"BeforeTheEnd", "hadTold", "(II)I"⟩) ∈ lw_all := lw_g (lw_at lw_ms 44 rfl) rfl
theorem qs45 : (Cond.selects "BeforeTheEnd" ⟨"BeforeTheEnd", "hadBy", "([II)I"⟩ ⟨"BeforeTheEnd", "hadBy", "([II)I"⟩) ∈ lw_all := lw_g (lw_at lw_ms 45 rfl) rfl
theorem qs46 : (Cond.selects "BeforeTheEnd" ⟨"BeforeTheEnd", "orderTold", "(IZ)I"⟩ ⟨"BeforeTheEnd", "orderTold", "(IZ)I"⟩) ∈ lw_all := lw_g (lw_at lw_ms 46 rfl) rfl
theorem qs47 : (Cond.selects "BeforeTheEnd" ⟨"BeforeTheEnd", "seek", "(IIZ)V"⟩ ⟨"BeforeTheEnd", "seek", "(IIZ)V"⟩) ∈ lw_all := lw_g (lw_at lw_ms 47 rfl) rfl
theorem qs48 : (Cond.selects "BeforeTheEnd" ⟨"BeforeTheEnd", "eveningTold", "(III)I"⟩ ⟨"BeforeTheEnd", "eveningTold", "(III)I"⟩) ∈ lw_all := lw_g (lw_at lw_ms 48 rfl) rfl
theorem qs49 : (Cond.selects "BeforeTheEnd" ⟨"BeforeTheEnd", "eveningOf", "(III)I"⟩ ⟨"BeforeTheEnd", "eveningOf", "(III)I"⟩) ∈ lw_all := lw_g (lw_at lw_ms 49 rfl) rfl
theorem qs50 : (Cond.selects "BeforeTheEnd" ⟨"BeforeTheEnd", "drawnEnd", "()I"⟩ ⟨"BeforeTheEnd", "drawnEnd", "()I"⟩) ∈ lw_all := lw_g (lw_at lw_ms 50 rfl) rfl
theorem qs51 : (Cond.selects "BeforeTheEnd" ⟨"BeforeTheEnd", "draw", "(I)I"⟩ ⟨"BeforeTheEnd", "draw", "(I)I"⟩) ∈ lw_all := lw_g (lw_at lw_ms 51 rfl) rfl
theorem qs52 : (Cond.selects "BeforeTheEnd" ⟨"BeforeTheEnd", "judgeRow", "(I)I"⟩ ⟨"BeforeTheEnd", "judgeRow", "(I)I"⟩) ∈ lw_all := lw_g (lw_at lw_ms 52 rfl) rfl
theorem qs53 : (Cond.selects "BeforeTheEnd" ⟨"BeforeTheEnd", "takeImage", "()I"⟩ ⟨"BeforeTheEnd", "takeImage", "()I"⟩) ∈ lw_all := lw_g (lw_at lw_ms 53 rfl) rfl
theorem qs54 : (Cond.selects "BeforeTheEnd" ⟨"BeforeTheEnd", "goOn", "()I"⟩ ⟨"BeforeTheEnd", "goOn", "()I"⟩) ∈ lw_all := lw_g (lw_at lw_ms 54 rfl) rfl
theorem qs55 : (Cond.selects "BeforeTheEnd" ⟨"BeforeTheEnd", "chanceTold", "(III)J"⟩ ⟨"BeforeTheEnd", "chanceTold", "(III)J"⟩) ∈ lw_all := lw_g (lw_at lw_ms 55 rfl) rfl
theorem qs56 : (Cond.selects "BeforeTheEnd" ⟨"BeforeTheEnd", "allTold", "(III)J"⟩ ⟨"BeforeTheEnd", "allTold", "(III)J"⟩) ∈ lw_all := lw_g (lw_at lw_ms 56 rfl) rfl
theorem qs57 : (Cond.selects "BeforeTheEnd" ⟨"BeforeTheEnd", "valueTold", "(III)J"⟩ ⟨"BeforeTheEnd", "valueTold", "(III)J"⟩) ∈ lw_all := lw_g (lw_at lw_ms 57 rfl) rfl
theorem qs58 : (Cond.selects "BeforeTheEnd" ⟨"BeforeTheEnd", "actFar", "(IIII)I"⟩ ⟨"BeforeTheEnd", "actFar", "(IIII)I"⟩) ∈ lw_all := lw_g (lw_at lw_ms 58 rfl) rfl
theorem qs59 : (Cond.selects "BeforeTheEndModel" ⟨"BeforeTheEndModel", "no", "(I)I"⟩ ⟨"BeforeTheEndModel", "no", "(I)I"⟩) ∈ lw_all := lw_g (lw_at lw_ms 59 rfl) rfl
theorem qs60 : (Cond.selects "BeforeTheEndModel" ⟨"BeforeTheEndModel", "statement", "()Z"⟩ ⟨"BeforeTheEndModel", "statement", "()Z"⟩) ∈ lw_all := lw_g (lw_at lw_ms 60 rfl) rfl
theorem qs61 : (Cond.selects "BeforeTheEndModel" ⟨"BeforeTheEndModel", "sign", "()I"⟩ ⟨"BeforeTheEndModel", "sign", "()I"⟩) ∈ lw_all := lw_g (lw_at lw_ms 61 rfl) rfl
theorem qs62 : (Cond.selects "BeforeTheEndModel" ⟨"BeforeTheEndModel", "readsWord", "(I)Z"⟩ ⟨"BeforeTheEndModel", "readsWord", "(I)Z"⟩) ∈ lw_all := lw_g (lw_at lw_ms 62 rfl) rfl
theorem qs63 : (Cond.selects "BeforeTheEndModel" ⟨"BeforeTheEndModel", "number", "(I)I"⟩ ⟨"BeforeTheEndModel", "number", "(I)I"⟩) ∈ lw_all := lw_g (lw_at lw_ms 63 rfl) rfl
theorem qs64 : (Cond.selects "BeforeTheEndModel" ⟨"BeforeTheEndModel", "takes", "(I)Z"⟩ ⟨"BeforeTheEndModel", "takes", "(I)Z"⟩) ∈ lw_all := lw_g (lw_at lw_ms 64 rfl) rfl
theorem qs65 : (Cond.selects "BeforeTheEndModel" ⟨"BeforeTheEndModel", "readsPlayer", "(I)Z"⟩ ⟨"BeforeTheEndModel", "readsPlayer", "(I)Z"⟩) ∈ lw_all := lw_g (lw_at lw_ms 65 rfl) rfl
theorem qs66 : (Cond.selects "BeforeTheEndModel" ⟨"BeforeTheEndModel", "readsKnown", "(I)Z"⟩ ⟨"BeforeTheEndModel", "readsKnown", "(I)Z"⟩) ∈ lw_all := lw_g (lw_at lw_ms 66 rfl) rfl
theorem qs67 : (Cond.selects "BeforeTheEndModel" ⟨"BeforeTheEndModel", "comes", "(I)Z"⟩ ⟨"BeforeTheEndModel", "comes", "(I)Z"⟩) ∈ lw_all := lw_g (lw_at lw_ms 67 rfl) rfl
theorem qs68 : (Cond.selects "BeforeTheEndModel" ⟨"BeforeTheEndModel", "isWord", "(I)Z"⟩ ⟨"BeforeTheEndModel", "isWord", "(I)Z"⟩) ∈ lw_all := lw_g (lw_at lw_ms 68 rfl) rfl
theorem qs69 : (Cond.selects "BeforeTheEndModel" ⟨"BeforeTheEndModel", "comesWord", "(III)V"⟩ ⟨"BeforeTheEndModel", "comesWord", "(III)V"⟩) ∈ lw_all := lw_g (lw_at lw_ms 69 rfl) rfl
theorem qs70 : (Cond.selects "BeforeTheEndModel" ⟨"BeforeTheEndModel", "nexts", "(I)I"⟩ ⟨"BeforeTheEndModel", "nexts", "(I)I"⟩) ∈ lw_all := lw_g (lw_at lw_ms 70 rfl) rfl
theorem qs71 : (Cond.selects "BeforeTheEndModel" ⟨"BeforeTheEndModel", "isPlayer", "(I)Z"⟩ ⟨"BeforeTheEndModel", "isPlayer", "(I)Z"⟩) ∈ lw_all := lw_g (lw_at lw_ms 71 rfl) rfl
theorem qs72 : (Cond.selects "BeforeTheEndModel" ⟨"BeforeTheEndModel", "isWhole", "()Z"⟩ ⟨"BeforeTheEndModel", "isWhole", "()Z"⟩) ∈ lw_all := lw_g (lw_at lw_ms 72 rfl) rfl
theorem qs73 : (Cond.selects "BeforeTheEndModel" ⟨"BeforeTheEndModel", "isBehind", "(II)Z"⟩ ⟨"BeforeTheEndModel", "isBehind", "(II)Z"⟩) ∈ lw_all := lw_g (lw_at lw_ms 73 rfl) rfl
theorem qs74 : (Cond.selects "BeforeTheEndModel" ⟨"BeforeTheEndModel", "noLong", "(I)J"⟩ ⟨"BeforeTheEndModel", "noLong", "(I)J"⟩) ∈ lw_all := lw_g (lw_at lw_ms 74 rfl) rfl
theorem qs75 : (Cond.selects "BeforeTheEndModel" ⟨"BeforeTheEndModel", "findShares", "()V"⟩ ⟨"BeforeTheEndModel", "findShares", "()V"⟩) ∈ lw_all := lw_g (lw_at lw_ms 75 rfl) rfl
theorem qs76 : (Cond.selects "BeforeTheEndModel" ⟨"BeforeTheEndModel", "sumOf", "(I)I"⟩ ⟨"BeforeTheEndModel", "sumOf", "(I)I"⟩) ∈ lw_all := lw_g (lw_at lw_ms 76 rfl) rfl
theorem qs77 : (Cond.selects "BeforeTheEndModel" ⟨"BeforeTheEndModel", "commonOf", "(I)I"⟩ ⟨"BeforeTheEndModel", "commonOf", "(I)I"⟩) ∈ lw_all := lw_g (lw_at lw_ms 77 rfl) rfl
theorem qs78 : (Cond.selects "BeforeTheEndModel" ⟨"BeforeTheEndModel", "guessOf", "(II)I"⟩ ⟨"BeforeTheEndModel", "guessOf", "(II)I"⟩) ∈ lw_all := lw_g (lw_at lw_ms 78 rfl) rfl
theorem qs79 : (Cond.selects "BeforeTheEndModel" ⟨"BeforeTheEndModel", "finds", "()V"⟩ ⟨"BeforeTheEndModel", "finds", "()V"⟩) ∈ lw_all := lw_g (lw_at lw_ms 79 rfl) rfl
theorem qs80 : (Cond.selects "BeforeTheEndModel" ⟨"BeforeTheEndModel", "findPresses", "()V"⟩ ⟨"BeforeTheEndModel", "findPresses", "()V"⟩) ∈ lw_all := lw_g (lw_at lw_ms 80 rfl) rfl
theorem qs81 : (Cond.selects "BeforeTheEndModel" ⟨"BeforeTheEndModel", "findAlone", "(I)V"⟩ ⟨"BeforeTheEndModel", "findAlone", "(I)V"⟩) ∈ lw_all := lw_g (lw_at lw_ms 81 rfl) rfl
theorem qs82 : (Cond.selects "BeforeTheEndModel" ⟨"BeforeTheEndModel", "pressWorth", "(II)J"⟩ ⟨"BeforeTheEndModel", "pressWorth", "(II)J"⟩) ∈ lw_all := lw_g (lw_at lw_ms 82 rfl) rfl
theorem qs83 : (Cond.selects "BeforeTheEndModel" ⟨"BeforeTheEndModel", "sureOf", "(I)I"⟩ ⟨"BeforeTheEndModel", "sureOf", "(I)I"⟩) ∈ lw_all := lw_g (lw_at lw_ms 83 rfl) rfl
theorem qs84 : (Cond.selects "BeforeTheEndModel" ⟨"BeforeTheEndModel", "pressing", "(II)I"⟩ ⟨"BeforeTheEndModel", "pressing", "(II)I"⟩) ∈ lw_all := lw_g (lw_at lw_ms 84 rfl) rfl
theorem qs85 : (Cond.selects "BeforeTheEndModel" ⟨"BeforeTheEndModel", "mayPress", "(III)Z"⟩ ⟨"BeforeTheEndModel", "mayPress", "(III)Z"⟩) ∈ lw_all := lw_g (lw_at lw_ms 85 rfl) rfl
theorem qs86 : (Cond.selects "BeforeTheEndModel" ⟨"BeforeTheEndModel", "isSure", "(III)Z"⟩ ⟨"BeforeTheEndModel", "isSure", "(III)Z"⟩) ∈ lw_all := lw_g (lw_at lw_ms 86 rfl) rfl
theorem qs87 : (Cond.selects "BeforeTheEndModel" ⟨"BeforeTheEndModel", "runs", "(I)V"⟩ ⟨"BeforeTheEndModel", "runs", "(I)V"⟩) ∈ lw_all := lw_g (lw_at lw_ms 87 rfl) rfl
theorem qs88 : (Cond.selects "BeforeTheEndModel" ⟨"BeforeTheEndModel", "answers", "(I)I"⟩ ⟨"BeforeTheEndModel", "answers", "(I)I"⟩) ∈ lw_all := lw_g (lw_at lw_ms 88 rfl) rfl
theorem qs89 : (Cond.selects "BeforeTheEndModel" ⟨"BeforeTheEndModel", "isOver", "(III)Z"⟩ ⟨"BeforeTheEndModel", "isOver", "(III)Z"⟩) ∈ lw_all := lw_g (lw_at lw_ms 89 rfl) rfl
theorem qs90 : (Cond.selects "BeforeTheEndModel" ⟨"BeforeTheEndModel", "inAll", "(III)J"⟩ ⟨"BeforeTheEndModel", "inAll", "(III)J"⟩) ∈ lw_all := lw_g (lw_at lw_ms 90 rfl) rfl
theorem qs91 : (Cond.selects "BeforeTheEndModel" ⟨"BeforeTheEndModel", "sumOver", "(II)J"⟩ ⟨"BeforeTheEndModel", "sumOver", "(II)J"⟩) ∈ lw_all := lw_g (lw_at lw_ms 91 rfl) rfl
theorem qs92 : (Cond.selects "BeforeTheEndModel" ⟨"BeforeTheEndModel", "replyOf", "(II)I"⟩ ⟨"BeforeTheEndModel", "replyOf", "(II)I"⟩) ∈ lw_all := lw_g (lw_at lw_ms 92 rfl) rfl
theorem qs93 : (Cond.selects "BeforeTheEndModel" ⟨"BeforeTheEndModel", "tries", "(II)V"⟩ ⟨"BeforeTheEndModel", "tries", "(II)V"⟩) ∈ lw_all := lw_g (lw_at lw_ms 93 rfl) rfl
theorem qs94 : (Cond.selects "BeforeTheEndModel" ⟨"BeforeTheEndModel", "takesReply", "(I)Z"⟩ ⟨"BeforeTheEndModel", "takesReply", "(I)Z"⟩) ∈ lw_all := lw_g (lw_at lw_ms 94 rfl) rfl
theorem qs95 : (Cond.selects "BeforeTheEndModel" ⟨"BeforeTheEndModel", "hadOf", "(I)I"⟩ ⟨"BeforeTheEndModel", "hadOf", "(I)I"⟩) ∈ lw_all := lw_g (lw_at lw_ms 95 rfl) rfl
theorem qs96 : (Cond.selects "BeforeTheEndModel" ⟨"BeforeTheEndModel", "best", "(ZI)I"⟩ ⟨"BeforeTheEndModel", "best", "(ZI)I"⟩) ∈ lw_all := lw_g (lw_at lw_ms 96 rfl) rfl
theorem qs97 : (Cond.selects "BeforeTheEndModel" ⟨"BeforeTheEndModel", "ordered", "(I)V"⟩ ⟨"BeforeTheEndModel", "ordered", "(I)V"⟩) ∈ lw_all := lw_g (lw_at lw_ms 97 rfl) rfl
theorem qs98 : (Cond.selects "BeforeTheEndModel" ⟨"BeforeTheEndModel", "lower", "(I)I"⟩ ⟨"BeforeTheEndModel", "lower", "(I)I"⟩) ∈ lw_all := lw_g (lw_at lw_ms 98 rfl) rfl
theorem qs99 : (Cond.selects "BeforeTheEndModel" ⟨"BeforeTheEndModel", "drawn", "()I"⟩ ⟨"BeforeTheEndModel", "drawn", "()I"⟩) ∈ lw_all := lw_g (lw_at lw_ms 99 rfl) rfl
theorem qs100 : (Cond.selects "BeforeTheEndModel" ⟨"BeforeTheEndModel", "passesAll", "()V"⟩ ⟨"BeforeTheEndModel", "passesAll", "()V"⟩) ∈ lw_all := lw_g (lw_at lw_ms 100 rfl) rfl
theorem qs101 : (Cond.selects "BeforeTheEndModel" ⟨"BeforeTheEndModel", "passes", "([I)V"⟩ ⟨"BeforeTheEndModel", "passes", "([I)V"⟩) ∈ lw_all := lw_g (lw_at lw_ms 101 rfl) rfl
theorem qs102 : (Cond.selects "BeforeTheEndModel" ⟨"BeforeTheEndModel", "passOne", "(I)I"⟩ ⟨"BeforeTheEndModel", "passOne", "(I)I"⟩) ∈ lw_all := lw_g (lw_at lw_ms 102 rfl) rfl
