-- ===== PART A: goes FIRST, ahead of the names: the tables' words, and 'selects' of the private methods out of them =====
/-- a private method of a class that the tables say can be made, by its rows of tables_1 -/
def lw_okq (q : MethodName × Nat) : Prop := (q.1.cls ≠ "java/lang/invoke/MethodHandle" ∧ q.1.cls ≠ "java/lang/invoke/VarHandle") ∧ Cond.instantiable q.1.cls q.2 ∈ tables_1 ∧ Cond.privateMethod q.1 ∈ tables_1 ∧ Cond.instanceMethod q.1 ∈ tables_1
set_option maxRecDepth 100000
theorem lw_t1 {w : Cond} (h : w ∈ tables_1_1) : w ∈ tables_1 := List.mem_append_left _ h
theorem lw_t2 {w : Cond} (h : w ∈ tables_1_2) : w ∈ tables_1 := List.mem_append_right _ (List.mem_append_left _ h)
theorem lw_t3 {w : Cond} (h : w ∈ tables_1_3) : w ∈ tables_1 := List.mem_append_right _ (List.mem_append_right _ (List.mem_append_left _ h))
theorem lw_t4 {w : Cond} (h : w ∈ tables_1_4) : w ∈ tables_1 := List.mem_append_right _ (List.mem_append_right _ (List.mem_append_right _ (List.mem_append_left _ h)))
theorem lw_t5 {w : Cond} (h : w ∈ tables_1_5) : w ∈ tables_1 := List.mem_append_right _ (List.mem_append_right _ (List.mem_append_right _ (List.mem_append_right _ h)))
theorem lw_p0 : lw_okq (⟨"BeatenInstead", "endOfLessons", "()I"⟩, 35) := ⟨⟨by decide +kernel, by decide +kernel⟩, lw_t1 (List.mem_of_getElem? (i := 17) rfl), lw_t1 (List.mem_of_getElem? (i := 152) rfl), lw_t1 (List.mem_of_getElem? (i := 153) rfl)⟩
theorem lw_p1 : lw_okq (⟨"BeatenInstead", "isLesson", "(I)Z"⟩, 35) := ⟨⟨by decide +kernel, by decide +kernel⟩, lw_t1 (List.mem_of_getElem? (i := 17) rfl), lw_t1 (List.mem_of_getElem? (i := 172) rfl), lw_t1 (List.mem_of_getElem? (i := 173) rfl)⟩
theorem lw_p2 : lw_okq (⟨"BeatenInstead", "tellLesson", "(II)I"⟩, 35) := ⟨⟨by decide +kernel, by decide +kernel⟩, lw_t1 (List.mem_of_getElem? (i := 17) rfl), lw_t1 (List.mem_of_getElem? (i := 176) rfl), lw_t1 (List.mem_of_getElem? (i := 177) rfl)⟩
theorem lw_p3 : lw_okq (⟨"BeatenInstead", "whoLearnt", "(I)I"⟩, 35) := ⟨⟨by decide +kernel, by decide +kernel⟩, lw_t1 (List.mem_of_getElem? (i := 17) rfl), lw_t1 (List.mem_of_getElem? (i := 180) rfl), lw_t1 (List.mem_of_getElem? (i := 181) rfl)⟩
theorem lw_p4 : lw_okq (⟨"BeatenInstead", "isThere", "()Z"⟩, 35) := ⟨⟨by decide +kernel, by decide +kernel⟩, lw_t1 (List.mem_of_getElem? (i := 17) rfl), lw_t1 (List.mem_of_getElem? (i := 191) rfl), lw_t1 (List.mem_of_getElem? (i := 192) rfl)⟩
theorem lw_p5 : lw_okq (⟨"BeatenInstead", "isPrince", "(I)Z"⟩, 35) := ⟨⟨by decide +kernel, by decide +kernel⟩, lw_t1 (List.mem_of_getElem? (i := 17) rfl), lw_t2 (List.mem_of_getElem? (i := 56) rfl), lw_t2 (List.mem_of_getElem? (i := 57) rfl)⟩
theorem lw_p6 : lw_okq (⟨"BeatenInstead", "tellPrince", "(LBeatenInstead$Prince;I)I"⟩, 35) := ⟨⟨by decide +kernel, by decide +kernel⟩, lw_t1 (List.mem_of_getElem? (i := 17) rfl), lw_t2 (List.mem_of_getElem? (i := 60) rfl), lw_t2 (List.mem_of_getElem? (i := 61) rfl)⟩
theorem lw_p7 : lw_okq (⟨"BeatenInstead", "fondOf", "(LBeatenInstead$Prince;)I"⟩, 35) := ⟨⟨by decide +kernel, by decide +kernel⟩, lw_t1 (List.mem_of_getElem? (i := 17) rfl), lw_t2 (List.mem_of_getElem? (i := 84) rfl), lw_t2 (List.mem_of_getElem? (i := 85) rfl)⟩
theorem lw_p8 : lw_okq (⟨"java/lang/Throwable", "fillInStackTrace", "(I)Ljava/lang/Throwable;"⟩, 6) := ⟨⟨by decide +kernel, by decide +kernel⟩, lw_t2 (List.mem_of_getElem? (i := 154) rfl), lw_t2 (List.mem_of_getElem? (i := 152) rfl), lw_t2 (List.mem_of_getElem? (i := 153) rfl)⟩
theorem lw_p9 : lw_okq (⟨"BeatenInstead", "tenthsOf", "(LBeatenInstead$Prince;I)I"⟩, 35) := ⟨⟨by decide +kernel, by decide +kernel⟩, lw_t1 (List.mem_of_getElem? (i := 17) rfl), lw_t2 (List.mem_of_getElem? (i := 213) rfl), lw_t2 (List.mem_of_getElem? (i := 214) rfl)⟩
theorem lw_p10 : lw_okq (⟨"BeatenInstead", "tenthsBy", "(LBeatenInstead$Prince;II)I"⟩, 35) := ⟨⟨by decide +kernel, by decide +kernel⟩, lw_t1 (List.mem_of_getElem? (i := 17) rfl), lw_t2 (List.mem_of_getElem? (i := 217) rfl), lw_t2 (List.mem_of_getElem? (i := 218) rfl)⟩
theorem lw_p11 : lw_okq (⟨"BeatenInstead", "taught", "(LBeatenInstead$Prince;IZ)V"⟩, 35) := ⟨⟨by decide +kernel, by decide +kernel⟩, lw_t1 (List.mem_of_getElem? (i := 17) rfl), lw_t2 (List.mem_of_getElem? (i := 231) rfl), lw_t2 (List.mem_of_getElem? (i := 232) rfl)⟩
theorem lw_p12 : lw_okq (⟨"BeatenInstead", "fondThen", "(II)I"⟩, 35) := ⟨⟨by decide +kernel, by decide +kernel⟩, lw_t1 (List.mem_of_getElem? (i := 17) rfl), lw_t2 (List.mem_of_getElem? (i := 235) rfl), lw_t2 (List.mem_of_getElem? (i := 236) rfl)⟩
theorem lw_p13 : lw_okq (⟨"BeatenInstead", "tellOrder", "(LBeatenInstead$Prince;I)J"⟩, 35) := ⟨⟨by decide +kernel, by decide +kernel⟩, lw_t1 (List.mem_of_getElem? (i := 17) rfl), lw_t3 (List.mem_of_getElem? (i := 7) rfl), lw_t3 (List.mem_of_getElem? (i := 8) rfl)⟩
theorem lw_p14 : lw_okq (⟨"BeatenInstead", "leftOf", "(LBeatenInstead$Prince;)I"⟩, 35) := ⟨⟨by decide +kernel, by decide +kernel⟩, lw_t1 (List.mem_of_getElem? (i := 17) rfl), lw_t3 (List.mem_of_getElem? (i := 11) rfl), lw_t3 (List.mem_of_getElem? (i := 12) rfl)⟩
theorem lw_p15 : lw_okq (⟨"BeatenInstead", "tryOrder", "(LBeatenInstead$Prince;II)V"⟩, 35) := ⟨⟨by decide +kernel, by decide +kernel⟩, lw_t1 (List.mem_of_getElem? (i := 17) rfl), lw_t3 (List.mem_of_getElem? (i := 22) rfl), lw_t3 (List.mem_of_getElem? (i := 23) rfl)⟩
def lw_privs_1 : List (MethodName × Nat) := [(⟨"BeatenInstead", "endOfLessons", "()I"⟩, 35), (⟨"BeatenInstead", "isLesson", "(I)Z"⟩, 35), (⟨"BeatenInstead", "tellLesson", "(II)I"⟩, 35), (⟨"BeatenInstead", "whoLearnt", "(I)I"⟩, 35), (⟨"BeatenInstead", "isThere", "()Z"⟩, 35), (⟨"BeatenInstead", "isPrince", "(I)Z"⟩, 35), (⟨"BeatenInstead", "tellPrince", "(LBeatenInstead$Prince;I)I"⟩, 35), (⟨"BeatenInstead", "fondOf", "(LBeatenInstead$Prince;)I"⟩, 35), (⟨"java/lang/Throwable", "fillInStackTrace", "(I)Ljava/lang/Throwable;"⟩, 6), (⟨"BeatenInstead", "tenthsOf", "(LBeatenInstead$Prince;I)I"⟩, 35), (⟨"BeatenInstead", "tenthsBy", "(LBeatenInstead$Prince;II)I"⟩, 35), (⟨"BeatenInstead", "taught", "(LBeatenInstead$Prince;IZ)V"⟩, 35), (⟨"BeatenInstead", "fondThen", "(II)I"⟩, 35), (⟨"BeatenInstead", "tellOrder", "(LBeatenInstead$Prince;I)J"⟩, 35), (⟨"BeatenInstead", "leftOf", "(LBeatenInstead$Prince;)I"⟩, 35), (⟨"BeatenInstead", "tryOrder", "(LBeatenInstead$Prince;II)V"⟩, 35)]
theorem lw_r1 : ∀ q ∈ lw_privs_1, lw_okq q := List.forall_mem_cons.mpr ⟨lw_p0, List.forall_mem_cons.mpr ⟨lw_p1, List.forall_mem_cons.mpr ⟨lw_p2, List.forall_mem_cons.mpr ⟨lw_p3, List.forall_mem_cons.mpr ⟨lw_p4, List.forall_mem_cons.mpr ⟨lw_p5, List.forall_mem_cons.mpr ⟨lw_p6, List.forall_mem_cons.mpr ⟨lw_p7, List.forall_mem_cons.mpr ⟨lw_p8, List.forall_mem_cons.mpr ⟨lw_p9, List.forall_mem_cons.mpr ⟨lw_p10, List.forall_mem_cons.mpr ⟨lw_p11, List.forall_mem_cons.mpr ⟨lw_p12, List.forall_mem_cons.mpr ⟨lw_p13, List.forall_mem_cons.mpr ⟨lw_p14, List.forall_mem_cons.mpr ⟨lw_p15, fun _ h => absurd h List.not_mem_nil⟩⟩⟩⟩⟩⟩⟩⟩⟩⟩⟩⟩⟩⟩⟩⟩
theorem lw_p16 : lw_okq (⟨"BeatenInstead", "meanFrom", "(LBeatenInstead$Prince;III)J"⟩, 35) := ⟨⟨by decide +kernel, by decide +kernel⟩, lw_t1 (List.mem_of_getElem? (i := 17) rfl), lw_t3 (List.mem_of_getElem? (i := 26) rfl), lw_t3 (List.mem_of_getElem? (i := 27) rfl)⟩
theorem lw_p17 : lw_okq (⟨"BeatenInstead", "tellMatch", "(II)I"⟩, 35) := ⟨⟨by decide +kernel, by decide +kernel⟩, lw_t1 (List.mem_of_getElem? (i := 17) rfl), lw_t3 (List.mem_of_getElem? (i := 40) rfl), lw_t3 (List.mem_of_getElem? (i := 41) rfl)⟩
theorem lw_p18 : lw_okq (⟨"BeatenInstead", "layMatch", "(I)I"⟩, 35) := ⟨⟨by decide +kernel, by decide +kernel⟩, lw_t1 (List.mem_of_getElem? (i := 17) rfl), lw_t3 (List.mem_of_getElem? (i := 44) rfl), lw_t3 (List.mem_of_getElem? (i := 45) rfl)⟩
theorem lw_p19 : lw_okq (⟨"BeatenInstead", "isMatch", "(I)Z"⟩, 35) := ⟨⟨by decide +kernel, by decide +kernel⟩, lw_t1 (List.mem_of_getElem? (i := 17) rfl), lw_t3 (List.mem_of_getElem? (i := 48) rfl), lw_t3 (List.mem_of_getElem? (i := 49) rfl)⟩
theorem lw_p20 : lw_okq (⟨"BeatenInstead", "faultsOf", "(LBeatenInstead$Prince;II)I"⟩, 35) := ⟨⟨by decide +kernel, by decide +kernel⟩, lw_t1 (List.mem_of_getElem? (i := 17) rfl), lw_t3 (List.mem_of_getElem? (i := 57) rfl), lw_t3 (List.mem_of_getElem? (i := 58) rfl)⟩
theorem lw_p21 : lw_okq (⟨"BeatenInstead", "blowsBy", "(LBeatenInstead$Prince;I)I"⟩, 35) := ⟨⟨by decide +kernel, by decide +kernel⟩, lw_t1 (List.mem_of_getElem? (i := 17) rfl), lw_t3 (List.mem_of_getElem? (i := 61) rfl), lw_t3 (List.mem_of_getElem? (i := 62) rfl)⟩
theorem lw_p22 : lw_okq (⟨"BeatenInstead", "fondnessOf", "(LBeatenInstead$Prince;)I"⟩, 35) := ⟨⟨by decide +kernel, by decide +kernel⟩, lw_t1 (List.mem_of_getElem? (i := 17) rfl), lw_t3 (List.mem_of_getElem? (i := 77) rfl), lw_t3 (List.mem_of_getElem? (i := 78) rfl)⟩
theorem lw_p23 : lw_okq (⟨"BeatenInstead", "canBe", "(LBeatenInstead$Prince;I)Z"⟩, 35) := ⟨⟨by decide +kernel, by decide +kernel⟩, lw_t1 (List.mem_of_getElem? (i := 17) rfl), lw_t3 (List.mem_of_getElem? (i := 81) rfl), lw_t3 (List.mem_of_getElem? (i := 82) rfl)⟩
theorem lw_p24 : lw_okq (⟨"BeatenInstead", "schoolsBy", "(III)I"⟩, 35) := ⟨⟨by decide +kernel, by decide +kernel⟩, lw_t1 (List.mem_of_getElem? (i := 17) rfl), lw_t3 (List.mem_of_getElem? (i := 90) rfl), lw_t3 (List.mem_of_getElem? (i := 91) rfl)⟩
theorem lw_p25 : lw_okq (⟨"BeatenInstead", "stripesAll", "()I"⟩, 35) := ⟨⟨by decide +kernel, by decide +kernel⟩, lw_t1 (List.mem_of_getElem? (i := 17) rfl), lw_t3 (List.mem_of_getElem? (i := 94) rfl), lw_t3 (List.mem_of_getElem? (i := 95) rfl)⟩
theorem lw_p26 : lw_okq (⟨"BeatenInstead", "schoolOf", "(LBeatenInstead$Prince;)V"⟩, 35) := ⟨⟨by decide +kernel, by decide +kernel⟩, lw_t1 (List.mem_of_getElem? (i := 17) rfl), lw_t3 (List.mem_of_getElem? (i := 98) rfl), lw_t3 (List.mem_of_getElem? (i := 99) rfl)⟩
theorem lw_p27 : lw_okq (⟨"BeatenInstead", "draw", "(I)I"⟩, 35) := ⟨⟨by decide +kernel, by decide +kernel⟩, lw_t1 (List.mem_of_getElem? (i := 17) rfl), lw_t3 (List.mem_of_getElem? (i := 102) rfl), lw_t3 (List.mem_of_getElem? (i := 103) rfl)⟩
theorem lw_p28 : lw_okq (⟨"BeatenInstead", "learntAll", "()I"⟩, 35) := ⟨⟨by decide +kernel, by decide +kernel⟩, lw_t1 (List.mem_of_getElem? (i := 17) rfl), lw_t3 (List.mem_of_getElem? (i := 110) rfl), lw_t3 (List.mem_of_getElem? (i := 111) rfl)⟩
theorem lw_p29 : lw_okq (⟨"BeatenInstead", "note", "(J)V"⟩, 35) := ⟨⟨by decide +kernel, by decide +kernel⟩, lw_t1 (List.mem_of_getElem? (i := 17) rfl), lw_t3 (List.mem_of_getElem? (i := 131) rfl), lw_t3 (List.mem_of_getElem? (i := 132) rfl)⟩
theorem lw_p30 : lw_okq (⟨"BeatenInstead", "noteLesson", "(I)V"⟩, 35) := ⟨⟨by decide +kernel, by decide +kernel⟩, lw_t1 (List.mem_of_getElem? (i := 17) rfl), lw_t3 (List.mem_of_getElem? (i := 136) rfl), lw_t3 (List.mem_of_getElem? (i := 137) rfl)⟩
theorem lw_p31 : lw_okq (⟨"BeatenInstead", "notePrince", "(LBeatenInstead$Prince;)V"⟩, 35) := ⟨⟨by decide +kernel, by decide +kernel⟩, lw_t1 (List.mem_of_getElem? (i := 17) rfl), lw_t3 (List.mem_of_getElem? (i := 140) rfl), lw_t3 (List.mem_of_getElem? (i := 141) rfl)⟩
def lw_privs_2 : List (MethodName × Nat) := [(⟨"BeatenInstead", "meanFrom", "(LBeatenInstead$Prince;III)J"⟩, 35), (⟨"BeatenInstead", "tellMatch", "(II)I"⟩, 35), (⟨"BeatenInstead", "layMatch", "(I)I"⟩, 35), (⟨"BeatenInstead", "isMatch", "(I)Z"⟩, 35), (⟨"BeatenInstead", "faultsOf", "(LBeatenInstead$Prince;II)I"⟩, 35), (⟨"BeatenInstead", "blowsBy", "(LBeatenInstead$Prince;I)I"⟩, 35), (⟨"BeatenInstead", "fondnessOf", "(LBeatenInstead$Prince;)I"⟩, 35), (⟨"BeatenInstead", "canBe", "(LBeatenInstead$Prince;I)Z"⟩, 35), (⟨"BeatenInstead", "schoolsBy", "(III)I"⟩, 35), (⟨"BeatenInstead", "stripesAll", "()I"⟩, 35), (⟨"BeatenInstead", "schoolOf", "(LBeatenInstead$Prince;)V"⟩, 35), (⟨"BeatenInstead", "draw", "(I)I"⟩, 35), (⟨"BeatenInstead", "learntAll", "()I"⟩, 35), (⟨"BeatenInstead", "note", "(J)V"⟩, 35), (⟨"BeatenInstead", "noteLesson", "(I)V"⟩, 35), (⟨"BeatenInstead", "notePrince", "(LBeatenInstead$Prince;)V"⟩, 35)]
theorem lw_r2 : ∀ q ∈ lw_privs_2, lw_okq q := List.forall_mem_cons.mpr ⟨lw_p16, List.forall_mem_cons.mpr ⟨lw_p17, List.forall_mem_cons.mpr ⟨lw_p18, List.forall_mem_cons.mpr ⟨lw_p19, List.forall_mem_cons.mpr ⟨lw_p20, List.forall_mem_cons.mpr ⟨lw_p21, List.forall_mem_cons.mpr ⟨lw_p22, List.forall_mem_cons.mpr ⟨lw_p23, List.forall_mem_cons.mpr ⟨lw_p24, List.forall_mem_cons.mpr ⟨lw_p25, List.forall_mem_cons.mpr ⟨lw_p26, List.forall_mem_cons.mpr ⟨lw_p27, List.forall_mem_cons.mpr ⟨lw_p28, List.forall_mem_cons.mpr ⟨lw_p29, List.forall_mem_cons.mpr ⟨lw_p30, List.forall_mem_cons.mpr ⟨lw_p31, fun _ h => absurd h List.not_mem_nil⟩⟩⟩⟩⟩⟩⟩⟩⟩⟩⟩⟩⟩⟩⟩⟩
theorem lw_p32 : lw_okq (⟨"BeatenInsteadModel", "read", "()I"⟩, 40) := ⟨⟨by decide +kernel, by decide +kernel⟩, lw_t3 (List.mem_of_getElem? (i := 145) rfl), lw_t4 (List.mem_of_getElem? (i := 47) rfl), lw_t4 (List.mem_of_getElem? (i := 48) rfl)⟩
theorem lw_p33 : lw_okq (⟨"BeatenInsteadModel", "isFigure", "(III)Z"⟩, 40) := ⟨⟨by decide +kernel, by decide +kernel⟩, lw_t3 (List.mem_of_getElem? (i := 145) rfl), lw_t4 (List.mem_of_getElem? (i := 51) rfl), lw_t4 (List.mem_of_getElem? (i := 52) rfl)⟩
theorem lw_p34 : lw_okq (⟨"BeatenInsteadModel", "isSign", "(II)Z"⟩, 40) := ⟨⟨by decide +kernel, by decide +kernel⟩, lw_t3 (List.mem_of_getElem? (i := 145) rfl), lw_t4 (List.mem_of_getElem? (i := 55) rfl), lw_t4 (List.mem_of_getElem? (i := 56) rfl)⟩
theorem lw_p35 : lw_okq (⟨"BeatenInsteadModel", "readLimit", "(I)I"⟩, 40) := ⟨⟨by decide +kernel, by decide +kernel⟩, lw_t3 (List.mem_of_getElem? (i := 145) rfl), lw_t4 (List.mem_of_getElem? (i := 59) rfl), lw_t4 (List.mem_of_getElem? (i := 60) rfl)⟩
theorem lw_p36 : lw_okq (⟨"BeatenInsteadModel", "isLesson", "(I)Z"⟩, 40) := ⟨⟨by decide +kernel, by decide +kernel⟩, lw_t3 (List.mem_of_getElem? (i := 145) rfl), lw_t4 (List.mem_of_getElem? (i := 71) rfl), lw_t4 (List.mem_of_getElem? (i := 72) rfl)⟩
theorem lw_p37 : lw_okq (⟨"BeatenInsteadModel", "lessonNow", "(II)I"⟩, 40) := ⟨⟨by decide +kernel, by decide +kernel⟩, lw_t3 (List.mem_of_getElem? (i := 145) rfl), lw_t4 (List.mem_of_getElem? (i := 75) rfl), lw_t4 (List.mem_of_getElem? (i := 76) rfl)⟩
theorem lw_p38 : lw_okq (⟨"BeatenInsteadModel", "learntBy", "(I)I"⟩, 40) := ⟨⟨by decide +kernel, by decide +kernel⟩, lw_t3 (List.mem_of_getElem? (i := 145) rfl), lw_t4 (List.mem_of_getElem? (i := 79) rfl), lw_t4 (List.mem_of_getElem? (i := 80) rfl)⟩
theorem lw_p39 : lw_okq (⟨"BeatenInsteadModel", "isBoy", "(I)Z"⟩, 40) := ⟨⟨by decide +kernel, by decide +kernel⟩, lw_t3 (List.mem_of_getElem? (i := 145) rfl), lw_t4 (List.mem_of_getElem? (i := 90) rfl), lw_t4 (List.mem_of_getElem? (i := 91) rfl)⟩
theorem lw_p40 : lw_okq (⟨"BeatenInsteadModel", "isPrince", "(I)Z"⟩, 40) := ⟨⟨by decide +kernel, by decide +kernel⟩, lw_t3 (List.mem_of_getElem? (i := 145) rfl), lw_t4 (List.mem_of_getElem? (i := 102) rfl), lw_t4 (List.mem_of_getElem? (i := 103) rfl)⟩
theorem lw_p41 : lw_okq (⟨"BeatenInsteadModel", "princeNow", "(II)I"⟩, 40) := ⟨⟨by decide +kernel, by decide +kernel⟩, lw_t3 (List.mem_of_getElem? (i := 145) rfl), lw_t4 (List.mem_of_getElem? (i := 106) rfl), lw_t4 (List.mem_of_getElem? (i := 107) rfl)⟩
theorem lw_p42 : lw_okq (⟨"BeatenInsteadModel", "feelsNow", "(I)I"⟩, 40) := ⟨⟨by decide +kernel, by decide +kernel⟩, lw_t3 (List.mem_of_getElem? (i := 145) rfl), lw_t4 (List.mem_of_getElem? (i := 110) rfl), lw_t4 (List.mem_of_getElem? (i := 111) rfl)⟩
theorem lw_p43 : lw_okq (⟨"BeatenInsteadModel", "tenthsNow", "(II)I"⟩, 40) := ⟨⟨by decide +kernel, by decide +kernel⟩, lw_t3 (List.mem_of_getElem? (i := 145) rfl), lw_t4 (List.mem_of_getElem? (i := 133) rfl), lw_t4 (List.mem_of_getElem? (i := 134) rfl)⟩
theorem lw_p44 : lw_okq (⟨"BeatenInsteadModel", "tenthsBy", "(III)I"⟩, 40) := ⟨⟨by decide +kernel, by decide +kernel⟩, lw_t3 (List.mem_of_getElem? (i := 145) rfl), lw_t4 (List.mem_of_getElem? (i := 137) rfl), lw_t4 (List.mem_of_getElem? (i := 138) rfl)⟩
theorem lw_p45 : lw_okq (⟨"BeatenInsteadModel", "fails", "(II)V"⟩, 40) := ⟨⟨by decide +kernel, by decide +kernel⟩, lw_t3 (List.mem_of_getElem? (i := 145) rfl), lw_t4 (List.mem_of_getElem? (i := 145) rfl), lw_t4 (List.mem_of_getElem? (i := 146) rfl)⟩
theorem lw_p46 : lw_okq (⟨"BeatenInsteadModel", "orderNow", "(II)J"⟩, 40) := ⟨⟨by decide +kernel, by decide +kernel⟩, lw_t3 (List.mem_of_getElem? (i := 145) rfl), lw_t4 (List.mem_of_getElem? (i := 156) rfl), lw_t4 (List.mem_of_getElem? (i := 157) rfl)⟩
theorem lw_p47 : lw_okq (⟨"BeatenInsteadModel", "layLeft", "(I)V"⟩, 40) := ⟨⟨by decide +kernel, by decide +kernel⟩, lw_t3 (List.mem_of_getElem? (i := 145) rfl), lw_t4 (List.mem_of_getElem? (i := 160) rfl), lw_t4 (List.mem_of_getElem? (i := 161) rfl)⟩
def lw_privs_3 : List (MethodName × Nat) := [(⟨"BeatenInsteadModel", "read", "()I"⟩, 40), (⟨"BeatenInsteadModel", "isFigure", "(III)Z"⟩, 40), (⟨"BeatenInsteadModel", "isSign", "(II)Z"⟩, 40), (⟨"BeatenInsteadModel", "readLimit", "(I)I"⟩, 40), (⟨"BeatenInsteadModel", "isLesson", "(I)Z"⟩, 40), (⟨"BeatenInsteadModel", "lessonNow", "(II)I"⟩, 40), (⟨"BeatenInsteadModel", "learntBy", "(I)I"⟩, 40), (⟨"BeatenInsteadModel", "isBoy", "(I)Z"⟩, 40), (⟨"BeatenInsteadModel", "isPrince", "(I)Z"⟩, 40), (⟨"BeatenInsteadModel", "princeNow", "(II)I"⟩, 40), (⟨"BeatenInsteadModel", "feelsNow", "(I)I"⟩, 40), (⟨"BeatenInsteadModel", "tenthsNow", "(II)I"⟩, 40), (⟨"BeatenInsteadModel", "tenthsBy", "(III)I"⟩, 40), (⟨"BeatenInsteadModel", "fails", "(II)V"⟩, 40), (⟨"BeatenInsteadModel", "orderNow", "(II)J"⟩, 40), (⟨"BeatenInsteadModel", "layLeft", "(I)V"⟩, 40)]
theorem lw_r3 : ∀ q ∈ lw_privs_3, lw_okq q := List.forall_mem_cons.mpr ⟨lw_p32, List.forall_mem_cons.mpr ⟨lw_p33, List.forall_mem_cons.mpr ⟨lw_p34, List.forall_mem_cons.mpr ⟨lw_p35, List.forall_mem_cons.mpr ⟨lw_p36, List.forall_mem_cons.mpr ⟨lw_p37, List.forall_mem_cons.mpr ⟨lw_p38, List.forall_mem_cons.mpr ⟨lw_p39, List.forall_mem_cons.mpr ⟨lw_p40, List.forall_mem_cons.mpr ⟨lw_p41, List.forall_mem_cons.mpr ⟨lw_p42, List.forall_mem_cons.mpr ⟨lw_p43, List.forall_mem_cons.mpr ⟨lw_p44, List.forall_mem_cons.mpr ⟨lw_p45, List.forall_mem_cons.mpr ⟨lw_p46, List.forall_mem_cons.mpr ⟨lw_p47, fun _ h => absurd h List.not_mem_nil⟩⟩⟩⟩⟩⟩⟩⟩⟩⟩⟩⟩⟩⟩⟩⟩
theorem lw_p48 : lw_okq (⟨"BeatenInsteadModel", "layOrder", "(II)V"⟩, 40) := ⟨⟨by decide +kernel, by decide +kernel⟩, lw_t3 (List.mem_of_getElem? (i := 145) rfl), lw_t4 (List.mem_of_getElem? (i := 165) rfl), lw_t4 (List.mem_of_getElem? (i := 166) rfl)⟩
theorem lw_p49 : lw_okq (⟨"BeatenInsteadModel", "meanOf", "(I)J"⟩, 40) := ⟨⟨by decide +kernel, by decide +kernel⟩, lw_t3 (List.mem_of_getElem? (i := 145) rfl), lw_t4 (List.mem_of_getElem? (i := 169) rfl), lw_t4 (List.mem_of_getElem? (i := 170) rfl)⟩
theorem lw_p50 : lw_okq (⟨"BeatenInsteadModel", "meanBy", "(II)J"⟩, 40) := ⟨⟨by decide +kernel, by decide +kernel⟩, lw_t3 (List.mem_of_getElem? (i := 145) rfl), lw_t4 (List.mem_of_getElem? (i := 173) rfl), lw_t4 (List.mem_of_getElem? (i := 174) rfl)⟩
theorem lw_p51 : lw_okq (⟨"BeatenInsteadModel", "save", "(I)V"⟩, 40) := ⟨⟨by decide +kernel, by decide +kernel⟩, lw_t3 (List.mem_of_getElem? (i := 145) rfl), lw_t4 (List.mem_of_getElem? (i := 177) rfl), lw_t4 (List.mem_of_getElem? (i := 178) rfl)⟩
theorem lw_p52 : lw_okq (⟨"BeatenInsteadModel", "load", "(I)V"⟩, 40) := ⟨⟨by decide +kernel, by decide +kernel⟩, lw_t3 (List.mem_of_getElem? (i := 145) rfl), lw_t4 (List.mem_of_getElem? (i := 181) rfl), lw_t4 (List.mem_of_getElem? (i := 182) rfl)⟩
theorem lw_p53 : lw_okq (⟨"BeatenInsteadModel", "matchNow", "(II)I"⟩, 40) := ⟨⟨by decide +kernel, by decide +kernel⟩, lw_t3 (List.mem_of_getElem? (i := 145) rfl), lw_t4 (List.mem_of_getElem? (i := 193) rfl), lw_t4 (List.mem_of_getElem? (i := 194) rfl)⟩
theorem lw_p54 : lw_okq (⟨"BeatenInsteadModel", "matchBy", "(II)I"⟩, 40) := ⟨⟨by decide +kernel, by decide +kernel⟩, lw_t3 (List.mem_of_getElem? (i := 145) rfl), lw_t4 (List.mem_of_getElem? (i := 198) rfl), lw_t4 (List.mem_of_getElem? (i := 199) rfl)⟩
theorem lw_p55 : lw_okq (⟨"BeatenInsteadModel", "boyBy", "(II)I"⟩, 40) := ⟨⟨by decide +kernel, by decide +kernel⟩, lw_t3 (List.mem_of_getElem? (i := 145) rfl), lw_t4 (List.mem_of_getElem? (i := 202) rfl), lw_t4 (List.mem_of_getElem? (i := 203) rfl)⟩
theorem lw_p56 : lw_okq (⟨"BeatenInsteadModel", "faultsNow", "(III)I"⟩, 40) := ⟨⟨by decide +kernel, by decide +kernel⟩, lw_t3 (List.mem_of_getElem? (i := 145) rfl), lw_t4 (List.mem_of_getElem? (i := 210) rfl), lw_t4 (List.mem_of_getElem? (i := 211) rfl)⟩
theorem lw_p57 : lw_okq (⟨"BeatenInsteadModel", "couldFail", "(III)Z"⟩, 40) := ⟨⟨by decide +kernel, by decide +kernel⟩, lw_t3 (List.mem_of_getElem? (i := 145) rfl), lw_t4 (List.mem_of_getElem? (i := 214) rfl), lw_t4 (List.mem_of_getElem? (i := 215) rfl)⟩
theorem lw_p58 : lw_okq (⟨"BeatenInsteadModel", "fondnessNow", "(I)I"⟩, 40) := ⟨⟨by decide +kernel, by decide +kernel⟩, lw_t3 (List.mem_of_getElem? (i := 145) rfl), lw_t4 (List.mem_of_getElem? (i := 230) rfl), lw_t4 (List.mem_of_getElem? (i := 231) rfl)⟩
theorem lw_p59 : lw_okq (⟨"BeatenInsteadModel", "couldBe", "(II)Z"⟩, 40) := ⟨⟨by decide +kernel, by decide +kernel⟩, lw_t3 (List.mem_of_getElem? (i := 145) rfl), lw_t4 (List.mem_of_getElem? (i := 234) rfl), lw_t4 (List.mem_of_getElem? (i := 235) rfl)⟩
theorem lw_p60 : lw_okq (⟨"BeatenInsteadModel", "schoolsNow", "(III)I"⟩, 40) := ⟨⟨by decide +kernel, by decide +kernel⟩, lw_t3 (List.mem_of_getElem? (i := 145) rfl), lw_t5 (List.mem_of_getElem? (i := 2) rfl), lw_t5 (List.mem_of_getElem? (i := 3) rfl)⟩
theorem lw_p61 : lw_okq (⟨"BeatenInsteadModel", "saveAll", "()V"⟩, 40) := ⟨⟨by decide +kernel, by decide +kernel⟩, lw_t3 (List.mem_of_getElem? (i := 145) rfl), lw_t5 (List.mem_of_getElem? (i := 6) rfl), lw_t5 (List.mem_of_getElem? (i := 7) rfl)⟩
theorem lw_p62 : lw_okq (⟨"BeatenInsteadModel", "goOne", "(II)I"⟩, 40) := ⟨⟨by decide +kernel, by decide +kernel⟩, lw_t3 (List.mem_of_getElem? (i := 145) rfl), lw_t5 (List.mem_of_getElem? (i := 10) rfl), lw_t5 (List.mem_of_getElem? (i := 11) rfl)⟩
theorem lw_p63 : lw_okq (⟨"BeatenInsteadModel", "draw", "(I)I"⟩, 40) := ⟨⟨by decide +kernel, by decide +kernel⟩, lw_t3 (List.mem_of_getElem? (i := 145) rfl), lw_t5 (List.mem_of_getElem? (i := 14) rfl), lw_t5 (List.mem_of_getElem? (i := 15) rfl)⟩
def lw_privs_4 : List (MethodName × Nat) := [(⟨"BeatenInsteadModel", "layOrder", "(II)V"⟩, 40), (⟨"BeatenInsteadModel", "meanOf", "(I)J"⟩, 40), (⟨"BeatenInsteadModel", "meanBy", "(II)J"⟩, 40), (⟨"BeatenInsteadModel", "save", "(I)V"⟩, 40), (⟨"BeatenInsteadModel", "load", "(I)V"⟩, 40), (⟨"BeatenInsteadModel", "matchNow", "(II)I"⟩, 40), (⟨"BeatenInsteadModel", "matchBy", "(II)I"⟩, 40), (⟨"BeatenInsteadModel", "boyBy", "(II)I"⟩, 40), (⟨"BeatenInsteadModel", "faultsNow", "(III)I"⟩, 40), (⟨"BeatenInsteadModel", "couldFail", "(III)Z"⟩, 40), (⟨"BeatenInsteadModel", "fondnessNow", "(I)I"⟩, 40), (⟨"BeatenInsteadModel", "couldBe", "(II)Z"⟩, 40), (⟨"BeatenInsteadModel", "schoolsNow", "(III)I"⟩, 40), (⟨"BeatenInsteadModel", "saveAll", "()V"⟩, 40), (⟨"BeatenInsteadModel", "goOne", "(II)I"⟩, 40), (⟨"BeatenInsteadModel", "draw", "(I)I"⟩, 40)]
theorem lw_r4 : ∀ q ∈ lw_privs_4, lw_okq q := List.forall_mem_cons.mpr ⟨lw_p48, List.forall_mem_cons.mpr ⟨lw_p49, List.forall_mem_cons.mpr ⟨lw_p50, List.forall_mem_cons.mpr ⟨lw_p51, List.forall_mem_cons.mpr ⟨lw_p52, List.forall_mem_cons.mpr ⟨lw_p53, List.forall_mem_cons.mpr ⟨lw_p54, List.forall_mem_cons.mpr ⟨lw_p55, List.forall_mem_cons.mpr ⟨lw_p56, List.forall_mem_cons.mpr ⟨lw_p57, List.forall_mem_cons.mpr ⟨lw_p58, List.forall_mem_cons.mpr ⟨lw_p59, List.forall_mem_cons.mpr ⟨lw_p60, List.forall_mem_cons.mpr ⟨lw_p61, List.forall_mem_cons.mpr ⟨lw_p62, List.forall_mem_cons.mpr ⟨lw_p63, fun _ h => absurd h List.not_mem_nil⟩⟩⟩⟩⟩⟩⟩⟩⟩⟩⟩⟩⟩⟩⟩⟩
theorem lw_p64 : lw_okq (⟨"BeatenInsteadModel", "learntAll", "()I"⟩, 40) := ⟨⟨by decide +kernel, by decide +kernel⟩, lw_t3 (List.mem_of_getElem? (i := 145) rfl), lw_t5 (List.mem_of_getElem? (i := 22) rfl), lw_t5 (List.mem_of_getElem? (i := 23) rfl)⟩
theorem lw_p65 : lw_okq (⟨"BeatenInsteadModel", "loadAll", "()V"⟩, 40) := ⟨⟨by decide +kernel, by decide +kernel⟩, lw_t3 (List.mem_of_getElem? (i := 145) rfl), lw_t5 (List.mem_of_getElem? (i := 29) rfl), lw_t5 (List.mem_of_getElem? (i := 30) rfl)⟩
theorem lw_p66 : lw_okq (⟨"BeatenInsteadModel", "stripesAll", "()I"⟩, 40) := ⟨⟨by decide +kernel, by decide +kernel⟩, lw_t3 (List.mem_of_getElem? (i := 145) rfl), lw_t5 (List.mem_of_getElem? (i := 37) rfl), lw_t5 (List.mem_of_getElem? (i := 38) rfl)⟩
theorem lw_p67 : lw_okq (⟨"BeatenInsteadModel", "howMany", "(I)I"⟩, 40) := ⟨⟨by decide +kernel, by decide +kernel⟩, lw_t3 (List.mem_of_getElem? (i := 145) rfl), lw_t5 (List.mem_of_getElem? (i := 49) rfl), lw_t5 (List.mem_of_getElem? (i := 50) rfl)⟩
theorem lw_p68 : lw_okq (⟨"BeatenInsteadModel", "mix", "(J)V"⟩, 40) := ⟨⟨by decide +kernel, by decide +kernel⟩, lw_t3 (List.mem_of_getElem? (i := 145) rfl), lw_t5 (List.mem_of_getElem? (i := 58) rfl), lw_t5 (List.mem_of_getElem? (i := 59) rfl)⟩
theorem lw_p69 : lw_okq (⟨"BeatenInsteadModel", "mixLesson", "(I)V"⟩, 40) := ⟨⟨by decide +kernel, by decide +kernel⟩, lw_t3 (List.mem_of_getElem? (i := 145) rfl), lw_t5 (List.mem_of_getElem? (i := 63) rfl), lw_t5 (List.mem_of_getElem? (i := 64) rfl)⟩
theorem lw_p70 : lw_okq (⟨"BeatenInsteadModel", "mixPrince", "(I)V"⟩, 40) := ⟨⟨by decide +kernel, by decide +kernel⟩, lw_t3 (List.mem_of_getElem? (i := 145) rfl), lw_t5 (List.mem_of_getElem? (i := 67) rfl), lw_t5 (List.mem_of_getElem? (i := 68) rfl)⟩
def lw_privs_5 : List (MethodName × Nat) := [(⟨"BeatenInsteadModel", "learntAll", "()I"⟩, 40), (⟨"BeatenInsteadModel", "loadAll", "()V"⟩, 40), (⟨"BeatenInsteadModel", "stripesAll", "()I"⟩, 40), (⟨"BeatenInsteadModel", "howMany", "(I)I"⟩, 40), (⟨"BeatenInsteadModel", "mix", "(J)V"⟩, 40), (⟨"BeatenInsteadModel", "mixLesson", "(I)V"⟩, 40), (⟨"BeatenInsteadModel", "mixPrince", "(I)V"⟩, 40)]
theorem lw_r5 : ∀ q ∈ lw_privs_5, lw_okq q := List.forall_mem_cons.mpr ⟨lw_p64, List.forall_mem_cons.mpr ⟨lw_p65, List.forall_mem_cons.mpr ⟨lw_p66, List.forall_mem_cons.mpr ⟨lw_p67, List.forall_mem_cons.mpr ⟨lw_p68, List.forall_mem_cons.mpr ⟨lw_p69, List.forall_mem_cons.mpr ⟨lw_p70, fun _ h => absurd h List.not_mem_nil⟩⟩⟩⟩⟩⟩⟩
def lw_privs : List (MethodName × Nat) := lw_privs_1 ++ (lw_privs_2 ++ (lw_privs_3 ++ (lw_privs_4 ++ (lw_privs_5))))
def lw_tbl : List Cond := k2_sels lw_privs ++ tables_1
theorem lw_privs_ok : ∀ q ∈ lw_privs, lw_okq q := by
  show ∀ q ∈ lw_privs_1 ++ (lw_privs_2 ++ (lw_privs_3 ++ (lw_privs_4 ++ (lw_privs_5)))), lw_okq q
  exact List.forall_mem_append.mpr ⟨lw_r1, List.forall_mem_append.mpr ⟨lw_r2, List.forall_mem_append.mpr ⟨lw_r3, List.forall_mem_append.mpr ⟨lw_r4, lw_r5⟩⟩⟩⟩
-- ===== ONE list of words for every method: the tables' words that hold all through a run =====
def lw_all : List Cond := lw_tbl.filter goodWord
/-- a word of the tables by its place: claim/WORDS.tsv -/
theorem lw_w {w : Cond} (i : Nat) (h : lw_tbl[i]? = some w) (g : goodWord w = true) : w ∈ lw_all := List.mem_filter.mpr ⟨List.mem_of_getElem? h, g⟩
theorem lw_all_tbl {w : Cond} (h : w ∈ lw_all) : w ∈ lw_tbl := (List.mem_filter.mp h).1
theorem lw_self : GoodIn lw_all lw_all := fun w h => ⟨h, good_of_word (List.mem_filter.mp h).2⟩
/-- a class's field words, by their places -/
theorem lw_in (ws : List Cond) (ps : List Nat) (hp : ws = ps.filterMap (fun i => lw_tbl[i]?)) (hg : ws.all goodWord = true) : ∀ w ∈ ws, w ∈ lw_all := by
  intro w h
  have h1 := List.all_eq_true.mp hg w h
  rw [hp] at h
  obtain ⟨i, -, hi⟩ := List.mem_filterMap.mp h
  exact lw_w i hi h1
/-- the words of a contract for the method y with code b, L locals, answer r -/
abbrev ws_ (y : MethodName) (b : ByteArray) (L : Nat) (r : Option FieldType) : List Cond := Cond.code y b L r :: lw_all
theorem lw_meth {y : MethodName} {b : ByteArray} {L : Nat} {r : Option FieldType} (h : Cond.code y b L r ∈ lw_all) : GoodIn lw_all (ws_ y b L r) := by
  intro w hw
  rcases List.mem_cons.mp hw with e | e
  · rw [e]
    exact lw_self _ h
  · exact lw_self _ e
theorem lw_app {a c : List Cond} (ha : ∀ w ∈ a, w ∈ lw_all) (hc : GoodIn lw_all c) : GoodIn lw_all (a ++ c) := by
  intro w hw
  rcases List.mem_append.mp hw with e | e
  · exact lw_self w (ha w e)
  · exact hc w e
/-- what a call through an object asks: cwV n hts (lw_V ..) -/
theorem lw_V {own : String} {idx : Nat} {C : String} {y : MethodName} {b : ByteArray} {L : Nat} {r : Option FieldType} (h1 : Cond.methodLink own idx y ∈ lw_all) (h2 : Cond.instanceMethod y ∈ lw_all) (h3 : Cond.selects C y y ∈ lw_all) (h4 : Cond.initialized C ∈ lw_all) (h5 : Cond.code y b L r ∈ lw_all) : GoodIn lw_all (wsV own idx C y (ws_ y b L r)) := by
  refine lw_app ?_ (lw_meth h5)
  intro w hw
  simp only [List.mem_cons, List.not_mem_nil, or_false] at hw
  rcases hw with e | e | e | e
  · rw [e]; exact h1
  · rw [e]; exact h2
  · rw [e]; exact h3
  · rw [e]; exact h4
/-- what a static call asks: va_cwS n hts (lw_S ..) -/
theorem lw_S {own : String} {idx : Nat} {y : MethodName} {b : ByteArray} {L : Nat} {r : Option FieldType} (h1 : Cond.methodLink own idx y ∈ lw_all) (h2 : Cond.static y ∈ lw_all) (h3 : Cond.initialized y.cls ∈ lw_all) (h4 : Cond.code y b L r ∈ lw_all) : GoodIn lw_all (va_wsS own idx y (ws_ y b L r)) := by
  refine lw_app ?_ (lw_meth h4)
  intro w hw
  simp only [List.mem_cons, List.not_mem_nil, or_false] at hw
  rcases hw with e | e | e
  · rw [e]; exact h1
  · rw [e]; exact h2
  · rw [e]; exact h3
/-- the words of a contract for a method WITH HANDLERS (hh: its table) -/
abbrev wsW_ (y : MethodName) (b : ByteArray) (L : Nat) (r : Option FieldType) (hh : List (Nat × Nat × Nat × Nat)) : List Cond := Cond.codeWith y b L r hh :: lw_all
theorem lw_methW {y : MethodName} {b : ByteArray} {L : Nat} {r : Option FieldType} {hh : List (Nat × Nat × Nat × Nat)} (h : Cond.codeWith y b L r hh ∈ lw_all) : GoodIn lw_all (wsW_ y b L r hh) := by
  intro w hw
  rcases List.mem_cons.mp hw with e | e
  · rw [e]
    exact lw_self _ h
  · exact lw_self _ e
/-- any list of words by their places (lw_in), good -/
theorem lw_good {ws : List Cond} (h : ∀ w ∈ ws, w ∈ lw_all) : GoodIn lw_all ws := fun w hw => lw_self w (h w hw)
/-- what a call of a method with handlers asks: vx_cwVW n hts (lw_VW ..), vx_cwSW n hts (lw_SW ..) -/
theorem lw_VW {own : String} {idx : Nat} {C : String} {y : MethodName} {b : ByteArray} {L : Nat} {r : Option FieldType} {hh : List (Nat × Nat × Nat × Nat)} (h1 : Cond.methodLink own idx y ∈ lw_all) (h2 : Cond.instanceMethod y ∈ lw_all) (h3 : Cond.selects C y y ∈ lw_all) (h4 : Cond.initialized C ∈ lw_all) (h5 : Cond.codeWith y b L r hh ∈ lw_all) : GoodIn lw_all (wsV own idx C y (wsW_ y b L r hh)) := by
  refine lw_app ?_ (lw_methW h5)
  intro w hw
  simp only [List.mem_cons, List.not_mem_nil, or_false] at hw
  rcases hw with e | e | e | e
  · rw [e]; exact h1
  · rw [e]; exact h2
  · rw [e]; exact h3
  · rw [e]; exact h4
theorem lw_SW {own : String} {idx : Nat} {y : MethodName} {b : ByteArray} {L : Nat} {r : Option FieldType} {hh : List (Nat × Nat × Nat × Nat)} (h1 : Cond.methodLink own idx y ∈ lw_all) (h2 : Cond.static y ∈ lw_all) (h3 : Cond.initialized y.cls ∈ lw_all) (h4 : Cond.codeWith y b L r hh ∈ lw_all) : GoodIn lw_all (va_wsS own idx y (wsW_ y b L r hh)) := by
  refine lw_app ?_ (lw_methW h4)
  intro w hw
  simp only [List.mem_cons, List.not_mem_nil, or_false] at hw
  rcases hw with e | e | e
  · rw [e]; exact h1
  · rw [e]; exact h2
  · rw [e]; exact h3
/-- a word by its place in its run of the tables -/
theorem lw_at {r : List Cond} (hr : ∀ w ∈ r, w ∈ lw_tbl) {w : Cond} (i : Nat) (h : r[i]? = some w) : w ∈ lw_tbl := hr w (List.mem_of_getElem? h)
theorem lw_g {w : Cond} (h : w ∈ lw_tbl) (g : goodWord w = true) : w ∈ lw_all := List.mem_filter.mpr ⟨h, g⟩
theorem lw_ms : ∀ w ∈ k2_sels lw_privs, w ∈ lw_tbl := fun w h => show w ∈ k2_sels lw_privs ++ tables_1 from List.mem_append_left _ h
theorem lw_m1 : ∀ w ∈ tables_1_1, w ∈ lw_tbl := fun w h => show w ∈ k2_sels lw_privs ++ tables_1 from List.mem_append_right (k2_sels lw_privs) (show w ∈ tables_1 from List.mem_append_left _ h)
theorem lw_m2 : ∀ w ∈ tables_1_2, w ∈ lw_tbl := fun w h => show w ∈ k2_sels lw_privs ++ tables_1 from List.mem_append_right (k2_sels lw_privs) (show w ∈ tables_1 from List.mem_append_right _ (List.mem_append_left _ h))
theorem lw_m3 : ∀ w ∈ tables_1_3, w ∈ lw_tbl := fun w h => show w ∈ k2_sels lw_privs ++ tables_1 from List.mem_append_right (k2_sels lw_privs) (show w ∈ tables_1 from List.mem_append_right _ (List.mem_append_right _ (List.mem_append_left _ h)))
theorem lw_m4 : ∀ w ∈ tables_1_4, w ∈ lw_tbl := fun w h => show w ∈ k2_sels lw_privs ++ tables_1 from List.mem_append_right (k2_sels lw_privs) (show w ∈ tables_1 from List.mem_append_right _ (List.mem_append_right _ (List.mem_append_right _ (List.mem_append_left _ h))))
theorem lw_m5 : ∀ w ∈ tables_1_5, w ∈ lw_tbl := fun w h => show w ∈ k2_sels lw_privs ++ tables_1 from List.mem_append_right (k2_sels lw_privs) (show w ∈ tables_1 from List.mem_append_right _ (List.mem_append_right _ (List.mem_append_right _ (List.mem_append_right _ h))))
theorem qs0 : (Cond.selects "BeatenInstead" ⟨"BeatenInstead", "endOfLessons", "()I"⟩ ⟨"BeatenInstead", "endOfLessons", "()I"⟩) ∈ lw_all := lw_g (lw_at lw_ms 0 rfl) rfl
theorem qs1 : (Cond.selects "BeatenInstead" ⟨"BeatenInstead", "isLesson", "(I)Z"⟩ ⟨"BeatenInstead", "isLesson", "(I)Z"⟩) ∈ lw_all := lw_g (lw_at lw_ms 1 rfl) rfl
theorem qs2 : (Cond.selects "BeatenInstead" ⟨"BeatenInstead", "tellLesson", "(II)I"⟩ ⟨"BeatenInstead", "tellLesson", "(II)I"⟩) ∈ lw_all := lw_g (lw_at lw_ms 2 rfl) rfl
theorem qs3 : (Cond.selects "BeatenInstead" ⟨"BeatenInstead", "whoLearnt", "(I)I"⟩ ⟨"BeatenInstead", "whoLearnt", "(I)I"⟩) ∈ lw_all := lw_g (lw_at lw_ms 3 rfl) rfl
theorem qs4 : (Cond.selects "BeatenInstead" ⟨"BeatenInstead", "isThere", "()Z"⟩ ⟨"BeatenInstead", "isThere", "()Z"⟩) ∈ lw_all := lw_g (lw_at lw_ms 4 rfl) rfl
theorem qs5 : (Cond.selects "BeatenInstead" ⟨"BeatenInstead", "isPrince", "(I)Z"⟩ ⟨"BeatenInstead", "isPrince", "(I)Z"⟩) ∈ lw_all := lw_g (lw_at lw_ms 5 rfl) rfl
theorem qs6 : (Cond.selects "BeatenInstead" ⟨"BeatenInstead", "tellPrince", "(LBeatenInstead$Prince;I)I"⟩ ⟨"BeatenInstead", "tellPrince", "(LBeatenInstead$Prince;I)I"⟩) ∈ lw_all := lw_g (lw_at lw_ms 6 rfl) rfl
theorem qs7 : (Cond.selects "BeatenInstead" ⟨"BeatenInstead", "fondOf", "(LBeatenInstead$Prince;)I"⟩ ⟨"BeatenInstead", "fondOf", "(LBeatenInstead$Prince;)I"⟩) ∈ lw_all := lw_g (lw_at lw_ms 7 rfl) rfl
theorem qs8 : (Cond.selects "java/lang/Throwable" ⟨"java/lang/Throwable", "fillInStackTrace", "(I)Ljava/lang/Throwable;"⟩ ⟨"java/lang/Throwable", "fillInStackTrace", "(I)Ljava/lang/Throwable;"⟩) ∈ lw_all := lw_g (lw_at lw_ms 8 rfl) rfl
theorem qs9 : (Cond.selects "BeatenInstead" ⟨"BeatenInstead", "tenthsOf", "(LBeatenInstead$Prince;I)I"⟩ ⟨"BeatenInstead", "tenthsOf", "(LBeatenInstead$Prince;I)I"⟩) ∈ lw_all := lw_g (lw_at lw_ms 9 rfl) rfl
theorem qs10 : (Cond.selects "BeatenInstead" ⟨"BeatenInstead", "tenthsBy", "(LBeatenInstead$Prince;II)I"⟩ ⟨"BeatenInstead", "tenthsBy", "(LBeatenInstead$Prince;II)I"⟩) ∈ lw_all := lw_g (lw_at lw_ms 10 rfl) rfl
theorem qs11 : (Cond.selects "BeatenInstead" ⟨"BeatenInstead", "taught", "(LBeatenInstead$Prince;IZ)V"⟩ ⟨"BeatenInstead", "taught", "(LBeatenInstead$Prince;IZ)V"⟩) ∈ lw_all := lw_g (lw_at lw_ms 11 rfl) rfl
theorem qs12 : (Cond.selects "BeatenInstead" ⟨"BeatenInstead", "fondThen", "(II)I"⟩ ⟨"BeatenInstead", "fondThen", "(II)I"⟩) ∈ lw_all := lw_g (lw_at lw_ms 12 rfl) rfl
theorem qs13 : (Cond.selects "BeatenInstead" ⟨"BeatenInstead", "tellOrder", "(LBeatenInstead$Prince;I)J"⟩ ⟨"BeatenInstead", "tellOrder", "(LBeatenInstead$Prince;I)J"⟩) ∈ lw_all := lw_g (lw_at lw_ms 13 rfl) rfl
theorem qs14 : (Cond.selects "BeatenInstead" ⟨"BeatenInstead", "leftOf", "(LBeatenInstead$Prince;)I"⟩ ⟨"BeatenInstead", "leftOf", "(LBeatenInstead$Prince;)I"⟩) ∈ lw_all := lw_g (lw_at lw_ms 14 rfl) rfl
theorem qs15 : (Cond.selects "BeatenInstead" ⟨"BeatenInstead", "tryOrder", "(LBeatenInstead$Prince;II)V"⟩ ⟨"BeatenInstead", "tryOrder", "(LBeatenInstead$Prince;II)V"⟩) ∈ lw_all := lw_g (lw_at lw_ms 15 rfl) rfl
theorem qs16 : (Cond.selects "BeatenInstead" ⟨"BeatenInstead", "meanFrom", "(LBeatenInstead$Prince;III)J"⟩ ⟨"BeatenInstead", "meanFrom", "(LBeatenInstead$Prince;III)J"⟩) ∈ lw_all := lw_g (lw_at lw_ms 16 rfl) rfl
theorem qs17 : (Cond.selects "BeatenInstead" ⟨"BeatenInstead", "tellMatch", "(II)I"⟩ ⟨"BeatenInstead", "tellMatch", "(II)I"⟩) ∈ lw_all := lw_g (lw_at lw_ms 17 rfl) rfl
theorem qs18 : (Cond.selects "BeatenInstead" ⟨"BeatenInstead", "layMatch", "(I)I"⟩ ⟨"BeatenInstead", "layMatch", "(I)I"⟩) ∈ lw_all := lw_g (lw_at lw_ms 18 rfl) rfl
theorem qs19 : (Cond.selects "BeatenInstead" ⟨"BeatenInstead", "isMatch", "(I)Z"⟩ ⟨"BeatenInstead", "isMatch", "(I)Z"⟩) ∈ lw_all := lw_g (lw_at lw_ms 19 rfl) rfl
theorem qs20 : (Cond.selects "BeatenInstead" ⟨"BeatenInstead", "faultsOf", "(LBeatenInstead$Prince;II)I"⟩ ⟨"BeatenInstead", "faultsOf", "(LBeatenInstead$Prince;II)I"⟩) ∈ lw_all := lw_g (lw_at lw_ms 20 rfl) rfl
theorem qs21 : (Cond.selects "BeatenInstead" ⟨"BeatenInstead", "blowsBy", "(LBeatenInstead$Prince;I)I"⟩ ⟨"BeatenInstead", "blowsBy", "(LBeatenInstead$Prince;I)I"⟩) ∈ lw_all := lw_g (lw_at lw_ms 21 rfl) rfl
theorem qs22 : (Cond.selects "BeatenInstead" ⟨"BeatenInstead", "fondnessOf", "(LBeatenInstead$Prince;)I"⟩ ⟨"BeatenInstead", "fondnessOf", "(LBeatenInstead$Prince;)I"⟩) ∈ lw_all := lw_g (lw_at lw_ms 22 rfl) rfl
theorem qs23 : (Cond.selects "BeatenInstead" ⟨"BeatenInstead", "canBe", "(LBeatenInstead$Prince;I)Z"⟩ ⟨"BeatenInstead", "canBe", "(LBeatenInstead$Prince;I)Z"⟩) ∈ lw_all := lw_g (lw_at lw_ms 23 rfl) rfl
theorem qs24 : (Cond.selects "BeatenInstead" ⟨"BeatenInstead", "schoolsBy", "(III)I"⟩ ⟨"BeatenInstead", "schoolsBy", "(III)I"⟩) ∈ lw_all := lw_g (lw_at lw_ms 24 rfl) rfl
theorem qs25 : (Cond.selects "BeatenInstead" ⟨"BeatenInstead", "stripesAll", "()I"⟩ ⟨"BeatenInstead", "stripesAll", "()I"⟩) ∈ lw_all := lw_g (lw_at lw_ms 25 rfl) rfl
theorem qs26 : (Cond.selects "BeatenInstead" ⟨"BeatenInstead", "schoolOf", "(LBeatenInstead$Prince;)V"⟩ ⟨"BeatenInstead", "schoolOf", "(LBeatenInstead$Prince;)V"⟩) ∈ lw_all := lw_g (lw_at lw_ms 26 rfl) rfl
theorem qs27 : (Cond.selects "BeatenInstead" ⟨"BeatenInstead", "draw", "(I)I"⟩ ⟨"BeatenInstead", "draw", "(I)I"⟩) ∈ lw_all := lw_g (lw_at lw_ms 27 rfl) rfl
theorem qs28 : (Cond.selects "BeatenInstead" ⟨"BeatenInstead", "learntAll", "()I"⟩ ⟨"BeatenInstead", "learntAll", "()I"⟩) ∈ lw_all := lw_g (lw_at lw_ms 28 rfl) rfl
theorem qs29 : (Cond.selects "BeatenInstead" ⟨"BeatenInstead", "note", "(J)V"⟩ ⟨"BeatenInstead", "note", "(J)V"⟩) ∈ lw_all := lw_g (lw_at lw_ms 29 rfl) rfl
theorem qs30 : (Cond.selects "BeatenInstead" ⟨"BeatenInstead", "noteLesson", "(I)V"⟩ ⟨"BeatenInstead", "noteLesson", "(I)V"⟩) ∈ lw_all := lw_g (lw_at lw_ms 30 rfl) rfl
theorem qs31 : (Cond.selects "BeatenInstead" ⟨"BeatenInstead", "notePrince", "(LBeatenInstead$Prince;)V"⟩ ⟨"BeatenInstead", "notePrince", "(LBeatenInstead$Prince;)V"⟩) ∈ lw_all := lw_g (lw_at lw_ms 31 rfl) rfl
theorem qs32 : (Cond.selects "BeatenInsteadModel" ⟨"BeatenInsteadModel", "read", "()I"⟩ ⟨"BeatenInsteadModel", "read", "()I"⟩) ∈ lw_all := lw_g (lw_at lw_ms 32 rfl) rfl
theorem qs33 : (Cond.selects "BeatenInsteadModel" ⟨"BeatenInsteadModel", "isFigure", "(III)Z"⟩ ⟨"BeatenInsteadModel", "isFigure", "(III)Z"⟩) ∈ lw_all := lw_g (lw_at lw_ms 33 rfl) rfl
theorem qs34 : (Cond.selects "BeatenInsteadModel" ⟨"BeatenInsteadModel", "isSign", "(II)Z"⟩ ⟨"BeatenInsteadModel", "isSign", "(II)Z"⟩) ∈ lw_all := lw_g (lw_at lw_ms 34 rfl) rfl
theorem qs35 : (Cond.selects "BeatenInsteadModel" ⟨"BeatenInsteadModel", "readLimit", "(I)I"⟩ ⟨"BeatenInsteadModel", "readLimit", "(I)I"⟩) ∈ lw_all := lw_g (lw_at lw_ms 35 rfl) rfl
theorem qs36 : (Cond.selects "BeatenInsteadModel" ⟨"BeatenInsteadModel", "isLesson", "(I)Z"⟩ ⟨"BeatenInsteadModel", "isLesson", "(I)Z"⟩) ∈ lw_all := lw_g (lw_at lw_ms 36 rfl) rfl
theorem qs37 : (Cond.selects "BeatenInsteadModel" ⟨"BeatenInsteadModel", "lessonNow", "(II)I"⟩ ⟨"BeatenInsteadModel", "lessonNow", "(II)I"⟩) ∈ lw_all := lw_g (lw_at lw_ms 37 rfl) rfl
theorem qs38 : (Cond.selects "BeatenInsteadModel" ⟨"BeatenInsteadModel", "learntBy", "(I)I"⟩ ⟨"BeatenInsteadModel", "learntBy", "(I)I"⟩) ∈ lw_all := lw_g (lw_at lw_ms 38 rfl) rfl
theorem qs39 : (Cond.selects "BeatenInsteadModel" ⟨"BeatenInsteadModel", "isBoy", "(I)Z"⟩ ⟨"BeatenInsteadModel", "isBoy", "(I)Z"⟩) ∈ lw_all := lw_g (lw_at lw_ms 39 rfl) rfl
theorem qs40 : (Cond.selects "BeatenInsteadModel" ⟨"BeatenInsteadModel", "isPrince", "(I)Z"⟩ ⟨"BeatenInsteadModel", "isPrince", "(I)Z"⟩) ∈ lw_all := lw_g (lw_at lw_ms 40 rfl) rfl
theorem qs41 : (Cond.selects "BeatenInsteadModel" ⟨"BeatenInsteadModel", "princeNow", "(II)I"⟩ ⟨"BeatenInsteadModel", "princeNow", "(II)I"⟩) ∈ lw_all := lw_g (lw_at lw_ms 41 rfl) rfl
theorem qs42 : (Cond.selects "BeatenInsteadModel" ⟨"BeatenInsteadModel", "feelsNow", "(I)I"⟩ ⟨"BeatenInsteadModel", "feelsNow", "(I)I"⟩) ∈ lw_all := lw_g (lw_at lw_ms 42 rfl) rfl
theorem qs43 : (Cond.selects "BeatenInsteadModel" ⟨"BeatenInsteadModel", "tenthsNow", "(II)I"⟩ ⟨"BeatenInsteadModel", "tenthsNow", "(II)I"⟩) ∈ lw_all := lw_g (lw_at lw_ms 43 rfl) rfl
theorem qs44 : (Cond.selects "BeatenInsteadModel" ⟨"BeatenInsteadModel", "tenthsBy", "(III)I"⟩ ⟨"BeatenInsteadModel", "tenthsBy", "(III)I"⟩) ∈ lw_all := lw_g (lw_at lw_ms 44 rfl) rfl
theorem qs45 : (Cond.selects "BeatenInsteadModel" ⟨"BeatenInsteadModel", "fails", "(II)V"⟩ ⟨"BeatenInsteadModel", "fails", "(II)V"⟩) ∈ lw_all := lw_g (lw_at lw_ms 45 rfl) rfl
theorem qs46 : (Cond.selects "BeatenInsteadModel" ⟨"BeatenInsteadModel", "orderNow", "(II)J"⟩ ⟨"BeatenInsteadModel", "orderNow", "(II)J"⟩) ∈ lw_all := lw_g (lw_at lw_ms 46 rfl) rfl
theorem qs47 : (Cond.selects "BeatenInsteadModel" ⟨"BeatenInsteadModel", "layLeft", "(I)V"⟩ ⟨"BeatenInsteadModel", "layLeft", "(I)V"⟩) ∈ lw_all := lw_g (lw_at lw_ms 47 rfl) rfl
theorem qs48 : (Cond.selects "BeatenInsteadModel" ⟨"BeatenInsteadModel", "layOrder", "(II)V"⟩ ⟨"BeatenInsteadModel", "layOrder", "(II)V"⟩) ∈ lw_all := lw_g (lw_at lw_ms 48 rfl) rfl
theorem qs49 : (Cond.selects "BeatenInsteadModel" ⟨"BeatenInsteadModel", "meanOf", "(I)J"⟩ ⟨"BeatenInsteadModel", "meanOf", "(I)J"⟩) ∈ lw_all := lw_g (lw_at lw_ms 49 rfl) rfl
theorem qs50 : (Cond.selects "BeatenInsteadModel" ⟨"BeatenInsteadModel", "meanBy", "(II)J"⟩ ⟨"BeatenInsteadModel", "meanBy", "(II)J"⟩) ∈ lw_all := lw_g (lw_at lw_ms 50 rfl) rfl
theorem qs51 : (Cond.selects "BeatenInsteadModel" ⟨"BeatenInsteadModel", "save", "(I)V"⟩ ⟨"BeatenInsteadModel", "save", "(I)V"⟩) ∈ lw_all := lw_g (lw_at lw_ms 51 rfl) rfl
theorem qs52 : (Cond.selects "BeatenInsteadModel" ⟨"BeatenInsteadModel", "load", "(I)V"⟩ ⟨"BeatenInsteadModel", "load", "(I)V"⟩) ∈ lw_all := lw_g (lw_at lw_ms 52 rfl) rfl
theorem qs53 : (Cond.selects "BeatenInsteadModel" ⟨"BeatenInsteadModel", "matchNow", "(II)I"⟩ ⟨"BeatenInsteadModel", "matchNow", "(II)I"⟩) ∈ lw_all := lw_g (lw_at lw_ms 53 rfl) rfl
theorem qs54 : (Cond.selects "BeatenInsteadModel" ⟨"BeatenInsteadModel", "matchBy", "(II)I"⟩ ⟨"BeatenInsteadModel", "matchBy", "(II)I"⟩) ∈ lw_all := lw_g (lw_at lw_ms 54 rfl) rfl
theorem qs55 : (Cond.selects "BeatenInsteadModel" ⟨"BeatenInsteadModel", "boyBy", "(II)I"⟩ ⟨"BeatenInsteadModel", "boyBy", "(II)I"⟩) ∈ lw_all := lw_g (lw_at lw_ms 55 rfl) rfl
theorem qs56 : (Cond.selects "BeatenInsteadModel" ⟨"BeatenInsteadModel", "faultsNow", "(III)I"⟩ ⟨"BeatenInsteadModel", "faultsNow", "(III)I"⟩) ∈ lw_all := lw_g (lw_at lw_ms 56 rfl) rfl
theorem qs57 : (Cond.selects "BeatenInsteadModel" ⟨"BeatenInsteadModel", "couldFail", "(III)Z"⟩ ⟨"BeatenInsteadModel", "couldFail", "(III)Z"⟩) ∈ lw_all := lw_g (lw_at lw_ms 57 rfl) rfl
theorem qs58 : (Cond.selects "BeatenInsteadModel" ⟨"BeatenInsteadModel", "fondnessNow", "(I)I"⟩ ⟨"BeatenInsteadModel", "fondnessNow", "(I)I"⟩) ∈ lw_all := lw_g (lw_at lw_ms 58 rfl) rfl
theorem qs59 : (Cond.selects "BeatenInsteadModel" ⟨"BeatenInsteadModel", "couldBe", "(II)Z"⟩ ⟨"BeatenInsteadModel", "couldBe", "(II)Z"⟩) ∈ lw_all := lw_g (lw_at lw_ms 59 rfl) rfl
theorem qs60 : (Cond.selects "BeatenInsteadModel" ⟨"BeatenInsteadModel", "schoolsNow", "(III)I"⟩ ⟨"BeatenInsteadModel", "schoolsNow", "(III)I"⟩) ∈ lw_all := lw_g (lw_at lw_ms 60 rfl) rfl
theorem qs61 : (Cond.selects "BeatenInsteadModel" ⟨"BeatenInsteadModel", "saveAll", "()V"⟩ ⟨"BeatenInsteadModel", "saveAll", "()V"⟩) ∈ lw_all := lw_g (lw_at lw_ms 61 rfl) rfl
theorem qs62 : (Cond.selects "BeatenInsteadModel" ⟨"BeatenInsteadModel", "goOne", "(II)I"⟩ ⟨"BeatenInsteadModel", "goOne", "(II)I"⟩) ∈ lw_all := lw_g (lw_at lw_ms 62 rfl) rfl
theorem qs63 : (Cond.selects "BeatenInsteadModel" ⟨"BeatenInsteadModel", "draw", "(I)I"⟩ ⟨"BeatenInsteadModel", "draw", "(I)I"⟩) ∈ lw_all := lw_g (lw_at lw_ms 63 rfl) rfl
theorem qs64 : (Cond.selects "BeatenInsteadModel" ⟨"BeatenInsteadModel", "learntAll", "()I"⟩ ⟨"BeatenInsteadModel", "learntAll", "()I"⟩) ∈ lw_all := lw_g (lw_at lw_ms 64 rfl) rfl
theorem qs65 : (Cond.selects "BeatenInsteadModel" ⟨"BeatenInsteadModel", "loadAll", "()V"⟩ ⟨"BeatenInsteadModel", "loadAll", "()V"⟩) ∈ lw_all := lw_g (lw_at lw_ms 65 rfl) rfl
theorem qs66 : (Cond.selects "BeatenInsteadModel" ⟨"BeatenInsteadModel", "stripesAll", "()I"⟩ ⟨"BeatenInsteadModel", "stripesAll", "()I"⟩) ∈ lw_all := lw_g (lw_at lw_ms 66 rfl) rfl
theorem qs67 : (Cond.selects "BeatenInsteadModel" ⟨"BeatenInsteadModel", "howMany", "(I)I"⟩ ⟨"BeatenInsteadModel", "howMany", "(I)I"⟩) ∈ lw_all := lw_g (lw_at lw_ms 67 rfl) rfl
theorem qs68 : (Cond.selects "BeatenInsteadModel" ⟨"BeatenInsteadModel", "mix", "(J)V"⟩ ⟨"BeatenInsteadModel", "mix", "(J)V"⟩) ∈ lw_all := lw_g (lw_at lw_ms 68 rfl) rfl
theorem qs69 : (Cond.selects "BeatenInsteadModel" ⟨"BeatenInsteadModel", "mixLesson", "(I)V"⟩ ⟨"BeatenInsteadModel", "mixLesson", "(I)V"⟩) ∈ lw_all := lw_g (lw_at lw_ms 69 rfl) rfl
theorem qs70 : (Cond.selects "BeatenInsteadModel" ⟨"BeatenInsteadModel", "mixPrince", "(I)V"⟩ ⟨"BeatenInsteadModel", "mixPrince", "(I)V"⟩) ∈ lw_all := lw_g (lw_at lw_ms 70 rfl) rfl
