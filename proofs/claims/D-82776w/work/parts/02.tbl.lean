-- ===== PART A: goes FIRST, ahead of the names: the tables' words, and 'selects' of the private methods out of them =====
/-- a private method of a class that the tables say can be made, by its rows of tables_1 -/
def lw_okq (q : MethodName × Nat) : Prop := (q.1.cls ≠ "java/lang/invoke/MethodHandle" ∧ q.1.cls ≠ "java/lang/invoke/VarHandle") ∧ Cond.instantiable q.1.cls q.2 ∈ tables_1 ∧ Cond.privateMethod q.1 ∈ tables_1 ∧ Cond.instanceMethod q.1 ∈ tables_1
set_option maxRecDepth 100000
theorem lw_t1 {w : Cond} (h : w ∈ tables_1_1) : w ∈ tables_1 := List.mem_append_left _ h
theorem lw_t2 {w : Cond} (h : w ∈ tables_1_2) : w ∈ tables_1 := List.mem_append_right _ (List.mem_append_left _ h)
theorem lw_t3 {w : Cond} (h : w ∈ tables_1_3) : w ∈ tables_1 := List.mem_append_right _ (List.mem_append_right _ (List.mem_append_left _ h))
theorem lw_t4 {w : Cond} (h : w ∈ tables_1_4) : w ∈ tables_1 := List.mem_append_right _ (List.mem_append_right _ (List.mem_append_right _ (List.mem_append_left _ h)))
theorem lw_t5 {w : Cond} (h : w ∈ tables_1_5) : w ∈ tables_1 := List.mem_append_right _ (List.mem_append_right _ (List.mem_append_right _ (List.mem_append_right _ (List.mem_append_left _ h))))
theorem lw_t6 {w : Cond} (h : w ∈ tables_1_6) : w ∈ tables_1 := List.mem_append_right _ (List.mem_append_right _ (List.mem_append_right _ (List.mem_append_right _ (List.mem_append_right _ (List.mem_append_left _ h)))))
theorem lw_t7 {w : Cond} (h : w ∈ tables_1_7) : w ∈ tables_1 := List.mem_append_right _ (List.mem_append_right _ (List.mem_append_right _ (List.mem_append_right _ (List.mem_append_right _ (List.mem_append_right _ (List.mem_append_left _ h))))))
theorem lw_t8 {w : Cond} (h : w ∈ tables_1_8) : w ∈ tables_1 := List.mem_append_right _ (List.mem_append_right _ (List.mem_append_right _ (List.mem_append_right _ (List.mem_append_right _ (List.mem_append_right _ (List.mem_append_right _ (List.mem_append_left _ h)))))))
theorem lw_t9 {w : Cond} (h : w ∈ tables_1_9) : w ∈ tables_1 := List.mem_append_right _ (List.mem_append_right _ (List.mem_append_right _ (List.mem_append_right _ (List.mem_append_right _ (List.mem_append_right _ (List.mem_append_right _ (List.mem_append_right _ h)))))))
theorem lw_p0 : lw_okq (⟨"java/lang/Throwable", "fillInStackTrace", "(I)Ljava/lang/Throwable;"⟩, 6) := ⟨⟨by decide +kernel, by decide +kernel⟩, lw_t1 (List.mem_of_getElem? (i := 81) rfl), lw_t1 (List.mem_of_getElem? (i := 79) rfl), lw_t1 (List.mem_of_getElem? (i := 80) rfl)⟩
theorem lw_p1 : lw_okq (⟨"CliffHoney", "isLedge", "(I)Z"⟩, 51) := ⟨⟨by decide +kernel, by decide +kernel⟩, lw_t1 (List.mem_of_getElem? (i := 37) rfl), lw_t2 (List.mem_of_getElem? (i := 200) rfl), lw_t2 (List.mem_of_getElem? (i := 201) rfl)⟩
theorem lw_p2 : lw_okq (⟨"CliffHoney", "grow", "([LCliffHoney$Ledge;I)V"⟩, 51) := ⟨⟨by decide +kernel, by decide +kernel⟩, lw_t1 (List.mem_of_getElem? (i := 37) rfl), lw_t2 (List.mem_of_getElem? (i := 212) rfl), lw_t2 (List.mem_of_getElem? (i := 213) rfl)⟩
theorem lw_p3 : lw_okq (⟨"CliffHoney", "seasonEnds", "([LCliffHoney$Ledge;)V"⟩, 51) := ⟨⟨by decide +kernel, by decide +kernel⟩, lw_t1 (List.mem_of_getElem? (i := 37) rfl), lw_t2 (List.mem_of_getElem? (i := 229) rfl), lw_t2 (List.mem_of_getElem? (i := 230) rfl)⟩
theorem lw_p4 : lw_okq (⟨"CliffHoney$Ledge", "changed", "(II)I"⟩, 11) := ⟨⟨by decide +kernel, by decide +kernel⟩, lw_t2 (List.mem_of_getElem? (i := 144) rfl), lw_t2 (List.mem_of_getElem? (i := 237) rfl), lw_t2 (List.mem_of_getElem? (i := 238) rfl)⟩
theorem lw_p5 : lw_okq (⟨"CliffHoney", "strongBeside", "([LCliffHoney$Ledge;I)I"⟩, 51) := ⟨⟨by decide +kernel, by decide +kernel⟩, lw_t1 (List.mem_of_getElem? (i := 37) rfl), lw_t3 (List.mem_of_getElem? (i := 9) rfl), lw_t3 (List.mem_of_getElem? (i := 10) rfl)⟩
theorem lw_p6 : lw_okq (⟨"CliffHoney", "season", "()I"⟩, 51) := ⟨⟨by decide +kernel, by decide +kernel⟩, lw_t1 (List.mem_of_getElem? (i := 37) rfl), lw_t3 (List.mem_of_getElem? (i := 28) rfl), lw_t3 (List.mem_of_getElem? (i := 29) rfl)⟩
theorem lw_p7 : lw_okq (⟨"CliffHoney", "strengths", "([LCliffHoney$Ledge;)I"⟩, 51) := ⟨⟨by decide +kernel, by decide +kernel⟩, lw_t1 (List.mem_of_getElem? (i := 37) rfl), lw_t3 (List.mem_of_getElem? (i := 32) rfl), lw_t3 (List.mem_of_getElem? (i := 33) rfl)⟩
theorem lw_p8 : lw_okq (⟨"CliffHoney$Reader", "read", "()V"⟩, 8) := ⟨⟨by decide +kernel, by decide +kernel⟩, lw_t1 (List.mem_of_getElem? (i := 137) rfl), lw_t3 (List.mem_of_getElem? (i := 43) rfl), lw_t3 (List.mem_of_getElem? (i := 44) rfl)⟩
theorem lw_p9 : lw_okq (⟨"CliffHoney$Reader", "next", "()V"⟩, 8) := ⟨⟨by decide +kernel, by decide +kernel⟩, lw_t1 (List.mem_of_getElem? (i := 137) rfl), lw_t3 (List.mem_of_getElem? (i := 48) rfl), lw_t3 (List.mem_of_getElem? (i := 49) rfl)⟩
theorem lw_p10 : lw_okq (⟨"CliffHoney$Reader", "raw", "()I"⟩, 8) := ⟨⟨by decide +kernel, by decide +kernel⟩, lw_t1 (List.mem_of_getElem? (i := 137) rfl), lw_t3 (List.mem_of_getElem? (i := 52) rfl), lw_t3 (List.mem_of_getElem? (i := 53) rfl)⟩
theorem lw_p11 : lw_okq (⟨"CliffHoney$Reader", "isLetter", "(I)Z"⟩, 8) := ⟨⟨by decide +kernel, by decide +kernel⟩, lw_t1 (List.mem_of_getElem? (i := 137) rfl), lw_t3 (List.mem_of_getElem? (i := 56) rfl), lw_t3 (List.mem_of_getElem? (i := 57) rfl)⟩
theorem lw_p12 : lw_okq (⟨"CliffHoney$Reader", "letters", "()V"⟩, 8) := ⟨⟨by decide +kernel, by decide +kernel⟩, lw_t1 (List.mem_of_getElem? (i := 137) rfl), lw_t3 (List.mem_of_getElem? (i := 60) rfl), lw_t3 (List.mem_of_getElem? (i := 61) rfl)⟩
theorem lw_p13 : lw_okq (⟨"CliffHoney$Reader", "isDigit", "(I)Z"⟩, 8) := ⟨⟨by decide +kernel, by decide +kernel⟩, lw_t1 (List.mem_of_getElem? (i := 137) rfl), lw_t4 (List.mem_of_getElem? (i := 15) rfl), lw_t4 (List.mem_of_getElem? (i := 16) rfl)⟩
theorem lw_p14 : lw_okq (⟨"CliffHoney$Reader", "digits", "()V"⟩, 8) := ⟨⟨by decide +kernel, by decide +kernel⟩, lw_t1 (List.mem_of_getElem? (i := 137) rfl), lw_t4 (List.mem_of_getElem? (i := 19) rfl), lw_t4 (List.mem_of_getElem? (i := 20) rfl)⟩
theorem lw_p15 : lw_okq (⟨"CliffHoney", "refused", "(II)LCliffHoney$Fault;"⟩, 51) := ⟨⟨by decide +kernel, by decide +kernel⟩, lw_t1 (List.mem_of_getElem? (i := 37) rfl), lw_t4 (List.mem_of_getElem? (i := 91) rfl), lw_t4 (List.mem_of_getElem? (i := 92) rfl)⟩
def lw_privs_1 : List (MethodName × Nat) := [(⟨"java/lang/Throwable", "fillInStackTrace", "(I)Ljava/lang/Throwable;"⟩, 6), (⟨"CliffHoney", "isLedge", "(I)Z"⟩, 51), (⟨"CliffHoney", "grow", "([LCliffHoney$Ledge;I)V"⟩, 51), (⟨"CliffHoney", "seasonEnds", "([LCliffHoney$Ledge;)V"⟩, 51), (⟨"CliffHoney$Ledge", "changed", "(II)I"⟩, 11), (⟨"CliffHoney", "strongBeside", "([LCliffHoney$Ledge;I)I"⟩, 51), (⟨"CliffHoney", "season", "()I"⟩, 51), (⟨"CliffHoney", "strengths", "([LCliffHoney$Ledge;)I"⟩, 51), (⟨"CliffHoney$Reader", "read", "()V"⟩, 8), (⟨"CliffHoney$Reader", "next", "()V"⟩, 8), (⟨"CliffHoney$Reader", "raw", "()I"⟩, 8), (⟨"CliffHoney$Reader", "isLetter", "(I)Z"⟩, 8), (⟨"CliffHoney$Reader", "letters", "()V"⟩, 8), (⟨"CliffHoney$Reader", "isDigit", "(I)Z"⟩, 8), (⟨"CliffHoney$Reader", "digits", "()V"⟩, 8), (⟨"CliffHoney", "refused", "(II)LCliffHoney$Fault;"⟩, 51)]
theorem lw_r1 : ∀ q ∈ lw_privs_1, lw_okq q := List.forall_mem_cons.mpr ⟨lw_p0, List.forall_mem_cons.mpr ⟨lw_p1, List.forall_mem_cons.mpr ⟨lw_p2, List.forall_mem_cons.mpr ⟨lw_p3, List.forall_mem_cons.mpr ⟨lw_p4, List.forall_mem_cons.mpr ⟨lw_p5, List.forall_mem_cons.mpr ⟨lw_p6, List.forall_mem_cons.mpr ⟨lw_p7, List.forall_mem_cons.mpr ⟨lw_p8, List.forall_mem_cons.mpr ⟨lw_p9, List.forall_mem_cons.mpr ⟨lw_p10, List.forall_mem_cons.mpr ⟨lw_p11, List.forall_mem_cons.mpr ⟨lw_p12, List.forall_mem_cons.mpr ⟨lw_p13, List.forall_mem_cons.mpr ⟨lw_p14, List.forall_mem_cons.mpr ⟨lw_p15, fun _ h => absurd h List.not_mem_nil⟩⟩⟩⟩⟩⟩⟩⟩⟩⟩⟩⟩⟩⟩⟩⟩
theorem lw_p16 : lw_okq (⟨"CliffHoney$Reader", "line", "(I)LCliffHoney$Line;"⟩, 8) := ⟨⟨by decide +kernel, by decide +kernel⟩, lw_t1 (List.mem_of_getElem? (i := 137) rfl), lw_t4 (List.mem_of_getElem? (i := 95) rfl), lw_t4 (List.mem_of_getElem? (i := 96) rfl)⟩
theorem lw_p17 : lw_okq (⟨"CliffHoney$Reader", "sum", "()LCliffHoney$Term;"⟩, 8) := ⟨⟨by decide +kernel, by decide +kernel⟩, lw_t1 (List.mem_of_getElem? (i := 137) rfl), lw_t4 (List.mem_of_getElem? (i := 99) rfl), lw_t4 (List.mem_of_getElem? (i := 100) rfl)⟩
theorem lw_p18 : lw_okq (⟨"CliffHoney$Reader", "product", "()LCliffHoney$Term;"⟩, 8) := ⟨⟨by decide +kernel, by decide +kernel⟩, lw_t1 (List.mem_of_getElem? (i := 137) rfl), lw_t4 (List.mem_of_getElem? (i := 103) rfl), lw_t4 (List.mem_of_getElem? (i := 104) rfl)⟩
theorem lw_p19 : lw_okq (⟨"CliffHoney$Reader", "unit", "()LCliffHoney$Term;"⟩, 8) := ⟨⟨by decide +kernel, by decide +kernel⟩, lw_t1 (List.mem_of_getElem? (i := 137) rfl), lw_t4 (List.mem_of_getElem? (i := 107) rfl), lw_t4 (List.mem_of_getElem? (i := 108) rfl)⟩
theorem lw_p20 : lw_okq (⟨"CliffHoney$Reader", "isSign", "(I)Z"⟩, 8) := ⟨⟨by decide +kernel, by decide +kernel⟩, lw_t1 (List.mem_of_getElem? (i := 137) rfl), lw_t4 (List.mem_of_getElem? (i := 111) rfl), lw_t4 (List.mem_of_getElem? (i := 112) rfl)⟩
theorem lw_p21 : lw_okq (⟨"CliffHoney$Reader", "opens", "()V"⟩, 8) := ⟨⟨by decide +kernel, by decide +kernel⟩, lw_t1 (List.mem_of_getElem? (i := 137) rfl), lw_t4 (List.mem_of_getElem? (i := 115) rfl), lw_t4 (List.mem_of_getElem? (i := 116) rfl)⟩
theorem lw_p22 : lw_okq (⟨"CliffHoney$Reader", "bad", "()LCliffHoney$Fault;"⟩, 8) := ⟨⟨by decide +kernel, by decide +kernel⟩, lw_t1 (List.mem_of_getElem? (i := 137) rfl), lw_t4 (List.mem_of_getElem? (i := 119) rfl), lw_t4 (List.mem_of_getElem? (i := 120) rfl)⟩
theorem lw_p23 : lw_okq (⟨"CliffHoney$Reader", "number", "(II)I"⟩, 8) := ⟨⟨by decide +kernel, by decide +kernel⟩, lw_t1 (List.mem_of_getElem? (i := 137) rfl), lw_t4 (List.mem_of_getElem? (i := 148) rfl), lw_t4 (List.mem_of_getElem? (i := 149) rfl)⟩
theorem lw_p24 : lw_okq (⟨"CliffHoney$Reader", "isWord", "(I)Z"⟩, 8) := ⟨⟨by decide +kernel, by decide +kernel⟩, lw_t1 (List.mem_of_getElem? (i := 137) rfl), lw_t4 (List.mem_of_getElem? (i := 168) rfl), lw_t4 (List.mem_of_getElem? (i := 169) rfl)⟩
theorem lw_p25 : lw_okq (⟨"CliffHoney$Reader", "condition", "()LCliffHoney$Term;"⟩, 8) := ⟨⟨by decide +kernel, by decide +kernel⟩, lw_t1 (List.mem_of_getElem? (i := 137) rfl), lw_t4 (List.mem_of_getElem? (i := 172) rfl), lw_t4 (List.mem_of_getElem? (i := 173) rfl)⟩
theorem lw_p26 : lw_okq (⟨"CliffHoney$Reader", "all", "()LCliffHoney$Term;"⟩, 8) := ⟨⟨by decide +kernel, by decide +kernel⟩, lw_t1 (List.mem_of_getElem? (i := 137) rfl), lw_t4 (List.mem_of_getElem? (i := 176) rfl), lw_t4 (List.mem_of_getElem? (i := 177) rfl)⟩
theorem lw_p27 : lw_okq (⟨"CliffHoney$Reader", "one", "()LCliffHoney$Term;"⟩, 8) := ⟨⟨by decide +kernel, by decide +kernel⟩, lw_t1 (List.mem_of_getElem? (i := 137) rfl), lw_t4 (List.mem_of_getElem? (i := 180) rfl), lw_t4 (List.mem_of_getElem? (i := 181) rfl)⟩
theorem lw_p28 : lw_okq (⟨"CliffHoney", "puts", "(I)V"⟩, 51) := ⟨⟨by decide +kernel, by decide +kernel⟩, lw_t1 (List.mem_of_getElem? (i := 37) rfl), lw_t5 (List.mem_of_getElem? (i := 43) rfl), lw_t5 (List.mem_of_getElem? (i := 44) rfl)⟩
theorem lw_p29 : lw_okq (⟨"CliffHoney", "ask", "(ILCliffHoney$Ledge;II)LCliffHoney$Custom;"⟩, 51) := ⟨⟨by decide +kernel, by decide +kernel⟩, lw_t1 (List.mem_of_getElem? (i := 37) rfl), lw_t5 (List.mem_of_getElem? (i := 59) rfl), lw_t5 (List.mem_of_getElem? (i := 60) rfl)⟩
theorem lw_p30 : lw_okq (⟨"CliffHoney", "isLadder", "(I)Z"⟩, 51) := ⟨⟨by decide +kernel, by decide +kernel⟩, lw_t1 (List.mem_of_getElem? (i := 37) rfl), lw_t5 (List.mem_of_getElem? (i := 116) rfl), lw_t5 (List.mem_of_getElem? (i := 117) rfl)⟩
theorem lw_p31 : lw_okq (⟨"CliffHoney", "bears", "(I)I"⟩, 51) := ⟨⟨by decide +kernel, by decide +kernel⟩, lw_t1 (List.mem_of_getElem? (i := 37) rfl), lw_t5 (List.mem_of_getElem? (i := 120) rfl), lw_t5 (List.mem_of_getElem? (i := 121) rfl)⟩
def lw_privs_2 : List (MethodName × Nat) := [(⟨"CliffHoney$Reader", "line", "(I)LCliffHoney$Line;"⟩, 8), (⟨"CliffHoney$Reader", "sum", "()LCliffHoney$Term;"⟩, 8), (⟨"CliffHoney$Reader", "product", "()LCliffHoney$Term;"⟩, 8), (⟨"CliffHoney$Reader", "unit", "()LCliffHoney$Term;"⟩, 8), (⟨"CliffHoney$Reader", "isSign", "(I)Z"⟩, 8), (⟨"CliffHoney$Reader", "opens", "()V"⟩, 8), (⟨"CliffHoney$Reader", "bad", "()LCliffHoney$Fault;"⟩, 8), (⟨"CliffHoney$Reader", "number", "(II)I"⟩, 8), (⟨"CliffHoney$Reader", "isWord", "(I)Z"⟩, 8), (⟨"CliffHoney$Reader", "condition", "()LCliffHoney$Term;"⟩, 8), (⟨"CliffHoney$Reader", "all", "()LCliffHoney$Term;"⟩, 8), (⟨"CliffHoney$Reader", "one", "()LCliffHoney$Term;"⟩, 8), (⟨"CliffHoney", "puts", "(I)V"⟩, 51), (⟨"CliffHoney", "ask", "(ILCliffHoney$Ledge;II)LCliffHoney$Custom;"⟩, 51), (⟨"CliffHoney", "isLadder", "(I)Z"⟩, 51), (⟨"CliffHoney", "bears", "(I)I"⟩, 51)]
theorem lw_r2 : ∀ q ∈ lw_privs_2, lw_okq q := List.forall_mem_cons.mpr ⟨lw_p16, List.forall_mem_cons.mpr ⟨lw_p17, List.forall_mem_cons.mpr ⟨lw_p18, List.forall_mem_cons.mpr ⟨lw_p19, List.forall_mem_cons.mpr ⟨lw_p20, List.forall_mem_cons.mpr ⟨lw_p21, List.forall_mem_cons.mpr ⟨lw_p22, List.forall_mem_cons.mpr ⟨lw_p23, List.forall_mem_cons.mpr ⟨lw_p24, List.forall_mem_cons.mpr ⟨lw_p25, List.forall_mem_cons.mpr ⟨lw_p26, List.forall_mem_cons.mpr ⟨lw_p27, List.forall_mem_cons.mpr ⟨lw_p28, List.forall_mem_cons.mpr ⟨lw_p29, List.forall_mem_cons.mpr ⟨lw_p30, List.forall_mem_cons.mpr ⟨lw_p31, fun _ h => absurd h List.not_mem_nil⟩⟩⟩⟩⟩⟩⟩⟩⟩⟩⟩⟩⟩⟩⟩⟩
theorem lw_p32 : lw_okq (⟨"CliffHoney", "canReach", "(III)Z"⟩, 51) := ⟨⟨by decide +kernel, by decide +kernel⟩, lw_t1 (List.mem_of_getElem? (i := 37) rfl), lw_t5 (List.mem_of_getElem? (i := 128) rfl), lw_t5 (List.mem_of_getElem? (i := 129) rfl)⟩
theorem lw_p33 : lw_okq (⟨"CliffHoney", "isPerson", "(I)Z"⟩, 51) := ⟨⟨by decide +kernel, by decide +kernel⟩, lw_t1 (List.mem_of_getElem? (i := 37) rfl), lw_t5 (List.mem_of_getElem? (i := 132) rfl), lw_t5 (List.mem_of_getElem? (i := 133) rfl)⟩
theorem lw_p34 : lw_okq (⟨"CliffHoney", "reachOf", "(III)I"⟩, 51) := ⟨⟨by decide +kernel, by decide +kernel⟩, lw_t1 (List.mem_of_getElem? (i := 37) rfl), lw_t5 (List.mem_of_getElem? (i := 136) rfl), lw_t5 (List.mem_of_getElem? (i := 137) rfl)⟩
theorem lw_p35 : lw_okq (⟨"CliffHoney", "findRow", "(III)V"⟩, 51) := ⟨⟨by decide +kernel, by decide +kernel⟩, lw_t1 (List.mem_of_getElem? (i := 37) rfl), lw_t5 (List.mem_of_getElem? (i := 145) rfl), lw_t5 (List.mem_of_getElem? (i := 146) rfl)⟩
theorem lw_p36 : lw_okq (⟨"CliffHoney", "tries", "(IIIIII)V"⟩, 51) := ⟨⟨by decide +kernel, by decide +kernel⟩, lw_t1 (List.mem_of_getElem? (i := 37) rfl), lw_t5 (List.mem_of_getElem? (i := 149) rfl), lw_t5 (List.mem_of_getElem? (i := 150) rfl)⟩
theorem lw_p37 : lw_okq (⟨"CliffHoney", "isSmoked", "(ILCliffHoney$Ledge;)Z"⟩, 51) := ⟨⟨by decide +kernel, by decide +kernel⟩, lw_t1 (List.mem_of_getElem? (i := 37) rfl), lw_t5 (List.mem_of_getElem? (i := 154) rfl), lw_t5 (List.mem_of_getElem? (i := 155) rfl)⟩
theorem lw_p38 : lw_okq (⟨"CliffHoney", "isAlive", "(I)Z"⟩, 51) := ⟨⟨by decide +kernel, by decide +kernel⟩, lw_t1 (List.mem_of_getElem? (i := 37) rfl), lw_t5 (List.mem_of_getElem? (i := 195) rfl), lw_t5 (List.mem_of_getElem? (i := 196) rfl)⟩
theorem lw_p39 : lw_okq (⟨"CliffHoney", "behind", "(I)I"⟩, 51) := ⟨⟨by decide +kernel, by decide +kernel⟩, lw_t1 (List.mem_of_getElem? (i := 37) rfl), lw_t5 (List.mem_of_getElem? (i := 199) rfl), lw_t5 (List.mem_of_getElem? (i := 200) rfl)⟩
theorem lw_p40 : lw_okq (⟨"CliffHoney", "comes", "(LCliffHoney$Lot;)I"⟩, 51) := ⟨⟨by decide +kernel, by decide +kernel⟩, lw_t1 (List.mem_of_getElem? (i := 37) rfl), lw_t6 (List.mem_of_getElem? (i := 39) rfl), lw_t6 (List.mem_of_getElem? (i := 40) rfl)⟩
theorem lw_p41 : lw_okq (⟨"CliffHoney", "isThere", "(I)Z"⟩, 51) := ⟨⟨by decide +kernel, by decide +kernel⟩, lw_t1 (List.mem_of_getElem? (i := 37) rfl), lw_t6 (List.mem_of_getElem? (i := 77) rfl), lw_t6 (List.mem_of_getElem? (i := 78) rfl)⟩
theorem lw_p42 : lw_okq (⟨"CliffHoney", "findSale", "()V"⟩, 51) := ⟨⟨by decide +kernel, by decide +kernel⟩, lw_t1 (List.mem_of_getElem? (i := 37) rfl), lw_t6 (List.mem_of_getElem? (i := 138) rfl), lw_t6 (List.mem_of_getElem? (i := 139) rfl)⟩
theorem lw_p43 : lw_okq (⟨"CliffHoney", "offers", "(III)V"⟩, 51) := ⟨⟨by decide +kernel, by decide +kernel⟩, lw_t1 (List.mem_of_getElem? (i := 37) rfl), lw_t6 (List.mem_of_getElem? (i := 142) rfl), lw_t6 (List.mem_of_getElem? (i := 143) rfl)⟩
theorem lw_p44 : lw_okq (⟨"CliffHoney$Cut", "finds", "(II)I"⟩, 10) := ⟨⟨by decide +kernel, by decide +kernel⟩, lw_t5 (List.mem_of_getElem? (i := 219) rfl), lw_t6 (List.mem_of_getElem? (i := 164) rfl), lw_t6 (List.mem_of_getElem? (i := 165) rfl)⟩
theorem lw_p45 : lw_okq (⟨"CliffHoney$Cut", "owns", "(II)I"⟩, 10) := ⟨⟨by decide +kernel, by decide +kernel⟩, lw_t5 (List.mem_of_getElem? (i := 219) rfl), lw_t6 (List.mem_of_getElem? (i := 168) rfl), lw_t6 (List.mem_of_getElem? (i := 169) rfl)⟩
theorem lw_p46 : lw_okq (⟨"CliffHoney", "whoseOf", "(III)I"⟩, 51) := ⟨⟨by decide +kernel, by decide +kernel⟩, lw_t1 (List.mem_of_getElem? (i := 37) rfl), lw_t6 (List.mem_of_getElem? (i := 172) rfl), lw_t6 (List.mem_of_getElem? (i := 173) rfl)⟩
theorem lw_p47 : lw_okq (⟨"CliffHoneyModel", "isPerson", "(I)Z"⟩, 103) := ⟨⟨by decide +kernel, by decide +kernel⟩, lw_t6 (List.mem_of_getElem? (i := 209) rfl), lw_t8 (List.mem_of_getElem? (i := 57) rfl), lw_t8 (List.mem_of_getElem? (i := 58) rfl)⟩
def lw_privs_3 : List (MethodName × Nat) := [(⟨"CliffHoney", "canReach", "(III)Z"⟩, 51), (⟨"CliffHoney", "isPerson", "(I)Z"⟩, 51), (⟨"CliffHoney", "reachOf", "(III)I"⟩, 51), (⟨"CliffHoney", "findRow", "(III)V"⟩, 51), (⟨"CliffHoney", "tries", "(IIIIII)V"⟩, 51), (⟨"CliffHoney", "isSmoked", "(ILCliffHoney$Ledge;)Z"⟩, 51), (⟨"CliffHoney", "isAlive", "(I)Z"⟩, 51), (⟨"CliffHoney", "behind", "(I)I"⟩, 51), (⟨"CliffHoney", "comes", "(LCliffHoney$Lot;)I"⟩, 51), (⟨"CliffHoney", "isThere", "(I)Z"⟩, 51), (⟨"CliffHoney", "findSale", "()V"⟩, 51), (⟨"CliffHoney", "offers", "(III)V"⟩, 51), (⟨"CliffHoney$Cut", "finds", "(II)I"⟩, 10), (⟨"CliffHoney$Cut", "owns", "(II)I"⟩, 10), (⟨"CliffHoney", "whoseOf", "(III)I"⟩, 51), (⟨"CliffHoneyModel", "isPerson", "(I)Z"⟩, 103)]
theorem lw_r3 : ∀ q ∈ lw_privs_3, lw_okq q := List.forall_mem_cons.mpr ⟨lw_p32, List.forall_mem_cons.mpr ⟨lw_p33, List.forall_mem_cons.mpr ⟨lw_p34, List.forall_mem_cons.mpr ⟨lw_p35, List.forall_mem_cons.mpr ⟨lw_p36, List.forall_mem_cons.mpr ⟨lw_p37, List.forall_mem_cons.mpr ⟨lw_p38, List.forall_mem_cons.mpr ⟨lw_p39, List.forall_mem_cons.mpr ⟨lw_p40, List.forall_mem_cons.mpr ⟨lw_p41, List.forall_mem_cons.mpr ⟨lw_p42, List.forall_mem_cons.mpr ⟨lw_p43, List.forall_mem_cons.mpr ⟨lw_p44, List.forall_mem_cons.mpr ⟨lw_p45, List.forall_mem_cons.mpr ⟨lw_p46, List.forall_mem_cons.mpr ⟨lw_p47, fun _ h => absurd h List.not_mem_nil⟩⟩⟩⟩⟩⟩⟩⟩⟩⟩⟩⟩⟩⟩⟩⟩
theorem lw_p48 : lw_okq (⟨"CliffHoneyModel", "isLedge", "(I)Z"⟩, 103) := ⟨⟨by decide +kernel, by decide +kernel⟩, lw_t6 (List.mem_of_getElem? (i := 209) rfl), lw_t8 (List.mem_of_getElem? (i := 65) rfl), lw_t8 (List.mem_of_getElem? (i := 66) rfl)⟩
theorem lw_p49 : lw_okq (⟨"CliffHoneyModel", "goes", "()V"⟩, 103) := ⟨⟨by decide +kernel, by decide +kernel⟩, lw_t6 (List.mem_of_getElem? (i := 209) rfl), lw_t8 (List.mem_of_getElem? (i := 77) rfl), lw_t8 (List.mem_of_getElem? (i := 78) rfl)⟩
theorem lw_p50 : lw_okq (⟨"CliffHoneyModel", "grows", "()V"⟩, 103) := ⟨⟨by decide +kernel, by decide +kernel⟩, lw_t6 (List.mem_of_getElem? (i := 209) rfl), lw_t8 (List.mem_of_getElem? (i := 81) rfl), lw_t8 (List.mem_of_getElem? (i := 82) rfl)⟩
theorem lw_p51 : lw_okq (⟨"CliffHoneyModel", "month", "()I"⟩, 103) := ⟨⟨by decide +kernel, by decide +kernel⟩, lw_t6 (List.mem_of_getElem? (i := 209) rfl), lw_t8 (List.mem_of_getElem? (i := 85) rfl), lw_t8 (List.mem_of_getElem? (i := 86) rfl)⟩
theorem lw_p52 : lw_okq (⟨"CliffHoneyModel", "season", "()I"⟩, 103) := ⟨⟨by decide +kernel, by decide +kernel⟩, lw_t6 (List.mem_of_getElem? (i := 209) rfl), lw_t8 (List.mem_of_getElem? (i := 89) rfl), lw_t8 (List.mem_of_getElem? (i := 90) rfl)⟩
theorem lw_p53 : lw_okq (⟨"CliffHoneyModel", "day", "()I"⟩, 103) := ⟨⟨by decide +kernel, by decide +kernel⟩, lw_t6 (List.mem_of_getElem? (i := 209) rfl), lw_t8 (List.mem_of_getElem? (i := 93) rfl), lw_t8 (List.mem_of_getElem? (i := 94) rfl)⟩
theorem lw_p54 : lw_okq (⟨"CliffHoneyModel", "ends", "()V"⟩, 103) := ⟨⟨by decide +kernel, by decide +kernel⟩, lw_t6 (List.mem_of_getElem? (i := 209) rfl), lw_t8 (List.mem_of_getElem? (i := 97) rfl), lw_t8 (List.mem_of_getElem? (i := 98) rfl)⟩
theorem lw_p55 : lw_okq (⟨"CliffHoneyModel", "swarms", "(I)V"⟩, 103) := ⟨⟨by decide +kernel, by decide +kernel⟩, lw_t6 (List.mem_of_getElem? (i := 209) rfl), lw_t8 (List.mem_of_getElem? (i := 104) rfl), lw_t8 (List.mem_of_getElem? (i := 105) rfl)⟩
theorem lw_p56 : lw_okq (⟨"CliffHoneyModel", "apart", "(II)I"⟩, 103) := ⟨⟨by decide +kernel, by decide +kernel⟩, lw_t6 (List.mem_of_getElem? (i := 209) rfl), lw_t8 (List.mem_of_getElem? (i := 108) rfl), lw_t8 (List.mem_of_getElem? (i := 109) rfl)⟩
theorem lw_p57 : lw_okq (⟨"CliffHoneyModel", "next0", "()V"⟩, 103) := ⟨⟨by decide +kernel, by decide +kernel⟩, lw_t6 (List.mem_of_getElem? (i := 209) rfl), lw_t8 (List.mem_of_getElem? (i := 135) rfl), lw_t8 (List.mem_of_getElem? (i := 136) rfl)⟩
theorem lw_p58 : lw_okq (⟨"CliffHoneyModel", "see", "(I)I"⟩, 103) := ⟨⟨by decide +kernel, by decide +kernel⟩, lw_t6 (List.mem_of_getElem? (i := 209) rfl), lw_t8 (List.mem_of_getElem? (i := 139) rfl), lw_t8 (List.mem_of_getElem? (i := 140) rfl)⟩
theorem lw_p59 : lw_okq (⟨"CliffHoneyModel", "aLine", "()Z"⟩, 103) := ⟨⟨by decide +kernel, by decide +kernel⟩, lw_t6 (List.mem_of_getElem? (i := 209) rfl), lw_t8 (List.mem_of_getElem? (i := 173) rfl), lw_t8 (List.mem_of_getElem? (i := 174) rfl)⟩
theorem lw_p60 : lw_okq (⟨"CliffHoneyModel", "bad", "(I)Z"⟩, 103) := ⟨⟨by decide +kernel, by decide +kernel⟩, lw_t6 (List.mem_of_getElem? (i := 209) rfl), lw_t8 (List.mem_of_getElem? (i := 177) rfl), lw_t8 (List.mem_of_getElem? (i := 178) rfl)⟩
theorem lw_p61 : lw_okq (⟨"CliffHoneyModel", "inner", "(I)Z"⟩, 103) := ⟨⟨by decide +kernel, by decide +kernel⟩, lw_t6 (List.mem_of_getElem? (i := 209) rfl), lw_t8 (List.mem_of_getElem? (i := 181) rfl), lw_t8 (List.mem_of_getElem? (i := 182) rfl)⟩
theorem lw_p62 : lw_okq (⟨"CliffHoneyModel", "sumOf", "()Z"⟩, 103) := ⟨⟨by decide +kernel, by decide +kernel⟩, lw_t6 (List.mem_of_getElem? (i := 209) rfl), lw_t8 (List.mem_of_getElem? (i := 185) rfl), lw_t8 (List.mem_of_getElem? (i := 186) rfl)⟩
theorem lw_p63 : lw_okq (⟨"CliffHoneyModel", "product", "()Z"⟩, 103) := ⟨⟨by decide +kernel, by decide +kernel⟩, lw_t6 (List.mem_of_getElem? (i := 209) rfl), lw_t8 (List.mem_of_getElem? (i := 189) rfl), lw_t8 (List.mem_of_getElem? (i := 190) rfl)⟩
def lw_privs_4 : List (MethodName × Nat) := [(⟨"CliffHoneyModel", "isLedge", "(I)Z"⟩, 103), (⟨"CliffHoneyModel", "goes", "()V"⟩, 103), (⟨"CliffHoneyModel", "grows", "()V"⟩, 103), (⟨"CliffHoneyModel", "month", "()I"⟩, 103), (⟨"CliffHoneyModel", "season", "()I"⟩, 103), (⟨"CliffHoneyModel", "day", "()I"⟩, 103), (⟨"CliffHoneyModel", "ends", "()V"⟩, 103), (⟨"CliffHoneyModel", "swarms", "(I)V"⟩, 103), (⟨"CliffHoneyModel", "apart", "(II)I"⟩, 103), (⟨"CliffHoneyModel", "next0", "()V"⟩, 103), (⟨"CliffHoneyModel", "see", "(I)I"⟩, 103), (⟨"CliffHoneyModel", "aLine", "()Z"⟩, 103), (⟨"CliffHoneyModel", "bad", "(I)Z"⟩, 103), (⟨"CliffHoneyModel", "inner", "(I)Z"⟩, 103), (⟨"CliffHoneyModel", "sumOf", "()Z"⟩, 103), (⟨"CliffHoneyModel", "product", "()Z"⟩, 103)]
theorem lw_r4 : ∀ q ∈ lw_privs_4, lw_okq q := List.forall_mem_cons.mpr ⟨lw_p48, List.forall_mem_cons.mpr ⟨lw_p49, List.forall_mem_cons.mpr ⟨lw_p50, List.forall_mem_cons.mpr ⟨lw_p51, List.forall_mem_cons.mpr ⟨lw_p52, List.forall_mem_cons.mpr ⟨lw_p53, List.forall_mem_cons.mpr ⟨lw_p54, List.forall_mem_cons.mpr ⟨lw_p55, List.forall_mem_cons.mpr ⟨lw_p56, List.forall_mem_cons.mpr ⟨lw_p57, List.forall_mem_cons.mpr ⟨lw_p58, List.forall_mem_cons.mpr ⟨lw_p59, List.forall_mem_cons.mpr ⟨lw_p60, List.forall_mem_cons.mpr ⟨lw_p61, List.forall_mem_cons.mpr ⟨lw_p62, List.forall_mem_cons.mpr ⟨lw_p63, fun _ h => absurd h List.not_mem_nil⟩⟩⟩⟩⟩⟩⟩⟩⟩⟩⟩⟩⟩⟩⟩⟩
theorem lw_p64 : lw_okq (⟨"CliffHoneyModel", "unit", "()Z"⟩, 103) := ⟨⟨by decide +kernel, by decide +kernel⟩, lw_t6 (List.mem_of_getElem? (i := 209) rfl), lw_t8 (List.mem_of_getElem? (i := 193) rfl), lw_t8 (List.mem_of_getElem? (i := 194) rfl)⟩
theorem lw_p65 : lw_okq (⟨"CliffHoneyModel", "opens", "()Z"⟩, 103) := ⟨⟨by decide +kernel, by decide +kernel⟩, lw_t6 (List.mem_of_getElem? (i := 209) rfl), lw_t8 (List.mem_of_getElem? (i := 197) rfl), lw_t8 (List.mem_of_getElem? (i := 198) rfl)⟩
theorem lw_p66 : lw_okq (⟨"CliffHoneyModel", "need", "(I)Z"⟩, 103) := ⟨⟨by decide +kernel, by decide +kernel⟩, lw_t6 (List.mem_of_getElem? (i := 209) rfl), lw_t8 (List.mem_of_getElem? (i := 201) rfl), lw_t8 (List.mem_of_getElem? (i := 202) rfl)⟩
theorem lw_p67 : lw_okq (⟨"CliffHoneyModel", "lay", "(II)V"⟩, 103) := ⟨⟨by decide +kernel, by decide +kernel⟩, lw_t6 (List.mem_of_getElem? (i := 209) rfl), lw_t8 (List.mem_of_getElem? (i := 205) rfl), lw_t8 (List.mem_of_getElem? (i := 206) rfl)⟩
theorem lw_p68 : lw_okq (⟨"CliffHoneyModel", "any", "()Z"⟩, 103) := ⟨⟨by decide +kernel, by decide +kernel⟩, lw_t6 (List.mem_of_getElem? (i := 209) rfl), lw_t8 (List.mem_of_getElem? (i := 209) rfl), lw_t8 (List.mem_of_getElem? (i := 210) rfl)⟩
theorem lw_p69 : lw_okq (⟨"CliffHoneyModel", "all", "()Z"⟩, 103) := ⟨⟨by decide +kernel, by decide +kernel⟩, lw_t6 (List.mem_of_getElem? (i := 209) rfl), lw_t8 (List.mem_of_getElem? (i := 213) rfl), lw_t8 (List.mem_of_getElem? (i := 214) rfl)⟩
theorem lw_p70 : lw_okq (⟨"CliffHoneyModel", "one", "()Z"⟩, 103) := ⟨⟨by decide +kernel, by decide +kernel⟩, lw_t6 (List.mem_of_getElem? (i := 209) rfl), lw_t8 (List.mem_of_getElem? (i := 217) rfl), lw_t8 (List.mem_of_getElem? (i := 218) rfl)⟩
theorem lw_p71 : lw_okq (⟨"CliffHoneyModel", "aNumber", "(I)Z"⟩, 103) := ⟨⟨by decide +kernel, by decide +kernel⟩, lw_t6 (List.mem_of_getElem? (i := 209) rfl), lw_t8 (List.mem_of_getElem? (i := 221) rfl), lw_t8 (List.mem_of_getElem? (i := 222) rfl)⟩
theorem lw_p72 : lw_okq (⟨"CliffHoneyModel", "takes", "(I)V"⟩, 103) := ⟨⟨by decide +kernel, by decide +kernel⟩, lw_t6 (List.mem_of_getElem? (i := 209) rfl), lw_t8 (List.mem_of_getElem? (i := 225) rfl), lw_t8 (List.mem_of_getElem? (i := 226) rfl)⟩
theorem lw_p73 : lw_okq (⟨"CliffHoneyModel", "isBarred", "(II)Z"⟩, 103) := ⟨⟨by decide +kernel, by decide +kernel⟩, lw_t6 (List.mem_of_getElem? (i := 209) rfl), lw_t9 (List.mem_of_getElem? (i := 1) rfl), lw_t9 (List.mem_of_getElem? (i := 2) rfl)⟩
theorem lw_p74 : lw_okq (⟨"CliffHoneyModel", "comesTo", "(IIII)I"⟩, 103) := ⟨⟨by decide +kernel, by decide +kernel⟩, lw_t6 (List.mem_of_getElem? (i := 209) rfl), lw_t9 (List.mem_of_getElem? (i := 5) rfl), lw_t9 (List.mem_of_getElem? (i := 6) rfl)⟩
theorem lw_p75 : lw_okq (⟨"CliffHoneyModel", "known", "(III)I"⟩, 103) := ⟨⟨by decide +kernel, by decide +kernel⟩, lw_t6 (List.mem_of_getElem? (i := 209) rfl), lw_t9 (List.mem_of_getElem? (i := 9) rfl), lw_t9 (List.mem_of_getElem? (i := 10) rfl)⟩
theorem lw_p76 : lw_okq (⟨"CliffHoneyModel", "leaves", "(II)I"⟩, 103) := ⟨⟨by decide +kernel, by decide +kernel⟩, lw_t6 (List.mem_of_getElem? (i := 209) rfl), lw_t9 (List.mem_of_getElem? (i := 16) rfl), lw_t9 (List.mem_of_getElem? (i := 17) rfl)⟩
theorem lw_p77 : lw_okq (⟨"CliffHoneyModel", "unitsLeft", "(II)I"⟩, 103) := ⟨⟨by decide +kernel, by decide +kernel⟩, lw_t6 (List.mem_of_getElem? (i := 209) rfl), lw_t9 (List.mem_of_getElem? (i := 20) rfl), lw_t9 (List.mem_of_getElem? (i := 21) rfl)⟩
theorem lw_p78 : lw_okq (⟨"CliffHoneyModel", "isLadder", "(I)Z"⟩, 103) := ⟨⟨by decide +kernel, by decide +kernel⟩, lw_t6 (List.mem_of_getElem? (i := 209) rfl), lw_t9 (List.mem_of_getElem? (i := 32) rfl), lw_t9 (List.mem_of_getElem? (i := 33) rfl)⟩
theorem lw_p79 : lw_okq (⟨"CliffHoneyModel", "age", "(I)I"⟩, 103) := ⟨⟨by decide +kernel, by decide +kernel⟩, lw_t6 (List.mem_of_getElem? (i := 209) rfl), lw_t9 (List.mem_of_getElem? (i := 36) rfl), lw_t9 (List.mem_of_getElem? (i := 37) rfl)⟩
def lw_privs_5 : List (MethodName × Nat) := [(⟨"CliffHoneyModel", "unit", "()Z"⟩, 103), (⟨"CliffHoneyModel", "opens", "()Z"⟩, 103), (⟨"CliffHoneyModel", "need", "(I)Z"⟩, 103), (⟨"CliffHoneyModel", "lay", "(II)V"⟩, 103), (⟨"CliffHoneyModel", "any", "()Z"⟩, 103), (⟨"CliffHoneyModel", "all", "()Z"⟩, 103), (⟨"CliffHoneyModel", "one", "()Z"⟩, 103), (⟨"CliffHoneyModel", "aNumber", "(I)Z"⟩, 103), (⟨"CliffHoneyModel", "takes", "(I)V"⟩, 103), (⟨"CliffHoneyModel", "isBarred", "(II)Z"⟩, 103), (⟨"CliffHoneyModel", "comesTo", "(IIII)I"⟩, 103), (⟨"CliffHoneyModel", "known", "(III)I"⟩, 103), (⟨"CliffHoneyModel", "leaves", "(II)I"⟩, 103), (⟨"CliffHoneyModel", "unitsLeft", "(II)I"⟩, 103), (⟨"CliffHoneyModel", "isLadder", "(I)Z"⟩, 103), (⟨"CliffHoneyModel", "age", "(I)I"⟩, 103)]
theorem lw_r5 : ∀ q ∈ lw_privs_5, lw_okq q := List.forall_mem_cons.mpr ⟨lw_p64, List.forall_mem_cons.mpr ⟨lw_p65, List.forall_mem_cons.mpr ⟨lw_p66, List.forall_mem_cons.mpr ⟨lw_p67, List.forall_mem_cons.mpr ⟨lw_p68, List.forall_mem_cons.mpr ⟨lw_p69, List.forall_mem_cons.mpr ⟨lw_p70, List.forall_mem_cons.mpr ⟨lw_p71, List.forall_mem_cons.mpr ⟨lw_p72, List.forall_mem_cons.mpr ⟨lw_p73, List.forall_mem_cons.mpr ⟨lw_p74, List.forall_mem_cons.mpr ⟨lw_p75, List.forall_mem_cons.mpr ⟨lw_p76, List.forall_mem_cons.mpr ⟨lw_p77, List.forall_mem_cons.mpr ⟨lw_p78, List.forall_mem_cons.mpr ⟨lw_p79, fun _ h => absurd h List.not_mem_nil⟩⟩⟩⟩⟩⟩⟩⟩⟩⟩⟩⟩⟩⟩⟩⟩
theorem lw_p80 : lw_okq (⟨"CliffHoneyModel", "bears", "(I)I"⟩, 103) := ⟨⟨by decide +kernel, by decide +kernel⟩, lw_t6 (List.mem_of_getElem? (i := 209) rfl), lw_t9 (List.mem_of_getElem? (i := 40) rfl), lw_t9 (List.mem_of_getElem? (i := 41) rfl)⟩
theorem lw_p81 : lw_okq (⟨"CliffHoneyModel", "canHang", "(III)Z"⟩, 103) := ⟨⟨by decide +kernel, by decide +kernel⟩, lw_t6 (List.mem_of_getElem? (i := 209) rfl), lw_t9 (List.mem_of_getElem? (i := 48) rfl), lw_t9 (List.mem_of_getElem? (i := 49) rfl)⟩
theorem lw_p82 : lw_okq (⟨"CliffHoneyModel", "reached", "(III)I"⟩, 103) := ⟨⟨by decide +kernel, by decide +kernel⟩, lw_t6 (List.mem_of_getElem? (i := 209) rfl), lw_t9 (List.mem_of_getElem? (i := 52) rfl), lw_t9 (List.mem_of_getElem? (i := 53) rfl)⟩
theorem lw_p83 : lw_okq (⟨"CliffHoneyModel", "isReached", "(IIII)Z"⟩, 103) := ⟨⟨by decide +kernel, by decide +kernel⟩, lw_t6 (List.mem_of_getElem? (i := 209) rfl), lw_t9 (List.mem_of_getElem? (i := 56) rfl), lw_t9 (List.mem_of_getElem? (i := 57) rfl)⟩
theorem lw_p84 : lw_okq (⟨"CliffHoneyModel", "rows", "(III)V"⟩, 103) := ⟨⟨by decide +kernel, by decide +kernel⟩, lw_t6 (List.mem_of_getElem? (i := 209) rfl), lw_t9 (List.mem_of_getElem? (i := 64) rfl), lw_t9 (List.mem_of_getElem? (i := 65) rfl)⟩
theorem lw_p85 : lw_okq (⟨"CliffHoneyModel", "isSmoked", "(II)Z"⟩, 103) := ⟨⟨by decide +kernel, by decide +kernel⟩, lw_t6 (List.mem_of_getElem? (i := 209) rfl), lw_t9 (List.mem_of_getElem? (i := 68) rfl), lw_t9 (List.mem_of_getElem? (i := 69) rfl)⟩
theorem lw_p86 : lw_okq (⟨"CliffHoneyModel", "takesRow", "(II)V"⟩, 103) := ⟨⟨by decide +kernel, by decide +kernel⟩, lw_t6 (List.mem_of_getElem? (i := 209) rfl), lw_t9 (List.mem_of_getElem? (i := 72) rfl), lw_t9 (List.mem_of_getElem? (i := 73) rfl)⟩
theorem lw_p87 : lw_okq (⟨"CliffHoneyModel", "isLiving", "(I)Z"⟩, 103) := ⟨⟨by decide +kernel, by decide +kernel⟩, lw_t6 (List.mem_of_getElem? (i := 209) rfl), lw_t9 (List.mem_of_getElem? (i := 88) rfl), lw_t9 (List.mem_of_getElem? (i := 89) rfl)⟩
theorem lw_p88 : lw_okq (⟨"CliffHoneyModel", "comes", "(III)I"⟩, 103) := ⟨⟨by decide +kernel, by decide +kernel⟩, lw_t6 (List.mem_of_getElem? (i := 209) rfl), lw_t9 (List.mem_of_getElem? (i := 104) rfl), lw_t9 (List.mem_of_getElem? (i := 105) rfl)⟩
theorem lw_p89 : lw_okq (⟨"CliffHoneyModel", "isLot", "(I)Z"⟩, 103) := ⟨⟨by decide +kernel, by decide +kernel⟩, lw_t6 (List.mem_of_getElem? (i := 209) rfl), lw_t9 (List.mem_of_getElem? (i := 116) rfl), lw_t9 (List.mem_of_getElem? (i := 117) rfl)⟩
theorem lw_p90 : lw_okq (⟨"CliffHoneyModel", "sales", "()V"⟩, 103) := ⟨⟨by decide +kernel, by decide +kernel⟩, lw_t6 (List.mem_of_getElem? (i := 209) rfl), lw_t9 (List.mem_of_getElem? (i := 136) rfl), lw_t9 (List.mem_of_getElem? (i := 137) rfl)⟩
theorem lw_p91 : lw_okq (⟨"CliffHoneyModel", "offers", "(III)V"⟩, 103) := ⟨⟨by decide +kernel, by decide +kernel⟩, lw_t6 (List.mem_of_getElem? (i := 209) rfl), lw_t9 (List.mem_of_getElem? (i := 140) rfl), lw_t9 (List.mem_of_getElem? (i := 141) rfl)⟩
theorem lw_p92 : lw_okq (⟨"CliffHoneyModel", "pays", "(II)I"⟩, 103) := ⟨⟨by decide +kernel, by decide +kernel⟩, lw_t6 (List.mem_of_getElem? (i := 209) rfl), lw_t9 (List.mem_of_getElem? (i := 148) rfl), lw_t9 (List.mem_of_getElem? (i := 149) rfl)⟩
theorem lw_p93 : lw_okq (⟨"CliffHoneyModel", "share", "(III)I"⟩, 103) := ⟨⟨by decide +kernel, by decide +kernel⟩, lw_t6 (List.mem_of_getElem? (i := 209) rfl), lw_t9 (List.mem_of_getElem? (i := 152) rfl), lw_t9 (List.mem_of_getElem? (i := 153) rfl)⟩
theorem lw_p94 : lw_okq (⟨"CliffHoneyModel", "whoseIs", "(III)I"⟩, 103) := ⟨⟨by decide +kernel, by decide +kernel⟩, lw_t6 (List.mem_of_getElem? (i := 209) rfl), lw_t9 (List.mem_of_getElem? (i := 156) rfl), lw_t9 (List.mem_of_getElem? (i := 157) rfl)⟩
theorem lw_p95 : lw_okq (⟨"CliffHoneyModel", "keeps", "(Z)V"⟩, 103) := ⟨⟨by decide +kernel, by decide +kernel⟩, lw_t6 (List.mem_of_getElem? (i := 209) rfl), lw_t9 (List.mem_of_getElem? (i := 184) rfl), lw_t9 (List.mem_of_getElem? (i := 185) rfl)⟩
def lw_privs_6 : List (MethodName × Nat) := [(⟨"CliffHoneyModel", "bears", "(I)I"⟩, 103), (⟨"CliffHoneyModel", "canHang", "(III)Z"⟩, 103), (⟨"CliffHoneyModel", "reached", "(III)I"⟩, 103), (⟨"CliffHoneyModel", "isReached", "(IIII)Z"⟩, 103), (⟨"CliffHoneyModel", "rows", "(III)V"⟩, 103), (⟨"CliffHoneyModel", "isSmoked", "(II)Z"⟩, 103), (⟨"CliffHoneyModel", "takesRow", "(II)V"⟩, 103), (⟨"CliffHoneyModel", "isLiving", "(I)Z"⟩, 103), (⟨"CliffHoneyModel", "comes", "(III)I"⟩, 103), (⟨"CliffHoneyModel", "isLot", "(I)Z"⟩, 103), (⟨"CliffHoneyModel", "sales", "()V"⟩, 103), (⟨"CliffHoneyModel", "offers", "(III)V"⟩, 103), (⟨"CliffHoneyModel", "pays", "(II)I"⟩, 103), (⟨"CliffHoneyModel", "share", "(III)I"⟩, 103), (⟨"CliffHoneyModel", "whoseIs", "(III)I"⟩, 103), (⟨"CliffHoneyModel", "keeps", "(Z)V"⟩, 103)]
theorem lw_r6 : ∀ q ∈ lw_privs_6, lw_okq q := List.forall_mem_cons.mpr ⟨lw_p80, List.forall_mem_cons.mpr ⟨lw_p81, List.forall_mem_cons.mpr ⟨lw_p82, List.forall_mem_cons.mpr ⟨lw_p83, List.forall_mem_cons.mpr ⟨lw_p84, List.forall_mem_cons.mpr ⟨lw_p85, List.forall_mem_cons.mpr ⟨lw_p86, List.forall_mem_cons.mpr ⟨lw_p87, List.forall_mem_cons.mpr ⟨lw_p88, List.forall_mem_cons.mpr ⟨lw_p89, List.forall_mem_cons.mpr ⟨lw_p90, List.forall_mem_cons.mpr ⟨lw_p91, List.forall_mem_cons.mpr ⟨lw_p92, List.forall_mem_cons.mpr ⟨lw_p93, List.forall_mem_cons.mpr ⟨lw_p94, List.forall_mem_cons.mpr ⟨lw_p95, fun _ h => absurd h List.not_mem_nil⟩⟩⟩⟩⟩⟩⟩⟩⟩⟩⟩⟩⟩⟩⟩⟩
theorem lw_p96 : lw_okq (⟨"CliffHoneyModel", "foresees", "(I)I"⟩, 103) := ⟨⟨by decide +kernel, by decide +kernel⟩, lw_t6 (List.mem_of_getElem? (i := 209) rfl), lw_t9 (List.mem_of_getElem? (i := 188) rfl), lw_t9 (List.mem_of_getElem? (i := 189) rfl)⟩
def lw_privs_7 : List (MethodName × Nat) := [(⟨"CliffHoneyModel", "foresees", "(I)I"⟩, 103)]
theorem lw_r7 : ∀ q ∈ lw_privs_7, lw_okq q := List.forall_mem_cons.mpr ⟨lw_p96, fun _ h => absurd h List.not_mem_nil⟩
def lw_privs : List (MethodName × Nat) := lw_privs_1 ++ (lw_privs_2 ++ (lw_privs_3 ++ (lw_privs_4 ++ (lw_privs_5 ++ (lw_privs_6 ++ (lw_privs_7))))))
def lw_tbl : List Cond := k2_sels lw_privs ++ tables_1
theorem lw_privs_ok : ∀ q ∈ lw_privs, lw_okq q := by
  show ∀ q ∈ lw_privs_1 ++ (lw_privs_2 ++ (lw_privs_3 ++ (lw_privs_4 ++ (lw_privs_5 ++ (lw_privs_6 ++ (lw_privs_7)))))), lw_okq q
  exact List.forall_mem_append.mpr ⟨lw_r1, List.forall_mem_append.mpr ⟨lw_r2, List.forall_mem_append.mpr ⟨lw_r3, List.forall_mem_append.mpr ⟨lw_r4, List.forall_mem_append.mpr ⟨lw_r5, List.forall_mem_append.mpr ⟨lw_r6, lw_r7⟩⟩⟩⟩⟩⟩
-- ===== ONE list of words for every method: the tables' words that hold all through a run =====
def lw_all : List Cond := lw_tbl.filter goodWord
/-- a word of the tables by its place: claim/WORDS.tsv -/
theorem lw_w {w : Cond} (i : Nat) (h : lw_tbl[i]? = some w) (g : goodWord w = true) : w ∈ lw_all := List.mem_filter.mpr ⟨List.mem_of_getElem? h, g⟩
theorem lw_all_tbl {w : Cond} (h : w ∈ lw_all) : w ∈ lw_tbl := (List.mem_filter.mp h).1
theorem lw_self : GoodIn lw_all lw_all := fun w h => ⟨h, good_of_word (List.mem_filter.mp h).2⟩
/-- a class's field words, by their places -/
theorem lw_in (ws : List Cond) (ps : List Nat) (hp : ws = ps.filterMap (fun i => lw_tbl[i]?)) (hg : ws.all goodWord = true) : ∀ w ∈ ws, w ∈ lw_all := by
  intro w h
  have h1 := List.all_eq_true.mp hg w h
  rw [hp] at h
  obtain ⟨i, -, hi⟩ := List.mem_filterMap.mp h
  exact lw_w i hi h1
/-- the words of a contract for the method y with code b, L locals, answer r -/
abbrev ws_ (y : MethodName) (b : ByteArray) (L : Nat) (r : Option FieldType) : List Cond := Cond.code y b L r :: lw_all
theorem lw_meth {y : MethodName} {b : ByteArray} {L : Nat} {r : Option FieldType} (h : Cond.code y b L r ∈ lw_all) : GoodIn lw_all (ws_ y b L r) := by
  intro w hw
  rcases List.mem_cons.mp hw with e | e
  · rw [e]
    exact lw_self _ h
  · exact lw_self _ e
theorem lw_app {a c : List Cond} (ha : ∀ w ∈ a, w ∈ lw_all) (hc : GoodIn lw_all c) : GoodIn lw_all (a ++ c) := by
  intro w hw
  rcases List.mem_append.mp hw with e | e
  · exact lw_self w (ha w e)
  · exact hc w e
/-- what a call through an object asks: cwV n hts (lw_V ..) -/
theorem lw_V {own : String} {idx : Nat} {C : String} {y : MethodName} {b : ByteArray} {L : Nat} {r : Option FieldType} (h1 : Cond.methodLink own idx y ∈ lw_all) (h2 : Cond.instanceMethod y ∈ lw_all) (h3 : Cond.selects C y y ∈ lw_all) (h4 : Cond.initialized C ∈ lw_all) (h5 : Cond.code y b L r ∈ lw_all) : GoodIn lw_all (wsV own idx C y (ws_ y b L r)) := by
  refine lw_app ?_ (lw_meth h5)
  intro w hw
  simp only [List.mem_cons, List.not_mem_nil, or_false] at hw
  rcases hw with e | e | e | e
  · rw [e]; exact h1
  · rw [e]; exact h2
  · rw [e]; exact h3
  · rw [e]; exact h4
/-- what a static call asks: va_cwS n hts (lw_S ..) -/
theorem lw_S {own : String} {idx : Nat} {y : MethodName} {b : ByteArray} {L : Nat} {r : Option FieldType} (h1 : Cond.methodLink own idx y ∈ lw_all) (h2 : Cond.static y ∈ lw_all) (h3 : Cond.initialized y.cls ∈ lw_all) (h4 : Cond.code y b L r ∈ lw_all) : GoodIn lw_all (va_wsS own idx y (ws_ y b L r)) := by
  refine lw_app ?_ (lw_meth h4)
  intro w hw
  simp only [List.mem_cons, List.not_mem_nil, or_false] at hw
  rcases hw with e | e | e
  · rw [e]; exact h1
  · rw [e]; exact h2
  · rw [e]; exact h3
/-- the words of a contract for a method WITH HANDLERS (hh: its table) -/
abbrev wsW_ (y : MethodName) (b : ByteArray) (L : Nat) (r : Option FieldType) (hh : List (Nat × Nat × Nat × Nat)) : List Cond := Cond.codeWith y b L r hh :: lw_all
theorem lw_methW {y : MethodName} {b : ByteArray} {L : Nat} {r : Option FieldType} {hh : List (Nat × Nat × Nat × Nat)} (h : Cond.codeWith y b L r hh ∈ lw_all) : GoodIn lw_all (wsW_ y b L r hh) := by
  intro w hw
  rcases List.mem_cons.mp hw with e | e
  · rw [e]
    exact lw_self _ h
  · exact lw_self _ e
/-- any list of words by their places (lw_in), good -/
theorem lw_good {ws : List Cond} (h : ∀ w ∈ ws, w ∈ lw_all) : GoodIn lw_all ws := fun w hw => lw_self w (h w hw)
/-- what a call of a method with handlers asks: vx_cwVW n hts (lw_VW ..), vx_cwSW n hts (lw_SW ..) -/
theorem lw_VW {own : String} {idx : Nat} {C : String} {y : MethodName} {b : ByteArray} {L : Nat} {r : Option FieldType} {hh : List (Nat × Nat × Nat × Nat)} (h1 : Cond.methodLink own idx y ∈ lw_all) (h2 : Cond.instanceMethod y ∈ lw_all) (h3 : Cond.selects C y y ∈ lw_all) (h4 : Cond.initialized C ∈ lw_all) (h5 : Cond.codeWith y b L r hh ∈ lw_all) : GoodIn lw_all (wsV own idx C y (wsW_ y b L r hh)) := by
  refine lw_app ?_ (lw_methW h5)
  intro w hw
  simp only [List.mem_cons, List.not_mem_nil, or_false] at hw
  rcases hw with e | e | e | e
  · rw [e]; exact h1
  · rw [e]; exact h2
  · rw [e]; exact h3
  · rw [e]; exact h4
theorem lw_SW {own : String} {idx : Nat} {y : MethodName} {b : ByteArray} {L : Nat} {r : Option FieldType} {hh : List (Nat × Nat × Nat × Nat)} (h1 : Cond.methodLink own idx y ∈ lw_all) (h2 : Cond.static y ∈ lw_all) (h3 : Cond.initialized y.cls ∈ lw_all) (h4 : Cond.codeWith y b L r hh ∈ lw_all) : GoodIn lw_all (va_wsS own idx y (wsW_ y b L r hh)) := by
  refine lw_app ?_ (lw_methW h4)
  intro w hw
  simp only [List.mem_cons, List.not_mem_nil, or_false] at hw
  rcases hw with e | e | e
  · rw [e]; exact h1
  · rw [e]; exact h2
  · rw [e]; exact h3
/-- a word by its place in its run of the tables -/
theorem lw_at {r : List Cond} (hr : ∀ w ∈ r, w ∈ lw_tbl) {w : Cond} (i : Nat) (h : r[i]? = some w) : w ∈ lw_tbl := hr w (List.mem_of_getElem? h)
theorem lw_g {w : Cond} (h : w ∈ lw_tbl) (g : goodWord w = true) : w ∈ lw_all := List.mem_filter.mpr ⟨h, g⟩
theorem lw_ms : ∀ w ∈ k2_sels lw_privs, w ∈ lw_tbl := fun w h => show w ∈ k2_sels lw_privs ++ tables_1 from List.mem_append_left _ h
theorem lw_m1 : ∀ w ∈ tables_1_1, w ∈ lw_tbl := fun w h => show w ∈ k2_sels lw_privs ++ tables_1 from List.mem_append_right (k2_sels lw_privs) (show w ∈ tables_1 from List.mem_append_left _ h)
theorem lw_m2 : ∀ w ∈ tables_1_2, w ∈ lw_tbl := fun w h => show w ∈ k2_sels lw_privs ++ tables_1 from List.mem_append_right (k2_sels lw_privs) (show w ∈ tables_1 from List.mem_append_right _ (List.mem_append_left _ h))
theorem lw_m3 : ∀ w ∈ tables_1_3, w ∈ lw_tbl := fun w h => show w ∈ k2_sels lw_privs ++ tables_1 from List.mem_append_right (k2_sels lw_privs) (show w ∈ tables_1 from List.mem_append_right _ (List.mem_append_right _ (List.mem_append_left _ h)))
theorem lw_m4 : ∀ w ∈ tables_1_4, w ∈ lw_tbl := fun w h => show w ∈ k2_sels lw_privs ++ tables_1 from List.mem_append_right (k2_sels lw_privs) (show w ∈ tables_1 from List.mem_append_right _ (List.mem_append_right _ (List.mem_append_right _ (List.mem_append_left _ h))))
theorem lw_m5 : ∀ w ∈ tables_1_5, w ∈ lw_tbl := fun w h => show w ∈ k2_sels lw_privs ++ tables_1 from List.mem_append_right (k2_sels lw_privs) (show w ∈ tables_1 from List.mem_append_right _ (List.mem_append_right _ (List.mem_append_right _ (List.mem_append_right _ (List.mem_append_left _ h)))))
theorem lw_m6 : ∀ w ∈ tables_1_6, w ∈ lw_tbl := fun w h => show w ∈ k2_sels lw_privs ++ tables_1 from List.mem_append_right (k2_sels lw_privs) (show w ∈ tables_1 from List.mem_append_right _ (List.mem_append_right _ (List.mem_append_right _ (List.mem_append_right _ (List.mem_append_right _ (List.mem_append_left _ h))))))
theorem lw_m7 : ∀ w ∈ tables_1_7, w ∈ lw_tbl := fun w h => show w ∈ k2_sels lw_privs ++ tables_1 from List.mem_append_right (k2_sels lw_privs) (show w ∈ tables_1 from List.mem_append_right _ (List.mem_append_right _ (List.mem_append_right _ (List.mem_append_right _ (List.mem_append_right _ (List.mem_append_right _ (List.mem_append_left _ h)))))))
theorem lw_m8 : ∀ w ∈ tables_1_8, w ∈ lw_tbl := fun w h => show w ∈ k2_sels lw_privs ++ tables_1 from List.mem_append_right (k2_sels lw_privs) (show w ∈ tables_1 from List.mem_append_right _ (List.mem_append_right _ (List.mem_append_right _ (List.mem_append_right _ (List.mem_append_right _ (List.mem_append_right _ (List.mem_append_right _ (List.mem_append_left _ h))))))))
theorem lw_m9 : ∀ w ∈ tables_1_9, w ∈ lw_tbl := fun w h => show w ∈ k2_sels lw_privs ++ tables_1 from List.mem_append_right (k2_sels lw_privs) (show w ∈ tables_1 from List.mem_append_right _ (List.mem_append_right _ (List.mem_append_right _ (List.mem_append_right _ (List.mem_append_right _ (List.mem_append_right _ (List.mem_append_right _ (List.mem_append_right _ h))))))))
theorem qs0 : (Cond.selects "java/lang/Throwable" ⟨"java/lang/Throwable", "fillInStackTrace", "(I)Ljava/lang/Throwable;"⟩ ⟨"java/lang/Throwable", "fillInStackTrace", "(I)Ljava/lang/Throwable;"⟩) ∈ lw_all := lw_g (lw_at lw_ms 0 rfl) rfl
theorem qs1 : (Cond.selects "CliffHoney" ⟨"CliffHoney", "isLedge", "(I)Z"⟩ ⟨"CliffHoney", "isLedge", "(I)Z"⟩) ∈ lw_all := lw_g (lw_at lw_ms 1 rfl) rfl
theorem qs2 : (Cond.selects "CliffHoney" ⟨"CliffHoney", "grow", "([LCliffHoney$Ledge;I)V"⟩ ⟨"CliffHoney", "grow", "([LCliffHoney$Ledge;I)V"⟩) ∈ lw_all := lw_g (lw_at lw_ms 2 rfl) rfl
theorem qs3 : (Cond.selects "CliffHoney" ⟨"CliffHoney", "seasonEnds", "([LCliffHoney$Ledge;)V"⟩ ⟨"CliffHoney", "seasonEnds", "([LCliffHoney$Ledge;)V"⟩) ∈ lw_all := lw_g (lw_at lw_ms 3 rfl) rfl
theorem qs4 : (Cond.selects "CliffHoney$Ledge" ⟨"CliffHoney$Ledge", "changed", "(II)I"⟩ ⟨"CliffHoney$Ledge", "changed", "(II)I"⟩) ∈ lw_all := lw_g (lw_at lw_ms 4 rfl) rfl
theorem qs5 : (Cond.selects "CliffHoney" ⟨"CliffHoney", "strongBeside", "([LCliffHoney$Ledge;I)I"⟩ ⟨"CliffHoney", "strongBeside", "([LCliffHoney$Ledge;I)I"⟩) ∈ lw_all := lw_g (lw_at lw_ms 5 rfl) rfl
theorem qs6 : (Cond.selects "CliffHoney" ⟨"CliffHoney", "season", "()I"⟩ ⟨"CliffHoney", "season", "()I"⟩) ∈ lw_all := lw_g (lw_at lw_ms 6 rfl) rfl
theorem qs7 : (Cond.selects "CliffHoney" ⟨"CliffHoney", "strengths", "([LCliffHoney$Ledge;)I"⟩ ⟨"CliffHoney", "strengths", "([LCliffHoney$Ledge;)I"⟩) ∈ lw_all := lw_g (lw_at lw_ms 7 rfl) rfl
theorem qs8 : (Cond.selects "CliffHoney$Reader" ⟨"CliffHoney$Reader", "read", "()V"⟩ ⟨"CliffHoney$Reader", "read", "()V"⟩) ∈ lw_all := lw_g (lw_at lw_ms 8 rfl) rfl
theorem qs9 : (Cond.selects "CliffHoney$Reader" ⟨"CliffHoney$Reader", "next", "()V"⟩ ⟨"CliffHoney$Reader", "next", "()V"⟩) ∈ lw_all := lw_g (lw_at lw_ms 9 rfl) rfl
theorem qs10 : (Cond.selects "CliffHoney$Reader" ⟨"CliffHoney$Reader", "raw", "()I"⟩ ⟨"CliffHoney$Reader", "raw", "()I"⟩) ∈ lw_all := lw_g (lw_at lw_ms 10 rfl) rfl
theorem qs11 : (Cond.selects "CliffHoney$Reader" ⟨"CliffHoney$Reader", "isLetter", "(I)Z"⟩ ⟨"CliffHoney$Reader", "isLetter", "(I)Z"⟩) ∈ lw_all := lw_g (lw_at lw_ms 11 rfl) rfl
theorem qs12 : (Cond.selects "CliffHoney$Reader" ⟨"CliffHoney$Reader", "letters", "()V"⟩ ⟨"CliffHoney$Reader", "letters", "()V"⟩) ∈ lw_all := lw_g (lw_at lw_ms 12 rfl) rfl
theorem qs13 : (Cond.selects "CliffHoney$Reader" ⟨"CliffHoney$Reader", "isDigit", "(I)Z"⟩ ⟨"CliffHoney$Reader", "isDigit", "(I)Z"⟩) ∈ lw_all := lw_g (lw_at lw_ms 13 rfl) rfl
theorem qs14 : (Cond.selects "CliffHoney$Reader" ⟨"CliffHoney$Reader", "digits", "()V"⟩ ⟨"CliffHoney$Reader", "digits", "()V"⟩) ∈ lw_all := lw_g (lw_at lw_ms 14 rfl) rfl
theorem qs15 : (Cond.selects "CliffHoney" ⟨"CliffHoney", "refused", "(II)LCliffHoney$Fault;"⟩ ⟨"CliffHoney", "refused", "(II)LCliffHoney$Fault;"⟩) ∈ lw_all := lw_g (lw_at lw_ms 15 rfl) rfl
theorem qs16 : (Cond.selects "CliffHoney$Reader" ⟨"CliffHoney$Reader", "line", "(I)LCliffHoney$Line;"⟩ ⟨"CliffHoney$Reader", "line", "(I)LCliffHoney$Line;"⟩) ∈ lw_all := lw_g (lw_at lw_ms 16 rfl) rfl
theorem qs17 : (Cond.selects "CliffHoney$Reader" ⟨"CliffHoney$Reader", "sum", "()LCliffHoney$Term;"⟩ ⟨"CliffHoney$Reader", "sum", "()LCliffHoney$Term;"⟩) ∈ lw_all := lw_g (lw_at lw_ms 17 rfl) rfl
theorem qs18 : (Cond.selects "CliffHoney$Reader" ⟨"CliffHoney$Reader", "product", "()LCliffHoney$Term;"⟩ ⟨"CliffHoney$Reader", "product", "()LCliffHoney$Term;"⟩) ∈ lw_all := lw_g (lw_at lw_ms 18 rfl) rfl
theorem qs19 : (Cond.selects "CliffHoney$Reader" ⟨"CliffHoney$Reader", "unit", "()LCliffHoney$Term;"⟩ ⟨"CliffHoney$Reader", "unit", "()LCliffHoney$Term;"⟩) ∈ lw_all := lw_g (lw_at lw_ms 19 rfl) rfl
theorem qs20 : (Cond.selects "CliffHoney$Reader" ⟨"CliffHoney$Reader", "isSign", "(I)Z"⟩ ⟨"CliffHoney$Reader", "isSign", "(I)Z"⟩) ∈ lw_all := lw_g (lw_at lw_ms 20 rfl) rfl
theorem qs21 : (Cond.selects "CliffHoney$Reader" ⟨"CliffHoney$Reader", "opens", "()V"⟩ ⟨"CliffHoney$Reader", "opens", "()V"⟩) ∈ lw_all := lw_g (lw_at lw_ms 21 rfl) rfl
theorem qs22 : (Cond.selects "CliffHoney$Reader" ⟨"CliffHoney$Reader", "bad", "()LCliffHoney$Fault;"⟩ ⟨"CliffHoney$Reader", "bad", "()LCliffHoney$Fault;"⟩) ∈ lw_all := lw_g (lw_at lw_ms 22 rfl) rfl
theorem qs23 : (Cond.selects "CliffHoney$Reader" ⟨"CliffHoney$Reader", "number", "(II)I"⟩ ⟨"CliffHoney$Reader", "number", "(II)I"⟩) ∈ lw_all := lw_g (lw_at lw_ms 23 rfl) rfl
theorem qs24 : (Cond.selects "CliffHoney$Reader" ⟨"CliffHoney$Reader", "isWord", "(I)Z"⟩ ⟨"CliffHoney$Reader", "isWord", "(I)Z"⟩) ∈ lw_all := lw_g (lw_at lw_ms 24 rfl) rfl
theorem qs25 : (Cond.selects "CliffHoney$Reader" ⟨"CliffHoney$Reader", "condition", "()LCliffHoney$Term;"⟩ ⟨"CliffHoney$Reader", "condition", "()LCliffHoney$Term;"⟩) ∈ lw_all := lw_g (lw_at lw_ms 25 rfl) rfl
theorem qs26 : (Cond.selects "CliffHoney$Reader" ⟨"CliffHoney$Reader", "all", "()LCliffHoney$Term;"⟩ ⟨"CliffHoney$Reader", "all", "()LCliffHoney$Term;"⟩) ∈ lw_all := lw_g (lw_at lw_ms 26 rfl) rfl
theorem qs27 : (Cond.selects "CliffHoney$Reader" ⟨"CliffHoney$Reader", "one", "()LCliffHoney$Term;"⟩ ⟨"CliffHoney$Reader", "one", "()LCliffHoney$Term;"⟩) ∈ lw_all := lw_g (lw_at lw_ms 27 rfl) rfl
theorem qs28 : (Cond.selects "CliffHoney" ⟨"CliffHoney", "puts", "(I)V"⟩ ⟨"CliffHoney", "puts", "(I)V"⟩) ∈ lw_all := lw_g (lw_at lw_ms 28 rfl) rfl
theorem qs29 : (Cond.selects "CliffHoney" ⟨"CliffHoney", "ask", "(ILCliffHoney$Ledge;II)LCliffHoney$Custom;"⟩ ⟨"CliffHoney", "ask", "(ILCliffHoney$Ledge;II)LCliffHoney$Custom;"⟩) ∈ lw_all := lw_g (lw_at lw_ms 29 rfl) rfl
theorem qs30 : (Cond.selects "CliffHoney" ⟨"CliffHoney", "isLadder", "(I)Z"⟩ ⟨"CliffHoney", "isLadder", "(I)Z"⟩) ∈ lw_all := lw_g (lw_at lw_ms 30 rfl) rfl
theorem qs31 : (Cond.selects "CliffHoney" ⟨"CliffHoney", "bears", "(I)I"⟩ ⟨"CliffHoney", "bears", "(I)I"⟩) ∈ lw_all := lw_g (lw_at lw_ms 31 rfl) rfl
theorem qs32 : (Cond.selects "CliffHoney" ⟨"CliffHoney", "canReach", "(III)Z"⟩ ⟨"CliffHoney", "canReach", "(III)Z"⟩) ∈ lw_all := lw_g (lw_at lw_ms 32 rfl) rfl
theorem qs33 : (Cond.selects "CliffHoney" ⟨"CliffHoney", "isPerson", "(I)Z"⟩ ⟨"CliffHoney", "isPerson", "(I)Z"⟩) ∈ lw_all := lw_g (lw_at lw_ms 33 rfl) rfl
theorem qs34 : (Cond.selects "CliffHoney" ⟨"CliffHoney", "reachOf", "(III)I"⟩ ⟨"CliffHoney", "reachOf", "(III)I"⟩) ∈ lw_all := lw_g (lw_at lw_ms 34 rfl) rfl
theorem qs35 : (Cond.selects "CliffHoney" ⟨"CliffHoney", "findRow", "(III)V"⟩ ⟨"CliffHoney", "findRow", "(III)V"⟩) ∈ lw_all := lw_g (lw_at lw_ms 35 rfl) rfl
theorem qs36 : (Cond.selects "CliffHoney" ⟨"CliffHoney", "tries", "(IIIIII)V"⟩ ⟨"CliffHoney", "tries", "(IIIIII)V"⟩) ∈ lw_all := lw_g (lw_at lw_ms 36 rfl) rfl
theorem qs37 : (Cond.selects "CliffHoney" ⟨"CliffHoney", "isSmoked", "(ILCliffHoney$Ledge;)Z"⟩ ⟨"CliffHoney", "isSmoked", "(ILCliffHoney$Ledge;)Z"⟩) ∈ lw_all := lw_g (lw_at lw_ms 37 rfl) rfl
theorem qs38 : (Cond.selects "CliffHoney" ⟨"CliffHoney", "isAlive", "(I)Z"⟩ ⟨"CliffHoney", "isAlive", "(I)Z"⟩) ∈ lw_all := lw_g (lw_at lw_ms 38 rfl) rfl
theorem qs39 : (Cond.selects "CliffHoney" ⟨"CliffHoney", "behind", "(I)I"⟩ ⟨"CliffHoney", "behind", "(I)I"⟩) ∈ lw_all := lw_g (lw_at lw_ms 39 rfl) rfl
theorem qs40 : (Cond.selects "CliffHoney" ⟨"CliffHoney", "comes", "(LCliffHoney$Lot;)I"⟩ ⟨"CliffHoney", "comes", "(LCliffHoney$Lot;)I"⟩) ∈ lw_all := lw_g (lw_at lw_ms 40 rfl) rfl
theorem qs41 : (Cond.selects "CliffHoney" ⟨"CliffHoney", "isThere", "(I)Z"⟩ ⟨"CliffHoney", "isThere", "(I)Z"⟩) ∈ lw_all := lw_g (lw_at lw_ms 41 rfl) rfl
theorem qs42 : (Cond.selects "CliffHoney" ⟨"CliffHoney", "findSale", "()V"⟩ ⟨"CliffHoney", "findSale", "()V"⟩) ∈ lw_all := lw_g (lw_at lw_ms 42 rfl) rfl
theorem qs43 : (Cond.selects "CliffHoney" ⟨"CliffHoney", "offers", "(III)V"⟩ ⟨"CliffHoney", "offers", "(III)V"⟩) ∈ lw_all := lw_g (lw_at lw_ms 43 rfl) rfl
theorem qs44 : (Cond.selects "CliffHoney$Cut" ⟨"CliffHoney$Cut", "finds", "(II)I"⟩ ⟨"CliffHoney$Cut", "finds", "(II)I"⟩) ∈ lw_all := lw_g (lw_at lw_ms 44 rfl) rfl
theorem qs45 : (Cond.selects "CliffHoney$Cut" ⟨"CliffHoney$Cut", "owns", "(II)I"⟩ ⟨"CliffHoney$Cut", "owns", "(II)I"⟩) ∈ lw_all := lw_g (lw_at lw_ms 45 rfl) rfl
theorem qs46 : (Cond.selects "CliffHoney" ⟨"CliffHoney", "whoseOf", "(III)I"⟩ ⟨"CliffHoney", "whoseOf", "(III)I"⟩) ∈ lw_all := lw_g (lw_at lw_ms 46 rfl) rfl
theorem qs47 : (Cond.selects "CliffHoneyModel" ⟨"CliffHoneyModel", "isPerson", "(I)Z"⟩ ⟨"CliffHoneyModel", "isPerson", "(I)Z"⟩) ∈ lw_all := lw_g (lw_at lw_ms 47 rfl) rfl
theorem qs48 : (Cond.selects "CliffHoneyModel" ⟨"CliffHoneyModel", "isLedge", "(I)Z"⟩ ⟨"CliffHoneyModel", "isLedge", "(I)Z"⟩) ∈ lw_all := lw_g (lw_at lw_ms 48 rfl) rfl
theorem qs49 : (Cond.selects "CliffHoneyModel" ⟨"CliffHoneyModel", "goes", "()V"⟩ ⟨"CliffHoneyModel", "goes", "()V"⟩) ∈ lw_all := lw_g (lw_at lw_ms 49 rfl) rfl
theorem qs50 : (Cond.selects "CliffHoneyModel" ⟨"CliffHoneyModel", "grows", "()V"⟩ ⟨"CliffHoneyModel", "grows", "()V"⟩) ∈ lw_all := lw_g (lw_at lw_ms 50 rfl) rfl
theorem qs51 : (Cond.selects "CliffHoneyModel" ⟨"CliffHoneyModel", "month", "()I"⟩ ⟨"CliffHoneyModel", "month", "()I"⟩) ∈ lw_all := lw_g (lw_at lw_ms 51 rfl) rfl
theorem qs52 : (Cond.selects "CliffHoneyModel" ⟨"CliffHoneyModel", "season", "()I"⟩ ⟨"CliffHoneyModel", "season", "()I"⟩) ∈ lw_all := lw_g (lw_at lw_ms 52 rfl) rfl
theorem qs53 : (Cond.selects "CliffHoneyModel" ⟨"CliffHoneyModel", "day", "()I"⟩ ⟨"CliffHoneyModel", "day", "()I"⟩) ∈ lw_all := lw_g (lw_at lw_ms 53 rfl) rfl
theorem qs54 : (Cond.selects "CliffHoneyModel" ⟨"CliffHoneyModel", "ends", "()V"⟩ ⟨"CliffHoneyModel", "ends", "()V"⟩) ∈ lw_all := lw_g (lw_at lw_ms 54 rfl) rfl
theorem qs55 : (Cond.selects "CliffHoneyModel" ⟨"CliffHoneyModel", "swarms", "(I)V"⟩ ⟨"CliffHoneyModel", "swarms", "(I)V"⟩) ∈ lw_all := lw_g (lw_at lw_ms 55 rfl) rfl
theorem qs56 : (Cond.selects "CliffHoneyModel" ⟨"CliffHoneyModel", "apart", "(II)I"⟩ ⟨"CliffHoneyModel", "apart", "(II)I"⟩) ∈ lw_all := lw_g (lw_at lw_ms 56 rfl) rfl
theorem qs57 : (Cond.selects "CliffHoneyModel" ⟨"CliffHoneyModel", "next0", "()V"⟩ ⟨"CliffHoneyModel", "next0", "()V"⟩) ∈ lw_all := lw_g (lw_at lw_ms 57 rfl) rfl
theorem qs58 : (Cond.selects "CliffHoneyModel" ⟨"CliffHoneyModel", "see", "(I)I"⟩ ⟨"CliffHoneyModel", "see", "(I)I"⟩) ∈ lw_all := lw_g (lw_at lw_ms 58 rfl) rfl
theorem qs59 : (Cond.selects "CliffHoneyModel" ⟨"CliffHoneyModel", "aLine", "()Z"⟩ ⟨"CliffHoneyModel", "aLine", "()Z"⟩) ∈ lw_all := lw_g (lw_at lw_ms 59 rfl) rfl
theorem qs60 : (Cond.selects "CliffHoneyModel" ⟨"CliffHoneyModel", "bad", "(I)Z"⟩ ⟨"CliffHoneyModel", "bad", "(I)Z"⟩) ∈ lw_all := lw_g (lw_at lw_ms 60 rfl) rfl
theorem qs61 : (Cond.selects "CliffHoneyModel" ⟨"CliffHoneyModel", "inner", "(I)Z"⟩ ⟨"CliffHoneyModel", "inner", "(I)Z"⟩) ∈ lw_all := lw_g (lw_at lw_ms 61 rfl) rfl
theorem qs62 : (Cond.selects "CliffHoneyModel" ⟨"CliffHoneyModel", "sumOf", "()Z"⟩ ⟨"CliffHoneyModel", "sumOf", "()Z"⟩) ∈ lw_all := lw_g (lw_at lw_ms 62 rfl) rfl
theorem qs63 : (Cond.selects "CliffHoneyModel" ⟨"CliffHoneyModel", "product", "()Z"⟩ ⟨"CliffHoneyModel", "product", "()Z"⟩) ∈ lw_all := lw_g (lw_at lw_ms 63 rfl) rfl
theorem qs64 : (Cond.selects "CliffHoneyModel" ⟨"CliffHoneyModel", "unit", "()Z"⟩ ⟨"CliffHoneyModel", "unit", "()Z"⟩) ∈ lw_all := lw_g (lw_at lw_ms 64 rfl) rfl
theorem qs65 : (Cond.selects "CliffHoneyModel" ⟨"CliffHoneyModel", "opens", "()Z"⟩ ⟨"CliffHoneyModel", "opens", "()Z"⟩) ∈ lw_all := lw_g (lw_at lw_ms 65 rfl) rfl
theorem qs66 : (Cond.selects "CliffHoneyModel" ⟨"CliffHoneyModel", "need", "(I)Z"⟩ ⟨"CliffHoneyModel", "need", "(I)Z"⟩) ∈ lw_all := lw_g (lw_at lw_ms 66 rfl) rfl
theorem qs67 : (Cond.selects "CliffHoneyModel" ⟨"CliffHoneyModel", "lay", "(II)V"⟩ ⟨"CliffHoneyModel", "lay", "(II)V"⟩) ∈ lw_all := lw_g (lw_at lw_ms 67 rfl) rfl
theorem qs68 : (Cond.selects "CliffHoneyModel" ⟨"CliffHoneyModel", "any", "()Z"⟩ ⟨"CliffHoneyModel", "any", "()Z"⟩) ∈ lw_all := lw_g (lw_at lw_ms 68 rfl) rfl
theorem qs69 : (Cond.selects "CliffHoneyModel" ⟨"CliffHoneyModel", "all", "()Z"⟩ ⟨"CliffHoneyModel", "all", "()Z"⟩) ∈ lw_all := lw_g (lw_at lw_ms 69 rfl) rfl
theorem qs70 : (Cond.selects "CliffHoneyModel" ⟨"CliffHoneyModel", "one", "()Z"⟩ ⟨"CliffHoneyModel", "one", "()Z"⟩) ∈ lw_all := lw_g (lw_at lw_ms 70 rfl) rfl
theorem qs71 : (Cond.selects "CliffHoneyModel" ⟨"CliffHoneyModel", "aNumber", "(I)Z"⟩ ⟨"CliffHoneyModel", "aNumber", "(I)Z"⟩) ∈ lw_all := lw_g (lw_at lw_ms 71 rfl) rfl
theorem qs72 : (Cond.selects "CliffHoneyModel" ⟨"CliffHoneyModel", "takes", "(I)V"⟩ ⟨"CliffHoneyModel", "takes", "(I)V"⟩) ∈ lw_all := lw_g (lw_at lw_ms 72 rfl) rfl
theorem qs73 : (Cond.selects "CliffHoneyModel" ⟨"CliffHoneyModel", "isBarred", "(II)Z"⟩ ⟨"CliffHoneyModel", "isBarred", "(II)Z"⟩) ∈ lw_all := lw_g (lw_at lw_ms 73 rfl) rfl
theorem qs74 : (Cond.selects "CliffHoneyModel" ⟨"CliffHoneyModel", "comesTo", "(IIII)I"⟩ ⟨"CliffHoneyModel", "comesTo", "(IIII)I"⟩) ∈ lw_all := lw_g (lw_at lw_ms 74 rfl) rfl
theorem qs75 : (Cond.selects "CliffHoneyModel" ⟨"CliffHoneyModel", "known", "(III)I"⟩ ⟨"CliffHoneyModel", "known", "(III)I"⟩) ∈ lw_all := lw_g (lw_at lw_ms 75 rfl) rfl
theorem qs76 : (Cond.selects "CliffHoneyModel" ⟨"CliffHoneyModel", "leaves", "(II)I"⟩ ⟨"CliffHoneyModel", "leaves", "(II)I"⟩) ∈ lw_all := lw_g (lw_at lw_ms 76 rfl) rfl
theorem qs77 : (Cond.selects "CliffHoneyModel" ⟨"CliffHoneyModel", "unitsLeft", "(II)I"⟩ ⟨"CliffHoneyModel", "unitsLeft", "(II)I"⟩) ∈ lw_all := lw_g (lw_at lw_ms 77 rfl) rfl
theorem qs78 : (Cond.selects "CliffHoneyModel" ⟨"CliffHoneyModel", "isLadder", "(I)Z"⟩ ⟨"CliffHoneyModel", "isLadder", "(I)Z"⟩) ∈ lw_all := lw_g (lw_at lw_ms 78 rfl) rfl
theorem qs79 : (Cond.selects "CliffHoneyModel" ⟨"CliffHoneyModel", "age", "(I)I"⟩ ⟨"CliffHoneyModel", "age", "(I)I"⟩) ∈ lw_all := lw_g (lw_at lw_ms 79 rfl) rfl
theorem qs80 : (Cond.selects "CliffHoneyModel" ⟨"CliffHoneyModel", "bears", "(I)I"⟩ ⟨"CliffHoneyModel", "bears", "(I)I"⟩) ∈ lw_all := lw_g (lw_at lw_ms 80 rfl) rfl
theorem qs81 : (Cond.selects "CliffHoneyModel" ⟨"CliffHoneyModel", "canHang", "(III)Z"⟩ ⟨"CliffHoneyModel", "canHang", "(III)Z"⟩) ∈ lw_all := lw_g (lw_at lw_ms 81 rfl) rfl
theorem qs82 : (Cond.selects "CliffHoneyModel" ⟨"CliffHoneyModel", "reached", "(III)I"⟩ ⟨"CliffHoneyModel", "reached", "(III)I"⟩) ∈ lw_all := lw_g (lw_at lw_ms 82 rfl) rfl
theorem qs83 : (Cond.selects "CliffHoneyModel" ⟨"CliffHoneyModel", "isReached", "(IIII)Z"⟩ ⟨"CliffHoneyModel", "isReached", "(IIII)Z"⟩) ∈ lw_all := lw_g (lw_at lw_ms 83 rfl) rfl
theorem qs84 : (Cond.selects "CliffHoneyModel" ⟨"CliffHoneyModel", "rows", "(III)V"⟩ ⟨"CliffHoneyModel", "rows", "(III)V"⟩) ∈ lw_all := lw_g (lw_at lw_ms 84 rfl) rfl
theorem qs85 : (Cond.selects "CliffHoneyModel" ⟨"CliffHoneyModel", "isSmoked", "(II)Z"⟩ ⟨"CliffHoneyModel", "isSmoked", "(II)Z"⟩) ∈ lw_all := lw_g (lw_at lw_ms 85 rfl) rfl
theorem qs86 : (Cond.selects "CliffHoneyModel" ⟨"CliffHoneyModel", "takesRow", "(II)V"⟩ ⟨"CliffHoneyModel", "takesRow", "(II)V"⟩) ∈ lw_all := lw_g (lw_at lw_ms 86 rfl) rfl
theorem qs87 : (Cond.selects "CliffHoneyModel" ⟨"CliffHoneyModel", "isLiving", "(I)Z"⟩ ⟨"CliffHoneyModel", "isLiving", "(I)Z"⟩) ∈ lw_all := lw_g (lw_at lw_ms 87 rfl) rfl
theorem qs88 : (Cond.selects "CliffHoneyModel" ⟨"CliffHoneyModel", "comes", "(III)I"⟩ ⟨"CliffHoneyModel", "comes", "(III)I"⟩) ∈ lw_all := lw_g (lw_at lw_ms 88 rfl) rfl
theorem qs89 : (Cond.selects "CliffHoneyModel" ⟨"CliffHoneyModel", "isLot", "(I)Z"⟩ ⟨"CliffHoneyModel", "isLot", "(I)Z"⟩) ∈ lw_all := lw_g (lw_at lw_ms 89 rfl) rfl
theorem qs90 : (Cond.selects "CliffHoneyModel" ⟨"CliffHoneyModel", "sales", "()V"⟩ ⟨"CliffHoneyModel", "sales", "()V"⟩) ∈ lw_all := lw_g (lw_at lw_ms 90 rfl) rfl
theorem qs91 : (Cond.selects "CliffHoneyModel" ⟨"CliffHoneyModel", "offers", "(III)V"⟩ ⟨"CliffHoneyModel", "offers", "(III)V"⟩) ∈ lw_all := lw_g (lw_at lw_ms 91 rfl) rfl
theorem qs92 : (Cond.selects "CliffHoneyModel" ⟨"CliffHoneyModel", "pays", "(II)I"⟩ ⟨"CliffHoneyModel", "pays", "(II)I"⟩) ∈ lw_all := lw_g (lw_at lw_ms 92 rfl) rfl
theorem qs93 : (Cond.selects "CliffHoneyModel" ⟨"CliffHoneyModel", "share", "(III)I"⟩ ⟨"CliffHoneyModel", "share", "(III)I"⟩) ∈ lw_all := lw_g (lw_at lw_ms 93 rfl) rfl
theorem qs94 : (Cond.selects "CliffHoneyModel" ⟨"CliffHoneyModel", "whoseIs", "(III)I"⟩ ⟨"CliffHoneyModel", "whoseIs", "(III)I"⟩) ∈ lw_all := lw_g (lw_at lw_ms 94 rfl) rfl
theorem qs95 : (Cond.selects "CliffHoneyModel" ⟨"CliffHoneyModel", "keeps", "(Z)V"⟩ ⟨"CliffHoneyModel", "keeps", "(Z)V"⟩) ∈ lw_all := lw_g (lw_at lw_ms 95 rfl) rfl
theorem qs96 : (Cond.selects "CliffHoneyModel" ⟨"CliffHoneyModel", "foresees", "(I)I"⟩ ⟨"CliffHoneyModel", "foresees", "(I)I"⟩) ∈ lw_all := lw_g (lw_at lw_ms 96 rfl) rfl
