-- ===== PART A: goes FIRST, ahead of the names: the tables' words, and 'selects' of the private methods out of them =====
/-- a private method of a class that the tables say can be made, by its rows of tables_1 -/
def lw_okq (q : MethodName × Nat) : Prop := (q.1.cls ≠ "java/lang/invoke/MethodHandle" ∧ q.1.cls ≠ "java/lang/invoke/VarHandle") ∧ Cond.instantiable q.1.cls q.2 ∈ tables_1 ∧ Cond.privateMethod q.1 ∈ tables_1 ∧ Cond.instanceMethod q.1 ∈ tables_1
set_option maxRecDepth 100000
theorem lw_t1 {w : Cond} (h : w ∈ tables_1_1) : w ∈ tables_1 := List.mem_append_left _ h
theorem lw_t2 {w : Cond} (h : w ∈ tables_1_2) : w ∈ tables_1 := List.mem_append_right _ (List.mem_append_left _ h)
theorem lw_t3 {w : Cond} (h : w ∈ tables_1_3) : w ∈ tables_1 := List.mem_append_right _ (List.mem_append_right _ (List.mem_append_left _ h))
theorem lw_t4 {w : Cond} (h : w ∈ tables_1_4) : w ∈ tables_1 := List.mem_append_right _ (List.mem_append_right _ (List.mem_append_right _ (List.mem_append_left _ h)))
theorem lw_t5 {w : Cond} (h : w ∈ tables_1_5) : w ∈ tables_1 := List.mem_append_right _ (List.mem_append_right _ (List.mem_append_right _ (List.mem_append_right _ (List.mem_append_left _ h))))
theorem lw_t6 {w : Cond} (h : w ∈ tables_1_6) : w ∈ tables_1 := List.mem_append_right _ (List.mem_append_right _ (List.mem_append_right _ (List.mem_append_right _ (List.mem_append_right _ (List.mem_append_left _ h)))))
theorem lw_t7 {w : Cond} (h : w ∈ tables_1_7) : w ∈ tables_1 := List.mem_append_right _ (List.mem_append_right _ (List.mem_append_right _ (List.mem_append_right _ (List.mem_append_right _ (List.mem_append_right _ (List.mem_append_left _ h))))))
theorem lw_t8 {w : Cond} (h : w ∈ tables_1_8) : w ∈ tables_1 := List.mem_append_right _ (List.mem_append_right _ (List.mem_append_right _ (List.mem_append_right _ (List.mem_append_right _ (List.mem_append_right _ (List.mem_append_right _ (List.mem_append_left _ h)))))))
theorem lw_t9 {w : Cond} (h : w ∈ tables_1_9) : w ∈ tables_1 := List.mem_append_right _ (List.mem_append_right _ (List.mem_append_right _ (List.mem_append_right _ (List.mem_append_right _ (List.mem_append_right _ (List.mem_append_right _ (List.mem_append_right _ h)))))))
theorem lw_p0 : lw_okq (⟨"ApologyUp", "isOfficer", "(I)Z"⟩, 15) := ⟨⟨by decide +kernel, by decide +kernel⟩, lw_t1 (List.mem_of_getElem? (i := 37) rfl), lw_t1 (List.mem_of_getElem? (i := 168) rfl), lw_t1 (List.mem_of_getElem? (i := 169) rfl)⟩
theorem lw_p1 : lw_okq (⟨"ApologyUp", "put", "(I)V"⟩, 15) := ⟨⟨by decide +kernel, by decide +kernel⟩, lw_t1 (List.mem_of_getElem? (i := 37) rfl), lw_t1 (List.mem_of_getElem? (i := 186) rfl), lw_t1 (List.mem_of_getElem? (i := 187) rfl)⟩
theorem lw_p2 : lw_okq (⟨"ApologyUp$Tokens", "next", "()V"⟩, 8) := ⟨⟨by decide +kernel, by decide +kernel⟩, lw_t1 (List.mem_of_getElem? (i := 199) rfl), lw_t2 (List.mem_of_getElem? (i := 42) rfl), lw_t2 (List.mem_of_getElem? (i := 43) rfl)⟩
theorem lw_p3 : lw_okq (⟨"ApologyUp$Tokens", "isWord", "(Ljava/lang/String;)Z"⟩, 8) := ⟨⟨by decide +kernel, by decide +kernel⟩, lw_t1 (List.mem_of_getElem? (i := 199) rfl), lw_t2 (List.mem_of_getElem? (i := 51) rfl), lw_t2 (List.mem_of_getElem? (i := 52) rfl)⟩
theorem lw_p4 : lw_okq (⟨"ApologyUp$Tokens", "wrong", "(I)LApologyUp$Wrong;"⟩, 8) := ⟨⟨by decide +kernel, by decide +kernel⟩, lw_t1 (List.mem_of_getElem? (i := 199) rfl), lw_t2 (List.mem_of_getElem? (i := 111) rfl), lw_t2 (List.mem_of_getElem? (i := 112) rfl)⟩
theorem lw_p5 : lw_okq (⟨"java/lang/Throwable", "fillInStackTrace", "(I)Ljava/lang/Throwable;"⟩, 6) := ⟨⟨by decide +kernel, by decide +kernel⟩, lw_t2 (List.mem_of_getElem? (i := 149) rfl), lw_t2 (List.mem_of_getElem? (i := 147) rfl), lw_t2 (List.mem_of_getElem? (i := 148) rfl)⟩
theorem lw_p6 : lw_okq (⟨"ApologyUp$Tokens", "sum", "()LApologyUp$Sum;"⟩, 8) := ⟨⟨by decide +kernel, by decide +kernel⟩, lw_t1 (List.mem_of_getElem? (i := 199) rfl), lw_t2 (List.mem_of_getElem? (i := 179) rfl), lw_t2 (List.mem_of_getElem? (i := 180) rfl)⟩
theorem lw_p7 : lw_okq (⟨"ApologyUp$Tokens", "product", "()LApologyUp$Sum;"⟩, 8) := ⟨⟨by decide +kernel, by decide +kernel⟩, lw_t1 (List.mem_of_getElem? (i := 199) rfl), lw_t2 (List.mem_of_getElem? (i := 185) rfl), lw_t2 (List.mem_of_getElem? (i := 186) rfl)⟩
theorem lw_p8 : lw_okq (⟨"ApologyUp$Tokens", "one", "()LApologyUp$Sum;"⟩, 8) := ⟨⟨by decide +kernel, by decide +kernel⟩, lw_t1 (List.mem_of_getElem? (i := 199) rfl), lw_t2 (List.mem_of_getElem? (i := 189) rfl), lw_t2 (List.mem_of_getElem? (i := 190) rfl)⟩
theorem lw_p9 : lw_okq (⟨"ApologyUp$Tokens", "number", "(II)I"⟩, 8) := ⟨⟨by decide +kernel, by decide +kernel⟩, lw_t1 (List.mem_of_getElem? (i := 199) rfl), lw_t2 (List.mem_of_getElem? (i := 195) rfl), lw_t2 (List.mem_of_getElem? (i := 196) rfl)⟩
theorem lw_p10 : lw_okq (⟨"ApologyUp$Tokens", "choice", "()LApologyUp$Sum;"⟩, 8) := ⟨⟨by decide +kernel, by decide +kernel⟩, lw_t1 (List.mem_of_getElem? (i := 199) rfl), lw_t2 (List.mem_of_getElem? (i := 210) rfl), lw_t2 (List.mem_of_getElem? (i := 211) rfl)⟩
theorem lw_p11 : lw_okq (⟨"ApologyUp$Tokens", "opens", "()V"⟩, 8) := ⟨⟨by decide +kernel, by decide +kernel⟩, lw_t1 (List.mem_of_getElem? (i := 199) rfl), lw_t2 (List.mem_of_getElem? (i := 214) rfl), lw_t2 (List.mem_of_getElem? (i := 215) rfl)⟩
theorem lw_p12 : lw_okq (⟨"ApologyUp$Tokens", "either", "()LApologyUp$Asked;"⟩, 8) := ⟨⟨by decide +kernel, by decide +kernel⟩, lw_t1 (List.mem_of_getElem? (i := 199) rfl), lw_t2 (List.mem_of_getElem? (i := 218) rfl), lw_t2 (List.mem_of_getElem? (i := 219) rfl)⟩
theorem lw_p13 : lw_okq (⟨"ApologyUp$Tokens", "both", "()LApologyUp$Asked;"⟩, 8) := ⟨⟨by decide +kernel, by decide +kernel⟩, lw_t1 (List.mem_of_getElem? (i := 199) rfl), lw_t2 (List.mem_of_getElem? (i := 224) rfl), lw_t2 (List.mem_of_getElem? (i := 225) rfl)⟩
theorem lw_p14 : lw_okq (⟨"ApologyUp$Tokens", "ask", "()LApologyUp$Asked;"⟩, 8) := ⟨⟨by decide +kernel, by decide +kernel⟩, lw_t1 (List.mem_of_getElem? (i := 199) rfl), lw_t2 (List.mem_of_getElem? (i := 228) rfl), lw_t2 (List.mem_of_getElem? (i := 229) rfl)⟩
theorem lw_p15 : lw_okq (⟨"java/util/ArrayList", "add", "(Ljava/lang/Object;[Ljava/lang/Object;I)V"⟩, 3) := ⟨⟨by decide +kernel, by decide +kernel⟩, lw_t2 (List.mem_of_getElem? (i := 2) rfl), lw_t3 (List.mem_of_getElem? (i := 22) rfl), lw_t3 (List.mem_of_getElem? (i := 23) rfl)⟩
def lw_privs_1 : List (MethodName × Nat) := [(⟨"ApologyUp", "isOfficer", "(I)Z"⟩, 15), (⟨"ApologyUp", "put", "(I)V"⟩, 15), (⟨"ApologyUp$Tokens", "next", "()V"⟩, 8), (⟨"ApologyUp$Tokens", "isWord", "(Ljava/lang/String;)Z"⟩, 8), (⟨"ApologyUp$Tokens", "wrong", "(I)LApologyUp$Wrong;"⟩, 8), (⟨"java/lang/Throwable", "fillInStackTrace", "(I)Ljava/lang/Throwable;"⟩, 6), (⟨"ApologyUp$Tokens", "sum", "()LApologyUp$Sum;"⟩, 8), (⟨"ApologyUp$Tokens", "product", "()LApologyUp$Sum;"⟩, 8), (⟨"ApologyUp$Tokens", "one", "()LApologyUp$Sum;"⟩, 8), (⟨"ApologyUp$Tokens", "number", "(II)I"⟩, 8), (⟨"ApologyUp$Tokens", "choice", "()LApologyUp$Sum;"⟩, 8), (⟨"ApologyUp$Tokens", "opens", "()V"⟩, 8), (⟨"ApologyUp$Tokens", "either", "()LApologyUp$Asked;"⟩, 8), (⟨"ApologyUp$Tokens", "both", "()LApologyUp$Asked;"⟩, 8), (⟨"ApologyUp$Tokens", "ask", "()LApologyUp$Asked;"⟩, 8), (⟨"java/util/ArrayList", "add", "(Ljava/lang/Object;[Ljava/lang/Object;I)V"⟩, 3)]
theorem lw_r1 : ∀ q ∈ lw_privs_1, lw_okq q := List.forall_mem_cons.mpr ⟨lw_p0, List.forall_mem_cons.mpr ⟨lw_p1, List.forall_mem_cons.mpr ⟨lw_p2, List.forall_mem_cons.mpr ⟨lw_p3, List.forall_mem_cons.mpr ⟨lw_p4, List.forall_mem_cons.mpr ⟨lw_p5, List.forall_mem_cons.mpr ⟨lw_p6, List.forall_mem_cons.mpr ⟨lw_p7, List.forall_mem_cons.mpr ⟨lw_p8, List.forall_mem_cons.mpr ⟨lw_p9, List.forall_mem_cons.mpr ⟨lw_p10, List.forall_mem_cons.mpr ⟨lw_p11, List.forall_mem_cons.mpr ⟨lw_p12, List.forall_mem_cons.mpr ⟨lw_p13, List.forall_mem_cons.mpr ⟨lw_p14, List.forall_mem_cons.mpr ⟨lw_p15, fun _ h => absurd h List.not_mem_nil⟩⟩⟩⟩⟩⟩⟩⟩⟩⟩⟩⟩⟩⟩⟩⟩
theorem lw_p16 : lw_okq (⟨"java/util/ArrayList", "grow", "()[Ljava/lang/Object;"⟩, 3) := ⟨⟨by decide +kernel, by decide +kernel⟩, lw_t2 (List.mem_of_getElem? (i := 2) rfl), lw_t3 (List.mem_of_getElem? (i := 26) rfl), lw_t3 (List.mem_of_getElem? (i := 27) rfl)⟩
theorem lw_p17 : lw_okq (⟨"java/util/ArrayList", "grow", "(I)[Ljava/lang/Object;"⟩, 3) := ⟨⟨by decide +kernel, by decide +kernel⟩, lw_t2 (List.mem_of_getElem? (i := 2) rfl), lw_t3 (List.mem_of_getElem? (i := 30) rfl), lw_t3 (List.mem_of_getElem? (i := 31) rfl)⟩
theorem lw_p18 : lw_okq (⟨"ApologyUp$Tokens", "want", "(I)V"⟩, 8) := ⟨⟨by decide +kernel, by decide +kernel⟩, lw_t1 (List.mem_of_getElem? (i := 199) rfl), lw_t3 (List.mem_of_getElem? (i := 110) rfl), lw_t3 (List.mem_of_getElem? (i := 111) rfl)⟩
theorem lw_p19 : lw_okq (⟨"ApologyUp$Tokens", "halves", "()LApologyUp$Sum;"⟩, 8) := ⟨⟨by decide +kernel, by decide +kernel⟩, lw_t1 (List.mem_of_getElem? (i := 199) rfl), lw_t3 (List.mem_of_getElem? (i := 130) rfl), lw_t3 (List.mem_of_getElem? (i := 131) rfl)⟩
theorem lw_p20 : lw_okq (⟨"ApologyUp$Tokens", "nameNow", "()I"⟩, 8) := ⟨⟨by decide +kernel, by decide +kernel⟩, lw_t1 (List.mem_of_getElem? (i := 199) rfl), lw_t3 (List.mem_of_getElem? (i := 147) rfl), lw_t3 (List.mem_of_getElem? (i := 148) rfl)⟩
theorem lw_p21 : lw_okq (⟨"ApologyUp$Tokens", "mayName", "(I)Z"⟩, 8) := ⟨⟨by decide +kernel, by decide +kernel⟩, lw_t1 (List.mem_of_getElem? (i := 199) rfl), lw_t3 (List.mem_of_getElem? (i := 153) rfl), lw_t3 (List.mem_of_getElem? (i := 154) rfl)⟩
theorem lw_p22 : lw_okq (⟨"ApologyUp$Tokens", "doing", "(I)LApologyUp$Doing;"⟩, 8) := ⟨⟨by decide +kernel, by decide +kernel⟩, lw_t1 (List.mem_of_getElem? (i := 199) rfl), lw_t3 (List.mem_of_getElem? (i := 236) rfl), lw_t3 (List.mem_of_getElem? (i := 237) rfl)⟩
theorem lw_p23 : lw_okq (⟨"ApologyUp$Tokens", "behind", "(III)I"⟩, 8) := ⟨⟨by decide +kernel, by decide +kernel⟩, lw_t1 (List.mem_of_getElem? (i := 199) rfl), lw_t4 (List.mem_of_getElem? (i := 2) rfl), lw_t4 (List.mem_of_getElem? (i := 3) rfl)⟩
theorem lw_p24 : lw_okq (⟨"ApologyUp", "isText", "(I)Z"⟩, 15) := ⟨⟨by decide +kernel, by decide +kernel⟩, lw_t1 (List.mem_of_getElem? (i := 37) rfl), lw_t4 (List.mem_of_getElem? (i := 34) rfl), lw_t4 (List.mem_of_getElem? (i := 35) rfl)⟩
theorem lw_p25 : lw_okq (⟨"ApologyUp", "passes", "([I)I"⟩, 15) := ⟨⟨by decide +kernel, by decide +kernel⟩, lw_t1 (List.mem_of_getElem? (i := 37) rfl), lw_t4 (List.mem_of_getElem? (i := 46) rfl), lw_t4 (List.mem_of_getElem? (i := 47) rfl)⟩
theorem lw_p26 : lw_okq (⟨"ApologyUp", "goesUp", "([II)V"⟩, 15) := ⟨⟨by decide +kernel, by decide +kernel⟩, lw_t1 (List.mem_of_getElem? (i := 37) rfl), lw_t4 (List.mem_of_getElem? (i := 56) rfl), lw_t4 (List.mem_of_getElem? (i := 57) rfl)⟩
theorem lw_p27 : lw_okq (⟨"ApologyUp", "lawOf", "([IIII)I"⟩, 15) := ⟨⟨by decide +kernel, by decide +kernel⟩, lw_t1 (List.mem_of_getElem? (i := 37) rfl), lw_t4 (List.mem_of_getElem? (i := 60) rfl), lw_t4 (List.mem_of_getElem? (i := 61) rfl)⟩
theorem lw_p28 : lw_okq (⟨"ApologyUp", "namesOf", "(IIIII)V"⟩, 15) := ⟨⟨by decide +kernel, by decide +kernel⟩, lw_t1 (List.mem_of_getElem? (i := 37) rfl), lw_t4 (List.mem_of_getElem? (i := 64) rfl), lw_t4 (List.mem_of_getElem? (i := 65) rfl)⟩
theorem lw_p29 : lw_okq (⟨"ApologyUp", "rankOf", "(I)I"⟩, 15) := ⟨⟨by decide +kernel, by decide +kernel⟩, lw_t1 (List.mem_of_getElem? (i := 37) rfl), lw_t4 (List.mem_of_getElem? (i := 68) rfl), lw_t4 (List.mem_of_getElem? (i := 69) rfl)⟩
theorem lw_p30 : lw_okq (⟨"ApologyUp", "rules", "()LApologyUp$Text;"⟩, 15) := ⟨⟨by decide +kernel, by decide +kernel⟩, lw_t1 (List.mem_of_getElem? (i := 37) rfl), lw_t4 (List.mem_of_getElem? (i := 72) rfl), lw_t4 (List.mem_of_getElem? (i := 73) rfl)⟩
theorem lw_p31 : lw_okq (⟨"ApologyUp", "law", "(LApologyUp$Text;IIII)I"⟩, 15) := ⟨⟨by decide +kernel, by decide +kernel⟩, lw_t1 (List.mem_of_getElem? (i := 37) rfl), lw_t4 (List.mem_of_getElem? (i := 78) rfl), lw_t4 (List.mem_of_getElem? (i := 79) rfl)⟩
def lw_privs_2 : List (MethodName × Nat) := [(⟨"java/util/ArrayList", "grow", "()[Ljava/lang/Object;"⟩, 3), (⟨"java/util/ArrayList", "grow", "(I)[Ljava/lang/Object;"⟩, 3), (⟨"ApologyUp$Tokens", "want", "(I)V"⟩, 8), (⟨"ApologyUp$Tokens", "halves", "()LApologyUp$Sum;"⟩, 8), (⟨"ApologyUp$Tokens", "nameNow", "()I"⟩, 8), (⟨"ApologyUp$Tokens", "mayName", "(I)Z"⟩, 8), (⟨"ApologyUp$Tokens", "doing", "(I)LApologyUp$Doing;"⟩, 8), (⟨"ApologyUp$Tokens", "behind", "(III)I"⟩, 8), (⟨"ApologyUp", "isText", "(I)Z"⟩, 15), (⟨"ApologyUp", "passes", "([I)I"⟩, 15), (⟨"ApologyUp", "goesUp", "([II)V"⟩, 15), (⟨"ApologyUp", "lawOf", "([IIII)I"⟩, 15), (⟨"ApologyUp", "namesOf", "(IIIII)V"⟩, 15), (⟨"ApologyUp", "rankOf", "(I)I"⟩, 15), (⟨"ApologyUp", "rules", "()LApologyUp$Text;"⟩, 15), (⟨"ApologyUp", "law", "(LApologyUp$Text;IIII)I"⟩, 15)]
theorem lw_r2 : ∀ q ∈ lw_privs_2, lw_okq q := List.forall_mem_cons.mpr ⟨lw_p16, List.forall_mem_cons.mpr ⟨lw_p17, List.forall_mem_cons.mpr ⟨lw_p18, List.forall_mem_cons.mpr ⟨lw_p19, List.forall_mem_cons.mpr ⟨lw_p20, List.forall_mem_cons.mpr ⟨lw_p21, List.forall_mem_cons.mpr ⟨lw_p22, List.forall_mem_cons.mpr ⟨lw_p23, List.forall_mem_cons.mpr ⟨lw_p24, List.forall_mem_cons.mpr ⟨lw_p25, List.forall_mem_cons.mpr ⟨lw_p26, List.forall_mem_cons.mpr ⟨lw_p27, List.forall_mem_cons.mpr ⟨lw_p28, List.forall_mem_cons.mpr ⟨lw_p29, List.forall_mem_cons.mpr ⟨lw_p30, List.forall_mem_cons.mpr ⟨lw_p31, fun _ h => absurd h List.not_mem_nil⟩⟩⟩⟩⟩⟩⟩⟩⟩⟩⟩⟩⟩⟩⟩⟩
theorem lw_p32 : lw_okq (⟨"ApologyUp", "judged", "([II)V"⟩, 15) := ⟨⟨by decide +kernel, by decide +kernel⟩, lw_t1 (List.mem_of_getElem? (i := 37) rfl), lw_t4 (List.mem_of_getElem? (i := 196) rfl), lw_t4 (List.mem_of_getElem? (i := 197) rfl)⟩
theorem lw_p33 : lw_okq (⟨"ApologyUp", "comesDown", "([II)Z"⟩, 15) := ⟨⟨by decide +kernel, by decide +kernel⟩, lw_t1 (List.mem_of_getElem? (i := 37) rfl), lw_t4 (List.mem_of_getElem? (i := 207) rfl), lw_t4 (List.mem_of_getElem? (i := 208) rfl)⟩
theorem lw_p34 : lw_okq (⟨"ApologyUp", "towards", "(II)I"⟩, 15) := ⟨⟨by decide +kernel, by decide +kernel⟩, lw_t1 (List.mem_of_getElem? (i := 37) rfl), lw_t4 (List.mem_of_getElem? (i := 211) rfl), lw_t4 (List.mem_of_getElem? (i := 212) rfl)⟩
theorem lw_p35 : lw_okq (⟨"ApologyUp", "canWrong", "(II)Z"⟩, 15) := ⟨⟨by decide +kernel, by decide +kernel⟩, lw_t1 (List.mem_of_getElem? (i := 37) rfl), lw_t4 (List.mem_of_getElem? (i := 226) rfl), lw_t4 (List.mem_of_getElem? (i := 227) rfl)⟩
theorem lw_p36 : lw_okq (⟨"ApologyUp", "isBelow", "(II)Z"⟩, 15) := ⟨⟨by decide +kernel, by decide +kernel⟩, lw_t1 (List.mem_of_getElem? (i := 37) rfl), lw_t4 (List.mem_of_getElem? (i := 230) rfl), lw_t4 (List.mem_of_getElem? (i := 231) rfl)⟩
theorem lw_p37 : lw_okq (⟨"ApologyUp", "wrongs", "(III)I"⟩, 15) := ⟨⟨by decide +kernel, by decide +kernel⟩, lw_t1 (List.mem_of_getElem? (i := 37) rfl), lw_t4 (List.mem_of_getElem? (i := 234) rfl), lw_t4 (List.mem_of_getElem? (i := 235) rfl)⟩
theorem lw_p38 : lw_okq (⟨"ApologyUp", "goesAway", "(II)V"⟩, 15) := ⟨⟨by decide +kernel, by decide +kernel⟩, lw_t1 (List.mem_of_getElem? (i := 37) rfl), lw_t5 (List.mem_of_getElem? (i := 2) rfl), lw_t5 (List.mem_of_getElem? (i := 3) rfl)⟩
theorem lw_p39 : lw_okq (⟨"ApologyUp", "isApology", "(I)Z"⟩, 15) := ⟨⟨by decide +kernel, by decide +kernel⟩, lw_t1 (List.mem_of_getElem? (i := 37) rfl), lw_t5 (List.mem_of_getElem? (i := 10) rfl), lw_t5 (List.mem_of_getElem? (i := 11) rfl)⟩
theorem lw_p40 : lw_okq (⟨"ApologyUp", "does", "(LApologyUp$Doing;)Z"⟩, 15) := ⟨⟨by decide +kernel, by decide +kernel⟩, lw_t1 (List.mem_of_getElem? (i := 37) rfl), lw_t5 (List.mem_of_getElem? (i := 21) rfl), lw_t5 (List.mem_of_getElem? (i := 22) rfl)⟩
theorem lw_p41 : lw_okq (⟨"ApologyUp", "passesAll", "(I)Z"⟩, 15) := ⟨⟨by decide +kernel, by decide +kernel⟩, lw_t1 (List.mem_of_getElem? (i := 37) rfl), lw_t5 (List.mem_of_getElem? (i := 46) rfl), lw_t5 (List.mem_of_getElem? (i := 47) rfl)⟩
theorem lw_p42 : lw_okq (⟨"ApologyUp", "happens", "(I)V"⟩, 15) := ⟨⟨by decide +kernel, by decide +kernel⟩, lw_t1 (List.mem_of_getElem? (i := 37) rfl), lw_t5 (List.mem_of_getElem? (i := 59) rfl), lw_t5 (List.mem_of_getElem? (i := 60) rfl)⟩
theorem lw_p43 : lw_okq (⟨"ApologyUp", "addsBy", "(LApologyUp$Text;IIII)I"⟩, 15) := ⟨⟨by decide +kernel, by decide +kernel⟩, lw_t1 (List.mem_of_getElem? (i := 37) rfl), lw_t5 (List.mem_of_getElem? (i := 72) rfl), lw_t5 (List.mem_of_getElem? (i := 73) rfl)⟩
theorem lw_p44 : lw_okq (⟨"ApologyUp", "deskOf", "(I)I"⟩, 15) := ⟨⟨by decide +kernel, by decide +kernel⟩, lw_t1 (List.mem_of_getElem? (i := 37) rfl), lw_t5 (List.mem_of_getElem? (i := 76) rfl), lw_t5 (List.mem_of_getElem? (i := 77) rfl)⟩
theorem lw_p45 : lw_okq (⟨"ApologyUp", "under", "(I)I"⟩, 15) := ⟨⟨by decide +kernel, by decide +kernel⟩, lw_t1 (List.mem_of_getElem? (i := 37) rfl), lw_t5 (List.mem_of_getElem? (i := 80) rfl), lw_t5 (List.mem_of_getElem? (i := 81) rfl)⟩
theorem lw_p46 : lw_okq (⟨"ApologyUp", "meetOf", "(II)I"⟩, 15) := ⟨⟨by decide +kernel, by decide +kernel⟩, lw_t1 (List.mem_of_getElem? (i := 37) rfl), lw_t5 (List.mem_of_getElem? (i := 108) rfl), lw_t5 (List.mem_of_getElem? (i := 109) rfl)⟩
theorem lw_p47 : lw_okq (⟨"ApologyUp", "stepsOf", "(II)I"⟩, 15) := ⟨⟨by decide +kernel, by decide +kernel⟩, lw_t1 (List.mem_of_getElem? (i := 37) rfl), lw_t5 (List.mem_of_getElem? (i := 116) rfl), lw_t5 (List.mem_of_getElem? (i := 117) rfl)⟩
def lw_privs_3 : List (MethodName × Nat) := [(⟨"ApologyUp", "judged", "([II)V"⟩, 15), (⟨"ApologyUp", "comesDown", "([II)Z"⟩, 15), (⟨"ApologyUp", "towards", "(II)I"⟩, 15), (⟨"ApologyUp", "canWrong", "(II)Z"⟩, 15), (⟨"ApologyUp", "isBelow", "(II)Z"⟩, 15), (⟨"ApologyUp", "wrongs", "(III)I"⟩, 15), (⟨"ApologyUp", "goesAway", "(II)V"⟩, 15), (⟨"ApologyUp", "isApology", "(I)Z"⟩, 15), (⟨"ApologyUp", "does", "(LApologyUp$Doing;)Z"⟩, 15), (⟨"ApologyUp", "passesAll", "(I)Z"⟩, 15), (⟨"ApologyUp", "happens", "(I)V"⟩, 15), (⟨"ApologyUp", "addsBy", "(LApologyUp$Text;IIII)I"⟩, 15), (⟨"ApologyUp", "deskOf", "(I)I"⟩, 15), (⟨"ApologyUp", "under", "(I)I"⟩, 15), (⟨"ApologyUp", "meetOf", "(II)I"⟩, 15), (⟨"ApologyUp", "stepsOf", "(II)I"⟩, 15)]
theorem lw_r3 : ∀ q ∈ lw_privs_3, lw_okq q := List.forall_mem_cons.mpr ⟨lw_p32, List.forall_mem_cons.mpr ⟨lw_p33, List.forall_mem_cons.mpr ⟨lw_p34, List.forall_mem_cons.mpr ⟨lw_p35, List.forall_mem_cons.mpr ⟨lw_p36, List.forall_mem_cons.mpr ⟨lw_p37, List.forall_mem_cons.mpr ⟨lw_p38, List.forall_mem_cons.mpr ⟨lw_p39, List.forall_mem_cons.mpr ⟨lw_p40, List.forall_mem_cons.mpr ⟨lw_p41, List.forall_mem_cons.mpr ⟨lw_p42, List.forall_mem_cons.mpr ⟨lw_p43, List.forall_mem_cons.mpr ⟨lw_p44, List.forall_mem_cons.mpr ⟨lw_p45, List.forall_mem_cons.mpr ⟨lw_p46, List.forall_mem_cons.mpr ⟨lw_p47, fun _ h => absurd h List.not_mem_nil⟩⟩⟩⟩⟩⟩⟩⟩⟩⟩⟩⟩⟩⟩⟩⟩
theorem lw_p48 : lw_okq (⟨"ApologyUp", "wanders", "(IIIIIII)V"⟩, 15) := ⟨⟨by decide +kernel, by decide +kernel⟩, lw_t1 (List.mem_of_getElem? (i := 37) rfl), lw_t5 (List.mem_of_getElem? (i := 124) rfl), lw_t5 (List.mem_of_getElem? (i := 125) rfl)⟩
theorem lw_p49 : lw_okq (⟨"ApologyUp", "laysPiles", "(I)V"⟩, 15) := ⟨⟨by decide +kernel, by decide +kernel⟩, lw_t1 (List.mem_of_getElem? (i := 37) rfl), lw_t5 (List.mem_of_getElem? (i := 140) rfl), lw_t5 (List.mem_of_getElem? (i := 141) rfl)⟩
theorem lw_p50 : lw_okq (⟨"ApologyUp", "nextBehind", "(I)I"⟩, 15) := ⟨⟨by decide +kernel, by decide +kernel⟩, lw_t1 (List.mem_of_getElem? (i := 37) rfl), lw_t5 (List.mem_of_getElem? (i := 166) rfl), lw_t5 (List.mem_of_getElem? (i := 167) rfl)⟩
theorem lw_p51 : lw_okq (⟨"ApologyUp", "weightOf", "(I)I"⟩, 15) := ⟨⟨by decide +kernel, by decide +kernel⟩, lw_t1 (List.mem_of_getElem? (i := 37) rfl), lw_t5 (List.mem_of_getElem? (i := 178) rfl), lw_t5 (List.mem_of_getElem? (i := 179) rfl)⟩
theorem lw_p52 : lw_okq (⟨"ApologyUp", "areApart", "(I)Z"⟩, 15) := ⟨⟨by decide +kernel, by decide +kernel⟩, lw_t1 (List.mem_of_getElem? (i := 37) rfl), lw_t5 (List.mem_of_getElem? (i := 182) rfl), lw_t5 (List.mem_of_getElem? (i := 183) rfl)⟩
theorem lw_p53 : lw_okq (⟨"ApologyUp", "allStepsOf", "(I)I"⟩, 15) := ⟨⟨by decide +kernel, by decide +kernel⟩, lw_t1 (List.mem_of_getElem? (i := 37) rfl), lw_t5 (List.mem_of_getElem? (i := 190) rfl), lw_t5 (List.mem_of_getElem? (i := 191) rfl)⟩
theorem lw_p54 : lw_okq (⟨"ApologyUp", "near", "(I)I"⟩, 15) := ⟨⟨by decide +kernel, by decide +kernel⟩, lw_t1 (List.mem_of_getElem? (i := 37) rfl), lw_t5 (List.mem_of_getElem? (i := 206) rfl), lw_t5 (List.mem_of_getElem? (i := 207) rfl)⟩
theorem lw_p55 : lw_okq (⟨"ApologyUp", "isLaw", "(LApologyUp$Text;)Z"⟩, 15) := ⟨⟨by decide +kernel, by decide +kernel⟩, lw_t1 (List.mem_of_getElem? (i := 37) rfl), lw_t5 (List.mem_of_getElem? (i := 230) rfl), lw_t5 (List.mem_of_getElem? (i := 231) rfl)⟩
theorem lw_p56 : lw_okq (⟨"ApologyUpModel", "isOfficer", "(I)Z"⟩, 35) := ⟨⟨by decide +kernel, by decide +kernel⟩, lw_t6 (List.mem_of_getElem? (i := 22) rfl), lw_t6 (List.mem_of_getElem? (i := 143) rfl), lw_t6 (List.mem_of_getElem? (i := 144) rfl)⟩
theorem lw_p57 : lw_okq (⟨"ApologyUpModel", "four", "(I)V"⟩, 35) := ⟨⟨by decide +kernel, by decide +kernel⟩, lw_t6 (List.mem_of_getElem? (i := 22) rfl), lw_t6 (List.mem_of_getElem? (i := 161) rfl), lw_t6 (List.mem_of_getElem? (i := 162) rfl)⟩
theorem lw_p58 : lw_okq (⟨"ApologyUpModel", "readText", "()I"⟩, 35) := ⟨⟨by decide +kernel, by decide +kernel⟩, lw_t6 (List.mem_of_getElem? (i := 22) rfl), lw_t6 (List.mem_of_getElem? (i := 173) rfl), lw_t6 (List.mem_of_getElem? (i := 174) rfl)⟩
theorem lw_p59 : lw_okq (⟨"ApologyUpModel", "nextToken", "()V"⟩, 35) := ⟨⟨by decide +kernel, by decide +kernel⟩, lw_t6 (List.mem_of_getElem? (i := 22) rfl), lw_t6 (List.mem_of_getElem? (i := 177) rfl), lw_t6 (List.mem_of_getElem? (i := 178) rfl)⟩
theorem lw_p60 : lw_okq (⟨"ApologyUpModel", "byteAt", "(I)I"⟩, 35) := ⟨⟨by decide +kernel, by decide +kernel⟩, lw_t6 (List.mem_of_getElem? (i := 22) rfl), lw_t6 (List.mem_of_getElem? (i := 181) rfl), lw_t6 (List.mem_of_getElem? (i := 182) rfl)⟩
theorem lw_p61 : lw_okq (⟨"ApologyUpModel", "clause", "()I"⟩, 35) := ⟨⟨by decide +kernel, by decide +kernel⟩, lw_t6 (List.mem_of_getElem? (i := 22) rfl), lw_t6 (List.mem_of_getElem? (i := 196) rfl), lw_t6 (List.mem_of_getElem? (i := 197) rfl)⟩
theorem lw_p62 : lw_okq (⟨"ApologyUpModel", "sortOf", "()I"⟩, 35) := ⟨⟨by decide +kernel, by decide +kernel⟩, lw_t6 (List.mem_of_getElem? (i := 22) rfl), lw_t6 (List.mem_of_getElem? (i := 200) rfl), lw_t6 (List.mem_of_getElem? (i := 201) rfl)⟩
theorem lw_p63 : lw_okq (⟨"ApologyUpModel", "isWord", "(J)Z"⟩, 35) := ⟨⟨by decide +kernel, by decide +kernel⟩, lw_t6 (List.mem_of_getElem? (i := 22) rfl), lw_t6 (List.mem_of_getElem? (i := 213) rfl), lw_t6 (List.mem_of_getElem? (i := 214) rfl)⟩
def lw_privs_4 : List (MethodName × Nat) := [(⟨"ApologyUp", "wanders", "(IIIIIII)V"⟩, 15), (⟨"ApologyUp", "laysPiles", "(I)V"⟩, 15), (⟨"ApologyUp", "nextBehind", "(I)I"⟩, 15), (⟨"ApologyUp", "weightOf", "(I)I"⟩, 15), (⟨"ApologyUp", "areApart", "(I)Z"⟩, 15), (⟨"ApologyUp", "allStepsOf", "(I)I"⟩, 15), (⟨"ApologyUp", "near", "(I)I"⟩, 15), (⟨"ApologyUp", "isLaw", "(LApologyUp$Text;)Z"⟩, 15), (⟨"ApologyUpModel", "isOfficer", "(I)Z"⟩, 35), (⟨"ApologyUpModel", "four", "(I)V"⟩, 35), (⟨"ApologyUpModel", "readText", "()I"⟩, 35), (⟨"ApologyUpModel", "nextToken", "()V"⟩, 35), (⟨"ApologyUpModel", "byteAt", "(I)I"⟩, 35), (⟨"ApologyUpModel", "clause", "()I"⟩, 35), (⟨"ApologyUpModel", "sortOf", "()I"⟩, 35), (⟨"ApologyUpModel", "isWord", "(J)Z"⟩, 35)]
theorem lw_r4 : ∀ q ∈ lw_privs_4, lw_okq q := List.forall_mem_cons.mpr ⟨lw_p48, List.forall_mem_cons.mpr ⟨lw_p49, List.forall_mem_cons.mpr ⟨lw_p50, List.forall_mem_cons.mpr ⟨lw_p51, List.forall_mem_cons.mpr ⟨lw_p52, List.forall_mem_cons.mpr ⟨lw_p53, List.forall_mem_cons.mpr ⟨lw_p54, List.forall_mem_cons.mpr ⟨lw_p55, List.forall_mem_cons.mpr ⟨lw_p56, List.forall_mem_cons.mpr ⟨lw_p57, List.forall_mem_cons.mpr ⟨lw_p58, List.forall_mem_cons.mpr ⟨lw_p59, List.forall_mem_cons.mpr ⟨lw_p60, List.forall_mem_cons.mpr ⟨lw_p61, List.forall_mem_cons.mpr ⟨lw_p62, List.forall_mem_cons.mpr ⟨lw_p63, fun _ h => absurd h List.not_mem_nil⟩⟩⟩⟩⟩⟩⟩⟩⟩⟩⟩⟩⟩⟩⟩⟩
theorem lw_p64 : lw_okq (⟨"ApologyUpModel", "isLong", "(JJ)Z"⟩, 35) := ⟨⟨by decide +kernel, by decide +kernel⟩, lw_t6 (List.mem_of_getElem? (i := 22) rfl), lw_t6 (List.mem_of_getElem? (i := 217) rfl), lw_t6 (List.mem_of_getElem? (i := 218) rfl)⟩
theorem lw_p65 : lw_okq (⟨"ApologyUpModel", "body", "(II)I"⟩, 35) := ⟨⟨by decide +kernel, by decide +kernel⟩, lw_t6 (List.mem_of_getElem? (i := 22) rfl), lw_t6 (List.mem_of_getElem? (i := 227) rfl), lw_t6 (List.mem_of_getElem? (i := 228) rfl)⟩
theorem lw_p66 : lw_okq (⟨"ApologyUpModel", "pair", "(IJI)I"⟩, 35) := ⟨⟨by decide +kernel, by decide +kernel⟩, lw_t6 (List.mem_of_getElem? (i := 22) rfl), lw_t6 (List.mem_of_getElem? (i := 231) rfl), lw_t6 (List.mem_of_getElem? (i := 232) rfl)⟩
theorem lw_p67 : lw_okq (⟨"ApologyUpModel", "figure", "(III)I"⟩, 35) := ⟨⟨by decide +kernel, by decide +kernel⟩, lw_t6 (List.mem_of_getElem? (i := 22) rfl), lw_t6 (List.mem_of_getElem? (i := 235) rfl), lw_t6 (List.mem_of_getElem? (i := 236) rfl)⟩
theorem lw_p68 : lw_okq (⟨"ApologyUpModel", "worded", "(JIII)I"⟩, 35) := ⟨⟨by decide +kernel, by decide +kernel⟩, lw_t6 (List.mem_of_getElem? (i := 22) rfl), lw_t6 (List.mem_of_getElem? (i := 239) rfl), lw_t7 (List.mem_of_getElem? (i := 0) rfl)⟩
theorem lw_p69 : lw_okq (⟨"ApologyUpModel", "lawClause", "(I)I"⟩, 35) := ⟨⟨by decide +kernel, by decide +kernel⟩, lw_t6 (List.mem_of_getElem? (i := 22) rfl), lw_t7 (List.mem_of_getElem? (i := 3) rfl), lw_t7 (List.mem_of_getElem? (i := 4) rfl)⟩
theorem lw_p70 : lw_okq (⟨"ApologyUpModel", "summed", "()I"⟩, 35) := ⟨⟨by decide +kernel, by decide +kernel⟩, lw_t6 (List.mem_of_getElem? (i := 22) rfl), lw_t7 (List.mem_of_getElem? (i := 7) rfl), lw_t7 (List.mem_of_getElem? (i := 8) rfl)⟩
theorem lw_p71 : lw_okq (⟨"ApologyUpModel", "behindOne", "()I"⟩, 35) := ⟨⟨by decide +kernel, by decide +kernel⟩, lw_t6 (List.mem_of_getElem? (i := 22) rfl), lw_t7 (List.mem_of_getElem? (i := 11) rfl), lw_t7 (List.mem_of_getElem? (i := 12) rfl)⟩
theorem lw_p72 : lw_okq (⟨"ApologyUpModel", "betweenOf", "()I"⟩, 35) := ⟨⟨by decide +kernel, by decide +kernel⟩, lw_t6 (List.mem_of_getElem? (i := 22) rfl), lw_t7 (List.mem_of_getElem? (i := 15) rfl), lw_t7 (List.mem_of_getElem? (i := 16) rfl)⟩
theorem lw_p73 : lw_okq (⟨"ApologyUpModel", "openNow", "()I"⟩, 35) := ⟨⟨by decide +kernel, by decide +kernel⟩, lw_t6 (List.mem_of_getElem? (i := 22) rfl), lw_t7 (List.mem_of_getElem? (i := 19) rfl), lw_t7 (List.mem_of_getElem? (i := 20) rfl)⟩
theorem lw_p74 : lw_okq (⟨"ApologyUpModel", "openAt", "()I"⟩, 35) := ⟨⟨by decide +kernel, by decide +kernel⟩, lw_t6 (List.mem_of_getElem? (i := 22) rfl), lw_t7 (List.mem_of_getElem? (i := 23) rfl), lw_t7 (List.mem_of_getElem? (i := 24) rfl)⟩
theorem lw_p75 : lw_okq (⟨"ApologyUpModel", "isCompared", "()Z"⟩, 35) := ⟨⟨by decide +kernel, by decide +kernel⟩, lw_t6 (List.mem_of_getElem? (i := 22) rfl), lw_t7 (List.mem_of_getElem? (i := 27) rfl), lw_t7 (List.mem_of_getElem? (i := 28) rfl)⟩
theorem lw_p76 : lw_okq (⟨"ApologyUpModel", "compareOf", "()I"⟩, 35) := ⟨⟨by decide +kernel, by decide +kernel⟩, lw_t6 (List.mem_of_getElem? (i := 22) rfl), lw_t7 (List.mem_of_getElem? (i := 34) rfl), lw_t7 (List.mem_of_getElem? (i := 35) rfl)⟩
theorem lw_p77 : lw_okq (⟨"ApologyUpModel", "settle", "(I)V"⟩, 35) := ⟨⟨by decide +kernel, by decide +kernel⟩, lw_t6 (List.mem_of_getElem? (i := 22) rfl), lw_t7 (List.mem_of_getElem? (i := 38) rfl), lw_t7 (List.mem_of_getElem? (i := 39) rfl)⟩
theorem lw_p78 : lw_okq (⟨"ApologyUpModel", "emit", "(II)V"⟩, 35) := ⟨⟨by decide +kernel, by decide +kernel⟩, lw_t6 (List.mem_of_getElem? (i := 22) rfl), lw_t7 (List.mem_of_getElem? (i := 42) rfl), lw_t7 (List.mem_of_getElem? (i := 43) rfl)⟩
theorem lw_p79 : lw_okq (⟨"ApologyUpModel", "partOf", "(I)I"⟩, 35) := ⟨⟨by decide +kernel, by decide +kernel⟩, lw_t6 (List.mem_of_getElem? (i := 22) rfl), lw_t7 (List.mem_of_getElem? (i := 46) rfl), lw_t7 (List.mem_of_getElem? (i := 47) rfl)⟩
def lw_privs_5 : List (MethodName × Nat) := [(⟨"ApologyUpModel", "isLong", "(JJ)Z"⟩, 35), (⟨"ApologyUpModel", "body", "(II)I"⟩, 35), (⟨"ApologyUpModel", "pair", "(IJI)I"⟩, 35), (⟨"ApologyUpModel", "figure", "(III)I"⟩, 35), (⟨"ApologyUpModel", "worded", "(JIII)I"⟩, 35), (⟨"ApologyUpModel", "lawClause", "(I)I"⟩, 35), (⟨"ApologyUpModel", "summed", "()I"⟩, 35), (⟨"ApologyUpModel", "behindOne", "()I"⟩, 35), (⟨"ApologyUpModel", "betweenOf", "()I"⟩, 35), (⟨"ApologyUpModel", "openNow", "()I"⟩, 35), (⟨"ApologyUpModel", "openAt", "()I"⟩, 35), (⟨"ApologyUpModel", "isCompared", "()Z"⟩, 35), (⟨"ApologyUpModel", "compareOf", "()I"⟩, 35), (⟨"ApologyUpModel", "settle", "(I)V"⟩, 35), (⟨"ApologyUpModel", "emit", "(II)V"⟩, 35), (⟨"ApologyUpModel", "partOf", "(I)I"⟩, 35)]
theorem lw_r5 : ∀ q ∈ lw_privs_5, lw_okq q := List.forall_mem_cons.mpr ⟨lw_p64, List.forall_mem_cons.mpr ⟨lw_p65, List.forall_mem_cons.mpr ⟨lw_p66, List.forall_mem_cons.mpr ⟨lw_p67, List.forall_mem_cons.mpr ⟨lw_p68, List.forall_mem_cons.mpr ⟨lw_p69, List.forall_mem_cons.mpr ⟨lw_p70, List.forall_mem_cons.mpr ⟨lw_p71, List.forall_mem_cons.mpr ⟨lw_p72, List.forall_mem_cons.mpr ⟨lw_p73, List.forall_mem_cons.mpr ⟨lw_p74, List.forall_mem_cons.mpr ⟨lw_p75, List.forall_mem_cons.mpr ⟨lw_p76, List.forall_mem_cons.mpr ⟨lw_p77, List.forall_mem_cons.mpr ⟨lw_p78, List.forall_mem_cons.mpr ⟨lw_p79, fun _ h => absurd h List.not_mem_nil⟩⟩⟩⟩⟩⟩⟩⟩⟩⟩⟩⟩⟩⟩⟩⟩
theorem lw_p80 : lw_okq (⟨"ApologyUpModel", "endOne", "()I"⟩, 35) := ⟨⟨by decide +kernel, by decide +kernel⟩, lw_t6 (List.mem_of_getElem? (i := 22) rfl), lw_t7 (List.mem_of_getElem? (i := 50) rfl), lw_t7 (List.mem_of_getElem? (i := 51) rfl)⟩
theorem lw_p81 : lw_okq (⟨"ApologyUpModel", "beginOne", "()I"⟩, 35) := ⟨⟨by decide +kernel, by decide +kernel⟩, lw_t6 (List.mem_of_getElem? (i := 22) rfl), lw_t7 (List.mem_of_getElem? (i := 54) rfl), lw_t7 (List.mem_of_getElem? (i := 55) rfl)⟩
theorem lw_p82 : lw_okq (⟨"ApologyUpModel", "nameOf", "()I"⟩, 35) := ⟨⟨by decide +kernel, by decide +kernel⟩, lw_t6 (List.mem_of_getElem? (i := 22) rfl), lw_t7 (List.mem_of_getElem? (i := 58) rfl), lw_t7 (List.mem_of_getElem? (i := 59) rfl)⟩
theorem lw_p83 : lw_okq (⟨"ApologyUpModel", "isOf", "(I)Z"⟩, 35) := ⟨⟨by decide +kernel, by decide +kernel⟩, lw_t6 (List.mem_of_getElem? (i := 22) rfl), lw_t7 (List.mem_of_getElem? (i := 62) rfl), lw_t7 (List.mem_of_getElem? (i := 63) rfl)⟩
theorem lw_p84 : lw_okq (⟨"ApologyUpModel", "opened", "(I)I"⟩, 35) := ⟨⟨by decide +kernel, by decide +kernel⟩, lw_t6 (List.mem_of_getElem? (i := 22) rfl), lw_t7 (List.mem_of_getElem? (i := 66) rfl), lw_t7 (List.mem_of_getElem? (i := 67) rfl)⟩
theorem lw_p85 : lw_okq (⟨"ApologyUpModel", "isAskAhead", "()Z"⟩, 35) := ⟨⟨by decide +kernel, by decide +kernel⟩, lw_t6 (List.mem_of_getElem? (i := 22) rfl), lw_t7 (List.mem_of_getElem? (i := 70) rfl), lw_t7 (List.mem_of_getElem? (i := 71) rfl)⟩
theorem lw_p86 : lw_okq (⟨"ApologyUpModel", "canWrong", "(II)Z"⟩, 35) := ⟨⟨by decide +kernel, by decide +kernel⟩, lw_t6 (List.mem_of_getElem? (i := 22) rfl), lw_t7 (List.mem_of_getElem? (i := 90) rfl), lw_t7 (List.mem_of_getElem? (i := 91) rfl)⟩
theorem lw_p87 : lw_okq (⟨"ApologyUpModel", "isAbove", "(II)Z"⟩, 35) := ⟨⟨by decide +kernel, by decide +kernel⟩, lw_t6 (List.mem_of_getElem? (i := 22) rfl), lw_t7 (List.mem_of_getElem? (i := 94) rfl), lw_t7 (List.mem_of_getElem? (i := 95) rfl)⟩
theorem lw_p88 : lw_okq (⟨"ApologyUpModel", "keep", "()V"⟩, 35) := ⟨⟨by decide +kernel, by decide +kernel⟩, lw_t6 (List.mem_of_getElem? (i := 22) rfl), lw_t7 (List.mem_of_getElem? (i := 98) rfl), lw_t7 (List.mem_of_getElem? (i := 99) rfl)⟩
theorem lw_p89 : lw_okq (⟨"ApologyUpModel", "wrongNow", "(III)V"⟩, 35) := ⟨⟨by decide +kernel, by decide +kernel⟩, lw_t6 (List.mem_of_getElem? (i := 22) rfl), lw_t7 (List.mem_of_getElem? (i := 102) rfl), lw_t7 (List.mem_of_getElem? (i := 103) rfl)⟩
theorem lw_p90 : lw_okq (⟨"ApologyUpModel", "put", "(III)V"⟩, 35) := ⟨⟨by decide +kernel, by decide +kernel⟩, lw_t6 (List.mem_of_getElem? (i := 22) rfl), lw_t7 (List.mem_of_getElem? (i := 106) rfl), lw_t7 (List.mem_of_getElem? (i := 107) rfl)⟩
theorem lw_p91 : lw_okq (⟨"ApologyUpModel", "canSend", "(II)Z"⟩, 35) := ⟨⟨by decide +kernel, by decide +kernel⟩, lw_t6 (List.mem_of_getElem? (i := 22) rfl), lw_t7 (List.mem_of_getElem? (i := 118) rfl), lw_t7 (List.mem_of_getElem? (i := 119) rfl)⟩
theorem lw_p92 : lw_okq (⟨"ApologyUpModel", "isApology", "(I)Z"⟩, 35) := ⟨⟨by decide +kernel, by decide +kernel⟩, lw_t6 (List.mem_of_getElem? (i := 22) rfl), lw_t7 (List.mem_of_getElem? (i := 122) rfl), lw_t7 (List.mem_of_getElem? (i := 123) rfl)⟩
theorem lw_p93 : lw_okq (⟨"ApologyUpModel", "get", "(II)I"⟩, 35) := ⟨⟨by decide +kernel, by decide +kernel⟩, lw_t6 (List.mem_of_getElem? (i := 22) rfl), lw_t7 (List.mem_of_getElem? (i := 126) rfl), lw_t7 (List.mem_of_getElem? (i := 127) rfl)⟩
theorem lw_p94 : lw_okq (⟨"ApologyUpModel", "arePassed", "(I)Z"⟩, 35) := ⟨⟨by decide +kernel, by decide +kernel⟩, lw_t6 (List.mem_of_getElem? (i := 22) rfl), lw_t7 (List.mem_of_getElem? (i := 134) rfl), lw_t7 (List.mem_of_getElem? (i := 135) rfl)⟩
theorem lw_p95 : lw_okq (⟨"ApologyUpModel", "pass", "()V"⟩, 35) := ⟨⟨by decide +kernel, by decide +kernel⟩, lw_t6 (List.mem_of_getElem? (i := 22) rfl), lw_t7 (List.mem_of_getElem? (i := 138) rfl), lw_t7 (List.mem_of_getElem? (i := 139) rfl)⟩
def lw_privs_6 : List (MethodName × Nat) := [(⟨"ApologyUpModel", "endOne", "()I"⟩, 35), (⟨"ApologyUpModel", "beginOne", "()I"⟩, 35), (⟨"ApologyUpModel", "nameOf", "()I"⟩, 35), (⟨"ApologyUpModel", "isOf", "(I)Z"⟩, 35), (⟨"ApologyUpModel", "opened", "(I)I"⟩, 35), (⟨"ApologyUpModel", "isAskAhead", "()Z"⟩, 35), (⟨"ApologyUpModel", "canWrong", "(II)Z"⟩, 35), (⟨"ApologyUpModel", "isAbove", "(II)Z"⟩, 35), (⟨"ApologyUpModel", "keep", "()V"⟩, 35), (⟨"ApologyUpModel", "wrongNow", "(III)V"⟩, 35), (⟨"ApologyUpModel", "put", "(III)V"⟩, 35), (⟨"ApologyUpModel", "canSend", "(II)Z"⟩, 35), (⟨"ApologyUpModel", "isApology", "(I)Z"⟩, 35), (⟨"ApologyUpModel", "get", "(II)I"⟩, 35), (⟨"ApologyUpModel", "arePassed", "(I)Z"⟩, 35), (⟨"ApologyUpModel", "pass", "()V"⟩, 35)]
theorem lw_r6 : ∀ q ∈ lw_privs_6, lw_okq q := List.forall_mem_cons.mpr ⟨lw_p80, List.forall_mem_cons.mpr ⟨lw_p81, List.forall_mem_cons.mpr ⟨lw_p82, List.forall_mem_cons.mpr ⟨lw_p83, List.forall_mem_cons.mpr ⟨lw_p84, List.forall_mem_cons.mpr ⟨lw_p85, List.forall_mem_cons.mpr ⟨lw_p86, List.forall_mem_cons.mpr ⟨lw_p87, List.forall_mem_cons.mpr ⟨lw_p88, List.forall_mem_cons.mpr ⟨lw_p89, List.forall_mem_cons.mpr ⟨lw_p90, List.forall_mem_cons.mpr ⟨lw_p91, List.forall_mem_cons.mpr ⟨lw_p92, List.forall_mem_cons.mpr ⟨lw_p93, List.forall_mem_cons.mpr ⟨lw_p94, List.forall_mem_cons.mpr ⟨lw_p95, fun _ h => absurd h List.not_mem_nil⟩⟩⟩⟩⟩⟩⟩⟩⟩⟩⟩⟩⟩⟩⟩⟩
theorem lw_p96 : lw_okq (⟨"ApologyUpModel", "goUp", "(I)V"⟩, 35) := ⟨⟨by decide +kernel, by decide +kernel⟩, lw_t6 (List.mem_of_getElem? (i := 22) rfl), lw_t7 (List.mem_of_getElem? (i := 142) rfl), lw_t7 (List.mem_of_getElem? (i := 143) rfl)⟩
theorem lw_p97 : lw_okq (⟨"ApologyUpModel", "nameApology", "(II)V"⟩, 35) := ⟨⟨by decide +kernel, by decide +kernel⟩, lw_t6 (List.mem_of_getElem? (i := 22) rfl), lw_t7 (List.mem_of_getElem? (i := 146) rfl), lw_t7 (List.mem_of_getElem? (i := 147) rfl)⟩
theorem lw_p98 : lw_okq (⟨"ApologyUpModel", "name", "(IIII)V"⟩, 35) := ⟨⟨by decide +kernel, by decide +kernel⟩, lw_t6 (List.mem_of_getElem? (i := 22) rfl), lw_t7 (List.mem_of_getElem? (i := 150) rfl), lw_t7 (List.mem_of_getElem? (i := 151) rfl)⟩
theorem lw_p99 : lw_okq (⟨"ApologyUpModel", "rankOf", "(I)I"⟩, 35) := ⟨⟨by decide +kernel, by decide +kernel⟩, lw_t6 (List.mem_of_getElem? (i := 22) rfl), lw_t7 (List.mem_of_getElem? (i := 154) rfl), lw_t7 (List.mem_of_getElem? (i := 155) rfl)⟩
theorem lw_p100 : lw_okq (⟨"ApologyUpModel", "deskOf", "(II)I"⟩, 35) := ⟨⟨by decide +kernel, by decide +kernel⟩, lw_t6 (List.mem_of_getElem? (i := 22) rfl), lw_t7 (List.mem_of_getElem? (i := 158) rfl), lw_t7 (List.mem_of_getElem? (i := 159) rfl)⟩
theorem lw_p101 : lw_okq (⟨"ApologyUpModel", "addsBy", "(I)I"⟩, 35) := ⟨⟨by decide +kernel, by decide +kernel⟩, lw_t6 (List.mem_of_getElem? (i := 22) rfl), lw_t7 (List.mem_of_getElem? (i := 162) rfl), lw_t7 (List.mem_of_getElem? (i := 163) rfl)⟩
theorem lw_p102 : lw_okq (⟨"ApologyUpModel", "says", "(IIII)I"⟩, 35) := ⟨⟨by decide +kernel, by decide +kernel⟩, lw_t6 (List.mem_of_getElem? (i := 22) rfl), lw_t7 (List.mem_of_getElem? (i := 166) rfl), lw_t7 (List.mem_of_getElem? (i := 167) rfl)⟩
theorem lw_p103 : lw_okq (⟨"ApologyUpModel", "summedUp", "(II)J"⟩, 35) := ⟨⟨by decide +kernel, by decide +kernel⟩, lw_t6 (List.mem_of_getElem? (i := 22) rfl), lw_t7 (List.mem_of_getElem? (i := 170) rfl), lw_t7 (List.mem_of_getElem? (i := 171) rfl)⟩
theorem lw_p104 : lw_okq (⟨"ApologyUpModel", "ranksOf", "(J)J"⟩, 35) := ⟨⟨by decide +kernel, by decide +kernel⟩, lw_t6 (List.mem_of_getElem? (i := 22) rfl), lw_t7 (List.mem_of_getElem? (i := 174) rfl), lw_t7 (List.mem_of_getElem? (i := 175) rfl)⟩
theorem lw_p105 : lw_okq (⟨"ApologyUpModel", "anew", "()V"⟩, 35) := ⟨⟨by decide +kernel, by decide +kernel⟩, lw_t6 (List.mem_of_getElem? (i := 22) rfl), lw_t7 (List.mem_of_getElem? (i := 199) rfl), lw_t7 (List.mem_of_getElem? (i := 200) rfl)⟩
theorem lw_p106 : lw_okq (⟨"ApologyUpModel", "write", "(II)V"⟩, 35) := ⟨⟨by decide +kernel, by decide +kernel⟩, lw_t6 (List.mem_of_getElem? (i := 22) rfl), lw_t7 (List.mem_of_getElem? (i := 206) rfl), lw_t7 (List.mem_of_getElem? (i := 207) rfl)⟩
theorem lw_p107 : lw_okq (⟨"ApologyUpModel", "goDown", "(I)V"⟩, 35) := ⟨⟨by decide +kernel, by decide +kernel⟩, lw_t6 (List.mem_of_getElem? (i := 22) rfl), lw_t7 (List.mem_of_getElem? (i := 210) rfl), lw_t7 (List.mem_of_getElem? (i := 211) rfl)⟩
theorem lw_p108 : lw_okq (⟨"ApologyUpModel", "downTo", "(II)I"⟩, 35) := ⟨⟨by decide +kernel, by decide +kernel⟩, lw_t6 (List.mem_of_getElem? (i := 22) rfl), lw_t7 (List.mem_of_getElem? (i := 214) rfl), lw_t7 (List.mem_of_getElem? (i := 215) rfl)⟩
theorem lw_p109 : lw_okq (⟨"ApologyUpModel", "finish", "(II)V"⟩, 35) := ⟨⟨by decide +kernel, by decide +kernel⟩, lw_t6 (List.mem_of_getElem? (i := 22) rfl), lw_t7 (List.mem_of_getElem? (i := 218) rfl), lw_t7 (List.mem_of_getElem? (i := 219) rfl)⟩
theorem lw_p110 : lw_okq (⟨"ApologyUpModel", "merge", "(II)V"⟩, 35) := ⟨⟨by decide +kernel, by decide +kernel⟩, lw_t6 (List.mem_of_getElem? (i := 22) rfl), lw_t7 (List.mem_of_getElem? (i := 222) rfl), lw_t7 (List.mem_of_getElem? (i := 223) rfl)⟩
theorem lw_p111 : lw_okq (⟨"ApologyUpModel", "isPlayed", "(I)Z"⟩, 35) := ⟨⟨by decide +kernel, by decide +kernel⟩, lw_t6 (List.mem_of_getElem? (i := 22) rfl), lw_t7 (List.mem_of_getElem? (i := 230) rfl), lw_t7 (List.mem_of_getElem? (i := 231) rfl)⟩
def lw_privs_7 : List (MethodName × Nat) := [(⟨"ApologyUpModel", "goUp", "(I)V"⟩, 35), (⟨"ApologyUpModel", "nameApology", "(II)V"⟩, 35), (⟨"ApologyUpModel", "name", "(IIII)V"⟩, 35), (⟨"ApologyUpModel", "rankOf", "(I)I"⟩, 35), (⟨"ApologyUpModel", "deskOf", "(II)I"⟩, 35), (⟨"ApologyUpModel", "addsBy", "(I)I"⟩, 35), (⟨"ApologyUpModel", "says", "(IIII)I"⟩, 35), (⟨"ApologyUpModel", "summedUp", "(II)J"⟩, 35), (⟨"ApologyUpModel", "ranksOf", "(J)J"⟩, 35), (⟨"ApologyUpModel", "anew", "()V"⟩, 35), (⟨"ApologyUpModel", "write", "(II)V"⟩, 35), (⟨"ApologyUpModel", "goDown", "(I)V"⟩, 35), (⟨"ApologyUpModel", "downTo", "(II)I"⟩, 35), (⟨"ApologyUpModel", "finish", "(II)V"⟩, 35), (⟨"ApologyUpModel", "merge", "(II)V"⟩, 35), (⟨"ApologyUpModel", "isPlayed", "(I)Z"⟩, 35)]
theorem lw_r7 : ∀ q ∈ lw_privs_7, lw_okq q := List.forall_mem_cons.mpr ⟨lw_p96, List.forall_mem_cons.mpr ⟨lw_p97, List.forall_mem_cons.mpr ⟨lw_p98, List.forall_mem_cons.mpr ⟨lw_p99, List.forall_mem_cons.mpr ⟨lw_p100, List.forall_mem_cons.mpr ⟨lw_p101, List.forall_mem_cons.mpr ⟨lw_p102, List.forall_mem_cons.mpr ⟨lw_p103, List.forall_mem_cons.mpr ⟨lw_p104, List.forall_mem_cons.mpr ⟨lw_p105, List.forall_mem_cons.mpr ⟨lw_p106, List.forall_mem_cons.mpr ⟨lw_p107, List.forall_mem_cons.mpr ⟨lw_p108, List.forall_mem_cons.mpr ⟨lw_p109, List.forall_mem_cons.mpr ⟨lw_p110, List.forall_mem_cons.mpr ⟨lw_p111, fun _ h => absurd h List.not_mem_nil⟩⟩⟩⟩⟩⟩⟩⟩⟩⟩⟩⟩⟩⟩⟩⟩
theorem lw_p112 : lw_okq (⟨"ApologyUpModel", "happens", "(I)V"⟩, 35) := ⟨⟨by decide +kernel, by decide +kernel⟩, lw_t6 (List.mem_of_getElem? (i := 22) rfl), lw_t8 (List.mem_of_getElem? (i := 3) rfl), lw_t8 (List.mem_of_getElem? (i := 4) rfl)⟩
theorem lw_p113 : lw_okq (⟨"ApologyUpModel", "addsOf", "(II)I"⟩, 35) := ⟨⟨by decide +kernel, by decide +kernel⟩, lw_t6 (List.mem_of_getElem? (i := 22) rfl), lw_t8 (List.mem_of_getElem? (i := 11) rfl), lw_t8 (List.mem_of_getElem? (i := 12) rfl)⟩
theorem lw_p114 : lw_okq (⟨"ApologyUpModel", "belowOf", "(I)I"⟩, 35) := ⟨⟨by decide +kernel, by decide +kernel⟩, lw_t6 (List.mem_of_getElem? (i := 22) rfl), lw_t8 (List.mem_of_getElem? (i := 15) rfl), lw_t8 (List.mem_of_getElem? (i := 16) rfl)⟩
theorem lw_p115 : lw_okq (⟨"ApologyUpModel", "setAside", "()V"⟩, 35) := ⟨⟨by decide +kernel, by decide +kernel⟩, lw_t6 (List.mem_of_getElem? (i := 22) rfl), lw_t8 (List.mem_of_getElem? (i := 57) rfl), lw_t8 (List.mem_of_getElem? (i := 58) rfl)⟩
theorem lw_p116 : lw_okq (⟨"ApologyUpModel", "putBack", "()V"⟩, 35) := ⟨⟨by decide +kernel, by decide +kernel⟩, lw_t6 (List.mem_of_getElem? (i := 22) rfl), lw_t8 (List.mem_of_getElem? (i := 61) rfl), lw_t8 (List.mem_of_getElem? (i := 62) rfl)⟩
theorem lw_p117 : lw_okq (⟨"ApologyUpModel", "meetOf", "(II)I"⟩, 35) := ⟨⟨by decide +kernel, by decide +kernel⟩, lw_t6 (List.mem_of_getElem? (i := 22) rfl), lw_t8 (List.mem_of_getElem? (i := 73) rfl), lw_t8 (List.mem_of_getElem? (i := 74) rfl)⟩
theorem lw_p118 : lw_okq (⟨"ApologyUpModel", "stepsOf", "(II)I"⟩, 35) := ⟨⟨by decide +kernel, by decide +kernel⟩, lw_t6 (List.mem_of_getElem? (i := 22) rfl), lw_t8 (List.mem_of_getElem? (i := 81) rfl), lw_t8 (List.mem_of_getElem? (i := 82) rfl)⟩
theorem lw_p119 : lw_okq (⟨"ApologyUpModel", "layRoute", "(II)V"⟩, 35) := ⟨⟨by decide +kernel, by decide +kernel⟩, lw_t6 (List.mem_of_getElem? (i := 22) rfl), lw_t8 (List.mem_of_getElem? (i := 89) rfl), lw_t8 (List.mem_of_getElem? (i := 90) rfl)⟩
theorem lw_p120 : lw_okq (⟨"ApologyUpModel", "layDays", "(I)V"⟩, 35) := ⟨⟨by decide +kernel, by decide +kernel⟩, lw_t6 (List.mem_of_getElem? (i := 22) rfl), lw_t8 (List.mem_of_getElem? (i := 93) rfl), lw_t8 (List.mem_of_getElem? (i := 94) rfl)⟩
theorem lw_p121 : lw_okq (⟨"ApologyUpModel", "daysOf", "(III)I"⟩, 35) := ⟨⟨by decide +kernel, by decide +kernel⟩, lw_t6 (List.mem_of_getElem? (i := 22) rfl), lw_t8 (List.mem_of_getElem? (i := 98) rfl), lw_t8 (List.mem_of_getElem? (i := 99) rfl)⟩
theorem lw_p122 : lw_okq (⟨"ApologyUpModel", "nextOf", "(III)I"⟩, 35) := ⟨⟨by decide +kernel, by decide +kernel⟩, lw_t6 (List.mem_of_getElem? (i := 22) rfl), lw_t8 (List.mem_of_getElem? (i := 102) rfl), lw_t8 (List.mem_of_getElem? (i := 103) rfl)⟩
theorem lw_p123 : lw_okq (⟨"ApologyUpModel", "takeWay", "(I)V"⟩, 35) := ⟨⟨by decide +kernel, by decide +kernel⟩, lw_t6 (List.mem_of_getElem? (i := 22) rfl), lw_t8 (List.mem_of_getElem? (i := 106) rfl), lw_t8 (List.mem_of_getElem? (i := 107) rfl)⟩
theorem lw_p124 : lw_okq (⟨"ApologyUpModel", "sizeBehind", "(IIIII)I"⟩, 35) := ⟨⟨by decide +kernel, by decide +kernel⟩, lw_t6 (List.mem_of_getElem? (i := 22) rfl), lw_t8 (List.mem_of_getElem? (i := 110) rfl), lw_t8 (List.mem_of_getElem? (i := 111) rfl)⟩
theorem lw_p125 : lw_okq (⟨"ApologyUpModel", "laySets", "(I)V"⟩, 35) := ⟨⟨by decide +kernel, by decide +kernel⟩, lw_t6 (List.mem_of_getElem? (i := 22) rfl), lw_t8 (List.mem_of_getElem? (i := 122) rfl), lw_t8 (List.mem_of_getElem? (i := 123) rfl)⟩
theorem lw_p126 : lw_okq (⟨"ApologyUpModel", "weightOf", "(I)I"⟩, 35) := ⟨⟨by decide +kernel, by decide +kernel⟩, lw_t6 (List.mem_of_getElem? (i := 22) rfl), lw_t8 (List.mem_of_getElem? (i := 149) rfl), lw_t8 (List.mem_of_getElem? (i := 150) rfl)⟩
theorem lw_p127 : lw_okq (⟨"ApologyUpModel", "areApart", "(I)Z"⟩, 35) := ⟨⟨by decide +kernel, by decide +kernel⟩, lw_t6 (List.mem_of_getElem? (i := 22) rfl), lw_t8 (List.mem_of_getElem? (i := 153) rfl), lw_t8 (List.mem_of_getElem? (i := 154) rfl)⟩
def lw_privs_8 : List (MethodName × Nat) := [(⟨"ApologyUpModel", "happens", "(I)V"⟩, 35), (⟨"ApologyUpModel", "addsOf", "(II)I"⟩, 35), (⟨"ApologyUpModel", "belowOf", "(I)I"⟩, 35), (⟨"ApologyUpModel", "setAside", "()V"⟩, 35), (⟨"ApologyUpModel", "putBack", "()V"⟩, 35), (⟨"ApologyUpModel", "meetOf", "(II)I"⟩, 35), (⟨"ApologyUpModel", "stepsOf", "(II)I"⟩, 35), (⟨"ApologyUpModel", "layRoute", "(II)V"⟩, 35), (⟨"ApologyUpModel", "layDays", "(I)V"⟩, 35), (⟨"ApologyUpModel", "daysOf", "(III)I"⟩, 35), (⟨"ApologyUpModel", "nextOf", "(III)I"⟩, 35), (⟨"ApologyUpModel", "takeWay", "(I)V"⟩, 35), (⟨"ApologyUpModel", "sizeBehind", "(IIIII)I"⟩, 35), (⟨"ApologyUpModel", "laySets", "(I)V"⟩, 35), (⟨"ApologyUpModel", "weightOf", "(I)I"⟩, 35), (⟨"ApologyUpModel", "areApart", "(I)Z"⟩, 35)]
theorem lw_r8 : ∀ q ∈ lw_privs_8, lw_okq q := List.forall_mem_cons.mpr ⟨lw_p112, List.forall_mem_cons.mpr ⟨lw_p113, List.forall_mem_cons.mpr ⟨lw_p114, List.forall_mem_cons.mpr ⟨lw_p115, List.forall_mem_cons.mpr ⟨lw_p116, List.forall_mem_cons.mpr ⟨lw_p117, List.forall_mem_cons.mpr ⟨lw_p118, List.forall_mem_cons.mpr ⟨lw_p119, List.forall_mem_cons.mpr ⟨lw_p120, List.forall_mem_cons.mpr ⟨lw_p121, List.forall_mem_cons.mpr ⟨lw_p122, List.forall_mem_cons.mpr ⟨lw_p123, List.forall_mem_cons.mpr ⟨lw_p124, List.forall_mem_cons.mpr ⟨lw_p125, List.forall_mem_cons.mpr ⟨lw_p126, List.forall_mem_cons.mpr ⟨lw_p127, fun _ h => absurd h List.not_mem_nil⟩⟩⟩⟩⟩⟩⟩⟩⟩⟩⟩⟩⟩⟩⟩⟩
theorem lw_p128 : lw_okq (⟨"ApologyUpModel", "standFor", "(I)I"⟩, 35) := ⟨⟨by decide +kernel, by decide +kernel⟩, lw_t6 (List.mem_of_getElem? (i := 22) rfl), lw_t8 (List.mem_of_getElem? (i := 173) rfl), lw_t8 (List.mem_of_getElem? (i := 174) rfl)⟩
def lw_privs_9 : List (MethodName × Nat) := [(⟨"ApologyUpModel", "standFor", "(I)I"⟩, 35)]
theorem lw_r9 : ∀ q ∈ lw_privs_9, lw_okq q := List.forall_mem_cons.mpr ⟨lw_p128, fun _ h => absurd h List.not_mem_nil⟩
def lw_privs : List (MethodName × Nat) := lw_privs_1 ++ (lw_privs_2 ++ (lw_privs_3 ++ (lw_privs_4 ++ (lw_privs_5 ++ (lw_privs_6 ++ (lw_privs_7 ++ (lw_privs_8 ++ (lw_privs_9))))))))
def lw_tbl : List Cond := k2_sels lw_privs ++ tables_1
theorem lw_privs_ok : ∀ q ∈ lw_privs, lw_okq q := by
  show ∀ q ∈ lw_privs_1 ++ (lw_privs_2 ++ (lw_privs_3 ++ (lw_privs_4 ++ (lw_privs_5 ++ (lw_privs_6 ++ (lw_privs_7 ++ (lw_privs_8 ++ (lw_privs_9)))))))), lw_okq q
  exact List.forall_mem_append.mpr ⟨lw_r1, List.forall_mem_append.mpr ⟨lw_r2, List.forall_mem_append.mpr ⟨lw_r3, List.forall_mem_append.mpr ⟨lw_r4, List.forall_mem_append.mpr ⟨lw_r5, List.forall_mem_append.mpr ⟨lw_r6, List.forall_mem_append.mpr ⟨lw_r7, List.forall_mem_append.mpr ⟨lw_r8, lw_r9⟩⟩⟩⟩⟩⟩⟩⟩
-- ===== ONE list of words for every method: the tables' words that hold all through a run =====
def lw_all : List Cond := lw_tbl.filter goodWord
/-- a word of the tables by its place: claim/WORDS.tsv -/
theorem lw_w {w : Cond} (i : Nat) (h : lw_tbl[i]? = some w) (g : goodWord w = true) : w ∈ lw_all := List.mem_filter.mpr ⟨List.mem_of_getElem? h, g⟩
theorem lw_all_tbl {w : Cond} (h : w ∈ lw_all) : w ∈ lw_tbl := (List.mem_filter.mp h).1
theorem lw_self : GoodIn lw_all lw_all := fun w h => ⟨h, good_of_word (List.mem_filter.mp h).2⟩
/-- a class's field words, by their places -/
theorem lw_in (ws : List Cond) (ps : List Nat) (hp : ws = ps.filterMap (fun i => lw_tbl[i]?)) (hg : ws.all goodWord = true) : ∀ w ∈ ws, w ∈ lw_all := by
  intro w h
  have h1 := List.all_eq_true.mp hg w h
  rw [hp] at h
  obtain ⟨i, -, hi⟩ := List.mem_filterMap.mp h
  exact lw_w i hi h1
/-- the words of a contract for the method y with code b, L locals, answer r -/
abbrev ws_ (y : MethodName) (b : ByteArray) (L : Nat) (r : Option FieldType) : List Cond := Cond.code y b L r :: lw_all
theorem lw_meth {y : MethodName} {b : ByteArray} {L : Nat} {r : Option FieldType} (h : Cond.code y b L r ∈ lw_all) : GoodIn lw_all (ws_ y b L r) := by
  intro w hw
  rcases List.mem_cons.mp hw with e | e
  · rw [e]
    exact lw_self _ h
  · exact lw_self _ e
theorem lw_app {a c : List Cond} (ha : ∀ w ∈ a, w ∈ lw_all) (hc : GoodIn lw_all c) : GoodIn lw_all (a ++ c) := by
  intro w hw
  rcases List.mem_append.mp hw with e | e
  · exact lw_self w (ha w e)
  · exact hc w e
/-- what a call through an object asks: cwV n hts (lw_V ..) -/
theorem lw_V {own : String} {idx : Nat} {C : String} {y : MethodName} {b : ByteArray} {L : Nat} {r : Option FieldType} (h1 : Cond.methodLink own idx y ∈ lw_all) (h2 : Cond.instanceMethod y ∈ lw_all) (h3 : Cond.selects C y y ∈ lw_all) (h4 : Cond.initialized C ∈ lw_all) (h5 : Cond.code y b L r ∈ lw_all) : GoodIn lw_all (wsV own idx C y (ws_ y b L r)) := by
  refine lw_app ?_ (lw_meth h5)
  intro w hw
  simp only [List.mem_cons, List.not_mem_nil, or_false] at hw
  rcases hw with e | e | e | e
  · rw [e]; exact h1
  · rw [e]; exact h2
  · rw [e]; exact h3
  · rw [e]; exact h4
/-- what a static call asks: va_cwS n hts (lw_S ..) -/
theorem lw_S {own : String} {idx : Nat} {y : MethodName} {b : ByteArray} {L : Nat} {r : Option FieldType} (h1 : Cond.methodLink own idx y ∈ lw_all) (h2 : Cond.static y ∈ lw_all) (h3 : Cond.initialized y.cls ∈ lw_all) (h4 : Cond.code y b L r ∈ lw_all) : GoodIn lw_all (va_wsS own idx y (ws_ y b L r)) := by
  refine lw_app ?_ (lw_meth h4)
  intro w hw
  simp only [List.mem_cons, List.not_mem_nil, or_false] at hw
  rcases hw with e | e | e
  · rw [e]; exact h1
  · rw [e]; exact h2
  · rw [e]; exact h3
/-- the words of a contract for a method WITH HANDLERS (hh: its table) -/
abbrev wsW_ (y : MethodName) (b : ByteArray) (L : Nat) (r : Option FieldType) (hh : List (Nat × Nat × Nat × Nat)) : List Cond := Cond.codeWith y b L r hh :: lw_all
theorem lw_methW {y : MethodName} {b : ByteArray} {L : Nat} {r : Option FieldType} {hh : List (Nat × Nat × Nat × Nat)} (h : Cond.codeWith y b L r hh ∈ lw_all) : GoodIn lw_all (wsW_ y b L r hh) := by
  intro w hw
  rcases List.mem_cons.mp hw with e | e
  · rw [e]
    exact lw_self _ h
  · exact lw_self _ e
/-- any list of words by their places (lw_in), good -/
theorem lw_good {ws : List Cond} (h : ∀ w ∈ ws, w ∈ lw_all) : GoodIn lw_all ws := fun w hw => lw_self w (h w hw)
/-- what a call of a method with handlers asks: vx_cwVW n hts (lw_VW ..), vx_cwSW n hts (lw_SW ..) -/
theorem lw_VW {own : String} {idx : Nat} {C : String} {y : MethodName} {b : ByteArray} {L : Nat} {r : Option FieldType} {hh : List (Nat × Nat × Nat × Nat)} (h1 : Cond.methodLink own idx y ∈ lw_all) (h2 : Cond.instanceMethod y ∈ lw_all) (h3 : Cond.selects C y y ∈ lw_all) (h4 : Cond.initialized C ∈ lw_all) (h5 : Cond.codeWith y b L r hh ∈ lw_all) : GoodIn lw_all (wsV own idx C y (wsW_ y b L r hh)) := by
  refine lw_app ?_ (lw_methW h5)
  intro w hw
  simp only [List.mem_cons, List.not_mem_nil, or_false] at hw
  rcases hw with e | e | e | e
  · rw [e]; exact h1
  · rw [e]; exact h2
  · rw [e]; exact h3
  · rw [e]; exact h4
theorem lw_SW {own : String} {idx : Nat} {y : MethodName} {b : ByteArray} {L : Nat} {r : Option FieldType} {hh : List (Nat × Nat × Nat × Nat)} (h1 : Cond.methodLink own idx y ∈ lw_all) (h2 : Cond.static y ∈ lw_all) (h3 : Cond.initialized y.cls ∈ lw_all) (h4 : Cond.codeWith y b L r hh ∈ lw_all) : GoodIn lw_all (va_wsS own idx y (wsW_ y b L r hh)) := by
  refine lw_app ?_ (lw_methW h4)
  intro w hw
  simp only [List.mem_cons, List.not_mem_nil, or_false] at hw
  rcases hw with e | e | e
  · rw [e]; exact h1
  · rw [e]; exact h2
  · rw [e]; exact h3
/-- a word by its place in its run of the tables -/
theorem lw_at {r : List Cond} (hr : ∀ w ∈ r, w ∈ lw_tbl) {w : Cond} (i : Nat) (h : r[i]? = some w) : w ∈ lw_tbl := hr w (List.mem_of_getElem? h)
theorem lw_g {w : Cond} (h : w ∈ lw_tbl) (g : goodWord w = true) : w ∈ lw_all := List.mem_filter.mpr ⟨h, g⟩
theorem lw_ms : ∀ w ∈ k2_sels lw_privs, w ∈ lw_tbl := fun w h => show w ∈ k2_sels lw_privs ++ tables_1 from List.mem_append_left _ h
theorem lw_m1 : ∀ w ∈ tables_1_1, w ∈ lw_tbl := fun w h => show w ∈ k2_sels lw_privs ++ tables_1 from List.mem_append_right (k2_sels lw_privs) (show w ∈ tables_1 from List.mem_append_left _ h)
theorem lw_m2 : ∀ w ∈ tables_1_2, w ∈ lw_tbl := fun w h => show w ∈ k2_sels lw_privs ++ tables_1 from List.mem_append_right (k2_sels lw_privs) (show w ∈ tables_1 from List.mem_append_right _ (List.mem_append_left _ h))
theorem lw_m3 : ∀ w ∈ tables_1_3, w ∈ lw_tbl := fun w h => show w ∈ k2_sels lw_privs ++ tables_1 from List.mem_append_right (k2_sels lw_privs) (show w ∈ tables_1 from List.mem_append_right _ (List.mem_append_right _ (List.mem_append_left _ h)))
theorem lw_m4 : ∀ w ∈ tables_1_4, w ∈ lw_tbl := fun w h => show w ∈ k2_sels lw_privs ++ tables_1 from List.mem_append_right (k2_sels lw_privs) (show w ∈ tables_1 from List.mem_append_right _ (List.mem_append_right _ (List.mem_append_right _ (List.mem_append_left _ h))))
theorem lw_m5 : ∀ w ∈ tables_1_5, w ∈ lw_tbl := fun w h => show w ∈ k2_sels lw_privs ++ tables_1 from List.mem_append_right (k2_sels lw_privs) (show w ∈ tables_1 from List.mem_append_right _ (List.mem_append_right _ (List.mem_append_right _ (List.mem_append_right _ (List.mem_append_left _ h)))))
theorem lw_m6 : ∀ w ∈ tables_1_6, w ∈ lw_tbl := fun w h => show w ∈ k2_sels lw_privs ++ tables_1 from List.mem_append_right (k2_sels lw_privs) (show w ∈ tables_1 from List.mem_append_right _ (List.mem_append_right _ (List.mem_append_right _ (List.mem_append_right _ (List.mem_append_right _ (List.mem_append_left _ h))))))
theorem lw_m7 : ∀ w ∈ tables_1_7, w ∈ lw_tbl := fun w h => show w ∈ k2_sels lw_privs ++ tables_1 from List.mem_append_right (k2_sels lw_privs) (show w ∈ tables_1 from List.mem_append_right _ (List.mem_append_right _ (List.mem_append_right _ (List.mem_append_right _ (List.mem_append_right _ (List.mem_append_right _ (List.mem_append_left _ h)))))))
theorem lw_m8 : ∀ w ∈ tables_1_8, w ∈ lw_tbl := fun w h => show w ∈ k2_sels lw_privs ++ tables_1 from List.mem_append_right (k2_sels lw_privs) (show w ∈ tables_1 from List.mem_append_right _ (List.mem_append_right _ (List.mem_append_right _ (List.mem_append_right _ (List.mem_append_right _ (List.mem_append_right _ (List.mem_append_right _ (List.mem_append_left _ h))))))))
theorem lw_m9 : ∀ w ∈ tables_1_9, w ∈ lw_tbl := fun w h => show w ∈ k2_sels lw_privs ++ tables_1 from List.mem_append_right (k2_sels lw_privs) (show w ∈ tables_1 from List.mem_append_right _ (List.mem_append_right _ (List.mem_append_right _ (List.mem_append_right _ (List.mem_append_right _ (List.mem_append_right _ (List.mem_append_right _ (List.mem_append_right _ h))))))))
theorem qs0 : (Cond.selects "ApologyUp" ⟨"ApologyUp", "isOfficer", "(I)Z"⟩ ⟨"ApologyUp", "isOfficer", "(I)Z"⟩) ∈ lw_all := lw_g (lw_at lw_ms 0 rfl) rfl
theorem qs1 : (Cond.selects "ApologyUp" ⟨"ApologyUp", "put", "(I)V"⟩ ⟨"ApologyUp", "put", "(I)V"⟩) ∈ lw_all := lw_g (lw_at lw_ms 1 rfl) rfl
theorem qs2 : (Cond.selects "ApologyUp$Tokens" ⟨"ApologyUp$Tokens", "next", "()V"⟩ ⟨"ApologyUp$Tokens", "next", "()V"⟩) ∈ lw_all := lw_g (lw_at lw_ms 2 rfl) rfl
theorem qs3 : (Cond.selects "ApologyUp$Tokens" ⟨"ApologyUp$Tokens", "isWord", "(Ljava/lang/String;)Z"⟩ ⟨"ApologyUp$Tokens", "isWord", "(Ljava/lang/String;)Z"⟩) ∈ lw_all := lw_g (lw_at lw_ms 3 rfl) rfl
theorem qs4 : (Cond.selects "ApologyUp$Tokens" ⟨"ApologyUp$Tokens", "wrong", "(I)LApologyUp$Wrong;"⟩ ⟨"ApologyUp$Tokens", "wrong", "(I)LApologyUp$Wrong;"⟩) ∈ lw_all := lw_g (lw_at lw_ms 4 rfl) rfl
theorem qs5 : (Cond.selects "java/lang/Throwable" ⟨"java/lang/Throwable", "fillInStackTrace", "(I)Ljava/lang/Throwable;"⟩ ⟨"java/lang/Throwable", "fillInStackTrace", "(I)Ljava/lang/Throwable;"⟩) ∈ lw_all := lw_g (lw_at lw_ms 5 rfl) rfl
theorem qs6 : (Cond.selects "ApologyUp$Tokens" ⟨"ApologyUp$Tokens", "sum", "()LApologyUp$Sum;"⟩ ⟨"ApologyUp$Tokens", "sum", "()LApologyUp$Sum;"⟩) ∈ lw_all := lw_g (lw_at lw_ms 6 rfl) rfl
theorem qs7 : (Cond.selects "ApologyUp$Tokens" ⟨"ApologyUp$Tokens", "product", "()LApologyUp$Sum;"⟩ ⟨"ApologyUp$Tokens", "product", "()LApologyUp$Sum;"⟩) ∈ lw_all := lw_g (lw_at lw_ms 7 rfl) rfl
theorem qs8 : (Cond.selects "ApologyUp$Tokens" ⟨"ApologyUp$Tokens", "one", "()LApologyUp$Sum;"⟩ ⟨"ApologyUp$Tokens", "one", "()LApologyUp$Sum;"⟩) ∈ lw_all := lw_g (lw_at lw_ms 8 rfl) rfl
theorem qs9 : (Cond.selects "ApologyUp$Tokens" ⟨"ApologyUp$Tokens", "number", "(II)I"⟩ ⟨"ApologyUp$Tokens", "number", "(II)I"⟩) ∈ lw_all := lw_g (lw_at lw_ms 9 rfl) rfl
theorem qs10 : (Cond.selects "ApologyUp$Tokens" ⟨"ApologyUp$Tokens", "choice", "()LApologyUp$Sum;"⟩ ⟨"ApologyUp$Tokens", "choice", "()LApologyUp$Sum;"⟩) ∈ lw_all := lw_g (lw_at lw_ms 10 rfl) rfl
theorem qs11 : (Cond.selects "ApologyUp$Tokens" ⟨"ApologyUp$Tokens", "opens", "()V"⟩ ⟨"ApologyUp$Tokens", "opens", "()V"⟩) ∈ lw_all := lw_g (lw_at lw_ms 11 rfl) rfl
theorem qs12 : (Cond.selects "ApologyUp$Tokens" ⟨"ApologyUp$Tokens", "either", "()LApologyUp$Asked;"⟩ ⟨"ApologyUp$Tokens", "either", "()LApologyUp$Asked;"⟩) ∈ lw_all := lw_g (lw_at lw_ms 12 rfl) rfl
theorem qs13 : (Cond.selects "ApologyUp$Tokens" ⟨"ApologyUp$Tokens", "both", "()LApologyUp$Asked;"⟩ ⟨"ApologyUp$Tokens", "both", "()LApologyUp$Asked;"⟩) ∈ lw_all := lw_g (lw_at lw_ms 13 rfl) rfl
theorem qs14 : (Cond.selects "ApologyUp$Tokens" ⟨"ApologyUp$Tokens", "ask", "()LApologyUp$Asked;"⟩ ⟨"ApologyUp$Tokens", "ask", "()LApologyUp$Asked;"⟩) ∈ lw_all := lw_g (lw_at lw_ms 14 rfl) rfl
theorem qs15 : (Cond.selects "java/util/ArrayList" ⟨"java/util/ArrayList", "add", "(Ljava/lang/Object;[Ljava/lang/Object;I)V"⟩ ⟨"java/util/ArrayList", "add", "(Ljava/lang/Object;[Ljava/lang/Object;I)V"⟩) ∈ lw_all := lw_g (lw_at lw_ms 15 rfl) rfl
theorem qs16 : (Cond.selects "java/util/ArrayList" ⟨"java/util/ArrayList", "grow", "()[Ljava/lang/Object;"⟩ ⟨"java/util/ArrayList", "grow", "()[Ljava/lang/Object;"⟩) ∈ lw_all := lw_g (lw_at lw_ms 16 rfl) rfl
theorem qs17 : (Cond.selects "java/util/ArrayList" ⟨"java/util/ArrayList", "grow", "(I)[Ljava/lang/Object;"⟩ ⟨"java/util/ArrayList", "grow", "(I)[Ljava/lang/Object;"⟩) ∈ lw_all := lw_g (lw_at lw_ms 17 rfl) rfl
theorem qs18 : (Cond.selects "ApologyUp$Tokens" ⟨"ApologyUp$Tokens", "want", "(I)V"⟩ ⟨"ApologyUp$Tokens", "want", "(I)V"⟩) ∈ lw_all := lw_g (lw_at lw_ms 18 rfl) rfl
theorem qs19 : (Cond.selects "ApologyUp$Tokens" ⟨"ApologyUp$Tokens", "halves", "()LApologyUp$Sum;"⟩ ⟨"ApologyUp$Tokens", "halves", "()LApologyUp$Sum;"⟩) ∈ lw_all := lw_g (lw_at lw_ms 19 rfl) rfl
theorem qs20 : (Cond.selects "ApologyUp$Tokens" ⟨"ApologyUp$Tokens", "nameNow", "()I"⟩ ⟨"ApologyUp$Tokens", "nameNow", "()I"⟩) ∈ lw_all := lw_g (lw_at lw_ms 20 rfl) rfl
theorem qs21 : (Cond.selects "ApologyUp$Tokens" ⟨"ApologyUp$Tokens", "mayName", "(I)Z"⟩ ⟨"ApologyUp$Tokens", "mayName", "(I)Z"⟩) ∈ lw_all := lw_g (lw_at lw_ms 21 rfl) rfl
theorem qs22 : (Cond.selects "ApologyUp$Tokens" ⟨"ApologyUp$Tokens", "doing", "(I)LApologyUp$Doing;"⟩ ⟨"ApologyUp$Tokens", "doing", "(I)LApologyUp$Doing;"⟩) ∈ lw_all := lw_g (lw_at lw_ms 22 rfl) rfl
theorem qs23 : (Cond.selects "ApologyUp$Tokens" ⟨"ApologyUp$Tokens", "behind", "(III)I"⟩ ⟨"ApologyUp$Tokens", "behind", "(III)I"⟩) ∈ lw_all := lw_g (lw_at lw_ms 23 rfl) rfl
theorem qs24 : (Cond.selects "ApologyUp" ⟨"ApologyUp", "isText", "(I)Z"⟩ ⟨"ApologyUp", "isText", "(I)Z"⟩) ∈ lw_all := lw_g (lw_at lw_ms 24 rfl) rfl
theorem qs25 : (Cond.selects "ApologyUp" ⟨"ApologyUp", "passes", "([I)I"⟩ ⟨"ApologyUp", "passes", "([I)I"⟩) ∈ lw_all := lw_g (lw_at lw_ms 25 rfl) rfl
theorem qs26 : (Cond.selects "ApologyUp" ⟨"ApologyUp", "goesUp", "([II)V"⟩ ⟨"ApologyUp", "goesUp", "([II)V"⟩) ∈ lw_all := lw_g (lw_at lw_ms 26 rfl) rfl
theorem qs27 : (Cond.selects "ApologyUp" ⟨"ApologyUp", "lawOf", "([IIII)I"⟩ ⟨"ApologyUp", "lawOf", "([IIII)I"⟩) ∈ lw_all := lw_g (lw_at lw_ms 27 rfl) rfl
theorem qs28 : (Cond.selects "ApologyUp" ⟨"ApologyUp", "namesOf", "(IIIII)V"⟩ ⟨"ApologyUp", "namesOf", "(IIIII)V"⟩) ∈ lw_all := lw_g (lw_at lw_ms 28 rfl) rfl
theorem qs29 : (Cond.selects "ApologyUp" ⟨"ApologyUp", "rankOf", "(I)I"⟩ ⟨"ApologyUp", "rankOf", "(I)I"⟩) ∈ lw_all := lw_g (lw_at lw_ms 29 rfl) rfl
theorem qs30 : (Cond.selects "ApologyUp" ⟨"ApologyUp", "rules", "()LApologyUp$Text;"⟩ ⟨"ApologyUp", "rules", "()LApologyUp$Text;"⟩) ∈ lw_all := lw_g (lw_at lw_ms 30 rfl) rfl
theorem qs31 : (Cond.selects "ApologyUp" ⟨"ApologyUp", "law", "(LApologyUp$Text;IIII)I"⟩ ⟨"ApologyUp", "law", "(LApologyUp$Text;IIII)I"⟩) ∈ lw_all := lw_g (lw_at lw_ms 31 rfl) rfl
theorem qs32 : (Cond.selects "ApologyUp" ⟨"ApologyUp", "judged", "([II)V"⟩ ⟨"ApologyUp", "judged", "([II)V"⟩) ∈ lw_all := lw_g (lw_at lw_ms 32 rfl) rfl
theorem qs33 : (Cond.selects "ApologyUp" ⟨"ApologyUp", "comesDown", "([II)Z"⟩ ⟨"ApologyUp", "comesDown", "([II)Z"⟩) ∈ lw_all := lw_g (lw_at lw_ms 33 rfl) rfl
theorem qs34 : (Cond.selects "ApologyUp" ⟨"ApologyUp", "towards", "(II)I"⟩ ⟨"ApologyUp", "towards", "(II)I"⟩) ∈ lw_all := lw_g (lw_at lw_ms 34 rfl) rfl
theorem qs35 : (Cond.selects "ApologyUp" ⟨"ApologyUp", "canWrong", "(II)Z"⟩ ⟨"ApologyUp", "canWrong", "(II)Z"⟩) ∈ lw_all := lw_g (lw_at lw_ms 35 rfl) rfl
theorem qs36 : (Cond.selects "ApologyUp" ⟨"ApologyUp", "isBelow", "(II)Z"⟩ ⟨"ApologyUp", "isBelow", "(II)Z"⟩) ∈ lw_all := lw_g (lw_at lw_ms 36 rfl) rfl
theorem qs37 : (Cond.selects "ApologyUp" ⟨"ApologyUp", "wrongs", "(III)I"⟩ ⟨"ApologyUp", "wrongs", "(III)I"⟩) ∈ lw_all := lw_g (lw_at lw_ms 37 rfl) rfl
theorem qs38 : (Cond.selects "ApologyUp" ⟨"ApologyUp", "goesAway", "(II)V"⟩ ⟨"ApologyUp", "goesAway", "(II)V"⟩) ∈ lw_all := lw_g (lw_at lw_ms 38 rfl) rfl
theorem qs39 : (Cond.selects "ApologyUp" ⟨"ApologyUp", "isApology", "(I)Z"⟩ ⟨"ApologyUp", "isApology", "(I)Z"⟩) ∈ lw_all := lw_g (lw_at lw_ms 39 rfl) rfl
theorem qs40 : (Cond.selects "ApologyUp" ⟨"ApologyUp", "does", "(LApologyUp$Doing;)Z"⟩ ⟨"ApologyUp", "does", "(LApologyUp$Doing;)Z"⟩) ∈ lw_all := lw_g (lw_at lw_ms 40 rfl) rfl
theorem qs41 : (Cond.selects "ApologyUp" ⟨"ApologyUp", "passesAll", "(I)Z"⟩ ⟨"ApologyUp", "passesAll", "(I)Z"⟩) ∈ lw_all := lw_g (lw_at lw_ms 41 rfl) rfl
theorem qs42 : (Cond.selects "ApologyUp" ⟨"ApologyUp", "happens", "(I)V"⟩ ⟨"ApologyUp", "happens", "(I)V"⟩) ∈ lw_all := lw_g (lw_at lw_ms 42 rfl) rfl
theorem qs43 : (Cond.selects "ApologyUp" ⟨"ApologyUp", "addsBy", "(LApologyUp$Text;IIII)I"⟩ ⟨"ApologyUp", "addsBy", "(LApologyUp$Text;IIII)I"⟩) ∈ lw_all := lw_g (lw_at lw_ms 43 rfl) rfl
theorem qs44 : (Cond.selects "ApologyUp" ⟨"ApologyUp", "deskOf", "(I)I"⟩ ⟨"ApologyUp", "deskOf", "(I)I"⟩) ∈ lw_all := lw_g (lw_at lw_ms 44 rfl) rfl
theorem qs45 : (Cond.selects "ApologyUp" ⟨"ApologyUp", "under", "(I)I"⟩ ⟨"ApologyUp", "under", "(I)I"⟩) ∈ lw_all := lw_g (lw_at lw_ms 45 rfl) rfl
theorem qs46 : (Cond.selects "ApologyUp" ⟨"ApologyUp", "meetOf", "(II)I"⟩ ⟨"ApologyUp", "meetOf", "(II)I"⟩) ∈ lw_all := lw_g (lw_at lw_ms 46 rfl) rfl
theorem qs47 : (Cond.selects "ApologyUp" ⟨"ApologyUp", "stepsOf", "(II)I"⟩ ⟨"ApologyUp", "stepsOf", "(II)I"⟩) ∈ lw_all := lw_g (lw_at lw_ms 47 rfl) rfl
theorem qs48 : (Cond.selects "ApologyUp" ⟨"ApologyUp", "wanders", "(IIIIIII)V"⟩ ⟨"ApologyUp", "wanders", "(IIIIIII)V"⟩) ∈ lw_all := lw_g (lw_at lw_ms 48 rfl) rfl
theorem qs49 : (Cond.selects "ApologyUp" ⟨"ApologyUp", "laysPiles", "(I)V"⟩ ⟨"ApologyUp", "laysPiles", "(I)V"⟩) ∈ lw_all := lw_g (lw_at lw_ms 49 rfl) rfl
theorem qs50 : (Cond.selects "ApologyUp" ⟨"ApologyUp", "nextBehind", "(I)I"⟩ ⟨"ApologyUp", "nextBehind", "(I)I"⟩) ∈ lw_all := lw_g (lw_at lw_ms 50 rfl) rfl
theorem qs51 : (Cond.selects "ApologyUp" ⟨"ApologyUp", "weightOf", "(I)I"⟩ ⟨"ApologyUp", "weightOf", "(I)I"⟩) ∈ lw_all := lw_g (lw_at lw_ms 51 rfl) rfl
theorem qs52 : (Cond.selects "ApologyUp" ⟨"ApologyUp", "areApart", "(I)Z"⟩ ⟨"ApologyUp", "areApart", "(I)Z"⟩) ∈ lw_all := lw_g (lw_at lw_ms 52 rfl) rfl
theorem qs53 : (Cond.selects "ApologyUp" ⟨"ApologyUp", "allStepsOf", "(I)I"⟩ ⟨"ApologyUp", "allStepsOf", "(I)I"⟩) ∈ lw_all := lw_g (lw_at lw_ms 53 rfl) rfl
theorem qs54 : (Cond.selects "ApologyUp" ⟨"ApologyUp", "near", "(I)I"⟩ ⟨"ApologyUp", "near", "(I)I"⟩) ∈ lw_all := lw_g (lw_at lw_ms 54 rfl) rfl
theorem qs55 : (Cond.selects "ApologyUp" ⟨"ApologyUp", "isLaw", "(LApologyUp$Text;)Z"⟩ ⟨"ApologyUp", "isLaw", "(LApologyUp$Text;)Z"⟩) ∈ lw_all := lw_g (lw_at lw_ms 55 rfl) rfl
theorem qs56 : (Cond.selects "ApologyUpModel" ⟨"ApologyUpModel", "isOfficer", "(I)Z"⟩ ⟨"ApologyUpModel", "isOfficer", "(I)Z"⟩) ∈ lw_all := lw_g (lw_at lw_ms 56 rfl) rfl
theorem qs57 : (Cond.selects "ApologyUpModel" ⟨"ApologyUpModel", "four", "(I)V"⟩ ⟨"ApologyUpModel", "four", "(I)V"⟩) ∈ lw_all := lw_g (lw_at lw_ms 57 rfl) rfl
theorem qs58 : (Cond.selects "ApologyUpModel" ⟨"ApologyUpModel", "readText", "()I"⟩ ⟨"ApologyUpModel", "readText", "()I"⟩) ∈ lw_all := lw_g (lw_at lw_ms 58 rfl) rfl
theorem qs59 : (Cond.selects "ApologyUpModel" ⟨"ApologyUpModel", "nextToken", "()V"⟩ ⟨"ApologyUpModel", "nextToken", "()V"⟩) ∈ lw_all := lw_g (lw_at lw_ms 59 rfl) rfl
theorem qs60 : (Cond.selects "ApologyUpModel" ⟨"ApologyUpModel", "byteAt", "(I)I"⟩ ⟨"ApologyUpModel", "byteAt", "(I)I"⟩) ∈ lw_all := lw_g (lw_at lw_ms 60 rfl) rfl
theorem qs61 : (Cond.selects "ApologyUpModel" ⟨"ApologyUpModel", "clause", "()I"⟩ ⟨"ApologyUpModel", "clause", "()I"⟩) ∈ lw_all := lw_g (lw_at lw_ms 61 rfl) rfl
theorem qs62 : (Cond.selects "ApologyUpModel" ⟨"ApologyUpModel", "sortOf", "()I"⟩ ⟨"ApologyUpModel", "sortOf", "()I"⟩) ∈ lw_all := lw_g (lw_at lw_ms 62 rfl) rfl
theorem qs63 : (Cond.selects "ApologyUpModel" ⟨"ApologyUpModel", "isWord", "(J)Z"⟩ ⟨"ApologyUpModel", "isWord", "(J)Z"⟩) ∈ lw_all := lw_g (lw_at lw_ms 63 rfl) rfl
theorem qs64 : (Cond.selects "ApologyUpModel" ⟨"ApologyUpModel", "isLong", "(JJ)Z"⟩ ⟨"ApologyUpModel", "isLong", "(JJ)Z"⟩) ∈ lw_all := lw_g (lw_at lw_ms 64 rfl) rfl
theorem qs65 : (Cond.selects "ApologyUpModel" ⟨"ApologyUpModel", "body", "(II)I"⟩ ⟨"ApologyUpModel", "body", "(II)I"⟩) ∈ lw_all := lw_g (lw_at lw_ms 65 rfl) rfl
theorem qs66 : (Cond.selects "ApologyUpModel" ⟨"ApologyUpModel", "pair", "(IJI)I"⟩ ⟨"ApologyUpModel", "pair", "(IJI)I"⟩) ∈ lw_all := lw_g (lw_at lw_ms 66 rfl) rfl
theorem qs67 : (Cond.selects "ApologyUpModel" ⟨"ApologyUpModel", "figure", "(III)I"⟩ ⟨"ApologyUpModel", "figure", "(III)I"⟩) ∈ lw_all := lw_g (lw_at lw_ms 67 rfl) rfl
theorem qs68 : (Cond.selects "ApologyUpModel" ⟨"ApologyUpModel", "worded", "(JIII)I"⟩ ⟨"ApologyUpModel", "worded", "(JIII)I"⟩) ∈ lw_all := lw_g (lw_at lw_ms 68 rfl) rfl
theorem qs69 : (Cond.selects "ApologyUpModel" ⟨"ApologyUpModel", "lawClause", "(I)I"⟩ ⟨"ApologyUpModel", "lawClause", "(I)I"⟩) ∈ lw_all := lw_g (lw_at lw_ms 69 rfl) rfl
theorem qs70 : (Cond.selects "ApologyUpModel" ⟨"ApologyUpModel", "summed", "()I"⟩ ⟨"ApologyUpModel", "summed", "()I"⟩) ∈ lw_all := lw_g (lw_at lw_ms 70 rfl) rfl
theorem qs71 : (Cond.selects "ApologyUpModel" ⟨"ApologyUpModel", "behindOne", "()I"⟩ ⟨"ApologyUpModel", "behindOne", "()I"⟩) ∈ lw_all := lw_g (lw_at lw_ms 71 rfl) rfl
theorem qs72 : (Cond.selects "ApologyUpModel" ⟨"ApologyUpModel", "betweenOf", "()I"⟩ ⟨"ApologyUpModel", "betweenOf", "()I"⟩) ∈ lw_all := lw_g (lw_at lw_ms 72 rfl) rfl
theorem qs73 : (Cond.selects "ApologyUpModel" ⟨"ApologyUpModel", "openNow", "()I"⟩ ⟨"ApologyUpModel", "openNow", "()I"⟩) ∈ lw_all := lw_g (lw_at lw_ms 73 rfl) rfl
theorem qs74 : (Cond.selects "ApologyUpModel" ⟨"ApologyUpModel", "openAt", "()I"⟩ ⟨"ApologyUpModel", "openAt", "()I"⟩) ∈ lw_all := lw_g (lw_at lw_ms 74 rfl) rfl
theorem qs75 : (Cond.selects "ApologyUpModel" ⟨"ApologyUpModel", "isCompared", "()Z"⟩ ⟨"ApologyUpModel", "isCompared", "()Z"⟩) ∈ lw_all := lw_g (lw_at lw_ms 75 rfl) rfl
theorem qs76 : (Cond.selects "ApologyUpModel" ⟨"ApologyUpModel", "compareOf", "()I"⟩ ⟨"ApologyUpModel", "compareOf", "()I"⟩) ∈ lw_all := lw_g (lw_at lw_ms 76 rfl) rfl
theorem qs77 : (Cond.selects "ApologyUpModel" ⟨"ApologyUpModel", "settle", "(I)V"⟩ ⟨"ApologyUpModel", "settle", "(I)V"⟩) ∈ lw_all := lw_g (lw_at lw_ms 77 rfl) rfl
theorem qs78 : (Cond.selects "ApologyUpModel" ⟨"ApologyUpModel", "emit", "(II)V"⟩ ⟨"ApologyUpModel", "emit", "(II)V"⟩) ∈ lw_all := lw_g (lw_at lw_ms 78 rfl) rfl
theorem qs79 : (Cond.selects "ApologyUpModel" ⟨"ApologyUpModel", "partOf", "(I)I"⟩ ⟨"ApologyUpModel", "partOf", "(I)I"⟩) ∈ lw_all := lw_g (lw_at lw_ms 79 rfl) rfl
theorem qs80 : (Cond.selects "ApologyUpModel" ⟨"ApologyUpModel", "endOne", "()I"⟩ ⟨"ApologyUpModel", "endOne", "()I"⟩) ∈ lw_all := lw_g (lw_at lw_ms 80 rfl) rfl
theorem qs81 : (Cond.selects "ApologyUpModel" ⟨"ApologyUpModel", "beginOne", "()I"⟩ ⟨"ApologyUpModel", "beginOne", "()I"⟩) ∈ lw_all := lw_g (lw_at lw_ms 81 rfl) rfl
theorem qs82 : (Cond.selects "ApologyUpModel" ⟨"ApologyUpModel", "nameOf", "()I"⟩ ⟨"ApologyUpModel", "nameOf", "()I"⟩) ∈ lw_all := lw_g (lw_at lw_ms 82 rfl) rfl
theorem qs83 : (Cond.selects "ApologyUpModel" ⟨"ApologyUpModel", "isOf", "(I)Z"⟩ ⟨"ApologyUpModel", "isOf", "(I)Z"⟩) ∈ lw_all := lw_g (lw_at lw_ms 83 rfl) rfl
theorem qs84 : (Cond.selects "ApologyUpModel" ⟨"ApologyUpModel", "opened", "(I)I"⟩ ⟨"ApologyUpModel", "opened", "(I)I"⟩) ∈ lw_all := lw_g (lw_at lw_ms 84 rfl) rfl
theorem qs85 : (Cond.selects "ApologyUpModel" ⟨"ApologyUpModel", "isAskAhead", "()Z"⟩ ⟨"ApologyUpModel", "isAskAhead", "()Z"⟩) ∈ lw_all := lw_g (lw_at lw_ms 85 rfl) rfl
theorem qs86 : (Cond.selects "ApologyUpModel" ⟨"ApologyUpModel", "canWrong", "(II)Z"⟩ ⟨"ApologyUpModel", "canWrong", "(II)Z"⟩) ∈ lw_all := lw_g (lw_at lw_ms 86 rfl) rfl
theorem qs87 : (Cond.selects "ApologyUpModel" ⟨"ApologyUpModel", "isAbove", "(II)Z"⟩ ⟨"ApologyUpModel", "isAbove", "(II)Z"⟩) ∈ lw_all := lw_g (lw_at lw_ms 87 rfl) rfl
theorem qs88 : (Cond.selects "ApologyUpModel" ⟨"ApologyUpModel", "keep", "()V"⟩ ⟨"ApologyUpModel", "keep", "()V"⟩) ∈ lw_all := lw_g (lw_at lw_ms 88 rfl) rfl
theorem qs89 : (Cond.selects "ApologyUpModel" ⟨"ApologyUpModel", "wrongNow", "(III)V"⟩ ⟨"ApologyUpModel", "wrongNow", "(III)V"⟩) ∈ lw_all := lw_g (lw_at lw_ms 89 rfl) rfl
theorem qs90 : (Cond.selects "ApologyUpModel" ⟨"ApologyUpModel", "put", "(III)V"⟩ ⟨"ApologyUpModel", "put", "(III)V"⟩) ∈ lw_all := lw_g (lw_at lw_ms 90 rfl) rfl
theorem qs91 : (Cond.selects "ApologyUpModel" ⟨"ApologyUpModel", "canSend", "(II)Z"⟩ ⟨"ApologyUpModel", "canSend", "(II)Z"⟩) ∈ lw_all := lw_g (lw_at lw_ms 91 rfl) rfl
theorem qs92 : (Cond.selects "ApologyUpModel" ⟨"ApologyUpModel", "isApology", "(I)Z"⟩ ⟨"ApologyUpModel", "isApology", "(I)Z"⟩) ∈ lw_all := lw_g (lw_at lw_ms 92 rfl) rfl
theorem qs93 : (Cond.selects "ApologyUpModel" ⟨"ApologyUpModel", "get", "(II)I"⟩ ⟨"ApologyUpModel", "get", "(II)I"⟩) ∈ lw_all := lw_g (lw_at lw_ms 93 rfl) rfl
theorem qs94 : (Cond.selects "ApologyUpModel" ⟨"ApologyUpModel", "arePassed", "(I)Z"⟩ ⟨"ApologyUpModel", "arePassed", "(I)Z"⟩) ∈ lw_all := lw_g (lw_at lw_ms 94 rfl) rfl
theorem qs95 : (Cond.selects "ApologyUpModel" ⟨"ApologyUpModel", "pass", "()V"⟩ ⟨"ApologyUpModel", "pass", "()V"⟩) ∈ lw_all := lw_g (lw_at lw_ms 95 rfl) rfl
theorem qs96 : (Cond.selects "ApologyUpModel" ⟨"ApologyUpModel", "goUp", "(I)V"⟩ ⟨"ApologyUpModel", "goUp", "(I)V"⟩) ∈ lw_all := lw_g (lw_at lw_ms 96 rfl) rfl
theorem qs97 : (Cond.selects "ApologyUpModel" ⟨"ApologyUpModel", "nameApology", "(II)V"⟩ ⟨"ApologyUpModel", "nameApology", "(II)V"⟩) ∈ lw_all := lw_g (lw_at lw_ms 97 rfl) rfl
theorem qs98 : (Cond.selects "ApologyUpModel" ⟨"ApologyUpModel", "name", "(IIII)V"⟩ ⟨"ApologyUpModel", "name", "(IIII)V"⟩) ∈ lw_all := lw_g (lw_at lw_ms 98 rfl) rfl
theorem qs99 : (Cond.selects "ApologyUpModel" ⟨"ApologyUpModel", "rankOf", "(I)I"⟩ ⟨"ApologyUpModel", "rankOf", "(I)I"⟩) ∈ lw_all := lw_g (lw_at lw_ms 99 rfl) rfl
theorem qs100 : (Cond.selects "ApologyUpModel" ⟨"ApologyUpModel", "deskOf", "(II)I"⟩ ⟨"ApologyUpModel", "deskOf", "(II)I"⟩) ∈ lw_all := lw_g (lw_at lw_ms 100 rfl) rfl
theorem qs101 : (Cond.selects "ApologyUpModel" ⟨"ApologyUpModel", "addsBy", "(I)I"⟩ ⟨"ApologyUpModel", "addsBy", "(I)I"⟩) ∈ lw_all := lw_g (lw_at lw_ms 101 rfl) rfl
theorem qs102 : (Cond.selects "ApologyUpModel" ⟨"ApologyUpModel", "says", "(IIII)I"⟩ ⟨"ApologyUpModel", "says", "(IIII)I"⟩) ∈ lw_all := lw_g (lw_at lw_ms 102 rfl) rfl
theorem qs103 : (Cond.selects "ApologyUpModel" ⟨"ApologyUpModel", "summedUp", "(II)J"⟩ ⟨"ApologyUpModel", "summedUp", "(II)J"⟩) ∈ lw_all := lw_g (lw_at lw_ms 103 rfl) rfl
theorem qs104 : (Cond.selects "ApologyUpModel" ⟨"ApologyUpModel", "ranksOf", "(J)J"⟩ ⟨"ApologyUpModel", "ranksOf", "(J)J"⟩) ∈ lw_all := lw_g (lw_at lw_ms 104 rfl) rfl
theorem qs105 : (Cond.selects "ApologyUpModel" ⟨"ApologyUpModel", "anew", "()V"⟩ ⟨"ApologyUpModel", "anew", "()V"⟩) ∈ lw_all := lw_g (lw_at lw_ms 105 rfl) rfl
theorem qs106 : (Cond.selects "ApologyUpModel" ⟨"ApologyUpModel", "write", "(II)V"⟩ ⟨"ApologyUpModel", "write", "(II)V"⟩) ∈ lw_all := lw_g (lw_at lw_ms 106 rfl) rfl
theorem qs107 : (Cond.selects "ApologyUpModel" ⟨"ApologyUpModel", "goDown", "(I)V"⟩ ⟨"ApologyUpModel", "goDown", "(I)V"⟩) ∈ lw_all := lw_g (lw_at lw_ms 107 rfl) rfl
theorem qs108 : (Cond.selects "ApologyUpModel" ⟨"ApologyUpModel", "downTo", "(II)I"⟩ ⟨"ApologyUpModel", "downTo", "(II)I"⟩) ∈ lw_all := lw_g (lw_at lw_ms 108 rfl) rfl
theorem qs109 : (Cond.selects "ApologyUpModel" ⟨"ApologyUpModel", "finish", "(II)V"⟩ ⟨"ApologyUpModel", "finish", "(II)V"⟩) ∈ lw_all := lw_g (lw_at lw_ms 109 rfl) rfl
theorem qs110 : (Cond.selects "ApologyUpModel" ⟨"ApologyUpModel", "merge", "(II)V"⟩ ⟨"ApologyUpModel", "merge", "(II)V"⟩) ∈ lw_all := lw_g (lw_at lw_ms 110 rfl) rfl
theorem qs111 : (Cond.selects "ApologyUpModel" ⟨"ApologyUpModel", "isPlayed", "(I)Z"⟩ ⟨"ApologyUpModel", "isPlayed", "(I)Z"⟩) ∈ lw_all := lw_g (lw_at lw_ms 111 rfl) rfl
theorem qs112 : (Cond.selects "ApologyUpModel" ⟨"ApologyUpModel", "happens", "(I)V"⟩ ⟨"ApologyUpModel", "happens", "(I)V"⟩) ∈ lw_all := lw_g (lw_at lw_ms 112 rfl) rfl
theorem qs113 : (Cond.selects "ApologyUpModel" ⟨"ApologyUpModel", "addsOf", "(II)I"⟩ ⟨"ApologyUpModel", "addsOf", "(II)I"⟩) ∈ lw_all := lw_g (lw_at lw_ms 113 rfl) rfl
theorem qs114 : (Cond.selects "ApologyUpModel" ⟨"ApologyUpModel", "belowOf", "(I)I"⟩ ⟨"ApologyUpModel", "belowOf", "(I)I"⟩) ∈ lw_all := lw_g (lw_at lw_ms 114 rfl) rfl
theorem qs115 : (Cond.selects "ApologyUpModel" ⟨"ApologyUpModel", "setAside", "()V"⟩ ⟨"ApologyUpModel", "setAside", "()V"⟩) ∈ lw_all := lw_g (lw_at lw_ms 115 rfl) rfl
theorem qs116 : (Cond.selects "ApologyUpModel" ⟨"ApologyUpModel", "putBack", "()V"⟩ ⟨"ApologyUpModel", "putBack", "()V"⟩) ∈ lw_all := lw_g (lw_at lw_ms 116 rfl) rfl
theorem qs117 : (Cond.selects "ApologyUpModel" ⟨"ApologyUpModel", "meetOf", "(II)I"⟩ ⟨"ApologyUpModel", "meetOf", "(II)I"⟩) ∈ lw_all := lw_g (lw_at lw_ms 117 rfl) rfl
theorem qs118 : (Cond.selects "ApologyUpModel" ⟨"ApologyUpModel", "stepsOf", "(II)I"⟩ ⟨"ApologyUpModel", "stepsOf", "(II)I"⟩) ∈ lw_all := lw_g (lw_at lw_ms 118 rfl) rfl
theorem qs119 : (Cond.selects "ApologyUpModel" ⟨"ApologyUpModel", "layRoute", "(II)V"⟩ ⟨"ApologyUpModel", "layRoute", "(II)V"⟩) ∈ lw_all := lw_g (lw_at lw_ms 119 rfl) rfl
theorem qs120 : (Cond.selects "ApologyUpModel" ⟨"ApologyUpModel", "layDays", "(I)V"⟩ ⟨"ApologyUpModel", "layDays", "(I)V"⟩) ∈ lw_all := lw_g (lw_at lw_ms 120 rfl) rfl
theorem qs121 : (Cond.selects "ApologyUpModel" ⟨"ApologyUpModel", "daysOf", "(III)I"⟩ ⟨"ApologyUpModel", "daysOf", "(III)I"⟩) ∈ lw_all := lw_g (lw_at lw_ms 121 rfl) rfl
theorem qs122 : (Cond.selects "ApologyUpModel" ⟨"ApologyUpModel", "nextOf", "(III)I"⟩ ⟨"ApologyUpModel", "nextOf", "(III)I"⟩) ∈ lw_all := lw_g (lw_at lw_ms 122 rfl) rfl
theorem qs123 : (Cond.selects "ApologyUpModel" ⟨"ApologyUpModel", "takeWay", "(I)V"⟩ ⟨"ApologyUpModel", "takeWay", "(I)V"⟩) ∈ lw_all := lw_g (lw_at lw_ms 123 rfl) rfl
theorem qs124 : (Cond.selects "ApologyUpModel" ⟨"ApologyUpModel", "sizeBehind", "(IIIII)I"⟩ ⟨"ApologyUpModel", "sizeBehind", "(IIIII)I"⟩) ∈ lw_all := lw_g (lw_at lw_ms 124 rfl) rfl
theorem qs125 : (Cond.selects "ApologyUpModel" ⟨"ApologyUpModel", "laySets", "(I)V"⟩ ⟨"ApologyUpModel", "laySets", "(I)V"⟩) ∈ lw_all := lw_g (lw_at lw_ms 125 rfl) rfl
theorem qs126 : (Cond.selects "ApologyUpModel" ⟨"ApologyUpModel", "weightOf", "(I)I"⟩ ⟨"ApologyUpModel", "weightOf", "(I)I"⟩) ∈ lw_all := lw_g (lw_at lw_ms 126 rfl) rfl
theorem qs127 : (Cond.selects "ApologyUpModel" ⟨"ApologyUpModel", "areApart", "(I)Z"⟩ ⟨"ApologyUpModel", "areApart", "(I)Z"⟩) ∈ lw_all := lw_g (lw_at lw_ms 127 rfl) rfl
theorem qs128 : (Cond.selects "ApologyUpModel" ⟨"ApologyUpModel", "standFor", "(I)I"⟩ ⟨"ApologyUpModel", "standFor", "(I)I"⟩) ∈ lw_all := lw_g (lw_at lw_ms 128 rfl) rfl
-- ===== end of PART A; then your names; then what follows =====
