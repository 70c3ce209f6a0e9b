-- ===== PART A: goes FIRST, ahead of the names: the tables' words, and 'selects' of the private methods out of them =====
/-- a private method of a class that the tables say can be made, by its rows of tables_1 -/
def lw_okq (q : MethodName × Nat) : Prop := (q.1.cls ≠ "java/lang/invoke/MethodHandle" ∧ q.1.cls ≠ "java/lang/invoke/VarHandle") ∧ Cond.instantiable q.1.cls q.2 ∈ tables_1 ∧ Cond.privateMethod q.1 ∈ tables_1 ∧ Cond.instanceMethod q.1 ∈ tables_1
set_option maxRecDepth 100000
theorem lw_t1 {w : Cond} (h : w ∈ tables_1_1) : w ∈ tables_1 := List.mem_append_left _ h
theorem lw_t2 {w : Cond} (h : w ∈ tables_1_2) : w ∈ tables_1 := List.mem_append_right _ (List.mem_append_left _ h)
theorem lw_t3 {w : Cond} (h : w ∈ tables_1_3) : w ∈ tables_1 := List.mem_append_right _ (List.mem_append_right _ (List.mem_append_left _ h))
theorem lw_t4 {w : Cond} (h : w ∈ tables_1_4) : w ∈ tables_1 := List.mem_append_right _ (List.mem_append_right _ (List.mem_append_right _ (List.mem_append_left _ h)))
theorem lw_t5 {w : Cond} (h : w ∈ tables_1_5) : w ∈ tables_1 := List.mem_append_right _ (List.mem_append_right _ (List.mem_append_right _ (List.mem_append_right _ (List.mem_append_left _ h))))
theorem lw_t6 {w : Cond} (h : w ∈ tables_1_6) : w ∈ tables_1 := List.mem_append_right _ (List.mem_append_right _ (List.mem_append_right _ (List.mem_append_right _ (List.mem_append_right _ (List.mem_append_left _ h)))))
theorem lw_t7 {w : Cond} (h : w ∈ tables_1_7) : w ∈ tables_1 := List.mem_append_right _ (List.mem_append_right _ (List.mem_append_right _ (List.mem_append_right _ (List.mem_append_right _ (List.mem_append_right _ (List.mem_append_left _ h))))))
theorem lw_t8 {w : Cond} (h : w ∈ tables_1_8) : w ∈ tables_1 := List.mem_append_right _ (List.mem_append_right _ (List.mem_append_right _ (List.mem_append_right _ (List.mem_append_right _ (List.mem_append_right _ (List.mem_append_right _ (List.mem_append_left _ h)))))))
theorem lw_t9 {w : Cond} (h : w ∈ tables_1_9) : w ∈ tables_1 := List.mem_append_right _ (List.mem_append_right _ (List.mem_append_right _ (List.mem_append_right _ (List.mem_append_right _ (List.mem_append_right _ (List.mem_append_right _ (List.mem_append_right _ (List.mem_append_left _ h))))))))
theorem lw_t10 {w : Cond} (h : w ∈ tables_1_10) : w ∈ tables_1 := List.mem_append_right _ (List.mem_append_right _ (List.mem_append_right _ (List.mem_append_right _ (List.mem_append_right _ (List.mem_append_right _ (List.mem_append_right _ (List.mem_append_right _ (List.mem_append_right _ (List.mem_append_left _ h)))))))))
theorem lw_t11 {w : Cond} (h : w ∈ tables_1_11) : w ∈ tables_1 := List.mem_append_right _ (List.mem_append_right _ (List.mem_append_right _ (List.mem_append_right _ (List.mem_append_right _ (List.mem_append_right _ (List.mem_append_right _ (List.mem_append_right _ (List.mem_append_right _ (List.mem_append_right _ h)))))))))
theorem lw_p0 : lw_okq (⟨"Dialectdepot", "lambda$new$5", "(LDialectdepot$Parcel;LDialectdepot$Carrier;I)I"⟩, 18) := ⟨⟨by decide +kernel, by decide +kernel⟩, lw_t1 (List.mem_of_getElem? (i := 50) rfl), lw_t1 (List.mem_of_getElem? (i := 81) rfl), lw_t1 (List.mem_of_getElem? (i := 82) rfl)⟩
theorem lw_p1 : lw_okq (⟨"Dialectdepot", "usageWeight", "(LDialectdepot$Parcel;I)I"⟩, 18) := ⟨⟨by decide +kernel, by decide +kernel⟩, lw_t1 (List.mem_of_getElem? (i := 50) rfl), lw_t1 (List.mem_of_getElem? (i := 85) rfl), lw_t1 (List.mem_of_getElem? (i := 86) rfl)⟩
theorem lw_p2 : lw_okq (⟨"Dialectdepot", "means", "(ILDialectdepot$Parcel;I)Z"⟩, 18) := ⟨⟨by decide +kernel, by decide +kernel⟩, lw_t1 (List.mem_of_getElem? (i := 50) rfl), lw_t1 (List.mem_of_getElem? (i := 110) rfl), lw_t1 (List.mem_of_getElem? (i := 111) rfl)⟩
theorem lw_p3 : lw_okq (⟨"Dialectdepot", "uses", "(III)Z"⟩, 18) := ⟨⟨by decide +kernel, by decide +kernel⟩, lw_t1 (List.mem_of_getElem? (i := 50) rfl), lw_t1 (List.mem_of_getElem? (i := 132) rfl), lw_t1 (List.mem_of_getElem? (i := 133) rfl)⟩
theorem lw_p4 : lw_okq (⟨"Dialectdepot", "lambda$new$6", "(LDialectdepot$Parcel;LDialectdepot$Carrier;I)I"⟩, 18) := ⟨⟨by decide +kernel, by decide +kernel⟩, lw_t1 (List.mem_of_getElem? (i := 50) rfl), lw_t1 (List.mem_of_getElem? (i := 135) rfl), lw_t1 (List.mem_of_getElem? (i := 136) rfl)⟩
theorem lw_p5 : lw_okq (⟨"Dialectdepot", "lessonsOf", "(LDialectdepot$Parcel;LDialectdepot$Carrier;I)I"⟩, 18) := ⟨⟨by decide +kernel, by decide +kernel⟩, lw_t1 (List.mem_of_getElem? (i := 50) rfl), lw_t1 (List.mem_of_getElem? (i := 139) rfl), lw_t1 (List.mem_of_getElem? (i := 140) rfl)⟩
theorem lw_p6 : lw_okq (⟨"Dialectdepot", "lambda$new$7", "(LDialectdepot$Parcel;LDialectdepot$Carrier;I)I"⟩, 18) := ⟨⟨by decide +kernel, by decide +kernel⟩, lw_t1 (List.mem_of_getElem? (i := 50) rfl), lw_t1 (List.mem_of_getElem? (i := 145) rfl), lw_t1 (List.mem_of_getElem? (i := 146) rfl)⟩
theorem lw_p7 : lw_okq (⟨"Dialectdepot", "learn", "(LDialectdepot$Tried;[[I)V"⟩, 18) := ⟨⟨by decide +kernel, by decide +kernel⟩, lw_t1 (List.mem_of_getElem? (i := 50) rfl), lw_t2 (List.mem_of_getElem? (i := 67) rfl), lw_t2 (List.mem_of_getElem? (i := 68) rfl)⟩
theorem lw_p8 : lw_okq (⟨"Dialectdepot", "forget", "([[I)V"⟩, 18) := ⟨⟨by decide +kernel, by decide +kernel⟩, lw_t1 (List.mem_of_getElem? (i := 50) rfl), lw_t2 (List.mem_of_getElem? (i := 100) rfl), lw_t2 (List.mem_of_getElem? (i := 101) rfl)⟩
theorem lw_p9 : lw_okq (⟨"java/lang/Throwable", "fillInStackTrace", "(I)Ljava/lang/Throwable;"⟩, 6) := ⟨⟨by decide +kernel, by decide +kernel⟩, lw_t2 (List.mem_of_getElem? (i := 182) rfl), lw_t2 (List.mem_of_getElem? (i := 180) rfl), lw_t2 (List.mem_of_getElem? (i := 181) rfl)⟩
theorem lw_p10 : lw_okq (⟨"Dialectdepot", "nameOf", "(Ljava/lang/String;)LDialectdepot$Name;"⟩, 18) := ⟨⟨by decide +kernel, by decide +kernel⟩, lw_t1 (List.mem_of_getElem? (i := 50) rfl), lw_t4 (List.mem_of_getElem? (i := 5) rfl), lw_t4 (List.mem_of_getElem? (i := 6) rfl)⟩
theorem lw_p11 : lw_okq (⟨"java/util/ArrayList", "add", "(Ljava/lang/Object;[Ljava/lang/Object;I)V"⟩, 3) := ⟨⟨by decide +kernel, by decide +kernel⟩, lw_t1 (List.mem_of_getElem? (i := 151) rfl), lw_t4 (List.mem_of_getElem? (i := 52) rfl), lw_t4 (List.mem_of_getElem? (i := 53) rfl)⟩
theorem lw_p12 : lw_okq (⟨"java/util/ArrayList", "grow", "()[Ljava/lang/Object;"⟩, 3) := ⟨⟨by decide +kernel, by decide +kernel⟩, lw_t1 (List.mem_of_getElem? (i := 151) rfl), lw_t4 (List.mem_of_getElem? (i := 56) rfl), lw_t4 (List.mem_of_getElem? (i := 57) rfl)⟩
theorem lw_p13 : lw_okq (⟨"java/util/ArrayList", "grow", "(I)[Ljava/lang/Object;"⟩, 3) := ⟨⟨by decide +kernel, by decide +kernel⟩, lw_t1 (List.mem_of_getElem? (i := 151) rfl), lw_t4 (List.mem_of_getElem? (i := 60) rfl), lw_t4 (List.mem_of_getElem? (i := 61) rfl)⟩
theorem lw_p14 : lw_okq (⟨"Dialectdepot", "requireStreet", "(I)V"⟩, 18) := ⟨⟨by decide +kernel, by decide +kernel⟩, lw_t1 (List.mem_of_getElem? (i := 50) rfl), lw_t4 (List.mem_of_getElem? (i := 209) rfl), lw_t4 (List.mem_of_getElem? (i := 210) rfl)⟩
theorem lw_p15 : lw_okq (⟨"Dialectdepot", "isRound", "(I)Z"⟩, 18) := ⟨⟨by decide +kernel, by decide +kernel⟩, lw_t1 (List.mem_of_getElem? (i := 50) rfl), lw_t5 (List.mem_of_getElem? (i := 39) rfl), lw_t5 (List.mem_of_getElem? (i := 40) rfl)⟩
def lw_privs_1 : List (MethodName × Nat) := [(⟨"Dialectdepot", "lambda$new$5", "(LDialectdepot$Parcel;LDialectdepot$Carrier;I)I"⟩, 18), (⟨"Dialectdepot", "usageWeight", "(LDialectdepot$Parcel;I)I"⟩, 18), (⟨"Dialectdepot", "means", "(ILDialectdepot$Parcel;I)Z"⟩, 18), (⟨"Dialectdepot", "uses", "(III)Z"⟩, 18), (⟨"Dialectdepot", "lambda$new$6", "(LDialectdepot$Parcel;LDialectdepot$Carrier;I)I"⟩, 18), (⟨"Dialectdepot", "lessonsOf", "(LDialectdepot$Parcel;LDialectdepot$Carrier;I)I"⟩, 18), (⟨"Dialectdepot", "lambda$new$7", "(LDialectdepot$Parcel;LDialectdepot$Carrier;I)I"⟩, 18), (⟨"Dialectdepot", "learn", "(LDialectdepot$Tried;[[I)V"⟩, 18), (⟨"Dialectdepot", "forget", "([[I)V"⟩, 18), (⟨"java/lang/Throwable", "fillInStackTrace", "(I)Ljava/lang/Throwable;"⟩, 6), (⟨"Dialectdepot", "nameOf", "(Ljava/lang/String;)LDialectdepot$Name;"⟩, 18), (⟨"java/util/ArrayList", "add", "(Ljava/lang/Object;[Ljava/lang/Object;I)V"⟩, 3), (⟨"java/util/ArrayList", "grow", "()[Ljava/lang/Object;"⟩, 3), (⟨"java/util/ArrayList", "grow", "(I)[Ljava/lang/Object;"⟩, 3), (⟨"Dialectdepot", "requireStreet", "(I)V"⟩, 18), (⟨"Dialectdepot", "isRound", "(I)Z"⟩, 18)]
theorem lw_r1 : ∀ q ∈ lw_privs_1, lw_okq q := List.forall_mem_cons.mpr ⟨lw_p0, List.forall_mem_cons.mpr ⟨lw_p1, List.forall_mem_cons.mpr ⟨lw_p2, List.forall_mem_cons.mpr ⟨lw_p3, List.forall_mem_cons.mpr ⟨lw_p4, List.forall_mem_cons.mpr ⟨lw_p5, List.forall_mem_cons.mpr ⟨lw_p6, List.forall_mem_cons.mpr ⟨lw_p7, List.forall_mem_cons.mpr ⟨lw_p8, List.forall_mem_cons.mpr ⟨lw_p9, List.forall_mem_cons.mpr ⟨lw_p10, List.forall_mem_cons.mpr ⟨lw_p11, List.forall_mem_cons.mpr ⟨lw_p12, List.forall_mem_cons.mpr ⟨lw_p13, List.forall_mem_cons.mpr ⟨lw_p14, List.forall_mem_cons.mpr ⟨lw_p15, fun _ h => absurd h List.not_mem_nil⟩⟩⟩⟩⟩⟩⟩⟩⟩⟩⟩⟩⟩⟩⟩⟩
theorem lw_p16 : lw_okq (⟨"Dialectdepot", "read", "()LDialectdepot$Address;"⟩, 18) := ⟨⟨by decide +kernel, by decide +kernel⟩, lw_t1 (List.mem_of_getElem? (i := 50) rfl), lw_t6 (List.mem_of_getElem? (i := 11) rfl), lw_t6 (List.mem_of_getElem? (i := 12) rfl)⟩
theorem lw_p17 : lw_okq (⟨"Dialectdepot", "readName", "(LDialectdepot$Words;LDialectdepot$Address;)I"⟩, 18) := ⟨⟨by decide +kernel, by decide +kernel⟩, lw_t1 (List.mem_of_getElem? (i := 50) rfl), lw_t6 (List.mem_of_getElem? (i := 49) rfl), lw_t6 (List.mem_of_getElem? (i := 50) rfl)⟩
theorem lw_p18 : lw_okq (⟨"Dialectdepot", "freshName", "(LDialectdepot$Word;LDialectdepot$Address;)I"⟩, 18) := ⟨⟨by decide +kernel, by decide +kernel⟩, lw_t1 (List.mem_of_getElem? (i := 50) rfl), lw_t6 (List.mem_of_getElem? (i := 144) rfl), lw_t6 (List.mem_of_getElem? (i := 145) rfl)⟩
theorem lw_p19 : lw_okq (⟨"Dialectdepot", "isKept", "(LDialectdepot$Parcel;)Z"⟩, 18) := ⟨⟨by decide +kernel, by decide +kernel⟩, lw_t1 (List.mem_of_getElem? (i := 50) rfl), lw_t7 (List.mem_of_getElem? (i := 82) rfl), lw_t7 (List.mem_of_getElem? (i := 83) rfl)⟩
theorem lw_p20 : lw_okq (⟨"Dialectdepot", "choose", "(LDialectdepot$Parcel;Z)I"⟩, 18) := ⟨⟨by decide +kernel, by decide +kernel⟩, lw_t1 (List.mem_of_getElem? (i := 50) rfl), lw_t7 (List.mem_of_getElem? (i := 107) rfl), lw_t7 (List.mem_of_getElem? (i := 108) rfl)⟩
theorem lw_p21 : lw_okq (⟨"Dialectdepot", "giveOut", "()V"⟩, 18) := ⟨⟨by decide +kernel, by decide +kernel⟩, lw_t1 (List.mem_of_getElem? (i := 50) rfl), lw_t7 (List.mem_of_getElem? (i := 119) rfl), lw_t7 (List.mem_of_getElem? (i := 120) rfl)⟩
theorem lw_p22 : lw_okq (⟨"Dialectdepot", "deliverAll", "()I"⟩, 18) := ⟨⟨by decide +kernel, by decide +kernel⟩, lw_t1 (List.mem_of_getElem? (i := 50) rfl), lw_t7 (List.mem_of_getElem? (i := 143) rfl), lw_t7 (List.mem_of_getElem? (i := 144) rfl)⟩
theorem lw_p23 : lw_okq (⟨"Dialectdepot", "lessons", "()[[I"⟩, 18) := ⟨⟨by decide +kernel, by decide +kernel⟩, lw_t1 (List.mem_of_getElem? (i := 50) rfl), lw_t7 (List.mem_of_getElem? (i := 148) rfl), lw_t7 (List.mem_of_getElem? (i := 149) rfl)⟩
theorem lw_p24 : lw_okq (⟨"Dialectdepot", "go", "(LDialectdepot$Parcel;I)V"⟩, 18) := ⟨⟨by decide +kernel, by decide +kernel⟩, lw_t1 (List.mem_of_getElem? (i := 50) rfl), lw_t7 (List.mem_of_getElem? (i := 158) rfl), lw_t7 (List.mem_of_getElem? (i := 159) rfl)⟩
theorem lw_p25 : lw_okq (⟨"Dialectdepot", "note", "(LDialectdepot$Carrier;LDialectdepot$Parcel;I[[I)V"⟩, 18) := ⟨⟨by decide +kernel, by decide +kernel⟩, lw_t1 (List.mem_of_getElem? (i := 50) rfl), lw_t7 (List.mem_of_getElem? (i := 216) rfl), lw_t7 (List.mem_of_getElem? (i := 217) rfl)⟩
theorem lw_p26 : lw_okq (⟨"Dialectdepot", "listeners", "(LDialectdepot$Carrier;I)I"⟩, 18) := ⟨⟨by decide +kernel, by decide +kernel⟩, lw_t1 (List.mem_of_getElem? (i := 50) rfl), lw_t7 (List.mem_of_getElem? (i := 221) rfl), lw_t7 (List.mem_of_getElem? (i := 222) rfl)⟩
theorem lw_p27 : lw_okq (⟨"Dialectdepot", "giveUp", "(LDialectdepot$Parcel;)V"⟩, 18) := ⟨⟨by decide +kernel, by decide +kernel⟩, lw_t1 (List.mem_of_getElem? (i := 50) rfl), lw_t8 (List.mem_of_getElem? (i := 8) rfl), lw_t8 (List.mem_of_getElem? (i := 9) rfl)⟩
theorem lw_p28 : lw_okq (⟨"Dialectdepot", "rule", "(LDialectdepot$Name;)V"⟩, 18) := ⟨⟨by decide +kernel, by decide +kernel⟩, lw_t1 (List.mem_of_getElem? (i := 50) rfl), lw_t8 (List.mem_of_getElem? (i := 21) rfl), lw_t8 (List.mem_of_getElem? (i := 22) rfl)⟩
theorem lw_p29 : lw_okq (⟨"Dialectdepot", "countFor", "(II)I"⟩, 18) := ⟨⟨by decide +kernel, by decide +kernel⟩, lw_t1 (List.mem_of_getElem? (i := 50) rfl), lw_t8 (List.mem_of_getElem? (i := 30) rfl), lw_t8 (List.mem_of_getElem? (i := 31) rfl)⟩
theorem lw_p30 : lw_okq (⟨"java/util/ArrayList", "fastRemove", "([Ljava/lang/Object;I)V"⟩, 3) := ⟨⟨by decide +kernel, by decide +kernel⟩, lw_t1 (List.mem_of_getElem? (i := 151) rfl), lw_t8 (List.mem_of_getElem? (i := 133) rfl), lw_t8 (List.mem_of_getElem? (i := 134) rfl)⟩
theorem lw_p31 : lw_okq (⟨"Dialectdepot", "otherStreet", "(ILDialectdepot$Name;)I"⟩, 18) := ⟨⟨by decide +kernel, by decide +kernel⟩, lw_t1 (List.mem_of_getElem? (i := 50) rfl), lw_t8 (List.mem_of_getElem? (i := 173) rfl), lw_t8 (List.mem_of_getElem? (i := 174) rfl)⟩
def lw_privs_2 : List (MethodName × Nat) := [(⟨"Dialectdepot", "read", "()LDialectdepot$Address;"⟩, 18), (⟨"Dialectdepot", "readName", "(LDialectdepot$Words;LDialectdepot$Address;)I"⟩, 18), (⟨"Dialectdepot", "freshName", "(LDialectdepot$Word;LDialectdepot$Address;)I"⟩, 18), (⟨"Dialectdepot", "isKept", "(LDialectdepot$Parcel;)Z"⟩, 18), (⟨"Dialectdepot", "choose", "(LDialectdepot$Parcel;Z)I"⟩, 18), (⟨"Dialectdepot", "giveOut", "()V"⟩, 18), (⟨"Dialectdepot", "deliverAll", "()I"⟩, 18), (⟨"Dialectdepot", "lessons", "()[[I"⟩, 18), (⟨"Dialectdepot", "go", "(LDialectdepot$Parcel;I)V"⟩, 18), (⟨"Dialectdepot", "note", "(LDialectdepot$Carrier;LDialectdepot$Parcel;I[[I)V"⟩, 18), (⟨"Dialectdepot", "listeners", "(LDialectdepot$Carrier;I)I"⟩, 18), (⟨"Dialectdepot", "giveUp", "(LDialectdepot$Parcel;)V"⟩, 18), (⟨"Dialectdepot", "rule", "(LDialectdepot$Name;)V"⟩, 18), (⟨"Dialectdepot", "countFor", "(II)I"⟩, 18), (⟨"java/util/ArrayList", "fastRemove", "([Ljava/lang/Object;I)V"⟩, 3), (⟨"Dialectdepot", "otherStreet", "(ILDialectdepot$Name;)I"⟩, 18)]
theorem lw_r2 : ∀ q ∈ lw_privs_2, lw_okq q := List.forall_mem_cons.mpr ⟨lw_p16, List.forall_mem_cons.mpr ⟨lw_p17, List.forall_mem_cons.mpr ⟨lw_p18, List.forall_mem_cons.mpr ⟨lw_p19, List.forall_mem_cons.mpr ⟨lw_p20, List.forall_mem_cons.mpr ⟨lw_p21, List.forall_mem_cons.mpr ⟨lw_p22, List.forall_mem_cons.mpr ⟨lw_p23, List.forall_mem_cons.mpr ⟨lw_p24, List.forall_mem_cons.mpr ⟨lw_p25, List.forall_mem_cons.mpr ⟨lw_p26, List.forall_mem_cons.mpr ⟨lw_p27, List.forall_mem_cons.mpr ⟨lw_p28, List.forall_mem_cons.mpr ⟨lw_p29, List.forall_mem_cons.mpr ⟨lw_p30, List.forall_mem_cons.mpr ⟨lw_p31, fun _ h => absurd h List.not_mem_nil⟩⟩⟩⟩⟩⟩⟩⟩⟩⟩⟩⟩⟩⟩⟩⟩
theorem lw_p32 : lw_okq (⟨"DialectdepotModel", "fails", "(ZI)Z"⟩, 57) := ⟨⟨by decide +kernel, by decide +kernel⟩, lw_t8 (List.mem_of_getElem? (i := 181) rfl), lw_t9 (List.mem_of_getElem? (i := 125) rfl), lw_t9 (List.mem_of_getElem? (i := 126) rfl)⟩
theorem lw_p33 : lw_okq (⟨"DialectdepotModel", "isWord", "([C)Z"⟩, 57) := ⟨⟨by decide +kernel, by decide +kernel⟩, lw_t8 (List.mem_of_getElem? (i := 181) rfl), lw_t9 (List.mem_of_getElem? (i := 136) rfl), lw_t9 (List.mem_of_getElem? (i := 137) rfl)⟩
theorem lw_p34 : lw_okq (⟨"DialectdepotModel", "nameHere", "()I"⟩, 57) := ⟨⟨by decide +kernel, by decide +kernel⟩, lw_t8 (List.mem_of_getElem? (i := 181) rfl), lw_t9 (List.mem_of_getElem? (i := 140) rfl), lw_t9 (List.mem_of_getElem? (i := 141) rfl)⟩
theorem lw_p35 : lw_okq (⟨"DialectdepotModel", "isName", "(I)Z"⟩, 57) := ⟨⟨by decide +kernel, by decide +kernel⟩, lw_t8 (List.mem_of_getElem? (i := 181) rfl), lw_t9 (List.mem_of_getElem? (i := 144) rfl), lw_t9 (List.mem_of_getElem? (i := 145) rfl)⟩
theorem lw_p36 : lw_okq (⟨"DialectdepotModel", "noName", "(I)Z"⟩, 57) := ⟨⟨by decide +kernel, by decide +kernel⟩, lw_t8 (List.mem_of_getElem? (i := 181) rfl), lw_t9 (List.mem_of_getElem? (i := 152) rfl), lw_t9 (List.mem_of_getElem? (i := 153) rfl)⟩
theorem lw_p37 : lw_okq (⟨"DialectdepotModel", "noStreet", "(I)Z"⟩, 57) := ⟨⟨by decide +kernel, by decide +kernel⟩, lw_t8 (List.mem_of_getElem? (i := 181) rfl), lw_t9 (List.mem_of_getElem? (i := 156) rfl), lw_t9 (List.mem_of_getElem? (i := 157) rfl)⟩
theorem lw_p38 : lw_okq (⟨"DialectdepotModel", "isFree", "(IIII)Z"⟩, 57) := ⟨⟨by decide +kernel, by decide +kernel⟩, lw_t8 (List.mem_of_getElem? (i := 181) rfl), lw_t9 (List.mem_of_getElem? (i := 163) rfl), lw_t9 (List.mem_of_getElem? (i := 164) rfl)⟩
theorem lw_p39 : lw_okq (⟨"DialectdepotModel", "isRound", "(I)Z"⟩, 57) := ⟨⟨by decide +kernel, by decide +kernel⟩, lw_t8 (List.mem_of_getElem? (i := 181) rfl), lw_t9 (List.mem_of_getElem? (i := 175) rfl), lw_t9 (List.mem_of_getElem? (i := 176) rfl)⟩
theorem lw_p40 : lw_okq (⟨"DialectdepotModel", "noCarrier", "(I)Z"⟩, 57) := ⟨⟨by decide +kernel, by decide +kernel⟩, lw_t8 (List.mem_of_getElem? (i := 181) rfl), lw_t9 (List.mem_of_getElem? (i := 183) rfl), lw_t9 (List.mem_of_getElem? (i := 184) rfl)⟩
theorem lw_p41 : lw_okq (⟨"DialectdepotModel", "learns", "(IIIII)V"⟩, 57) := ⟨⟨by decide +kernel, by decide +kernel⟩, lw_t8 (List.mem_of_getElem? (i := 181) rfl), lw_t9 (List.mem_of_getElem? (i := 202) rfl), lw_t9 (List.mem_of_getElem? (i := 203) rfl)⟩
theorem lw_p42 : lw_okq (⟨"DialectdepotModel", "reads", "()Z"⟩, 57) := ⟨⟨by decide +kernel, by decide +kernel⟩, lw_t8 (List.mem_of_getElem? (i := 181) rfl), lw_t9 (List.mem_of_getElem? (i := 214) rfl), lw_t9 (List.mem_of_getElem? (i := 215) rfl)⟩
theorem lw_p43 : lw_okq (⟨"DialectdepotModel", "readsWanted", "()Z"⟩, 57) := ⟨⟨by decide +kernel, by decide +kernel⟩, lw_t8 (List.mem_of_getElem? (i := 181) rfl), lw_t9 (List.mem_of_getElem? (i := 218) rfl), lw_t9 (List.mem_of_getElem? (i := 219) rfl)⟩
theorem lw_p44 : lw_okq (⟨"DialectdepotModel", "readsName", "()I"⟩, 57) := ⟨⟨by decide +kernel, by decide +kernel⟩, lw_t8 (List.mem_of_getElem? (i := 181) rfl), lw_t9 (List.mem_of_getElem? (i := 222) rfl), lw_t9 (List.mem_of_getElem? (i := 223) rfl)⟩
theorem lw_p45 : lw_okq (⟨"DialectdepotModel", "word", "()Z"⟩, 57) := ⟨⟨by decide +kernel, by decide +kernel⟩, lw_t8 (List.mem_of_getElem? (i := 181) rfl), lw_t9 (List.mem_of_getElem? (i := 226) rfl), lw_t9 (List.mem_of_getElem? (i := 227) rfl)⟩
theorem lw_p46 : lw_okq (⟨"DialectdepotModel", "faulty", "(II)Z"⟩, 57) := ⟨⟨by decide +kernel, by decide +kernel⟩, lw_t8 (List.mem_of_getElem? (i := 181) rfl), lw_t9 (List.mem_of_getElem? (i := 230) rfl), lw_t9 (List.mem_of_getElem? (i := 231) rfl)⟩
theorem lw_p47 : lw_okq (⟨"DialectdepotModel", "noParcel", "(I)Z"⟩, 57) := ⟨⟨by decide +kernel, by decide +kernel⟩, lw_t8 (List.mem_of_getElem? (i := 181) rfl), lw_t10 (List.mem_of_getElem? (i := 5) rfl), lw_t10 (List.mem_of_getElem? (i := 6) rfl)⟩
def lw_privs_3 : List (MethodName × Nat) := [(⟨"DialectdepotModel", "fails", "(ZI)Z"⟩, 57), (⟨"DialectdepotModel", "isWord", "([C)Z"⟩, 57), (⟨"DialectdepotModel", "nameHere", "()I"⟩, 57), (⟨"DialectdepotModel", "isName", "(I)Z"⟩, 57), (⟨"DialectdepotModel", "noName", "(I)Z"⟩, 57), (⟨"DialectdepotModel", "noStreet", "(I)Z"⟩, 57), (⟨"DialectdepotModel", "isFree", "(IIII)Z"⟩, 57), (⟨"DialectdepotModel", "isRound", "(I)Z"⟩, 57), (⟨"DialectdepotModel", "noCarrier", "(I)Z"⟩, 57), (⟨"DialectdepotModel", "learns", "(IIIII)V"⟩, 57), (⟨"DialectdepotModel", "reads", "()Z"⟩, 57), (⟨"DialectdepotModel", "readsWanted", "()Z"⟩, 57), (⟨"DialectdepotModel", "readsName", "()I"⟩, 57), (⟨"DialectdepotModel", "word", "()Z"⟩, 57), (⟨"DialectdepotModel", "faulty", "(II)Z"⟩, 57), (⟨"DialectdepotModel", "noParcel", "(I)Z"⟩, 57)]
theorem lw_r3 : ∀ q ∈ lw_privs_3, lw_okq q := List.forall_mem_cons.mpr ⟨lw_p32, List.forall_mem_cons.mpr ⟨lw_p33, List.forall_mem_cons.mpr ⟨lw_p34, List.forall_mem_cons.mpr ⟨lw_p35, List.forall_mem_cons.mpr ⟨lw_p36, List.forall_mem_cons.mpr ⟨lw_p37, List.forall_mem_cons.mpr ⟨lw_p38, List.forall_mem_cons.mpr ⟨lw_p39, List.forall_mem_cons.mpr ⟨lw_p40, List.forall_mem_cons.mpr ⟨lw_p41, List.forall_mem_cons.mpr ⟨lw_p42, List.forall_mem_cons.mpr ⟨lw_p43, List.forall_mem_cons.mpr ⟨lw_p44, List.forall_mem_cons.mpr ⟨lw_p45, List.forall_mem_cons.mpr ⟨lw_p46, List.forall_mem_cons.mpr ⟨lw_p47, fun _ h => absurd h List.not_mem_nil⟩⟩⟩⟩⟩⟩⟩⟩⟩⟩⟩⟩⟩⟩⟩⟩
theorem lw_p48 : lw_okq (⟨"DialectdepotModel", "held", "(I)Z"⟩, 57) := ⟨⟨by decide +kernel, by decide +kernel⟩, lw_t8 (List.mem_of_getElem? (i := 181) rfl), lw_t10 (List.mem_of_getElem? (i := 33) rfl), lw_t10 (List.mem_of_getElem? (i := 34) rfl)⟩
theorem lw_p49 : lw_okq (⟨"DialectdepotModel", "scoreOf", "(III)I"⟩, 57) := ⟨⟨by decide +kernel, by decide +kernel⟩, lw_t8 (List.mem_of_getElem? (i := 181) rfl), lw_t10 (List.mem_of_getElem? (i := 41) rfl), lw_t10 (List.mem_of_getElem? (i := 42) rfl)⟩
theorem lw_p50 : lw_okq (⟨"DialectdepotModel", "isAgainst", "(II)Z"⟩, 57) := ⟨⟨by decide +kernel, by decide +kernel⟩, lw_t8 (List.mem_of_getElem? (i := 181) rfl), lw_t10 (List.mem_of_getElem? (i := 45) rfl), lw_t10 (List.mem_of_getElem? (i := 46) rfl)⟩
theorem lw_p51 : lw_okq (⟨"DialectdepotModel", "hasUsageAt", "(IIII)Z"⟩, 57) := ⟨⟨by decide +kernel, by decide +kernel⟩, lw_t8 (List.mem_of_getElem? (i := 181) rfl), lw_t10 (List.mem_of_getElem? (i := 49) rfl), lw_t10 (List.mem_of_getElem? (i := 50) rfl)⟩
theorem lw_p52 : lw_okq (⟨"DialectdepotModel", "byName", "(III)I"⟩, 57) := ⟨⟨by decide +kernel, by decide +kernel⟩, lw_t8 (List.mem_of_getElem? (i := 181) rfl), lw_t10 (List.mem_of_getElem? (i := 53) rfl), lw_t10 (List.mem_of_getElem? (i := 54) rfl)⟩
theorem lw_p53 : lw_okq (⟨"DialectdepotModel", "hasUsage", "(III)Z"⟩, 57) := ⟨⟨by decide +kernel, by decide +kernel⟩, lw_t8 (List.mem_of_getElem? (i := 181) rfl), lw_t10 (List.mem_of_getElem? (i := 57) rfl), lw_t10 (List.mem_of_getElem? (i := 58) rfl)⟩
theorem lw_p54 : lw_okq (⟨"DialectdepotModel", "choice", "(I)I"⟩, 57) := ⟨⟨by decide +kernel, by decide +kernel⟩, lw_t8 (List.mem_of_getElem? (i := 181) rfl), lw_t10 (List.mem_of_getElem? (i := 65) rfl), lw_t10 (List.mem_of_getElem? (i := 66) rfl)⟩
theorem lw_p55 : lw_okq (⟨"DialectdepotModel", "tries", "(III)I"⟩, 57) := ⟨⟨by decide +kernel, by decide +kernel⟩, lw_t8 (List.mem_of_getElem? (i := 181) rfl), lw_t10 (List.mem_of_getElem? (i := 73) rfl), lw_t10 (List.mem_of_getElem? (i := 74) rfl)⟩
theorem lw_p56 : lw_okq (⟨"DialectdepotModel", "arrives", "(III)V"⟩, 57) := ⟨⟨by decide +kernel, by decide +kernel⟩, lw_t8 (List.mem_of_getElem? (i := 181) rfl), lw_t10 (List.mem_of_getElem? (i := 77) rfl), lw_t10 (List.mem_of_getElem? (i := 78) rfl)⟩
theorem lw_p57 : lw_okq (⟨"DialectdepotModel", "comesBack", "(III)V"⟩, 57) := ⟨⟨by decide +kernel, by decide +kernel⟩, lw_t8 (List.mem_of_getElem? (i := 181) rfl), lw_t10 (List.mem_of_getElem? (i := 81) rfl), lw_t10 (List.mem_of_getElem? (i := 82) rfl)⟩
theorem lw_p58 : lw_okq (⟨"DialectdepotModel", "givesUp", "(I)V"⟩, 57) := ⟨⟨by decide +kernel, by decide +kernel⟩, lw_t8 (List.mem_of_getElem? (i := 181) rfl), lw_t10 (List.mem_of_getElem? (i := 85) rfl), lw_t10 (List.mem_of_getElem? (i := 86) rfl)⟩
theorem lw_p59 : lw_okq (⟨"DialectdepotModel", "rules", "(I)V"⟩, 57) := ⟨⟨by decide +kernel, by decide +kernel⟩, lw_t8 (List.mem_of_getElem? (i := 181) rfl), lw_t10 (List.mem_of_getElem? (i := 89) rfl), lw_t10 (List.mem_of_getElem? (i := 90) rfl)⟩
theorem lw_p60 : lw_okq (⟨"DialectdepotModel", "evidenceOf", "(II)I"⟩, 57) := ⟨⟨by decide +kernel, by decide +kernel⟩, lw_t8 (List.mem_of_getElem? (i := 181) rfl), lw_t10 (List.mem_of_getElem? (i := 93) rfl), lw_t10 (List.mem_of_getElem? (i := 94) rfl)⟩
theorem lw_p61 : lw_okq (⟨"DialectdepotModel", "fades", "()V"⟩, 57) := ⟨⟨by decide +kernel, by decide +kernel⟩, lw_t8 (List.mem_of_getElem? (i := 181) rfl), lw_t10 (List.mem_of_getElem? (i := 97) rfl), lw_t10 (List.mem_of_getElem? (i := 98) rfl)⟩
theorem lw_p62 : lw_okq (⟨"DialectdepotModel", "noAttempt", "(I)Z"⟩, 57) := ⟨⟨by decide +kernel, by decide +kernel⟩, lw_t8 (List.mem_of_getElem? (i := 181) rfl), lw_t10 (List.mem_of_getElem? (i := 113) rfl), lw_t10 (List.mem_of_getElem? (i := 114) rfl)⟩
theorem lw_p63 : lw_okq (⟨"DialectdepotModel", "disputes", "(I)V"⟩, 57) := ⟨⟨by decide +kernel, by decide +kernel⟩, lw_t8 (List.mem_of_getElem? (i := 181) rfl), lw_t10 (List.mem_of_getElem? (i := 137) rfl), lw_t10 (List.mem_of_getElem? (i := 138) rfl)⟩
def lw_privs_4 : List (MethodName × Nat) := [(⟨"DialectdepotModel", "held", "(I)Z"⟩, 57), (⟨"DialectdepotModel", "scoreOf", "(III)I"⟩, 57), (⟨"DialectdepotModel", "isAgainst", "(II)Z"⟩, 57), (⟨"DialectdepotModel", "hasUsageAt", "(IIII)Z"⟩, 57), (⟨"DialectdepotModel", "byName", "(III)I"⟩, 57), (⟨"DialectdepotModel", "hasUsage", "(III)Z"⟩, 57), (⟨"DialectdepotModel", "choice", "(I)I"⟩, 57), (⟨"DialectdepotModel", "tries", "(III)I"⟩, 57), (⟨"DialectdepotModel", "arrives", "(III)V"⟩, 57), (⟨"DialectdepotModel", "comesBack", "(III)V"⟩, 57), (⟨"DialectdepotModel", "givesUp", "(I)V"⟩, 57), (⟨"DialectdepotModel", "rules", "(I)V"⟩, 57), (⟨"DialectdepotModel", "evidenceOf", "(II)I"⟩, 57), (⟨"DialectdepotModel", "fades", "()V"⟩, 57), (⟨"DialectdepotModel", "noAttempt", "(I)Z"⟩, 57), (⟨"DialectdepotModel", "disputes", "(I)V"⟩, 57)]
theorem lw_r4 : ∀ q ∈ lw_privs_4, lw_okq q := List.forall_mem_cons.mpr ⟨lw_p48, List.forall_mem_cons.mpr ⟨lw_p49, List.forall_mem_cons.mpr ⟨lw_p50, List.forall_mem_cons.mpr ⟨lw_p51, List.forall_mem_cons.mpr ⟨lw_p52, List.forall_mem_cons.mpr ⟨lw_p53, List.forall_mem_cons.mpr ⟨lw_p54, List.forall_mem_cons.mpr ⟨lw_p55, List.forall_mem_cons.mpr ⟨lw_p56, List.forall_mem_cons.mpr ⟨lw_p57, List.forall_mem_cons.mpr ⟨lw_p58, List.forall_mem_cons.mpr ⟨lw_p59, List.forall_mem_cons.mpr ⟨lw_p60, List.forall_mem_cons.mpr ⟨lw_p61, List.forall_mem_cons.mpr ⟨lw_p62, List.forall_mem_cons.mpr ⟨lw_p63, fun _ h => absurd h List.not_mem_nil⟩⟩⟩⟩⟩⟩⟩⟩⟩⟩⟩⟩⟩⟩⟩⟩
theorem lw_p64 : lw_okq (⟨"DialectdepotModel", "otherStreet", "(II)I"⟩, 57) := ⟨⟨by decide +kernel, by decide +kernel⟩, lw_t8 (List.mem_of_getElem? (i := 181) rfl), lw_t10 (List.mem_of_getElem? (i := 165) rfl), lw_t10 (List.mem_of_getElem? (i := 166) rfl)⟩
def lw_privs_5 : List (MethodName × Nat) := [(⟨"DialectdepotModel", "otherStreet", "(II)I"⟩, 57)]
theorem lw_r5 : ∀ q ∈ lw_privs_5, lw_okq q := List.forall_mem_cons.mpr ⟨lw_p64, fun _ h => absurd h List.not_mem_nil⟩
def lw_privs : List (MethodName × Nat) := lw_privs_1 ++ (lw_privs_2 ++ (lw_privs_3 ++ (lw_privs_4 ++ (lw_privs_5))))
def lw_tbl : List Cond := k2_sels lw_privs ++ tables_1
theorem lw_privs_ok : ∀ q ∈ lw_privs, lw_okq q := by
  show ∀ q ∈ lw_privs_1 ++ (lw_privs_2 ++ (lw_privs_3 ++ (lw_privs_4 ++ (lw_privs_5)))), lw_okq q
  exact List.forall_mem_append.mpr ⟨lw_r1, List.forall_mem_append.mpr ⟨lw_r2, List.forall_mem_append.mpr ⟨lw_r3, List.forall_mem_append.mpr ⟨lw_r4, lw_r5⟩⟩⟩⟩
-- ===== ONE list of words for every method: the tables' words that hold all through a run =====
def lw_all : List Cond := lw_tbl.filter goodWord
/-- a word of the tables by its place: claim/WORDS.tsv -/
theorem lw_w {w : Cond} (i : Nat) (h : lw_tbl[i]? = some w) (g : goodWord w = true) : w ∈ lw_all := List.mem_filter.mpr ⟨List.mem_of_getElem? h, g⟩
theorem lw_all_tbl {w : Cond} (h : w ∈ lw_all) : w ∈ lw_tbl := (List.mem_filter.mp h).1
theorem lw_self : GoodIn lw_all lw_all := fun w h => ⟨h, good_of_word (List.mem_filter.mp h).2⟩
/-- a class's field words, by their places -/
theorem lw_in (ws : List Cond) (ps : List Nat) (hp : ws = ps.filterMap (fun i => lw_tbl[i]?)) (hg : ws.all goodWord = true) : ∀ w ∈ ws, w ∈ lw_all := by
  intro w h
  have h1 := List.all_eq_true.mp hg w h
  rw [hp] at h
  obtain ⟨i, -, hi⟩ := List.mem_filterMap.mp h
  exact lw_w i hi h1
/-- the words of a contract for the method y with code b, L locals, answer r -/
abbrev ws_ (y : MethodName) (b : ByteArray) (L : Nat) (r : Option FieldType) : List Cond := Cond.code y b L r :: lw_all
theorem lw_meth {y : MethodName} {b : ByteArray} {L : Nat} {r : Option FieldType} (h : Cond.code y b L r ∈ lw_all) : GoodIn lw_all (ws_ y b L r) := by
  intro w hw
  rcases List.mem_cons.mp hw with e | e
  · rw [e]
    exact lw_self _ h
  · exact lw_self _ e
theorem lw_app {a c : List Cond} (ha : ∀ w ∈ a, w ∈ lw_all) (hc : GoodIn lw_all c) : GoodIn lw_all (a ++ c) := by
  intro w hw
  rcases List.mem_append.mp hw with e | e
  · exact lw_self w (ha w e)
  · exact hc w e
/-- what a call through an object asks: cwV n hts (lw_V ..) -/
theorem lw_V {own : String} {idx : Nat} {C : String} {y : MethodName} {b : ByteArray} {L : Nat} {r : Option FieldType} (h1 : Cond.methodLink own idx y ∈ lw_all) (h2 : Cond.instanceMethod y ∈ lw_all) (h3 : Cond.selects C y y ∈ lw_all) (h4 : Cond.initialized C ∈ lw_all) (h5 : Cond.code y b L r ∈ lw_all) : GoodIn lw_all (wsV own idx C y (ws_ y b L r)) := by
  refine lw_app ?_ (lw_meth h5)
  intro w hw
  simp only [List.mem_cons, List.not_mem_nil, or_false] at hw
  rcases hw with e | e | e | e
  · rw [e]; exact h1
  · rw [e]; exact h2
  · rw [e]; exact h3
  · rw [e]; exact h4
/-- what a static call asks: va_cwS n hts (lw_S ..) -/
theorem lw_S {own : String} {idx : Nat} {y : MethodName} {b : ByteArray} {L : Nat} {r : Option FieldType} (h1 : Cond.methodLink own idx y ∈ lw_all) (h2 : Cond.static y ∈ lw_all) (h3 : Cond.initialized y.cls ∈ lw_all) (h4 : Cond.code y b L r ∈ lw_all) : GoodIn lw_all (va_wsS own idx y (ws_ y b L r)) := by
  refine lw_app ?_ (lw_meth h4)
  intro w hw
  simp only [List.mem_cons, List.not_mem_nil, or_false] at hw
  rcases hw with e | e | e
  · rw [e]; exact h1
  · rw [e]; exact h2
  · rw [e]; exact h3
/-- the words of a contract for a method WITH HANDLERS (hh: its table) -/
abbrev wsW_ (y : MethodName) (b : ByteArray) (L : Nat) (r : Option FieldType) (hh : List (Nat × Nat × Nat × Nat)) : List Cond := Cond.codeWith y b L r hh :: lw_all
theorem lw_methW {y : MethodName} {b : ByteArray} {L : Nat} {r : Option FieldType} {hh : List (Nat × Nat × Nat × Nat)} (h : Cond.codeWith y b L r hh ∈ lw_all) : GoodIn lw_all (wsW_ y b L r hh) := by
  intro w hw
  rcases List.mem_cons.mp hw with e | e
  · rw [e]
    exact lw_self _ h
  · exact lw_self _ e
/-- any list of words by their places (lw_in), good -/
theorem lw_good {ws : List Cond} (h : ∀ w ∈ ws, w ∈ lw_all) : GoodIn lw_all ws := fun w hw => lw_self w (h w hw)
/-- what a call of a method with handlers asks: vx_cwVW n hts (lw_VW ..), vx_cwSW n hts (lw_SW ..) -/
theorem lw_VW {own : String} {idx : Nat} {C : String} {y : MethodName} {b : ByteArray} {L : Nat} {r : Option FieldType} {hh : List (Nat × Nat × Nat × Nat)} (h1 : Cond.methodLink own idx y ∈ lw_all) (h2 : Cond.instanceMethod y ∈ lw_all) (h3 : Cond.selects C y y ∈ lw_all) (h4 : Cond.initialized C ∈ lw_all) (h5 : Cond.codeWith y b L r hh ∈ lw_all) : GoodIn lw_all (wsV own idx C y (wsW_ y b L r hh)) := by
  refine lw_app ?_ (lw_methW h5)
  intro w hw
  simp only [List.mem_cons, List.not_mem_nil, or_false] at hw
  rcases hw with e | e | e | e
  · rw [e]; exact h1
  · rw [e]; exact h2
  · rw [e]; exact h3
  · rw [e]; exact h4
theorem lw_SW {own : String} {idx : Nat} {y : MethodName} {b : ByteArray} {L : Nat} {r : Option FieldType} {hh : List (Nat × Nat × Nat × Nat)} (h1 : Cond.methodLink own idx y ∈ lw_all) (h2 : Cond.static y ∈ lw_all) (h3 : Cond.initialized y.cls ∈ lw_all) (h4 : Cond.codeWith y b L r hh ∈ lw_all) : GoodIn lw_all (va_wsS own idx y (wsW_ y b L r hh)) := by
  refine lw_app ?_ (lw_methW h4)
  intro w hw
  simp only [List.mem_cons, List.not_mem_nil, or_false] at hw
  rcases hw with e | e | e
  · rw [e]; exact h1
  · rw [e]; exact h2
  · rw [e]; exact h3
/-- a word by its place in its run of the tables -/
theorem lw_at {r : List Cond} (hr : ∀ w ∈ r, w ∈ lw_tbl) {w : Cond} (i : Nat) (h : r[i]? = some w) : w ∈ lw_tbl := hr w (List.mem_of_getElem? h)
theorem lw_g {w : Cond} (h : w ∈ lw_tbl) (g : goodWord w = true) : w ∈ lw_all := List.mem_filter.mpr ⟨h, g⟩
theorem lw_ms : ∀ w ∈ k2_sels lw_privs, w ∈ lw_tbl := fun w h => show w ∈ k2_sels lw_privs ++ tables_1 from List.mem_append_left _ h
theorem lw_m1 : ∀ w ∈ tables_1_1, w ∈ lw_tbl := fun w h => show w ∈ k2_sels lw_privs ++ tables_1 from List.mem_append_right (k2_sels lw_privs) (show w ∈ tables_1 from List.mem_append_left _ h)
theorem lw_m2 : ∀ w ∈ tables_1_2, w ∈ lw_tbl := fun w h => show w ∈ k2_sels lw_privs ++ tables_1 from List.mem_append_right (k2_sels lw_privs) (show w ∈ tables_1 from List.mem_append_right _ (List.mem_append_left _ h))
theorem lw_m3 : ∀ w ∈ tables_1_3, w ∈ lw_tbl := fun w h => show w ∈ k2_sels lw_privs ++ tables_1 from List.mem_append_right (k2_sels lw_privs) (show w ∈ tables_1 from List.mem_append_right _ (List.mem_append_right _ (List.mem_append_left _ h)))
theorem lw_m4 : ∀ w ∈ tables_1_4, w ∈ lw_tbl := fun w h => show w ∈ k2_sels lw_privs ++ tables_1 from List.mem_append_right (k2_sels lw_privs) (show w ∈ tables_1 from List.mem_append_right _ (List.mem_append_right _ (List.mem_append_right _ (List.mem_append_left _ h))))
theorem lw_m5 : ∀ w ∈ tables_1_5, w ∈ lw_tbl := fun w h => show w ∈ k2_sels lw_privs ++ tables_1 from List.mem_append_right (k2_sels lw_privs) (show w ∈ tables_1 from List.mem_append_right _ (List.mem_append_right _ (List.mem_append_right _ (List.mem_append_right _ (List.mem_append_left _ h)))))
theorem lw_m6 : ∀ w ∈ tables_1_6, w ∈ lw_tbl := fun w h => show w ∈ k2_sels lw_privs ++ tables_1 from List.mem_append_right (k2_sels lw_privs) (show w ∈ tables_1 from List.mem_append_right _ (List.mem_append_right _ (List.mem_append_right _ (List.mem_append_right _ (List.mem_append_right _ (List.mem_append_left _ h))))))
theorem lw_m7 : ∀ w ∈ tables_1_7, w ∈ lw_tbl := fun w h => show w ∈ k2_sels lw_privs ++ tables_1 from List.mem_append_right (k2_sels lw_privs) (show w ∈ tables_1 from List.mem_append_right _ (List.mem_append_right _ (List.mem_append_right _ (List.mem_append_right _ (List.mem_append_right _ (List.mem_append_right _ (List.mem_append_left _ h)))))))
theorem lw_m8 : ∀ w ∈ tables_1_8, w ∈ lw_tbl := fun w h => show w ∈ k2_sels lw_privs ++ tables_1 from List.mem_append_right (k2_sels lw_privs) (show w ∈ tables_1 from List.mem_append_right _ (List.mem_append_right _ (List.mem_append_right _ (List.mem_append_right _ (List.mem_append_right _ (List.mem_append_right _ (List.mem_append_right _ (List.mem_append_left _ h))))))))
theorem lw_m9 : ∀ w ∈ tables_1_9, w ∈ lw_tbl := fun w h => show w ∈ k2_sels lw_privs ++ tables_1 from List.mem_append_right (k2_sels lw_privs) (show w ∈ tables_1 from List.mem_append_right _ (List.mem_append_right _ (List.mem_append_right _ (List.mem_append_right _ (List.mem_append_right _ (List.mem_append_right _ (List.mem_append_right _ (List.mem_append_right _ (List.mem_append_left _ h)))))))))
theorem lw_m10 : ∀ w ∈ tables_1_10, w ∈ lw_tbl := fun w h => show w ∈ k2_sels lw_privs ++ tables_1 from List.mem_append_right (k2_sels lw_privs) (show w ∈ tables_1 from List.mem_append_right _ (List.mem_append_right _ (List.mem_append_right _ (List.mem_append_right _ (List.mem_append_right _ (List.mem_append_right _ (List.mem_append_right _ (List.mem_append_right _ (List.mem_append_right _ (List.mem_append_left _ h))))))))))
theorem lw_m11 : ∀ w ∈ tables_1_11, w ∈ lw_tbl := fun w h => show w ∈ k2_sels lw_privs ++ tables_1 from List.mem_append_right (k2_sels lw_privs) (show w ∈ tables_1 from List.mem_append_right _ (List.mem_append_right _ (List.mem_append_right _ (List.mem_append_right _ (List.mem_append_right _ (List.mem_append_right _ (List.mem_append_right _ (List.mem_append_right _ (List.mem_append_right _ (List.mem_append_right _ h))))))))))
theorem qs0 : (Cond.selects "Dialectdepot" ⟨"Dialectdepot", "lambda$new$5", "(LDialectdepot$Parcel;LDialectdepot$Carrier;I)I"⟩ ⟨"Dialectdepot", "lambda$new$5", "(LDialectdepot$Parcel;LDialectdepot$Carrier;I)I"⟩) ∈ lw_all := lw_g (lw_at lw_ms 0 rfl) rfl
theorem qs1 : (Cond.selects "Dialectdepot" ⟨"Dialectdepot", "usageWeight", "(LDialectdepot$Parcel;I)I"⟩ ⟨"Dialectdepot", "usageWeight", "(LDialectdepot$Parcel;I)I"⟩) ∈ lw_all := lw_g (lw_at lw_ms 1 rfl) rfl
theorem qs2 : (Cond.selects "Dialectdepot" ⟨"Dialectdepot", "means", "(ILDialectdepot$Parcel;I)Z"⟩ ⟨"Dialectdepot", "means", "(ILDialectdepot$Parcel;I)Z"⟩) ∈ lw_all := lw_g (lw_at lw_ms 2 rfl) rfl
theorem qs3 : (Cond.selects "Dialectdepot" ⟨"Dialectdepot", "uses", "(III)Z"⟩ ⟨"Dialectdepot", "uses", "(III)Z"⟩) ∈ lw_all := lw_g (lw_at lw_ms 3 rfl) rfl
theorem qs4 : (Cond.selects "Dialectdepot" ⟨"Dialectdepot", "lambda$new$6", "(LDialectdepot$Parcel;LDialectdepot$Carrier;I)I"⟩ ⟨"Dialectdepot", "lambda$new$6", "(LDialectdepot$Parcel;LDialectdepot$Carrier;I)I"⟩) ∈ lw_all := lw_g (lw_at lw_ms 4 rfl) rfl
theorem qs5 : (Cond.selects "Dialectdepot" ⟨"Dialectdepot", "lessonsOf", "(LDialectdepot$Parcel;LDialectdepot$Carrier;I)I"⟩ ⟨"Dialectdepot", "lessonsOf", "(LDialectdepot$Parcel;LDialectdepot$Carrier;I)I"⟩) ∈ lw_all := lw_g (lw_at lw_ms 5 rfl) rfl
theorem qs6 : (Cond.selects "Dialectdepot" ⟨"Dialectdepot", "lambda$new$7", "(LDialectdepot$Parcel;LDialectdepot$Carrier;I)I"⟩ ⟨"Dialectdepot", "lambda$new$7", "(LDialectdepot$Parcel;LDialectdepot$Carrier;I)I"⟩) ∈ lw_all := lw_g (lw_at lw_ms 6 rfl) rfl
theorem qs7 : (Cond.selects "Dialectdepot" ⟨"Dialectdepot", "learn", "(LDialectdepot$Tried;[[I)V"⟩ ⟨"Dialectdepot", "learn", "(LDialectdepot$Tried;[[I)V"⟩) ∈ lw_all := lw_g (lw_at lw_ms 7 rfl) rfl
theorem qs8 : (Cond.selects "Dialectdepot" ⟨"Dialectdepot", "forget", "([[I)V"⟩ ⟨"Dialectdepot", "forget", "([[I)V"⟩) ∈ lw_all := lw_g (lw_at lw_ms 8 rfl) rfl
theorem qs9 : (Cond.selects "java/lang/Throwable" ⟨"java/lang/Throwable", "fillInStackTrace", "(I)Ljava/lang/Throwable;"⟩ ⟨"java/lang/Throwable", "fillInStackTrace", "(I)Ljava/lang/Throwable;"⟩) ∈ lw_all := lw_g (lw_at lw_ms 9 rfl) rfl
theorem qs10 : (Cond.selects "Dialectdepot" ⟨"Dialectdepot", "nameOf", "(Ljava/lang/String;)LDialectdepot$Name;"⟩ ⟨"Dialectdepot", "nameOf", "(Ljava/lang/String;)LDialectdepot$Name;"⟩) ∈ lw_all := lw_g (lw_at lw_ms 10 rfl) rfl
theorem qs11 : (Cond.selects "java/util/ArrayList" ⟨"java/util/ArrayList", "add", "(Ljava/lang/Object;[Ljava/lang/Object;I)V"⟩ ⟨"java/util/ArrayList", "add", "(Ljava/lang/Object;[Ljava/lang/Object;I)V"⟩) ∈ lw_all := lw_g (lw_at lw_ms 11 rfl) rfl
theorem qs12 : (Cond.selects "java/util/ArrayList" ⟨"java/util/ArrayList", "grow", "()[Ljava/lang/Object;"⟩ ⟨"java/util/ArrayList", "grow", "()[Ljava/lang/Object;"⟩) ∈ lw_all := lw_g (lw_at lw_ms 12 rfl) rfl
theorem qs13 : (Cond.selects "java/util/ArrayList" ⟨"java/util/ArrayList", "grow", "(I)[Ljava/lang/Object;"⟩ ⟨"java/util/ArrayList", "grow", "(I)[Ljava/lang/Object;"⟩) ∈ lw_all := lw_g (lw_at lw_ms 13 rfl) rfl
theorem qs14 : (Cond.selects "Dialectdepot" ⟨"Dialectdepot", "requireStreet", "(I)V"⟩ ⟨"Dialectdepot", "requireStreet", "(I)V"⟩) ∈ lw_all := lw_g (lw_at lw_ms 14 rfl) rfl
theorem qs15 : (Cond.selects "Dialectdepot" ⟨"Dialectdepot", "isRound", "(I)Z"⟩ ⟨"Dialectdepot", "isRound", "(I)Z"⟩) ∈ lw_all := lw_g (lw_at lw_ms 15 rfl) rfl
theorem qs16 : (Cond.selects "Dialectdepot" ⟨"Dialectdepot", "read", "()LDialectdepot$Address;"⟩ ⟨"Dialectdepot", "read", "()LDialectdepot$Address;"⟩) ∈ lw_all := lw_g (lw_at lw_ms 16 rfl) rfl
theorem qs17 : (Cond.selects "Dialectdepot" ⟨"Dialectdepot", "readName", "(LDialectdepot$Words;LDialectdepot$Address;)I"⟩ ⟨"Dialectdepot", "readName", "(LDialectdepot$Words;LDialectdepot$Address;)I"⟩) ∈ lw_all := lw_g (lw_at lw_ms 17 rfl) rfl
theorem qs18 : (Cond.selects "Dialectdepot" ⟨"Dialectdepot", "freshName", "(LDialectdepot$Word;LDialectdepot$Address;)I"⟩ ⟨"Dialectdepot", "freshName", "(LDialectdepot$Word;LDialectdepot$Address;)I"⟩) ∈ lw_all := lw_g (lw_at lw_ms 18 rfl) rfl
theorem qs19 : (Cond.selects "Dialectdepot" ⟨"Dialectdepot", "isKept", "(LDialectdepot$Parcel;)Z"⟩ ⟨"Dialectdepot", "isKept", "(LDialectdepot$Parcel;)Z"⟩) ∈ lw_all := lw_g (lw_at lw_ms 19 rfl) rfl
theorem qs20 : (Cond.selects "Dialectdepot" ⟨"Dialectdepot", "choose", "(LDialectdepot$Parcel;Z)I"⟩ ⟨"Dialectdepot", "choose", "(LDialectdepot$Parcel;Z)I"⟩) ∈ lw_all := lw_g (lw_at lw_ms 20 rfl) rfl
theorem qs21 : (Cond.selects "Dialectdepot" ⟨"Dialectdepot", "giveOut", "()V"⟩ ⟨"Dialectdepot", "giveOut", "()V"⟩) ∈ lw_all := lw_g (lw_at lw_ms 21 rfl) rfl
theorem qs22 : (Cond.selects "Dialectdepot" ⟨"Dialectdepot", "deliverAll", "()I"⟩ ⟨"Dialectdepot", "deliverAll", "()I"⟩) ∈ lw_all := lw_g (lw_at lw_ms 22 rfl) rfl
theorem qs23 : (Cond.selects "Dialectdepot" ⟨"Dialectdepot", "lessons", "()[[I"⟩ ⟨"Dialectdepot", "lessons", "()[[I"⟩) ∈ lw_all := lw_g (lw_at lw_ms 23 rfl) rfl
theorem qs24 : (Cond.selects "Dialectdepot" ⟨"Dialectdepot", "go", "(LDialectdepot$Parcel;I)V"⟩ ⟨"Dialectdepot", "go", "(LDialectdepot$Parcel;I)V"⟩) ∈ lw_all := lw_g (lw_at lw_ms 24 rfl) rfl
theorem qs25 : (Cond.selects "Dialectdepot" ⟨"Dialectdepot", "note", "(LDialectdepot$Carrier;LDialectdepot$Parcel;I[[I)V"⟩ ⟨"Dialectdepot", "note", "(LDialectdepot$Carrier;LDialectdepot$Parcel;I[[I)V"⟩) ∈ lw_all := lw_g (lw_at lw_ms 25 rfl) rfl
theorem qs26 : (Cond.selects "Dialectdepot" ⟨"Dialectdepot", "listeners", "(LDialectdepot$Carrier;I)I"⟩ ⟨"Dialectdepot", "listeners", "(LDialectdepot$Carrier;I)I"⟩) ∈ lw_all := lw_g (lw_at lw_ms 26 rfl) rfl
theorem qs27 : (Cond.selects "Dialectdepot" ⟨"Dialectdepot", "giveUp", "(LDialectdepot$Parcel;)V"⟩ ⟨"Dialectdepot", "giveUp", "(LDialectdepot$Parcel;)V"⟩) ∈ lw_all := lw_g (lw_at lw_ms 27 rfl) rfl
theorem qs28 : (Cond.selects "Dialectdepot" ⟨"Dialectdepot", "rule", "(LDialectdepot$Name;)V"⟩ ⟨"Dialectdepot", "rule", "(LDialectdepot$Name;)V"⟩) ∈ lw_all := lw_g (lw_at lw_ms 28 rfl) rfl
theorem qs29 : (Cond.selects "Dialectdepot" ⟨"Dialectdepot", "countFor", "(II)I"⟩ ⟨"Dialectdepot", "countFor", "(II)I"⟩) ∈ lw_all := lw_g (lw_at lw_ms 29 rfl) rfl
theorem qs30 : (Cond.selects "java/util/ArrayList" ⟨"java/util/ArrayList", "fastRemove", "([Ljava/lang/Object;I)V"⟩ ⟨"java/util/ArrayList", "fastRemove", "([Ljava/lang/Object;I)V"⟩) ∈ lw_all := lw_g (lw_at lw_ms 30 rfl) rfl
theorem qs31 : (Cond.selects "Dialectdepot" ⟨"Dialectdepot", "otherStreet", "(ILDialectdepot$Name;)I"⟩ ⟨"Dialectdepot", "otherStreet", "(ILDialectdepot$Name;)I"⟩) ∈ lw_all := lw_g (lw_at lw_ms 31 rfl) rfl
theorem qs32 : (Cond.selects "DialectdepotModel" ⟨"DialectdepotModel", "fails", "(ZI)Z"⟩ ⟨"DialectdepotModel", "fails", "(ZI)Z"⟩) ∈ lw_all := lw_g (lw_at lw_ms 32 rfl) rfl
theorem qs33 : (Cond.selects "DialectdepotModel" ⟨"DialectdepotModel", "isWord", "([C)Z"⟩ ⟨"DialectdepotModel", "isWord", "([C)Z"⟩) ∈ lw_all := lw_g (lw_at lw_ms 33 rfl) rfl
theorem qs34 : (Cond.selects "DialectdepotModel" ⟨"DialectdepotModel", "nameHere", "()I"⟩ ⟨"DialectdepotModel", "nameHere", "()I"⟩) ∈ lw_all := lw_g (lw_at lw_ms 34 rfl) rfl
theorem qs35 : (Cond.selects "DialectdepotModel" ⟨"DialectdepotModel", "isName", "(I)Z"⟩ ⟨"DialectdepotModel", "isName", "(I)Z"⟩) ∈ lw_all := lw_g (lw_at lw_ms 35 rfl) rfl
theorem qs36 : (Cond.selects "DialectdepotModel" ⟨"DialectdepotModel", "noName", "(I)Z"⟩ ⟨"DialectdepotModel", "noName", "(I)Z"⟩) ∈ lw_all := lw_g (lw_at lw_ms 36 rfl) rfl
theorem qs37 : (Cond.selects "DialectdepotModel" ⟨"DialectdepotModel", "noStreet", "(I)Z"⟩ ⟨"DialectdepotModel", "noStreet", "(I)Z"⟩) ∈ lw_all := lw_g (lw_at lw_ms 37 rfl) rfl
theorem qs38 : (Cond.selects "DialectdepotModel" ⟨"DialectdepotModel", "isFree", "(IIII)Z"⟩ ⟨"DialectdepotModel", "isFree", "(IIII)Z"⟩) ∈ lw_all := lw_g (lw_at lw_ms 38 rfl) rfl
theorem qs39 : (Cond.selects "DialectdepotModel" ⟨"DialectdepotModel", "isRound", "(I)Z"⟩ ⟨"DialectdepotModel", "isRound", "(I)Z"⟩) ∈ lw_all := lw_g (lw_at lw_ms 39 rfl) rfl
theorem qs40 : (Cond.selects "DialectdepotModel" ⟨"DialectdepotModel", "noCarrier", "(I)Z"⟩ ⟨"DialectdepotModel", "noCarrier", "(I)Z"⟩) ∈ lw_all := lw_g (lw_at lw_ms 40 rfl) rfl
theorem qs41 : (Cond.selects "DialectdepotModel" ⟨"DialectdepotModel", "learns", "(IIIII)V"⟩ ⟨"DialectdepotModel", "learns", "(IIIII)V"⟩) ∈ lw_all := lw_g (lw_at lw_ms 41 rfl) rfl
theorem qs42 : (Cond.selects "DialectdepotModel" ⟨"DialectdepotModel", "reads", "()Z"⟩ ⟨"DialectdepotModel", "reads", "()Z"⟩) ∈ lw_all := lw_g (lw_at lw_ms 42 rfl) rfl
theorem qs43 : (Cond.selects "DialectdepotModel" ⟨"DialectdepotModel", "readsWanted", "()Z"⟩ ⟨"DialectdepotModel", "readsWanted", "()Z"⟩) ∈ lw_all := lw_g (lw_at lw_ms 43 rfl) rfl
theorem qs44 : (Cond.selects "DialectdepotModel" ⟨"DialectdepotModel", "readsName", "()I"⟩ ⟨"DialectdepotModel", "readsName", "()I"⟩) ∈ lw_all := lw_g (lw_at lw_ms 44 rfl) rfl
theorem qs45 : (Cond.selects "DialectdepotModel" ⟨"DialectdepotModel", "word", "()Z"⟩ ⟨"DialectdepotModel", "word", "()Z"⟩) ∈ lw_all := lw_g (lw_at lw_ms 45 rfl) rfl
theorem qs46 : (Cond.selects "DialectdepotModel" ⟨"DialectdepotModel", "faulty", "(II)Z"⟩ ⟨"DialectdepotModel", "faulty", "(II)Z"⟩) ∈ lw_all := lw_g (lw_at lw_ms 46 rfl) rfl
theorem qs47 : (Cond.selects "DialectdepotModel" ⟨"DialectdepotModel", "noParcel", "(I)Z"⟩ ⟨"DialectdepotModel", "noParcel", "(I)Z"⟩) ∈ lw_all := lw_g (lw_at lw_ms 47 rfl) rfl
theorem qs48 : (Cond.selects "DialectdepotModel" ⟨"DialectdepotModel", "held", "(I)Z"⟩ ⟨"DialectdepotModel", "held", "(I)Z"⟩) ∈ lw_all := lw_g (lw_at lw_ms 48 rfl) rfl
theorem qs49 : (Cond.selects "DialectdepotModel" ⟨"DialectdepotModel", "scoreOf", "(III)I"⟩ ⟨"DialectdepotModel", "scoreOf", "(III)I"⟩) ∈ lw_all := lw_g (lw_at lw_ms 49 rfl) rfl
theorem qs50 : (Cond.selects "DialectdepotModel" ⟨"DialectdepotModel", "isAgainst", "(II)Z"⟩ ⟨"DialectdepotModel", "isAgainst", "(II)Z"⟩) ∈ lw_all := lw_g (lw_at lw_ms 50 rfl) rfl
theorem qs51 : (Cond.selects "DialectdepotModel" ⟨"DialectdepotModel", "hasUsageAt", "(IIII)Z"⟩ ⟨"DialectdepotModel", "hasUsageAt", "(IIII)Z"⟩) ∈ lw_all := lw_g (lw_at lw_ms 51 rfl) rfl
theorem qs52 : (Cond.selects "DialectdepotModel" ⟨"DialectdepotModel", "byName", "(III)I"⟩ ⟨"DialectdepotModel", "byName", "(III)I"⟩) ∈ lw_all := lw_g (lw_at lw_ms 52 rfl) rfl
theorem qs53 : (Cond.selects "DialectdepotModel" ⟨"DialectdepotModel", "hasUsage", "(III)Z"⟩ ⟨"DialectdepotModel", "hasUsage", "(III)Z"⟩) ∈ lw_all := lw_g (lw_at lw_ms 53 rfl) rfl
theorem qs54 : (Cond.selects "DialectdepotModel" ⟨"DialectdepotModel", "choice", "(I)I"⟩ ⟨"DialectdepotModel", "choice", "(I)I"⟩) ∈ lw_all := lw_g (lw_at lw_ms 54 rfl) rfl
theorem qs55 : (Cond.selects "DialectdepotModel" ⟨"DialectdepotModel", "tries", "(III)I"⟩ ⟨"DialectdepotModel", "tries", "(III)I"⟩) ∈ lw_all := lw_g (lw_at lw_ms 55 rfl) rfl
theorem qs56 : (Cond.selects "DialectdepotModel" ⟨"DialectdepotModel", "arrives", "(III)V"⟩ ⟨"DialectdepotModel", "arrives", "(III)V"⟩) ∈ lw_all := lw_g (lw_at lw_ms 56 rfl) rfl
theorem qs57 : (Cond.selects "DialectdepotModel" ⟨"DialectdepotModel", "comesBack", "(III)V"⟩ ⟨"DialectdepotModel", "comesBack", "(III)V"⟩) ∈ lw_all := lw_g (lw_at lw_ms 57 rfl) rfl
theorem qs58 : (Cond.selects "DialectdepotModel" ⟨"DialectdepotModel", "givesUp", "(I)V"⟩ ⟨"DialectdepotModel", "givesUp", "(I)V"⟩) ∈ lw_all := lw_g (lw_at lw_ms 58 rfl) rfl
theorem qs59 : (Cond.selects "DialectdepotModel" ⟨"DialectdepotModel", "rules", "(I)V"⟩ ⟨"DialectdepotModel", "rules", "(I)V"⟩) ∈ lw_all := lw_g (lw_at lw_ms 59 rfl) rfl
theorem qs60 : (Cond.selects "DialectdepotModel" ⟨"DialectdepotModel", "evidenceOf", "(II)I"⟩ ⟨"DialectdepotModel", "evidenceOf", "(II)I"⟩) ∈ lw_all := lw_g (lw_at lw_ms 60 rfl) rfl
theorem qs61 : (Cond.selects "DialectdepotModel" ⟨"DialectdepotModel", "fades", "()V"⟩ ⟨"DialectdepotModel", "fades", "()V"⟩) ∈ lw_all := lw_g (lw_at lw_ms 61 rfl) rfl
theorem qs62 : (Cond.selects "DialectdepotModel" ⟨"DialectdepotModel", "noAttempt", "(I)Z"⟩ ⟨"DialectdepotModel", "noAttempt", "(I)Z"⟩) ∈ lw_all := lw_g (lw_at lw_ms 62 rfl) rfl
theorem qs63 : (Cond.selects "DialectdepotModel" ⟨"DialectdepotModel", "disputes", "(I)V"⟩ ⟨"DialectdepotModel", "disputes", "(I)V"⟩) ∈ lw_all := lw_g (lw_at lw_ms 63 rfl) rfl
theorem qs64 : (Cond.selects "DialectdepotModel" ⟨"DialectdepotModel", "otherStreet", "(II)I"⟩ ⟨"DialectdepotModel", "otherStreet", "(II)I"⟩) ∈ lw_all := lw_g (lw_at lw_ms 64 rfl) rfl
