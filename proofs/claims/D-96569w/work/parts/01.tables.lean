-- ===== PART A: goes FIRST, ahead of the names: the tables' words, and 'selects' of the private methods out of them =====
/-- a private method of a class that the tables say can be made, by its rows of tables_1 -/
def lw_okq (q : MethodName × Nat) : Prop := (q.1.cls ≠ "java/lang/invoke/MethodHandle" ∧ q.1.cls ≠ "java/lang/invoke/VarHandle") ∧ Cond.instantiable q.1.cls q.2 ∈ tables_1 ∧ Cond.privateMethod q.1 ∈ tables_1 ∧ Cond.instanceMethod q.1 ∈ tables_1
set_option maxRecDepth 100000
theorem lw_t1 {w : Cond} (h : w ∈ tables_1_1) : w ∈ tables_1 := List.mem_append_left _ h
theorem lw_t2 {w : Cond} (h : w ∈ tables_1_2) : w ∈ tables_1 := List.mem_append_right _ (List.mem_append_left _ h)
theorem lw_t3 {w : Cond} (h : w ∈ tables_1_3) : w ∈ tables_1 := List.mem_append_right _ (List.mem_append_right _ (List.mem_append_left _ h))
theorem lw_t4 {w : Cond} (h : w ∈ tables_1_4) : w ∈ tables_1 := List.mem_append_right _ (List.mem_append_right _ (List.mem_append_right _ (List.mem_append_left _ h)))
theorem lw_t5 {w : Cond} (h : w ∈ tables_1_5) : w ∈ tables_1 := List.mem_append_right _ (List.mem_append_right _ (List.mem_append_right _ (List.mem_append_right _ (List.mem_append_left _ h))))
theorem lw_t6 {w : Cond} (h : w ∈ tables_1_6) : w ∈ tables_1 := List.mem_append_right _ (List.mem_append_right _ (List.mem_append_right _ (List.mem_append_right _ (List.mem_append_right _ (List.mem_append_left _ h)))))
theorem lw_t7 {w : Cond} (h : w ∈ tables_1_7) : w ∈ tables_1 := List.mem_append_right _ (List.mem_append_right _ (List.mem_append_right _ (List.mem_append_right _ (List.mem_append_right _ (List.mem_append_right _ (List.mem_append_left _ h))))))
theorem lw_t8 {w : Cond} (h : w ∈ tables_1_8) : w ∈ tables_1 := List.mem_append_right _ (List.mem_append_right _ (List.mem_append_right _ (List.mem_append_right _ (List.mem_append_right _ (List.mem_append_right _ (List.mem_append_right _ h))))))
theorem lw_p0 : lw_okq (⟨"BulbInAStaff", "isSo", "(III)Z"⟩, 31) := ⟨⟨by decide +kernel, by decide +kernel⟩, lw_t1 (List.mem_of_getElem? (i := 132) rfl), lw_t1 (List.mem_of_getElem? (i := 130) rfl), lw_t1 (List.mem_of_getElem? (i := 131) rfl)⟩
theorem lw_p1 : lw_okq (⟨"BulbInAStaff", "isPlant", "(I)Z"⟩, 31) := ⟨⟨by decide +kernel, by decide +kernel⟩, lw_t1 (List.mem_of_getElem? (i := 132) rfl), lw_t1 (List.mem_of_getElem? (i := 136) rfl), lw_t1 (List.mem_of_getElem? (i := 137) rfl)⟩
theorem lw_p2 : lw_okq (⟨"BulbInAStaff", "toldOf", "(II)I"⟩, 31) := ⟨⟨by decide +kernel, by decide +kernel⟩, lw_t1 (List.mem_of_getElem? (i := 132) rfl), lw_t1 (List.mem_of_getElem? (i := 147) rfl), lw_t1 (List.mem_of_getElem? (i := 148) rfl)⟩
theorem lw_p3 : lw_okq (⟨"BulbInAStaff", "rotsOf", "(I)I"⟩, 31) := ⟨⟨by decide +kernel, by decide +kernel⟩, lw_t1 (List.mem_of_getElem? (i := 132) rfl), lw_t1 (List.mem_of_getElem? (i := 176) rfl), lw_t1 (List.mem_of_getElem? (i := 177) rfl)⟩
theorem lw_p4 : lw_okq (⟨"BulbInAStaff", "asks", "(II)I"⟩, 31) := ⟨⟨by decide +kernel, by decide +kernel⟩, lw_t1 (List.mem_of_getElem? (i := 132) rfl), lw_t1 (List.mem_of_getElem? (i := 180) rfl), lw_t1 (List.mem_of_getElem? (i := 181) rfl)⟩
theorem lw_p5 : lw_okq (⟨"BulbInAStaff", "becomes", "(III)V"⟩, 31) := ⟨⟨by decide +kernel, by decide +kernel⟩, lw_t1 (List.mem_of_getElem? (i := 132) rfl), lw_t2 (List.mem_of_getElem? (i := 69) rfl), lw_t2 (List.mem_of_getElem? (i := 70) rfl)⟩
theorem lw_p6 : lw_okq (⟨"BulbInAStaff", "newText", "()I"⟩, 31) := ⟨⟨by decide +kernel, by decide +kernel⟩, lw_t1 (List.mem_of_getElem? (i := 132) rfl), lw_t2 (List.mem_of_getElem? (i := 83) rfl), lw_t2 (List.mem_of_getElem? (i := 84) rfl)⟩
theorem lw_p7 : lw_okq (⟨"BulbInAStaff", "next", "()V"⟩, 31) := ⟨⟨by decide +kernel, by decide +kernel⟩, lw_t1 (List.mem_of_getElem? (i := 132) rfl), lw_t2 (List.mem_of_getElem? (i := 90) rfl), lw_t2 (List.mem_of_getElem? (i := 91) rfl)⟩
theorem lw_p8 : lw_okq (⟨"BulbInAStaff", "byteAt", "(I)I"⟩, 31) := ⟨⟨by decide +kernel, by decide +kernel⟩, lw_t1 (List.mem_of_getElem? (i := 132) rfl), lw_t2 (List.mem_of_getElem? (i := 94) rfl), lw_t2 (List.mem_of_getElem? (i := 95) rfl)⟩
theorem lw_p9 : lw_okq (⟨"BulbInAStaff", "word", "()V"⟩, 31) := ⟨⟨by decide +kernel, by decide +kernel⟩, lw_t1 (List.mem_of_getElem? (i := 132) rfl), lw_t2 (List.mem_of_getElem? (i := 103) rfl), lw_t2 (List.mem_of_getElem? (i := 104) rfl)⟩
theorem lw_p10 : lw_okq (⟨"BulbInAStaff", "placeIn", "([Ljava/lang/String;)I"⟩, 31) := ⟨⟨by decide +kernel, by decide +kernel⟩, lw_t1 (List.mem_of_getElem? (i := 132) rfl), lw_t2 (List.mem_of_getElem? (i := 107) rfl), lw_t2 (List.mem_of_getElem? (i := 108) rfl)⟩
theorem lw_p11 : lw_okq (⟨"BulbInAStaff", "digits", "()V"⟩, 31) := ⟨⟨by decide +kernel, by decide +kernel⟩, lw_t1 (List.mem_of_getElem? (i := 132) rfl), lw_t2 (List.mem_of_getElem? (i := 164) rfl), lw_t2 (List.mem_of_getElem? (i := 165) rfl)⟩
theorem lw_p12 : lw_okq (⟨"BulbInAStaff", "isKey", "(I)Z"⟩, 31) := ⟨⟨by decide +kernel, by decide +kernel⟩, lw_t1 (List.mem_of_getElem? (i := 132) rfl), lw_t2 (List.mem_of_getElem? (i := 224) rfl), lw_t2 (List.mem_of_getElem? (i := 225) rfl)⟩
theorem lw_p13 : lw_okq (⟨"BulbInAStaff", "need", "(Z)V"⟩, 31) := ⟨⟨by decide +kernel, by decide +kernel⟩, lw_t1 (List.mem_of_getElem? (i := 132) rfl), lw_t2 (List.mem_of_getElem? (i := 228) rfl), lw_t2 (List.mem_of_getElem? (i := 229) rfl)⟩
theorem lw_p14 : lw_okq (⟨"BulbInAStaff", "either", "()LBulbInAStaff$Node;"⟩, 31) := ⟨⟨by decide +kernel, by decide +kernel⟩, lw_t1 (List.mem_of_getElem? (i := 132) rfl), lw_t2 (List.mem_of_getElem? (i := 232) rfl), lw_t2 (List.mem_of_getElem? (i := 233) rfl)⟩
theorem lw_p15 : lw_okq (⟨"BulbInAStaff", "both", "()LBulbInAStaff$Node;"⟩, 31) := ⟨⟨by decide +kernel, by decide +kernel⟩, lw_t1 (List.mem_of_getElem? (i := 132) rfl), lw_t2 (List.mem_of_getElem? (i := 236) rfl), lw_t2 (List.mem_of_getElem? (i := 237) rfl)⟩
def lw_privs_1 : List (MethodName × Nat) := [(⟨"BulbInAStaff", "isSo", "(III)Z"⟩, 31), (⟨"BulbInAStaff", "isPlant", "(I)Z"⟩, 31), (⟨"BulbInAStaff", "toldOf", "(II)I"⟩, 31), (⟨"BulbInAStaff", "rotsOf", "(I)I"⟩, 31), (⟨"BulbInAStaff", "asks", "(II)I"⟩, 31), (⟨"BulbInAStaff", "becomes", "(III)V"⟩, 31), (⟨"BulbInAStaff", "newText", "()I"⟩, 31), (⟨"BulbInAStaff", "next", "()V"⟩, 31), (⟨"BulbInAStaff", "byteAt", "(I)I"⟩, 31), (⟨"BulbInAStaff", "word", "()V"⟩, 31), (⟨"BulbInAStaff", "placeIn", "([Ljava/lang/String;)I"⟩, 31), (⟨"BulbInAStaff", "digits", "()V"⟩, 31), (⟨"BulbInAStaff", "isKey", "(I)Z"⟩, 31), (⟨"BulbInAStaff", "need", "(Z)V"⟩, 31), (⟨"BulbInAStaff", "either", "()LBulbInAStaff$Node;"⟩, 31), (⟨"BulbInAStaff", "both", "()LBulbInAStaff$Node;"⟩, 31)]
theorem lw_r1 : ∀ q ∈ lw_privs_1, lw_okq q := List.forall_mem_cons.mpr ⟨lw_p0, List.forall_mem_cons.mpr ⟨lw_p1, List.forall_mem_cons.mpr ⟨lw_p2, List.forall_mem_cons.mpr ⟨lw_p3, List.forall_mem_cons.mpr ⟨lw_p4, List.forall_mem_cons.mpr ⟨lw_p5, List.forall_mem_cons.mpr ⟨lw_p6, List.forall_mem_cons.mpr ⟨lw_p7, List.forall_mem_cons.mpr ⟨lw_p8, List.forall_mem_cons.mpr ⟨lw_p9, List.forall_mem_cons.mpr ⟨lw_p10, List.forall_mem_cons.mpr ⟨lw_p11, List.forall_mem_cons.mpr ⟨lw_p12, List.forall_mem_cons.mpr ⟨lw_p13, List.forall_mem_cons.mpr ⟨lw_p14, List.forall_mem_cons.mpr ⟨lw_p15, fun _ h => absurd h List.not_mem_nil⟩⟩⟩⟩⟩⟩⟩⟩⟩⟩⟩⟩⟩⟩⟩⟩
theorem lw_p16 : lw_okq (⟨"BulbInAStaff", "not", "()LBulbInAStaff$Node;"⟩, 31) := ⟨⟨by decide +kernel, by decide +kernel⟩, lw_t1 (List.mem_of_getElem? (i := 132) rfl), lw_t3 (List.mem_of_getElem? (i := 0) rfl), lw_t3 (List.mem_of_getElem? (i := 1) rfl)⟩
theorem lw_p17 : lw_okq (⟨"BulbInAStaff", "openOne", "()V"⟩, 31) := ⟨⟨by decide +kernel, by decide +kernel⟩, lw_t1 (List.mem_of_getElem? (i := 132) rfl), lw_t3 (List.mem_of_getElem? (i := 4) rfl), lw_t3 (List.mem_of_getElem? (i := 5) rfl)⟩
theorem lw_p18 : lw_okq (⟨"BulbInAStaff", "plus", "()LBulbInAStaff$Node;"⟩, 31) := ⟨⟨by decide +kernel, by decide +kernel⟩, lw_t1 (List.mem_of_getElem? (i := 132) rfl), lw_t3 (List.mem_of_getElem? (i := 25) rfl), lw_t3 (List.mem_of_getElem? (i := 26) rfl)⟩
theorem lw_p19 : lw_okq (⟨"BulbInAStaff", "times", "()LBulbInAStaff$Node;"⟩, 31) := ⟨⟨by decide +kernel, by decide +kernel⟩, lw_t1 (List.mem_of_getElem? (i := 132) rfl), lw_t3 (List.mem_of_getElem? (i := 29) rfl), lw_t3 (List.mem_of_getElem? (i := 30) rfl)⟩
theorem lw_p20 : lw_okq (⟨"BulbInAStaff", "one", "()LBulbInAStaff$Node;"⟩, 31) := ⟨⟨by decide +kernel, by decide +kernel⟩, lw_t1 (List.mem_of_getElem? (i := 132) rfl), lw_t3 (List.mem_of_getElem? (i := 33) rfl), lw_t3 (List.mem_of_getElem? (i := 34) rfl)⟩
theorem lw_p21 : lw_okq (⟨"BulbInAStaff", "isSign", "(I)Z"⟩, 31) := ⟨⟨by decide +kernel, by decide +kernel⟩, lw_t1 (List.mem_of_getElem? (i := 132) rfl), lw_t3 (List.mem_of_getElem? (i := 60) rfl), lw_t3 (List.mem_of_getElem? (i := 61) rfl)⟩
theorem lw_p22 : lw_okq (⟨"java/lang/NullPointerException", "getExtendedNPEMessage", "()Ljava/lang/String;"⟩, 8) := ⟨⟨by decide +kernel, by decide +kernel⟩, lw_t3 (List.mem_of_getElem? (i := 127) rfl), lw_t3 (List.mem_of_getElem? (i := 125) rfl), lw_t3 (List.mem_of_getElem? (i := 126) rfl)⟩
theorem lw_p23 : lw_okq (⟨"java/lang/Throwable", "fillInStackTrace", "(I)Ljava/lang/Throwable;"⟩, 6) := ⟨⟨by decide +kernel, by decide +kernel⟩, lw_t3 (List.mem_of_getElem? (i := 139) rfl), lw_t3 (List.mem_of_getElem? (i := 137) rfl), lw_t3 (List.mem_of_getElem? (i := 138) rfl)⟩
theorem lw_p24 : lw_okq (⟨"BulbInAStaff", "firstText", "(Ljava/lang/String;)V"⟩, 31) := ⟨⟨by decide +kernel, by decide +kernel⟩, lw_t1 (List.mem_of_getElem? (i := 132) rfl), lw_t3 (List.mem_of_getElem? (i := 198) rfl), lw_t3 (List.mem_of_getElem? (i := 199) rfl)⟩
theorem lw_p25 : lw_okq (⟨"BulbInAStaff", "isText", "(I)Z"⟩, 31) := ⟨⟨by decide +kernel, by decide +kernel⟩, lw_t1 (List.mem_of_getElem? (i := 132) rfl), lw_t4 (List.mem_of_getElem? (i := 65) rfl), lw_t4 (List.mem_of_getElem? (i := 66) rfl)⟩
theorem lw_p26 : lw_okq (⟨"BulbInAStaff", "worthOf", "(I)I"⟩, 31) := ⟨⟨by decide +kernel, by decide +kernel⟩, lw_t1 (List.mem_of_getElem? (i := 132) rfl), lw_t4 (List.mem_of_getElem? (i := 77) rfl), lw_t4 (List.mem_of_getElem? (i := 78) rfl)⟩
theorem lw_p27 : lw_okq (⟨"BulbInAStaff", "yearOf", "()V"⟩, 31) := ⟨⟨by decide +kernel, by decide +kernel⟩, lw_t1 (List.mem_of_getElem? (i := 132) rfl), lw_t4 (List.mem_of_getElem? (i := 86) rfl), lw_t4 (List.mem_of_getElem? (i := 87) rfl)⟩
theorem lw_p28 : lw_okq (⟨"BulbInAStaff", "all", "()I"⟩, 31) := ⟨⟨by decide +kernel, by decide +kernel⟩, lw_t1 (List.mem_of_getElem? (i := 132) rfl), lw_t4 (List.mem_of_getElem? (i := 90) rfl), lw_t4 (List.mem_of_getElem? (i := 91) rfl)⟩
theorem lw_p29 : lw_okq (⟨"BulbInAStaff", "runs", "(I)V"⟩, 31) := ⟨⟨by decide +kernel, by decide +kernel⟩, lw_t1 (List.mem_of_getElem? (i := 132) rfl), lw_t4 (List.mem_of_getElem? (i := 103) rfl), lw_t4 (List.mem_of_getElem? (i := 104) rfl)⟩
theorem lw_p30 : lw_okq (⟨"BulbInAStaff", "keeps", "()V"⟩, 31) := ⟨⟨by decide +kernel, by decide +kernel⟩, lw_t1 (List.mem_of_getElem? (i := 132) rfl), lw_t4 (List.mem_of_getElem? (i := 107) rfl), lw_t4 (List.mem_of_getElem? (i := 108) rfl)⟩
theorem lw_p31 : lw_okq (⟨"BulbInAStaff", "tellsBehind", "(I)V"⟩, 31) := ⟨⟨by decide +kernel, by decide +kernel⟩, lw_t1 (List.mem_of_getElem? (i := 132) rfl), lw_t4 (List.mem_of_getElem? (i := 111) rfl), lw_t4 (List.mem_of_getElem? (i := 112) rfl)⟩
def lw_privs_2 : List (MethodName × Nat) := [(⟨"BulbInAStaff", "not", "()LBulbInAStaff$Node;"⟩, 31), (⟨"BulbInAStaff", "openOne", "()V"⟩, 31), (⟨"BulbInAStaff", "plus", "()LBulbInAStaff$Node;"⟩, 31), (⟨"BulbInAStaff", "times", "()LBulbInAStaff$Node;"⟩, 31), (⟨"BulbInAStaff", "one", "()LBulbInAStaff$Node;"⟩, 31), (⟨"BulbInAStaff", "isSign", "(I)Z"⟩, 31), (⟨"java/lang/NullPointerException", "getExtendedNPEMessage", "()Ljava/lang/String;"⟩, 8), (⟨"java/lang/Throwable", "fillInStackTrace", "(I)Ljava/lang/Throwable;"⟩, 6), (⟨"BulbInAStaff", "firstText", "(Ljava/lang/String;)V"⟩, 31), (⟨"BulbInAStaff", "isText", "(I)Z"⟩, 31), (⟨"BulbInAStaff", "worthOf", "(I)I"⟩, 31), (⟨"BulbInAStaff", "yearOf", "()V"⟩, 31), (⟨"BulbInAStaff", "all", "()I"⟩, 31), (⟨"BulbInAStaff", "runs", "(I)V"⟩, 31), (⟨"BulbInAStaff", "keeps", "()V"⟩, 31), (⟨"BulbInAStaff", "tellsBehind", "(I)V"⟩, 31)]
theorem lw_r2 : ∀ q ∈ lw_privs_2, lw_okq q := List.forall_mem_cons.mpr ⟨lw_p16, List.forall_mem_cons.mpr ⟨lw_p17, List.forall_mem_cons.mpr ⟨lw_p18, List.forall_mem_cons.mpr ⟨lw_p19, List.forall_mem_cons.mpr ⟨lw_p20, List.forall_mem_cons.mpr ⟨lw_p21, List.forall_mem_cons.mpr ⟨lw_p22, List.forall_mem_cons.mpr ⟨lw_p23, List.forall_mem_cons.mpr ⟨lw_p24, List.forall_mem_cons.mpr ⟨lw_p25, List.forall_mem_cons.mpr ⟨lw_p26, List.forall_mem_cons.mpr ⟨lw_p27, List.forall_mem_cons.mpr ⟨lw_p28, List.forall_mem_cons.mpr ⟨lw_p29, List.forall_mem_cons.mpr ⟨lw_p30, List.forall_mem_cons.mpr ⟨lw_p31, fun _ h => absurd h List.not_mem_nil⟩⟩⟩⟩⟩⟩⟩⟩⟩⟩⟩⟩⟩⟩⟩⟩
theorem lw_p32 : lw_okq (⟨"BulbInAStaff", "bloom", "()I"⟩, 31) := ⟨⟨by decide +kernel, by decide +kernel⟩, lw_t1 (List.mem_of_getElem? (i := 132) rfl), lw_t4 (List.mem_of_getElem? (i := 115) rfl), lw_t4 (List.mem_of_getElem? (i := 116) rfl)⟩
theorem lw_p33 : lw_okq (⟨"BulbInAStaff", "laysBack", "(I)V"⟩, 31) := ⟨⟨by decide +kernel, by decide +kernel⟩, lw_t1 (List.mem_of_getElem? (i := 132) rfl), lw_t4 (List.mem_of_getElem? (i := 119) rfl), lw_t4 (List.mem_of_getElem? (i := 120) rfl)⟩
theorem lw_p34 : lw_okq (⟨"BulbInAStaff", "toldRun", "(II)I"⟩, 31) := ⟨⟨by decide +kernel, by decide +kernel⟩, lw_t1 (List.mem_of_getElem? (i := 132) rfl), lw_t4 (List.mem_of_getElem? (i := 123) rfl), lw_t4 (List.mem_of_getElem? (i := 124) rfl)⟩
theorem lw_p35 : lw_okq (⟨"BulbInAStaff", "notFound", "(II)J"⟩, 31) := ⟨⟨by decide +kernel, by decide +kernel⟩, lw_t1 (List.mem_of_getElem? (i := 132) rfl), lw_t4 (List.mem_of_getElem? (i := 139) rfl), lw_t4 (List.mem_of_getElem? (i := 140) rfl)⟩
theorem lw_p36 : lw_okq (⟨"BulbInAStaff", "manyBy", "(IIII)I"⟩, 31) := ⟨⟨by decide +kernel, by decide +kernel⟩, lw_t1 (List.mem_of_getElem? (i := 132) rfl), lw_t4 (List.mem_of_getElem? (i := 150) rfl), lw_t4 (List.mem_of_getElem? (i := 151) rfl)⟩
theorem lw_p37 : lw_okq (⟨"BulbInAStaff", "isLeft", "(LBulbInAStaff$Bulb;I)Z"⟩, 31) := ⟨⟨by decide +kernel, by decide +kernel⟩, lw_t1 (List.mem_of_getElem? (i := 132) rfl), lw_t4 (List.mem_of_getElem? (i := 159) rfl), lw_t4 (List.mem_of_getElem? (i := 160) rfl)⟩
theorem lw_p38 : lw_okq (⟨"BulbInAStaff", "otherwise", "(Ljava/lang/Object;I)I"⟩, 31) := ⟨⟨by decide +kernel, by decide +kernel⟩, lw_t1 (List.mem_of_getElem? (i := 132) rfl), lw_t4 (List.mem_of_getElem? (i := 196) rfl), lw_t4 (List.mem_of_getElem? (i := 197) rfl)⟩
theorem lw_p39 : lw_okq (⟨"BulbInAStaff", "kindsOf", "(Ljava/lang/Object;I)I"⟩, 31) := ⟨⟨by decide +kernel, by decide +kernel⟩, lw_t1 (List.mem_of_getElem? (i := 132) rfl), lw_t4 (List.mem_of_getElem? (i := 227) rfl), lw_t4 (List.mem_of_getElem? (i := 228) rfl)⟩
theorem lw_p40 : lw_okq (⟨"BulbInAStaff", "isSoAs", "(Ljava/lang/Object;II)Z"⟩, 31) := ⟨⟨by decide +kernel, by decide +kernel⟩, lw_t1 (List.mem_of_getElem? (i := 132) rfl), lw_t4 (List.mem_of_getElem? (i := 231) rfl), lw_t4 (List.mem_of_getElem? (i := 232) rfl)⟩
theorem lw_p41 : lw_okq (⟨"BulbInAStaff", "setBy", "(Ljava/lang/Object;III)I"⟩, 31) := ⟨⟨by decide +kernel, by decide +kernel⟩, lw_t1 (List.mem_of_getElem? (i := 132) rfl), lw_t5 (List.mem_of_getElem? (i := 5) rfl), lw_t5 (List.mem_of_getElem? (i := 6) rfl)⟩
theorem lw_p42 : lw_okq (⟨"BulbInAStaff", "isSoBy", "(Ljava/lang/Object;III)Z"⟩, 31) := ⟨⟨by decide +kernel, by decide +kernel⟩, lw_t1 (List.mem_of_getElem? (i := 132) rfl), lw_t5 (List.mem_of_getElem? (i := 9) rfl), lw_t5 (List.mem_of_getElem? (i := 10) rfl)⟩
theorem lw_p43 : lw_okq (⟨"BulbInAStaff", "bulbsBy", "(Ljava/lang/Object;IZ)I"⟩, 31) := ⟨⟨by decide +kernel, by decide +kernel⟩, lw_t1 (List.mem_of_getElem? (i := 132) rfl), lw_t5 (List.mem_of_getElem? (i := 13) rfl), lw_t5 (List.mem_of_getElem? (i := 14) rfl)⟩
theorem lw_p44 : lw_okq (⟨"BulbInAStaff", "textsOf", "(Ljava/lang/Object;I)I"⟩, 31) := ⟨⟨by decide +kernel, by decide +kernel⟩, lw_t1 (List.mem_of_getElem? (i := 132) rfl), lw_t5 (List.mem_of_getElem? (i := 17) rfl), lw_t5 (List.mem_of_getElem? (i := 18) rfl)⟩
theorem lw_p45 : lw_okq (⟨"BulbInAStaff", "allDrawn", "(II)I"⟩, 31) := ⟨⟨by decide +kernel, by decide +kernel⟩, lw_t1 (List.mem_of_getElem? (i := 132) rfl), lw_t5 (List.mem_of_getElem? (i := 109) rfl), lw_t5 (List.mem_of_getElem? (i := 110) rfl)⟩
theorem lw_p46 : lw_okq (⟨"BulbInAStaff", "came", "(Ljava/lang/Object;III)I"⟩, 31) := ⟨⟨by decide +kernel, by decide +kernel⟩, lw_t1 (List.mem_of_getElem? (i := 132) rfl), lw_t5 (List.mem_of_getElem? (i := 158) rfl), lw_t5 (List.mem_of_getElem? (i := 159) rfl)⟩
theorem lw_p47 : lw_okq (⟨"BulbInAStaffModel", "spell", "(IIIIIIIII)V"⟩, 42) := ⟨⟨by decide +kernel, by decide +kernel⟩, lw_t5 (List.mem_of_getElem? (i := 170) rfl), lw_t5 (List.mem_of_getElem? (i := 176) rfl), lw_t5 (List.mem_of_getElem? (i := 177) rfl)⟩
def lw_privs_3 : List (MethodName × Nat) := [(⟨"BulbInAStaff", "bloom", "()I"⟩, 31), (⟨"BulbInAStaff", "laysBack", "(I)V"⟩, 31), (⟨"BulbInAStaff", "toldRun", "(II)I"⟩, 31), (⟨"BulbInAStaff", "notFound", "(II)J"⟩, 31), (⟨"BulbInAStaff", "manyBy", "(IIII)I"⟩, 31), (⟨"BulbInAStaff", "isLeft", "(LBulbInAStaff$Bulb;I)Z"⟩, 31), (⟨"BulbInAStaff", "otherwise", "(Ljava/lang/Object;I)I"⟩, 31), (⟨"BulbInAStaff", "kindsOf", "(Ljava/lang/Object;I)I"⟩, 31), (⟨"BulbInAStaff", "isSoAs", "(Ljava/lang/Object;II)Z"⟩, 31), (⟨"BulbInAStaff", "setBy", "(Ljava/lang/Object;III)I"⟩, 31), (⟨"BulbInAStaff", "isSoBy", "(Ljava/lang/Object;III)Z"⟩, 31), (⟨"BulbInAStaff", "bulbsBy", "(Ljava/lang/Object;IZ)I"⟩, 31), (⟨"BulbInAStaff", "textsOf", "(Ljava/lang/Object;I)I"⟩, 31), (⟨"BulbInAStaff", "allDrawn", "(II)I"⟩, 31), (⟨"BulbInAStaff", "came", "(Ljava/lang/Object;III)I"⟩, 31), (⟨"BulbInAStaffModel", "spell", "(IIIIIIIII)V"⟩, 42)]
theorem lw_r3 : ∀ q ∈ lw_privs_3, lw_okq q := List.forall_mem_cons.mpr ⟨lw_p32, List.forall_mem_cons.mpr ⟨lw_p33, List.forall_mem_cons.mpr ⟨lw_p34, List.forall_mem_cons.mpr ⟨lw_p35, List.forall_mem_cons.mpr ⟨lw_p36, List.forall_mem_cons.mpr ⟨lw_p37, List.forall_mem_cons.mpr ⟨lw_p38, List.forall_mem_cons.mpr ⟨lw_p39, List.forall_mem_cons.mpr ⟨lw_p40, List.forall_mem_cons.mpr ⟨lw_p41, List.forall_mem_cons.mpr ⟨lw_p42, List.forall_mem_cons.mpr ⟨lw_p43, List.forall_mem_cons.mpr ⟨lw_p44, List.forall_mem_cons.mpr ⟨lw_p45, List.forall_mem_cons.mpr ⟨lw_p46, List.forall_mem_cons.mpr ⟨lw_p47, fun _ h => absurd h List.not_mem_nil⟩⟩⟩⟩⟩⟩⟩⟩⟩⟩⟩⟩⟩⟩⟩⟩
theorem lw_p48 : lw_okq (⟨"BulbInAStaffModel", "isOf", "(II)Z"⟩, 42) := ⟨⟨by decide +kernel, by decide +kernel⟩, lw_t5 (List.mem_of_getElem? (i := 170) rfl), lw_t6 (List.mem_of_getElem? (i := 75) rfl), lw_t6 (List.mem_of_getElem? (i := 76) rfl)⟩
theorem lw_p49 : lw_okq (⟨"BulbInAStaffModel", "isPlanting", "(I)Z"⟩, 42) := ⟨⟨by decide +kernel, by decide +kernel⟩, lw_t5 (List.mem_of_getElem? (i := 170) rfl), lw_t6 (List.mem_of_getElem? (i := 83) rfl), lw_t6 (List.mem_of_getElem? (i := 84) rfl)⟩
theorem lw_p50 : lw_okq (⟨"BulbInAStaffModel", "rotsOf", "(I)I"⟩, 42) := ⟨⟨by decide +kernel, by decide +kernel⟩, lw_t5 (List.mem_of_getElem? (i := 170) rfl), lw_t6 (List.mem_of_getElem? (i := 95) rfl), lw_t6 (List.mem_of_getElem? (i := 96) rfl)⟩
theorem lw_p51 : lw_okq (⟨"BulbInAStaffModel", "says", "(II)I"⟩, 42) := ⟨⟨by decide +kernel, by decide +kernel⟩, lw_t5 (List.mem_of_getElem? (i := 170) rfl), lw_t6 (List.mem_of_getElem? (i := 99) rfl), lw_t6 (List.mem_of_getElem? (i := 100) rfl)⟩
theorem lw_p52 : lw_okq (⟨"BulbInAStaffModel", "read", "(II)I"⟩, 42) := ⟨⟨by decide +kernel, by decide +kernel⟩, lw_t5 (List.mem_of_getElem? (i := 170) rfl), lw_t6 (List.mem_of_getElem? (i := 103) rfl), lw_t6 (List.mem_of_getElem? (i := 104) rfl)⟩
theorem lw_p53 : lw_okq (⟨"BulbInAStaffModel", "next", "()V"⟩, 42) := ⟨⟨by decide +kernel, by decide +kernel⟩, lw_t5 (List.mem_of_getElem? (i := 170) rfl), lw_t6 (List.mem_of_getElem? (i := 107) rfl), lw_t6 (List.mem_of_getElem? (i := 108) rfl)⟩
theorem lw_p54 : lw_okq (⟨"BulbInAStaffModel", "byteAt", "(I)I"⟩, 42) := ⟨⟨by decide +kernel, by decide +kernel⟩, lw_t5 (List.mem_of_getElem? (i := 170) rfl), lw_t6 (List.mem_of_getElem? (i := 111) rfl), lw_t6 (List.mem_of_getElem? (i := 112) rfl)⟩
theorem lw_p55 : lw_okq (⟨"BulbInAStaffModel", "isWord", "(IIIIIIII)Z"⟩, 42) := ⟨⟨by decide +kernel, by decide +kernel⟩, lw_t5 (List.mem_of_getElem? (i := 170) rfl), lw_t6 (List.mem_of_getElem? (i := 119) rfl), lw_t6 (List.mem_of_getElem? (i := 120) rfl)⟩
theorem lw_p56 : lw_okq (⟨"BulbInAStaffModel", "isLetter", "(II)Z"⟩, 42) := ⟨⟨by decide +kernel, by decide +kernel⟩, lw_t5 (List.mem_of_getElem? (i := 170) rfl), lw_t6 (List.mem_of_getElem? (i := 123) rfl), lw_t6 (List.mem_of_getElem? (i := 124) rfl)⟩
theorem lw_p57 : lw_okq (⟨"BulbInAStaffModel", "part", "(Z)I"⟩, 42) := ⟨⟨by decide +kernel, by decide +kernel⟩, lw_t5 (List.mem_of_getElem? (i := 170) rfl), lw_t6 (List.mem_of_getElem? (i := 127) rfl), lw_t6 (List.mem_of_getElem? (i := 128) rfl)⟩
theorem lw_p58 : lw_okq (⟨"BulbInAStaffModel", "fail", "()V"⟩, 42) := ⟨⟨by decide +kernel, by decide +kernel⟩, lw_t5 (List.mem_of_getElem? (i := 170) rfl), lw_t6 (List.mem_of_getElem? (i := 131) rfl), lw_t6 (List.mem_of_getElem? (i := 132) rfl)⟩
theorem lw_p59 : lw_okq (⟨"BulbInAStaffModel", "either0", "()I"⟩, 42) := ⟨⟨by decide +kernel, by decide +kernel⟩, lw_t5 (List.mem_of_getElem? (i := 170) rfl), lw_t6 (List.mem_of_getElem? (i := 135) rfl), lw_t6 (List.mem_of_getElem? (i := 136) rfl)⟩
theorem lw_p60 : lw_okq (⟨"BulbInAStaffModel", "both0", "()I"⟩, 42) := ⟨⟨by decide +kernel, by decide +kernel⟩, lw_t5 (List.mem_of_getElem? (i := 170) rfl), lw_t6 (List.mem_of_getElem? (i := 139) rfl), lw_t6 (List.mem_of_getElem? (i := 140) rfl)⟩
theorem lw_p61 : lw_okq (⟨"BulbInAStaffModel", "not0", "()I"⟩, 42) := ⟨⟨by decide +kernel, by decide +kernel⟩, lw_t5 (List.mem_of_getElem? (i := 170) rfl), lw_t6 (List.mem_of_getElem? (i := 143) rfl), lw_t6 (List.mem_of_getElem? (i := 144) rfl)⟩
theorem lw_p62 : lw_okq (⟨"BulbInAStaffModel", "opens", "()Z"⟩, 42) := ⟨⟨by decide +kernel, by decide +kernel⟩, lw_t5 (List.mem_of_getElem? (i := 170) rfl), lw_t6 (List.mem_of_getElem? (i := 147) rfl), lw_t6 (List.mem_of_getElem? (i := 148) rfl)⟩
theorem lw_p63 : lw_okq (⟨"BulbInAStaffModel", "not1", "()I"⟩, 42) := ⟨⟨by decide +kernel, by decide +kernel⟩, lw_t5 (List.mem_of_getElem? (i := 170) rfl), lw_t6 (List.mem_of_getElem? (i := 151) rfl), lw_t6 (List.mem_of_getElem? (i := 152) rfl)⟩
def lw_privs_4 : List (MethodName × Nat) := [(⟨"BulbInAStaffModel", "isOf", "(II)Z"⟩, 42), (⟨"BulbInAStaffModel", "isPlanting", "(I)Z"⟩, 42), (⟨"BulbInAStaffModel", "rotsOf", "(I)I"⟩, 42), (⟨"BulbInAStaffModel", "says", "(II)I"⟩, 42), (⟨"BulbInAStaffModel", "read", "(II)I"⟩, 42), (⟨"BulbInAStaffModel", "next", "()V"⟩, 42), (⟨"BulbInAStaffModel", "byteAt", "(I)I"⟩, 42), (⟨"BulbInAStaffModel", "isWord", "(IIIIIIII)Z"⟩, 42), (⟨"BulbInAStaffModel", "isLetter", "(II)Z"⟩, 42), (⟨"BulbInAStaffModel", "part", "(Z)I"⟩, 42), (⟨"BulbInAStaffModel", "fail", "()V"⟩, 42), (⟨"BulbInAStaffModel", "either0", "()I"⟩, 42), (⟨"BulbInAStaffModel", "both0", "()I"⟩, 42), (⟨"BulbInAStaffModel", "not0", "()I"⟩, 42), (⟨"BulbInAStaffModel", "opens", "()Z"⟩, 42), (⟨"BulbInAStaffModel", "not1", "()I"⟩, 42)]
theorem lw_r4 : ∀ q ∈ lw_privs_4, lw_okq q := List.forall_mem_cons.mpr ⟨lw_p48, List.forall_mem_cons.mpr ⟨lw_p49, List.forall_mem_cons.mpr ⟨lw_p50, List.forall_mem_cons.mpr ⟨lw_p51, List.forall_mem_cons.mpr ⟨lw_p52, List.forall_mem_cons.mpr ⟨lw_p53, List.forall_mem_cons.mpr ⟨lw_p54, List.forall_mem_cons.mpr ⟨lw_p55, List.forall_mem_cons.mpr ⟨lw_p56, List.forall_mem_cons.mpr ⟨lw_p57, List.forall_mem_cons.mpr ⟨lw_p58, List.forall_mem_cons.mpr ⟨lw_p59, List.forall_mem_cons.mpr ⟨lw_p60, List.forall_mem_cons.mpr ⟨lw_p61, List.forall_mem_cons.mpr ⟨lw_p62, List.forall_mem_cons.mpr ⟨lw_p63, fun _ h => absurd h List.not_mem_nil⟩⟩⟩⟩⟩⟩⟩⟩⟩⟩⟩⟩⟩⟩⟩⟩
theorem lw_p64 : lw_okq (⟨"BulbInAStaffModel", "not2", "()I"⟩, 42) := ⟨⟨by decide +kernel, by decide +kernel⟩, lw_t5 (List.mem_of_getElem? (i := 170) rfl), lw_t6 (List.mem_of_getElem? (i := 155) rfl), lw_t6 (List.mem_of_getElem? (i := 156) rfl)⟩
theorem lw_p65 : lw_okq (⟨"BulbInAStaffModel", "not3", "()I"⟩, 42) := ⟨⟨by decide +kernel, by decide +kernel⟩, lw_t5 (List.mem_of_getElem? (i := 170) rfl), lw_t6 (List.mem_of_getElem? (i := 159) rfl), lw_t6 (List.mem_of_getElem? (i := 160) rfl)⟩
theorem lw_p66 : lw_okq (⟨"BulbInAStaffModel", "not4", "()I"⟩, 42) := ⟨⟨by decide +kernel, by decide +kernel⟩, lw_t5 (List.mem_of_getElem? (i := 170) rfl), lw_t6 (List.mem_of_getElem? (i := 163) rfl), lw_t6 (List.mem_of_getElem? (i := 164) rfl)⟩
theorem lw_p67 : lw_okq (⟨"BulbInAStaffModel", "not5", "()I"⟩, 42) := ⟨⟨by decide +kernel, by decide +kernel⟩, lw_t5 (List.mem_of_getElem? (i := 170) rfl), lw_t6 (List.mem_of_getElem? (i := 167) rfl), lw_t6 (List.mem_of_getElem? (i := 168) rfl)⟩
theorem lw_p68 : lw_okq (⟨"BulbInAStaffModel", "added5", "()I"⟩, 42) := ⟨⟨by decide +kernel, by decide +kernel⟩, lw_t5 (List.mem_of_getElem? (i := 170) rfl), lw_t6 (List.mem_of_getElem? (i := 171) rfl), lw_t6 (List.mem_of_getElem? (i := 172) rfl)⟩
theorem lw_p69 : lw_okq (⟨"BulbInAStaffModel", "term5", "()I"⟩, 42) := ⟨⟨by decide +kernel, by decide +kernel⟩, lw_t5 (List.mem_of_getElem? (i := 170) rfl), lw_t6 (List.mem_of_getElem? (i := 175) rfl), lw_t6 (List.mem_of_getElem? (i := 176) rfl)⟩
theorem lw_p70 : lw_okq (⟨"BulbInAStaffModel", "atom5", "()I"⟩, 42) := ⟨⟨by decide +kernel, by decide +kernel⟩, lw_t5 (List.mem_of_getElem? (i := 170) rfl), lw_t6 (List.mem_of_getElem? (i := 179) rfl), lw_t6 (List.mem_of_getElem? (i := 180) rfl)⟩
theorem lw_p71 : lw_okq (⟨"BulbInAStaffModel", "isSign", "(I)Z"⟩, 42) := ⟨⟨by decide +kernel, by decide +kernel⟩, lw_t5 (List.mem_of_getElem? (i := 170) rfl), lw_t6 (List.mem_of_getElem? (i := 183) rfl), lw_t6 (List.mem_of_getElem? (i := 184) rfl)⟩
theorem lw_p72 : lw_okq (⟨"BulbInAStaffModel", "name", "()I"⟩, 42) := ⟨⟨by decide +kernel, by decide +kernel⟩, lw_t5 (List.mem_of_getElem? (i := 170) rfl), lw_t6 (List.mem_of_getElem? (i := 187) rfl), lw_t6 (List.mem_of_getElem? (i := 188) rfl)⟩
theorem lw_p73 : lw_okq (⟨"BulbInAStaffModel", "added4", "()I"⟩, 42) := ⟨⟨by decide +kernel, by decide +kernel⟩, lw_t5 (List.mem_of_getElem? (i := 170) rfl), lw_t6 (List.mem_of_getElem? (i := 193) rfl), lw_t6 (List.mem_of_getElem? (i := 194) rfl)⟩
theorem lw_p74 : lw_okq (⟨"BulbInAStaffModel", "term4", "()I"⟩, 42) := ⟨⟨by decide +kernel, by decide +kernel⟩, lw_t5 (List.mem_of_getElem? (i := 170) rfl), lw_t6 (List.mem_of_getElem? (i := 197) rfl), lw_t6 (List.mem_of_getElem? (i := 198) rfl)⟩
theorem lw_p75 : lw_okq (⟨"BulbInAStaffModel", "atom4", "()I"⟩, 42) := ⟨⟨by decide +kernel, by decide +kernel⟩, lw_t5 (List.mem_of_getElem? (i := 170) rfl), lw_t6 (List.mem_of_getElem? (i := 201) rfl), lw_t6 (List.mem_of_getElem? (i := 202) rfl)⟩
theorem lw_p76 : lw_okq (⟨"BulbInAStaffModel", "either5", "()I"⟩, 42) := ⟨⟨by decide +kernel, by decide +kernel⟩, lw_t5 (List.mem_of_getElem? (i := 170) rfl), lw_t6 (List.mem_of_getElem? (i := 205) rfl), lw_t6 (List.mem_of_getElem? (i := 206) rfl)⟩
theorem lw_p77 : lw_okq (⟨"BulbInAStaffModel", "both5", "()I"⟩, 42) := ⟨⟨by decide +kernel, by decide +kernel⟩, lw_t5 (List.mem_of_getElem? (i := 170) rfl), lw_t6 (List.mem_of_getElem? (i := 209) rfl), lw_t6 (List.mem_of_getElem? (i := 210) rfl)⟩
theorem lw_p78 : lw_okq (⟨"BulbInAStaffModel", "added3", "()I"⟩, 42) := ⟨⟨by decide +kernel, by decide +kernel⟩, lw_t5 (List.mem_of_getElem? (i := 170) rfl), lw_t6 (List.mem_of_getElem? (i := 213) rfl), lw_t6 (List.mem_of_getElem? (i := 214) rfl)⟩
theorem lw_p79 : lw_okq (⟨"BulbInAStaffModel", "term3", "()I"⟩, 42) := ⟨⟨by decide +kernel, by decide +kernel⟩, lw_t5 (List.mem_of_getElem? (i := 170) rfl), lw_t6 (List.mem_of_getElem? (i := 217) rfl), lw_t6 (List.mem_of_getElem? (i := 218) rfl)⟩
def lw_privs_5 : List (MethodName × Nat) := [(⟨"BulbInAStaffModel", "not2", "()I"⟩, 42), (⟨"BulbInAStaffModel", "not3", "()I"⟩, 42), (⟨"BulbInAStaffModel", "not4", "()I"⟩, 42), (⟨"BulbInAStaffModel", "not5", "()I"⟩, 42), (⟨"BulbInAStaffModel", "added5", "()I"⟩, 42), (⟨"BulbInAStaffModel", "term5", "()I"⟩, 42), (⟨"BulbInAStaffModel", "atom5", "()I"⟩, 42), (⟨"BulbInAStaffModel", "isSign", "(I)Z"⟩, 42), (⟨"BulbInAStaffModel", "name", "()I"⟩, 42), (⟨"BulbInAStaffModel", "added4", "()I"⟩, 42), (⟨"BulbInAStaffModel", "term4", "()I"⟩, 42), (⟨"BulbInAStaffModel", "atom4", "()I"⟩, 42), (⟨"BulbInAStaffModel", "either5", "()I"⟩, 42), (⟨"BulbInAStaffModel", "both5", "()I"⟩, 42), (⟨"BulbInAStaffModel", "added3", "()I"⟩, 42), (⟨"BulbInAStaffModel", "term3", "()I"⟩, 42)]
theorem lw_r5 : ∀ q ∈ lw_privs_5, lw_okq q := List.forall_mem_cons.mpr ⟨lw_p64, List.forall_mem_cons.mpr ⟨lw_p65, List.forall_mem_cons.mpr ⟨lw_p66, List.forall_mem_cons.mpr ⟨lw_p67, List.forall_mem_cons.mpr ⟨lw_p68, List.forall_mem_cons.mpr ⟨lw_p69, List.forall_mem_cons.mpr ⟨lw_p70, List.forall_mem_cons.mpr ⟨lw_p71, List.forall_mem_cons.mpr ⟨lw_p72, List.forall_mem_cons.mpr ⟨lw_p73, List.forall_mem_cons.mpr ⟨lw_p74, List.forall_mem_cons.mpr ⟨lw_p75, List.forall_mem_cons.mpr ⟨lw_p76, List.forall_mem_cons.mpr ⟨lw_p77, List.forall_mem_cons.mpr ⟨lw_p78, List.forall_mem_cons.mpr ⟨lw_p79, fun _ h => absurd h List.not_mem_nil⟩⟩⟩⟩⟩⟩⟩⟩⟩⟩⟩⟩⟩⟩⟩⟩
theorem lw_p80 : lw_okq (⟨"BulbInAStaffModel", "atom3", "()I"⟩, 42) := ⟨⟨by decide +kernel, by decide +kernel⟩, lw_t5 (List.mem_of_getElem? (i := 170) rfl), lw_t6 (List.mem_of_getElem? (i := 221) rfl), lw_t6 (List.mem_of_getElem? (i := 222) rfl)⟩
theorem lw_p81 : lw_okq (⟨"BulbInAStaffModel", "either4", "()I"⟩, 42) := ⟨⟨by decide +kernel, by decide +kernel⟩, lw_t5 (List.mem_of_getElem? (i := 170) rfl), lw_t6 (List.mem_of_getElem? (i := 225) rfl), lw_t6 (List.mem_of_getElem? (i := 226) rfl)⟩
theorem lw_p82 : lw_okq (⟨"BulbInAStaffModel", "both4", "()I"⟩, 42) := ⟨⟨by decide +kernel, by decide +kernel⟩, lw_t5 (List.mem_of_getElem? (i := 170) rfl), lw_t6 (List.mem_of_getElem? (i := 229) rfl), lw_t6 (List.mem_of_getElem? (i := 230) rfl)⟩
theorem lw_p83 : lw_okq (⟨"BulbInAStaffModel", "added2", "()I"⟩, 42) := ⟨⟨by decide +kernel, by decide +kernel⟩, lw_t5 (List.mem_of_getElem? (i := 170) rfl), lw_t6 (List.mem_of_getElem? (i := 233) rfl), lw_t6 (List.mem_of_getElem? (i := 234) rfl)⟩
theorem lw_p84 : lw_okq (⟨"BulbInAStaffModel", "term2", "()I"⟩, 42) := ⟨⟨by decide +kernel, by decide +kernel⟩, lw_t5 (List.mem_of_getElem? (i := 170) rfl), lw_t6 (List.mem_of_getElem? (i := 237) rfl), lw_t6 (List.mem_of_getElem? (i := 238) rfl)⟩
theorem lw_p85 : lw_okq (⟨"BulbInAStaffModel", "atom2", "()I"⟩, 42) := ⟨⟨by decide +kernel, by decide +kernel⟩, lw_t5 (List.mem_of_getElem? (i := 170) rfl), lw_t7 (List.mem_of_getElem? (i := 1) rfl), lw_t7 (List.mem_of_getElem? (i := 2) rfl)⟩
theorem lw_p86 : lw_okq (⟨"BulbInAStaffModel", "either3", "()I"⟩, 42) := ⟨⟨by decide +kernel, by decide +kernel⟩, lw_t5 (List.mem_of_getElem? (i := 170) rfl), lw_t7 (List.mem_of_getElem? (i := 5) rfl), lw_t7 (List.mem_of_getElem? (i := 6) rfl)⟩
theorem lw_p87 : lw_okq (⟨"BulbInAStaffModel", "both3", "()I"⟩, 42) := ⟨⟨by decide +kernel, by decide +kernel⟩, lw_t5 (List.mem_of_getElem? (i := 170) rfl), lw_t7 (List.mem_of_getElem? (i := 9) rfl), lw_t7 (List.mem_of_getElem? (i := 10) rfl)⟩
theorem lw_p88 : lw_okq (⟨"BulbInAStaffModel", "added1", "()I"⟩, 42) := ⟨⟨by decide +kernel, by decide +kernel⟩, lw_t5 (List.mem_of_getElem? (i := 170) rfl), lw_t7 (List.mem_of_getElem? (i := 13) rfl), lw_t7 (List.mem_of_getElem? (i := 14) rfl)⟩
theorem lw_p89 : lw_okq (⟨"BulbInAStaffModel", "term1", "()I"⟩, 42) := ⟨⟨by decide +kernel, by decide +kernel⟩, lw_t5 (List.mem_of_getElem? (i := 170) rfl), lw_t7 (List.mem_of_getElem? (i := 17) rfl), lw_t7 (List.mem_of_getElem? (i := 18) rfl)⟩
theorem lw_p90 : lw_okq (⟨"BulbInAStaffModel", "atom1", "()I"⟩, 42) := ⟨⟨by decide +kernel, by decide +kernel⟩, lw_t5 (List.mem_of_getElem? (i := 170) rfl), lw_t7 (List.mem_of_getElem? (i := 21) rfl), lw_t7 (List.mem_of_getElem? (i := 22) rfl)⟩
theorem lw_p91 : lw_okq (⟨"BulbInAStaffModel", "either2", "()I"⟩, 42) := ⟨⟨by decide +kernel, by decide +kernel⟩, lw_t5 (List.mem_of_getElem? (i := 170) rfl), lw_t7 (List.mem_of_getElem? (i := 25) rfl), lw_t7 (List.mem_of_getElem? (i := 26) rfl)⟩
theorem lw_p92 : lw_okq (⟨"BulbInAStaffModel", "both2", "()I"⟩, 42) := ⟨⟨by decide +kernel, by decide +kernel⟩, lw_t5 (List.mem_of_getElem? (i := 170) rfl), lw_t7 (List.mem_of_getElem? (i := 29) rfl), lw_t7 (List.mem_of_getElem? (i := 30) rfl)⟩
theorem lw_p93 : lw_okq (⟨"BulbInAStaffModel", "added0", "()I"⟩, 42) := ⟨⟨by decide +kernel, by decide +kernel⟩, lw_t5 (List.mem_of_getElem? (i := 170) rfl), lw_t7 (List.mem_of_getElem? (i := 33) rfl), lw_t7 (List.mem_of_getElem? (i := 34) rfl)⟩
theorem lw_p94 : lw_okq (⟨"BulbInAStaffModel", "term0", "()I"⟩, 42) := ⟨⟨by decide +kernel, by decide +kernel⟩, lw_t5 (List.mem_of_getElem? (i := 170) rfl), lw_t7 (List.mem_of_getElem? (i := 37) rfl), lw_t7 (List.mem_of_getElem? (i := 38) rfl)⟩
theorem lw_p95 : lw_okq (⟨"BulbInAStaffModel", "atom0", "()I"⟩, 42) := ⟨⟨by decide +kernel, by decide +kernel⟩, lw_t5 (List.mem_of_getElem? (i := 170) rfl), lw_t7 (List.mem_of_getElem? (i := 41) rfl), lw_t7 (List.mem_of_getElem? (i := 42) rfl)⟩
def lw_privs_6 : List (MethodName × Nat) := [(⟨"BulbInAStaffModel", "atom3", "()I"⟩, 42), (⟨"BulbInAStaffModel", "either4", "()I"⟩, 42), (⟨"BulbInAStaffModel", "both4", "()I"⟩, 42), (⟨"BulbInAStaffModel", "added2", "()I"⟩, 42), (⟨"BulbInAStaffModel", "term2", "()I"⟩, 42), (⟨"BulbInAStaffModel", "atom2", "()I"⟩, 42), (⟨"BulbInAStaffModel", "either3", "()I"⟩, 42), (⟨"BulbInAStaffModel", "both3", "()I"⟩, 42), (⟨"BulbInAStaffModel", "added1", "()I"⟩, 42), (⟨"BulbInAStaffModel", "term1", "()I"⟩, 42), (⟨"BulbInAStaffModel", "atom1", "()I"⟩, 42), (⟨"BulbInAStaffModel", "either2", "()I"⟩, 42), (⟨"BulbInAStaffModel", "both2", "()I"⟩, 42), (⟨"BulbInAStaffModel", "added0", "()I"⟩, 42), (⟨"BulbInAStaffModel", "term0", "()I"⟩, 42), (⟨"BulbInAStaffModel", "atom0", "()I"⟩, 42)]
theorem lw_r6 : ∀ q ∈ lw_privs_6, lw_okq q := List.forall_mem_cons.mpr ⟨lw_p80, List.forall_mem_cons.mpr ⟨lw_p81, List.forall_mem_cons.mpr ⟨lw_p82, List.forall_mem_cons.mpr ⟨lw_p83, List.forall_mem_cons.mpr ⟨lw_p84, List.forall_mem_cons.mpr ⟨lw_p85, List.forall_mem_cons.mpr ⟨lw_p86, List.forall_mem_cons.mpr ⟨lw_p87, List.forall_mem_cons.mpr ⟨lw_p88, List.forall_mem_cons.mpr ⟨lw_p89, List.forall_mem_cons.mpr ⟨lw_p90, List.forall_mem_cons.mpr ⟨lw_p91, List.forall_mem_cons.mpr ⟨lw_p92, List.forall_mem_cons.mpr ⟨lw_p93, List.forall_mem_cons.mpr ⟨lw_p94, List.forall_mem_cons.mpr ⟨lw_p95, fun _ h => absurd h List.not_mem_nil⟩⟩⟩⟩⟩⟩⟩⟩⟩⟩⟩⟩⟩⟩⟩⟩
theorem lw_p96 : lw_okq (⟨"BulbInAStaffModel", "either1", "()I"⟩, 42) := ⟨⟨by decide +kernel, by decide +kernel⟩, lw_t5 (List.mem_of_getElem? (i := 170) rfl), lw_t7 (List.mem_of_getElem? (i := 45) rfl), lw_t7 (List.mem_of_getElem? (i := 46) rfl)⟩
theorem lw_p97 : lw_okq (⟨"BulbInAStaffModel", "both1", "()I"⟩, 42) := ⟨⟨by decide +kernel, by decide +kernel⟩, lw_t5 (List.mem_of_getElem? (i := 170) rfl), lw_t7 (List.mem_of_getElem? (i := 49) rfl), lw_t7 (List.mem_of_getElem? (i := 50) rfl)⟩
theorem lw_p98 : lw_okq (⟨"BulbInAStaffModel", "growsOf", "(II)I"⟩, 42) := ⟨⟨by decide +kernel, by decide +kernel⟩, lw_t5 (List.mem_of_getElem? (i := 170) rfl), lw_t7 (List.mem_of_getElem? (i := 56) rfl), lw_t7 (List.mem_of_getElem? (i := 57) rfl)⟩
theorem lw_p99 : lw_okq (⟨"BulbInAStaffModel", "flowersOf", "(II)I"⟩, 42) := ⟨⟨by decide +kernel, by decide +kernel⟩, lw_t5 (List.mem_of_getElem? (i := 170) rfl), lw_t7 (List.mem_of_getElem? (i := 60) rfl), lw_t7 (List.mem_of_getElem? (i := 61) rfl)⟩
theorem lw_p100 : lw_okq (⟨"BulbInAStaffModel", "lays", "(III)V"⟩, 42) := ⟨⟨by decide +kernel, by decide +kernel⟩, lw_t5 (List.mem_of_getElem? (i := 170) rfl), lw_t7 (List.mem_of_getElem? (i := 65) rfl), lw_t7 (List.mem_of_getElem? (i := 66) rfl)⟩
theorem lw_p101 : lw_okq (⟨"BulbInAStaffModel", "comes", "(IIII)V"⟩, 42) := ⟨⟨by decide +kernel, by decide +kernel⟩, lw_t5 (List.mem_of_getElem? (i := 170) rfl), lw_t7 (List.mem_of_getElem? (i := 74) rfl), lw_t7 (List.mem_of_getElem? (i := 75) rfl)⟩
theorem lw_p102 : lw_okq (⟨"BulbInAStaffModel", "worthOf", "(I)I"⟩, 42) := ⟨⟨by decide +kernel, by decide +kernel⟩, lw_t5 (List.mem_of_getElem? (i := 170) rfl), lw_t7 (List.mem_of_getElem? (i := 101) rfl), lw_t7 (List.mem_of_getElem? (i := 102) rfl)⟩
theorem lw_p103 : lw_okq (⟨"BulbInAStaffModel", "lives", "()V"⟩, 42) := ⟨⟨by decide +kernel, by decide +kernel⟩, lw_t5 (List.mem_of_getElem? (i := 170) rfl), lw_t7 (List.mem_of_getElem? (i := 110) rfl), lw_t7 (List.mem_of_getElem? (i := 111) rfl)⟩
theorem lw_p104 : lw_okq (⟨"BulbInAStaffModel", "all", "()I"⟩, 42) := ⟨⟨by decide +kernel, by decide +kernel⟩, lw_t5 (List.mem_of_getElem? (i := 170) rfl), lw_t7 (List.mem_of_getElem? (i := 114) rfl), lw_t7 (List.mem_of_getElem? (i := 115) rfl)⟩
theorem lw_p105 : lw_okq (⟨"BulbInAStaffModel", "laysAside", "()V"⟩, 42) := ⟨⟨by decide +kernel, by decide +kernel⟩, lw_t5 (List.mem_of_getElem? (i := 170) rfl), lw_t7 (List.mem_of_getElem? (i := 125) rfl), lw_t7 (List.mem_of_getElem? (i := 126) rfl)⟩
theorem lw_p106 : lw_okq (⟨"BulbInAStaffModel", "tellsOf", "(I)I"⟩, 42) := ⟨⟨by decide +kernel, by decide +kernel⟩, lw_t5 (List.mem_of_getElem? (i := 170) rfl), lw_t7 (List.mem_of_getElem? (i := 129) rfl), lw_t7 (List.mem_of_getElem? (i := 130) rfl)⟩
theorem lw_p107 : lw_okq (⟨"BulbInAStaffModel", "bloom", "()I"⟩, 42) := ⟨⟨by decide +kernel, by decide +kernel⟩, lw_t5 (List.mem_of_getElem? (i := 170) rfl), lw_t7 (List.mem_of_getElem? (i := 133) rfl), lw_t7 (List.mem_of_getElem? (i := 134) rfl)⟩
theorem lw_p108 : lw_okq (⟨"BulbInAStaffModel", "heir", "()I"⟩, 42) := ⟨⟨by decide +kernel, by decide +kernel⟩, lw_t5 (List.mem_of_getElem? (i := 170) rfl), lw_t7 (List.mem_of_getElem? (i := 137) rfl), lw_t7 (List.mem_of_getElem? (i := 138) rfl)⟩
theorem lw_p109 : lw_okq (⟨"BulbInAStaffModel", "laysBack", "()V"⟩, 42) := ⟨⟨by decide +kernel, by decide +kernel⟩, lw_t5 (List.mem_of_getElem? (i := 170) rfl), lw_t7 (List.mem_of_getElem? (i := 141) rfl), lw_t7 (List.mem_of_getElem? (i := 142) rfl)⟩
theorem lw_p110 : lw_okq (⟨"BulbInAStaffModel", "hidden", "(II)J"⟩, 42) := ⟨⟨by decide +kernel, by decide +kernel⟩, lw_t5 (List.mem_of_getElem? (i := 170) rfl), lw_t7 (List.mem_of_getElem? (i := 156) rfl), lw_t7 (List.mem_of_getElem? (i := 157) rfl)⟩
theorem lw_p111 : lw_okq (⟨"BulbInAStaffModel", "manyBehind", "(II)I"⟩, 42) := ⟨⟨by decide +kernel, by decide +kernel⟩, lw_t5 (List.mem_of_getElem? (i := 170) rfl), lw_t7 (List.mem_of_getElem? (i := 165) rfl), lw_t7 (List.mem_of_getElem? (i := 166) rfl)⟩
def lw_privs_7 : List (MethodName × Nat) := [(⟨"BulbInAStaffModel", "either1", "()I"⟩, 42), (⟨"BulbInAStaffModel", "both1", "()I"⟩, 42), (⟨"BulbInAStaffModel", "growsOf", "(II)I"⟩, 42), (⟨"BulbInAStaffModel", "flowersOf", "(II)I"⟩, 42), (⟨"BulbInAStaffModel", "lays", "(III)V"⟩, 42), (⟨"BulbInAStaffModel", "comes", "(IIII)V"⟩, 42), (⟨"BulbInAStaffModel", "worthOf", "(I)I"⟩, 42), (⟨"BulbInAStaffModel", "lives", "()V"⟩, 42), (⟨"BulbInAStaffModel", "all", "()I"⟩, 42), (⟨"BulbInAStaffModel", "laysAside", "()V"⟩, 42), (⟨"BulbInAStaffModel", "tellsOf", "(I)I"⟩, 42), (⟨"BulbInAStaffModel", "bloom", "()I"⟩, 42), (⟨"BulbInAStaffModel", "heir", "()I"⟩, 42), (⟨"BulbInAStaffModel", "laysBack", "()V"⟩, 42), (⟨"BulbInAStaffModel", "hidden", "(II)J"⟩, 42), (⟨"BulbInAStaffModel", "manyBehind", "(II)I"⟩, 42)]
theorem lw_r7 : ∀ q ∈ lw_privs_7, lw_okq q := List.forall_mem_cons.mpr ⟨lw_p96, List.forall_mem_cons.mpr ⟨lw_p97, List.forall_mem_cons.mpr ⟨lw_p98, List.forall_mem_cons.mpr ⟨lw_p99, List.forall_mem_cons.mpr ⟨lw_p100, List.forall_mem_cons.mpr ⟨lw_p101, List.forall_mem_cons.mpr ⟨lw_p102, List.forall_mem_cons.mpr ⟨lw_p103, List.forall_mem_cons.mpr ⟨lw_p104, List.forall_mem_cons.mpr ⟨lw_p105, List.forall_mem_cons.mpr ⟨lw_p106, List.forall_mem_cons.mpr ⟨lw_p107, List.forall_mem_cons.mpr ⟨lw_p108, List.forall_mem_cons.mpr ⟨lw_p109, List.forall_mem_cons.mpr ⟨lw_p110, List.forall_mem_cons.mpr ⟨lw_p111, fun _ h => absurd h List.not_mem_nil⟩⟩⟩⟩⟩⟩⟩⟩⟩⟩⟩⟩⟩⟩⟩⟩
theorem lw_p112 : lw_okq (⟨"BulbInAStaffModel", "worthAll", "()I"⟩, 42) := ⟨⟨by decide +kernel, by decide +kernel⟩, lw_t5 (List.mem_of_getElem? (i := 170) rfl), lw_t7 (List.mem_of_getElem? (i := 183) rfl), lw_t7 (List.mem_of_getElem? (i := 184) rfl)⟩
theorem lw_p113 : lw_okq (⟨"BulbInAStaffModel", "firstOther", "(II)I"⟩, 42) := ⟨⟨by decide +kernel, by decide +kernel⟩, lw_t5 (List.mem_of_getElem? (i := 170) rfl), lw_t7 (List.mem_of_getElem? (i := 199) rfl), lw_t7 (List.mem_of_getElem? (i := 200) rfl)⟩
theorem lw_p114 : lw_okq (⟨"BulbInAStaffModel", "allBy", "(II)I"⟩, 42) := ⟨⟨by decide +kernel, by decide +kernel⟩, lw_t5 (List.mem_of_getElem? (i := 170) rfl), lw_t7 (List.mem_of_getElem? (i := 216) rfl), lw_t7 (List.mem_of_getElem? (i := 217) rfl)⟩
def lw_privs_8 : List (MethodName × Nat) := [(⟨"BulbInAStaffModel", "worthAll", "()I"⟩, 42), (⟨"BulbInAStaffModel", "firstOther", "(II)I"⟩, 42), (⟨"BulbInAStaffModel", "allBy", "(II)I"⟩, 42)]
theorem lw_r8 : ∀ q ∈ lw_privs_8, lw_okq q := List.forall_mem_cons.mpr ⟨lw_p112, List.forall_mem_cons.mpr ⟨lw_p113, List.forall_mem_cons.mpr ⟨lw_p114, fun _ h => absurd h List.not_mem_nil⟩⟩⟩
def lw_privs : List (MethodName × Nat) := lw_privs_1 ++ (lw_privs_2 ++ (lw_privs_3 ++ (lw_privs_4 ++ (lw_privs_5 ++ (lw_privs_6 ++ (lw_privs_7 ++ (lw_privs_8)))))))
def lw_tbl : List Cond := k2_sels lw_privs ++ tables_1
theorem lw_privs_ok : ∀ q ∈ lw_privs, lw_okq q := by
  show ∀ q ∈ lw_privs_1 ++ (lw_privs_2 ++ (lw_privs_3 ++ (lw_privs_4 ++ (lw_privs_5 ++ (lw_privs_6 ++ (lw_privs_7 ++ (lw_privs_8))))))), lw_okq q
  exact List.forall_mem_append.mpr ⟨lw_r1, List.forall_mem_append.mpr ⟨lw_r2, List.forall_mem_append.mpr ⟨lw_r3, List.forall_mem_append.mpr ⟨lw_r4, List.forall_mem_append.mpr ⟨lw_r5, List.forall_mem_append.mpr ⟨lw_r6, List.forall_mem_append.mpr ⟨lw_r7, lw_r8⟩⟩⟩⟩⟩⟩⟩
-- ===== ONE list of words for every method: the tables' words that hold all through a run =====
def lw_all : List Cond := lw_tbl.filter goodWord
/-- a word of the tables by its place: claim/WORDS.tsv -/
theorem lw_w {w : Cond} (i : Nat) (h : lw_tbl[i]? = some w) (g : goodWord w = true) : w ∈ lw_all := List.mem_filter.mpr ⟨List.mem_of_getElem? h, g⟩
theorem lw_all_tbl {w : Cond} (h : w ∈ lw_all) : w ∈ lw_tbl := (List.mem_filter.mp h).1
theorem lw_self : GoodIn lw_all lw_all := fun w h => ⟨h, good_of_word (List.mem_filter.mp h).2⟩
/-- a class's field words, by their places -/
theorem lw_in (ws : List Cond) (ps : List Nat) (hp : ws = ps.filterMap (fun i => lw_tbl[i]?)) (hg : ws.all goodWord = true) : ∀ w ∈ ws, w ∈ lw_all := by
  intro w h
  have h1 := List.all_eq_true.mp hg w h
  rw [hp] at h
  obtain ⟨i, -, hi⟩ := List.mem_filterMap.mp h
  exact lw_w i hi h1
/-- the words of a contract for the method y with code b, L locals, answer r -/
abbrev ws_ (y : MethodName) (b : ByteArray) (L : Nat) (r : Option FieldType) : List Cond := Cond.code y b L r :: lw_all
theorem lw_meth {y : MethodName} {b : ByteArray} {L : Nat} {r : Option FieldType} (h : Cond.code y b L r ∈ lw_all) : GoodIn lw_all (ws_ y b L r) := by
  intro w hw
  rcases List.mem_cons.mp hw with e | e
  · rw [e]
    exact lw_self _ h
  · exact lw_self _ e
theorem lw_app {a c : List Cond} (ha : ∀ w ∈ a, w ∈ lw_all) (hc : GoodIn lw_all c) : GoodIn lw_all (a ++ c) := by
  intro w hw
  rcases List.mem_append.mp hw with e | e
  · exact lw_self w (ha w e)
  · exact hc w e
/-- what a call through an object asks: cwV n hts (lw_V ..) -/
theorem lw_V {own : String} {idx : Nat} {C : String} {y : MethodName} {b : ByteArray} {L : Nat} {r : Option FieldType} (h1 : Cond.methodLink own idx y ∈ lw_all) (h2 : Cond.instanceMethod y ∈ lw_all) (h3 : Cond.selects C y y ∈ lw_all) (h4 : Cond.initialized C ∈ lw_all) (h5 : Cond.code y b L r ∈ lw_all) : GoodIn lw_all (wsV own idx C y (ws_ y b L r)) := by
  refine lw_app ?_ (lw_meth h5)
  intro w hw
  simp only [List.mem_cons, List.not_mem_nil, or_false] at hw
  rcases hw with e | e | e | e
  · rw [e]; exact h1
  · rw [e]; exact h2
  · rw [e]; exact h3
  · rw [e]; exact h4
/-- what a static call asks: va_cwS n hts (lw_S ..) -/
theorem lw_S {own : String} {idx : Nat} {y : MethodName} {b : ByteArray} {L : Nat} {r : Option FieldType} (h1 : Cond.methodLink own idx y ∈ lw_all) (h2 : Cond.static y ∈ lw_all) (h3 : Cond.initialized y.cls ∈ lw_all) (h4 : Cond.code y b L r ∈ lw_all) : GoodIn lw_all (va_wsS own idx y (ws_ y b L r)) := by
  refine lw_app ?_ (lw_meth h4)
  intro w hw
  simp only [List.mem_cons, List.not_mem_nil, or_false] at hw
  rcases hw with e | e | e
  · rw [e]; exact h1
  · rw [e]; exact h2
  · rw [e]; exact h3
/-- the words of a contract for a method WITH HANDLERS (hh: its table) -/
abbrev wsW_ (y : MethodName) (b : ByteArray) (L : Nat) (r : Option FieldType) (hh : List (Nat × Nat × Nat × Nat)) : List Cond := Cond.codeWith y b L r hh :: lw_all
theorem lw_methW {y : MethodName} {b : ByteArray} {L : Nat} {r : Option FieldType} {hh : List (Nat × Nat × Nat × Nat)} (h : Cond.codeWith y b L r hh ∈ lw_all) : GoodIn lw_all (wsW_ y b L r hh) := by
  intro w hw
  rcases List.mem_cons.mp hw with e | e
  · rw [e]
    exact lw_self _ h
  · exact lw_self _ e
/-- any list of words by their places (lw_in), good -/
theorem lw_good {ws : List Cond} (h : ∀ w ∈ ws, w ∈ lw_all) : GoodIn lw_all ws := fun w hw => lw_self w (h w hw)
/-- what a call of a method with handlers asks: vx_cwVW n hts (lw_VW ..), vx_cwSW n hts (lw_SW ..) -/
theorem lw_VW {own : String} {idx : Nat} {C : String} {y : MethodName} {b : ByteArray} {L : Nat} {r : Option FieldType} {hh : List (Nat × Nat × Nat × Nat)} (h1 : Cond.methodLink own idx y ∈ lw_all) (h2 : Cond.instanceMethod y ∈ lw_all) (h3 : Cond.selects C y y ∈ lw_all) (h4 : Cond.initialized C ∈ lw_all) (h5 : Cond.codeWith y b L r hh ∈ lw_all) : GoodIn lw_all (wsV own idx C y (wsW_ y b L r hh)) := by
  refine lw_app ?_ (lw_methW h5)
  intro w hw
  simp only [List.mem_cons, List.not_mem_nil, or_false] at hw
  rcases hw with e | e | e | e
  · rw [e]; exact h1
  · rw [e]; exact h2
  · rw [e]; exact h3
  · rw [e]; exact h4
theorem lw_SW {own : String} {idx : Nat} {y : MethodName} {b : ByteArray} {L : Nat} {r : Option FieldType} {hh : List (Nat × Nat × Nat × Nat)} (h1 : Cond.methodLink own idx y ∈ lw_all) (h2 : Cond.static y ∈ lw_all) (h3 : Cond.initialized y.cls ∈ lw_all) (h4 : Cond.codeWith y b L r hh ∈ lw_all) : GoodIn lw_all (va_wsS own idx y (wsW_ y b L r hh)) := by
  refine lw_app ?_ (lw_methW h4)
  intro w hw
  simp only [List.mem_cons, List.not_mem_nil, or_false] at hw
  rcases hw with e | e | e
  · rw [e]; exact h1
  · rw [e]; exact h2
  · rw [e]; exact h3
/-- a word by its place in its run of the tables -/
theorem lw_at {r : List Cond} (hr : ∀ w ∈ r, w ∈ lw_tbl) {w : Cond} (i : Nat) (h : r[i]? = some w) : w ∈ lw_tbl := hr w (List.mem_of_getElem? h)
theorem lw_g {w : Cond} (h : w ∈ lw_tbl) (g : goodWord w = true) : w ∈ lw_all := List.mem_filter.mpr ⟨h, g⟩
theorem lw_ms : ∀ w ∈ k2_sels lw_privs, w ∈ lw_tbl := fun w h => show w ∈ k2_sels lw_privs ++ tables_1 from List.mem_append_left _ h
theorem lw_m1 : ∀ w ∈ tables_1_1, w ∈ lw_tbl := fun w h => show w ∈ k2_sels lw_privs ++ tables_1 from List.mem_append_right (k2_sels lw_privs) (show w ∈ tables_1 from List.mem_append_left _ h)
theorem lw_m2 : ∀ w ∈ tables_1_2, w ∈ lw_tbl := fun w h => show w ∈ k2_sels lw_privs ++ tables_1 from List.mem_append_right (k2_sels lw_privs) (show w ∈ tables_1 from List.mem_append_right _ (List.mem_append_left _ h))
theorem lw_m3 : ∀ w ∈ tables_1_3, w ∈ lw_tbl := fun w h => show w ∈ k2_sels lw_privs ++ tables_1 from List.mem_append_right (k2_sels lw_privs) (show w ∈ tables_1 from List.mem_append_right _ (List.mem_append_right _ (List.mem_append_left _ h)))
theorem lw_m4 : ∀ w ∈ tables_1_4, w ∈ lw_tbl := fun w h => show w ∈ k2_sels lw_privs ++ tables_1 from List.mem_append_right (k2_sels lw_privs) (show w ∈ tables_1 from List.mem_append_right _ (List.mem_append_right _ (List.mem_append_right _ (List.mem_append_left _ h))))
theorem lw_m5 : ∀ w ∈ tables_1_5, w ∈ lw_tbl := fun w h => show w ∈ k2_sels lw_privs ++ tables_1 from List.mem_append_right (k2_sels lw_privs) (show w ∈ tables_1 from List.mem_append_right _ (List.mem_append_right _ (List.mem_append_right _ (List.mem_append_right _ (List.mem_append_left _ h)))))
theorem lw_m6 : ∀ w ∈ tables_1_6, w ∈ lw_tbl := fun w h => show w ∈ k2_sels lw_privs ++ tables_1 from List.mem_append_right (k2_sels lw_privs) (show w ∈ tables_1 from List.mem_append_right _ (List.mem_append_right _ (List.mem_append_right _ (List.mem_append_right _ (List.mem_append_right _ (List.mem_append_left _ h))))))
theorem lw_m7 : ∀ w ∈ tables_1_7, w ∈ lw_tbl := fun w h => show w ∈ k2_sels lw_privs ++ tables_1 from List.mem_append_right (k2_sels lw_privs) (show w ∈ tables_1 from List.mem_append_right _ (List.mem_append_right _ (List.mem_append_right _ (List.mem_append_right _ (List.mem_append_right _ (List.mem_append_right _ (List.mem_append_left _ h)))))))
theorem lw_m8 : ∀ w ∈ tables_1_8, w ∈ lw_tbl := fun w h => show w ∈ k2_sels lw_privs ++ tables_1 from List.mem_append_right (k2_sels lw_privs) (show w ∈ tables_1 from List.mem_append_right _ (List.mem_append_right _ (List.mem_append_right _ (List.mem_append_right _ (List.mem_append_right _ (List.mem_append_right _ (List.mem_append_right _ h)))))))
theorem qs0 : (Cond.selects "BulbInAStaff" ⟨"BulbInAStaff", "isSo", "(III)Z"⟩ ⟨"BulbInAStaff", "isSo", "(III)Z"⟩) ∈ lw_all := lw_g (lw_at lw_ms 0 rfl) rfl
theorem qs1 : (Cond.selects "BulbInAStaff" ⟨"BulbInAStaff", "isPlant", "(I)Z"⟩ ⟨"BulbInAStaff", "isPlant", "(I)Z"⟩) ∈ lw_all := lw_g (lw_at lw_ms 1 rfl) rfl
theorem qs2 : (Cond.selects "BulbInAStaff" ⟨"BulbInAStaff", "toldOf", "(II)I"⟩ ⟨"BulbInAStaff", "toldOf", "(II)I"⟩) ∈ lw_all := lw_g (lw_at lw_ms 2 rfl) rfl
theorem qs3 : (Cond.selects "BulbInAStaff" ⟨"BulbInAStaff", "rotsOf", "(I)I"⟩ ⟨"BulbInAStaff", "rotsOf", "(I)I"⟩) ∈ lw_all := lw_g (lw_at lw_ms 3 rfl) rfl
theorem qs4 : (Cond.selects "BulbInAStaff" ⟨"BulbInAStaff", "asks", "(II)I"⟩ ⟨"BulbInAStaff", "asks", "(II)I"⟩) ∈ lw_all := lw_g (lw_at lw_ms 4 rfl) rfl
theorem qs5 : (Cond.selects "BulbInAStaff" ⟨"BulbInAStaff", "becomes", "(III)V"⟩ ⟨"BulbInAStaff", "becomes", "(III)V"⟩) ∈ lw_all := lw_g (lw_at lw_ms 5 rfl) rfl
theorem qs6 : (Cond.selects "BulbInAStaff" ⟨"BulbInAStaff", "newText", "()I"⟩ ⟨"BulbInAStaff", "newText", "()I"⟩) ∈ lw_all := lw_g (lw_at lw_ms 6 rfl) rfl
theorem qs7 : (Cond.selects "BulbInAStaff" ⟨"BulbInAStaff", "next", "()V"⟩ ⟨"BulbInAStaff", "next", "()V"⟩) ∈ lw_all := lw_g (lw_at lw_ms 7 rfl) rfl
theorem qs8 : (Cond.selects "BulbInAStaff" ⟨"BulbInAStaff", "byteAt", "(I)I"⟩ ⟨"BulbInAStaff", "byteAt", "(I)I"⟩) ∈ lw_all := lw_g (lw_at lw_ms 8 rfl) rfl
theorem qs9 : (Cond.selects "BulbInAStaff" ⟨"BulbInAStaff", "word", "()V"⟩ ⟨"BulbInAStaff", "word", "()V"⟩) ∈ lw_all := lw_g (lw_at lw_ms 9 rfl) rfl
theorem qs10 : (Cond.selects "BulbInAStaff" ⟨"BulbInAStaff", "placeIn", "([Ljava/lang/String;)I"⟩ ⟨"BulbInAStaff", "placeIn", "([Ljava/lang/String;)I"⟩) ∈ lw_all := lw_g (lw_at lw_ms 10 rfl) rfl
theorem qs11 : (Cond.selects "BulbInAStaff" ⟨"BulbInAStaff", "digits", "()V"⟩ ⟨"BulbInAStaff", "digits", "()V"⟩) ∈ lw_all := lw_g (lw_at lw_ms 11 rfl) rfl
theorem qs12 : (Cond.selects "BulbInAStaff" ⟨"BulbInAStaff", "isKey", "(I)Z"⟩ ⟨"BulbInAStaff", "isKey", "(I)Z"⟩) ∈ lw_all := lw_g (lw_at lw_ms 12 rfl) rfl
theorem qs13 : (Cond.selects "BulbInAStaff" ⟨"BulbInAStaff", "need", "(Z)V"⟩ ⟨"BulbInAStaff", "need", "(Z)V"⟩) ∈ lw_all := lw_g (lw_at lw_ms 13 rfl) rfl
theorem qs14 : (Cond.selects "BulbInAStaff" ⟨"BulbInAStaff", "either", "()LBulbInAStaff$Node;"⟩ ⟨"BulbInAStaff", "either", "()LBulbInAStaff$Node;"⟩) ∈ lw_all := lw_g (lw_at lw_ms 14 rfl) rfl
theorem qs15 : (Cond.selects "BulbInAStaff" ⟨"BulbInAStaff", "both", "()LBulbInAStaff$Node;"⟩ ⟨"BulbInAStaff", "both", "()LBulbInAStaff$Node;"⟩) ∈ lw_all := lw_g (lw_at lw_ms 15 rfl) rfl
theorem qs16 : (Cond.selects "BulbInAStaff" ⟨"BulbInAStaff", "not", "()LBulbInAStaff$Node;"⟩ ⟨"BulbInAStaff", "not", "()LBulbInAStaff$Node;"⟩) ∈ lw_all := lw_g (lw_at lw_ms 16 rfl) rfl
theorem qs17 : (Cond.selects "BulbInAStaff" ⟨"BulbInAStaff", "openOne", "()V"⟩ ⟨"BulbInAStaff", "openOne", "()V"⟩) ∈ lw_all := lw_g (lw_at lw_ms 17 rfl) rfl
theorem qs18 : (Cond.selects "BulbInAStaff" ⟨"BulbInAStaff", "plus", "()LBulbInAStaff$Node;"⟩ ⟨"BulbInAStaff", "plus", "()LBulbInAStaff$Node;"⟩) ∈ lw_all := lw_g (lw_at lw_ms 18 rfl) rfl
theorem qs19 : (Cond.selects "BulbInAStaff" ⟨"BulbInAStaff", "times", "()LBulbInAStaff$Node;"⟩ ⟨"BulbInAStaff", "times", "()LBulbInAStaff$Node;"⟩) ∈ lw_all := lw_g (lw_at lw_ms 19 rfl) rfl
theorem qs20 : (Cond.selects "BulbInAStaff" ⟨"BulbInAStaff", "one", "()LBulbInAStaff$Node;"⟩ ⟨"BulbInAStaff", "one", "()LBulbInAStaff$Node;"⟩) ∈ lw_all := lw_g (lw_at lw_ms 20 rfl) rfl
theorem qs21 : (Cond.selects "BulbInAStaff" ⟨"BulbInAStaff", "isSign", "(I)Z"⟩ ⟨"BulbInAStaff", "isSign", "(I)Z"⟩) ∈ lw_all := lw_g (lw_at lw_ms 21 rfl) rfl
theorem qs22 : (Cond.selects "java/lang/NullPointerException" ⟨"java/lang/NullPointerException", "getExtendedNPEMessage", "()Ljava/lang/String;"⟩ ⟨"java/lang/NullPointerException", "getExtendedNPEMessage", "()Ljava/lang/String;"⟩) ∈ lw_all := lw_g (lw_at lw_ms 22 rfl) rfl
theorem qs23 : (Cond.selects "java/lang/Throwable" ⟨"java/lang/Throwable", "fillInStackTrace", "(I)Ljava/lang/Throwable;"⟩ ⟨"java/lang/Throwable", "fillInStackTrace", "(I)Ljava/lang/Throwable;"⟩) ∈ lw_all := lw_g (lw_at lw_ms 23 rfl) rfl
theorem qs24 : (Cond.selects "BulbInAStaff" ⟨"BulbInAStaff", "firstText", "(Ljava/lang/String;)V"⟩ ⟨"BulbInAStaff", "firstText", "(Ljava/lang/String;)V"⟩) ∈ lw_all := lw_g (lw_at lw_ms 24 rfl) rfl
theorem qs25 : (Cond.selects "BulbInAStaff" ⟨"BulbInAStaff", "isText", "(I)Z"⟩ ⟨"BulbInAStaff", "isText", "(I)Z"⟩) ∈ lw_all := lw_g (lw_at lw_ms 25 rfl) rfl
theorem qs26 : (Cond.selects "BulbInAStaff" ⟨"BulbInAStaff", "worthOf", "(I)I"⟩ ⟨"BulbInAStaff", "worthOf", "(I)I"⟩) ∈ lw_all := lw_g (lw_at lw_ms 26 rfl) rfl
theorem qs27 : (Cond.selects "BulbInAStaff" ⟨"BulbInAStaff", "yearOf", "()V"⟩ ⟨"BulbInAStaff", "yearOf", "()V"⟩) ∈ lw_all := lw_g (lw_at lw_ms 27 rfl) rfl
theorem qs28 : (Cond.selects "BulbInAStaff" ⟨"BulbInAStaff", "all", "()I"⟩ ⟨"BulbInAStaff", "all", "()I"⟩) ∈ lw_all := lw_g (lw_at lw_ms 28 rfl) rfl
theorem qs29 : (Cond.selects "BulbInAStaff" ⟨"BulbInAStaff", "runs", "(I)V"⟩ ⟨"BulbInAStaff", "runs", "(I)V"⟩) ∈ lw_all := lw_g (lw_at lw_ms 29 rfl) rfl
theorem qs30 : (Cond.selects "BulbInAStaff" ⟨"BulbInAStaff", "keeps", "()V"⟩ ⟨"BulbInAStaff", "keeps", "()V"⟩) ∈ lw_all := lw_g (lw_at lw_ms 30 rfl) rfl
theorem qs31 : (Cond.selects "BulbInAStaff" ⟨"BulbInAStaff", "tellsBehind", "(I)V"⟩ ⟨"BulbInAStaff", "tellsBehind", "(I)V"⟩) ∈ lw_all := lw_g (lw_at lw_ms 31 rfl) rfl
theorem qs32 : (Cond.selects "BulbInAStaff" ⟨"BulbInAStaff", "bloom", "()I"⟩ ⟨"BulbInAStaff", "bloom", "()I"⟩) ∈ lw_all := lw_g (lw_at lw_ms 32 rfl) rfl
theorem qs33 : (Cond.selects "BulbInAStaff" ⟨"BulbInAStaff", "laysBack", "(I)V"⟩ ⟨"BulbInAStaff", "laysBack", "(I)V"⟩) ∈ lw_all := lw_g (lw_at lw_ms 33 rfl) rfl
theorem qs34 : (Cond.selects "BulbInAStaff" ⟨"BulbInAStaff", "toldRun", "(II)I"⟩ ⟨"BulbInAStaff", "toldRun", "(II)I"⟩) ∈ lw_all := lw_g (lw_at lw_ms 34 rfl) rfl
theorem qs35 : (Cond.selects "BulbInAStaff" ⟨"BulbInAStaff", "notFound", "(II)J"⟩ ⟨"BulbInAStaff", "notFound", "(II)J"⟩) ∈ lw_all := lw_g (lw_at lw_ms 35 rfl) rfl
theorem qs36 : (Cond.selects "BulbInAStaff" ⟨"BulbInAStaff", "manyBy", "(IIII)I"⟩ ⟨"BulbInAStaff", "manyBy", "(IIII)I"⟩) ∈ lw_all := lw_g (lw_at lw_ms 36 rfl) rfl
theorem qs37 : (Cond.selects "BulbInAStaff" ⟨"BulbInAStaff", "isLeft", "(LBulbInAStaff$Bulb;I)Z"⟩ ⟨"BulbInAStaff", "isLeft", "(LBulbInAStaff$Bulb;I)Z"⟩) ∈ lw_all := lw_g (lw_at lw_ms 37 rfl) rfl
theorem qs38 : (Cond.selects "BulbInAStaff" ⟨"BulbInAStaff", "otherwise", "(Ljava/lang/Object;I)I"⟩ ⟨"BulbInAStaff", "otherwise", "(Ljava/lang/Object;I)I"⟩) ∈ lw_all := lw_g (lw_at lw_ms 38 rfl) rfl
theorem qs39 : (Cond.selects "BulbInAStaff" ⟨"BulbInAStaff", "kindsOf", "(Ljava/lang/Object;I)I"⟩ ⟨"BulbInAStaff", "kindsOf", "(Ljava/lang/Object;I)I"⟩) ∈ lw_all := lw_g (lw_at lw_ms 39 rfl) rfl
theorem qs40 : (Cond.selects "BulbInAStaff" ⟨"BulbInAStaff", "isSoAs", "(Ljava/lang/Object;II)Z"⟩ ⟨"BulbInAStaff", "isSoAs", "(Ljava/lang/Object;II)Z"⟩) ∈ lw_all := lw_g (lw_at lw_ms 40 rfl) rfl
theorem qs41 : (Cond.selects "BulbInAStaff" ⟨"BulbInAStaff", "setBy", "(Ljava/lang/Object;III)I"⟩ ⟨"BulbInAStaff", "setBy", "(Ljava/lang/Object;III)I"⟩) ∈ lw_all := lw_g (lw_at lw_ms 41 rfl) rfl
theorem qs42 : (Cond.selects "BulbInAStaff" ⟨"BulbInAStaff", "isSoBy", "(Ljava/lang/Object;III)Z"⟩ ⟨"BulbInAStaff", "isSoBy", "(Ljava/lang/Object;III)Z"⟩) ∈ lw_all := lw_g (lw_at lw_ms 42 rfl) rfl
theorem qs43 : (Cond.selects "BulbInAStaff" ⟨"BulbInAStaff", "bulbsBy", "(Ljava/lang/Object;IZ)I"⟩ ⟨"BulbInAStaff", "bulbsBy", "(Ljava/lang/Object;IZ)I"⟩) ∈ lw_all := lw_g (lw_at lw_ms 43 rfl) rfl
theorem qs44 : (Cond.selects "BulbInAStaff" ⟨"BulbInAStaff", "textsOf", "(Ljava/lang/Object;I)I"⟩ ⟨"BulbInAStaff", "textsOf", "(Ljava/lang/Object;I)I"⟩) ∈ lw_all := lw_g (lw_at lw_ms 44 rfl) rfl
theorem qs45 : (Cond.selects "BulbInAStaff" ⟨"BulbInAStaff", "allDrawn", "(II)I"⟩ ⟨"BulbInAStaff", "allDrawn", "(II)I"⟩) ∈ lw_all := lw_g (lw_at lw_ms 45 rfl) rfl
theorem qs46 : (Cond.selects "BulbInAStaff" ⟨"BulbInAStaff", "came", "(Ljava/lang/Object;III)I"⟩ ⟨"BulbInAStaff", "came", "(Ljava/lang/Object;III)I"⟩) ∈ lw_all := lw_g (lw_at lw_ms 46 rfl) rfl
theorem qs47 : (Cond.selects "BulbInAStaffModel" ⟨"BulbInAStaffModel", "spell", "(IIIIIIIII)V"⟩ ⟨"BulbInAStaffModel", "spell", "(IIIIIIIII)V"⟩) ∈ lw_all := lw_g (lw_at lw_ms 47 rfl) rfl
theorem qs48 : (Cond.selects "BulbInAStaffModel" ⟨"BulbInAStaffModel", "isOf", "(II)Z"⟩ ⟨"BulbInAStaffModel", "isOf", "(II)Z"⟩) ∈ lw_all := lw_g (lw_at lw_ms 48 rfl) rfl
theorem qs49 : (Cond.selects "BulbInAStaffModel" ⟨"BulbInAStaffModel", "isPlanting", "(I)Z"⟩ ⟨"BulbInAStaffModel", "isPlanting", "(I)Z"⟩) ∈ lw_all := lw_g (lw_at lw_ms 49 rfl) rfl
theorem qs50 : (Cond.selects "BulbInAStaffModel" ⟨"BulbInAStaffModel", "rotsOf", "(I)I"⟩ ⟨"BulbInAStaffModel", "rotsOf", "(I)I"⟩) ∈ lw_all := lw_g (lw_at lw_ms 50 rfl) rfl
theorem qs51 : (Cond.selects "BulbInAStaffModel" ⟨"BulbInAStaffModel", "says", "(II)I"⟩ ⟨"BulbInAStaffModel", "says", "(II)I"⟩) ∈ lw_all := lw_g (lw_at lw_ms 51 rfl) rfl
theorem qs52 : (Cond.selects "BulbInAStaffModel" ⟨"BulbInAStaffModel", "read", "(II)I"⟩ ⟨"BulbInAStaffModel", "read", "(II)I"⟩) ∈ lw_all := lw_g (lw_at lw_ms 52 rfl) rfl
theorem qs53 : (Cond.selects "BulbInAStaffModel" ⟨"BulbInAStaffModel", "next", "()V"⟩ ⟨"BulbInAStaffModel", "next", "()V"⟩) ∈ lw_all := lw_g (lw_at lw_ms 53 rfl) rfl
theorem qs54 : (Cond.selects "BulbInAStaffModel" ⟨"BulbInAStaffModel", "byteAt", "(I)I"⟩ ⟨"BulbInAStaffModel", "byteAt", "(I)I"⟩) ∈ lw_all := lw_g (lw_at lw_ms 54 rfl) rfl
theorem qs55 : (Cond.selects "BulbInAStaffModel" ⟨"BulbInAStaffModel", "isWord", "(IIIIIIII)Z"⟩ ⟨"BulbInAStaffModel", "isWord", "(IIIIIIII)Z"⟩) ∈ lw_all := lw_g (lw_at lw_ms 55 rfl) rfl
theorem qs56 : (Cond.selects "BulbInAStaffModel" ⟨"BulbInAStaffModel", "isLetter", "(II)Z"⟩ ⟨"BulbInAStaffModel", "isLetter", "(II)Z"⟩) ∈ lw_all := lw_g (lw_at lw_ms 56 rfl) rfl
theorem qs57 : (Cond.selects "BulbInAStaffModel" ⟨"BulbInAStaffModel", "part", "(Z)I"⟩ ⟨"BulbInAStaffModel", "part", "(Z)I"⟩) ∈ lw_all := lw_g (lw_at lw_ms 57 rfl) rfl
theorem qs58 : (Cond.selects "BulbInAStaffModel" ⟨"BulbInAStaffModel", "fail", "()V"⟩ ⟨"BulbInAStaffModel", "fail", "()V"⟩) ∈ lw_all := lw_g (lw_at lw_ms 58 rfl) rfl
theorem qs59 : (Cond.selects "BulbInAStaffModel" ⟨"BulbInAStaffModel", "either0", "()I"⟩ ⟨"BulbInAStaffModel", "either0", "()I"⟩) ∈ lw_all := lw_g (lw_at lw_ms 59 rfl) rfl
theorem qs60 : (Cond.selects "BulbInAStaffModel" ⟨"BulbInAStaffModel", "both0", "()I"⟩ ⟨"BulbInAStaffModel", "both0", "()I"⟩) ∈ lw_all := lw_g (lw_at lw_ms 60 rfl) rfl
theorem qs61 : (Cond.selects "BulbInAStaffModel" ⟨"BulbInAStaffModel", "not0", "()I"⟩ ⟨"BulbInAStaffModel", "not0", "()I"⟩) ∈ lw_all := lw_g (lw_at lw_ms 61 rfl) rfl
theorem qs62 : (Cond.selects "BulbInAStaffModel" ⟨"BulbInAStaffModel", "opens", "()Z"⟩ ⟨"BulbInAStaffModel", "opens", "()Z"⟩) ∈ lw_all := lw_g (lw_at lw_ms 62 rfl) rfl
theorem qs63 : (Cond.selects "BulbInAStaffModel" ⟨"BulbInAStaffModel", "not1", "()I"⟩ ⟨"BulbInAStaffModel", "not1", "()I"⟩) ∈ lw_all := lw_g (lw_at lw_ms 63 rfl) rfl
theorem qs64 : (Cond.selects "BulbInAStaffModel" ⟨"BulbInAStaffModel", "not2", "()I"⟩ ⟨"BulbInAStaffModel", "not2", "()I"⟩) ∈ lw_all := lw_g (lw_at lw_ms 64 rfl) rfl
theorem qs65 : (Cond.selects "BulbInAStaffModel" ⟨"BulbInAStaffModel", "not3", "()I"⟩ ⟨"BulbInAStaffModel", "not3", "()I"⟩) ∈ lw_all := lw_g (lw_at lw_ms 65 rfl) rfl
theorem qs66 : (Cond.selects "BulbInAStaffModel" ⟨"BulbInAStaffModel", "not4", "()I"⟩ ⟨"BulbInAStaffModel", "not4", "()I"⟩) ∈ lw_all := lw_g (lw_at lw_ms 66 rfl) rfl
theorem qs67 : (Cond.selects "BulbInAStaffModel" ⟨"BulbInAStaffModel", "not5", "()I"⟩ ⟨"BulbInAStaffModel", "not5", "()I"⟩) ∈ lw_all := lw_g (lw_at lw_ms 67 rfl) rfl
theorem qs68 : (Cond.selects "BulbInAStaffModel" ⟨"BulbInAStaffModel", "added5", "()I"⟩ ⟨"BulbInAStaffModel", "added5", "()I"⟩) ∈ lw_all := lw_g (lw_at lw_ms 68 rfl) rfl
theorem qs69 : (Cond.selects "BulbInAStaffModel" ⟨"BulbInAStaffModel", "term5", "()I"⟩ ⟨"BulbInAStaffModel", "term5", "()I"⟩) ∈ lw_all := lw_g (lw_at lw_ms 69 rfl) rfl
theorem qs70 : (Cond.selects "BulbInAStaffModel" ⟨"BulbInAStaffModel", "atom5", "()I"⟩ ⟨"BulbInAStaffModel", "atom5", "()I"⟩) ∈ lw_all := lw_g (lw_at lw_ms 70 rfl) rfl
theorem qs71 : (Cond.selects "BulbInAStaffModel" ⟨"BulbInAStaffModel", "isSign", "(I)Z"⟩ ⟨"BulbInAStaffModel", "isSign", "(I)Z"⟩) ∈ lw_all := lw_g (lw_at lw_ms 71 rfl) rfl
theorem qs72 : (Cond.selects "BulbInAStaffModel" ⟨"BulbInAStaffModel", "name", "()I"⟩ ⟨"BulbInAStaffModel", "name", "()I"⟩) ∈ lw_all := lw_g (lw_at lw_ms 72 rfl) rfl
theorem qs73 : (Cond.selects "BulbInAStaffModel" ⟨"BulbInAStaffModel", "added4", "()I"⟩ ⟨"BulbInAStaffModel", "added4", "()I"⟩) ∈ lw_all := lw_g (lw_at lw_ms 73 rfl) rfl
theorem qs74 : (Cond.selects "BulbInAStaffModel" ⟨"BulbInAStaffModel", "term4", "()I"⟩ ⟨"BulbInAStaffModel", "term4", "()I"⟩) ∈ lw_all := lw_g (lw_at lw_ms 74 rfl) rfl
theorem qs75 : (Cond.selects "BulbInAStaffModel" ⟨"BulbInAStaffModel", "atom4", "()I"⟩ ⟨"BulbInAStaffModel", "atom4", "()I"⟩) ∈ lw_all := lw_g (lw_at lw_ms 75 rfl) rfl
theorem qs76 : (Cond.selects "BulbInAStaffModel" ⟨"BulbInAStaffModel", "either5", "()I"⟩ ⟨"BulbInAStaffModel", "either5", "()I"⟩) ∈ lw_all := lw_g (lw_at lw_ms 76 rfl) rfl
theorem qs77 : (Cond.selects "BulbInAStaffModel" ⟨"BulbInAStaffModel", "both5", "()I"⟩ ⟨"BulbInAStaffModel", "both5", "()I"⟩) ∈ lw_all := lw_g (lw_at lw_ms 77 rfl) rfl
theorem qs78 : (Cond.selects "BulbInAStaffModel" ⟨"BulbInAStaffModel", "added3", "()I"⟩ ⟨"BulbInAStaffModel", "added3", "()I"⟩) ∈ lw_all := lw_g (lw_at lw_ms 78 rfl) rfl
theorem qs79 : (Cond.selects "BulbInAStaffModel" ⟨"BulbInAStaffModel", "term3", "()I"⟩ ⟨"BulbInAStaffModel", "term3", "()I"⟩) ∈ lw_all := lw_g (lw_at lw_ms 79 rfl) rfl
theorem qs80 : (Cond.selects "BulbInAStaffModel" ⟨"BulbInAStaffModel", "atom3", "()I"⟩ ⟨"BulbInAStaffModel", "atom3", "()I"⟩) ∈ lw_all := lw_g (lw_at lw_ms 80 rfl) rfl
theorem qs81 : (Cond.selects "BulbInAStaffModel" ⟨"BulbInAStaffModel", "either4", "()I"⟩ ⟨"BulbInAStaffModel", "either4", "()I"⟩) ∈ lw_all := lw_g (lw_at lw_ms 81 rfl) rfl
theorem qs82 : (Cond.selects "BulbInAStaffModel" ⟨"BulbInAStaffModel", "both4", "()I"⟩ ⟨"BulbInAStaffModel", "both4", "()I"⟩) ∈ lw_all := lw_g (lw_at lw_ms 82 rfl) rfl
theorem qs83 : (Cond.selects "BulbInAStaffModel" ⟨"BulbInAStaffModel", "added2", "()I"⟩ ⟨"BulbInAStaffModel", "added2", "()I"⟩) ∈ lw_all := lw_g (lw_at lw_ms 83 rfl) rfl
theorem qs84 : (Cond.selects "BulbInAStaffModel" ⟨"BulbInAStaffModel", "term2", "()I"⟩ ⟨"BulbInAStaffModel", "term2", "()I"⟩) ∈ lw_all := lw_g (lw_at lw_ms 84 rfl) rfl
theorem qs85 : (Cond.selects "BulbInAStaffModel" ⟨"BulbInAStaffModel", "atom2", "()I"⟩ ⟨"BulbInAStaffModel", "atom2", "()I"⟩) ∈ lw_all := lw_g (lw_at lw_ms 85 rfl) rfl
theorem qs86 : (Cond.selects "BulbInAStaffModel" ⟨"BulbInAStaffModel", "either3", "()I"⟩ ⟨"BulbInAStaffModel", "either3", "()I"⟩) ∈ lw_all := lw_g (lw_at lw_ms 86 rfl) rfl
theorem qs87 : (Cond.selects "BulbInAStaffModel" ⟨"BulbInAStaffModel", "both3", "()I"⟩ ⟨"BulbInAStaffModel", "both3", "()I"⟩) ∈ lw_all := lw_g (lw_at lw_ms 87 rfl) rfl
theorem qs88 : (Cond.selects "BulbInAStaffModel" ⟨"BulbInAStaffModel", "added1", "()I"⟩ ⟨"BulbInAStaffModel", "added1", "()I"⟩) ∈ lw_all := lw_g (lw_at lw_ms 88 rfl) rfl
theorem qs89 : (Cond.selects "BulbInAStaffModel" ⟨"BulbInAStaffModel", "term1", "()I"⟩ ⟨"BulbInAStaffModel", "term1", "()I"⟩) ∈ lw_all := lw_g (lw_at lw_ms 89 rfl) rfl
theorem qs90 : (Cond.selects "BulbInAStaffModel" ⟨"BulbInAStaffModel", "atom1", "()I"⟩ ⟨"BulbInAStaffModel", "atom1", "()I"⟩) ∈ lw_all := lw_g (lw_at lw_ms 90 rfl) rfl
theorem qs91 : (Cond.selects "BulbInAStaffModel" ⟨"BulbInAStaffModel", "either2", "()I"⟩ ⟨"BulbInAStaffModel", "either2", "()I"⟩) ∈ lw_all := lw_g (lw_at lw_ms 91 rfl) rfl
theorem qs92 : (Cond.selects "BulbInAStaffModel" ⟨"BulbInAStaffModel", "both2", "()I"⟩ ⟨"BulbInAStaffModel", "both2", "()I"⟩) ∈ lw_all := lw_g (lw_at lw_ms 92 rfl) rfl
theorem qs93 : (Cond.selects "BulbInAStaffModel" ⟨"BulbInAStaffModel", "added0", "()I"⟩ ⟨"BulbInAStaffModel", "added0", "()I"⟩) ∈ lw_all := lw_g (lw_at lw_ms 93 rfl) rfl
theorem qs94 : (Cond.selects "BulbInAStaffModel" ⟨"BulbInAStaffModel", "term0", "()I"⟩ ⟨"BulbInAStaffModel", "term0", "()I"⟩) ∈ lw_all := lw_g (lw_at lw_ms 94 rfl) rfl
theorem qs95 : (Cond.selects "BulbInAStaffModel" ⟨"BulbInAStaffModel", "atom0", "()I"⟩ ⟨"BulbInAStaffModel", "atom0", "()I"⟩) ∈ lw_all := lw_g (lw_at lw_ms 95 rfl) rfl
theorem qs96 : (Cond.selects "BulbInAStaffModel" ⟨"BulbInAStaffModel", "either1", "()I"⟩ ⟨"BulbInAStaffModel", "either1", "()I"⟩) ∈ lw_all := lw_g (lw_at lw_ms 96 rfl) rfl
theorem qs97 : (Cond.selects "BulbInAStaffModel" ⟨"BulbInAStaffModel", "both1", "()I"⟩ ⟨"BulbInAStaffModel", "both1", "()I"⟩) ∈ lw_all := lw_g (lw_at lw_ms 97 rfl) rfl
theorem qs98 : (Cond.selects "BulbInAStaffModel" ⟨"BulbInAStaffModel", "growsOf", "(II)I"⟩ ⟨"BulbInAStaffModel", "growsOf", "(II)I"⟩) ∈ lw_all := lw_g (lw_at lw_ms 98 rfl) rfl
theorem qs99 : (Cond.selects "BulbInAStaffModel" ⟨"BulbInAStaffModel", "flowersOf", "(II)I"⟩ ⟨"BulbInAStaffModel", "flowersOf", "(II)I"⟩) ∈ lw_all := lw_g (lw_at lw_ms 99 rfl) rfl
theorem qs100 : (Cond.selects "BulbInAStaffModel" ⟨"BulbInAStaffModel", "lays", "(III)V"⟩ ⟨"BulbInAStaffModel", "lays", "(III)V"⟩) ∈ lw_all := lw_g (lw_at lw_ms 100 rfl) rfl
theorem qs101 : (Cond.selects "BulbInAStaffModel" ⟨"BulbInAStaffModel", "comes", "(IIII)V"⟩ ⟨"BulbInAStaffModel", "comes", "(IIII)V"⟩) ∈ lw_all := lw_g (lw_at lw_ms 101 rfl) rfl
theorem qs102 : (Cond.selects "BulbInAStaffModel" ⟨"BulbInAStaffModel", "worthOf", "(I)I"⟩ ⟨"BulbInAStaffModel", "worthOf", "(I)I"⟩) ∈ lw_all := lw_g (lw_at lw_ms 102 rfl) rfl
theorem qs103 : (Cond.selects "BulbInAStaffModel" ⟨"BulbInAStaffModel", "lives", "()V"⟩ ⟨"BulbInAStaffModel", "lives", "()V"⟩) ∈ lw_all := lw_g (lw_at lw_ms 103 rfl) rfl
theorem qs104 : (Cond.selects "BulbInAStaffModel" ⟨"BulbInAStaffModel", "all", "()I"⟩ ⟨"BulbInAStaffModel", "all", "()I"⟩) ∈ lw_all := lw_g (lw_at lw_ms 104 rfl) rfl
theorem qs105 : (Cond.selects "BulbInAStaffModel" ⟨"BulbInAStaffModel", "laysAside", "()V"⟩ ⟨"BulbInAStaffModel", "laysAside", "()V"⟩) ∈ lw_all := lw_g (lw_at lw_ms 105 rfl) rfl
theorem qs106 : (Cond.selects "BulbInAStaffModel" ⟨"BulbInAStaffModel", "tellsOf", "(I)I"⟩ ⟨"BulbInAStaffModel", "tellsOf", "(I)I"⟩) ∈ lw_all := lw_g (lw_at lw_ms 106 rfl) rfl
theorem qs107 : (Cond.selects "BulbInAStaffModel" ⟨"BulbInAStaffModel", "bloom", "()I"⟩ ⟨"BulbInAStaffModel", "bloom", "()I"⟩) ∈ lw_all := lw_g (lw_at lw_ms 107 rfl) rfl
theorem qs108 : (Cond.selects "BulbInAStaffModel" ⟨"BulbInAStaffModel", "heir", "()I"⟩ ⟨"BulbInAStaffModel", "heir", "()I"⟩) ∈ lw_all := lw_g (lw_at lw_ms 108 rfl) rfl
theorem qs109 : (Cond.selects "BulbInAStaffModel" ⟨"BulbInAStaffModel", "laysBack", "()V"⟩ ⟨"BulbInAStaffModel", "laysBack", "()V"⟩) ∈ lw_all := lw_g (lw_at lw_ms 109 rfl) rfl
theorem qs110 : (Cond.selects "BulbInAStaffModel" ⟨"BulbInAStaffModel", "hidden", "(II)J"⟩ ⟨"BulbInAStaffModel", "hidden", "(II)J"⟩) ∈ lw_all := lw_g (lw_at lw_ms 110 rfl) rfl
theorem qs111 : (Cond.selects "BulbInAStaffModel" ⟨"BulbInAStaffModel", "manyBehind", "(II)I"⟩ ⟨"BulbInAStaffModel", "manyBehind", "(II)I"⟩) ∈ lw_all := lw_g (lw_at lw_ms 111 rfl) rfl
theorem qs112 : (Cond.selects "BulbInAStaffModel" ⟨"BulbInAStaffModel", "worthAll", "()I"⟩ ⟨"BulbInAStaffModel", "worthAll", "()I"⟩) ∈ lw_all := lw_g (lw_at lw_ms 112 rfl) rfl
theorem qs113 : (Cond.selects "BulbInAStaffModel" ⟨"BulbInAStaffModel", "firstOther", "(II)I"⟩ ⟨"BulbInAStaffModel", "firstOther", "(II)I"⟩) ∈ lw_all := lw_g (lw_at lw_ms 113 rfl) rfl
theorem qs114 : (Cond.selects "BulbInAStaffModel" ⟨"BulbInAStaffModel", "allBy", "(II)I"⟩ ⟨"BulbInAStaffModel", "allBy", "(II)I"⟩) ∈ lw_all := lw_g (lw_at lw_ms 114 rfl) rfl
