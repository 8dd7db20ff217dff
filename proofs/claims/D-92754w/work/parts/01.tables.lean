-- ===== PART A: goes FIRST, ahead of the names: the tables' words, and 'selects' of the private methods out of them =====
/-- a private method of a class that the tables say can be made, by its rows of tables_1 -/
def lw_okq (q : MethodName × Nat) : Prop := (q.1.cls ≠ "java/lang/invoke/MethodHandle" ∧ q.1.cls ≠ "java/lang/invoke/VarHandle") ∧ Cond.instantiable q.1.cls q.2 ∈ tables_1 ∧ Cond.privateMethod q.1 ∈ tables_1 ∧ Cond.instanceMethod q.1 ∈ tables_1
set_option maxRecDepth 100000
theorem lw_t1 {w : Cond} (h : w ∈ tables_1_1) : w ∈ tables_1 := List.mem_append_left _ h
theorem lw_t2 {w : Cond} (h : w ∈ tables_1_2) : w ∈ tables_1 := List.mem_append_right _ (List.mem_append_left _ h)
theorem lw_t3 {w : Cond} (h : w ∈ tables_1_3) : w ∈ tables_1 := List.mem_append_right _ (List.mem_append_right _ (List.mem_append_left _ h))
theorem lw_t4 {w : Cond} (h : w ∈ tables_1_4) : w ∈ tables_1 := List.mem_append_right _ (List.mem_append_right _ (List.mem_append_right _ (List.mem_append_left _ h)))
theorem lw_t5 {w : Cond} (h : w ∈ tables_1_5) : w ∈ tables_1 := List.mem_append_right _ (List.mem_append_right _ (List.mem_append_right _ (List.mem_append_right _ (List.mem_append_left _ h))))
theorem lw_t6 {w : Cond} (h : w ∈ tables_1_6) : w ∈ tables_1 := List.mem_append_right _ (List.mem_append_right _ (List.mem_append_right _ (List.mem_append_right _ (List.mem_append_right _ (List.mem_append_left _ h)))))
theorem lw_t7 {w : Cond} (h : w ∈ tables_1_7) : w ∈ tables_1 := List.mem_append_right _ (List.mem_append_right _ (List.mem_append_right _ (List.mem_append_right _ (List.mem_append_right _ (List.mem_append_right _ (List.mem_append_left _ h))))))
theorem lw_t8 {w : Cond} (h : w ∈ tables_1_8) : w ∈ tables_1 := List.mem_append_right _ (List.mem_append_right _ (List.mem_append_right _ (List.mem_append_right _ (List.mem_append_right _ (List.mem_append_right _ (List.mem_append_right _ h))))))
theorem lw_p0 : lw_okq (⟨"java/lang/NullPointerException", "getExtendedNPEMessage", "()Ljava/lang/String;"⟩, 8) := ⟨⟨by decide +kernel, by decide +kernel⟩, lw_t2 (List.mem_of_getElem? (i := 40) rfl), lw_t2 (List.mem_of_getElem? (i := 38) rfl), lw_t2 (List.mem_of_getElem? (i := 39) rfl)⟩
theorem lw_p1 : lw_okq (⟨"java/lang/Throwable", "fillInStackTrace", "(I)Ljava/lang/Throwable;"⟩, 6) := ⟨⟨by decide +kernel, by decide +kernel⟩, lw_t2 (List.mem_of_getElem? (i := 52) rfl), lw_t2 (List.mem_of_getElem? (i := 50) rfl), lw_t2 (List.mem_of_getElem? (i := 51) rfl)⟩
theorem lw_p2 : lw_okq (⟨"AcornYears", "met", "(I)I"⟩, 54) := ⟨⟨by decide +kernel, by decide +kernel⟩, lw_t1 (List.mem_of_getElem? (i := 24) rfl), lw_t2 (List.mem_of_getElem? (i := 101) rfl), lw_t2 (List.mem_of_getElem? (i := 102) rfl)⟩
theorem lw_p3 : lw_okq (⟨"AcornYears", "ask", "(II)I"⟩, 54) := ⟨⟨by decide +kernel, by decide +kernel⟩, lw_t1 (List.mem_of_getElem? (i := 24) rfl), lw_t2 (List.mem_of_getElem? (i := 157) rfl), lw_t2 (List.mem_of_getElem? (i := 158) rfl)⟩
theorem lw_p4 : lw_okq (⟨"AcornYears", "goesOn", "([B)I"⟩, 54) := ⟨⟨by decide +kernel, by decide +kernel⟩, lw_t1 (List.mem_of_getElem? (i := 24) rfl), lw_t2 (List.mem_of_getElem? (i := 207) rfl), lw_t2 (List.mem_of_getElem? (i := 208) rfl)⟩
theorem lw_p5 : lw_okq (⟨"AcornYears", "wipe", "()V"⟩, 54) := ⟨⟨by decide +kernel, by decide +kernel⟩, lw_t1 (List.mem_of_getElem? (i := 24) rfl), lw_t2 (List.mem_of_getElem? (i := 211) rfl), lw_t2 (List.mem_of_getElem? (i := 212) rfl)⟩
theorem lw_p6 : lw_okq (⟨"AcornYears", "here", "()I"⟩, 54) := ⟨⟨by decide +kernel, by decide +kernel⟩, lw_t1 (List.mem_of_getElem? (i := 24) rfl), lw_t2 (List.mem_of_getElem? (i := 215) rfl), lw_t2 (List.mem_of_getElem? (i := 216) rfl)⟩
theorem lw_p7 : lw_okq (⟨"AcornYears", "mayBegin", "(I)Z"⟩, 54) := ⟨⟨by decide +kernel, by decide +kernel⟩, lw_t1 (List.mem_of_getElem? (i := 24) rfl), lw_t2 (List.mem_of_getElem? (i := 219) rfl), lw_t2 (List.mem_of_getElem? (i := 220) rfl)⟩
theorem lw_p8 : lw_okq (⟨"AcornYears", "readsItem", "(I)Z"⟩, 54) := ⟨⟨by decide +kernel, by decide +kernel⟩, lw_t1 (List.mem_of_getElem? (i := 24) rfl), lw_t2 (List.mem_of_getElem? (i := 226) rfl), lw_t2 (List.mem_of_getElem? (i := 227) rfl)⟩
theorem lw_p9 : lw_okq (⟨"AcornYears", "readsEaters", "()Z"⟩, 54) := ⟨⟨by decide +kernel, by decide +kernel⟩, lw_t1 (List.mem_of_getElem? (i := 24) rfl), lw_t2 (List.mem_of_getElem? (i := 230) rfl), lw_t2 (List.mem_of_getElem? (i := 231) rfl)⟩
theorem lw_p10 : lw_okq (⟨"AcornYears", "readsNumber", "(III)Z"⟩, 54) := ⟨⟨by decide +kernel, by decide +kernel⟩, lw_t1 (List.mem_of_getElem? (i := 24) rfl), lw_t2 (List.mem_of_getElem? (i := 234) rfl), lw_t2 (List.mem_of_getElem? (i := 235) rfl)⟩
theorem lw_p11 : lw_okq (⟨"AcornYears", "reads", "(I)Z"⟩, 54) := ⟨⟨by decide +kernel, by decide +kernel⟩, lw_t1 (List.mem_of_getElem? (i := 24) rfl), lw_t2 (List.mem_of_getElem? (i := 238) rfl), lw_t2 (List.mem_of_getElem? (i := 239) rfl)⟩
theorem lw_p12 : lw_okq (⟨"AcornYears", "readsJay", "()Z"⟩, 54) := ⟨⟨by decide +kernel, by decide +kernel⟩, lw_t1 (List.mem_of_getElem? (i := 24) rfl), lw_t3 (List.mem_of_getElem? (i := 2) rfl), lw_t3 (List.mem_of_getElem? (i := 3) rfl)⟩
theorem lw_p13 : lw_okq (⟨"AcornYears", "readsCalendar", "()Z"⟩, 54) := ⟨⟨by decide +kernel, by decide +kernel⟩, lw_t1 (List.mem_of_getElem? (i := 24) rfl), lw_t3 (List.mem_of_getElem? (i := 6) rfl), lw_t3 (List.mem_of_getElem? (i := 7) rfl)⟩
theorem lw_p14 : lw_okq (⟨"AcornYears", "readsChances", "()Z"⟩, 54) := ⟨⟨by decide +kernel, by decide +kernel⟩, lw_t1 (List.mem_of_getElem? (i := 24) rfl), lw_t3 (List.mem_of_getElem? (i := 10) rfl), lw_t3 (List.mem_of_getElem? (i := 11) rfl)⟩
theorem lw_p15 : lw_okq (⟨"AcornYears", "readsSort", "(I)Z"⟩, 54) := ⟨⟨by decide +kernel, by decide +kernel⟩, lw_t1 (List.mem_of_getElem? (i := 24) rfl), lw_t3 (List.mem_of_getElem? (i := 14) rfl), lw_t3 (List.mem_of_getElem? (i := 15) rfl)⟩
def lw_privs_1 : List (MethodName × Nat) := [(⟨"java/lang/NullPointerException", "getExtendedNPEMessage", "()Ljava/lang/String;"⟩, 8), (⟨"java/lang/Throwable", "fillInStackTrace", "(I)Ljava/lang/Throwable;"⟩, 6), (⟨"AcornYears", "met", "(I)I"⟩, 54), (⟨"AcornYears", "ask", "(II)I"⟩, 54), (⟨"AcornYears", "goesOn", "([B)I"⟩, 54), (⟨"AcornYears", "wipe", "()V"⟩, 54), (⟨"AcornYears", "here", "()I"⟩, 54), (⟨"AcornYears", "mayBegin", "(I)Z"⟩, 54), (⟨"AcornYears", "readsItem", "(I)Z"⟩, 54), (⟨"AcornYears", "readsEaters", "()Z"⟩, 54), (⟨"AcornYears", "readsNumber", "(III)Z"⟩, 54), (⟨"AcornYears", "reads", "(I)Z"⟩, 54), (⟨"AcornYears", "readsJay", "()Z"⟩, 54), (⟨"AcornYears", "readsCalendar", "()Z"⟩, 54), (⟨"AcornYears", "readsChances", "()Z"⟩, 54), (⟨"AcornYears", "readsSort", "(I)Z"⟩, 54)]
theorem lw_r1 : ∀ q ∈ lw_privs_1, lw_okq q := List.forall_mem_cons.mpr ⟨lw_p0, List.forall_mem_cons.mpr ⟨lw_p1, List.forall_mem_cons.mpr ⟨lw_p2, List.forall_mem_cons.mpr ⟨lw_p3, List.forall_mem_cons.mpr ⟨lw_p4, List.forall_mem_cons.mpr ⟨lw_p5, List.forall_mem_cons.mpr ⟨lw_p6, List.forall_mem_cons.mpr ⟨lw_p7, List.forall_mem_cons.mpr ⟨lw_p8, List.forall_mem_cons.mpr ⟨lw_p9, List.forall_mem_cons.mpr ⟨lw_p10, List.forall_mem_cons.mpr ⟨lw_p11, List.forall_mem_cons.mpr ⟨lw_p12, List.forall_mem_cons.mpr ⟨lw_p13, List.forall_mem_cons.mpr ⟨lw_p14, List.forall_mem_cons.mpr ⟨lw_p15, fun _ h => absurd h List.not_mem_nil⟩⟩⟩⟩⟩⟩⟩⟩⟩⟩⟩⟩⟩⟩⟩⟩
theorem lw_p16 : lw_okq (⟨"AcornYears", "readsWarm", "([B)LAcornYears$Sort;"⟩, 54) := ⟨⟨by decide +kernel, by decide +kernel⟩, lw_t1 (List.mem_of_getElem? (i := 24) rfl), lw_t3 (List.mem_of_getElem? (i := 31) rfl), lw_t3 (List.mem_of_getElem? (i := 32) rfl)⟩
theorem lw_p17 : lw_okq (⟨"AcornYears", "readsSaver", "(I[B)LAcornYears$Sort;"⟩, 54) := ⟨⟨by decide +kernel, by decide +kernel⟩, lw_t1 (List.mem_of_getElem? (i := 24) rfl), lw_t3 (List.mem_of_getElem? (i := 49) rfl), lw_t3 (List.mem_of_getElem? (i := 50) rfl)⟩
theorem lw_p18 : lw_okq (⟨"AcornYears", "isSort", "(I)Z"⟩, 54) := ⟨⟨by decide +kernel, by decide +kernel⟩, lw_t1 (List.mem_of_getElem? (i := 24) rfl), lw_t3 (List.mem_of_getElem? (i := 106) rfl), lw_t3 (List.mem_of_getElem? (i := 107) rfl)⟩
theorem lw_p19 : lw_okq (⟨"AcornYears", "newTree", "(II)I"⟩, 54) := ⟨⟨by decide +kernel, by decide +kernel⟩, lw_t1 (List.mem_of_getElem? (i := 24) rfl), lw_t3 (List.mem_of_getElem? (i := 110) rfl), lw_t3 (List.mem_of_getElem? (i := 111) rfl)⟩
theorem lw_p20 : lw_okq (⟨"AcornYears", "aboutOf", "(II)I"⟩, 54) := ⟨⟨by decide +kernel, by decide +kernel⟩, lw_t1 (List.mem_of_getElem? (i := 24) rfl), lw_t3 (List.mem_of_getElem? (i := 139) rfl), lw_t3 (List.mem_of_getElem? (i := 140) rfl)⟩
theorem lw_p21 : lw_okq (⟨"AcornYears", "isTree", "(I)Z"⟩, 54) := ⟨⟨by decide +kernel, by decide +kernel⟩, lw_t1 (List.mem_of_getElem? (i := 24) rfl), lw_t3 (List.mem_of_getElem? (i := 212) rfl), lw_t3 (List.mem_of_getElem? (i := 213) rfl)⟩
theorem lw_p22 : lw_okq (⟨"AcornYears", "toldOf", "(II)I"⟩, 54) := ⟨⟨by decide +kernel, by decide +kernel⟩, lw_t1 (List.mem_of_getElem? (i := 24) rfl), lw_t3 (List.mem_of_getElem? (i := 216) rfl), lw_t3 (List.mem_of_getElem? (i := 217) rfl)⟩
theorem lw_p23 : lw_okq (⟨"AcornYears", "nowOf", "(I)I"⟩, 54) := ⟨⟨by decide +kernel, by decide +kernel⟩, lw_t1 (List.mem_of_getElem? (i := 24) rfl), lw_t3 (List.mem_of_getElem? (i := 224) rfl), lw_t3 (List.mem_of_getElem? (i := 225) rfl)⟩
theorem lw_p24 : lw_okq (⟨"AcornYears", "miceOf", "(I)I"⟩, 54) := ⟨⟨by decide +kernel, by decide +kernel⟩, lw_t1 (List.mem_of_getElem? (i := 24) rfl), lw_t3 (List.mem_of_getElem? (i := 228) rfl), lw_t3 (List.mem_of_getElem? (i := 229) rfl)⟩
theorem lw_p25 : lw_okq (⟨"AcornYears", "areEaters", "(I)Z"⟩, 54) := ⟨⟨by decide +kernel, by decide +kernel⟩, lw_t1 (List.mem_of_getElem? (i := 24) rfl), lw_t3 (List.mem_of_getElem? (i := 232) rfl), lw_t3 (List.mem_of_getElem? (i := 233) rfl)⟩
theorem lw_p26 : lw_okq (⟨"AcornYears", "passHere", "(I)V"⟩, 54) := ⟨⟨by decide +kernel, by decide +kernel⟩, lw_t1 (List.mem_of_getElem? (i := 24) rfl), lw_t4 (List.mem_of_getElem? (i := 12) rfl), lw_t4 (List.mem_of_getElem? (i := 13) rfl)⟩
theorem lw_p27 : lw_okq (⟨"AcornYears", "pass", "(LAcornYears$Wood;IZ)V"⟩, 54) := ⟨⟨by decide +kernel, by decide +kernel⟩, lw_t1 (List.mem_of_getElem? (i := 24) rfl), lw_t4 (List.mem_of_getElem? (i := 16) rfl), lw_t4 (List.mem_of_getElem? (i := 17) rfl)⟩
theorem lw_p28 : lw_okq (⟨"AcornYears", "grow", "(LAcornYears$Wood;I)V"⟩, 54) := ⟨⟨by decide +kernel, by decide +kernel⟩, lw_t1 (List.mem_of_getElem? (i := 24) rfl), lw_t4 (List.mem_of_getElem? (i := 20) rfl), lw_t4 (List.mem_of_getElem? (i := 21) rfl)⟩
theorem lw_p29 : lw_okq (⟨"AcornYears", "sortOf", "(I)LAcornYears$Sort;"⟩, 54) := ⟨⟨by decide +kernel, by decide +kernel⟩, lw_t1 (List.mem_of_getElem? (i := 24) rfl), lw_t4 (List.mem_of_getElem? (i := 24) rfl), lw_t4 (List.mem_of_getElem? (i := 25) rfl)⟩
theorem lw_p30 : lw_okq (⟨"AcornYears", "bear", "(LAcornYears$Wood;I)V"⟩, 54) := ⟨⟨by decide +kernel, by decide +kernel⟩, lw_t1 (List.mem_of_getElem? (i := 24) rfl), lw_t4 (List.mem_of_getElem? (i := 57) rfl), lw_t4 (List.mem_of_getElem? (i := 58) rfl)⟩
theorem lw_p31 : lw_okq (⟨"AcornYears", "countHalves", "(LAcornYears$Wood;)V"⟩, 54) := ⟨⟨by decide +kernel, by decide +kernel⟩, lw_t1 (List.mem_of_getElem? (i := 24) rfl), lw_t4 (List.mem_of_getElem? (i := 61) rfl), lw_t4 (List.mem_of_getElem? (i := 62) rfl)⟩
def lw_privs_2 : List (MethodName × Nat) := [(⟨"AcornYears", "readsWarm", "([B)LAcornYears$Sort;"⟩, 54), (⟨"AcornYears", "readsSaver", "(I[B)LAcornYears$Sort;"⟩, 54), (⟨"AcornYears", "isSort", "(I)Z"⟩, 54), (⟨"AcornYears", "newTree", "(II)I"⟩, 54), (⟨"AcornYears", "aboutOf", "(II)I"⟩, 54), (⟨"AcornYears", "isTree", "(I)Z"⟩, 54), (⟨"AcornYears", "toldOf", "(II)I"⟩, 54), (⟨"AcornYears", "nowOf", "(I)I"⟩, 54), (⟨"AcornYears", "miceOf", "(I)I"⟩, 54), (⟨"AcornYears", "areEaters", "(I)Z"⟩, 54), (⟨"AcornYears", "passHere", "(I)V"⟩, 54), (⟨"AcornYears", "pass", "(LAcornYears$Wood;IZ)V"⟩, 54), (⟨"AcornYears", "grow", "(LAcornYears$Wood;I)V"⟩, 54), (⟨"AcornYears", "sortOf", "(I)LAcornYears$Sort;"⟩, 54), (⟨"AcornYears", "bear", "(LAcornYears$Wood;I)V"⟩, 54), (⟨"AcornYears", "countHalves", "(LAcornYears$Wood;)V"⟩, 54)]
theorem lw_r2 : ∀ q ∈ lw_privs_2, lw_okq q := List.forall_mem_cons.mpr ⟨lw_p16, List.forall_mem_cons.mpr ⟨lw_p17, List.forall_mem_cons.mpr ⟨lw_p18, List.forall_mem_cons.mpr ⟨lw_p19, List.forall_mem_cons.mpr ⟨lw_p20, List.forall_mem_cons.mpr ⟨lw_p21, List.forall_mem_cons.mpr ⟨lw_p22, List.forall_mem_cons.mpr ⟨lw_p23, List.forall_mem_cons.mpr ⟨lw_p24, List.forall_mem_cons.mpr ⟨lw_p25, List.forall_mem_cons.mpr ⟨lw_p26, List.forall_mem_cons.mpr ⟨lw_p27, List.forall_mem_cons.mpr ⟨lw_p28, List.forall_mem_cons.mpr ⟨lw_p29, List.forall_mem_cons.mpr ⟨lw_p30, List.forall_mem_cons.mpr ⟨lw_p31, fun _ h => absurd h List.not_mem_nil⟩⟩⟩⟩⟩⟩⟩⟩⟩⟩⟩⟩⟩⟩⟩⟩
theorem lw_p32 : lw_okq (⟨"AcornYears", "halfOf", "(I)I"⟩, 54) := ⟨⟨by decide +kernel, by decide +kernel⟩, lw_t1 (List.mem_of_getElem? (i := 24) rfl), lw_t4 (List.mem_of_getElem? (i := 65) rfl), lw_t4 (List.mem_of_getElem? (i := 66) rfl)⟩
theorem lw_p33 : lw_okq (⟨"AcornYears", "sets", "(I)Z"⟩, 54) := ⟨⟨by decide +kernel, by decide +kernel⟩, lw_t1 (List.mem_of_getElem? (i := 24) rfl), lw_t4 (List.mem_of_getElem? (i := 87) rfl), lw_t4 (List.mem_of_getElem? (i := 88) rfl)⟩
theorem lw_p34 : lw_okq (⟨"AcornYears", "feed", "(LAcornYears$Wood;I)I"⟩, 54) := ⟨⟨by decide +kernel, by decide +kernel⟩, lw_t1 (List.mem_of_getElem? (i := 24) rfl), lw_t4 (List.mem_of_getElem? (i := 112) rfl), lw_t4 (List.mem_of_getElem? (i := 113) rfl)⟩
theorem lw_p35 : lw_okq (⟨"AcornYears", "mayOf", "(I)I"⟩, 54) := ⟨⟨by decide +kernel, by decide +kernel⟩, lw_t1 (List.mem_of_getElem? (i := 24) rfl), lw_t4 (List.mem_of_getElem? (i := 120) rfl), lw_t4 (List.mem_of_getElem? (i := 121) rfl)⟩
theorem lw_p36 : lw_okq (⟨"AcornYears", "isImage", "([I)Z"⟩, 54) := ⟨⟨by decide +kernel, by decide +kernel⟩, lw_t1 (List.mem_of_getElem? (i := 24) rfl), lw_t4 (List.mem_of_getElem? (i := 132) rfl), lw_t4 (List.mem_of_getElem? (i := 133) rfl)⟩
theorem lw_p37 : lw_okq (⟨"AcornYears", "setRing", "()Z"⟩, 54) := ⟨⟨by decide +kernel, by decide +kernel⟩, lw_t1 (List.mem_of_getElem? (i := 24) rfl), lw_t4 (List.mem_of_getElem? (i := 140) rfl), lw_t4 (List.mem_of_getElem? (i := 141) rfl)⟩
theorem lw_p38 : lw_okq (⟨"AcornYears", "phases", "()I"⟩, 54) := ⟨⟨by decide +kernel, by decide +kernel⟩, lw_t1 (List.mem_of_getElem? (i := 24) rfl), lw_t4 (List.mem_of_getElem? (i := 144) rfl), lw_t4 (List.mem_of_getElem? (i := 145) rfl)⟩
theorem lw_p39 : lw_okq (⟨"AcornYears", "note", "(II)V"⟩, 54) := ⟨⟨by decide +kernel, by decide +kernel⟩, lw_t1 (List.mem_of_getElem? (i := 24) rfl), lw_t4 (List.mem_of_getElem? (i := 193) rfl), lw_t4 (List.mem_of_getElem? (i := 194) rfl)⟩
theorem lw_p40 : lw_okq (⟨"AcornYears", "earlier", "(I)I"⟩, 54) := ⟨⟨by decide +kernel, by decide +kernel⟩, lw_t1 (List.mem_of_getElem? (i := 24) rfl), lw_t4 (List.mem_of_getElem? (i := 197) rfl), lw_t4 (List.mem_of_getElem? (i := 198) rfl)⟩
theorem lw_p41 : lw_okq (⟨"AcornYears", "placeOf", "(I)I"⟩, 54) := ⟨⟨by decide +kernel, by decide +kernel⟩, lw_t1 (List.mem_of_getElem? (i := 24) rfl), lw_t4 (List.mem_of_getElem? (i := 201) rfl), lw_t4 (List.mem_of_getElem? (i := 202) rfl)⟩
theorem lw_p42 : lw_okq (⟨"AcornYears", "areAlike", "(II)Z"⟩, 54) := ⟨⟨by decide +kernel, by decide +kernel⟩, lw_t1 (List.mem_of_getElem? (i := 24) rfl), lw_t4 (List.mem_of_getElem? (i := 205) rfl), lw_t4 (List.mem_of_getElem? (i := 206) rfl)⟩
theorem lw_p43 : lw_okq (⟨"AcornYears", "passTrial", "()V"⟩, 54) := ⟨⟨by decide +kernel, by decide +kernel⟩, lw_t1 (List.mem_of_getElem? (i := 24) rfl), lw_t4 (List.mem_of_getElem? (i := 209) rfl), lw_t4 (List.mem_of_getElem? (i := 210) rfl)⟩
theorem lw_p44 : lw_okq (⟨"AcornYears", "goRound", "()Z"⟩, 54) := ⟨⟨by decide +kernel, by decide +kernel⟩, lw_t1 (List.mem_of_getElem? (i := 24) rfl), lw_t4 (List.mem_of_getElem? (i := 217) rfl), lw_t4 (List.mem_of_getElem? (i := 218) rfl)⟩
theorem lw_p45 : lw_okq (⟨"AcornYears", "wipeRing", "()V"⟩, 54) := ⟨⟨by decide +kernel, by decide +kernel⟩, lw_t1 (List.mem_of_getElem? (i := 24) rfl), lw_t4 (List.mem_of_getElem? (i := 221) rfl), lw_t4 (List.mem_of_getElem? (i := 222) rfl)⟩
theorem lw_p46 : lw_okq (⟨"AcornYears", "countYear", "(I)V"⟩, 54) := ⟨⟨by decide +kernel, by decide +kernel⟩, lw_t1 (List.mem_of_getElem? (i := 24) rfl), lw_t4 (List.mem_of_getElem? (i := 225) rfl), lw_t4 (List.mem_of_getElem? (i := 226) rfl)⟩
theorem lw_p47 : lw_okq (⟨"AcornYears", "allPairs", "()J"⟩, 54) := ⟨⟨by decide +kernel, by decide +kernel⟩, lw_t1 (List.mem_of_getElem? (i := 24) rfl), lw_t4 (List.mem_of_getElem? (i := 236) rfl), lw_t4 (List.mem_of_getElem? (i := 237) rfl)⟩
def lw_privs_3 : List (MethodName × Nat) := [(⟨"AcornYears", "halfOf", "(I)I"⟩, 54), (⟨"AcornYears", "sets", "(I)Z"⟩, 54), (⟨"AcornYears", "feed", "(LAcornYears$Wood;I)I"⟩, 54), (⟨"AcornYears", "mayOf", "(I)I"⟩, 54), (⟨"AcornYears", "isImage", "([I)Z"⟩, 54), (⟨"AcornYears", "setRing", "()Z"⟩, 54), (⟨"AcornYears", "phases", "()I"⟩, 54), (⟨"AcornYears", "note", "(II)V"⟩, 54), (⟨"AcornYears", "earlier", "(I)I"⟩, 54), (⟨"AcornYears", "placeOf", "(I)I"⟩, 54), (⟨"AcornYears", "areAlike", "(II)Z"⟩, 54), (⟨"AcornYears", "passTrial", "()V"⟩, 54), (⟨"AcornYears", "goRound", "()Z"⟩, 54), (⟨"AcornYears", "wipeRing", "()V"⟩, 54), (⟨"AcornYears", "countYear", "(I)V"⟩, 54), (⟨"AcornYears", "allPairs", "()J"⟩, 54)]
theorem lw_r3 : ∀ q ∈ lw_privs_3, lw_okq q := List.forall_mem_cons.mpr ⟨lw_p32, List.forall_mem_cons.mpr ⟨lw_p33, List.forall_mem_cons.mpr ⟨lw_p34, List.forall_mem_cons.mpr ⟨lw_p35, List.forall_mem_cons.mpr ⟨lw_p36, List.forall_mem_cons.mpr ⟨lw_p37, List.forall_mem_cons.mpr ⟨lw_p38, List.forall_mem_cons.mpr ⟨lw_p39, List.forall_mem_cons.mpr ⟨lw_p40, List.forall_mem_cons.mpr ⟨lw_p41, List.forall_mem_cons.mpr ⟨lw_p42, List.forall_mem_cons.mpr ⟨lw_p43, List.forall_mem_cons.mpr ⟨lw_p44, List.forall_mem_cons.mpr ⟨lw_p45, List.forall_mem_cons.mpr ⟨lw_p46, List.forall_mem_cons.mpr ⟨lw_p47, fun _ h => absurd h List.not_mem_nil⟩⟩⟩⟩⟩⟩⟩⟩⟩⟩⟩⟩⟩⟩⟩⟩
theorem lw_p48 : lw_okq (⟨"AcornYears", "tell", "(JJI)I"⟩, 54) := ⟨⟨by decide +kernel, by decide +kernel⟩, lw_t1 (List.mem_of_getElem? (i := 24) rfl), lw_t5 (List.mem_of_getElem? (i := 0) rfl), lw_t5 (List.mem_of_getElem? (i := 1) rfl)⟩
theorem lw_p49 : lw_okq (⟨"AcornYears", "goRoundAs", "(II)Z"⟩, 54) := ⟨⟨by decide +kernel, by decide +kernel⟩, lw_t1 (List.mem_of_getElem? (i := 24) rfl), lw_t5 (List.mem_of_getElem? (i := 32) rfl), lw_t5 (List.mem_of_getElem? (i := 33) rfl)⟩
theorem lw_p50 : lw_okq (⟨"AcornYears", "askedLayers", "(II)I"⟩, 54) := ⟨⟨by decide +kernel, by decide +kernel⟩, lw_t1 (List.mem_of_getElem? (i := 24) rfl), lw_t5 (List.mem_of_getElem? (i := 53) rfl), lw_t5 (List.mem_of_getElem? (i := 54) rfl)⟩
theorem lw_p51 : lw_okq (⟨"AcornYears", "countsOf", "(I)I"⟩, 54) := ⟨⟨by decide +kernel, by decide +kernel⟩, lw_t1 (List.mem_of_getElem? (i := 24) rfl), lw_t5 (List.mem_of_getElem? (i := 84) rfl), lw_t5 (List.mem_of_getElem? (i := 85) rfl)⟩
theorem lw_p52 : lw_okq (⟨"AcornYears", "rowCount", "()I"⟩, 54) := ⟨⟨by decide +kernel, by decide +kernel⟩, lw_t1 (List.mem_of_getElem? (i := 24) rfl), lw_t5 (List.mem_of_getElem? (i := 88) rfl), lw_t5 (List.mem_of_getElem? (i := 89) rfl)⟩
theorem lw_p53 : lw_okq (⟨"AcornYears", "textCount", "()I"⟩, 54) := ⟨⟨by decide +kernel, by decide +kernel⟩, lw_t1 (List.mem_of_getElem? (i := 24) rfl), lw_t5 (List.mem_of_getElem? (i := 92) rfl), lw_t5 (List.mem_of_getElem? (i := 93) rfl)⟩
theorem lw_p54 : lw_okq (⟨"AcornYears", "treeCount", "(I)I"⟩, 54) := ⟨⟨by decide +kernel, by decide +kernel⟩, lw_t1 (List.mem_of_getElem? (i := 24) rfl), lw_t5 (List.mem_of_getElem? (i := 96) rfl), lw_t5 (List.mem_of_getElem? (i := 97) rfl)⟩
theorem lw_p55 : lw_okq (⟨"AcornYears", "mix", "(I)V"⟩, 54) := ⟨⟨by decide +kernel, by decide +kernel⟩, lw_t1 (List.mem_of_getElem? (i := 24) rfl), lw_t5 (List.mem_of_getElem? (i := 113) rfl), lw_t5 (List.mem_of_getElem? (i := 114) rfl)⟩
theorem lw_p56 : lw_okq (⟨"AcornYears", "mixWood", "()V"⟩, 54) := ⟨⟨by decide +kernel, by decide +kernel⟩, lw_t1 (List.mem_of_getElem? (i := 24) rfl), lw_t5 (List.mem_of_getElem? (i := 118) rfl), lw_t5 (List.mem_of_getElem? (i := 119) rfl)⟩
theorem lw_p57 : lw_okq (⟨"AcornYearsModel", "meets", "(I)I"⟩, 61) := ⟨⟨by decide +kernel, by decide +kernel⟩, lw_t5 (List.mem_of_getElem? (i := 122) rfl), lw_t6 (List.mem_of_getElem? (i := 102) rfl), lw_t6 (List.mem_of_getElem? (i := 103) rfl)⟩
theorem lw_p58 : lw_okq (⟨"AcornYearsModel", "rowAt", "(II)I"⟩, 61) := ⟨⟨by decide +kernel, by decide +kernel⟩, lw_t5 (List.mem_of_getElem? (i := 122) rfl), lw_t6 (List.mem_of_getElem? (i := 110) rfl), lw_t6 (List.mem_of_getElem? (i := 111) rfl)⟩
theorem lw_p59 : lw_okq (⟨"AcornYearsModel", "tells", "(II)I"⟩, 61) := ⟨⟨by decide +kernel, by decide +kernel⟩, lw_t5 (List.mem_of_getElem? (i := 122) rfl), lw_t6 (List.mem_of_getElem? (i := 114) rfl), lw_t6 (List.mem_of_getElem? (i := 115) rfl)⟩
theorem lw_p60 : lw_okq (⟨"AcornYearsModel", "faultOf", "(I)I"⟩, 61) := ⟨⟨by decide +kernel, by decide +kernel⟩, lw_t5 (List.mem_of_getElem? (i := 122) rfl), lw_t6 (List.mem_of_getElem? (i := 149) rfl), lw_t6 (List.mem_of_getElem? (i := 150) rfl)⟩
theorem lw_p61 : lw_okq (⟨"AcornYearsModel", "byteAt", "(II)I"⟩, 61) := ⟨⟨by decide +kernel, by decide +kernel⟩, lw_t5 (List.mem_of_getElem? (i := 122) rfl), lw_t6 (List.mem_of_getElem? (i := 153) rfl), lw_t6 (List.mem_of_getElem? (i := 154) rfl)⟩
theorem lw_p62 : lw_okq (⟨"AcornYearsModel", "readsItem", "(I)Z"⟩, 61) := ⟨⟨by decide +kernel, by decide +kernel⟩, lw_t5 (List.mem_of_getElem? (i := 122) rfl), lw_t6 (List.mem_of_getElem? (i := 157) rfl), lw_t6 (List.mem_of_getElem? (i := 158) rfl)⟩
theorem lw_p63 : lw_okq (⟨"AcornYearsModel", "readsSort", "(II)Z"⟩, 61) := ⟨⟨by decide +kernel, by decide +kernel⟩, lw_t5 (List.mem_of_getElem? (i := 122) rfl), lw_t6 (List.mem_of_getElem? (i := 164) rfl), lw_t6 (List.mem_of_getElem? (i := 165) rfl)⟩
def lw_privs_4 : List (MethodName × Nat) := [(⟨"AcornYears", "tell", "(JJI)I"⟩, 54), (⟨"AcornYears", "goRoundAs", "(II)Z"⟩, 54), (⟨"AcornYears", "askedLayers", "(II)I"⟩, 54), (⟨"AcornYears", "countsOf", "(I)I"⟩, 54), (⟨"AcornYears", "rowCount", "()I"⟩, 54), (⟨"AcornYears", "textCount", "()I"⟩, 54), (⟨"AcornYears", "treeCount", "(I)I"⟩, 54), (⟨"AcornYears", "mix", "(I)V"⟩, 54), (⟨"AcornYears", "mixWood", "()V"⟩, 54), (⟨"AcornYearsModel", "meets", "(I)I"⟩, 61), (⟨"AcornYearsModel", "rowAt", "(II)I"⟩, 61), (⟨"AcornYearsModel", "tells", "(II)I"⟩, 61), (⟨"AcornYearsModel", "faultOf", "(I)I"⟩, 61), (⟨"AcornYearsModel", "byteAt", "(II)I"⟩, 61), (⟨"AcornYearsModel", "readsItem", "(I)Z"⟩, 61), (⟨"AcornYearsModel", "readsSort", "(II)Z"⟩, 61)]
theorem lw_r4 : ∀ q ∈ lw_privs_4, lw_okq q := List.forall_mem_cons.mpr ⟨lw_p48, List.forall_mem_cons.mpr ⟨lw_p49, List.forall_mem_cons.mpr ⟨lw_p50, List.forall_mem_cons.mpr ⟨lw_p51, List.forall_mem_cons.mpr ⟨lw_p52, List.forall_mem_cons.mpr ⟨lw_p53, List.forall_mem_cons.mpr ⟨lw_p54, List.forall_mem_cons.mpr ⟨lw_p55, List.forall_mem_cons.mpr ⟨lw_p56, List.forall_mem_cons.mpr ⟨lw_p57, List.forall_mem_cons.mpr ⟨lw_p58, List.forall_mem_cons.mpr ⟨lw_p59, List.forall_mem_cons.mpr ⟨lw_p60, List.forall_mem_cons.mpr ⟨lw_p61, List.forall_mem_cons.mpr ⟨lw_p62, List.forall_mem_cons.mpr ⟨lw_p63, fun _ h => absurd h List.not_mem_nil⟩⟩⟩⟩⟩⟩⟩⟩⟩⟩⟩⟩⟩⟩⟩⟩
theorem lw_p64 : lw_okq (⟨"AcornYearsModel", "reads", "(IIII)Z"⟩, 61) := ⟨⟨by decide +kernel, by decide +kernel⟩, lw_t5 (List.mem_of_getElem? (i := 122) rfl), lw_t6 (List.mem_of_getElem? (i := 168) rfl), lw_t6 (List.mem_of_getElem? (i := 169) rfl)⟩
theorem lw_p65 : lw_okq (⟨"AcornYearsModel", "isFigure", "(I)Z"⟩, 61) := ⟨⟨by decide +kernel, by decide +kernel⟩, lw_t5 (List.mem_of_getElem? (i := 122) rfl), lw_t6 (List.mem_of_getElem? (i := 172) rfl), lw_t6 (List.mem_of_getElem? (i := 173) rfl)⟩
theorem lw_p66 : lw_okq (⟨"AcornYearsModel", "readsMore", "(III)Z"⟩, 61) := ⟨⟨by decide +kernel, by decide +kernel⟩, lw_t5 (List.mem_of_getElem? (i := 122) rfl), lw_t6 (List.mem_of_getElem? (i := 176) rfl), lw_t6 (List.mem_of_getElem? (i := 177) rfl)⟩
theorem lw_p67 : lw_okq (⟨"AcornYearsModel", "sign", "(II)Z"⟩, 61) := ⟨⟨by decide +kernel, by decide +kernel⟩, lw_t5 (List.mem_of_getElem? (i := 122) rfl), lw_t6 (List.mem_of_getElem? (i := 180) rfl), lw_t6 (List.mem_of_getElem? (i := 181) rfl)⟩
theorem lw_p68 : lw_okq (⟨"AcornYearsModel", "readsEater", "(I)Z"⟩, 61) := ⟨⟨by decide +kernel, by decide +kernel⟩, lw_t5 (List.mem_of_getElem? (i := 122) rfl), lw_t6 (List.mem_of_getElem? (i := 187) rfl), lw_t6 (List.mem_of_getElem? (i := 188) rfl)⟩
theorem lw_p69 : lw_okq (⟨"AcornYearsModel", "readsJay", "(I)Z"⟩, 61) := ⟨⟨by decide +kernel, by decide +kernel⟩, lw_t5 (List.mem_of_getElem? (i := 122) rfl), lw_t6 (List.mem_of_getElem? (i := 191) rfl), lw_t6 (List.mem_of_getElem? (i := 192) rfl)⟩
theorem lw_p70 : lw_okq (⟨"AcornYearsModel", "readsCalendar", "(I)Z"⟩, 61) := ⟨⟨by decide +kernel, by decide +kernel⟩, lw_t5 (List.mem_of_getElem? (i := 122) rfl), lw_t6 (List.mem_of_getElem? (i := 195) rfl), lw_t6 (List.mem_of_getElem? (i := 196) rfl)⟩
theorem lw_p71 : lw_okq (⟨"AcornYearsModel", "readsChances", "(I)Z"⟩, 61) := ⟨⟨by decide +kernel, by decide +kernel⟩, lw_t5 (List.mem_of_getElem? (i := 122) rfl), lw_t6 (List.mem_of_getElem? (i := 199) rfl), lw_t6 (List.mem_of_getElem? (i := 200) rfl)⟩
theorem lw_p72 : lw_okq (⟨"AcornYearsModel", "isSort", "(I)Z"⟩, 61) := ⟨⟨by decide +kernel, by decide +kernel⟩, lw_t5 (List.mem_of_getElem? (i := 122) rfl), lw_t6 (List.mem_of_getElem? (i := 211) rfl), lw_t6 (List.mem_of_getElem? (i := 212) rfl)⟩
theorem lw_p73 : lw_okq (⟨"AcornYearsModel", "kind", "(I)I"⟩, 61) := ⟨⟨by decide +kernel, by decide +kernel⟩, lw_t5 (List.mem_of_getElem? (i := 122) rfl), lw_t6 (List.mem_of_getElem? (i := 215) rfl), lw_t6 (List.mem_of_getElem? (i := 216) rfl)⟩
theorem lw_p74 : lw_okq (⟨"AcornYearsModel", "isSaver", "(I)Z"⟩, 61) := ⟨⟨by decide +kernel, by decide +kernel⟩, lw_t5 (List.mem_of_getElem? (i := 122) rfl), lw_t6 (List.mem_of_getElem? (i := 223) rfl), lw_t6 (List.mem_of_getElem? (i := 224) rfl)⟩
theorem lw_p75 : lw_okq (⟨"AcornYearsModel", "markOf", "(II)I"⟩, 61) := ⟨⟨by decide +kernel, by decide +kernel⟩, lw_t5 (List.mem_of_getElem? (i := 122) rfl), lw_t6 (List.mem_of_getElem? (i := 227) rfl), lw_t6 (List.mem_of_getElem? (i := 228) rfl)⟩
theorem lw_p76 : lw_okq (⟨"AcornYearsModel", "isEater", "(I)Z"⟩, 61) := ⟨⟨by decide +kernel, by decide +kernel⟩, lw_t5 (List.mem_of_getElem? (i := 122) rfl), lw_t7 (List.mem_of_getElem? (i := 3) rfl), lw_t7 (List.mem_of_getElem? (i := 4) rfl)⟩
theorem lw_p77 : lw_okq (⟨"AcornYearsModel", "grow", "(II)I"⟩, 61) := ⟨⟨by decide +kernel, by decide +kernel⟩, lw_t5 (List.mem_of_getElem? (i := 122) rfl), lw_t7 (List.mem_of_getElem? (i := 11) rfl), lw_t7 (List.mem_of_getElem? (i := 12) rfl)⟩
theorem lw_p78 : lw_okq (⟨"AcornYearsModel", "isTree", "(I)Z"⟩, 61) := ⟨⟨by decide +kernel, by decide +kernel⟩, lw_t5 (List.mem_of_getElem? (i := 122) rfl), lw_t7 (List.mem_of_getElem? (i := 23) rfl), lw_t7 (List.mem_of_getElem? (i := 24) rfl)⟩
theorem lw_p79 : lw_okq (⟨"AcornYearsModel", "treeTells", "(II)I"⟩, 61) := ⟨⟨by decide +kernel, by decide +kernel⟩, lw_t5 (List.mem_of_getElem? (i := 122) rfl), lw_t7 (List.mem_of_getElem? (i := 27) rfl), lw_t7 (List.mem_of_getElem? (i := 28) rfl)⟩
def lw_privs_5 : List (MethodName × Nat) := [(⟨"AcornYearsModel", "reads", "(IIII)Z"⟩, 61), (⟨"AcornYearsModel", "isFigure", "(I)Z"⟩, 61), (⟨"AcornYearsModel", "readsMore", "(III)Z"⟩, 61), (⟨"AcornYearsModel", "sign", "(II)Z"⟩, 61), (⟨"AcornYearsModel", "readsEater", "(I)Z"⟩, 61), (⟨"AcornYearsModel", "readsJay", "(I)Z"⟩, 61), (⟨"AcornYearsModel", "readsCalendar", "(I)Z"⟩, 61), (⟨"AcornYearsModel", "readsChances", "(I)Z"⟩, 61), (⟨"AcornYearsModel", "isSort", "(I)Z"⟩, 61), (⟨"AcornYearsModel", "kind", "(I)I"⟩, 61), (⟨"AcornYearsModel", "isSaver", "(I)Z"⟩, 61), (⟨"AcornYearsModel", "markOf", "(II)I"⟩, 61), (⟨"AcornYearsModel", "isEater", "(I)Z"⟩, 61), (⟨"AcornYearsModel", "grow", "(II)I"⟩, 61), (⟨"AcornYearsModel", "isTree", "(I)Z"⟩, 61), (⟨"AcornYearsModel", "treeTells", "(II)I"⟩, 61)]
theorem lw_r5 : ∀ q ∈ lw_privs_5, lw_okq q := List.forall_mem_cons.mpr ⟨lw_p64, List.forall_mem_cons.mpr ⟨lw_p65, List.forall_mem_cons.mpr ⟨lw_p66, List.forall_mem_cons.mpr ⟨lw_p67, List.forall_mem_cons.mpr ⟨lw_p68, List.forall_mem_cons.mpr ⟨lw_p69, List.forall_mem_cons.mpr ⟨lw_p70, List.forall_mem_cons.mpr ⟨lw_p71, List.forall_mem_cons.mpr ⟨lw_p72, List.forall_mem_cons.mpr ⟨lw_p73, List.forall_mem_cons.mpr ⟨lw_p74, List.forall_mem_cons.mpr ⟨lw_p75, List.forall_mem_cons.mpr ⟨lw_p76, List.forall_mem_cons.mpr ⟨lw_p77, List.forall_mem_cons.mpr ⟨lw_p78, List.forall_mem_cons.mpr ⟨lw_p79, fun _ h => absurd h List.not_mem_nil⟩⟩⟩⟩⟩⟩⟩⟩⟩⟩⟩⟩⟩⟩⟩⟩
theorem lw_p80 : lw_okq (⟨"AcornYearsModel", "nowTells", "(I)I"⟩, 61) := ⟨⟨by decide +kernel, by decide +kernel⟩, lw_t5 (List.mem_of_getElem? (i := 122) rfl), lw_t7 (List.mem_of_getElem? (i := 35) rfl), lw_t7 (List.mem_of_getElem? (i := 36) rfl)⟩
theorem lw_p81 : lw_okq (⟨"AcornYearsModel", "mouseOf", "(I)I"⟩, 61) := ⟨⟨by decide +kernel, by decide +kernel⟩, lw_t5 (List.mem_of_getElem? (i := 122) rfl), lw_t7 (List.mem_of_getElem? (i := 39) rfl), lw_t7 (List.mem_of_getElem? (i := 40) rfl)⟩
theorem lw_p82 : lw_okq (⟨"AcornYearsModel", "passes", "(IIZ)V"⟩, 61) := ⟨⟨by decide +kernel, by decide +kernel⟩, lw_t5 (List.mem_of_getElem? (i := 122) rfl), lw_t7 (List.mem_of_getElem? (i := 47) rfl), lw_t7 (List.mem_of_getElem? (i := 48) rfl)⟩
theorem lw_p83 : lw_okq (⟨"AcornYearsModel", "doesBloom", "(II)Z"⟩, 61) := ⟨⟨by decide +kernel, by decide +kernel⟩, lw_t5 (List.mem_of_getElem? (i := 122) rfl), lw_t7 (List.mem_of_getElem? (i := 51) rfl), lw_t7 (List.mem_of_getElem? (i := 52) rfl)⟩
theorem lw_p84 : lw_okq (⟨"AcornYearsModel", "sets", "(III)I"⟩, 61) := ⟨⟨by decide +kernel, by decide +kernel⟩, lw_t5 (List.mem_of_getElem? (i := 122) rfl), lw_t7 (List.mem_of_getElem? (i := 58) rfl), lw_t7 (List.mem_of_getElem? (i := 59) rfl)⟩
theorem lw_p85 : lw_okq (⟨"AcornYearsModel", "halfMany", "(IIZ)I"⟩, 61) := ⟨⟨by decide +kernel, by decide +kernel⟩, lw_t5 (List.mem_of_getElem? (i := 122) rfl), lw_t7 (List.mem_of_getElem? (i := 62) rfl), lw_t7 (List.mem_of_getElem? (i := 63) rfl)⟩
theorem lw_p86 : lw_okq (⟨"AcornYearsModel", "eaten", "(I)V"⟩, 61) := ⟨⟨by decide +kernel, by decide +kernel⟩, lw_t5 (List.mem_of_getElem? (i := 122) rfl), lw_t7 (List.mem_of_getElem? (i := 66) rfl), lw_t7 (List.mem_of_getElem? (i := 67) rfl)⟩
theorem lw_p87 : lw_okq (⟨"AcornYearsModel", "mayNow", "()I"⟩, 61) := ⟨⟨by decide +kernel, by decide +kernel⟩, lw_t5 (List.mem_of_getElem? (i := 122) rfl), lw_t7 (List.mem_of_getElem? (i := 74) rfl), lw_t7 (List.mem_of_getElem? (i := 75) rfl)⟩
theorem lw_p88 : lw_okq (⟨"AcornYearsModel", "isImage", "(I)Z"⟩, 61) := ⟨⟨by decide +kernel, by decide +kernel⟩, lw_t5 (List.mem_of_getElem? (i := 122) rfl), lw_t7 (List.mem_of_getElem? (i := 86) rfl), lw_t7 (List.mem_of_getElem? (i := 87) rfl)⟩
theorem lw_p89 : lw_okq (⟨"AcornYearsModel", "layRing", "()Z"⟩, 61) := ⟨⟨by decide +kernel, by decide +kernel⟩, lw_t5 (List.mem_of_getElem? (i := 122) rfl), lw_t7 (List.mem_of_getElem? (i := 94) rfl), lw_t7 (List.mem_of_getElem? (i := 95) rfl)⟩
theorem lw_p90 : lw_okq (⟨"AcornYearsModel", "keep", "()V"⟩, 61) := ⟨⟨by decide +kernel, by decide +kernel⟩, lw_t5 (List.mem_of_getElem? (i := 122) rfl), lw_t7 (List.mem_of_getElem? (i := 98) rfl), lw_t7 (List.mem_of_getElem? (i := 99) rfl)⟩
theorem lw_p91 : lw_okq (⟨"AcornYearsModel", "stand", "(I)V"⟩, 61) := ⟨⟨by decide +kernel, by decide +kernel⟩, lw_t5 (List.mem_of_getElem? (i := 122) rfl), lw_t7 (List.mem_of_getElem? (i := 102) rfl), lw_t7 (List.mem_of_getElem? (i := 103) rfl)⟩
theorem lw_p92 : lw_okq (⟨"AcornYearsModel", "walk", "(II)V"⟩, 61) := ⟨⟨by decide +kernel, by decide +kernel⟩, lw_t5 (List.mem_of_getElem? (i := 122) rfl), lw_t7 (List.mem_of_getElem? (i := 106) rfl), lw_t7 (List.mem_of_getElem? (i := 107) rfl)⟩
theorem lw_p93 : lw_okq (⟨"AcornYearsModel", "goTo", "(I)V"⟩, 61) := ⟨⟨by decide +kernel, by decide +kernel⟩, lw_t5 (List.mem_of_getElem? (i := 122) rfl), lw_t7 (List.mem_of_getElem? (i := 110) rfl), lw_t7 (List.mem_of_getElem? (i := 111) rfl)⟩
theorem lw_p94 : lw_okq (⟨"AcornYearsModel", "areAlike", "(II)Z"⟩, 61) := ⟨⟨by decide +kernel, by decide +kernel⟩, lw_t5 (List.mem_of_getElem? (i := 122) rfl), lw_t7 (List.mem_of_getElem? (i := 114) rfl), lw_t7 (List.mem_of_getElem? (i := 115) rfl)⟩
theorem lw_p95 : lw_okq (⟨"AcornYearsModel", "back", "()V"⟩, 61) := ⟨⟨by decide +kernel, by decide +kernel⟩, lw_t5 (List.mem_of_getElem? (i := 122) rfl), lw_t7 (List.mem_of_getElem? (i := 118) rfl), lw_t7 (List.mem_of_getElem? (i := 119) rfl)⟩
def lw_privs_6 : List (MethodName × Nat) := [(⟨"AcornYearsModel", "nowTells", "(I)I"⟩, 61), (⟨"AcornYearsModel", "mouseOf", "(I)I"⟩, 61), (⟨"AcornYearsModel", "passes", "(IIZ)V"⟩, 61), (⟨"AcornYearsModel", "doesBloom", "(II)Z"⟩, 61), (⟨"AcornYearsModel", "sets", "(III)I"⟩, 61), (⟨"AcornYearsModel", "halfMany", "(IIZ)I"⟩, 61), (⟨"AcornYearsModel", "eaten", "(I)V"⟩, 61), (⟨"AcornYearsModel", "mayNow", "()I"⟩, 61), (⟨"AcornYearsModel", "isImage", "(I)Z"⟩, 61), (⟨"AcornYearsModel", "layRing", "()Z"⟩, 61), (⟨"AcornYearsModel", "keep", "()V"⟩, 61), (⟨"AcornYearsModel", "stand", "(I)V"⟩, 61), (⟨"AcornYearsModel", "walk", "(II)V"⟩, 61), (⟨"AcornYearsModel", "goTo", "(I)V"⟩, 61), (⟨"AcornYearsModel", "areAlike", "(II)Z"⟩, 61), (⟨"AcornYearsModel", "back", "()V"⟩, 61)]
theorem lw_r6 : ∀ q ∈ lw_privs_6, lw_okq q := List.forall_mem_cons.mpr ⟨lw_p80, List.forall_mem_cons.mpr ⟨lw_p81, List.forall_mem_cons.mpr ⟨lw_p82, List.forall_mem_cons.mpr ⟨lw_p83, List.forall_mem_cons.mpr ⟨lw_p84, List.forall_mem_cons.mpr ⟨lw_p85, List.forall_mem_cons.mpr ⟨lw_p86, List.forall_mem_cons.mpr ⟨lw_p87, List.forall_mem_cons.mpr ⟨lw_p88, List.forall_mem_cons.mpr ⟨lw_p89, List.forall_mem_cons.mpr ⟨lw_p90, List.forall_mem_cons.mpr ⟨lw_p91, List.forall_mem_cons.mpr ⟨lw_p92, List.forall_mem_cons.mpr ⟨lw_p93, List.forall_mem_cons.mpr ⟨lw_p94, List.forall_mem_cons.mpr ⟨lw_p95, fun _ h => absurd h List.not_mem_nil⟩⟩⟩⟩⟩⟩⟩⟩⟩⟩⟩⟩⟩⟩⟩⟩
theorem lw_p96 : lw_okq (⟨"AcornYearsModel", "laySums", "(II)Z"⟩, 61) := ⟨⟨by decide +kernel, by decide +kernel⟩, lw_t5 (List.mem_of_getElem? (i := 122) rfl), lw_t7 (List.mem_of_getElem? (i := 126) rfl), lw_t7 (List.mem_of_getElem? (i := 127) rfl)⟩
theorem lw_p97 : lw_okq (⟨"AcornYearsModel", "gainOf", "(I)I"⟩, 61) := ⟨⟨by decide +kernel, by decide +kernel⟩, lw_t5 (List.mem_of_getElem? (i := 122) rfl), lw_t7 (List.mem_of_getElem? (i := 130) rfl), lw_t7 (List.mem_of_getElem? (i := 131) rfl)⟩
theorem lw_p98 : lw_okq (⟨"AcornYearsModel", "fraction", "(JJI)I"⟩, 61) := ⟨⟨by decide +kernel, by decide +kernel⟩, lw_t5 (List.mem_of_getElem? (i := 122) rfl), lw_t7 (List.mem_of_getElem? (i := 138) rfl), lw_t7 (List.mem_of_getElem? (i := 139) rfl)⟩
theorem lw_p99 : lw_okq (⟨"AcornYearsModel", "howBy", "(II)I"⟩, 61) := ⟨⟨by decide +kernel, by decide +kernel⟩, lw_t5 (List.mem_of_getElem? (i := 122) rfl), lw_t7 (List.mem_of_getElem? (i := 173) rfl), lw_t7 (List.mem_of_getElem? (i := 174) rfl)⟩
theorem lw_p100 : lw_okq (⟨"AcornYearsModel", "laySort", "(II)Z"⟩, 61) := ⟨⟨by decide +kernel, by decide +kernel⟩, lw_t5 (List.mem_of_getElem? (i := 122) rfl), lw_t7 (List.mem_of_getElem? (i := 177) rfl), lw_t7 (List.mem_of_getElem? (i := 178) rfl)⟩
theorem lw_p101 : lw_okq (⟨"AcornYearsModel", "needLayers", "(II)I"⟩, 61) := ⟨⟨by decide +kernel, by decide +kernel⟩, lw_t5 (List.mem_of_getElem? (i := 122) rfl), lw_t7 (List.mem_of_getElem? (i := 202) rfl), lw_t7 (List.mem_of_getElem? (i := 203) rfl)⟩
theorem lw_p102 : lw_okq (⟨"AcornYearsModel", "fits", "(IIII)Z"⟩, 61) := ⟨⟨by decide +kernel, by decide +kernel⟩, lw_t5 (List.mem_of_getElem? (i := 122) rfl), lw_t7 (List.mem_of_getElem? (i := 210) rfl), lw_t7 (List.mem_of_getElem? (i := 211) rfl)⟩
theorem lw_p103 : lw_okq (⟨"AcornYearsModel", "counted", "(I)I"⟩, 61) := ⟨⟨by decide +kernel, by decide +kernel⟩, lw_t5 (List.mem_of_getElem? (i := 122) rfl), lw_t7 (List.mem_of_getElem? (i := 222) rfl), lw_t7 (List.mem_of_getElem? (i := 223) rfl)⟩
theorem lw_p104 : lw_okq (⟨"AcornYearsModel", "mix", "(J)V"⟩, 61) := ⟨⟨by decide +kernel, by decide +kernel⟩, lw_t5 (List.mem_of_getElem? (i := 122) rfl), lw_t7 (List.mem_of_getElem? (i := 231) rfl), lw_t7 (List.mem_of_getElem? (i := 232) rfl)⟩
theorem lw_p105 : lw_okq (⟨"AcornYearsModel", "mixWood", "()V"⟩, 61) := ⟨⟨by decide +kernel, by decide +kernel⟩, lw_t5 (List.mem_of_getElem? (i := 122) rfl), lw_t7 (List.mem_of_getElem? (i := 236) rfl), lw_t7 (List.mem_of_getElem? (i := 237) rfl)⟩
def lw_privs_7 : List (MethodName × Nat) := [(⟨"AcornYearsModel", "laySums", "(II)Z"⟩, 61), (⟨"AcornYearsModel", "gainOf", "(I)I"⟩, 61), (⟨"AcornYearsModel", "fraction", "(JJI)I"⟩, 61), (⟨"AcornYearsModel", "howBy", "(II)I"⟩, 61), (⟨"AcornYearsModel", "laySort", "(II)Z"⟩, 61), (⟨"AcornYearsModel", "needLayers", "(II)I"⟩, 61), (⟨"AcornYearsModel", "fits", "(IIII)Z"⟩, 61), (⟨"AcornYearsModel", "counted", "(I)I"⟩, 61), (⟨"AcornYearsModel", "mix", "(J)V"⟩, 61), (⟨"AcornYearsModel", "mixWood", "()V"⟩, 61)]
theorem lw_r7 : ∀ q ∈ lw_privs_7, lw_okq q := List.forall_mem_cons.mpr ⟨lw_p96, List.forall_mem_cons.mpr ⟨lw_p97, List.forall_mem_cons.mpr ⟨lw_p98, List.forall_mem_cons.mpr ⟨lw_p99, List.forall_mem_cons.mpr ⟨lw_p100, List.forall_mem_cons.mpr ⟨lw_p101, List.forall_mem_cons.mpr ⟨lw_p102, List.forall_mem_cons.mpr ⟨lw_p103, List.forall_mem_cons.mpr ⟨lw_p104, List.forall_mem_cons.mpr ⟨lw_p105, fun _ h => absurd h List.not_mem_nil⟩⟩⟩⟩⟩⟩⟩⟩⟩⟩
def lw_privs : List (MethodName × Nat) := lw_privs_1 ++ (lw_privs_2 ++ (lw_privs_3 ++ (lw_privs_4 ++ (lw_privs_5 ++ (lw_privs_6 ++ (lw_privs_7))))))
def lw_tbl : List Cond := k2_sels lw_privs ++ tables_1
theorem lw_privs_ok : ∀ q ∈ lw_privs, lw_okq q := by
  show ∀ q ∈ lw_privs_1 ++ (lw_privs_2 ++ (lw_privs_3 ++ (lw_privs_4 ++ (lw_privs_5 ++ (lw_privs_6 ++ (lw_privs_7)))))), lw_okq q
  exact List.forall_mem_append.mpr ⟨lw_r1, List.forall_mem_append.mpr ⟨lw_r2, List.forall_mem_append.mpr ⟨lw_r3, List.forall_mem_append.mpr ⟨lw_r4, List.forall_mem_append.mpr ⟨lw_r5, List.forall_mem_append.mpr ⟨lw_r6, lw_r7⟩⟩⟩⟩⟩⟩
-- ===== ONE list of words for every method: the tables' words that hold all through a run =====
def lw_all : List Cond := lw_tbl.filter goodWord
/-- a word of the tables by its place: claim/WORDS.tsv -/
theorem lw_w {w : Cond} (i : Nat) (h : lw_tbl[i]? = some w) (g : goodWord w = true) : w ∈ lw_all := List.mem_filter.mpr ⟨List.mem_of_getElem? h, g⟩
theorem lw_all_tbl {w : Cond} (h : w ∈ lw_all) : w ∈ lw_tbl := (List.mem_filter.mp h).1
theorem lw_self : GoodIn lw_all lw_all := fun w h => ⟨h, good_of_word (List.mem_filter.mp h).2⟩
/-- a class's field words, by their places -/
theorem lw_in (ws : List Cond) (ps : List Nat) (hp : ws = ps.filterMap (fun i => lw_tbl[i]?)) (hg : ws.all goodWord = true) : ∀ w ∈ ws, w ∈ lw_all := by
  intro w h
  have h1 := List.all_eq_true.mp hg w h
  rw [hp] at h
  obtain ⟨i, -, hi⟩ := List.mem_filterMap.mp h
  exact lw_w i hi h1
/-- the words of a contract for the method y with code b, L locals, answer r -/
abbrev ws_ (y : MethodName) (b : ByteArray) (L : Nat) (r : Option FieldType) : List Cond := Cond.code y b L r :: lw_all
theorem lw_meth {y : MethodName} {b : ByteArray} {L : Nat} {r : Option FieldType} (h : Cond.code y b L r ∈ lw_all) : GoodIn lw_all (ws_ y b L r) := by
  intro w hw
  rcases List.mem_cons.mp hw with e | e
  · rw [e]
    exact lw_self _ h
  · exact lw_self _ e
theorem lw_app {a c : List Cond} (ha : ∀ w ∈ a, w ∈ lw_all) (hc : GoodIn lw_all c) : GoodIn lw_all (a ++ c) := by
  intro w hw
  rcases List.mem_append.mp hw with e | e
  · exact lw_self w (ha w e)
  · exact hc w e
/-- what a call through an object asks: cwV n hts (lw_V ..) -/
theorem lw_V {own : String} {idx : Nat} {C : String} {y : MethodName} {b : ByteArray} {L : Nat} {r : Option FieldType} (h1 : Cond.methodLink own idx y ∈ lw_all) (h2 : Cond.instanceMethod y ∈ lw_all) (h3 : Cond.selects C y y ∈ lw_all) (h4 : Cond.initialized C ∈ lw_all) (h5 : Cond.code y b L r ∈ lw_all) : GoodIn lw_all (wsV own idx C y (ws_ y b L r)) := by
  refine lw_app ?_ (lw_meth h5)
  intro w hw
  simp only [List.mem_cons, List.not_mem_nil, or_false] at hw
  rcases hw with e | e | e | e
  · rw [e]; exact h1
  · rw [e]; exact h2
  · rw [e]; exact h3
  · rw [e]; exact h4
/-- what a static call asks: va_cwS n hts (lw_S ..) -/
theorem lw_S {own : String} {idx : Nat} {y : MethodName} {b : ByteArray} {L : Nat} {r : Option FieldType} (h1 : Cond.methodLink own idx y ∈ lw_all) (h2 : Cond.static y ∈ lw_all) (h3 : Cond.initialized y.cls ∈ lw_all) (h4 : Cond.code y b L r ∈ lw_all) : GoodIn lw_all (va_wsS own idx y (ws_ y b L r)) := by
  refine lw_app ?_ (lw_meth h4)
  intro w hw
  simp only [List.mem_cons, List.not_mem_nil, or_false] at hw
  rcases hw with e | e | e
  · rw [e]; exact h1
  · rw [e]; exact h2
  · rw [e]; exact h3
/-- the words of a contract for a method WITH HANDLERS (hh: its table) -/
abbrev wsW_ (y : MethodName) (b : ByteArray) (L : Nat) (r : Option FieldType) (hh : List (Nat × Nat × Nat × Nat)) : List Cond := Cond.codeWith y b L r hh :: lw_all
theorem lw_methW {y : MethodName} {b : ByteArray} {L : Nat} {r : Option FieldType} {hh : List (Nat × Nat × Nat × Nat)} (h : Cond.codeWith y b L r hh ∈ lw_all) : GoodIn lw_all (wsW_ y b L r hh) := by
  intro w hw
  rcases List.mem_cons.mp hw with e | e
  · rw [e]
    exact lw_self _ h
  · exact lw_self _ e
/-- any list of words by their places (lw_in), good -/
theorem lw_good {ws : List Cond} (h : ∀ w ∈ ws, w ∈ lw_all) : GoodIn lw_all ws := fun w hw => lw_self w (h w hw)
/-- what a call of a method with handlers asks: vx_cwVW n hts (lw_VW ..), vx_cwSW n hts (lw_SW ..) -/
theorem lw_VW {own : String} {idx : Nat} {C : String} {y : MethodName} {b : ByteArray} {L : Nat} {r : Option FieldType} {hh : List (Nat × Nat × Nat × Nat)} (h1 : Cond.methodLink own idx y ∈ lw_all) (h2 : Cond.instanceMethod y ∈ lw_all) (h3 : Cond.selects C y y ∈ lw_all) (h4 : Cond.initialized C ∈ lw_all) (h5 : Cond.codeWith y b L r hh ∈ lw_all) : GoodIn lw_all (wsV own idx C y (wsW_ y b L r hh)) := by
  refine lw_app ?_ (lw_methW h5)
  intro w hw
  simp only [List.mem_cons, List.not_mem_nil, or_false] at hw
  rcases hw with e | e | e | e
  · rw [e]; exact h1
  · rw [e]; exact h2
  · rw [e]; exact h3
  · rw [e]; exact h4
theorem lw_SW {own : String} {idx : Nat} {y : MethodName} {b : ByteArray} {L : Nat} {r : Option FieldType} {hh : List (Nat × Nat × Nat × Nat)} (h1 : Cond.methodLink own idx y ∈ lw_all) (h2 : Cond.static y ∈ lw_all) (h3 : Cond.initialized y.cls ∈ lw_all) (h4 : Cond.codeWith y b L r hh ∈ lw_all) : GoodIn lw_all (va_wsS own idx y (wsW_ y b L r hh)) := by
  refine lw_app ?_ (lw_methW h4)
  intro w hw
  simp only [List.mem_cons, List.not_mem_nil, or_false] at hw
  rcases hw with e | e | e
  · rw [e]; exact h1
  · rw [e]; exact h2
  · rw [e]; exact h3
/-- a word by its place in its run of the tables -/
theorem lw_at {r : List Cond} (hr : ∀ w ∈ r, w ∈ lw_tbl) {w : Cond} (i : Nat) (h : r[i]? = some w) : w ∈ lw_tbl := hr w (List.mem_of_getElem? h)
theorem lw_g {w : Cond} (h : w ∈ lw_tbl) (g : goodWord w = true) : w ∈ lw_all := List.mem_filter.mpr ⟨h, g⟩
theorem lw_ms : ∀ w ∈ k2_sels lw_privs, w ∈ lw_tbl := fun w h => show w ∈ k2_sels lw_privs ++ tables_1 from List.mem_append_left _ h
theorem lw_m1 : ∀ w ∈ tables_1_1, w ∈ lw_tbl := fun w h => show w ∈ k2_sels lw_privs ++ tables_1 from List.mem_append_right (k2_sels lw_privs) (show w ∈ tables_1 from List.mem_append_left _ h)
theorem lw_m2 : ∀ w ∈ tables_1_2, w ∈ lw_tbl := fun w h => show w ∈ k2_sels lw_privs ++ tables_1 from List.mem_append_right (k2_sels lw_privs) (show w ∈ tables_1 from List.mem_append_right _ (List.mem_append_left _ h))
theorem lw_m3 : ∀ w ∈ tables_1_3, w ∈ lw_tbl := fun w h => show w ∈ k2_sels lw_privs ++ tables_1 from List.mem_append_right (k2_sels lw_privs) (show w ∈ tables_1 from List.mem_append_right _ (List.mem_append_right _ (List.mem_append_left _ h)))
theorem lw_m4 : ∀ w ∈ tables_1_4, w ∈ lw_tbl := fun w h => show w ∈ k2_sels lw_privs ++ tables_1 from List.mem_append_right (k2_sels lw_privs) (show w ∈ tables_1 from List.mem_append_right _ (List.mem_append_right _ (List.mem_append_right _ (List.mem_append_left _ h))))
theorem lw_m5 : ∀ w ∈ tables_1_5, w ∈ lw_tbl := fun w h => show w ∈ k2_sels lw_privs ++ tables_1 from List.mem_append_right (k2_sels lw_privs) (show w ∈ tables_1 from List.mem_append_right _ (List.mem_append_right _ (List.mem_append_right _ (List.mem_append_right _ (List.mem_append_left _ h)))))
theorem lw_m6 : ∀ w ∈ tables_1_6, w ∈ lw_tbl := fun w h => show w ∈ k2_sels lw_privs ++ tables_1 from List.mem_append_right (k2_sels lw_privs) (show w ∈ tables_1 from List.mem_append_right _ (List.mem_append_right _ (List.mem_append_right _ (List.mem_append_right _ (List.mem_append_right _ (List.mem_append_left _ h))))))
theorem lw_m7 : ∀ w ∈ tables_1_7, w ∈ lw_tbl := fun w h => show w ∈ k2_sels lw_privs ++ tables_1 from List.mem_append_right (k2_sels lw_privs) (show w ∈ tables_1 from List.mem_append_right _ (List.mem_append_right _ (List.mem_append_right _ (List.mem_append_right _ (List.mem_append_right _ (List.mem_append_right _ (List.mem_append_left _ h)))))))
theorem lw_m8 : ∀ w ∈ tables_1_8, w ∈ lw_tbl := fun w h => show w ∈ k2_sels lw_privs ++ tables_1 from List.mem_append_right (k2_sels lw_privs) (show w ∈ tables_1 from List.mem_append_right _ (List.mem_append_right _ (List.mem_append_right _ (List.mem_append_right _ (List.mem_append_right _ (List.mem_append_right _ (List.mem_append_right _ h)))))))
theorem qs0 : (Cond.selects "java/lang/NullPointerException" ⟨"java/lang/NullPointerException", "getExtendedNPEMessage", "()Ljava/lang/String;"⟩ ⟨"java/lang/NullPointerException", "getExtendedNPEMessage", "()Ljava/lang/String;"⟩) ∈ lw_all := lw_g (lw_at lw_ms 0 rfl) rfl
theorem qs1 : (Cond.selects "java/lang/Throwable" ⟨"java/lang/Throwable", "fillInStackTrace", "(I)Ljava/lang/Throwable;"⟩ ⟨"java/lang/Throwable", "fillInStackTrace", "(I)Ljava/lang/Throwable;"⟩) ∈ lw_all := lw_g (lw_at lw_ms 1 rfl) rfl
theorem qs2 : (Cond.selects "AcornYears" ⟨"AcornYears", "met", "(I)I"⟩ ⟨"AcornYears", "met", "(I)I"⟩) ∈ lw_all := lw_g (lw_at lw_ms 2 rfl) rfl
theorem qs3 : (Cond.selects "AcornYears" ⟨"AcornYears", "ask", "(II)I"⟩ ⟨"AcornYears", "ask", "(II)I"⟩) ∈ lw_all := lw_g (lw_at lw_ms 3 rfl) rfl
theorem qs4 : (Cond.selects "AcornYears" ⟨"AcornYears", "goesOn", "([B)I"⟩ ⟨"AcornYears", "goesOn", "([B)I"⟩) ∈ lw_all := lw_g (lw_at lw_ms 4 rfl) rfl
theorem qs5 : (Cond.selects "AcornYears" ⟨"AcornYears", "wipe", "()V"⟩ ⟨"AcornYears", "wipe", "()V"⟩) ∈ lw_all := lw_g (lw_at lw_ms 5 rfl) rfl
theorem qs6 : (Cond.selects "AcornYears" ⟨"AcornYears", "here", "()I"⟩ ⟨"AcornYears", "here", "()I"⟩) ∈ lw_all := lw_g (lw_at lw_ms 6 rfl) rfl
theorem qs7 : (Cond.selects "AcornYears" ⟨"AcornYears", "mayBegin", "(I)Z"⟩ ⟨"AcornYears", "mayBegin", "(I)Z"⟩) ∈ lw_all := lw_g (lw_at lw_ms 7 rfl) rfl
theorem qs8 : (Cond.selects "AcornYears" ⟨"AcornYears", "readsItem", "(I)Z"⟩ ⟨"AcornYears", "readsItem", "(I)Z"⟩) ∈ lw_all := lw_g (lw_at lw_ms 8 rfl) rfl
theorem qs9 : (Cond.selects "AcornYears" ⟨"AcornYears", "readsEaters", "()Z"⟩ ⟨"AcornYears", "readsEaters", "()Z"⟩) ∈ lw_all := lw_g (lw_at lw_ms 9 rfl) rfl
theorem qs10 : (Cond.selects "AcornYears" ⟨"AcornYears", "readsNumber", "(III)Z"⟩ ⟨"AcornYears", "readsNumber", "(III)Z"⟩) ∈ lw_all := lw_g (lw_at lw_ms 10 rfl) rfl
theorem qs11 : (Cond.selects "AcornYears" ⟨"AcornYears", "reads", "(I)Z"⟩ ⟨"AcornYears", "reads", "(I)Z"⟩) ∈ lw_all := lw_g (lw_at lw_ms 11 rfl) rfl
theorem qs12 : (Cond.selects "AcornYears" ⟨"AcornYears", "readsJay", "()Z"⟩ ⟨"AcornYears", "readsJay", "()Z"⟩) ∈ lw_all := lw_g (lw_at lw_ms 12 rfl) rfl
theorem qs13 : (Cond.selects "AcornYears" ⟨"AcornYears", "readsCalendar", "()Z"⟩ ⟨"AcornYears", "readsCalendar", "()Z"⟩) ∈ lw_all := lw_g (lw_at lw_ms 13 rfl) rfl
theorem qs14 : (Cond.selects "AcornYears" ⟨"AcornYears", "readsChances", "()Z"⟩ ⟨"AcornYears", "readsChances", "()Z"⟩) ∈ lw_all := lw_g (lw_at lw_ms 14 rfl) rfl
theorem qs15 : (Cond.selects "AcornYears" ⟨"AcornYears", "readsSort", "(I)Z"⟩ ⟨"AcornYears", "readsSort", "(I)Z"⟩) ∈ lw_all := lw_g (lw_at lw_ms 15 rfl) rfl
theorem qs16 : (Cond.selects "AcornYears" ⟨"AcornYears", "readsWarm", "([B)LAcornYears$Sort;"⟩ ⟨"AcornYears", "readsWarm", "([B)LAcornYears$Sort;"⟩) ∈ lw_all := lw_g (lw_at lw_ms 16 rfl) rfl
theorem qs17 : (Cond.selects "AcornYears" ⟨"AcornYears", "readsSaver", "(I[B)LAcornYears$Sort;"⟩ ⟨"AcornYears", "readsSaver", "(I[B)LAcornYears$Sort;"⟩) ∈ lw_all := lw_g (lw_at lw_ms 17 rfl) rfl
theorem qs18 : (Cond.selects "AcornYears" ⟨"AcornYears", "isSort", "(I)Z"⟩ ⟨"AcornYears", "isSort", "(I)Z"⟩) ∈ lw_all := lw_g (lw_at lw_ms 18 rfl) rfl
theorem qs19 : (Cond.selects "AcornYears" ⟨"AcornYears", "newTree", "(II)I"⟩ ⟨"AcornYears", "newTree", "(II)I"⟩) ∈ lw_all := lw_g (lw_at lw_ms 19 rfl) rfl
theorem qs20 : (Cond.selects "AcornYears" ⟨"AcornYears", "aboutOf", "(II)I"⟩ ⟨"AcornYears", "aboutOf", "(II)I"⟩) ∈ lw_all := lw_g (lw_at lw_ms 20 rfl) rfl
theorem qs21 : (Cond.selects "AcornYears" ⟨"AcornYears", "isTree", "(I)Z"⟩ ⟨"AcornYears", "isTree", "(I)Z"⟩) ∈ lw_all := lw_g (lw_at lw_ms 21 rfl) rfl
theorem qs22 : (Cond.selects "AcornYears" ⟨"AcornYears", "toldOf", "(II)I"⟩ ⟨"AcornYears", "toldOf", "(II)I"⟩) ∈ lw_all := lw_g (lw_at lw_ms 22 rfl) rfl
theorem qs23 : (Cond.selects "AcornYears" ⟨"AcornYears", "nowOf", "(I)I"⟩ ⟨"AcornYears", "nowOf", "(I)I"⟩) ∈ lw_all := lw_g (lw_at lw_ms 23 rfl) rfl
theorem qs24 : (Cond.selects "AcornYears" ⟨"AcornYears", "miceOf", "(I)I"⟩ ⟨"AcornYears", "miceOf", "(I)I"⟩) ∈ lw_all := lw_g (lw_at lw_ms 24 rfl) rfl
theorem qs25 : (Cond.selects "AcornYears" ⟨"AcornYears", "areEaters", "(I)Z"⟩ ⟨"AcornYears", "areEaters", "(I)Z"⟩) ∈ lw_all := lw_g (lw_at lw_ms 25 rfl) rfl
theorem qs26 : (Cond.selects "AcornYears" ⟨"AcornYears", "passHere", "(I)V"⟩ ⟨"AcornYears", "passHere", "(I)V"⟩) ∈ lw_all := lw_g (lw_at lw_ms 26 rfl) rfl
theorem qs27 : (Cond.selects "AcornYears" ⟨"AcornYears", "pass", "(LAcornYears$Wood;IZ)V"⟩ ⟨"AcornYears", "pass", "(LAcornYears$Wood;IZ)V"⟩) ∈ lw_all := lw_g (lw_at lw_ms 27 rfl) rfl
theorem qs28 : (Cond.selects "AcornYears" ⟨"AcornYears", "grow", "(LAcornYears$Wood;I)V"⟩ ⟨"AcornYears", "grow", "(LAcornYears$Wood;I)V"⟩) ∈ lw_all := lw_g (lw_at lw_ms 28 rfl) rfl
theorem qs29 : (Cond.selects "AcornYears" ⟨"AcornYears", "sortOf", "(I)LAcornYears$Sort;"⟩ ⟨"AcornYears", "sortOf", "(I)LAcornYears$Sort;"⟩) ∈ lw_all := lw_g (lw_at lw_ms 29 rfl) rfl
theorem qs30 : (Cond.selects "AcornYears" ⟨"AcornYears", "bear", "(LAcornYears$Wood;I)V"⟩ ⟨"AcornYears", "bear", "(LAcornYears$Wood;I)V"⟩) ∈ lw_all := lw_g (lw_at lw_ms 30 rfl) rfl
theorem qs31 : (Cond.selects "AcornYears" ⟨"AcornYears", "countHalves", "(LAcornYears$Wood;)V"⟩ ⟨"AcornYears", "countHalves", "(LAcornYears$Wood;)V"⟩) ∈ lw_all := lw_g (lw_at lw_ms 31 rfl) rfl
theorem qs32 : (Cond.selects "AcornYears" ⟨"AcornYears", "halfOf", "(I)I"⟩ ⟨"AcornYears", "halfOf", "(I)I"⟩) ∈ lw_all := lw_g (lw_at lw_ms 32 rfl) rfl
theorem qs33 : (Cond.selects "AcornYears" ⟨"AcornYears", "sets", "(I)Z"⟩ ⟨"AcornYears", "sets", "(I)Z"⟩) ∈ lw_all := lw_g (lw_at lw_ms 33 rfl) rfl
theorem qs34 : (Cond.selects "AcornYears" ⟨"AcornYears", "feed", "(LAcornYears$Wood;I)I"⟩ ⟨"AcornYears", "feed", "(LAcornYears$Wood;I)I"⟩) ∈ lw_all := lw_g (lw_at lw_ms 34 rfl) rfl
theorem qs35 : (Cond.selects "AcornYears" ⟨"AcornYears", "mayOf", "(I)I"⟩ ⟨"AcornYears", "mayOf", "(I)I"⟩) ∈ lw_all := lw_g (lw_at lw_ms 35 rfl) rfl
theorem qs36 : (Cond.selects "AcornYears" ⟨"AcornYears", "isImage", "([I)Z"⟩ ⟨"AcornYears", "isImage", "([I)Z"⟩) ∈ lw_all := lw_g (lw_at lw_ms 36 rfl) rfl
theorem qs37 : (Cond.selects "AcornYears" ⟨"AcornYears", "setRing", "()Z"⟩ ⟨"AcornYears", "setRing", "()Z"⟩) ∈ lw_all := lw_g (lw_at lw_ms 37 rfl) rfl
theorem qs38 : (Cond.selects "AcornYears" ⟨"AcornYears", "phases", "()I"⟩ ⟨"AcornYears", "phases", "()I"⟩) ∈ lw_all := lw_g (lw_at lw_ms 38 rfl) rfl
theorem qs39 : (Cond.selects "AcornYears" ⟨"AcornYears", "note", "(II)V"⟩ ⟨"AcornYears", "note", "(II)V"⟩) ∈ lw_all := lw_g (lw_at lw_ms 39 rfl) rfl
theorem qs40 : (Cond.selects "AcornYears" ⟨"AcornYears", "earlier", "(I)I"⟩ ⟨"AcornYears", "earlier", "(I)I"⟩) ∈ lw_all := lw_g (lw_at lw_ms 40 rfl) rfl
theorem qs41 : (Cond.selects "AcornYears" ⟨"AcornYears", "placeOf", "(I)I"⟩ ⟨"AcornYears", "placeOf", "(I)I"⟩) ∈ lw_all := lw_g (lw_at lw_ms 41 rfl) rfl
theorem qs42 : (Cond.selects "AcornYears" ⟨"AcornYears", "areAlike", "(II)Z"⟩ ⟨"AcornYears", "areAlike", "(II)Z"⟩) ∈ lw_all := lw_g (lw_at lw_ms 42 rfl) rfl
theorem qs43 : (Cond.selects "AcornYears" ⟨"AcornYears", "passTrial", "()V"⟩ ⟨"AcornYears", "passTrial", "()V"⟩) ∈ lw_all := lw_g (lw_at lw_ms 43 rfl) rfl
theorem qs44 : (Cond.selects "AcornYears" ⟨"AcornYears", "goRound", "()Z"⟩ ⟨"AcornYears", "goRound", "()Z"⟩) ∈ lw_all := lw_g (lw_at lw_ms 44 rfl) rfl
theorem qs45 : (Cond.selects "AcornYears" ⟨"AcornYears", "wipeRing", "()V"⟩ ⟨"AcornYears", "wipeRing", "()V"⟩) ∈ lw_all := lw_g (lw_at lw_ms 45 rfl) rfl
theorem qs46 : (Cond.selects "AcornYears" ⟨"AcornYears", "countYear", "(I)V"⟩ ⟨"AcornYears", "countYear", "(I)V"⟩) ∈ lw_all := lw_g (lw_at lw_ms 46 rfl) rfl
theorem qs47 : (Cond.selects "AcornYears" ⟨"AcornYears", "allPairs", "()J"⟩ ⟨"AcornYears", "allPairs", "()J"⟩) ∈ lw_all := lw_g (lw_at lw_ms 47 rfl) rfl
theorem qs48 : (Cond.selects "AcornYears" ⟨"AcornYears", "tell", "(JJI)I"⟩ ⟨"AcornYears", "tell", "(JJI)I"⟩) ∈ lw_all := lw_g (lw_at lw_ms 48 rfl) rfl
theorem qs49 : (Cond.selects "AcornYears" ⟨"AcornYears", "goRoundAs", "(II)Z"⟩ ⟨"AcornYears", "goRoundAs", "(II)Z"⟩) ∈ lw_all := lw_g (lw_at lw_ms 49 rfl) rfl
theorem qs50 : (Cond.selects "AcornYears" ⟨"AcornYears", "askedLayers", "(II)I"⟩ ⟨"AcornYears", "askedLayers", "(II)I"⟩) ∈ lw_all := lw_g (lw_at lw_ms 50 rfl) rfl
theorem qs51 : (Cond.selects "AcornYears" ⟨"AcornYears", "countsOf", "(I)I"⟩ ⟨"AcornYears", "countsOf", "(I)I"⟩) ∈ lw_all := lw_g (lw_at lw_ms 51 rfl) rfl
theorem qs52 : (Cond.selects "AcornYears" ⟨"AcornYears", "rowCount", "()I"⟩ ⟨"AcornYears", "rowCount", "()I"⟩) ∈ lw_all := lw_g (lw_at lw_ms 52 rfl) rfl
theorem qs53 : (Cond.selects "AcornYears" ⟨"AcornYears", "textCount", "()I"⟩ ⟨"AcornYears", "textCount", "()I"⟩) ∈ lw_all := lw_g (lw_at lw_ms 53 rfl) rfl
theorem qs54 : (Cond.selects "AcornYears" ⟨"AcornYears", "treeCount", "(I)I"⟩ ⟨"AcornYears", "treeCount", "(I)I"⟩) ∈ lw_all := lw_g (lw_at lw_ms 54 rfl) rfl
theorem qs55 : (Cond.selects "AcornYears" ⟨"AcornYears", "mix", "(I)V"⟩ ⟨"AcornYears", "mix", "(I)V"⟩) ∈ lw_all := lw_g (lw_at lw_ms 55 rfl) rfl
theorem qs56 : (Cond.selects "AcornYears" ⟨"AcornYears", "mixWood", "()V"⟩ ⟨"AcornYears", "mixWood", "()V"⟩) ∈ lw_all := lw_g (lw_at lw_ms 56 rfl) rfl
theorem qs57 : (Cond.selects "AcornYearsModel" ⟨"AcornYearsModel", "meets", "(I)I"⟩ ⟨"AcornYearsModel", "meets", "(I)I"⟩) ∈ lw_all := lw_g (lw_at lw_ms 57 rfl) rfl
theorem qs58 : (Cond.selects "AcornYearsModel" ⟨"AcornYearsModel", "rowAt", "(II)I"⟩ ⟨"AcornYearsModel", "rowAt", "(II)I"⟩) ∈ lw_all := lw_g (lw_at lw_ms 58 rfl) rfl
theorem qs59 : (Cond.selects "AcornYearsModel" ⟨"AcornYearsModel", "tells", "(II)I"⟩ ⟨"AcornYearsModel", "tells", "(II)I"⟩) ∈ lw_all := lw_g (lw_at lw_ms 59 rfl) rfl
theorem qs60 : (Cond.selects "AcornYearsModel" ⟨"AcornYearsModel", "faultOf", "(I)I"⟩ ⟨"AcornYearsModel", "faultOf", "(I)I"⟩) ∈ lw_all := lw_g (lw_at lw_ms 60 rfl) rfl
theorem qs61 : (Cond.selects "AcornYearsModel" ⟨"AcornYearsModel", "byteAt", "(II)I"⟩ ⟨"AcornYearsModel", "byteAt", "(II)I"⟩) ∈ lw_all := lw_g (lw_at lw_ms 61 rfl) rfl
theorem qs62 : (Cond.selects "AcornYearsModel" ⟨"AcornYearsModel", "readsItem", "(I)Z"⟩ ⟨"AcornYearsModel", "readsItem", "(I)Z"⟩) ∈ lw_all := lw_g (lw_at lw_ms 62 rfl) rfl
theorem qs63 : (Cond.selects "AcornYearsModel" ⟨"AcornYearsModel", "readsSort", "(II)Z"⟩ ⟨"AcornYearsModel", "readsSort", "(II)Z"⟩) ∈ lw_all := lw_g (lw_at lw_ms 63 rfl) rfl
theorem qs64 : (Cond.selects "AcornYearsModel" ⟨"AcornYearsModel", "reads", "(IIII)Z"⟩ ⟨"AcornYearsModel", "reads", "(IIII)Z"⟩) ∈ lw_all := lw_g (lw_at lw_ms 64 rfl) rfl
theorem qs65 : (Cond.selects "AcornYearsModel" ⟨"AcornYearsModel", "isFigure", "(I)Z"⟩ ⟨"AcornYearsModel", "isFigure", "(I)Z"⟩) ∈ lw_all := lw_g (lw_at lw_ms 65 rfl) rfl
theorem qs66 : (Cond.selects "AcornYearsModel" ⟨"AcornYearsModel", "readsMore", "(III)Z"⟩ ⟨"AcornYearsModel", "readsMore", "(III)Z"⟩) ∈ lw_all := lw_g (lw_at lw_ms 66 rfl) rfl
theorem qs67 : (Cond.selects "AcornYearsModel" ⟨"AcornYearsModel", "sign", "(II)Z"⟩ ⟨"AcornYearsModel", "sign", "(II)Z"⟩) ∈ lw_all := lw_g (lw_at lw_ms 67 rfl) rfl
theorem qs68 : (Cond.selects "AcornYearsModel" ⟨"AcornYearsModel", "readsEater", "(I)Z"⟩ ⟨"AcornYearsModel", "readsEater", "(I)Z"⟩) ∈ lw_all := lw_g (lw_at lw_ms 68 rfl) rfl
theorem qs69 : (Cond.selects "AcornYearsModel" ⟨"AcornYearsModel", "readsJay", "(I)Z"⟩ ⟨"AcornYearsModel", "readsJay", "(I)Z"⟩) ∈ lw_all := lw_g (lw_at lw_ms 69 rfl) rfl
theorem qs70 : (Cond.selects "AcornYearsModel" ⟨"AcornYearsModel", "readsCalendar", "(I)Z"⟩ ⟨"AcornYearsModel", "readsCalendar", "(I)Z"⟩) ∈ lw_all := lw_g (lw_at lw_ms 70 rfl) rfl
theorem qs71 : (Cond.selects "AcornYearsModel" ⟨"AcornYearsModel", "readsChances", "(I)Z"⟩ ⟨"AcornYearsModel", "readsChances", "(I)Z"⟩) ∈ lw_all := lw_g (lw_at lw_ms 71 rfl) rfl
theorem qs72 : (Cond.selects "AcornYearsModel" ⟨"AcornYearsModel", "isSort", "(I)Z"⟩ ⟨"AcornYearsModel", "isSort", "(I)Z"⟩) ∈ lw_all := lw_g (lw_at lw_ms 72 rfl) rfl
theorem qs73 : (Cond.selects "AcornYearsModel" ⟨"AcornYearsModel", "kind", "(I)I"⟩ ⟨"AcornYearsModel", "kind", "(I)I"⟩) ∈ lw_all := lw_g (lw_at lw_ms 73 rfl) rfl
theorem qs74 : (Cond.selects "AcornYearsModel" ⟨"AcornYearsModel", "isSaver", "(I)Z"⟩ ⟨"AcornYearsModel", "isSaver", "(I)Z"⟩) ∈ lw_all := lw_g (lw_at lw_ms 74 rfl) rfl
theorem qs75 : (Cond.selects "AcornYearsModel" ⟨"AcornYearsModel", "markOf", "(II)I"⟩ ⟨"AcornYearsModel", "markOf", "(II)I"⟩) ∈ lw_all := lw_g (lw_at lw_ms 75 rfl) rfl
theorem qs76 : (Cond.selects "AcornYearsModel" ⟨"AcornYearsModel", "isEater", "(I)Z"⟩ ⟨"AcornYearsModel", "isEater", "(I)Z"⟩) ∈ lw_all := lw_g (lw_at lw_ms 76 rfl) rfl
theorem qs77 : (Cond.selects "AcornYearsModel" ⟨"AcornYearsModel", "grow", "(II)I"⟩ ⟨"AcornYearsModel", "grow", "(II)I"⟩) ∈ lw_all := lw_g (lw_at lw_ms 77 rfl) rfl
theorem qs78 : (Cond.selects "AcornYearsModel" ⟨"AcornYearsModel", "isTree", "(I)Z"⟩ ⟨"AcornYearsModel", "isTree", "(I)Z"⟩) ∈ lw_all := lw_g (lw_at lw_ms 78 rfl) rfl
theorem qs79 : (Cond.selects "AcornYearsModel" ⟨"AcornYearsModel", "treeTells", "(II)I"⟩ ⟨"AcornYearsModel", "treeTells", "(II)I"⟩) ∈ lw_all := lw_g (lw_at lw_ms 79 rfl) rfl
theorem qs80 : (Cond.selects "AcornYearsModel" ⟨"AcornYearsModel", "nowTells", "(I)I"⟩ ⟨"AcornYearsModel", "nowTells", "(I)I"⟩) ∈ lw_all := lw_g (lw_at lw_ms 80 rfl) rfl
theorem qs81 : (Cond.selects "AcornYearsModel" ⟨"AcornYearsModel", "mouseOf", "(I)I"⟩ ⟨"AcornYearsModel", "mouseOf", "(I)I"⟩) ∈ lw_all := lw_g (lw_at lw_ms 81 rfl) rfl
theorem qs82 : (Cond.selects "AcornYearsModel" ⟨"AcornYearsModel", "passes", "(IIZ)V"⟩ ⟨"AcornYearsModel", "passes", "(IIZ)V"⟩) ∈ lw_all := lw_g (lw_at lw_ms 82 rfl) rfl
theorem qs83 : (Cond.selects "AcornYearsModel" ⟨"AcornYearsModel", "doesBloom", "(II)Z"⟩ ⟨"AcornYearsModel", "doesBloom", "(II)Z"⟩) ∈ lw_all := lw_g (lw_at lw_ms 83 rfl) rfl
theorem qs84 : (Cond.selects "AcornYearsModel" ⟨"AcornYearsModel", "sets", "(III)I"⟩ ⟨"AcornYearsModel", "sets", "(III)I"⟩) ∈ lw_all := lw_g (lw_at lw_ms 84 rfl) rfl
theorem qs85 : (Cond.selects "AcornYearsModel" ⟨"AcornYearsModel", "halfMany", "(IIZ)I"⟩ ⟨"AcornYearsModel", "halfMany", "(IIZ)I"⟩) ∈ lw_all := lw_g (lw_at lw_ms 85 rfl) rfl
theorem qs86 : (Cond.selects "AcornYearsModel" ⟨"AcornYearsModel", "eaten", "(I)V"⟩ ⟨"AcornYearsModel", "eaten", "(I)V"⟩) ∈ lw_all := lw_g (lw_at lw_ms 86 rfl) rfl
theorem qs87 : (Cond.selects "AcornYearsModel" ⟨"AcornYearsModel", "mayNow", "()I"⟩ ⟨"AcornYearsModel", "mayNow", "()I"⟩) ∈ lw_all := lw_g (lw_at lw_ms 87 rfl) rfl
theorem qs88 : (Cond.selects "AcornYearsModel" ⟨"AcornYearsModel", "isImage", "(I)Z"⟩ ⟨"AcornYearsModel", "isImage", "(I)Z"⟩) ∈ lw_all := lw_g (lw_at lw_ms 88 rfl) rfl
theorem qs89 : (Cond.selects "AcornYearsModel" ⟨"AcornYearsModel", "layRing", "()Z"⟩ ⟨"AcornYearsModel", "layRing", "()Z"⟩) ∈ lw_all := lw_g (lw_at lw_ms 89 rfl) rfl
theorem qs90 : (Cond.selects "AcornYearsModel" ⟨"AcornYearsModel", "keep", "()V"⟩ ⟨"AcornYearsModel", "keep", "()V"⟩) ∈ lw_all := lw_g (lw_at lw_ms 90 rfl) rfl
theorem qs91 : (Cond.selects "AcornYearsModel" ⟨"AcornYearsModel", "stand", "(I)V"⟩ ⟨"AcornYearsModel", "stand", "(I)V"⟩) ∈ lw_all := lw_g (lw_at lw_ms 91 rfl) rfl
theorem qs92 : (Cond.selects "AcornYearsModel" ⟨"AcornYearsModel", "walk", "(II)V"⟩ ⟨"AcornYearsModel", "walk", "(II)V"⟩) ∈ lw_all := lw_g (lw_at lw_ms 92 rfl) rfl
theorem qs93 : (Cond.selects "AcornYearsModel" ⟨"AcornYearsModel", "goTo", "(I)V"⟩ ⟨"AcornYearsModel", "goTo", "(I)V"⟩) ∈ lw_all := lw_g (lw_at lw_ms 93 rfl) rfl
theorem qs94 : (Cond.selects "AcornYearsModel" ⟨"AcornYearsModel", "areAlike", "(II)Z"⟩ ⟨"AcornYearsModel", "areAlike", "(II)Z"⟩) ∈ lw_all := lw_g (lw_at lw_ms 94 rfl) rfl
theorem qs95 : (Cond.selects "AcornYearsModel" ⟨"AcornYearsModel", "back", "()V"⟩ ⟨"AcornYearsModel", "back", "()V"⟩) ∈ lw_all := lw_g (lw_at lw_ms 95 rfl) rfl
theorem qs96 : (Cond.selects "AcornYearsModel" ⟨"AcornYearsModel", "laySums", "(II)Z"⟩ ⟨"AcornYearsModel", "laySums", "(II)Z"⟩) ∈ lw_all := lw_g (lw_at lw_ms 96 rfl) rfl
theorem qs97 : (Cond.selects "AcornYearsModel" ⟨"AcornYearsModel", "gainOf", "(I)I"⟩ ⟨"AcornYearsModel", "gainOf", "(I)I"⟩) ∈ lw_all := lw_g (lw_at lw_ms 97 rfl) rfl
theorem qs98 : (Cond.selects "AcornYearsModel" ⟨"AcornYearsModel", "fraction", "(JJI)I"⟩ ⟨"AcornYearsModel", "fraction", "(JJI)I"⟩) ∈ lw_all := lw_g (lw_at lw_ms 98 rfl) rfl
theorem qs99 : (Cond.selects "AcornYearsModel" ⟨"AcornYearsModel", "howBy", "(II)I"⟩ ⟨"AcornYearsModel", "howBy", "(II)I"⟩) ∈ lw_all := lw_g (lw_at lw_ms 99 rfl) rfl
theorem qs100 : (Cond.selects "AcornYearsModel" ⟨"AcornYearsModel", "laySort", "(II)Z"⟩ ⟨"AcornYearsModel", "laySort", "(II)Z"⟩) ∈ lw_all := lw_g (lw_at lw_ms 100 rfl) rfl
theorem qs101 : (Cond.selects "AcornYearsModel" ⟨"AcornYearsModel", "needLayers", "(II)I"⟩ ⟨"AcornYearsModel", "needLayers", "(II)I"⟩) ∈ lw_all := lw_g (lw_at lw_ms 101 rfl) rfl
theorem qs102 : (Cond.selects "AcornYearsModel" ⟨"AcornYearsModel", "fits", "(IIII)Z"⟩ ⟨"AcornYearsModel", "fits", "(IIII)Z"⟩) ∈ lw_all := lw_g (lw_at lw_ms 102 rfl) rfl
theorem qs103 : (Cond.selects "AcornYearsModel" ⟨"AcornYearsModel", "counted", "(I)I"⟩ ⟨"AcornYearsModel", "counted", "(I)I"⟩) ∈ lw_all := lw_g (lw_at lw_ms 103 rfl) rfl
theorem qs104 : (Cond.selects "AcornYearsModel" ⟨"AcornYearsModel", "mix", "(J)V"⟩ ⟨"AcornYearsModel", "mix", "(J)V"⟩) ∈ lw_all := lw_g (lw_at lw_ms 104 rfl) rfl
theorem qs105 : (Cond.selects "AcornYearsModel" ⟨"AcornYearsModel", "mixWood", "()V"⟩ ⟨"AcornYearsModel", "mixWood", "()V"⟩) ∈ lw_all := lw_g (lw_at lw_ms 105 rfl) rfl
