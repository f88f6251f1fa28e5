-- ===== PART A: goes FIRST, ahead of the names: the tables' words, and 'selects' of the private methods out of them =====
/-- a private method of a class that the tables say can be made, by its rows of tables_1 -/
def lw_okq (q : MethodName × Nat) : Prop := (q.1.cls ≠ "java/lang/invoke/MethodHandle" ∧ q.1.cls ≠ "java/lang/invoke/VarHandle") ∧ Cond.instantiable q.1.cls q.2 ∈ tables_1 ∧ Cond.privateMethod q.1 ∈ tables_1 ∧ Cond.instanceMethod q.1 ∈ tables_1
set_option maxRecDepth 100000
theorem lw_t1 {w : Cond} (h : w ∈ tables_1_1) : w ∈ tables_1 := List.mem_append_left _ h
theorem lw_t2 {w : Cond} (h : w ∈ tables_1_2) : w ∈ tables_1 := List.mem_append_right _ (List.mem_append_left _ h)
theorem lw_t3 {w : Cond} (h : w ∈ tables_1_3) : w ∈ tables_1 := List.mem_append_right _ (List.mem_append_right _ (List.mem_append_left _ h))
theorem lw_t4 {w : Cond} (h : w ∈ tables_1_4) : w ∈ tables_1 := List.mem_append_right _ (List.mem_append_right _ (List.mem_append_right _ (List.mem_append_left _ h)))
theorem lw_t5 {w : Cond} (h : w ∈ tables_1_5) : w ∈ tables_1 := List.mem_append_right _ (List.mem_append_right _ (List.mem_append_right _ (List.mem_append_right _ (List.mem_append_left _ h))))
theorem lw_t6 {w : Cond} (h : w ∈ tables_1_6) : w ∈ tables_1 := List.mem_append_right _ (List.mem_append_right _ (List.mem_append_right _ (List.mem_append_right _ (List.mem_append_right _ (List.mem_append_left _ h)))))
theorem lw_t7 {w : Cond} (h : w ∈ tables_1_7) : w ∈ tables_1 := List.mem_append_right _ (List.mem_append_right _ (List.mem_append_right _ (List.mem_append_right _ (List.mem_append_right _ (List.mem_append_right _ (List.mem_append_left _ h))))))
theorem lw_t8 {w : Cond} (h : w ∈ tables_1_8) : w ∈ tables_1 := List.mem_append_right _ (List.mem_append_right _ (List.mem_append_right _ (List.mem_append_right _ (List.mem_append_right _ (List.mem_append_right _ (List.mem_append_right _ (List.mem_append_left _ h)))))))
theorem lw_t9 {w : Cond} (h : w ∈ tables_1_9) : w ∈ tables_1 := List.mem_append_right _ (List.mem_append_right _ (List.mem_append_right _ (List.mem_append_right _ (List.mem_append_right _ (List.mem_append_right _ (List.mem_append_right _ (List.mem_append_right _ (List.mem_append_left _ h))))))))
theorem lw_t10 {w : Cond} (h : w ∈ tables_1_10) : w ∈ tables_1 := List.mem_append_right _ (List.mem_append_right _ (List.mem_append_right _ (List.mem_append_right _ (List.mem_append_right _ (List.mem_append_right _ (List.mem_append_right _ (List.mem_append_right _ (List.mem_append_right _ h))))))))
theorem lw_p0 : lw_okq (⟨"java/lang/Throwable", "fillInStackTrace", "(I)Ljava/lang/Throwable;"⟩, 6) := ⟨⟨by decide +kernel, by decide +kernel⟩, lw_t1 (List.mem_of_getElem? (i := 123) rfl), lw_t1 (List.mem_of_getElem? (i := 121) rfl), lw_t1 (List.mem_of_getElem? (i := 122) rfl)⟩
theorem lw_p1 : lw_okq (⟨"GrassField", "four", "(I)V"⟩, 11) := ⟨⟨by decide +kernel, by decide +kernel⟩, lw_t1 (List.mem_of_getElem? (i := 45) rfl), lw_t2 (List.mem_of_getElem? (i := 127) rfl), lw_t2 (List.mem_of_getElem? (i := 128) rfl)⟩
theorem lw_p2 : lw_okq (⟨"GrassField", "use", "()I"⟩, 11) := ⟨⟨by decide +kernel, by decide +kernel⟩, lw_t1 (List.mem_of_getElem? (i := 45) rfl), lw_t4 (List.mem_of_getElem? (i := 3) rfl), lw_t4 (List.mem_of_getElem? (i := 4) rfl)⟩
theorem lw_p3 : lw_okq (⟨"GrassField$Reader", "begins", "(IZ)V"⟩, 10) := ⟨⟨by decide +kernel, by decide +kernel⟩, lw_t1 (List.mem_of_getElem? (i := 53) rfl), lw_t4 (List.mem_of_getElem? (i := 11) rfl), lw_t4 (List.mem_of_getElem? (i := 12) rfl)⟩
theorem lw_p4 : lw_okq (⟨"GrassField$Reader", "sign", "()I"⟩, 10) := ⟨⟨by decide +kernel, by decide +kernel⟩, lw_t1 (List.mem_of_getElem? (i := 53) rfl), lw_t4 (List.mem_of_getElem? (i := 15) rfl), lw_t4 (List.mem_of_getElem? (i := 16) rfl)⟩
theorem lw_p5 : lw_okq (⟨"GrassField$Reader", "fail", "(I)V"⟩, 10) := ⟨⟨by decide +kernel, by decide +kernel⟩, lw_t1 (List.mem_of_getElem? (i := 53) rfl), lw_t4 (List.mem_of_getElem? (i := 19) rfl), lw_t4 (List.mem_of_getElem? (i := 20) rfl)⟩
theorem lw_p6 : lw_okq (⟨"GrassField$Reader", "line", "()LGrassField$Line;"⟩, 10) := ⟨⟨by decide +kernel, by decide +kernel⟩, lw_t1 (List.mem_of_getElem? (i := 53) rfl), lw_t4 (List.mem_of_getElem? (i := 23) rfl), lw_t4 (List.mem_of_getElem? (i := 24) rfl)⟩
theorem lw_p7 : lw_okq (⟨"GrassField$Reader", "takes", "(Ljava/lang/String;)Z"⟩, 10) := ⟨⟨by decide +kernel, by decide +kernel⟩, lw_t1 (List.mem_of_getElem? (i := 53) rfl), lw_t4 (List.mem_of_getElem? (i := 27) rfl), lw_t4 (List.mem_of_getElem? (i := 28) rfl)⟩
theorem lw_p8 : lw_okq (⟨"GrassField$Reader", "row", "(Z)LGrassField$Cond;"⟩, 10) := ⟨⟨by decide +kernel, by decide +kernel⟩, lw_t1 (List.mem_of_getElem? (i := 53) rfl), lw_t4 (List.mem_of_getElem? (i := 80) rfl), lw_t4 (List.mem_of_getElem? (i := 81) rfl)⟩
theorem lw_p9 : lw_okq (⟨"GrassField$Reader", "atom", "()LGrassField$Cond;"⟩, 10) := ⟨⟨by decide +kernel, by decide +kernel⟩, lw_t1 (List.mem_of_getElem? (i := 53) rfl), lw_t4 (List.mem_of_getElem? (i := 86) rfl), lw_t4 (List.mem_of_getElem? (i := 87) rfl)⟩
theorem lw_p10 : lw_okq (⟨"GrassField$Reader", "tag", "()LGrassField$Cond;"⟩, 10) := ⟨⟨by decide +kernel, by decide +kernel⟩, lw_t1 (List.mem_of_getElem? (i := 53) rfl), lw_t4 (List.mem_of_getElem? (i := 91) rfl), lw_t4 (List.mem_of_getElem? (i := 92) rfl)⟩
theorem lw_p11 : lw_okq (⟨"GrassField$Reader", "number", "()I"⟩, 10) := ⟨⟨by decide +kernel, by decide +kernel⟩, lw_t1 (List.mem_of_getElem? (i := 53) rfl), lw_t4 (List.mem_of_getElem? (i := 111) rfl), lw_t4 (List.mem_of_getElem? (i := 112) rfl)⟩
theorem lw_p12 : lw_okq (⟨"GrassField$Reader", "sum", "()LGrassField$Sum;"⟩, 10) := ⟨⟨by decide +kernel, by decide +kernel⟩, lw_t1 (List.mem_of_getElem? (i := 53) rfl), lw_t4 (List.mem_of_getElem? (i := 115) rfl), lw_t4 (List.mem_of_getElem? (i := 116) rfl)⟩
theorem lw_p13 : lw_okq (⟨"GrassField$Reader", "part", "(LGrassField$Sum;)V"⟩, 10) := ⟨⟨by decide +kernel, by decide +kernel⟩, lw_t1 (List.mem_of_getElem? (i := 53) rfl), lw_t4 (List.mem_of_getElem? (i := 134) rfl), lw_t4 (List.mem_of_getElem? (i := 135) rfl)⟩
theorem lw_p14 : lw_okq (⟨"GrassField$Reader", "fact", "()I"⟩, 10) := ⟨⟨by decide +kernel, by decide +kernel⟩, lw_t1 (List.mem_of_getElem? (i := 53) rfl), lw_t4 (List.mem_of_getElem? (i := 138) rfl), lw_t4 (List.mem_of_getElem? (i := 139) rfl)⟩
theorem lw_p15 : lw_okq (⟨"GrassField", "isGun", "(I)V"⟩, 11) := ⟨⟨by decide +kernel, by decide +kernel⟩, lw_t1 (List.mem_of_getElem? (i := 45) rfl), lw_t5 (List.mem_of_getElem? (i := 6) rfl), lw_t5 (List.mem_of_getElem? (i := 7) rfl)⟩
def lw_privs_1 : List (MethodName × Nat) := [(⟨"java/lang/Throwable", "fillInStackTrace", "(I)Ljava/lang/Throwable;"⟩, 6), (⟨"GrassField", "four", "(I)V"⟩, 11), (⟨"GrassField", "use", "()I"⟩, 11), (⟨"GrassField$Reader", "begins", "(IZ)V"⟩, 10), (⟨"GrassField$Reader", "sign", "()I"⟩, 10), (⟨"GrassField$Reader", "fail", "(I)V"⟩, 10), (⟨"GrassField$Reader", "line", "()LGrassField$Line;"⟩, 10), (⟨"GrassField$Reader", "takes", "(Ljava/lang/String;)Z"⟩, 10), (⟨"GrassField$Reader", "row", "(Z)LGrassField$Cond;"⟩, 10), (⟨"GrassField$Reader", "atom", "()LGrassField$Cond;"⟩, 10), (⟨"GrassField$Reader", "tag", "()LGrassField$Cond;"⟩, 10), (⟨"GrassField$Reader", "number", "()I"⟩, 10), (⟨"GrassField$Reader", "sum", "()LGrassField$Sum;"⟩, 10), (⟨"GrassField$Reader", "part", "(LGrassField$Sum;)V"⟩, 10), (⟨"GrassField$Reader", "fact", "()I"⟩, 10), (⟨"GrassField", "isGun", "(I)V"⟩, 11)]
theorem lw_r1 : ∀ q ∈ lw_privs_1, lw_okq q := List.forall_mem_cons.mpr ⟨lw_p0, List.forall_mem_cons.mpr ⟨lw_p1, List.forall_mem_cons.mpr ⟨lw_p2, List.forall_mem_cons.mpr ⟨lw_p3, List.forall_mem_cons.mpr ⟨lw_p4, List.forall_mem_cons.mpr ⟨lw_p5, List.forall_mem_cons.mpr ⟨lw_p6, List.forall_mem_cons.mpr ⟨lw_p7, List.forall_mem_cons.mpr ⟨lw_p8, List.forall_mem_cons.mpr ⟨lw_p9, List.forall_mem_cons.mpr ⟨lw_p10, List.forall_mem_cons.mpr ⟨lw_p11, List.forall_mem_cons.mpr ⟨lw_p12, List.forall_mem_cons.mpr ⟨lw_p13, List.forall_mem_cons.mpr ⟨lw_p14, List.forall_mem_cons.mpr ⟨lw_p15, fun _ h => absurd h List.not_mem_nil⟩⟩⟩⟩⟩⟩⟩⟩⟩⟩⟩⟩⟩⟩⟩⟩
theorem lw_p16 : lw_okq (⟨"GrassField$House", "isFoe", "(LGrassField$Person;LGrassField$Person;)Z"⟩, 22) := ⟨⟨by decide +kernel, by decide +kernel⟩, lw_t1 (List.mem_of_getElem? (i := 188) rfl), lw_t5 (List.mem_of_getElem? (i := 24) rfl), lw_t5 (List.mem_of_getElem? (i := 25) rfl)⟩
theorem lw_p17 : lw_okq (⟨"GrassField$House", "isFriend", "(LGrassField$Person;LGrassField$Person;)Z"⟩, 22) := ⟨⟨by decide +kernel, by decide +kernel⟩, lw_t1 (List.mem_of_getElem? (i := 188) rfl), lw_t5 (List.mem_of_getElem? (i := 28) rfl), lw_t5 (List.mem_of_getElem? (i := 29) rfl)⟩
theorem lw_p18 : lw_okq (⟨"GrassField$House", "turn", "(LGrassField$Person;)V"⟩, 22) := ⟨⟨by decide +kernel, by decide +kernel⟩, lw_t1 (List.mem_of_getElem? (i := 188) rfl), lw_t5 (List.mem_of_getElem? (i := 58) rfl), lw_t5 (List.mem_of_getElem? (i := 59) rfl)⟩
theorem lw_p19 : lw_okq (⟨"GrassField$House", "comes", "(LGrassField$Find;)V"⟩, 22) := ⟨⟨by decide +kernel, by decide +kernel⟩, lw_t1 (List.mem_of_getElem? (i := 188) rfl), lw_t5 (List.mem_of_getElem? (i := 175) rfl), lw_t5 (List.mem_of_getElem? (i := 176) rfl)⟩
theorem lw_p20 : lw_okq (⟨"GrassField$House", "numberOf", "(LGrassField$Person;)I"⟩, 22) := ⟨⟨by decide +kernel, by decide +kernel⟩, lw_t1 (List.mem_of_getElem? (i := 188) rfl), lw_t5 (List.mem_of_getElem? (i := 194) rfl), lw_t5 (List.mem_of_getElem? (i := 195) rfl)⟩
theorem lw_p21 : lw_okq (⟨"GrassField", "comes", "(LGrassField$Find;)I"⟩, 11) := ⟨⟨by decide +kernel, by decide +kernel⟩, lw_t1 (List.mem_of_getElem? (i := 45) rfl), lw_t5 (List.mem_of_getElem? (i := 218) rfl), lw_t5 (List.mem_of_getElem? (i := 219) rfl)⟩
theorem lw_p22 : lw_okq (⟨"GrassField", "findAt", "(I)LGrassField$Find;"⟩, 11) := ⟨⟨by decide +kernel, by decide +kernel⟩, lw_t1 (List.mem_of_getElem? (i := 45) rfl), lw_t6 (List.mem_of_getElem? (i := 12) rfl), lw_t6 (List.mem_of_getElem? (i := 13) rfl)⟩
theorem lw_p23 : lw_okq (⟨"GrassField$Track", "at", "(I)LGrassField$Case;"⟩, 5) := ⟨⟨by decide +kernel, by decide +kernel⟩, lw_t2 (List.mem_of_getElem? (i := 65) rfl), lw_t6 (List.mem_of_getElem? (i := 128) rfl), lw_t6 (List.mem_of_getElem? (i := 129) rfl)⟩
theorem lw_p24 : lw_okq (⟨"GrassField$Track", "minutes", "(II)I"⟩, 5) := ⟨⟨by decide +kernel, by decide +kernel⟩, lw_t2 (List.mem_of_getElem? (i := 65) rfl), lw_t6 (List.mem_of_getElem? (i := 133) rfl), lw_t6 (List.mem_of_getElem? (i := 134) rfl)⟩
theorem lw_p25 : lw_okq (⟨"GrassField", "gathers", "(II)V"⟩, 11) := ⟨⟨by decide +kernel, by decide +kernel⟩, lw_t1 (List.mem_of_getElem? (i := 45) rfl), lw_t6 (List.mem_of_getElem? (i := 167) rfl), lw_t6 (List.mem_of_getElem? (i := 168) rfl)⟩
theorem lw_p26 : lw_okq (⟨"GrassField", "longest", "(I)I"⟩, 11) := ⟨⟨by decide +kernel, by decide +kernel⟩, lw_t1 (List.mem_of_getElem? (i := 45) rfl), lw_t6 (List.mem_of_getElem? (i := 172) rfl), lw_t6 (List.mem_of_getElem? (i := 173) rfl)⟩
theorem lw_p27 : lw_okq (⟨"GrassField", "step", "(I)I"⟩, 11) := ⟨⟨by decide +kernel, by decide +kernel⟩, lw_t1 (List.mem_of_getElem? (i := 45) rfl), lw_t6 (List.mem_of_getElem? (i := 176) rfl), lw_t6 (List.mem_of_getElem? (i := 177) rfl)⟩
theorem lw_p28 : lw_okq (⟨"GrassField", "heapsOf", "(I)I"⟩, 11) := ⟨⟨by decide +kernel, by decide +kernel⟩, lw_t1 (List.mem_of_getElem? (i := 45) rfl), lw_t6 (List.mem_of_getElem? (i := 188) rfl), lw_t6 (List.mem_of_getElem? (i := 189) rfl)⟩
theorem lw_p29 : lw_okq (⟨"GrassField", "isTeller", "(I)V"⟩, 11) := ⟨⟨by decide +kernel, by decide +kernel⟩, lw_t1 (List.mem_of_getElem? (i := 45) rfl), lw_t7 (List.mem_of_getElem? (i := 8) rfl), lw_t7 (List.mem_of_getElem? (i := 9) rfl)⟩
theorem lw_p30 : lw_okq (⟨"GrassField", "rows", "(IIII)Z"⟩, 11) := ⟨⟨by decide +kernel, by decide +kernel⟩, lw_t1 (List.mem_of_getElem? (i := 45) rfl), lw_t7 (List.mem_of_getElem? (i := 54) rfl), lw_t7 (List.mem_of_getElem? (i := 55) rfl)⟩
theorem lw_p31 : lw_okq (⟨"GrassField", "gunsIn", "(IIZ)I"⟩, 11) := ⟨⟨by decide +kernel, by decide +kernel⟩, lw_t1 (List.mem_of_getElem? (i := 45) rfl), lw_t7 (List.mem_of_getElem? (i := 65) rfl), lw_t7 (List.mem_of_getElem? (i := 66) rfl)⟩
def lw_privs_2 : List (MethodName × Nat) := [(⟨"GrassField$House", "isFoe", "(LGrassField$Person;LGrassField$Person;)Z"⟩, 22), (⟨"GrassField$House", "isFriend", "(LGrassField$Person;LGrassField$Person;)Z"⟩, 22), (⟨"GrassField$House", "turn", "(LGrassField$Person;)V"⟩, 22), (⟨"GrassField$House", "comes", "(LGrassField$Find;)V"⟩, 22), (⟨"GrassField$House", "numberOf", "(LGrassField$Person;)I"⟩, 22), (⟨"GrassField", "comes", "(LGrassField$Find;)I"⟩, 11), (⟨"GrassField", "findAt", "(I)LGrassField$Find;"⟩, 11), (⟨"GrassField$Track", "at", "(I)LGrassField$Case;"⟩, 5), (⟨"GrassField$Track", "minutes", "(II)I"⟩, 5), (⟨"GrassField", "gathers", "(II)V"⟩, 11), (⟨"GrassField", "longest", "(I)I"⟩, 11), (⟨"GrassField", "step", "(I)I"⟩, 11), (⟨"GrassField", "heapsOf", "(I)I"⟩, 11), (⟨"GrassField", "isTeller", "(I)V"⟩, 11), (⟨"GrassField", "rows", "(IIII)Z"⟩, 11), (⟨"GrassField", "gunsIn", "(IIZ)I"⟩, 11)]
theorem lw_r2 : ∀ q ∈ lw_privs_2, lw_okq q := List.forall_mem_cons.mpr ⟨lw_p16, List.forall_mem_cons.mpr ⟨lw_p17, List.forall_mem_cons.mpr ⟨lw_p18, List.forall_mem_cons.mpr ⟨lw_p19, List.forall_mem_cons.mpr ⟨lw_p20, List.forall_mem_cons.mpr ⟨lw_p21, List.forall_mem_cons.mpr ⟨lw_p22, List.forall_mem_cons.mpr ⟨lw_p23, List.forall_mem_cons.mpr ⟨lw_p24, List.forall_mem_cons.mpr ⟨lw_p25, List.forall_mem_cons.mpr ⟨lw_p26, List.forall_mem_cons.mpr ⟨lw_p27, List.forall_mem_cons.mpr ⟨lw_p28, List.forall_mem_cons.mpr ⟨lw_p29, List.forall_mem_cons.mpr ⟨lw_p30, List.forall_mem_cons.mpr ⟨lw_p31, fun _ h => absurd h List.not_mem_nil⟩⟩⟩⟩⟩⟩⟩⟩⟩⟩⟩⟩⟩⟩⟩⟩
theorem lw_p32 : lw_okq (⟨"GrassField", "isStory", "(I)V"⟩, 11) := ⟨⟨by decide +kernel, by decide +kernel⟩, lw_t1 (List.mem_of_getElem? (i := 45) rfl), lw_t7 (List.mem_of_getElem? (i := 102) rfl), lw_t7 (List.mem_of_getElem? (i := 103) rfl)⟩
theorem lw_p33 : lw_okq (⟨"GrassField", "stands", "()V"⟩, 11) := ⟨⟨by decide +kernel, by decide +kernel⟩, lw_t1 (List.mem_of_getElem? (i := 45) rfl), lw_t7 (List.mem_of_getElem? (i := 106) rfl), lw_t7 (List.mem_of_getElem? (i := 107) rfl)⟩
theorem lw_p34 : lw_okq (⟨"GrassFieldModel", "throwsIf", "(ZI)Z"⟩, 28) := ⟨⟨by decide +kernel, by decide +kernel⟩, lw_t7 (List.mem_of_getElem? (i := 123) rfl), lw_t7 (List.mem_of_getElem? (i := 233) rfl), lw_t7 (List.mem_of_getElem? (i := 234) rfl)⟩
theorem lw_p35 : lw_okq (⟨"GrassFieldModel", "isSeenFrom", "(II)Z"⟩, 28) := ⟨⟨by decide +kernel, by decide +kernel⟩, lw_t7 (List.mem_of_getElem? (i := 123) rfl), lw_t8 (List.mem_of_getElem? (i := 10) rfl), lw_t8 (List.mem_of_getElem? (i := 11) rfl)⟩
theorem lw_p36 : lw_okq (⟨"GrassFieldModel", "reads", "(Z)Z"⟩, 28) := ⟨⟨by decide +kernel, by decide +kernel⟩, lw_t7 (List.mem_of_getElem? (i := 123) rfl), lw_t8 (List.mem_of_getElem? (i := 49) rfl), lw_t8 (List.mem_of_getElem? (i := 50) rfl)⟩
theorem lw_p37 : lw_okq (⟨"GrassFieldModel", "uses", "()V"⟩, 28) := ⟨⟨by decide +kernel, by decide +kernel⟩, lw_t7 (List.mem_of_getElem? (i := 123) rfl), lw_t8 (List.mem_of_getElem? (i := 53) rfl), lw_t8 (List.mem_of_getElem? (i := 54) rfl)⟩
theorem lw_p38 : lw_okq (⟨"GrassFieldModel", "readOne", "()I"⟩, 28) := ⟨⟨by decide +kernel, by decide +kernel⟩, lw_t7 (List.mem_of_getElem? (i := 123) rfl), lw_t8 (List.mem_of_getElem? (i := 57) rfl), lw_t8 (List.mem_of_getElem? (i := 58) rfl)⟩
theorem lw_p39 : lw_okq (⟨"GrassFieldModel", "readCond", "()Z"⟩, 28) := ⟨⟨by decide +kernel, by decide +kernel⟩, lw_t7 (List.mem_of_getElem? (i := 123) rfl), lw_t8 (List.mem_of_getElem? (i := 67) rfl), lw_t8 (List.mem_of_getElem? (i := 68) rfl)⟩
theorem lw_p40 : lw_okq (⟨"GrassFieldModel", "readAllOf", "()Z"⟩, 28) := ⟨⟨by decide +kernel, by decide +kernel⟩, lw_t7 (List.mem_of_getElem? (i := 123) rfl), lw_t8 (List.mem_of_getElem? (i := 71) rfl), lw_t8 (List.mem_of_getElem? (i := 72) rfl)⟩
theorem lw_p41 : lw_okq (⟨"GrassFieldModel", "readAtom", "()Z"⟩, 28) := ⟨⟨by decide +kernel, by decide +kernel⟩, lw_t7 (List.mem_of_getElem? (i := 123) rfl), lw_t8 (List.mem_of_getElem? (i := 75) rfl), lw_t8 (List.mem_of_getElem? (i := 76) rfl)⟩
theorem lw_p42 : lw_okq (⟨"GrassFieldModel", "sign", "(I)Z"⟩, 28) := ⟨⟨by decide +kernel, by decide +kernel⟩, lw_t7 (List.mem_of_getElem? (i := 123) rfl), lw_t8 (List.mem_of_getElem? (i := 79) rfl), lw_t8 (List.mem_of_getElem? (i := 80) rfl)⟩
theorem lw_p43 : lw_okq (⟨"GrassFieldModel", "blanks", "()V"⟩, 28) := ⟨⟨by decide +kernel, by decide +kernel⟩, lw_t7 (List.mem_of_getElem? (i := 123) rfl), lw_t8 (List.mem_of_getElem? (i := 83) rfl), lw_t8 (List.mem_of_getElem? (i := 84) rfl)⟩
theorem lw_p44 : lw_okq (⟨"GrassFieldModel", "isAt", "(II)Z"⟩, 28) := ⟨⟨by decide +kernel, by decide +kernel⟩, lw_t7 (List.mem_of_getElem? (i := 123) rfl), lw_t8 (List.mem_of_getElem? (i := 87) rfl), lw_t8 (List.mem_of_getElem? (i := 88) rfl)⟩
theorem lw_p45 : lw_okq (⟨"GrassFieldModel", "passes", "(Ljava/lang/String;)Z"⟩, 28) := ⟨⟨by decide +kernel, by decide +kernel⟩, lw_t7 (List.mem_of_getElem? (i := 123) rfl), lw_t8 (List.mem_of_getElem? (i := 92) rfl), lw_t8 (List.mem_of_getElem? (i := 93) rfl)⟩
theorem lw_p46 : lw_okq (⟨"GrassFieldModel", "letters", "()V"⟩, 28) := ⟨⟨by decide +kernel, by decide +kernel⟩, lw_t7 (List.mem_of_getElem? (i := 123) rfl), lw_t8 (List.mem_of_getElem? (i := 96) rfl), lw_t8 (List.mem_of_getElem? (i := 97) rfl)⟩
theorem lw_p47 : lw_okq (⟨"GrassFieldModel", "isWord", "(Ljava/lang/String;)Z"⟩, 28) := ⟨⟨by decide +kernel, by decide +kernel⟩, lw_t7 (List.mem_of_getElem? (i := 123) rfl), lw_t8 (List.mem_of_getElem? (i := 100) rfl), lw_t8 (List.mem_of_getElem? (i := 101) rfl)⟩
def lw_privs_3 : List (MethodName × Nat) := [(⟨"GrassField", "isStory", "(I)V"⟩, 11), (⟨"GrassField", "stands", "()V"⟩, 11), (⟨"GrassFieldModel", "throwsIf", "(ZI)Z"⟩, 28), (⟨"GrassFieldModel", "isSeenFrom", "(II)Z"⟩, 28), (⟨"GrassFieldModel", "reads", "(Z)Z"⟩, 28), (⟨"GrassFieldModel", "uses", "()V"⟩, 28), (⟨"GrassFieldModel", "readOne", "()I"⟩, 28), (⟨"GrassFieldModel", "readCond", "()Z"⟩, 28), (⟨"GrassFieldModel", "readAllOf", "()Z"⟩, 28), (⟨"GrassFieldModel", "readAtom", "()Z"⟩, 28), (⟨"GrassFieldModel", "sign", "(I)Z"⟩, 28), (⟨"GrassFieldModel", "blanks", "()V"⟩, 28), (⟨"GrassFieldModel", "isAt", "(II)Z"⟩, 28), (⟨"GrassFieldModel", "passes", "(Ljava/lang/String;)Z"⟩, 28), (⟨"GrassFieldModel", "letters", "()V"⟩, 28), (⟨"GrassFieldModel", "isWord", "(Ljava/lang/String;)Z"⟩, 28)]
theorem lw_r3 : ∀ q ∈ lw_privs_3, lw_okq q := List.forall_mem_cons.mpr ⟨lw_p32, List.forall_mem_cons.mpr ⟨lw_p33, List.forall_mem_cons.mpr ⟨lw_p34, List.forall_mem_cons.mpr ⟨lw_p35, List.forall_mem_cons.mpr ⟨lw_p36, List.forall_mem_cons.mpr ⟨lw_p37, List.forall_mem_cons.mpr ⟨lw_p38, List.forall_mem_cons.mpr ⟨lw_p39, List.forall_mem_cons.mpr ⟨lw_p40, List.forall_mem_cons.mpr ⟨lw_p41, List.forall_mem_cons.mpr ⟨lw_p42, List.forall_mem_cons.mpr ⟨lw_p43, List.forall_mem_cons.mpr ⟨lw_p44, List.forall_mem_cons.mpr ⟨lw_p45, List.forall_mem_cons.mpr ⟨lw_p46, List.forall_mem_cons.mpr ⟨lw_p47, fun _ h => absurd h List.not_mem_nil⟩⟩⟩⟩⟩⟩⟩⟩⟩⟩⟩⟩⟩⟩⟩⟩
theorem lw_p48 : lw_okq (⟨"GrassFieldModel", "emits", "(II)V"⟩, 28) := ⟨⟨by decide +kernel, by decide +kernel⟩, lw_t7 (List.mem_of_getElem? (i := 123) rfl), lw_t8 (List.mem_of_getElem? (i := 106) rfl), lw_t8 (List.mem_of_getElem? (i := 107) rfl)⟩
theorem lw_p49 : lw_okq (⟨"GrassFieldModel", "readTag", "()Z"⟩, 28) := ⟨⟨by decide +kernel, by decide +kernel⟩, lw_t7 (List.mem_of_getElem? (i := 123) rfl), lw_t8 (List.mem_of_getElem? (i := 110) rfl), lw_t8 (List.mem_of_getElem? (i := 111) rfl)⟩
theorem lw_p50 : lw_okq (⟨"GrassFieldModel", "number", "()I"⟩, 28) := ⟨⟨by decide +kernel, by decide +kernel⟩, lw_t7 (List.mem_of_getElem? (i := 123) rfl), lw_t8 (List.mem_of_getElem? (i := 117) rfl), lw_t8 (List.mem_of_getElem? (i := 118) rfl)⟩
theorem lw_p51 : lw_okq (⟨"GrassFieldModel", "readSum", "()Z"⟩, 28) := ⟨⟨by decide +kernel, by decide +kernel⟩, lw_t7 (List.mem_of_getElem? (i := 123) rfl), lw_t8 (List.mem_of_getElem? (i := 121) rfl), lw_t8 (List.mem_of_getElem? (i := 122) rfl)⟩
theorem lw_p52 : lw_okq (⟨"GrassFieldModel", "readPart", "()Z"⟩, 28) := ⟨⟨by decide +kernel, by decide +kernel⟩, lw_t7 (List.mem_of_getElem? (i := 123) rfl), lw_t8 (List.mem_of_getElem? (i := 125) rfl), lw_t8 (List.mem_of_getElem? (i := 126) rfl)⟩
theorem lw_p53 : lw_okq (⟨"GrassFieldModel", "readFact", "()Z"⟩, 28) := ⟨⟨by decide +kernel, by decide +kernel⟩, lw_t7 (List.mem_of_getElem? (i := 123) rfl), lw_t8 (List.mem_of_getElem? (i := 129) rfl), lw_t8 (List.mem_of_getElem? (i := 130) rfl)⟩
theorem lw_p54 : lw_okq (⟨"GrassFieldModel", "factAt", "()I"⟩, 28) := ⟨⟨by decide +kernel, by decide +kernel⟩, lw_t7 (List.mem_of_getElem? (i := 123) rfl), lw_t8 (List.mem_of_getElem? (i := 133) rfl), lw_t8 (List.mem_of_getElem? (i := 134) rfl)⟩
theorem lw_p55 : lw_okq (⟨"GrassFieldModel", "emitsIf", "(II)Z"⟩, 28) := ⟨⟨by decide +kernel, by decide +kernel⟩, lw_t7 (List.mem_of_getElem? (i := 123) rfl), lw_t8 (List.mem_of_getElem? (i := 151) rfl), lw_t8 (List.mem_of_getElem? (i := 152) rfl)⟩
theorem lw_p56 : lw_okq (⟨"GrassFieldModel", "readAll", "()I"⟩, 28) := ⟨⟨by decide +kernel, by decide +kernel⟩, lw_t7 (List.mem_of_getElem? (i := 123) rfl), lw_t8 (List.mem_of_getElem? (i := 157) rfl), lw_t8 (List.mem_of_getElem? (i := 158) rfl)⟩
theorem lw_p57 : lw_okq (⟨"GrassFieldModel", "readLine", "(I)Z"⟩, 28) := ⟨⟨by decide +kernel, by decide +kernel⟩, lw_t7 (List.mem_of_getElem? (i := 123) rfl), lw_t8 (List.mem_of_getElem? (i := 161) rfl), lw_t8 (List.mem_of_getElem? (i := 162) rfl)⟩
theorem lw_p58 : lw_okq (⟨"GrassFieldModel", "keeps", "(I)V"⟩, 28) := ⟨⟨by decide +kernel, by decide +kernel⟩, lw_t7 (List.mem_of_getElem? (i := 123) rfl), lw_t8 (List.mem_of_getElem? (i := 171) rfl), lw_t8 (List.mem_of_getElem? (i := 172) rfl)⟩
theorem lw_p59 : lw_okq (⟨"GrassFieldModel", "none", "(II)Z"⟩, 28) := ⟨⟨by decide +kernel, by decide +kernel⟩, lw_t7 (List.mem_of_getElem? (i := 123) rfl), lw_t8 (List.mem_of_getElem? (i := 183) rfl), lw_t8 (List.mem_of_getElem? (i := 184) rfl)⟩
theorem lw_p60 : lw_okq (⟨"GrassFieldModel", "of", "(II)I"⟩, 28) := ⟨⟨by decide +kernel, by decide +kernel⟩, lw_t7 (List.mem_of_getElem? (i := 123) rfl), lw_t8 (List.mem_of_getElem? (i := 187) rfl), lw_t8 (List.mem_of_getElem? (i := 188) rfl)⟩
theorem lw_p61 : lw_okq (⟨"GrassFieldModel", "sets", "(III)V"⟩, 28) := ⟨⟨by decide +kernel, by decide +kernel⟩, lw_t7 (List.mem_of_getElem? (i := 123) rfl), lw_t8 (List.mem_of_getElem? (i := 191) rfl), lw_t8 (List.mem_of_getElem? (i := 192) rfl)⟩
theorem lw_p62 : lw_okq (⟨"GrassFieldModel", "near", "(IZI)I"⟩, 28) := ⟨⟨by decide +kernel, by decide +kernel⟩, lw_t7 (List.mem_of_getElem? (i := 123) rfl), lw_t8 (List.mem_of_getElem? (i := 199) rfl), lw_t8 (List.mem_of_getElem? (i := 200) rfl)⟩
theorem lw_p63 : lw_okq (⟨"GrassFieldModel", "isFoe", "(II)Z"⟩, 28) := ⟨⟨by decide +kernel, by decide +kernel⟩, lw_t7 (List.mem_of_getElem? (i := 123) rfl), lw_t8 (List.mem_of_getElem? (i := 203) rfl), lw_t8 (List.mem_of_getElem? (i := 204) rfl)⟩
def lw_privs_4 : List (MethodName × Nat) := [(⟨"GrassFieldModel", "emits", "(II)V"⟩, 28), (⟨"GrassFieldModel", "readTag", "()Z"⟩, 28), (⟨"GrassFieldModel", "number", "()I"⟩, 28), (⟨"GrassFieldModel", "readSum", "()Z"⟩, 28), (⟨"GrassFieldModel", "readPart", "()Z"⟩, 28), (⟨"GrassFieldModel", "readFact", "()Z"⟩, 28), (⟨"GrassFieldModel", "factAt", "()I"⟩, 28), (⟨"GrassFieldModel", "emitsIf", "(II)Z"⟩, 28), (⟨"GrassFieldModel", "readAll", "()I"⟩, 28), (⟨"GrassFieldModel", "readLine", "(I)Z"⟩, 28), (⟨"GrassFieldModel", "keeps", "(I)V"⟩, 28), (⟨"GrassFieldModel", "none", "(II)Z"⟩, 28), (⟨"GrassFieldModel", "of", "(II)I"⟩, 28), (⟨"GrassFieldModel", "sets", "(III)V"⟩, 28), (⟨"GrassFieldModel", "near", "(IZI)I"⟩, 28), (⟨"GrassFieldModel", "isFoe", "(II)Z"⟩, 28)]
theorem lw_r4 : ∀ q ∈ lw_privs_4, lw_okq q := List.forall_mem_cons.mpr ⟨lw_p48, List.forall_mem_cons.mpr ⟨lw_p49, List.forall_mem_cons.mpr ⟨lw_p50, List.forall_mem_cons.mpr ⟨lw_p51, List.forall_mem_cons.mpr ⟨lw_p52, List.forall_mem_cons.mpr ⟨lw_p53, List.forall_mem_cons.mpr ⟨lw_p54, List.forall_mem_cons.mpr ⟨lw_p55, List.forall_mem_cons.mpr ⟨lw_p56, List.forall_mem_cons.mpr ⟨lw_p57, List.forall_mem_cons.mpr ⟨lw_p58, List.forall_mem_cons.mpr ⟨lw_p59, List.forall_mem_cons.mpr ⟨lw_p60, List.forall_mem_cons.mpr ⟨lw_p61, List.forall_mem_cons.mpr ⟨lw_p62, List.forall_mem_cons.mpr ⟨lw_p63, fun _ h => absurd h List.not_mem_nil⟩⟩⟩⟩⟩⟩⟩⟩⟩⟩⟩⟩⟩⟩⟩⟩
theorem lw_p64 : lw_okq (⟨"GrassFieldModel", "isFriend", "(II)Z"⟩, 28) := ⟨⟨by decide +kernel, by decide +kernel⟩, lw_t7 (List.mem_of_getElem? (i := 123) rfl), lw_t8 (List.mem_of_getElem? (i := 207) rfl), lw_t8 (List.mem_of_getElem? (i := 208) rfl)⟩
theorem lw_p65 : lw_okq (⟨"GrassFieldModel", "acts", "(I)V"⟩, 28) := ⟨⟨by decide +kernel, by decide +kernel⟩, lw_t7 (List.mem_of_getElem? (i := 123) rfl), lw_t8 (List.mem_of_getElem? (i := 219) rfl), lw_t8 (List.mem_of_getElem? (i := 220) rfl)⟩
theorem lw_p66 : lw_okq (⟨"GrassFieldModel", "sortOf", "(I)I"⟩, 28) := ⟨⟨by decide +kernel, by decide +kernel⟩, lw_t7 (List.mem_of_getElem? (i := 123) rfl), lw_t8 (List.mem_of_getElem? (i := 223) rfl), lw_t8 (List.mem_of_getElem? (i := 224) rfl)⟩
theorem lw_p67 : lw_okq (⟨"GrassFieldModel", "roundsOf", "(I)I"⟩, 28) := ⟨⟨by decide +kernel, by decide +kernel⟩, lw_t7 (List.mem_of_getElem? (i := 123) rfl), lw_t8 (List.mem_of_getElem? (i := 227) rfl), lw_t8 (List.mem_of_getElem? (i := 228) rfl)⟩
theorem lw_p68 : lw_okq (⟨"GrassFieldModel", "nearestTo", "(IZI)I"⟩, 28) := ⟨⟨by decide +kernel, by decide +kernel⟩, lw_t7 (List.mem_of_getElem? (i := 123) rfl), lw_t8 (List.mem_of_getElem? (i := 231) rfl), lw_t8 (List.mem_of_getElem? (i := 232) rfl)⟩
theorem lw_p69 : lw_okq (⟨"GrassFieldModel", "holdsLine", "(II)Z"⟩, 28) := ⟨⟨by decide +kernel, by decide +kernel⟩, lw_t7 (List.mem_of_getElem? (i := 123) rfl), lw_t8 (List.mem_of_getElem? (i := 235) rfl), lw_t8 (List.mem_of_getElem? (i := 236) rfl)⟩
theorem lw_p70 : lw_okq (⟨"GrassFieldModel", "shoots", "(I)V"⟩, 28) := ⟨⟨by decide +kernel, by decide +kernel⟩, lw_t7 (List.mem_of_getElem? (i := 123) rfl), lw_t8 (List.mem_of_getElem? (i := 239) rfl), lw_t9 (List.mem_of_getElem? (i := 0) rfl)⟩
theorem lw_p71 : lw_okq (⟨"GrassFieldModel", "holdsStill", "(I)V"⟩, 28) := ⟨⟨by decide +kernel, by decide +kernel⟩, lw_t7 (List.mem_of_getElem? (i := 123) rfl), lw_t9 (List.mem_of_getElem? (i := 3) rfl), lw_t9 (List.mem_of_getElem? (i := 4) rfl)⟩
theorem lw_p72 : lw_okq (⟨"GrassFieldModel", "leaves", "(IIII)V"⟩, 28) := ⟨⟨by decide +kernel, by decide +kernel⟩, lw_t7 (List.mem_of_getElem? (i := 123) rfl), lw_t9 (List.mem_of_getElem? (i := 7) rfl), lw_t9 (List.mem_of_getElem? (i := 8) rfl)⟩
theorem lw_p73 : lw_okq (⟨"GrassFieldModel", "moves", "(IZ)V"⟩, 28) := ⟨⟨by decide +kernel, by decide +kernel⟩, lw_t7 (List.mem_of_getElem? (i := 123) rfl), lw_t9 (List.mem_of_getElem? (i := 12) rfl), lw_t9 (List.mem_of_getElem? (i := 13) rfl)⟩
theorem lw_p74 : lw_okq (⟨"GrassFieldModel", "finds", "()I"⟩, 28) := ⟨⟨by decide +kernel, by decide +kernel⟩, lw_t7 (List.mem_of_getElem? (i := 123) rfl), lw_t9 (List.mem_of_getElem? (i := 21) rfl), lw_t9 (List.mem_of_getElem? (i := 22) rfl)⟩
theorem lw_p75 : lw_okq (⟨"GrassFieldModel", "ofFind", "(II)I"⟩, 28) := ⟨⟨by decide +kernel, by decide +kernel⟩, lw_t7 (List.mem_of_getElem? (i := 123) rfl), lw_t9 (List.mem_of_getElem? (i := 33) rfl), lw_t9 (List.mem_of_getElem? (i := 34) rfl)⟩
theorem lw_p76 : lw_okq (⟨"GrassFieldModel", "isSeen", "(I)Z"⟩, 28) := ⟨⟨by decide +kernel, by decide +kernel⟩, lw_t7 (List.mem_of_getElem? (i := 123) rfl), lw_t9 (List.mem_of_getElem? (i := 37) rfl), lw_t9 (List.mem_of_getElem? (i := 38) rfl)⟩
theorem lw_p77 : lw_okq (⟨"GrassFieldModel", "isCovered", "(I)Z"⟩, 28) := ⟨⟨by decide +kernel, by decide +kernel⟩, lw_t7 (List.mem_of_getElem? (i := 123) rfl), lw_t9 (List.mem_of_getElem? (i := 41) rfl), lw_t9 (List.mem_of_getElem? (i := 42) rfl)⟩
theorem lw_p78 : lw_okq (⟨"GrassFieldModel", "mayBe", "(I)I"⟩, 28) := ⟨⟨by decide +kernel, by decide +kernel⟩, lw_t7 (List.mem_of_getElem? (i := 123) rfl), lw_t9 (List.mem_of_getElem? (i := 45) rfl), lw_t9 (List.mem_of_getElem? (i := 46) rfl)⟩
theorem lw_p79 : lw_okq (⟨"GrassFieldModel", "isKind", "(II)Z"⟩, 28) := ⟨⟨by decide +kernel, by decide +kernel⟩, lw_t7 (List.mem_of_getElem? (i := 123) rfl), lw_t9 (List.mem_of_getElem? (i := 49) rfl), lw_t9 (List.mem_of_getElem? (i := 50) rfl)⟩
def lw_privs_5 : List (MethodName × Nat) := [(⟨"GrassFieldModel", "isFriend", "(II)Z"⟩, 28), (⟨"GrassFieldModel", "acts", "(I)V"⟩, 28), (⟨"GrassFieldModel", "sortOf", "(I)I"⟩, 28), (⟨"GrassFieldModel", "roundsOf", "(I)I"⟩, 28), (⟨"GrassFieldModel", "nearestTo", "(IZI)I"⟩, 28), (⟨"GrassFieldModel", "holdsLine", "(II)Z"⟩, 28), (⟨"GrassFieldModel", "shoots", "(I)V"⟩, 28), (⟨"GrassFieldModel", "holdsStill", "(I)V"⟩, 28), (⟨"GrassFieldModel", "leaves", "(IIII)V"⟩, 28), (⟨"GrassFieldModel", "moves", "(IZ)V"⟩, 28), (⟨"GrassFieldModel", "finds", "()I"⟩, 28), (⟨"GrassFieldModel", "ofFind", "(II)I"⟩, 28), (⟨"GrassFieldModel", "isSeen", "(I)Z"⟩, 28), (⟨"GrassFieldModel", "isCovered", "(I)Z"⟩, 28), (⟨"GrassFieldModel", "mayBe", "(I)I"⟩, 28), (⟨"GrassFieldModel", "isKind", "(II)Z"⟩, 28)]
theorem lw_r5 : ∀ q ∈ lw_privs_5, lw_okq q := List.forall_mem_cons.mpr ⟨lw_p64, List.forall_mem_cons.mpr ⟨lw_p65, List.forall_mem_cons.mpr ⟨lw_p66, List.forall_mem_cons.mpr ⟨lw_p67, List.forall_mem_cons.mpr ⟨lw_p68, List.forall_mem_cons.mpr ⟨lw_p69, List.forall_mem_cons.mpr ⟨lw_p70, List.forall_mem_cons.mpr ⟨lw_p71, List.forall_mem_cons.mpr ⟨lw_p72, List.forall_mem_cons.mpr ⟨lw_p73, List.forall_mem_cons.mpr ⟨lw_p74, List.forall_mem_cons.mpr ⟨lw_p75, List.forall_mem_cons.mpr ⟨lw_p76, List.forall_mem_cons.mpr ⟨lw_p77, List.forall_mem_cons.mpr ⟨lw_p78, List.forall_mem_cons.mpr ⟨lw_p79, fun _ h => absurd h List.not_mem_nil⟩⟩⟩⟩⟩⟩⟩⟩⟩⟩⟩⟩⟩⟩⟩⟩
theorem lw_p80 : lw_okq (⟨"GrassFieldModel", "seenMany", "()I"⟩, 28) := ⟨⟨by decide +kernel, by decide +kernel⟩, lw_t7 (List.mem_of_getElem? (i := 123) rfl), lw_t9 (List.mem_of_getElem? (i := 68) rfl), lw_t9 (List.mem_of_getElem? (i := 69) rfl)⟩
theorem lw_p81 : lw_okq (⟨"GrassFieldModel", "neededIn", "(II)I"⟩, 28) := ⟨⟨by decide +kernel, by decide +kernel⟩, lw_t7 (List.mem_of_getElem? (i := 123) rfl), lw_t9 (List.mem_of_getElem? (i := 80) rfl), lw_t9 (List.mem_of_getElem? (i := 81) rfl)⟩
theorem lw_p82 : lw_okq (⟨"GrassFieldModel", "isSeenCase", "(I)Z"⟩, 28) := ⟨⟨by decide +kernel, by decide +kernel⟩, lw_t7 (List.mem_of_getElem? (i := 123) rfl), lw_t9 (List.mem_of_getElem? (i := 85) rfl), lw_t9 (List.mem_of_getElem? (i := 86) rfl)⟩
theorem lw_p83 : lw_okq (⟨"GrassFieldModel", "isModern", "(I)Z"⟩, 28) := ⟨⟨by decide +kernel, by decide +kernel⟩, lw_t7 (List.mem_of_getElem? (i := 123) rfl), lw_t9 (List.mem_of_getElem? (i := 97) rfl), lw_t9 (List.mem_of_getElem? (i := 98) rfl)⟩
theorem lw_p84 : lw_okq (⟨"GrassFieldModel", "gathers", "(I)V"⟩, 28) := ⟨⟨by decide +kernel, by decide +kernel⟩, lw_t7 (List.mem_of_getElem? (i := 123) rfl), lw_t9 (List.mem_of_getElem? (i := 105) rfl), lw_t9 (List.mem_of_getElem? (i := 106) rfl)⟩
theorem lw_p85 : lw_okq (⟨"GrassFieldModel", "sureOf", "(I)I"⟩, 28) := ⟨⟨by decide +kernel, by decide +kernel⟩, lw_t7 (List.mem_of_getElem? (i := 123) rfl), lw_t9 (List.mem_of_getElem? (i := 109) rfl), lw_t9 (List.mem_of_getElem? (i := 110) rfl)⟩
theorem lw_p86 : lw_okq (⟨"GrassFieldModel", "leads", "(I)V"⟩, 28) := ⟨⟨by decide +kernel, by decide +kernel⟩, lw_t7 (List.mem_of_getElem? (i := 123) rfl), lw_t9 (List.mem_of_getElem? (i := 114) rfl), lw_t9 (List.mem_of_getElem? (i := 115) rfl)⟩
theorem lw_p87 : lw_okq (⟨"GrassFieldModel", "goes", "(II)I"⟩, 28) := ⟨⟨by decide +kernel, by decide +kernel⟩, lw_t7 (List.mem_of_getElem? (i := 123) rfl), lw_t9 (List.mem_of_getElem? (i := 119) rfl), lw_t9 (List.mem_of_getElem? (i := 120) rfl)⟩
theorem lw_p88 : lw_okq (⟨"GrassFieldModel", "handsOf", "()I"⟩, 28) := ⟨⟨by decide +kernel, by decide +kernel⟩, lw_t7 (List.mem_of_getElem? (i := 123) rfl), lw_t9 (List.mem_of_getElem? (i := 123) rfl), lw_t9 (List.mem_of_getElem? (i := 124) rfl)⟩
theorem lw_p89 : lw_okq (⟨"GrassFieldModel", "earliest", "(I)I"⟩, 28) := ⟨⟨by decide +kernel, by decide +kernel⟩, lw_t7 (List.mem_of_getElem? (i := 123) rfl), lw_t9 (List.mem_of_getElem? (i := 127) rfl), lw_t9 (List.mem_of_getElem? (i := 128) rfl)⟩
theorem lw_p90 : lw_okq (⟨"GrassFieldModel", "longestHeld", "(III)I"⟩, 28) := ⟨⟨by decide +kernel, by decide +kernel⟩, lw_t7 (List.mem_of_getElem? (i := 123) rfl), lw_t9 (List.mem_of_getElem? (i := 138) rfl), lw_t9 (List.mem_of_getElem? (i := 139) rfl)⟩
theorem lw_p91 : lw_okq (⟨"GrassFieldModel", "gathersRow", "(II)V"⟩, 28) := ⟨⟨by decide +kernel, by decide +kernel⟩, lw_t7 (List.mem_of_getElem? (i := 123) rfl), lw_t9 (List.mem_of_getElem? (i := 142) rfl), lw_t9 (List.mem_of_getElem? (i := 143) rfl)⟩
theorem lw_p92 : lw_okq (⟨"GrassFieldModel", "heapsOf", "(IZ)I"⟩, 28) := ⟨⟨by decide +kernel, by decide +kernel⟩, lw_t7 (List.mem_of_getElem? (i := 123) rfl), lw_t9 (List.mem_of_getElem? (i := 150) rfl), lw_t9 (List.mem_of_getElem? (i := 151) rfl)⟩
theorem lw_p93 : lw_okq (⟨"GrassFieldModel", "casesAt", "(I)I"⟩, 28) := ⟨⟨by decide +kernel, by decide +kernel⟩, lw_t7 (List.mem_of_getElem? (i := 123) rfl), lw_t9 (List.mem_of_getElem? (i := 154) rfl), lw_t9 (List.mem_of_getElem? (i := 155) rfl)⟩
theorem lw_p94 : lw_okq (⟨"GrassFieldModel", "fitsAll", "(I)Z"⟩, 28) := ⟨⟨by decide +kernel, by decide +kernel⟩, lw_t7 (List.mem_of_getElem? (i := 123) rfl), lw_t9 (List.mem_of_getElem? (i := 178) rfl), lw_t9 (List.mem_of_getElem? (i := 179) rfl)⟩
theorem lw_p95 : lw_okq (⟨"GrassFieldModel", "ofTelling", "(II)I"⟩, 28) := ⟨⟨by decide +kernel, by decide +kernel⟩, lw_t7 (List.mem_of_getElem? (i := 123) rfl), lw_t9 (List.mem_of_getElem? (i := 182) rfl), lw_t9 (List.mem_of_getElem? (i := 183) rfl)⟩
def lw_privs_6 : List (MethodName × Nat) := [(⟨"GrassFieldModel", "seenMany", "()I"⟩, 28), (⟨"GrassFieldModel", "neededIn", "(II)I"⟩, 28), (⟨"GrassFieldModel", "isSeenCase", "(I)Z"⟩, 28), (⟨"GrassFieldModel", "isModern", "(I)Z"⟩, 28), (⟨"GrassFieldModel", "gathers", "(I)V"⟩, 28), (⟨"GrassFieldModel", "sureOf", "(I)I"⟩, 28), (⟨"GrassFieldModel", "leads", "(I)V"⟩, 28), (⟨"GrassFieldModel", "goes", "(II)I"⟩, 28), (⟨"GrassFieldModel", "handsOf", "()I"⟩, 28), (⟨"GrassFieldModel", "earliest", "(I)I"⟩, 28), (⟨"GrassFieldModel", "longestHeld", "(III)I"⟩, 28), (⟨"GrassFieldModel", "gathersRow", "(II)V"⟩, 28), (⟨"GrassFieldModel", "heapsOf", "(IZ)I"⟩, 28), (⟨"GrassFieldModel", "casesAt", "(I)I"⟩, 28), (⟨"GrassFieldModel", "fitsAll", "(I)Z"⟩, 28), (⟨"GrassFieldModel", "ofTelling", "(II)I"⟩, 28)]
theorem lw_r6 : ∀ q ∈ lw_privs_6, lw_okq q := List.forall_mem_cons.mpr ⟨lw_p80, List.forall_mem_cons.mpr ⟨lw_p81, List.forall_mem_cons.mpr ⟨lw_p82, List.forall_mem_cons.mpr ⟨lw_p83, List.forall_mem_cons.mpr ⟨lw_p84, List.forall_mem_cons.mpr ⟨lw_p85, List.forall_mem_cons.mpr ⟨lw_p86, List.forall_mem_cons.mpr ⟨lw_p87, List.forall_mem_cons.mpr ⟨lw_p88, List.forall_mem_cons.mpr ⟨lw_p89, List.forall_mem_cons.mpr ⟨lw_p90, List.forall_mem_cons.mpr ⟨lw_p91, List.forall_mem_cons.mpr ⟨lw_p92, List.forall_mem_cons.mpr ⟨lw_p93, List.forall_mem_cons.mpr ⟨lw_p94, List.forall_mem_cons.mpr ⟨lw_p95, fun _ h => absurd h List.not_mem_nil⟩⟩⟩⟩⟩⟩⟩⟩⟩⟩⟩⟩⟩⟩⟩⟩
theorem lw_p96 : lw_okq (⟨"GrassFieldModel", "couldBe", "(I)Z"⟩, 28) := ⟨⟨by decide +kernel, by decide +kernel⟩, lw_t7 (List.mem_of_getElem? (i := 123) rfl), lw_t9 (List.mem_of_getElem? (i := 186) rfl), lw_t9 (List.mem_of_getElem? (i := 187) rfl)⟩
theorem lw_p97 : lw_okq (⟨"GrassFieldModel", "ofTeller", "(II)I"⟩, 28) := ⟨⟨by decide +kernel, by decide +kernel⟩, lw_t7 (List.mem_of_getElem? (i := 123) rfl), lw_t9 (List.mem_of_getElem? (i := 190) rfl), lw_t9 (List.mem_of_getElem? (i := 191) rfl)⟩
theorem lw_p98 : lw_okq (⟨"GrassFieldModel", "mayHaveTalked", "(II)Z"⟩, 28) := ⟨⟨by decide +kernel, by decide +kernel⟩, lw_t7 (List.mem_of_getElem? (i := 123) rfl), lw_t9 (List.mem_of_getElem? (i := 198) rfl), lw_t9 (List.mem_of_getElem? (i := 199) rfl)⟩
theorem lw_p99 : lw_okq (⟨"GrassFieldModel", "canAll", "(II)Z"⟩, 28) := ⟨⟨by decide +kernel, by decide +kernel⟩, lw_t7 (List.mem_of_getElem? (i := 123) rfl), lw_t9 (List.mem_of_getElem? (i := 210) rfl), lw_t9 (List.mem_of_getElem? (i := 211) rfl)⟩
theorem lw_p100 : lw_okq (⟨"GrassFieldModel", "gunsIn", "(IIZ)I"⟩, 28) := ⟨⟨by decide +kernel, by decide +kernel⟩, lw_t7 (List.mem_of_getElem? (i := 123) rfl), lw_t9 (List.mem_of_getElem? (i := 218) rfl), lw_t9 (List.mem_of_getElem? (i := 219) rfl)⟩
theorem lw_p101 : lw_okq (⟨"GrassFieldModel", "asks", "()V"⟩, 28) := ⟨⟨by decide +kernel, by decide +kernel⟩, lw_t7 (List.mem_of_getElem? (i := 123) rfl), lw_t9 (List.mem_of_getElem? (i := 226) rfl), lw_t9 (List.mem_of_getElem? (i := 227) rfl)⟩
def lw_privs_7 : List (MethodName × Nat) := [(⟨"GrassFieldModel", "couldBe", "(I)Z"⟩, 28), (⟨"GrassFieldModel", "ofTeller", "(II)I"⟩, 28), (⟨"GrassFieldModel", "mayHaveTalked", "(II)Z"⟩, 28), (⟨"GrassFieldModel", "canAll", "(II)Z"⟩, 28), (⟨"GrassFieldModel", "gunsIn", "(IIZ)I"⟩, 28), (⟨"GrassFieldModel", "asks", "()V"⟩, 28)]
theorem lw_r7 : ∀ q ∈ lw_privs_7, lw_okq q := List.forall_mem_cons.mpr ⟨lw_p96, List.forall_mem_cons.mpr ⟨lw_p97, List.forall_mem_cons.mpr ⟨lw_p98, List.forall_mem_cons.mpr ⟨lw_p99, List.forall_mem_cons.mpr ⟨lw_p100, List.forall_mem_cons.mpr ⟨lw_p101, fun _ h => absurd h List.not_mem_nil⟩⟩⟩⟩⟩⟩
def lw_privs : List (MethodName × Nat) := lw_privs_1 ++ (lw_privs_2 ++ (lw_privs_3 ++ (lw_privs_4 ++ (lw_privs_5 ++ (lw_privs_6 ++ (lw_privs_7))))))
def lw_tbl : List Cond := k2_sels lw_privs ++ tables_1
theorem lw_privs_ok : ∀ q ∈ lw_privs, lw_okq q := by
  show ∀ q ∈ lw_privs_1 ++ (lw_privs_2 ++ (lw_privs_3 ++ (lw_privs_4 ++ (lw_privs_5 ++ (lw_privs_6 ++ (lw_privs_7)))))), lw_okq q
  exact List.forall_mem_append.mpr ⟨lw_r1, List.forall_mem_append.mpr ⟨lw_r2, List.forall_mem_append.mpr ⟨lw_r3, List.forall_mem_append.mpr ⟨lw_r4, List.forall_mem_append.mpr ⟨lw_r5, List.forall_mem_append.mpr ⟨lw_r6, lw_r7⟩⟩⟩⟩⟩⟩
-- ===== ONE list of words for every method: the tables' words that hold all through a run =====
def lw_all : List Cond := lw_tbl.filter goodWord
/-- a word of the tables by its place: claim/WORDS.tsv -/
theorem lw_w {w : Cond} (i : Nat) (h : lw_tbl[i]? = some w) (g : goodWord w = true) : w ∈ lw_all := List.mem_filter.mpr ⟨List.mem_of_getElem? h, g⟩
theorem lw_all_tbl {w : Cond} (h : w ∈ lw_all) : w ∈ lw_tbl := (List.mem_filter.mp h).1
theorem lw_self : GoodIn lw_all lw_all := fun w h => ⟨h, good_of_word (List.mem_filter.mp h).2⟩
/-- a class's field words, by their places -/
theorem lw_in (ws : List Cond) (ps : List Nat) (hp : ws = ps.filterMap (fun i => lw_tbl[i]?)) (hg : ws.all goodWord = true) : ∀ w ∈ ws, w ∈ lw_all := by
  intro w h
  have h1 := List.all_eq_true.mp hg w h
  rw [hp] at h
  obtain ⟨i, -, hi⟩ := List.mem_filterMap.mp h
  exact lw_w i hi h1
/-- the words of a contract for the method y with code b, L locals, answer r -/
abbrev ws_ (y : MethodName) (b : ByteArray) (L : Nat) (r : Option FieldType) : List Cond := Cond.code y b L r :: lw_all
theorem lw_meth {y : MethodName} {b : ByteArray} {L : Nat} {r : Option FieldType} (h : Cond.code y b L r ∈ lw_all) : GoodIn lw_all (ws_ y b L r) := by
  intro w hw
  rcases List.mem_cons.mp hw with e | e
  · rw [e]
    exact lw_self _ h
  · exact lw_self _ e
theorem lw_app {a c : List Cond} (ha : ∀ w ∈ a, w ∈ lw_all) (hc : GoodIn lw_all c) : GoodIn lw_all (a ++ c) := by
  intro w hw
  rcases List.mem_append.mp hw with e | e
  · exact lw_self w (ha w e)
  · exact hc w e
/-- what a call through an object asks: cwV n hts (lw_V ..) -/
theorem lw_V {own : String} {idx : Nat} {C : String} {y : MethodName} {b : ByteArray} {L : Nat} {r : Option FieldType} (h1 : Cond.methodLink own idx y ∈ lw_all) (h2 : Cond.instanceMethod y ∈ lw_all) (h3 : Cond.selects C y y ∈ lw_all) (h4 : Cond.initialized C ∈ lw_all) (h5 : Cond.code y b L r ∈ lw_all) : GoodIn lw_all (wsV own idx C y (ws_ y b L r)) := by
  refine lw_app ?_ (lw_meth h5)
  intro w hw
  simp only [List.mem_cons, List.not_mem_nil, or_false] at hw
  rcases hw with e | e | e | e
  · rw [e]; exact h1
  · rw [e]; exact h2
  · rw [e]; exact h3
  · rw [e]; exact h4
/-- what a static call asks: va_cwS n hts (lw_S ..) -/
theorem lw_S {own : String} {idx : Nat} {y : MethodName} {b : ByteArray} {L : Nat} {r : Option FieldType} (h1 : Cond.methodLink own idx y ∈ lw_all) (h2 : Cond.static y ∈ lw_all) (h3 : Cond.initialized y.cls ∈ lw_all) (h4 : Cond.code y b L r ∈ lw_all) : GoodIn lw_all (va_wsS own idx y (ws_ y b L r)) := by
  refine lw_app ?_ (lw_meth h4)
  intro w hw
  simp only [List.mem_cons, List.not_mem_nil, or_false] at hw
  rcases hw with e | e | e
  · rw [e]; exact h1
  · rw [e]; exact h2
  · rw [e]; exact h3
/-- the words of a contract for a method WITH HANDLERS (hh: its table) -/
abbrev wsW_ (y : MethodName) (b : ByteArray) (L : Nat) (r : Option FieldType) (hh : List (Nat × Nat × Nat × Nat)) : List Cond := Cond.codeWith y b L r hh :: lw_all
theorem lw_methW {y : MethodName} {b : ByteArray} {L : Nat} {r : Option FieldType} {hh : List (Nat × Nat × Nat × Nat)} (h : Cond.codeWith y b L r hh ∈ lw_all) : GoodIn lw_all (wsW_ y b L r hh) := by
  intro w hw
  rcases List.mem_cons.mp hw with e | e
  · rw [e]
    exact lw_self _ h
  · exact lw_self _ e
/-- any list of words by their places (lw_in), good -/
theorem lw_good {ws : List Cond} (h : ∀ w ∈ ws, w ∈ lw_all) : GoodIn lw_all ws := fun w hw => lw_self w (h w hw)
/-- what a call of a method with handlers asks: vx_cwVW n hts (lw_VW ..), vx_cwSW n hts (lw_SW ..) -/
theorem lw_VW {own : String} {idx : Nat} {C : String} {y : MethodName} {b : ByteArray} {L : Nat} {r : Option FieldType} {hh : List (Nat × Nat × Nat × Nat)} (h1 : Cond.methodLink own idx y ∈ lw_all) (h2 : Cond.instanceMethod y ∈ lw_all) (h3 : Cond.selects C y y ∈ lw_all) (h4 : Cond.initialized C ∈ lw_all) (h5 : Cond.codeWith y b L r hh ∈ lw_all) : GoodIn lw_all (wsV own idx C y (wsW_ y b L r hh)) := by
  refine lw_app ?_ (lw_methW h5)
  intro w hw
  simp only [List.mem_cons, List.not_mem_nil, or_false] at hw
  rcases hw with e | e | e | e
  · rw [e]; exact h1
  · rw [e]; exact h2
  · rw [e]; exact h3
  · rw [e]; exact h4
theorem lw_SW {own : String} {idx : Nat} {y : MethodName} {b : ByteArray} {L : Nat} {r : Option FieldType} {hh : List (Nat × Nat × Nat × Nat)} (h1 : Cond.methodLink own idx y ∈ lw_all) (h2 : Cond.static y ∈ lw_all) (h3 : Cond.initialized y.cls ∈ lw_all) (h4 : Cond.codeWith y b L r hh ∈ lw_all) : GoodIn lw_all (va_wsS own idx y (wsW_ y b L r hh)) := by
  refine lw_app ?_ (lw_methW h4)
  intro w hw
  simp only [List.mem_cons, List.not_mem_nil, or_false] at hw
  rcases hw with e | e | e
  · rw [e]; exact h1
  · rw [e]; exact h2
  · rw [e]; exact h3
/-- a word by its place in its run of the tables -/
theorem lw_at {r : List Cond} (hr : ∀ w ∈ r, w ∈ lw_tbl) {w : Cond} (i : Nat) (h : r[i]? = some w) : w ∈ lw_tbl := hr w (List.mem_of_getElem? h)
theorem lw_g {w : Cond} (h : w ∈ lw_tbl) (g : goodWord w = true) : w ∈ lw_all := List.mem_filter.mpr ⟨h, g⟩
theorem lw_ms : ∀ w ∈ k2_sels lw_privs, w ∈ lw_tbl := fun w h => show w ∈ k2_sels lw_privs ++ tables_1 from List.mem_append_left _ h
theorem lw_m1 : ∀ w ∈ tables_1_1, w ∈ lw_tbl := fun w h => show w ∈ k2_sels lw_privs ++ tables_1 from List.mem_append_right (k2_sels lw_privs) (show w ∈ tables_1 from List.mem_append_left _ h)
theorem lw_m2 : ∀ w ∈ tables_1_2, w ∈ lw_tbl := fun w h => show w ∈ k2_sels lw_privs ++ tables_1 from List.mem_append_right (k2_sels lw_privs) (show w ∈ tables_1 from List.mem_append_right _ (List.mem_append_left _ h))
theorem lw_m3 : ∀ w ∈ tables_1_3, w ∈ lw_tbl := fun w h => show w ∈ k2_sels lw_privs ++ tables_1 from List.mem_append_right (k2_sels lw_privs) (show w ∈ tables_1 from List.mem_append_right _ (List.mem_append_right _ (List.mem_append_left _ h)))
theorem lw_m4 : ∀ w ∈ tables_1_4, w ∈ lw_tbl := fun w h => show w ∈ k2_sels lw_privs ++ tables_1 from List.mem_append_right (k2_sels lw_privs) (show w ∈ tables_1 from List.mem_append_right _ (List.mem_append_right _ (List.mem_append_right _ (List.mem_append_left _ h))))
theorem lw_m5 : ∀ w ∈ tables_1_5, w ∈ lw_tbl := fun w h => show w ∈ k2_sels lw_privs ++ tables_1 from List.mem_append_right (k2_sels lw_privs) (show w ∈ tables_1 from List.mem_append_right _ (List.mem_append_right _ (List.mem_append_right _ (List.mem_append_right _ (List.mem_append_left _ h)))))
theorem lw_m6 : ∀ w ∈ tables_1_6, w ∈ lw_tbl := fun w h => show w ∈ k2_sels lw_privs ++ tables_1 from List.mem_append_right (k2_sels lw_privs) (show w ∈ tables_1 from List.mem_append_right _ (List.mem_append_right _ (List.mem_append_right _ (List.mem_append_right _ (List.mem_append_right _ (List.mem_append_left _ h))))))
theorem lw_m7 : ∀ w ∈ tables_1_7, w ∈ lw_tbl := fun w h => show w ∈ k2_sels lw_privs ++ tables_1 from List.mem_append_right (k2_sels lw_privs) (show w ∈ tables_1 from List.mem_append_right _ (List.mem_append_right _ (List.mem_append_right _ (List.mem_append_right _ (List.mem_append_right _ (List.mem_append_right _ (List.mem_append_left _ h)))))))
theorem lw_m8 : ∀ w ∈ tables_1_8, w ∈ lw_tbl := fun w h => show w ∈ k2_sels lw_privs ++ tables_1 from List.mem_append_right (k2_sels lw_privs) (show w ∈ tables_1 from List.mem_append_right _ (List.mem_append_right _ (List.mem_append_right _ (List.mem_append_right _ (List.mem_append_right _ (List.mem_append_right _ (List.mem_append_right _ (List.mem_append_left _ h))))))))
theorem lw_m9 : ∀ w ∈ tables_1_9, w ∈ lw_tbl := fun w h => show w ∈ k2_sels lw_privs ++ tables_1 from List.mem_append_right (k2_sels lw_privs) (show w ∈ tables_1 from List.mem_append_right _ (List.mem_append_right _ (List.mem_append_right _ (List.mem_append_right _ (List.mem_append_right _ (List.mem_append_right _ (List.mem_append_right _ (List.mem_append_right _ (List.mem_append_left _ h)))))))))
theorem lw_m10 : ∀ w ∈ tables_1_10, w ∈ lw_tbl := fun w h => show w ∈ k2_sels lw_privs ++ tables_1 from List.mem_append_right (k2_sels lw_privs) (show w ∈ tables_1 from List.mem_append_right _ (List.mem_append_right _ (List.mem_append_right _ (List.mem_append_right _ (List.mem_append_right _ (List.mem_append_right _ (List.mem_append_right _ (List.mem_append_right _ (List.mem_append_right _ h)))))))))
theorem qs0 : (Cond.selects "java/lang/Throwable" ⟨"java/lang/Throwable", "fillInStackTrace", "(I)Ljava/lang/Throwable;"⟩ ⟨"java/lang/Throwable", "fillInStackTrace", "(I)Ljava/lang/Throwable;"⟩) ∈ lw_all := lw_g (lw_at lw_ms 0 rfl) rfl
theorem qs1 : (Cond.selects "GrassField" ⟨"GrassField", "four", "(I)V"⟩ ⟨"GrassField", "four", "(I)V"⟩) ∈ lw_all := lw_g (lw_at lw_ms 1 rfl) rfl
theorem qs2 : (Cond.selects "GrassField" ⟨"GrassField", "use", "()I"⟩ ⟨"GrassField", "use", "()I"⟩) ∈ lw_all := lw_g (lw_at lw_ms 2 rfl) rfl
theorem qs3 : (Cond.selects "GrassField$Reader" ⟨"GrassField$Reader", "begins", "(IZ)V"⟩ ⟨"GrassField$Reader", "begins", "(IZ)V"⟩) ∈ lw_all := lw_g (lw_at lw_ms 3 rfl) rfl
theorem qs4 : (Cond.selects "GrassField$Reader" ⟨"GrassField$Reader", "sign", "()I"⟩ ⟨"GrassField$Reader", "sign", "()I"⟩) ∈ lw_all := lw_g (lw_at lw_ms 4 rfl) rfl
theorem qs5 : (Cond.selects "GrassField$Reader" ⟨"GrassField$Reader", "fail", "(I)V"⟩ ⟨"GrassField$Reader", "fail", "(I)V"⟩) ∈ lw_all := lw_g (lw_at lw_ms 5 rfl) rfl
theorem qs6 : (Cond.selects "GrassField$Reader" ⟨"GrassField$Reader", "line", "()LGrassField$Line;"⟩ ⟨"GrassField$Reader", "line", "()LGrassField$Line;"⟩) ∈ lw_all := lw_g (lw_at lw_ms 6 rfl) rfl
theorem qs7 : (Cond.selects "GrassField$Reader" ⟨"GrassField$Reader", "takes", "(Ljava/lang/String;)Z"⟩ ⟨"GrassField$Reader", "takes", "(Ljava/lang/String;)Z"⟩) ∈ lw_all := lw_g (lw_at lw_ms 7 rfl) rfl
theorem qs8 : (Cond.selects "GrassField$Reader" ⟨"GrassField$Reader", "row", "(Z)LGrassField$Cond;"⟩ ⟨"GrassField$Reader", "row", "(Z)LGrassField$Cond;"⟩) ∈ lw_all := lw_g (lw_at lw_ms 8 rfl) rfl
theorem qs9 : (Cond.selects "GrassField$Reader" ⟨"GrassField$Reader", "atom", "()LGrassField$Cond;"⟩ ⟨"GrassField$Reader", "atom", "()LGrassField$Cond;"⟩) ∈ lw_all := lw_g (lw_at lw_ms 9 rfl) rfl
theorem qs10 : (Cond.selects "GrassField$Reader" ⟨"GrassField$Reader", "tag", "()LGrassField$Cond;"⟩ ⟨"GrassField$Reader", "tag", "()LGrassField$Cond;"⟩) ∈ lw_all := lw_g (lw_at lw_ms 10 rfl) rfl
theorem qs11 : (Cond.selects "GrassField$Reader" ⟨"GrassField$Reader", "number", "()I"⟩ ⟨"GrassField$Reader", "number", "()I"⟩) ∈ lw_all := lw_g (lw_at lw_ms 11 rfl) rfl
theorem qs12 : (Cond.selects "GrassField$Reader" ⟨"GrassField$Reader", "sum", "()LGrassField$Sum;"⟩ ⟨"GrassField$Reader", "sum", "()LGrassField$Sum;"⟩) ∈ lw_all := lw_g (lw_at lw_ms 12 rfl) rfl
theorem qs13 : (Cond.selects "GrassField$Reader" ⟨"GrassField$Reader", "part", "(LGrassField$Sum;)V"⟩ ⟨"GrassField$Reader", "part", "(LGrassField$Sum;)V"⟩) ∈ lw_all := lw_g (lw_at lw_ms 13 rfl) rfl
theorem qs14 : (Cond.selects "GrassField$Reader" ⟨"GrassField$Reader", "fact", "()I"⟩ ⟨"GrassField$Reader", "fact", "()I"⟩) ∈ lw_all := lw_g (lw_at lw_ms 14 rfl) rfl
theorem qs15 : (Cond.selects "GrassField" ⟨"GrassField", "isGun", "(I)V"⟩ ⟨"GrassField", "isGun", "(I)V"⟩) ∈ lw_all := lw_g (lw_at lw_ms 15 rfl) rfl
theorem qs16 : (Cond.selects "GrassField$House" ⟨"GrassField$House", "isFoe", "(LGrassField$Person;LGrassField$Person;)Z"⟩ ⟨"GrassField$House", "isFoe", "(LGrassField$Person;LGrassField$Person;)Z"⟩) ∈ lw_all := lw_g (lw_at lw_ms 16 rfl) rfl
theorem qs17 : (Cond.selects "GrassField$House" ⟨"GrassField$House", "isFriend", "(LGrassField$Person;LGrassField$Person;)Z"⟩ ⟨"GrassField$House", "isFriend", "(LGrassField$Person;LGrassField$Person;)Z"⟩) ∈ lw_all := lw_g (lw_at lw_ms 17 rfl) rfl
theorem qs18 : (Cond.selects "GrassField$House" ⟨"GrassField$House", "turn", "(LGrassField$Person;)V"⟩ ⟨"GrassField$House", "turn", "(LGrassField$Person;)V"⟩) ∈ lw_all := lw_g (lw_at lw_ms 18 rfl) rfl
theorem qs19 : (Cond.selects "GrassField$House" ⟨"GrassField$House", "comes", "(LGrassField$Find;)V"⟩ ⟨"GrassField$House", "comes", "(LGrassField$Find;)V"⟩) ∈ lw_all := lw_g (lw_at lw_ms 19 rfl) rfl
theorem qs20 : (Cond.selects "GrassField$House" ⟨"GrassField$House", "numberOf", "(LGrassField$Person;)I"⟩ ⟨"GrassField$House", "numberOf", "(LGrassField$Person;)I"⟩) ∈ lw_all := lw_g (lw_at lw_ms 20 rfl) rfl
theorem qs21 : (Cond.selects "GrassField" ⟨"GrassField", "comes", "(LGrassField$Find;)I"⟩ ⟨"GrassField", "comes", "(LGrassField$Find;)I"⟩) ∈ lw_all := lw_g (lw_at lw_ms 21 rfl) rfl
theorem qs22 : (Cond.selects "GrassField" ⟨"GrassField", "findAt", "(I)LGrassField$Find;"⟩ ⟨"GrassField", "findAt", "(I)LGrassField$Find;"⟩) ∈ lw_all := lw_g (lw_at lw_ms 22 rfl) rfl
theorem qs23 : (Cond.selects "GrassField$Track" ⟨"GrassField$Track", "at", "(I)LGrassField$Case;"⟩ ⟨"GrassField$Track", "at", "(I)LGrassField$Case;"⟩) ∈ lw_all := lw_g (lw_at lw_ms 23 rfl) rfl
theorem qs24 : (Cond.selects "GrassField$Track" ⟨"GrassField$Track", "minutes", "(II)I"⟩ ⟨"GrassField$Track", "minutes", "(II)I"⟩) ∈ lw_all := lw_g (lw_at lw_ms 24 rfl) rfl
theorem qs25 : (Cond.selects "GrassField" ⟨"GrassField", "gathers", "(II)V"⟩ ⟨"GrassField", "gathers", "(II)V"⟩) ∈ lw_all := lw_g (lw_at lw_ms 25 rfl) rfl
theorem qs26 : (Cond.selects "GrassField" ⟨"GrassField", "longest", "(I)I"⟩ ⟨"GrassField", "longest", "(I)I"⟩) ∈ lw_all := lw_g (lw_at lw_ms 26 rfl) rfl
theorem qs27 : (Cond.selects "GrassField" ⟨"GrassField", "step", "(I)I"⟩ ⟨"GrassField", "step", "(I)I"⟩) ∈ lw_all := lw_g (lw_at lw_ms 27 rfl) rfl
theorem qs28 : (Cond.selects "GrassField" ⟨"GrassField", "heapsOf", "(I)I"⟩ ⟨"GrassField", "heapsOf", "(I)I"⟩) ∈ lw_all := lw_g (lw_at lw_ms 28 rfl) rfl
theorem qs29 : (Cond.selects "GrassField" ⟨"GrassField", "isTeller", "(I)V"⟩ ⟨"GrassField", "isTeller", "(I)V"⟩) ∈ lw_all := lw_g (lw_at lw_ms 29 rfl) rfl
theorem qs30 : (Cond.selects "GrassField" ⟨"GrassField", "rows", "(IIII)Z"⟩ ⟨"GrassField", "rows", "(IIII)Z"⟩) ∈ lw_all := lw_g (lw_at lw_ms 30 rfl) rfl
theorem qs31 : (Cond.selects "GrassField" ⟨"GrassField", "gunsIn", "(IIZ)I"⟩ ⟨"GrassField", "gunsIn", "(IIZ)I"⟩) ∈ lw_all := lw_g (lw_at lw_ms 31 rfl) rfl
theorem qs32 : (Cond.selects "GrassField" ⟨"GrassField", "isStory", "(I)V"⟩ ⟨"GrassField", "isStory", "(I)V"⟩) ∈ lw_all := lw_g (lw_at lw_ms 32 rfl) rfl
theorem qs33 : (Cond.selects "GrassField" ⟨"GrassField", "stands", "()V"⟩ ⟨"GrassField", "stands", "()V"⟩) ∈ lw_all := lw_g (lw_at lw_ms 33 rfl) rfl
theorem qs34 : (Cond.selects "GrassFieldModel" ⟨"GrassFieldModel", "throwsIf", "(ZI)Z"⟩ ⟨"GrassFieldModel", "throwsIf", "(ZI)Z"⟩) ∈ lw_all := lw_g (lw_at lw_ms 34 rfl) rfl
theorem qs35 : (Cond.selects "GrassFieldModel" ⟨"GrassFieldModel", "isSeenFrom", "(II)Z"⟩ ⟨"GrassFieldModel", "isSeenFrom", "(II)Z"⟩) ∈ lw_all := lw_g (lw_at lw_ms 35 rfl) rfl
theorem qs36 : (Cond.selects "GrassFieldModel" ⟨"GrassFieldModel", "reads", "(Z)Z"⟩ ⟨"GrassFieldModel", "reads", "(Z)Z"⟩) ∈ lw_all := lw_g (lw_at lw_ms 36 rfl) rfl
theorem qs37 : (Cond.selects "GrassFieldModel" ⟨"GrassFieldModel", "uses", "()V"⟩ ⟨"GrassFieldModel", "uses", "()V"⟩) ∈ lw_all := lw_g (lw_at lw_ms 37 rfl) rfl
theorem qs38 : (Cond.selects "GrassFieldModel" ⟨"GrassFieldModel", "readOne", "()I"⟩ ⟨"GrassFieldModel", "readOne", "()I"⟩) ∈ lw_all := lw_g (lw_at lw_ms 38 rfl) rfl
theorem qs39 : (Cond.selects "GrassFieldModel" ⟨"GrassFieldModel", "readCond", "()Z"⟩ ⟨"GrassFieldModel", "readCond", "()Z"⟩) ∈ lw_all := lw_g (lw_at lw_ms 39 rfl) rfl
theorem qs40 : (Cond.selects "GrassFieldModel" ⟨"GrassFieldModel", "readAllOf", "()Z"⟩ ⟨"GrassFieldModel", "readAllOf", "()Z"⟩) ∈ lw_all := lw_g (lw_at lw_ms 40 rfl) rfl
theorem qs41 : (Cond.selects "GrassFieldModel" ⟨"GrassFieldModel", "readAtom", "()Z"⟩ ⟨"GrassFieldModel", "readAtom", "()Z"⟩) ∈ lw_all := lw_g (lw_at lw_ms 41 rfl) rfl
theorem qs42 : (Cond.selects "GrassFieldModel" ⟨"GrassFieldModel", "sign", "(I)Z"⟩ ⟨"GrassFieldModel", "sign", "(I)Z"⟩) ∈ lw_all := lw_g (lw_at lw_ms 42 rfl) rfl
theorem qs43 : (Cond.selects "GrassFieldModel" ⟨"GrassFieldModel", "blanks", "()V"⟩ ⟨"GrassFieldModel", "blanks", "()V"⟩) ∈ lw_all := lw_g (lw_at lw_ms 43 rfl) rfl
theorem qs44 : (Cond.selects "GrassFieldModel" ⟨"GrassFieldModel", "isAt", "(II)Z"⟩ ⟨"GrassFieldModel", "isAt", "(II)Z"⟩) ∈ lw_all := lw_g (lw_at lw_ms 44 rfl) rfl
theorem qs45 : (Cond.selects "GrassFieldModel" ⟨"GrassFieldModel", "passes", "(Ljava/lang/String;)Z"⟩ ⟨"GrassFieldModel", "passes", "(Ljava/lang/String;)Z"⟩) ∈ lw_all := lw_g (lw_at lw_ms 45 rfl) rfl
theorem qs46 : (Cond.selects "GrassFieldModel" ⟨"GrassFieldModel", "letters", "()V"⟩ ⟨"GrassFieldModel", "letters", "()V"⟩) ∈ lw_all := lw_g (lw_at lw_ms 46 rfl) rfl
theorem qs47 : (Cond.selects "GrassFieldModel" ⟨"GrassFieldModel", "isWord", "(Ljava/lang/String;)Z"⟩ ⟨"GrassFieldModel", "isWord", "(Ljava/lang/String;)Z"⟩) ∈ lw_all := lw_g (lw_at lw_ms 47 rfl) rfl
theorem qs48 : (Cond.selects "GrassFieldModel" ⟨"GrassFieldModel", "emits", "(II)V"⟩ ⟨"GrassFieldModel", "emits", "(II)V"⟩) ∈ lw_all := lw_g (lw_at lw_ms 48 rfl) rfl
theorem qs49 : (Cond.selects "GrassFieldModel" ⟨"GrassFieldModel", "readTag", "()Z"⟩ ⟨"GrassFieldModel", "readTag", "()Z"⟩) ∈ lw_all := lw_g (lw_at lw_ms 49 rfl) rfl
theorem qs50 : (Cond.selects "GrassFieldModel" ⟨"GrassFieldModel", "number", "()I"⟩ ⟨"GrassFieldModel", "number", "()I"⟩) ∈ lw_all := lw_g (lw_at lw_ms 50 rfl) rfl
theorem qs51 : (Cond.selects "GrassFieldModel" ⟨"GrassFieldModel", "readSum", "()Z"⟩ ⟨"GrassFieldModel", "readSum", "()Z"⟩) ∈ lw_all := lw_g (lw_at lw_ms 51 rfl) rfl
theorem qs52 : (Cond.selects "GrassFieldModel" ⟨"GrassFieldModel", "readPart", "()Z"⟩ ⟨"GrassFieldModel", "readPart", "()Z"⟩) ∈ lw_all := lw_g (lw_at lw_ms 52 rfl) rfl
theorem qs53 : (Cond.selects "GrassFieldModel" ⟨"GrassFieldModel", "readFact", "()Z"⟩ ⟨"GrassFieldModel", "readFact", "()Z"⟩) ∈ lw_all := lw_g (lw_at lw_ms 53 rfl) rfl
theorem qs54 : (Cond.selects "GrassFieldModel" ⟨"GrassFieldModel", "factAt", "()I"⟩ ⟨"GrassFieldModel", "factAt", "()I"⟩) ∈ lw_all := lw_g (lw_at lw_ms 54 rfl) rfl
theorem qs55 : (Cond.selects "GrassFieldModel" ⟨"GrassFieldModel", "emitsIf", "(II)Z"⟩ ⟨"GrassFieldModel", "emitsIf", "(II)Z"⟩) ∈ lw_all := lw_g (lw_at lw_ms 55 rfl) rfl
theorem qs56 : (Cond.selects "GrassFieldModel" ⟨"GrassFieldModel", "readAll", "()I"⟩ ⟨"GrassFieldModel", "readAll", "()I"⟩) ∈ lw_all := lw_g (lw_at lw_ms 56 rfl) rfl
theorem qs57 : (Cond.selects "GrassFieldModel" ⟨"GrassFieldModel", "readLine", "(I)Z"⟩ ⟨"GrassFieldModel", "readLine", "(I)Z"⟩) ∈ lw_all := lw_g (lw_at lw_ms 57 rfl) rfl
theorem qs58 : (Cond.selects "GrassFieldModel" ⟨"GrassFieldModel", "keeps", "(I)V"⟩ ⟨"GrassFieldModel", "keeps", "(I)V"⟩) ∈ lw_all := lw_g (lw_at lw_ms 58 rfl) rfl
theorem qs59 : (Cond.selects "GrassFieldModel" ⟨"GrassFieldModel", "none", "(II)Z"⟩ ⟨"GrassFieldModel", "none", "(II)Z"⟩) ∈ lw_all := lw_g (lw_at lw_ms 59 rfl) rfl
theorem qs60 : (Cond.selects "GrassFieldModel" ⟨"GrassFieldModel", "of", "(II)I"⟩ ⟨"GrassFieldModel", "of", "(II)I"⟩) ∈ lw_all := lw_g (lw_at lw_ms 60 rfl) rfl
theorem qs61 : (Cond.selects "GrassFieldModel" ⟨"GrassFieldModel", "sets", "(III)V"⟩ ⟨"GrassFieldModel", "sets", "(III)V"⟩) ∈ lw_all := lw_g (lw_at lw_ms 61 rfl) rfl
theorem qs62 : (Cond.selects "GrassFieldModel" ⟨"GrassFieldModel", "near", "(IZI)I"⟩ ⟨"GrassFieldModel", "near", "(IZI)I"⟩) ∈ lw_all := lw_g (lw_at lw_ms 62 rfl) rfl
theorem qs63 : (Cond.selects "GrassFieldModel" ⟨"GrassFieldModel", "isFoe", "(II)Z"⟩ ⟨"GrassFieldModel", "isFoe", "(II)Z"⟩) ∈ lw_all := lw_g (lw_at lw_ms 63 rfl) rfl
theorem qs64 : (Cond.selects "GrassFieldModel" ⟨"GrassFieldModel", "isFriend", "(II)Z"⟩ ⟨"GrassFieldModel", "isFriend", "(II)Z"⟩) ∈ lw_all := lw_g (lw_at lw_ms 64 rfl) rfl
theorem qs65 : (Cond.selects "GrassFieldModel" ⟨"GrassFieldModel", "acts", "(I)V"⟩ ⟨"GrassFieldModel", "acts", "(I)V"⟩) ∈ lw_all := lw_g (lw_at lw_ms 65 rfl) rfl
theorem qs66 : (Cond.selects "GrassFieldModel" ⟨"GrassFieldModel", "sortOf", "(I)I"⟩ ⟨"GrassFieldModel", "sortOf", "(I)I"⟩) ∈ lw_all := lw_g (lw_at lw_ms 66 rfl) rfl
theorem qs67 : (Cond.selects "GrassFieldModel" ⟨"GrassFieldModel", "roundsOf", "(I)I"⟩ ⟨"GrassFieldModel", "roundsOf", "(I)I"⟩) ∈ lw_all := lw_g (lw_at lw_ms 67 rfl) rfl
theorem qs68 : (Cond.selects "GrassFieldModel" ⟨"GrassFieldModel", "nearestTo", "(IZI)I"⟩ ⟨"GrassFieldModel", "nearestTo", "(IZI)I"⟩) ∈ lw_all := lw_g (lw_at lw_ms 68 rfl) rfl
theorem qs69 : (Cond.selects "GrassFieldModel" ⟨"GrassFieldModel", "holdsLine", "(II)Z"⟩ ⟨"GrassFieldModel", "holdsLine", "(II)Z"⟩) ∈ lw_all := lw_g (lw_at lw_ms 69 rfl) rfl
theorem qs70 : (Cond.selects "GrassFieldModel" ⟨"GrassFieldModel", "shoots", "(I)V"⟩ ⟨"GrassFieldModel", "shoots", "(I)V"⟩) ∈ lw_all := lw_g (lw_at lw_ms 70 rfl) rfl
theorem qs71 : (Cond.selects "GrassFieldModel" ⟨"GrassFieldModel", "holdsStill", "(I)V"⟩ ⟨"GrassFieldModel", "holdsStill", "(I)V"⟩) ∈ lw_all := lw_g (lw_at lw_ms 71 rfl) rfl
theorem qs72 : (Cond.selects "GrassFieldModel" ⟨"GrassFieldModel", "leaves", "(IIII)V"⟩ ⟨"GrassFieldModel", "leaves", "(IIII)V"⟩) ∈ lw_all := lw_g (lw_at lw_ms 72 rfl) rfl
theorem qs73 : (Cond.selects "GrassFieldModel" ⟨"GrassFieldModel", "moves", "(IZ)V"⟩ ⟨"GrassFieldModel", "moves", "(IZ)V"⟩) ∈ lw_all := lw_g (lw_at lw_ms 73 rfl) rfl
theorem qs74 : (Cond.selects "GrassFieldModel" ⟨"GrassFieldModel", "finds", "()I"⟩ ⟨"GrassFieldModel", "finds", "()I"⟩) ∈ lw_all := lw_g (lw_at lw_ms 74 rfl) rfl
theorem qs75 : (Cond.selects "GrassFieldModel" ⟨"GrassFieldModel", "ofFind", "(II)I"⟩ ⟨"GrassFieldModel", "ofFind", "(II)I"⟩) ∈ lw_all := lw_g (lw_at lw_ms 75 rfl) rfl
theorem qs76 : (Cond.selects "GrassFieldModel" ⟨"GrassFieldModel", "isSeen", "(I)Z"⟩ ⟨"GrassFieldModel", "isSeen", "(I)Z"⟩) ∈ lw_all := lw_g (lw_at lw_ms 76 rfl) rfl
theorem qs77 : (Cond.selects "GrassFieldModel" ⟨"GrassFieldModel", "isCovered", "(I)Z"⟩ ⟨"GrassFieldModel", "isCovered", "(I)Z"⟩) ∈ lw_all := lw_g (lw_at lw_ms 77 rfl) rfl
theorem qs78 : (Cond.selects "GrassFieldModel" ⟨"GrassFieldModel", "mayBe", "(I)I"⟩ ⟨"GrassFieldModel", "mayBe", "(I)I"⟩) ∈ lw_all := lw_g (lw_at lw_ms 78 rfl) rfl
theorem qs79 : (Cond.selects "GrassFieldModel" ⟨"GrassFieldModel", "isKind", "(II)Z"⟩ ⟨"GrassFieldModel", "isKind", "(II)Z"⟩) ∈ lw_all := lw_g (lw_at lw_ms 79 rfl) rfl
theorem qs80 : (Cond.selects "GrassFieldModel" ⟨"GrassFieldModel", "seenMany", "()I"⟩ ⟨"GrassFieldModel", "seenMany", "()I"⟩) ∈ lw_all := lw_g (lw_at lw_ms 80 rfl) rfl
theorem qs81 : (Cond.selects "GrassFieldModel" ⟨"GrassFieldModel", "neededIn", "(II)I"⟩ ⟨"GrassFieldModel", "neededIn", "(II)I"⟩) ∈ lw_all := lw_g (lw_at lw_ms 81 rfl) rfl
theorem qs82 : (Cond.selects "GrassFieldModel" ⟨"GrassFieldModel", "isSeenCase", "(I)Z"⟩ ⟨"GrassFieldModel", "isSeenCase", "(I)Z"⟩) ∈ lw_all := lw_g (lw_at lw_ms 82 rfl) rfl
theorem qs83 : (Cond.selects "GrassFieldModel" ⟨"GrassFieldModel", "isModern", "(I)Z"⟩ ⟨"GrassFieldModel", "isModern", "(I)Z"⟩) ∈ lw_all := lw_g (lw_at lw_ms 83 rfl) rfl
theorem qs84 : (Cond.selects "GrassFieldModel" ⟨"GrassFieldModel", "gathers", "(I)V"⟩ ⟨"GrassFieldModel", "gathers", "(I)V"⟩) ∈ lw_all := lw_g (lw_at lw_ms 84 rfl) rfl
theorem qs85 : (Cond.selects "GrassFieldModel" ⟨"GrassFieldModel", "sureOf", "(I)I"⟩ ⟨"GrassFieldModel", "sureOf", "(I)I"⟩) ∈ lw_all := lw_g (lw_at lw_ms 85 rfl) rfl
theorem qs86 : (Cond.selects "GrassFieldModel" ⟨"GrassFieldModel", "leads", "(I)V"⟩ ⟨"GrassFieldModel", "leads", "(I)V"⟩) ∈ lw_all := lw_g (lw_at lw_ms 86 rfl) rfl
theorem qs87 : (Cond.selects "GrassFieldModel" ⟨"GrassFieldModel", "goes", "(II)I"⟩ ⟨"GrassFieldModel", "goes", "(II)I"⟩) ∈ lw_all := lw_g (lw_at lw_ms 87 rfl) rfl
theorem qs88 : (Cond.selects "GrassFieldModel" ⟨"GrassFieldModel", "handsOf", "()I"⟩ ⟨"GrassFieldModel", "handsOf", "()I"⟩) ∈ lw_all := lw_g (lw_at lw_ms 88 rfl) rfl
theorem qs89 : (Cond.selects "GrassFieldModel" ⟨"GrassFieldModel", "earliest", "(I)I"⟩ ⟨"GrassFieldModel", "earliest", "(I)I"⟩) ∈ lw_all := lw_g (lw_at lw_ms 89 rfl) rfl
theorem qs90 : (Cond.selects "GrassFieldModel" ⟨"GrassFieldModel", "longestHeld", "(III)I"⟩ ⟨"GrassFieldModel", "longestHeld", "(III)I"⟩) ∈ lw_all := lw_g (lw_at lw_ms 90 rfl) rfl
theorem qs91 : (Cond.selects "GrassFieldModel" ⟨"GrassFieldModel", "gathersRow", "(II)V"⟩ ⟨"GrassFieldModel", "gathersRow", "(II)V"⟩) ∈ lw_all := lw_g (lw_at lw_ms 91 rfl) rfl
theorem qs92 : (Cond.selects "GrassFieldModel" ⟨"GrassFieldModel", "heapsOf", "(IZ)I"⟩ ⟨"GrassFieldModel", "heapsOf", "(IZ)I"⟩) ∈ lw_all := lw_g (lw_at lw_ms 92 rfl) rfl
theorem qs93 : (Cond.selects "GrassFieldModel" ⟨"GrassFieldModel", "casesAt", "(I)I"⟩ ⟨"GrassFieldModel", "casesAt", "(I)I"⟩) ∈ lw_all := lw_g (lw_at lw_ms 93 rfl) rfl
theorem qs94 : (Cond.selects "GrassFieldModel" ⟨"GrassFieldModel", "fitsAll", "(I)Z"⟩ ⟨"GrassFieldModel", "fitsAll", "(I)Z"⟩) ∈ lw_all := lw_g (lw_at lw_ms 94 rfl) rfl
theorem qs95 : (Cond.selects "GrassFieldModel" ⟨"GrassFieldModel", "ofTelling", "(II)I"⟩ ⟨"GrassFieldModel", "ofTelling", "(II)I"⟩) ∈ lw_all := lw_g (lw_at lw_ms 95 rfl) rfl
theorem qs96 : (Cond.selects "GrassFieldModel" ⟨"GrassFieldModel", "couldBe", "(I)Z"⟩ ⟨"GrassFieldModel", "couldBe", "(I)Z"⟩) ∈ lw_all := lw_g (lw_at lw_ms 96 rfl) rfl
theorem qs97 : (Cond.selects "GrassFieldModel" ⟨"GrassFieldModel", "ofTeller", "(II)I"⟩ ⟨"GrassFieldModel", "ofTeller", "(II)I"⟩) ∈ lw_all := lw_g (lw_at lw_ms 97 rfl) rfl
theorem qs98 : (Cond.selects "GrassFieldModel" ⟨"GrassFieldModel", "mayHaveTalked", "(II)Z"⟩ ⟨"GrassFieldModel", "mayHaveTalked", "(II)Z"⟩) ∈ lw_all := lw_g (lw_at lw_ms 98 rfl) rfl
theorem qs99 : (Cond.selects "GrassFieldModel" ⟨"GrassFieldModel", "canAll", "(II)Z"⟩ ⟨"GrassFieldModel", "canAll", "(II)Z"⟩) ∈ lw_all := lw_g (lw_at lw_ms 99 rfl) rfl
theorem qs100 : (Cond.selects "GrassFieldModel" ⟨"GrassFieldModel", "gunsIn", "(IIZ)I"⟩ ⟨"GrassFieldModel", "gunsIn", "(IIZ)I"⟩) ∈ lw_all := lw_g (lw_at lw_ms 100 rfl) rfl
theorem qs101 : (Cond.selects "GrassFieldModel" ⟨"GrassFieldModel", "asks", "()V"⟩ ⟨"GrassFieldModel", "asks", "()V"⟩) ∈ lw_all := lw_g (lw_at lw_ms 101 rfl) rfl
