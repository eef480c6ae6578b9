-- ===== PART A: goes FIRST, ahead of the names: the tables' words, and 'selects' of the private methods out of them =====
/-- a private method of a class that the tables say can be made, by its rows of tables_1 -/
def lw_okq (q : MethodName × Nat) : Prop := (q.1.cls ≠ "java/lang/invoke/MethodHandle" ∧ q.1.cls ≠ "java/lang/invoke/VarHandle") ∧ Cond.instantiable q.1.cls q.2 ∈ tables_1 ∧ Cond.privateMethod q.1 ∈ tables_1 ∧ Cond.instanceMethod q.1 ∈ tables_1
set_option maxRecDepth 100000
theorem lw_t1 {w : Cond} (h : w ∈ tables_1_1) : w ∈ tables_1 := List.mem_append_left _ h
theorem lw_t2 {w : Cond} (h : w ∈ tables_1_2) : w ∈ tables_1 := List.mem_append_right _ (List.mem_append_left _ h)
theorem lw_t3 {w : Cond} (h : w ∈ tables_1_3) : w ∈ tables_1 := List.mem_append_right _ (List.mem_append_right _ (List.mem_append_left _ h))
theorem lw_t4 {w : Cond} (h : w ∈ tables_1_4) : w ∈ tables_1 := List.mem_append_right _ (List.mem_append_right _ (List.mem_append_right _ (List.mem_append_left _ h)))
theorem lw_t5 {w : Cond} (h : w ∈ tables_1_5) : w ∈ tables_1 := List.mem_append_right _ (List.mem_append_right _ (List.mem_append_right _ (List.mem_append_right _ (List.mem_append_left _ h))))
theorem lw_t6 {w : Cond} (h : w ∈ tables_1_6) : w ∈ tables_1 := List.mem_append_right _ (List.mem_append_right _ (List.mem_append_right _ (List.mem_append_right _ (List.mem_append_right _ (List.mem_append_left _ h)))))
theorem lw_t7 {w : Cond} (h : w ∈ tables_1_7) : w ∈ tables_1 := List.mem_append_right _ (List.mem_append_right _ (List.mem_append_right _ (List.mem_append_right _ (List.mem_append_right _ (List.mem_append_right _ (List.mem_append_left _ h))))))
theorem lw_t8 {w : Cond} (h : w ∈ tables_1_8) : w ∈ tables_1 := List.mem_append_right _ (List.mem_append_right _ (List.mem_append_right _ (List.mem_append_right _ (List.mem_append_right _ (List.mem_append_right _ (List.mem_append_right _ (List.mem_append_left _ h)))))))
theorem lw_t9 {w : Cond} (h : w ∈ tables_1_9) : w ∈ tables_1 := List.mem_append_right _ (List.mem_append_right _ (List.mem_append_right _ (List.mem_append_right _ (List.mem_append_right _ (List.mem_append_right _ (List.mem_append_right _ (List.mem_append_right _ (List.mem_append_left _ h))))))))
theorem lw_t10 {w : Cond} (h : w ∈ tables_1_10) : w ∈ tables_1 := List.mem_append_right _ (List.mem_append_right _ (List.mem_append_right _ (List.mem_append_right _ (List.mem_append_right _ (List.mem_append_right _ (List.mem_append_right _ (List.mem_append_right _ (List.mem_append_right _ (List.mem_append_left _ h)))))))))
theorem lw_t11 {w : Cond} (h : w ∈ tables_1_11) : w ∈ tables_1 := List.mem_append_right _ (List.mem_append_right _ (List.mem_append_right _ (List.mem_append_right _ (List.mem_append_right _ (List.mem_append_right _ (List.mem_append_right _ (List.mem_append_right _ (List.mem_append_right _ (List.mem_append_right _ (List.mem_append_left _ h))))))))))
theorem lw_t12 {w : Cond} (h : w ∈ tables_1_12) : w ∈ tables_1 := List.mem_append_right _ (List.mem_append_right _ (List.mem_append_right _ (List.mem_append_right _ (List.mem_append_right _ (List.mem_append_right _ (List.mem_append_right _ (List.mem_append_right _ (List.mem_append_right _ (List.mem_append_right _ (List.mem_append_right _ (List.mem_append_left _ h)))))))))))
theorem lw_t13 {w : Cond} (h : w ∈ tables_1_13) : w ∈ tables_1 := List.mem_append_right _ (List.mem_append_right _ (List.mem_append_right _ (List.mem_append_right _ (List.mem_append_right _ (List.mem_append_right _ (List.mem_append_right _ (List.mem_append_right _ (List.mem_append_right _ (List.mem_append_right _ (List.mem_append_right _ (List.mem_append_right _ h)))))))))))
theorem lw_p0 : lw_okq (⟨"java/util/ArrayList", "add", "(Ljava/lang/Object;[Ljava/lang/Object;I)V"⟩, 3) := ⟨⟨by decide +kernel, by decide +kernel⟩, lw_t1 (List.mem_of_getElem? (i := 71) rfl), lw_t1 (List.mem_of_getElem? (i := 159) rfl), lw_t1 (List.mem_of_getElem? (i := 160) rfl)⟩
theorem lw_p1 : lw_okq (⟨"java/util/ArrayList", "grow", "()[Ljava/lang/Object;"⟩, 3) := ⟨⟨by decide +kernel, by decide +kernel⟩, lw_t1 (List.mem_of_getElem? (i := 71) rfl), lw_t1 (List.mem_of_getElem? (i := 163) rfl), lw_t1 (List.mem_of_getElem? (i := 164) rfl)⟩
theorem lw_p2 : lw_okq (⟨"java/util/ArrayList", "grow", "(I)[Ljava/lang/Object;"⟩, 3) := ⟨⟨by decide +kernel, by decide +kernel⟩, lw_t1 (List.mem_of_getElem? (i := 71) rfl), lw_t1 (List.mem_of_getElem? (i := 167) rfl), lw_t1 (List.mem_of_getElem? (i := 168) rfl)⟩
theorem lw_p3 : lw_okq (⟨"java/lang/Throwable", "fillInStackTrace", "(I)Ljava/lang/Throwable;"⟩, 6) := ⟨⟨by decide +kernel, by decide +kernel⟩, lw_t2 (List.mem_of_getElem? (i := 169) rfl), lw_t2 (List.mem_of_getElem? (i := 167) rfl), lw_t2 (List.mem_of_getElem? (i := 168) rfl)⟩
theorem lw_p4 : lw_okq (⟨"java/util/LinkedList", "checkElementIndex", "(I)V"⟩, 4) := ⟨⟨by decide +kernel, by decide +kernel⟩, lw_t2 (List.mem_of_getElem? (i := 28) rfl), lw_t3 (List.mem_of_getElem? (i := 58) rfl), lw_t3 (List.mem_of_getElem? (i := 59) rfl)⟩
theorem lw_p5 : lw_okq (⟨"java/util/LinkedList", "isElementIndex", "(I)Z"⟩, 4) := ⟨⟨by decide +kernel, by decide +kernel⟩, lw_t2 (List.mem_of_getElem? (i := 28) rfl), lw_t3 (List.mem_of_getElem? (i := 62) rfl), lw_t3 (List.mem_of_getElem? (i := 63) rfl)⟩
theorem lw_p6 : lw_okq (⟨"java/util/LinkedList", "outOfBoundsMsg", "(I)Ljava/lang/String;"⟩, 4) := ⟨⟨by decide +kernel, by decide +kernel⟩, lw_t2 (List.mem_of_getElem? (i := 28) rfl), lw_t3 (List.mem_of_getElem? (i := 67) rfl), lw_t3 (List.mem_of_getElem? (i := 68) rfl)⟩
theorem lw_p7 : lw_okq (⟨"WhelkFleet", "changed", "(Ljava/lang/String;III)I"⟩, 7) := ⟨⟨by decide +kernel, by decide +kernel⟩, lw_t1 (List.mem_of_getElem? (i := 54) rfl), lw_t4 (List.mem_of_getElem? (i := 50) rfl), lw_t4 (List.mem_of_getElem? (i := 51) rfl)⟩
theorem lw_p8 : lw_okq (⟨"java/util/ArrayList", "rangeCheckForAdd", "(I)V"⟩, 3) := ⟨⟨by decide +kernel, by decide +kernel⟩, lw_t1 (List.mem_of_getElem? (i := 71) rfl), lw_t4 (List.mem_of_getElem? (i := 106) rfl), lw_t4 (List.mem_of_getElem? (i := 107) rfl)⟩
theorem lw_p9 : lw_okq (⟨"java/util/ArrayList", "outOfBoundsMsg", "(I)Ljava/lang/String;"⟩, 3) := ⟨⟨by decide +kernel, by decide +kernel⟩, lw_t1 (List.mem_of_getElem? (i := 71) rfl), lw_t4 (List.mem_of_getElem? (i := 111) rfl), lw_t4 (List.mem_of_getElem? (i := 112) rfl)⟩
theorem lw_p10 : lw_okq (⟨"java/util/LinkedList", "checkPositionIndex", "(I)V"⟩, 4) := ⟨⟨by decide +kernel, by decide +kernel⟩, lw_t2 (List.mem_of_getElem? (i := 28) rfl), lw_t4 (List.mem_of_getElem? (i := 140) rfl), lw_t4 (List.mem_of_getElem? (i := 141) rfl)⟩
theorem lw_p11 : lw_okq (⟨"java/util/LinkedList", "isPositionIndex", "(I)Z"⟩, 4) := ⟨⟨by decide +kernel, by decide +kernel⟩, lw_t2 (List.mem_of_getElem? (i := 28) rfl), lw_t4 (List.mem_of_getElem? (i := 144) rfl), lw_t4 (List.mem_of_getElem? (i := 145) rfl)⟩
theorem lw_p12 : lw_okq (⟨"WhelkFleet$Fleet", "checkOut", "(I)V"⟩, 11) := ⟨⟨by decide +kernel, by decide +kernel⟩, lw_t1 (List.mem_of_getElem? (i := 65) rfl), lw_t6 (List.mem_of_getElem? (i := 105) rfl), lw_t6 (List.mem_of_getElem? (i := 106) rfl)⟩
theorem lw_p13 : lw_okq (⟨"WhelkFleet$Fleet", "checkSameGround", "(ILWhelkFleet$Line;)V"⟩, 11) := ⟨⟨by decide +kernel, by decide +kernel⟩, lw_t1 (List.mem_of_getElem? (i := 65) rfl), lw_t6 (List.mem_of_getElem? (i := 147) rfl), lw_t6 (List.mem_of_getElem? (i := 148) rfl)⟩
theorem lw_p14 : lw_okq (⟨"WhelkFleet$Fleet", "draughtOf", "(LWhelkFleet$Line;)LWhelkFleet$Draught;"⟩, 11) := ⟨⟨by decide +kernel, by decide +kernel⟩, lw_t1 (List.mem_of_getElem? (i := 65) rfl), lw_t7 (List.mem_of_getElem? (i := 28) rfl), lw_t7 (List.mem_of_getElem? (i := 29) rfl)⟩
theorem lw_p15 : lw_okq (⟨"WhelkFleet$Fleet", "dayGoesBy", "()I"⟩, 11) := ⟨⟨by decide +kernel, by decide +kernel⟩, lw_t1 (List.mem_of_getElem? (i := 65) rfl), lw_t7 (List.mem_of_getElem? (i := 153) rfl), lw_t7 (List.mem_of_getElem? (i := 154) rfl)⟩
def lw_privs_1 : List (MethodName × Nat) := [(⟨"java/util/ArrayList", "add", "(Ljava/lang/Object;[Ljava/lang/Object;I)V"⟩, 3), (⟨"java/util/ArrayList", "grow", "()[Ljava/lang/Object;"⟩, 3), (⟨"java/util/ArrayList", "grow", "(I)[Ljava/lang/Object;"⟩, 3), (⟨"java/lang/Throwable", "fillInStackTrace", "(I)Ljava/lang/Throwable;"⟩, 6), (⟨"java/util/LinkedList", "checkElementIndex", "(I)V"⟩, 4), (⟨"java/util/LinkedList", "isElementIndex", "(I)Z"⟩, 4), (⟨"java/util/LinkedList", "outOfBoundsMsg", "(I)Ljava/lang/String;"⟩, 4), (⟨"WhelkFleet", "changed", "(Ljava/lang/String;III)I"⟩, 7), (⟨"java/util/ArrayList", "rangeCheckForAdd", "(I)V"⟩, 3), (⟨"java/util/ArrayList", "outOfBoundsMsg", "(I)Ljava/lang/String;"⟩, 3), (⟨"java/util/LinkedList", "checkPositionIndex", "(I)V"⟩, 4), (⟨"java/util/LinkedList", "isPositionIndex", "(I)Z"⟩, 4), (⟨"WhelkFleet$Fleet", "checkOut", "(I)V"⟩, 11), (⟨"WhelkFleet$Fleet", "checkSameGround", "(ILWhelkFleet$Line;)V"⟩, 11), (⟨"WhelkFleet$Fleet", "draughtOf", "(LWhelkFleet$Line;)LWhelkFleet$Draught;"⟩, 11), (⟨"WhelkFleet$Fleet", "dayGoesBy", "()I"⟩, 11)]
theorem lw_r1 : ∀ q ∈ lw_privs_1, lw_okq q := List.forall_mem_cons.mpr ⟨lw_p0, List.forall_mem_cons.mpr ⟨lw_p1, List.forall_mem_cons.mpr ⟨lw_p2, List.forall_mem_cons.mpr ⟨lw_p3, List.forall_mem_cons.mpr ⟨lw_p4, List.forall_mem_cons.mpr ⟨lw_p5, List.forall_mem_cons.mpr ⟨lw_p6, List.forall_mem_cons.mpr ⟨lw_p7, List.forall_mem_cons.mpr ⟨lw_p8, List.forall_mem_cons.mpr ⟨lw_p9, List.forall_mem_cons.mpr ⟨lw_p10, List.forall_mem_cons.mpr ⟨lw_p11, List.forall_mem_cons.mpr ⟨lw_p12, List.forall_mem_cons.mpr ⟨lw_p13, List.forall_mem_cons.mpr ⟨lw_p14, List.forall_mem_cons.mpr ⟨lw_p15, fun _ h => absurd h List.not_mem_nil⟩⟩⟩⟩⟩⟩⟩⟩⟩⟩⟩⟩⟩⟩⟩⟩
theorem lw_p16 : lw_okq (⟨"WhelkFleet$Deed", "doesMore", "(LWhelkFleet$Fleet;)I"⟩, 4) := ⟨⟨by decide +kernel, by decide +kernel⟩, lw_t5 (List.mem_of_getElem? (i := 166) rfl), lw_t7 (List.mem_of_getElem? (i := 173) rfl), lw_t7 (List.mem_of_getElem? (i := 174) rfl)⟩
theorem lw_p17 : lw_okq (⟨"WhelkFleet", "become", "(LWhelkFleet$Fleet;I)I"⟩, 7) := ⟨⟨by decide +kernel, by decide +kernel⟩, lw_t1 (List.mem_of_getElem? (i := 54) rfl), lw_t7 (List.mem_of_getElem? (i := 210) rfl), lw_t7 (List.mem_of_getElem? (i := 211) rfl)⟩
theorem lw_p18 : lw_okq (⟨"java/util/LinkedList", "unlinkFirst", "(Ljava/util/LinkedList$Node;)Ljava/lang/Object;"⟩, 4) := ⟨⟨by decide +kernel, by decide +kernel⟩, lw_t2 (List.mem_of_getElem? (i := 28) rfl), lw_t7 (List.mem_of_getElem? (i := 221) rfl), lw_t7 (List.mem_of_getElem? (i := 222) rfl)⟩
theorem lw_p19 : lw_okq (⟨"WhelkFleet", "outside", "(Ljava/lang/Exception;)Ljava/lang/RuntimeException;"⟩, 7) := ⟨⟨by decide +kernel, by decide +kernel⟩, lw_t1 (List.mem_of_getElem? (i := 54) rfl), lw_t7 (List.mem_of_getElem? (i := 229) rfl), lw_t7 (List.mem_of_getElem? (i := 230) rfl)⟩
theorem lw_p20 : lw_okq (⟨"WhelkFleet", "boatAt", "(I)LWhelkFleet$Boat;"⟩, 7) := ⟨⟨by decide +kernel, by decide +kernel⟩, lw_t1 (List.mem_of_getElem? (i := 54) rfl), lw_t8 (List.mem_of_getElem? (i := 75) rfl), lw_t8 (List.mem_of_getElem? (i := 76) rfl)⟩
theorem lw_p21 : lw_okq (⟨"WhelkFleet", "stringAt", "(I)LWhelkFleet$Line;"⟩, 7) := ⟨⟨by decide +kernel, by decide +kernel⟩, lw_t1 (List.mem_of_getElem? (i := 54) rfl), lw_t8 (List.mem_of_getElem? (i := 111) rfl), lw_t8 (List.mem_of_getElem? (i := 112) rfl)⟩
theorem lw_p22 : lw_okq (⟨"WhelkFleet", "carriedOut", "()I"⟩, 7) := ⟨⟨by decide +kernel, by decide +kernel⟩, lw_t1 (List.mem_of_getElem? (i := 54) rfl), lw_t9 (List.mem_of_getElem? (i := 103) rfl), lw_t9 (List.mem_of_getElem? (i := 104) rfl)⟩
theorem lw_p23 : lw_okq (⟨"WhelkFleet$Reader", "order", "()LWhelkFleet$Deed;"⟩, 2) := ⟨⟨by decide +kernel, by decide +kernel⟩, lw_t9 (List.mem_of_getElem? (i := 107) rfl), lw_t9 (List.mem_of_getElem? (i := 126) rfl), lw_t9 (List.mem_of_getElem? (i := 127) rfl)⟩
theorem lw_p24 : lw_okq (⟨"WhelkFleet$Reader", "word", "(Ljava/lang/String;)Ljava/lang/String;"⟩, 2) := ⟨⟨by decide +kernel, by decide +kernel⟩, lw_t9 (List.mem_of_getElem? (i := 107) rfl), lw_t9 (List.mem_of_getElem? (i := 131) rfl), lw_t9 (List.mem_of_getElem? (i := 132) rfl)⟩
theorem lw_p25 : lw_okq (⟨"WhelkFleet$Reader", "isLetter", "()Z"⟩, 2) := ⟨⟨by decide +kernel, by decide +kernel⟩, lw_t9 (List.mem_of_getElem? (i := 107) rfl), lw_t9 (List.mem_of_getElem? (i := 137) rfl), lw_t9 (List.mem_of_getElem? (i := 138) rfl)⟩
theorem lw_p26 : lw_okq (⟨"WhelkFleet$Reader", "here", "()C"⟩, 2) := ⟨⟨by decide +kernel, by decide +kernel⟩, lw_t9 (List.mem_of_getElem? (i := 107) rfl), lw_t9 (List.mem_of_getElem? (i := 141) rfl), lw_t9 (List.mem_of_getElem? (i := 142) rfl)⟩
theorem lw_p27 : lw_okq (⟨"WhelkFleet$Reader", "need", "(Z)V"⟩, 2) := ⟨⟨by decide +kernel, by decide +kernel⟩, lw_t9 (List.mem_of_getElem? (i := 107) rfl), lw_t9 (List.mem_of_getElem? (i := 234) rfl), lw_t9 (List.mem_of_getElem? (i := 235) rfl)⟩
theorem lw_p28 : lw_okq (⟨"WhelkFleet$Reader", "takeAll", "(Ljava/lang/String;)V"⟩, 2) := ⟨⟨by decide +kernel, by decide +kernel⟩, lw_t9 (List.mem_of_getElem? (i := 107) rfl), lw_t10 (List.mem_of_getElem? (i := 17) rfl), lw_t10 (List.mem_of_getElem? (i := 18) rfl)⟩
theorem lw_p29 : lw_okq (⟨"WhelkFleet$Reader", "digit", "()I"⟩, 2) := ⟨⟨by decide +kernel, by decide +kernel⟩, lw_t9 (List.mem_of_getElem? (i := 107) rfl), lw_t10 (List.mem_of_getElem? (i := 29) rfl), lw_t10 (List.mem_of_getElem? (i := 30) rfl)⟩
theorem lw_p30 : lw_okq (⟨"WhelkFleet$Reader", "isDigit", "()Z"⟩, 2) := ⟨⟨by decide +kernel, by decide +kernel⟩, lw_t9 (List.mem_of_getElem? (i := 107) rfl), lw_t10 (List.mem_of_getElem? (i := 33) rfl), lw_t10 (List.mem_of_getElem? (i := 34) rfl)⟩
theorem lw_p31 : lw_okq (⟨"WhelkFleet$Reader", "bait", "()I"⟩, 2) := ⟨⟨by decide +kernel, by decide +kernel⟩, lw_t9 (List.mem_of_getElem? (i := 107) rfl), lw_t10 (List.mem_of_getElem? (i := 42) rfl), lw_t10 (List.mem_of_getElem? (i := 43) rfl)⟩
def lw_privs_2 : List (MethodName × Nat) := [(⟨"WhelkFleet$Deed", "doesMore", "(LWhelkFleet$Fleet;)I"⟩, 4), (⟨"WhelkFleet", "become", "(LWhelkFleet$Fleet;I)I"⟩, 7), (⟨"java/util/LinkedList", "unlinkFirst", "(Ljava/util/LinkedList$Node;)Ljava/lang/Object;"⟩, 4), (⟨"WhelkFleet", "outside", "(Ljava/lang/Exception;)Ljava/lang/RuntimeException;"⟩, 7), (⟨"WhelkFleet", "boatAt", "(I)LWhelkFleet$Boat;"⟩, 7), (⟨"WhelkFleet", "stringAt", "(I)LWhelkFleet$Line;"⟩, 7), (⟨"WhelkFleet", "carriedOut", "()I"⟩, 7), (⟨"WhelkFleet$Reader", "order", "()LWhelkFleet$Deed;"⟩, 2), (⟨"WhelkFleet$Reader", "word", "(Ljava/lang/String;)Ljava/lang/String;"⟩, 2), (⟨"WhelkFleet$Reader", "isLetter", "()Z"⟩, 2), (⟨"WhelkFleet$Reader", "here", "()C"⟩, 2), (⟨"WhelkFleet$Reader", "need", "(Z)V"⟩, 2), (⟨"WhelkFleet$Reader", "takeAll", "(Ljava/lang/String;)V"⟩, 2), (⟨"WhelkFleet$Reader", "digit", "()I"⟩, 2), (⟨"WhelkFleet$Reader", "isDigit", "()Z"⟩, 2), (⟨"WhelkFleet$Reader", "bait", "()I"⟩, 2)]
theorem lw_r2 : ∀ q ∈ lw_privs_2, lw_okq q := List.forall_mem_cons.mpr ⟨lw_p16, List.forall_mem_cons.mpr ⟨lw_p17, List.forall_mem_cons.mpr ⟨lw_p18, List.forall_mem_cons.mpr ⟨lw_p19, List.forall_mem_cons.mpr ⟨lw_p20, List.forall_mem_cons.mpr ⟨lw_p21, List.forall_mem_cons.mpr ⟨lw_p22, List.forall_mem_cons.mpr ⟨lw_p23, List.forall_mem_cons.mpr ⟨lw_p24, List.forall_mem_cons.mpr ⟨lw_p25, List.forall_mem_cons.mpr ⟨lw_p26, List.forall_mem_cons.mpr ⟨lw_p27, List.forall_mem_cons.mpr ⟨lw_p28, List.forall_mem_cons.mpr ⟨lw_p29, List.forall_mem_cons.mpr ⟨lw_p30, List.forall_mem_cons.mpr ⟨lw_p31, fun _ h => absurd h List.not_mem_nil⟩⟩⟩⟩⟩⟩⟩⟩⟩⟩⟩⟩⟩⟩⟩⟩
theorem lw_p32 : lw_okq (⟨"WhelkFleet$Reader", "number", "()I"⟩, 2) := ⟨⟨by decide +kernel, by decide +kernel⟩, lw_t9 (List.mem_of_getElem? (i := 107) rfl), lw_t10 (List.mem_of_getElem? (i := 63) rfl), lw_t10 (List.mem_of_getElem? (i := 64) rfl)⟩
theorem lw_p33 : lw_okq (⟨"java/util/LinkedList", "unlinkLast", "(Ljava/util/LinkedList$Node;)Ljava/lang/Object;"⟩, 4) := ⟨⟨by decide +kernel, by decide +kernel⟩, lw_t2 (List.mem_of_getElem? (i := 28) rfl), lw_t11 (List.mem_of_getElem? (i := 70) rfl), lw_t11 (List.mem_of_getElem? (i := 71) rfl)⟩
theorem lw_p34 : lw_okq (⟨"WhelkFleetModel", "fails", "(I)I"⟩, 18) := ⟨⟨by decide +kernel, by decide +kernel⟩, lw_t11 (List.mem_of_getElem? (i := 86) rfl), lw_t11 (List.mem_of_getElem? (i := 162) rfl), lw_t11 (List.mem_of_getElem? (i := 163) rfl)⟩
theorem lw_p35 : lw_okq (⟨"WhelkFleetModel", "done", "(I)I"⟩, 18) := ⟨⟨by decide +kernel, by decide +kernel⟩, lw_t11 (List.mem_of_getElem? (i := 86) rfl), lw_t11 (List.mem_of_getElem? (i := 169) rfl), lw_t11 (List.mem_of_getElem? (i := 170) rfl)⟩
theorem lw_p36 : lw_okq (⟨"WhelkFleetModel", "looksBack", "()V"⟩, 18) := ⟨⟨by decide +kernel, by decide +kernel⟩, lw_t11 (List.mem_of_getElem? (i := 86) rfl), lw_t11 (List.mem_of_getElem? (i := 177) rfl), lw_t11 (List.mem_of_getElem? (i := 178) rfl)⟩
theorem lw_p37 : lw_okq (⟨"WhelkFleetModel", "kept", "(I)I"⟩, 18) := ⟨⟨by decide +kernel, by decide +kernel⟩, lw_t11 (List.mem_of_getElem? (i := 86) rfl), lw_t11 (List.mem_of_getElem? (i := 184) rfl), lw_t11 (List.mem_of_getElem? (i := 185) rfl)⟩
theorem lw_p38 : lw_okq (⟨"WhelkFleetModel", "refused", "(III)I"⟩, 18) := ⟨⟨by decide +kernel, by decide +kernel⟩, lw_t11 (List.mem_of_getElem? (i := 86) rfl), lw_t11 (List.mem_of_getElem? (i := 211) rfl), lw_t11 (List.mem_of_getElem? (i := 212) rfl)⟩
theorem lw_p39 : lw_okq (⟨"WhelkFleetModel", "refusedBy", "(IIIII)I"⟩, 18) := ⟨⟨by decide +kernel, by decide +kernel⟩, lw_t11 (List.mem_of_getElem? (i := 86) rfl), lw_t11 (List.mem_of_getElem? (i := 215) rfl), lw_t11 (List.mem_of_getElem? (i := 216) rfl)⟩
theorem lw_p40 : lw_okq (⟨"WhelkFleetModel", "isBoat", "(I)Z"⟩, 18) := ⟨⟨by decide +kernel, by decide +kernel⟩, lw_t11 (List.mem_of_getElem? (i := 86) rfl), lw_t11 (List.mem_of_getElem? (i := 227) rfl), lw_t11 (List.mem_of_getElem? (i := 228) rfl)⟩
theorem lw_p41 : lw_okq (⟨"WhelkFleetModel", "isString", "(I)Z"⟩, 18) := ⟨⟨by decide +kernel, by decide +kernel⟩, lw_t11 (List.mem_of_getElem? (i := 86) rfl), lw_t11 (List.mem_of_getElem? (i := 235) rfl), lw_t11 (List.mem_of_getElem? (i := 236) rfl)⟩
theorem lw_p42 : lw_okq (⟨"WhelkFleetModel", "daysAt", "(I)I"⟩, 18) := ⟨⟨by decide +kernel, by decide +kernel⟩, lw_t11 (List.mem_of_getElem? (i := 86) rfl), lw_t11 (List.mem_of_getElem? (i := 239) rfl), lw_t12 (List.mem_of_getElem? (i := 0) rfl)⟩
theorem lw_p43 : lw_okq (⟨"WhelkFleetModel", "goesOut", "(II)I"⟩, 18) := ⟨⟨by decide +kernel, by decide +kernel⟩, lw_t11 (List.mem_of_getElem? (i := 86) rfl), lw_t12 (List.mem_of_getElem? (i := 7) rfl), lw_t12 (List.mem_of_getElem? (i := 8) rfl)⟩
theorem lw_p44 : lw_okq (⟨"WhelkFleetModel", "goesHome", "(I)I"⟩, 18) := ⟨⟨by decide +kernel, by decide +kernel⟩, lw_t11 (List.mem_of_getElem? (i := 86) rfl), lw_t12 (List.mem_of_getElem? (i := 15) rfl), lw_t12 (List.mem_of_getElem? (i := 16) rfl)⟩
theorem lw_p45 : lw_okq (⟨"WhelkFleetModel", "shoots", "(III)I"⟩, 18) := ⟨⟨by decide +kernel, by decide +kernel⟩, lw_t11 (List.mem_of_getElem? (i := 86) rfl), lw_t12 (List.mem_of_getElem? (i := 23) rfl), lw_t12 (List.mem_of_getElem? (i := 24) rfl)⟩
theorem lw_p46 : lw_okq (⟨"WhelkFleetModel", "hauls", "(II)I"⟩, 18) := ⟨⟨by decide +kernel, by decide +kernel⟩, lw_t11 (List.mem_of_getElem? (i := 86) rfl), lw_t12 (List.mem_of_getElem? (i := 31) rfl), lw_t12 (List.mem_of_getElem? (i := 32) rfl)⟩
theorem lw_p47 : lw_okq (⟨"WhelkFleetModel", "drawsOf", "(II)I"⟩, 18) := ⟨⟨by decide +kernel, by decide +kernel⟩, lw_t11 (List.mem_of_getElem? (i := 86) rfl), lw_t12 (List.mem_of_getElem? (i := 35) rfl), lw_t12 (List.mem_of_getElem? (i := 36) rfl)⟩
def lw_privs_3 : List (MethodName × Nat) := [(⟨"WhelkFleet$Reader", "number", "()I"⟩, 2), (⟨"java/util/LinkedList", "unlinkLast", "(Ljava/util/LinkedList$Node;)Ljava/lang/Object;"⟩, 4), (⟨"WhelkFleetModel", "fails", "(I)I"⟩, 18), (⟨"WhelkFleetModel", "done", "(I)I"⟩, 18), (⟨"WhelkFleetModel", "looksBack", "()V"⟩, 18), (⟨"WhelkFleetModel", "kept", "(I)I"⟩, 18), (⟨"WhelkFleetModel", "refused", "(III)I"⟩, 18), (⟨"WhelkFleetModel", "refusedBy", "(IIIII)I"⟩, 18), (⟨"WhelkFleetModel", "isBoat", "(I)Z"⟩, 18), (⟨"WhelkFleetModel", "isString", "(I)Z"⟩, 18), (⟨"WhelkFleetModel", "daysAt", "(I)I"⟩, 18), (⟨"WhelkFleetModel", "goesOut", "(II)I"⟩, 18), (⟨"WhelkFleetModel", "goesHome", "(I)I"⟩, 18), (⟨"WhelkFleetModel", "shoots", "(III)I"⟩, 18), (⟨"WhelkFleetModel", "hauls", "(II)I"⟩, 18), (⟨"WhelkFleetModel", "drawsOf", "(II)I"⟩, 18)]
theorem lw_r3 : ∀ q ∈ lw_privs_3, lw_okq q := List.forall_mem_cons.mpr ⟨lw_p32, List.forall_mem_cons.mpr ⟨lw_p33, List.forall_mem_cons.mpr ⟨lw_p34, List.forall_mem_cons.mpr ⟨lw_p35, List.forall_mem_cons.mpr ⟨lw_p36, List.forall_mem_cons.mpr ⟨lw_p37, List.forall_mem_cons.mpr ⟨lw_p38, List.forall_mem_cons.mpr ⟨lw_p39, List.forall_mem_cons.mpr ⟨lw_p40, List.forall_mem_cons.mpr ⟨lw_p41, List.forall_mem_cons.mpr ⟨lw_p42, List.forall_mem_cons.mpr ⟨lw_p43, List.forall_mem_cons.mpr ⟨lw_p44, List.forall_mem_cons.mpr ⟨lw_p45, List.forall_mem_cons.mpr ⟨lw_p46, List.forall_mem_cons.mpr ⟨lw_p47, fun _ h => absurd h List.not_mem_nil⟩⟩⟩⟩⟩⟩⟩⟩⟩⟩⟩⟩⟩⟩⟩⟩
theorem lw_p48 : lw_okq (⟨"WhelkFleetModel", "goesBack", "(I)Z"⟩, 18) := ⟨⟨by decide +kernel, by decide +kernel⟩, lw_t11 (List.mem_of_getElem? (i := 86) rfl), lw_t12 (List.mem_of_getElem? (i := 39) rfl), lw_t12 (List.mem_of_getElem? (i := 40) rfl)⟩
theorem lw_p49 : lw_okq (⟨"WhelkFleetModel", "lands", "(I)I"⟩, 18) := ⟨⟨by decide +kernel, by decide +kernel⟩, lw_t11 (List.mem_of_getElem? (i := 86) rfl), lw_t12 (List.mem_of_getElem? (i := 47) rfl), lw_t12 (List.mem_of_getElem? (i := 48) rfl)⟩
theorem lw_p50 : lw_okq (⟨"WhelkFleetModel", "inHold", "(I)I"⟩, 18) := ⟨⟨by decide +kernel, by decide +kernel⟩, lw_t11 (List.mem_of_getElem? (i := 86) rfl), lw_t12 (List.mem_of_getElem? (i := 51) rfl), lw_t12 (List.mem_of_getElem? (i := 52) rfl)⟩
theorem lw_p51 : lw_okq (⟨"WhelkFleetModel", "brings", "(II)I"⟩, 18) := ⟨⟨by decide +kernel, by decide +kernel⟩, lw_t11 (List.mem_of_getElem? (i := 86) rfl), lw_t12 (List.mem_of_getElem? (i := 59) rfl), lw_t12 (List.mem_of_getElem? (i := 60) rfl)⟩
theorem lw_p52 : lw_okq (⟨"WhelkFleetModel", "goesDay", "()I"⟩, 18) := ⟨⟨by decide +kernel, by decide +kernel⟩, lw_t11 (List.mem_of_getElem? (i := 86) rfl), lw_t12 (List.mem_of_getElem? (i := 63) rfl), lw_t12 (List.mem_of_getElem? (i := 64) rfl)⟩
theorem lw_p53 : lw_okq (⟨"WhelkFleetModel", "grows", "(I)V"⟩, 18) := ⟨⟨by decide +kernel, by decide +kernel⟩, lw_t11 (List.mem_of_getElem? (i := 86) rfl), lw_t12 (List.mem_of_getElem? (i := 67) rfl), lw_t12 (List.mem_of_getElem? (i := 68) rfl)⟩
theorem lw_p54 : lw_okq (⟨"WhelkFleetModel", "bringsNow", "(I)I"⟩, 18) := ⟨⟨by decide +kernel, by decide +kernel⟩, lw_t11 (List.mem_of_getElem? (i := 86) rfl), lw_t12 (List.mem_of_getElem? (i := 74) rfl), lw_t12 (List.mem_of_getElem? (i := 75) rfl)⟩
theorem lw_p55 : lw_okq (⟨"WhelkFleetModel", "swells", "(I)I"⟩, 18) := ⟨⟨by decide +kernel, by decide +kernel⟩, lw_t11 (List.mem_of_getElem? (i := 86) rfl), lw_t12 (List.mem_of_getElem? (i := 90) rfl), lw_t12 (List.mem_of_getElem? (i := 91) rfl)⟩
theorem lw_p56 : lw_okq (⟨"WhelkFleetModel", "riddles", "(I)I"⟩, 18) := ⟨⟨by decide +kernel, by decide +kernel⟩, lw_t11 (List.mem_of_getElem? (i := 86) rfl), lw_t12 (List.mem_of_getElem? (i := 98) rfl), lw_t12 (List.mem_of_getElem? (i := 99) rfl)⟩
theorem lw_p57 : lw_okq (⟨"WhelkFleetModel", "passes", "(I)I"⟩, 18) := ⟨⟨by decide +kernel, by decide +kernel⟩, lw_t11 (List.mem_of_getElem? (i := 86) rfl), lw_t12 (List.mem_of_getElem? (i := 106) rfl), lw_t12 (List.mem_of_getElem? (i := 107) rfl)⟩
theorem lw_p58 : lw_okq (⟨"WhelkFleetModel", "ofSize", "(I)I"⟩, 18) := ⟨⟨by decide +kernel, by decide +kernel⟩, lw_t11 (List.mem_of_getElem? (i := 86) rfl), lw_t12 (List.mem_of_getElem? (i := 114) rfl), lw_t12 (List.mem_of_getElem? (i := 115) rfl)⟩
theorem lw_p59 : lw_okq (⟨"WhelkFleetModel", "readsText", "()I"⟩, 18) := ⟨⟨by decide +kernel, by decide +kernel⟩, lw_t11 (List.mem_of_getElem? (i := 86) rfl), lw_t12 (List.mem_of_getElem? (i := 126) rfl), lw_t12 (List.mem_of_getElem? (i := 127) rfl)⟩
theorem lw_p60 : lw_okq (⟨"WhelkFleetModel", "readsOrder", "(I)V"⟩, 18) := ⟨⟨by decide +kernel, by decide +kernel⟩, lw_t11 (List.mem_of_getElem? (i := 86) rfl), lw_t12 (List.mem_of_getElem? (i := 130) rfl), lw_t12 (List.mem_of_getElem? (i := 131) rfl)⟩
theorem lw_p61 : lw_okq (⟨"WhelkFleetModel", "readsWord", "()I"⟩, 18) := ⟨⟨by decide +kernel, by decide +kernel⟩, lw_t11 (List.mem_of_getElem? (i := 86) rfl), lw_t12 (List.mem_of_getElem? (i := 134) rfl), lw_t12 (List.mem_of_getElem? (i := 135) rfl)⟩
theorem lw_p62 : lw_okq (⟨"WhelkFleetModel", "isWord", "(I)Z"⟩, 18) := ⟨⟨by decide +kernel, by decide +kernel⟩, lw_t11 (List.mem_of_getElem? (i := 86) rfl), lw_t12 (List.mem_of_getElem? (i := 138) rfl), lw_t12 (List.mem_of_getElem? (i := 139) rfl)⟩
theorem lw_p63 : lw_okq (⟨"WhelkFleetModel", "here", "()I"⟩, 18) := ⟨⟨by decide +kernel, by decide +kernel⟩, lw_t11 (List.mem_of_getElem? (i := 86) rfl), lw_t12 (List.mem_of_getElem? (i := 154) rfl), lw_t12 (List.mem_of_getElem? (i := 155) rfl)⟩
def lw_privs_4 : List (MethodName × Nat) := [(⟨"WhelkFleetModel", "goesBack", "(I)Z"⟩, 18), (⟨"WhelkFleetModel", "lands", "(I)I"⟩, 18), (⟨"WhelkFleetModel", "inHold", "(I)I"⟩, 18), (⟨"WhelkFleetModel", "brings", "(II)I"⟩, 18), (⟨"WhelkFleetModel", "goesDay", "()I"⟩, 18), (⟨"WhelkFleetModel", "grows", "(I)V"⟩, 18), (⟨"WhelkFleetModel", "bringsNow", "(I)I"⟩, 18), (⟨"WhelkFleetModel", "swells", "(I)I"⟩, 18), (⟨"WhelkFleetModel", "riddles", "(I)I"⟩, 18), (⟨"WhelkFleetModel", "passes", "(I)I"⟩, 18), (⟨"WhelkFleetModel", "ofSize", "(I)I"⟩, 18), (⟨"WhelkFleetModel", "readsText", "()I"⟩, 18), (⟨"WhelkFleetModel", "readsOrder", "(I)V"⟩, 18), (⟨"WhelkFleetModel", "readsWord", "()I"⟩, 18), (⟨"WhelkFleetModel", "isWord", "(I)Z"⟩, 18), (⟨"WhelkFleetModel", "here", "()I"⟩, 18)]
theorem lw_r4 : ∀ q ∈ lw_privs_4, lw_okq q := List.forall_mem_cons.mpr ⟨lw_p48, List.forall_mem_cons.mpr ⟨lw_p49, List.forall_mem_cons.mpr ⟨lw_p50, List.forall_mem_cons.mpr ⟨lw_p51, List.forall_mem_cons.mpr ⟨lw_p52, List.forall_mem_cons.mpr ⟨lw_p53, List.forall_mem_cons.mpr ⟨lw_p54, List.forall_mem_cons.mpr ⟨lw_p55, List.forall_mem_cons.mpr ⟨lw_p56, List.forall_mem_cons.mpr ⟨lw_p57, List.forall_mem_cons.mpr ⟨lw_p58, List.forall_mem_cons.mpr ⟨lw_p59, List.forall_mem_cons.mpr ⟨lw_p60, List.forall_mem_cons.mpr ⟨lw_p61, List.forall_mem_cons.mpr ⟨lw_p62, List.forall_mem_cons.mpr ⟨lw_p63, fun _ h => absurd h List.not_mem_nil⟩⟩⟩⟩⟩⟩⟩⟩⟩⟩⟩⟩⟩⟩⟩⟩
theorem lw_p64 : lw_okq (⟨"WhelkFleetModel", "needsText", "(Ljava/lang/String;)V"⟩, 18) := ⟨⟨by decide +kernel, by decide +kernel⟩, lw_t11 (List.mem_of_getElem? (i := 86) rfl), lw_t12 (List.mem_of_getElem? (i := 158) rfl), lw_t12 (List.mem_of_getElem? (i := 159) rfl)⟩
theorem lw_p65 : lw_okq (⟨"WhelkFleetModel", "needs", "(I)V"⟩, 18) := ⟨⟨by decide +kernel, by decide +kernel⟩, lw_t11 (List.mem_of_getElem? (i := 86) rfl), lw_t12 (List.mem_of_getElem? (i := 163) rfl), lw_t12 (List.mem_of_getElem? (i := 164) rfl)⟩
theorem lw_p66 : lw_okq (⟨"WhelkFleetModel", "number", "()I"⟩, 18) := ⟨⟨by decide +kernel, by decide +kernel⟩, lw_t11 (List.mem_of_getElem? (i := 86) rfl), lw_t12 (List.mem_of_getElem? (i := 167) rfl), lw_t12 (List.mem_of_getElem? (i := 168) rfl)⟩
theorem lw_p67 : lw_okq (⟨"WhelkFleetModel", "digit", "()I"⟩, 18) := ⟨⟨by decide +kernel, by decide +kernel⟩, lw_t11 (List.mem_of_getElem? (i := 86) rfl), lw_t12 (List.mem_of_getElem? (i := 171) rfl), lw_t12 (List.mem_of_getElem? (i := 172) rfl)⟩
theorem lw_p68 : lw_okq (⟨"WhelkFleetModel", "baitRead", "()I"⟩, 18) := ⟨⟨by decide +kernel, by decide +kernel⟩, lw_t11 (List.mem_of_getElem? (i := 86) rfl), lw_t12 (List.mem_of_getElem? (i := 178) rfl), lw_t12 (List.mem_of_getElem? (i := 179) rfl)⟩
theorem lw_p69 : lw_okq (⟨"WhelkFleetModel", "does", "(I)I"⟩, 18) := ⟨⟨by decide +kernel, by decide +kernel⟩, lw_t11 (List.mem_of_getElem? (i := 86) rfl), lw_t12 (List.mem_of_getElem? (i := 185) rfl), lw_t12 (List.mem_of_getElem? (i := 186) rfl)⟩
theorem lw_p70 : lw_okq (⟨"WhelkFleetModel", "refusedOrder", "(I)V"⟩, 18) := ⟨⟨by decide +kernel, by decide +kernel⟩, lw_t11 (List.mem_of_getElem? (i := 86) rfl), lw_t12 (List.mem_of_getElem? (i := 189) rfl), lw_t12 (List.mem_of_getElem? (i := 190) rfl)⟩
theorem lw_p71 : lw_okq (⟨"WhelkFleetModel", "putsText", "(Ljava/lang/String;)V"⟩, 18) := ⟨⟨by decide +kernel, by decide +kernel⟩, lw_t11 (List.mem_of_getElem? (i := 86) rfl), lw_t12 (List.mem_of_getElem? (i := 206) rfl), lw_t12 (List.mem_of_getElem? (i := 207) rfl)⟩
theorem lw_p72 : lw_okq (⟨"WhelkFleetModel", "puts", "(I)V"⟩, 18) := ⟨⟨by decide +kernel, by decide +kernel⟩, lw_t11 (List.mem_of_getElem? (i := 86) rfl), lw_t12 (List.mem_of_getElem? (i := 210) rfl), lw_t12 (List.mem_of_getElem? (i := 211) rfl)⟩
theorem lw_p73 : lw_okq (⟨"WhelkFleetModel", "putsNumber", "(I)V"⟩, 18) := ⟨⟨by decide +kernel, by decide +kernel⟩, lw_t11 (List.mem_of_getElem? (i := 86) rfl), lw_t12 (List.mem_of_getElem? (i := 214) rfl), lw_t12 (List.mem_of_getElem? (i := 215) rfl)⟩
theorem lw_p74 : lw_okq (⟨"WhelkFleetModel", "notNone", "(II)I"⟩, 18) := ⟨⟨by decide +kernel, by decide +kernel⟩, lw_t11 (List.mem_of_getElem? (i := 86) rfl), lw_t12 (List.mem_of_getElem? (i := 228) rfl), lw_t12 (List.mem_of_getElem? (i := 229) rfl)⟩
theorem lw_p75 : lw_okq (⟨"WhelkFleetModel", "sum", "(II)I"⟩, 18) := ⟨⟨by decide +kernel, by decide +kernel⟩, lw_t11 (List.mem_of_getElem? (i := 86) rfl), lw_t12 (List.mem_of_getElem? (i := 232) rfl), lw_t12 (List.mem_of_getElem? (i := 233) rfl)⟩
def lw_privs_5 : List (MethodName × Nat) := [(⟨"WhelkFleetModel", "needsText", "(Ljava/lang/String;)V"⟩, 18), (⟨"WhelkFleetModel", "needs", "(I)V"⟩, 18), (⟨"WhelkFleetModel", "number", "()I"⟩, 18), (⟨"WhelkFleetModel", "digit", "()I"⟩, 18), (⟨"WhelkFleetModel", "baitRead", "()I"⟩, 18), (⟨"WhelkFleetModel", "does", "(I)I"⟩, 18), (⟨"WhelkFleetModel", "refusedOrder", "(I)V"⟩, 18), (⟨"WhelkFleetModel", "putsText", "(Ljava/lang/String;)V"⟩, 18), (⟨"WhelkFleetModel", "puts", "(I)V"⟩, 18), (⟨"WhelkFleetModel", "putsNumber", "(I)V"⟩, 18), (⟨"WhelkFleetModel", "notNone", "(II)I"⟩, 18), (⟨"WhelkFleetModel", "sum", "(II)I"⟩, 18)]
theorem lw_r5 : ∀ q ∈ lw_privs_5, lw_okq q := List.forall_mem_cons.mpr ⟨lw_p64, List.forall_mem_cons.mpr ⟨lw_p65, List.forall_mem_cons.mpr ⟨lw_p66, List.forall_mem_cons.mpr ⟨lw_p67, List.forall_mem_cons.mpr ⟨lw_p68, List.forall_mem_cons.mpr ⟨lw_p69, List.forall_mem_cons.mpr ⟨lw_p70, List.forall_mem_cons.mpr ⟨lw_p71, List.forall_mem_cons.mpr ⟨lw_p72, List.forall_mem_cons.mpr ⟨lw_p73, List.forall_mem_cons.mpr ⟨lw_p74, List.forall_mem_cons.mpr ⟨lw_p75, fun _ h => absurd h List.not_mem_nil⟩⟩⟩⟩⟩⟩⟩⟩⟩⟩⟩⟩
def lw_privs : List (MethodName × Nat) := lw_privs_1 ++ (lw_privs_2 ++ (lw_privs_3 ++ (lw_privs_4 ++ (lw_privs_5))))
def lw_tbl : List Cond := k2_sels lw_privs ++ tables_1
theorem lw_privs_ok : ∀ q ∈ lw_privs, lw_okq q := by
  show ∀ q ∈ lw_privs_1 ++ (lw_privs_2 ++ (lw_privs_3 ++ (lw_privs_4 ++ (lw_privs_5)))), lw_okq q
  exact List.forall_mem_append.mpr ⟨lw_r1, List.forall_mem_append.mpr ⟨lw_r2, List.forall_mem_append.mpr ⟨lw_r3, List.forall_mem_append.mpr ⟨lw_r4, lw_r5⟩⟩⟩⟩
-- ===== ONE list of words for every method: the tables' words that hold all through a run =====
def lw_all : List Cond := lw_tbl.filter goodWord
/-- a word of the tables by its place: claim/WORDS.tsv -/
theorem lw_w {w : Cond} (i : Nat) (h : lw_tbl[i]? = some w) (g : goodWord w = true) : w ∈ lw_all := List.mem_filter.mpr ⟨List.mem_of_getElem? h, g⟩
theorem lw_all_tbl {w : Cond} (h : w ∈ lw_all) : w ∈ lw_tbl := (List.mem_filter.mp h).1
theorem lw_self : GoodIn lw_all lw_all := fun w h => ⟨h, good_of_word (List.mem_filter.mp h).2⟩
/-- a class's field words, by their places -/
theorem lw_in (ws : List Cond) (ps : List Nat) (hp : ws = ps.filterMap (fun i => lw_tbl[i]?)) (hg : ws.all goodWord = true) : ∀ w ∈ ws, w ∈ lw_all := by
  intro w h
  have h1 := List.all_eq_true.mp hg w h
  rw [hp] at h
  obtain ⟨i, -, hi⟩ := List.mem_filterMap.mp h
  exact lw_w i hi h1
/-- the words of a contract for the method y with code b, L locals, answer r -/
abbrev ws_ (y : MethodName) (b : ByteArray) (L : Nat) (r : Option FieldType) : List Cond := Cond.code y b L r :: lw_all
theorem lw_meth {y : MethodName} {b : ByteArray} {L : Nat} {r : Option FieldType} (h : Cond.code y b L r ∈ lw_all) : GoodIn lw_all (ws_ y b L r) := by
  intro w hw
  rcases List.mem_cons.mp hw with e | e
  · rw [e]
    exact lw_self _ h
  · exact lw_self _ e
theorem lw_app {a c : List Cond} (ha : ∀ w ∈ a, w ∈ lw_all) (hc : GoodIn lw_all c) : GoodIn lw_all (a ++ c) := by
  intro w hw
  rcases List.mem_append.mp hw with e | e
  · exact lw_self w (ha w e)
  · exact hc w e
/-- what a call through an object asks: cwV n hts (lw_V ..) -/
theorem lw_V {own : String} {idx : Nat} {C : String} {y : MethodName} {b : ByteArray} {L : Nat} {r : Option FieldType} (h1 : Cond.methodLink own idx y ∈ lw_all) (h2 : Cond.instanceMethod y ∈ lw_all) (h3 : Cond.selects C y y ∈ lw_all) (h4 : Cond.initialized C ∈ lw_all) (h5 : Cond.code y b L r ∈ lw_all) : GoodIn lw_all (wsV own idx C y (ws_ y b L r)) := by
  refine lw_app ?_ (lw_meth h5)
  intro w hw
  simp only [List.mem_cons, List.not_mem_nil, or_false] at hw
  rcases hw with e | e | e | e
  · rw [e]; exact h1
  · rw [e]; exact h2
  · rw [e]; exact h3
  · rw [e]; exact h4
/-- what a static call asks: va_cwS n hts (lw_S ..) -/
theorem lw_S {own : String} {idx : Nat} {y : MethodName} {b : ByteArray} {L : Nat} {r : Option FieldType} (h1 : Cond.methodLink own idx y ∈ lw_all) (h2 : Cond.static y ∈ lw_all) (h3 : Cond.initialized y.cls ∈ lw_all) (h4 : Cond.code y b L r ∈ lw_all) : GoodIn lw_all (va_wsS own idx y (ws_ y b L r)) := by
  refine lw_app ?_ (lw_meth h4)
  intro w hw
  simp only [List.mem_cons, List.not_mem_nil, or_false] at hw
  rcases hw with e | e | e
  · rw [e]; exact h1
  · rw [e]; exact h2
  · rw [e]; exact h3
/-- the words of a contract for a method WITH HANDLERS (hh: its table) -/
abbrev wsW_ (y : MethodName) (b : ByteArray) (L : Nat) (r : Option FieldType) (hh : List (Nat × Nat × Nat × Nat)) : List Cond := Cond.codeWith y b L r hh :: lw_all
theorem lw_methW {y : MethodName} {b : ByteArray} {L : Nat} {r : Option FieldType} {hh : List (Nat × Nat × Nat × Nat)} (h : Cond.codeWith y b L r hh ∈ lw_all) : GoodIn lw_all (wsW_ y b L r hh) := by
  intro w hw
  rcases List.mem_cons.mp hw with e | e
  · rw [e]
    exact lw_self _ h
  · exact lw_self _ e
/-- any list of words by their places (lw_in), good -/
theorem lw_good {ws : List Cond} (h : ∀ w ∈ ws, w ∈ lw_all) : GoodIn lw_all ws := fun w hw => lw_self w (h w hw)
/-- what a call of a method with handlers asks: vx_cwVW n hts (lw_VW ..), vx_cwSW n hts (lw_SW ..) -/
theorem lw_VW {own : String} {idx : Nat} {C : String} {y : MethodName} {b : ByteArray} {L : Nat} {r : Option FieldType} {hh : List (Nat × Nat × Nat × Nat)} (h1 : Cond.methodLink own idx y ∈ lw_all) (h2 : Cond.instanceMethod y ∈ lw_all) (h3 : Cond.selects C y y ∈ lw_all) (h4 : Cond.initialized C ∈ lw_all) (h5 : Cond.codeWith y b L r hh ∈ lw_all) : GoodIn lw_all (wsV own idx C y (wsW_ y b L r hh)) := by
  refine lw_app ?_ (lw_methW h5)
  intro w hw
  simp only [List.mem_cons, List.not_mem_nil, or_false] at hw
  rcases hw with e | e | e | e
  · rw [e]; exact h1
  · rw [e]; exact h2
  · rw [e]; exact h3
  · rw [e]; exact h4
theorem lw_SW {own : String} {idx : Nat} {y : MethodName} {b : ByteArray} {L : Nat} {r : Option FieldType} {hh : List (Nat × Nat × Nat × Nat)} (h1 : Cond.methodLink own idx y ∈ lw_all) (h2 : Cond.static y ∈ lw_all) (h3 : Cond.initialized y.cls ∈ lw_all) (h4 : Cond.codeWith y b L r hh ∈ lw_all) : GoodIn lw_all (va_wsS own idx y (wsW_ y b L r hh)) := by
  refine lw_app ?_ (lw_methW h4)
  intro w hw
  simp only [List.mem_cons, List.not_mem_nil, or_false] at hw
  rcases hw with e | e | e
  · rw [e]; exact h1
  · rw [e]; exact h2
  · rw [e]; exact h3
/-- a word by its place in its run of the tables -/
theorem lw_at {r : List Cond} (hr : ∀ w ∈ r, w ∈ lw_tbl) {w : Cond} (i : Nat) (h : r[i]? = some w) : w ∈ lw_tbl := hr w (List.mem_of_getElem? h)
theorem lw_g {w : Cond} (h : w ∈ lw_tbl) (g : goodWord w = true) : w ∈ lw_all := List.mem_filter.mpr ⟨h, g⟩
theorem lw_ms : ∀ w ∈ k2_sels lw_privs, w ∈ lw_tbl := fun w h => show w ∈ k2_sels lw_privs ++ tables_1 from List.mem_append_left _ h
theorem lw_m1 : ∀ w ∈ tables_1_1, w ∈ lw_tbl := fun w h => show w ∈ k2_sels lw_privs ++ tables_1 from List.mem_append_right (k2_sels lw_privs) (show w ∈ tables_1 from List.mem_append_left _ h)
theorem lw_m2 : ∀ w ∈ tables_1_2, w ∈ lw_tbl := fun w h => show w ∈ k2_sels lw_privs ++ tables_1 from List.mem_append_right (k2_sels lw_privs) (show w ∈ tables_1 from List.mem_append_right _ (List.mem_append_left _ h))
theorem lw_m3 : ∀ w ∈ tables_1_3, w ∈ lw_tbl := fun w h => show w ∈ k2_sels lw_privs ++ tables_1 from List.mem_append_right (k2_sels lw_privs) (show w ∈ tables_1 from List.mem_append_right _ (List.mem_append_right _ (List.mem_append_left _ h)))
theorem lw_m4 : ∀ w ∈ tables_1_4, w ∈ lw_tbl := fun w h => show w ∈ k2_sels lw_privs ++ tables_1 from List.mem_append_right (k2_sels lw_privs) (show w ∈ tables_1 from List.mem_append_right _ (List.mem_append_right _ (List.mem_append_right _ (List.mem_append_left _ h))))
theorem lw_m5 : ∀ w ∈ tables_1_5, w ∈ lw_tbl := fun w h => show w ∈ k2_sels lw_privs ++ tables_1 from List.mem_append_right (k2_sels lw_privs) (show w ∈ tables_1 from List.mem_append_right _ (List.mem_append_right _ (List.mem_append_right _ (List.mem_append_right _ (List.mem_append_left _ h)))))
theorem lw_m6 : ∀ w ∈ tables_1_6, w ∈ lw_tbl := fun w h => show w ∈ k2_sels lw_privs ++ tables_1 from List.mem_append_right (k2_sels lw_privs) (show w ∈ tables_1 from List.mem_append_right _ (List.mem_append_right _ (List.mem_append_right _ (List.mem_append_right _ (List.mem_append_right _ (List.mem_append_left _ h))))))
theorem lw_m7 : ∀ w ∈ tables_1_7, w ∈ lw_tbl := fun w h => show w ∈ k2_sels lw_privs ++ tables_1 from List.mem_append_right (k2_sels lw_privs) (show w ∈ tables_1 from List.mem_append_right _ (List.mem_append_right _ (List.mem_append_right _ (List.mem_append_right _ (List.mem_append_right _ (List.mem_append_right _ (List.mem_append_left _ h)))))))
theorem lw_m8 : ∀ w ∈ tables_1_8, w ∈ lw_tbl := fun w h => show w ∈ k2_sels lw_privs ++ tables_1 from List.mem_append_right (k2_sels lw_privs) (show w ∈ tables_1 from List.mem_append_right _ (List.mem_append_right _ (List.mem_append_right _ (List.mem_append_right _ (List.mem_append_right _ (List.mem_append_right _ (List.mem_append_right _ (List.mem_append_left _ h))))))))
theorem lw_m9 : ∀ w ∈ tables_1_9, w ∈ lw_tbl := fun w h => show w ∈ k2_sels lw_privs ++ tables_1 from List.mem_append_right (k2_sels lw_privs) (show w ∈ tables_1 from List.mem_append_right _ (List.mem_append_right _ (List.mem_append_right _ (List.mem_append_right _ (List.mem_append_right _ (List.mem_append_right _ (List.mem_append_right _ (List.mem_append_right _ (List.mem_append_left _ h)))))))))
theorem lw_m10 : ∀ w ∈ tables_1_10, w ∈ lw_tbl := fun w h => show w ∈ k2_sels lw_privs ++ tables_1 from List.mem_append_right (k2_sels lw_privs) (show w ∈ tables_1 from List.mem_append_right _ (List.mem_append_right _ (List.mem_append_right _ (List.mem_append_right _ (List.mem_append_right _ (List.mem_append_right _ (List.mem_append_right _ (List.mem_append_right _ (List.mem_append_right _ (List.mem_append_left _ h))))))))))
theorem lw_m11 : ∀ w ∈ tables_1_11, w ∈ lw_tbl := fun w h => show w ∈ k2_sels lw_privs ++ tables_1 from List.mem_append_right (k2_sels lw_privs) (show w ∈ tables_1 from List.mem_append_right _ (List.mem_append_right _ (List.mem_append_right _ (List.mem_append_right _ (List.mem_append_right _ (List.mem_append_right _ (List.mem_append_right _ (List.mem_append_right _ (List.mem_append_right _ (List.mem_append_right _ (List.mem_append_left _ h)))))))))))
theorem lw_m12 : ∀ w ∈ tables_1_12, w ∈ lw_tbl := fun w h => show w ∈ k2_sels lw_privs ++ tables_1 from List.mem_append_right (k2_sels lw_privs) (show w ∈ tables_1 from List.mem_append_right _ (List.mem_append_right _ (List.mem_append_right _ (List.mem_append_right _ (List.mem_append_right _ (List.mem_append_right _ (List.mem_append_right _ (List.mem_append_right _ (List.mem_append_right _ (List.mem_append_right _ (List.mem_append_right _ (List.mem_append_left _ h))))))))))))
theorem lw_m13 : ∀ w ∈ tables_1_13, w ∈ lw_tbl := fun w h => show w ∈ k2_sels lw_privs ++ tables_1 from List.mem_append_right (k2_sels lw_privs) (show w ∈ tables_1 from List.mem_append_right _ (List.mem_append_right _ (List.mem_append_right _ (List.mem_append_right _ (List.mem_append_right _ (List.mem_append_right _ (List.mem_append_right _ (List.mem_append_right _ (List.mem_append_right _ (List.mem_append_right _ (List.mem_append_right _ (List.mem_append_right _ h))))))))))))
theorem qs0 : (Cond.selects "java/util/ArrayList" ⟨"java/util/ArrayList", "add", "(Ljava/lang/Object;[Ljava/lang/Object;I)V"⟩ ⟨"java/util/ArrayList", "add", "(Ljava/lang/Object;[Ljava/lang/Object;I)V"⟩) ∈ lw_all := lw_g (lw_at lw_ms 0 rfl) rfl
theorem qs1 : (Cond.selects "java/util/ArrayList" ⟨"java/util/ArrayList", "grow", "()[Ljava/lang/Object;"⟩ ⟨"java/util/ArrayList", "grow", "()[Ljava/lang/Object;"⟩) ∈ lw_all := lw_g (lw_at lw_ms 1 rfl) rfl
theorem qs2 : (Cond.selects "java/util/ArrayList" ⟨"java/util/ArrayList", "grow", "(I)[Ljava/lang/Object;"⟩ ⟨"java/util/ArrayList", "grow", "(I)[Ljava/lang/Object;"⟩) ∈ lw_all := lw_g (lw_at lw_ms 2 rfl) rfl
theorem qs3 : (Cond.selects "java/lang/Throwable" ⟨"java/lang/Throwable", "fillInStackTrace", "(I)Ljava/lang/Throwable;"⟩ ⟨"java/lang/Throwable", "fillInStackTrace", "(I)Ljava/lang/Throwable;"⟩) ∈ lw_all := lw_g (lw_at lw_ms 3 rfl) rfl
theorem qs4 : (Cond.selects "java/util/LinkedList" ⟨"java/util/LinkedList", "checkElementIndex", "(I)V"⟩ ⟨"java/util/LinkedList", "checkElementIndex", "(I)V"⟩) ∈ lw_all := lw_g (lw_at lw_ms 4 rfl) rfl
theorem qs5 : (Cond.selects "java/util/LinkedList" ⟨"java/util/LinkedList", "isElementIndex", "(I)Z"⟩ ⟨"java/util/LinkedList", "isElementIndex", "(I)Z"⟩) ∈ lw_all := lw_g (lw_at lw_ms 5 rfl) rfl
theorem qs6 : (Cond.selects "java/util/LinkedList" ⟨"java/util/LinkedList", "outOfBoundsMsg", "(I)Ljava/lang/String;"⟩ ⟨"java/util/LinkedList", "outOfBoundsMsg", "(I)Ljava/lang/String;"⟩) ∈ lw_all := lw_g (lw_at lw_ms 6 rfl) rfl
theorem qs7 : (Cond.selects "WhelkFleet" ⟨"WhelkFleet", "changed", "(Ljava/lang/String;III)I"⟩ ⟨"WhelkFleet", "changed", "(Ljava/lang/String;III)I"⟩) ∈ lw_all := lw_g (lw_at lw_ms 7 rfl) rfl
theorem qs8 : (Cond.selects "java/util/ArrayList" ⟨"java/util/ArrayList", "rangeCheckForAdd", "(I)V"⟩ ⟨"java/util/ArrayList", "rangeCheckForAdd", "(I)V"⟩) ∈ lw_all := lw_g (lw_at lw_ms 8 rfl) rfl
theorem qs9 : (Cond.selects "java/util/ArrayList" ⟨"java/util/ArrayList", "outOfBoundsMsg", "(I)Ljava/lang/String;"⟩ ⟨"java/util/ArrayList", "outOfBoundsMsg", "(I)Ljava/lang/String;"⟩) ∈ lw_all := lw_g (lw_at lw_ms 9 rfl) rfl
theorem qs10 : (Cond.selects "java/util/LinkedList" ⟨"java/util/LinkedList", "checkPositionIndex", "(I)V"⟩ ⟨"java/util/LinkedList", "checkPositionIndex", "(I)V"⟩) ∈ lw_all := lw_g (lw_at lw_ms 10 rfl) rfl
theorem qs11 : (Cond.selects "java/util/LinkedList" ⟨"java/util/LinkedList", "isPositionIndex", "(I)Z"⟩ ⟨"java/util/LinkedList", "isPositionIndex", "(I)Z"⟩) ∈ lw_all := lw_g (lw_at lw_ms 11 rfl) rfl
theorem qs12 : (Cond.selects "WhelkFleet$Fleet" ⟨"WhelkFleet$Fleet", "checkOut", "(I)V"⟩ ⟨"WhelkFleet$Fleet", "checkOut", "(I)V"⟩) ∈ lw_all := lw_g (lw_at lw_ms 12 rfl) rfl
theorem qs13 : (Cond.selects "WhelkFleet$Fleet" ⟨"WhelkFleet$Fleet", "checkSameGround", "(ILWhelkFleet$Line;)V"⟩ ⟨"WhelkFleet$Fleet", "checkSameGround", "(ILWhelkFleet$Line;)V"⟩) ∈ lw_all := lw_g (lw_at lw_ms 13 rfl) rfl
theorem qs14 : (Cond.selects "WhelkFleet$Fleet" ⟨"WhelkFleet$Fleet", "draughtOf", "(LWhelkFleet$Line;)LWhelkFleet$Draught;"⟩ ⟨"WhelkFleet$Fleet", "draughtOf", "(LWhelkFleet$Line;)LWhelkFleet$Draught;"⟩) ∈ lw_all := lw_g (lw_at lw_ms 14 rfl) rfl
theorem qs15 : (Cond.selects "WhelkFleet$Fleet" ⟨"WhelkFleet$Fleet", "dayGoesBy", "()I"⟩ ⟨"WhelkFleet$Fleet", "dayGoesBy", "()I"⟩) ∈ lw_all := lw_g (lw_at lw_ms 15 rfl) rfl
theorem qs16 : (Cond.selects "WhelkFleet$Deed" ⟨"WhelkFleet$Deed", "doesMore", "(LWhelkFleet$Fleet;)I"⟩ ⟨"WhelkFleet$Deed", "doesMore", "(LWhelkFleet$Fleet;)I"⟩) ∈ lw_all := lw_g (lw_at lw_ms 16 rfl) rfl
theorem qs17 : (Cond.selects "WhelkFleet" ⟨"WhelkFleet", "become", "(LWhelkFleet$Fleet;I)I"⟩ ⟨"WhelkFleet", "become", "(LWhelkFleet$Fleet;I)I"⟩) ∈ lw_all := lw_g (lw_at lw_ms 17 rfl) rfl
theorem qs18 : (Cond.selects "java/util/LinkedList" ⟨"java/util/LinkedList", "unlinkFirst", "(Ljava/util/LinkedList$Node;)Ljava/lang/Object;"⟩ ⟨"java/util/LinkedList", "unlinkFirst", "(Ljava/util/LinkedList$Node;)Ljava/lang/Object;"⟩) ∈ lw_all := lw_g (lw_at lw_ms 18 rfl) rfl
theorem qs19 : (Cond.selects "WhelkFleet" ⟨"WhelkFleet", "outside", "(Ljava/lang/Exception;)Ljava/lang/RuntimeException;"⟩ ⟨"WhelkFleet", "outside", "(Ljava/lang/Exception;)Ljava/lang/RuntimeException;"⟩) ∈ lw_all := lw_g (lw_at lw_ms 19 rfl) rfl
theorem qs20 : (Cond.selects "WhelkFleet" ⟨"WhelkFleet", "boatAt", "(I)LWhelkFleet$Boat;"⟩ ⟨"WhelkFleet", "boatAt", "(I)LWhelkFleet$Boat;"⟩) ∈ lw_all := lw_g (lw_at lw_ms 20 rfl) rfl
theorem qs21 : (Cond.selects "WhelkFleet" ⟨"WhelkFleet", "stringAt", "(I)LWhelkFleet$Line;"⟩ ⟨"WhelkFleet", "stringAt", "(I)LWhelkFleet$Line;"⟩) ∈ lw_all := lw_g (lw_at lw_ms 21 rfl) rfl
theorem qs22 : (Cond.selects "WhelkFleet" ⟨"WhelkFleet", "carriedOut", "()I"⟩ ⟨"WhelkFleet", "carriedOut", "()I"⟩) ∈ lw_all := lw_g (lw_at lw_ms 22 rfl) rfl
theorem qs23 : (Cond.selects "WhelkFleet$Reader" ⟨"WhelkFleet$Reader", "order", "()LWhelkFleet$Deed;"⟩ ⟨"WhelkFleet$Reader", "order", "()LWhelkFleet$Deed;"⟩) ∈ lw_all := lw_g (lw_at lw_ms 23 rfl) rfl
theorem qs24 : (Cond.selects "WhelkFleet$Reader" ⟨"WhelkFleet$Reader", "word", "(Ljava/lang/String;)Ljava/lang/String;"⟩ ⟨"WhelkFleet$Reader", "word", "(Ljava/lang/String;)Ljava/lang/String;"⟩) ∈ lw_all := lw_g (lw_at lw_ms 24 rfl) rfl
theorem qs25 : (Cond.selects "WhelkFleet$Reader" ⟨"WhelkFleet$Reader", "isLetter", "()Z"⟩ ⟨"WhelkFleet$Reader", "isLetter", "()Z"⟩) ∈ lw_all := lw_g (lw_at lw_ms 25 rfl) rfl
theorem qs26 : (Cond.selects "WhelkFleet$Reader" ⟨"WhelkFleet$Reader", "here", "()C"⟩ ⟨"WhelkFleet$Reader", "here", "()C"⟩) ∈ lw_all := lw_g (lw_at lw_ms 26 rfl) rfl
theorem qs27 : (Cond.selects "WhelkFleet$Reader" ⟨"WhelkFleet$Reader", "need", "(Z)V"⟩ ⟨"WhelkFleet$Reader", "need", "(Z)V"⟩) ∈ lw_all := lw_g (lw_at lw_ms 27 rfl) rfl
theorem qs28 : (Cond.selects "WhelkFleet$Reader" ⟨"WhelkFleet$Reader", "takeAll", "(Ljava/lang/String;)V"⟩ ⟨"WhelkFleet$Reader", "takeAll", "(Ljava/lang/String;)V"⟩) ∈ lw_all := lw_g (lw_at lw_ms 28 rfl) rfl
theorem qs29 : (Cond.selects "WhelkFleet$Reader" ⟨"WhelkFleet$Reader", "digit", "()I"⟩ ⟨"WhelkFleet$Reader", "digit", "()I"⟩) ∈ lw_all := lw_g (lw_at lw_ms 29 rfl) rfl
theorem qs30 : (Cond.selects "WhelkFleet$Reader" ⟨"WhelkFleet$Reader", "isDigit", "()Z"⟩ ⟨"WhelkFleet$Reader", "isDigit", "()Z"⟩) ∈ lw_all := lw_g (lw_at lw_ms 30 rfl) rfl
theorem qs31 : (Cond.selects "WhelkFleet$Reader" ⟨"WhelkFleet$Reader", "bait", "()I"⟩ ⟨"WhelkFleet$Reader", "bait", "()I"⟩) ∈ lw_all := lw_g (lw_at lw_ms 31 rfl) rfl
theorem qs32 : (Cond.selects "WhelkFleet$Reader" ⟨"WhelkFleet$Reader", "number", "()I"⟩ ⟨"WhelkFleet$Reader", "number", "()I"⟩) ∈ lw_all := lw_g (lw_at lw_ms 32 rfl) rfl
theorem qs33 : (Cond.selects "java/util/LinkedList" ⟨"java/util/LinkedList", "unlinkLast", "(Ljava/util/LinkedList$Node;)Ljava/lang/Object;"⟩ ⟨"java/util/LinkedList", "unlinkLast", "(Ljava/util/LinkedList$Node;)Ljava/lang/Object;"⟩) ∈ lw_all := lw_g (lw_at lw_ms 33 rfl) rfl
theorem qs34 : (Cond.selects "WhelkFleetModel" ⟨"WhelkFleetModel", "fails", "(I)I"⟩ ⟨"WhelkFleetModel", "fails", "(I)I"⟩) ∈ lw_all := lw_g (lw_at lw_ms 34 rfl) rfl
theorem qs35 : (Cond.selects "WhelkFleetModel" ⟨"WhelkFleetModel", "done", "(I)I"⟩ ⟨"WhelkFleetModel", "done", "(I)I"⟩) ∈ lw_all := lw_g (lw_at lw_ms 35 rfl) rfl
theorem qs36 : (Cond.selects "WhelkFleetModel" ⟨"WhelkFleetModel", "looksBack", "()V"⟩ ⟨"WhelkFleetModel", "looksBack", "()V"⟩) ∈ lw_all := lw_g (lw_at lw_ms 36 rfl) rfl
theorem qs37 : (Cond.selects "WhelkFleetModel" ⟨"WhelkFleetModel", "kept", "(I)I"⟩ ⟨"WhelkFleetModel", "kept", "(I)I"⟩) ∈ lw_all := lw_g (lw_at lw_ms 37 rfl) rfl
theorem qs38 : (Cond.selects "WhelkFleetModel" ⟨"WhelkFleetModel", "refused", "(III)I"⟩ ⟨"WhelkFleetModel", "refused", "(III)I"⟩) ∈ lw_all := lw_g (lw_at lw_ms 38 rfl) rfl
theorem qs39 : (Cond.selects "WhelkFleetModel" ⟨"WhelkFleetModel", "refusedBy", "(IIIII)I"⟩ ⟨"WhelkFleetModel", "refusedBy", "(IIIII)I"⟩) ∈ lw_all := lw_g (lw_at lw_ms 39 rfl) rfl
theorem qs40 : (Cond.selects "WhelkFleetModel" ⟨"WhelkFleetModel", "isBoat", "(I)Z"⟩ ⟨"WhelkFleetModel", "isBoat", "(I)Z"⟩) ∈ lw_all := lw_g (lw_at lw_ms 40 rfl) rfl
theorem qs41 : (Cond.selects "WhelkFleetModel" ⟨"WhelkFleetModel", "isString", "(I)Z"⟩ ⟨"WhelkFleetModel", "isString", "(I)Z"⟩) ∈ lw_all := lw_g (lw_at lw_ms 41 rfl) rfl
theorem qs42 : (Cond.selects "WhelkFleetModel" ⟨"WhelkFleetModel", "daysAt", "(I)I"⟩ ⟨"WhelkFleetModel", "daysAt", "(I)I"⟩) ∈ lw_all := lw_g (lw_at lw_ms 42 rfl) rfl
theorem qs43 : (Cond.selects "WhelkFleetModel" ⟨"WhelkFleetModel", "goesOut", "(II)I"⟩ ⟨"WhelkFleetModel", "goesOut", "(II)I"⟩) ∈ lw_all := lw_g (lw_at lw_ms 43 rfl) rfl
theorem qs44 : (Cond.selects "WhelkFleetModel" ⟨"WhelkFleetModel", "goesHome", "(I)I"⟩ ⟨"WhelkFleetModel", "goesHome", "(I)I"⟩) ∈ lw_all := lw_g (lw_at lw_ms 44 rfl) rfl
theorem qs45 : (Cond.selects "WhelkFleetModel" ⟨"WhelkFleetModel", "shoots", "(III)I"⟩ ⟨"WhelkFleetModel", "shoots", "(III)I"⟩) ∈ lw_all := lw_g (lw_at lw_ms 45 rfl) rfl
theorem qs46 : (Cond.selects "WhelkFleetModel" ⟨"WhelkFleetModel", "hauls", "(II)I"⟩ ⟨"WhelkFleetModel", "hauls", "(II)I"⟩) ∈ lw_all := lw_g (lw_at lw_ms 46 rfl) rfl
theorem qs47 : (Cond.selects "WhelkFleetModel" ⟨"WhelkFleetModel", "drawsOf", "(II)I"⟩ ⟨"WhelkFleetModel", "drawsOf", "(II)I"⟩) ∈ lw_all := lw_g (lw_at lw_ms 47 rfl) rfl
theorem qs48 : (Cond.selects "WhelkFleetModel" ⟨"WhelkFleetModel", "goesBack", "(I)Z"⟩ ⟨"WhelkFleetModel", "goesBack", "(I)Z"⟩) ∈ lw_all := lw_g (lw_at lw_ms 48 rfl) rfl
theorem qs49 : (Cond.selects "WhelkFleetModel" ⟨"WhelkFleetModel", "lands", "(I)I"⟩ ⟨"WhelkFleetModel", "lands", "(I)I"⟩) ∈ lw_all := lw_g (lw_at lw_ms 49 rfl) rfl
theorem qs50 : (Cond.selects "WhelkFleetModel" ⟨"WhelkFleetModel", "inHold", "(I)I"⟩ ⟨"WhelkFleetModel", "inHold", "(I)I"⟩) ∈ lw_all := lw_g (lw_at lw_ms 50 rfl) rfl
theorem qs51 : (Cond.selects "WhelkFleetModel" ⟨"WhelkFleetModel", "brings", "(II)I"⟩ ⟨"WhelkFleetModel", "brings", "(II)I"⟩) ∈ lw_all := lw_g (lw_at lw_ms 51 rfl) rfl
theorem qs52 : (Cond.selects "WhelkFleetModel" ⟨"WhelkFleetModel", "goesDay", "()I"⟩ ⟨"WhelkFleetModel", "goesDay", "()I"⟩) ∈ lw_all := lw_g (lw_at lw_ms 52 rfl) rfl
theorem qs53 : (Cond.selects "WhelkFleetModel" ⟨"WhelkFleetModel", "grows", "(I)V"⟩ ⟨"WhelkFleetModel", "grows", "(I)V"⟩) ∈ lw_all := lw_g (lw_at lw_ms 53 rfl) rfl
theorem qs54 : (Cond.selects "WhelkFleetModel" ⟨"WhelkFleetModel", "bringsNow", "(I)I"⟩ ⟨"WhelkFleetModel", "bringsNow", "(I)I"⟩) ∈ lw_all := lw_g (lw_at lw_ms 54 rfl) rfl
theorem qs55 : (Cond.selects "WhelkFleetModel" ⟨"WhelkFleetModel", "swells", "(I)I"⟩ ⟨"WhelkFleetModel", "swells", "(I)I"⟩) ∈ lw_all := lw_g (lw_at lw_ms 55 rfl) rfl
theorem qs56 : (Cond.selects "WhelkFleetModel" ⟨"WhelkFleetModel", "riddles", "(I)I"⟩ ⟨"WhelkFleetModel", "riddles", "(I)I"⟩) ∈ lw_all := lw_g (lw_at lw_ms 56 rfl) rfl
theorem qs57 : (Cond.selects "WhelkFleetModel" ⟨"WhelkFleetModel", "passes", "(I)I"⟩ ⟨"WhelkFleetModel", "passes", "(I)I"⟩) ∈ lw_all := lw_g (lw_at lw_ms 57 rfl) rfl
theorem qs58 : (Cond.selects "WhelkFleetModel" ⟨"WhelkFleetModel", "ofSize", "(I)I"⟩ ⟨"WhelkFleetModel", "ofSize", "(I)I"⟩) ∈ lw_all := lw_g (lw_at lw_ms 58 rfl) rfl
theorem qs59 : (Cond.selects "WhelkFleetModel" ⟨"WhelkFleetModel", "readsText", "()I"⟩ ⟨"WhelkFleetModel", "readsText", "()I"⟩) ∈ lw_all := lw_g (lw_at lw_ms 59 rfl) rfl
theorem qs60 : (Cond.selects "WhelkFleetModel" ⟨"WhelkFleetModel", "readsOrder", "(I)V"⟩ ⟨"WhelkFleetModel", "readsOrder", "(I)V"⟩) ∈ lw_all := lw_g (lw_at lw_ms 60 rfl) rfl
theorem qs61 : (Cond.selects "WhelkFleetModel" ⟨"WhelkFleetModel", "readsWord", "()I"⟩ ⟨"WhelkFleetModel", "readsWord", "()I"⟩) ∈ lw_all := lw_g (lw_at lw_ms 61 rfl) rfl
theorem qs62 : (Cond.selects "WhelkFleetModel" ⟨"WhelkFleetModel", "isWord", "(I)Z"⟩ ⟨"WhelkFleetModel", "isWord", "(I)Z"⟩) ∈ lw_all := lw_g (lw_at lw_ms 62 rfl) rfl
theorem qs63 : (Cond.selects "WhelkFleetModel" ⟨"WhelkFleetModel", "here", "()I"⟩ ⟨"WhelkFleetModel", "here", "()I"⟩) ∈ lw_all := lw_g (lw_at lw_ms 63 rfl) rfl
theorem qs64 : (Cond.selects "WhelkFleetModel" ⟨"WhelkFleetModel", "needsText", "(Ljava/lang/String;)V"⟩ ⟨"WhelkFleetModel", "needsText", "(Ljava/lang/String;)V"⟩) ∈ lw_all := lw_g (lw_at lw_ms 64 rfl) rfl
theorem qs65 : (Cond.selects "WhelkFleetModel" ⟨"WhelkFleetModel", "needs", "(I)V"⟩ ⟨"WhelkFleetModel", "needs", "(I)V"⟩) ∈ lw_all := lw_g (lw_at lw_ms 65 rfl) rfl
theorem qs66 : (Cond.selects "WhelkFleetModel" ⟨"WhelkFleetModel", "number", "()I"⟩ ⟨"WhelkFleetModel", "number", "()I"⟩) ∈ lw_all := lw_g (lw_at lw_ms 66 rfl) rfl
theorem qs67 : (Cond.selects "WhelkFleetModel" ⟨"WhelkFleetModel", "digit", "()I"⟩ ⟨"WhelkFleetModel", "digit", "()I"⟩) ∈ lw_all := lw_g (lw_at lw_ms 67 rfl) rfl
theorem qs68 : (Cond.selects "WhelkFleetModel" ⟨"WhelkFleetModel", "baitRead", "()I"⟩ ⟨"WhelkFleetModel", "baitRead", "()I"⟩) ∈ lw_all := lw_g (lw_at lw_ms 68 rfl) rfl
theorem qs69 : (Cond.selects "WhelkFleetModel" ⟨"WhelkFleetModel", "does", "(I)I"⟩ ⟨"WhelkFleetModel", "does", "(I)I"⟩) ∈ lw_all := lw_g (lw_at lw_ms 69 rfl) rfl
theorem qs70 : (Cond.selects "WhelkFleetModel" ⟨"WhelkFleetModel", "refusedOrder", "(I)V"⟩ ⟨"WhelkFleetModel", "refusedOrder", "(I)V"⟩) ∈ lw_all := lw_g (lw_at lw_ms 70 rfl) rfl
theorem qs71 : (Cond.selects "WhelkFleetModel" ⟨"WhelkFleetModel", "putsText", "(Ljava/lang/String;)V"⟩ ⟨"WhelkFleetModel", "putsText", "(Ljava/lang/String;)V"⟩) ∈ lw_all := lw_g (lw_at lw_ms 71 rfl) rfl
theorem qs72 : (Cond.selects "WhelkFleetModel" ⟨"WhelkFleetModel", "puts", "(I)V"⟩ ⟨"WhelkFleetModel", "puts", "(I)V"⟩) ∈ lw_all := lw_g (lw_at lw_ms 72 rfl) rfl
theorem qs73 : (Cond.selects "WhelkFleetModel" ⟨"WhelkFleetModel", "putsNumber", "(I)V"⟩ ⟨"WhelkFleetModel", "putsNumber", "(I)V"⟩) ∈ lw_all := lw_g (lw_at lw_ms 73 rfl) rfl
theorem qs74 : (Cond.selects "WhelkFleetModel" ⟨"WhelkFleetModel", "notNone", "(II)I"⟩ ⟨"WhelkFleetModel", "notNone", "(II)I"⟩) ∈ lw_all := lw_g (lw_at lw_ms 74 rfl) rfl
theorem qs75 : (Cond.selects "WhelkFleetModel" ⟨"WhelkFleetModel", "sum", "(II)I"⟩ ⟨"WhelkFleetModel", "sum", "(II)I"⟩) ∈ lw_all := lw_g (lw_at lw_ms 75 rfl) rfl
