-- ===== PART A: goes FIRST, ahead of the names: the tables' words, and 'selects' of the private methods out of them =====
/-- a private method of a class that the tables say can be made, by its rows of tables_1 -/
def lw_okq (q : MethodName × Nat) : Prop := (q.1.cls ≠ "java/lang/invoke/MethodHandle" ∧ q.1.cls ≠ "java/lang/invoke/VarHandle") ∧ Cond.instantiable q.1.cls q.2 ∈ tables_1 ∧ Cond.privateMethod q.1 ∈ tables_1 ∧ Cond.instanceMethod q.1 ∈ tables_1
set_option maxRecDepth 100000
theorem lw_t1 {w : Cond} (h : w ∈ tables_1_1) : w ∈ tables_1 := List.mem_append_left _ h
theorem lw_t2 {w : Cond} (h : w ∈ tables_1_2) : w ∈ tables_1 := List.mem_append_right _ (List.mem_append_left _ h)
theorem lw_t3 {w : Cond} (h : w ∈ tables_1_3) : w ∈ tables_1 := List.mem_append_right _ (List.mem_append_right _ (List.mem_append_left _ h))
theorem lw_t4 {w : Cond} (h : w ∈ tables_1_4) : w ∈ tables_1 := List.mem_append_right _ (List.mem_append_right _ (List.mem_append_right _ (List.mem_append_left _ h)))
theorem lw_t5 {w : Cond} (h : w ∈ tables_1_5) : w ∈ tables_1 := List.mem_append_right _ (List.mem_append_right _ (List.mem_append_right _ (List.mem_append_right _ (List.mem_append_left _ h))))
theorem lw_t6 {w : Cond} (h : w ∈ tables_1_6) : w ∈ tables_1 := List.mem_append_right _ (List.mem_append_right _ (List.mem_append_right _ (List.mem_append_right _ (List.mem_append_right _ (List.mem_append_left _ h)))))
theorem lw_t7 {w : Cond} (h : w ∈ tables_1_7) : w ∈ tables_1 := List.mem_append_right _ (List.mem_append_right _ (List.mem_append_right _ (List.mem_append_right _ (List.mem_append_right _ (List.mem_append_right _ (List.mem_append_left _ h))))))
theorem lw_t8 {w : Cond} (h : w ∈ tables_1_8) : w ∈ tables_1 := List.mem_append_right _ (List.mem_append_right _ (List.mem_append_right _ (List.mem_append_right _ (List.mem_append_right _ (List.mem_append_right _ (List.mem_append_right _ h))))))
theorem lw_p0 : lw_okq (⟨"java/lang/Throwable", "fillInStackTrace", "(I)Ljava/lang/Throwable;"⟩, 6) := ⟨⟨by decide +kernel, by decide +kernel⟩, lw_t1 (List.mem_of_getElem? (i := 71) rfl), lw_t1 (List.mem_of_getElem? (i := 69) rfl), lw_t1 (List.mem_of_getElem? (i := 70) rfl)⟩
theorem lw_p1 : lw_okq (⟨"CarryFair", "made", "(II)LCarryFair$Carrier;"⟩, 20) := ⟨⟨by decide +kernel, by decide +kernel⟩, lw_t1 (List.mem_of_getElem? (i := 26) rfl), lw_t1 (List.mem_of_getElem? (i := 221) rfl), lw_t1 (List.mem_of_getElem? (i := 222) rfl)⟩
theorem lw_p2 : lw_okq (⟨"CarryFair", "finding", "(I)I"⟩, 20) := ⟨⟨by decide +kernel, by decide +kernel⟩, lw_t1 (List.mem_of_getElem? (i := 26) rfl), lw_t2 (List.mem_of_getElem? (i := 146) rfl), lw_t2 (List.mem_of_getElem? (i := 147) rfl)⟩
theorem lw_p3 : lw_okq (⟨"CarryFair", "isCarrier", "(I)Z"⟩, 20) := ⟨⟨by decide +kernel, by decide +kernel⟩, lw_t1 (List.mem_of_getElem? (i := 26) rfl), lw_t2 (List.mem_of_getElem? (i := 159) rfl), lw_t2 (List.mem_of_getElem? (i := 160) rfl)⟩
theorem lw_p4 : lw_okq (⟨"CarryFair", "carrierAt", "(I)LCarryFair$Carrier;"⟩, 20) := ⟨⟨by decide +kernel, by decide +kernel⟩, lw_t1 (List.mem_of_getElem? (i := 26) rfl), lw_t2 (List.mem_of_getElem? (i := 163) rfl), lw_t2 (List.mem_of_getElem? (i := 164) rfl)⟩
theorem lw_p5 : lw_okq (⟨"CarryFair", "bearsOf", "(I)I"⟩, 20) := ⟨⟨by decide +kernel, by decide +kernel⟩, lw_t1 (List.mem_of_getElem? (i := 26) rfl), lw_t2 (List.mem_of_getElem? (i := 196) rfl), lw_t2 (List.mem_of_getElem? (i := 197) rfl)⟩
theorem lw_p6 : lw_okq (⟨"CarryFair", "isErrand", "(I)Z"⟩, 20) := ⟨⟨by decide +kernel, by decide +kernel⟩, lw_t1 (List.mem_of_getElem? (i := 26) rfl), lw_t3 (List.mem_of_getElem? (i := 51) rfl), lw_t3 (List.mem_of_getElem? (i := 52) rfl)⟩
theorem lw_p7 : lw_okq (⟨"CarryFair", "worthOf", "(I)I"⟩, 20) := ⟨⟨by decide +kernel, by decide +kernel⟩, lw_t1 (List.mem_of_getElem? (i := 26) rfl), lw_t3 (List.mem_of_getElem? (i := 55) rfl), lw_t3 (List.mem_of_getElem? (i := 56) rfl)⟩
theorem lw_p8 : lw_okq (⟨"CarryFair", "tells", "(LCarryFair$Carries;[[I)V"⟩, 20) := ⟨⟨by decide +kernel, by decide +kernel⟩, lw_t1 (List.mem_of_getElem? (i := 26) rfl), lw_t3 (List.mem_of_getElem? (i := 59) rfl), lw_t3 (List.mem_of_getElem? (i := 60) rfl)⟩
theorem lw_p9 : lw_okq (⟨"CarryFair", "begins", "(LCarryFair$Carries;[[I)V"⟩, 20) := ⟨⟨by decide +kernel, by decide +kernel⟩, lw_t1 (List.mem_of_getElem? (i := 26) rfl), lw_t3 (List.mem_of_getElem? (i := 63) rfl), lw_t3 (List.mem_of_getElem? (i := 64) rfl)⟩
theorem lw_p10 : lw_okq (⟨"CarryFair", "orNone", "(I)I"⟩, 20) := ⟨⟨by decide +kernel, by decide +kernel⟩, lw_t1 (List.mem_of_getElem? (i := 26) rfl), lw_t3 (List.mem_of_getElem? (i := 103) rfl), lw_t3 (List.mem_of_getElem? (i := 104) rfl)⟩
theorem lw_p11 : lw_okq (⟨"CarryFair", "isWare", "(I)Z"⟩, 20) := ⟨⟨by decide +kernel, by decide +kernel⟩, lw_t1 (List.mem_of_getElem? (i := 26) rfl), lw_t3 (List.mem_of_getElem? (i := 122) rfl), lw_t3 (List.mem_of_getElem? (i := 123) rfl)⟩
theorem lw_p12 : lw_okq (⟨"CarryFair", "farOf", "(III)I"⟩, 20) := ⟨⟨by decide +kernel, by decide +kernel⟩, lw_t1 (List.mem_of_getElem? (i := 26) rfl), lw_t3 (List.mem_of_getElem? (i := 130) rfl), lw_t3 (List.mem_of_getElem? (i := 131) rfl)⟩
theorem lw_p13 : lw_okq (⟨"CarryFair", "tellsFor", "(I)V"⟩, 20) := ⟨⟨by decide +kernel, by decide +kernel⟩, lw_t1 (List.mem_of_getElem? (i := 26) rfl), lw_t3 (List.mem_of_getElem? (i := 134) rfl), lw_t3 (List.mem_of_getElem? (i := 135) rfl)⟩
theorem lw_p14 : lw_okq (⟨"CarryFair", "firstTo", "(III)I"⟩, 20) := ⟨⟨by decide +kernel, by decide +kernel⟩, lw_t1 (List.mem_of_getElem? (i := 26) rfl), lw_t3 (List.mem_of_getElem? (i := 142) rfl), lw_t3 (List.mem_of_getElem? (i := 143) rfl)⟩
theorem lw_p15 : lw_okq (⟨"CarryFair", "canTake", "(II)Z"⟩, 20) := ⟨⟨by decide +kernel, by decide +kernel⟩, lw_t1 (List.mem_of_getElem? (i := 26) rfl), lw_t3 (List.mem_of_getElem? (i := 154) rfl), lw_t3 (List.mem_of_getElem? (i := 155) rfl)⟩
def lw_privs_1 : List (MethodName × Nat) := [(⟨"java/lang/Throwable", "fillInStackTrace", "(I)Ljava/lang/Throwable;"⟩, 6), (⟨"CarryFair", "made", "(II)LCarryFair$Carrier;"⟩, 20), (⟨"CarryFair", "finding", "(I)I"⟩, 20), (⟨"CarryFair", "isCarrier", "(I)Z"⟩, 20), (⟨"CarryFair", "carrierAt", "(I)LCarryFair$Carrier;"⟩, 20), (⟨"CarryFair", "bearsOf", "(I)I"⟩, 20), (⟨"CarryFair", "isErrand", "(I)Z"⟩, 20), (⟨"CarryFair", "worthOf", "(I)I"⟩, 20), (⟨"CarryFair", "tells", "(LCarryFair$Carries;[[I)V"⟩, 20), (⟨"CarryFair", "begins", "(LCarryFair$Carries;[[I)V"⟩, 20), (⟨"CarryFair", "orNone", "(I)I"⟩, 20), (⟨"CarryFair", "isWare", "(I)Z"⟩, 20), (⟨"CarryFair", "farOf", "(III)I"⟩, 20), (⟨"CarryFair", "tellsFor", "(I)V"⟩, 20), (⟨"CarryFair", "firstTo", "(III)I"⟩, 20), (⟨"CarryFair", "canTake", "(II)Z"⟩, 20)]
theorem lw_r1 : ∀ q ∈ lw_privs_1, lw_okq q := List.forall_mem_cons.mpr ⟨lw_p0, List.forall_mem_cons.mpr ⟨lw_p1, List.forall_mem_cons.mpr ⟨lw_p2, List.forall_mem_cons.mpr ⟨lw_p3, List.forall_mem_cons.mpr ⟨lw_p4, List.forall_mem_cons.mpr ⟨lw_p5, List.forall_mem_cons.mpr ⟨lw_p6, List.forall_mem_cons.mpr ⟨lw_p7, List.forall_mem_cons.mpr ⟨lw_p8, List.forall_mem_cons.mpr ⟨lw_p9, List.forall_mem_cons.mpr ⟨lw_p10, List.forall_mem_cons.mpr ⟨lw_p11, List.forall_mem_cons.mpr ⟨lw_p12, List.forall_mem_cons.mpr ⟨lw_p13, List.forall_mem_cons.mpr ⟨lw_p14, List.forall_mem_cons.mpr ⟨lw_p15, fun _ h => absurd h List.not_mem_nil⟩⟩⟩⟩⟩⟩⟩⟩⟩⟩⟩⟩⟩⟩⟩⟩
theorem lw_p16 : lw_okq (⟨"CarryFair", "walks", "(III)I"⟩, 20) := ⟨⟨by decide +kernel, by decide +kernel⟩, lw_t1 (List.mem_of_getElem? (i := 26) rfl), lw_t3 (List.mem_of_getElem? (i := 171) rfl), lw_t3 (List.mem_of_getElem? (i := 172) rfl)⟩
theorem lw_p17 : lw_okq (⟨"CarryFair", "arrives", "(II)I"⟩, 20) := ⟨⟨by decide +kernel, by decide +kernel⟩, lw_t1 (List.mem_of_getElem? (i := 26) rfl), lw_t3 (List.mem_of_getElem? (i := 175) rfl), lw_t3 (List.mem_of_getElem? (i := 176) rfl)⟩
theorem lw_p18 : lw_okq (⟨"CarryFair", "getsOf", "(II)I"⟩, 20) := ⟨⟨by decide +kernel, by decide +kernel⟩, lw_t1 (List.mem_of_getElem? (i := 26) rfl), lw_t3 (List.mem_of_getElem? (i := 179) rfl), lw_t3 (List.mem_of_getElem? (i := 180) rfl)⟩
theorem lw_p19 : lw_okq (⟨"CarryFair", "whyNot", "(II)I"⟩, 20) := ⟨⟨by decide +kernel, by decide +kernel⟩, lw_t1 (List.mem_of_getElem? (i := 26) rfl), lw_t4 (List.mem_of_getElem? (i := 4) rfl), lw_t4 (List.mem_of_getElem? (i := 5) rfl)⟩
theorem lw_p20 : lw_okq (⟨"CarryFair", "isFew", "(I)Z"⟩, 20) := ⟨⟨by decide +kernel, by decide +kernel⟩, lw_t1 (List.mem_of_getElem? (i := 26) rfl), lw_t4 (List.mem_of_getElem? (i := 8) rfl), lw_t4 (List.mem_of_getElem? (i := 9) rfl)⟩
theorem lw_p21 : lw_okq (⟨"CarryFair", "isSet", "(I)Z"⟩, 20) := ⟨⟨by decide +kernel, by decide +kernel⟩, lw_t1 (List.mem_of_getElem? (i := 26) rfl), lw_t4 (List.mem_of_getElem? (i := 12) rfl), lw_t4 (List.mem_of_getElem? (i := 13) rfl)⟩
theorem lw_p22 : lw_okq (⟨"CarryFair", "allLie", "(I)Z"⟩, 20) := ⟨⟨by decide +kernel, by decide +kernel⟩, lw_t1 (List.mem_of_getElem? (i := 26) rfl), lw_t4 (List.mem_of_getElem? (i := 22) rfl), lw_t4 (List.mem_of_getElem? (i := 23) rfl)⟩
theorem lw_p23 : lw_okq (⟨"CarryFair", "isEmpty", "(I)Z"⟩, 20) := ⟨⟨by decide +kernel, by decide +kernel⟩, lw_t1 (List.mem_of_getElem? (i := 26) rfl), lw_t4 (List.mem_of_getElem? (i := 26) rfl), lw_t4 (List.mem_of_getElem? (i := 27) rfl)⟩
theorem lw_p24 : lw_okq (⟨"CarryFair", "roundOf", "(II)I"⟩, 20) := ⟨⟨by decide +kernel, by decide +kernel⟩, lw_t1 (List.mem_of_getElem? (i := 26) rfl), lw_t4 (List.mem_of_getElem? (i := 30) rfl), lw_t4 (List.mem_of_getElem? (i := 31) rfl)⟩
theorem lw_p25 : lw_okq (⟨"CarryFair", "collects", "(I)V"⟩, 20) := ⟨⟨by decide +kernel, by decide +kernel⟩, lw_t1 (List.mem_of_getElem? (i := 26) rfl), lw_t4 (List.mem_of_getElem? (i := 34) rfl), lw_t4 (List.mem_of_getElem? (i := 35) rfl)⟩
theorem lw_p26 : lw_okq (⟨"CarryFair", "goesOn", "(III)V"⟩, 20) := ⟨⟨by decide +kernel, by decide +kernel⟩, lw_t1 (List.mem_of_getElem? (i := 26) rfl), lw_t4 (List.mem_of_getElem? (i := 38) rfl), lw_t4 (List.mem_of_getElem? (i := 39) rfl)⟩
theorem lw_p27 : lw_okq (⟨"CarryFair", "digit", "(II)I"⟩, 20) := ⟨⟨by decide +kernel, by decide +kernel⟩, lw_t1 (List.mem_of_getElem? (i := 26) rfl), lw_t4 (List.mem_of_getElem? (i := 42) rfl), lw_t4 (List.mem_of_getElem? (i := 43) rfl)⟩
theorem lw_p28 : lw_okq (⟨"CarryFair", "doneAt", "(II)I"⟩, 20) := ⟨⟨by decide +kernel, by decide +kernel⟩, lw_t1 (List.mem_of_getElem? (i := 26) rfl), lw_t4 (List.mem_of_getElem? (i := 46) rfl), lw_t4 (List.mem_of_getElem? (i := 47) rfl)⟩
theorem lw_p29 : lw_okq (⟨"CarryFair", "load", "(II)I"⟩, 20) := ⟨⟨by decide +kernel, by decide +kernel⟩, lw_t1 (List.mem_of_getElem? (i := 26) rfl), lw_t4 (List.mem_of_getElem? (i := 50) rfl), lw_t4 (List.mem_of_getElem? (i := 51) rfl)⟩
theorem lw_p30 : lw_okq (⟨"CarryFair", "shortens", "(III)V"⟩, 20) := ⟨⟨by decide +kernel, by decide +kernel⟩, lw_t1 (List.mem_of_getElem? (i := 26) rfl), lw_t4 (List.mem_of_getElem? (i := 54) rfl), lw_t4 (List.mem_of_getElem? (i := 55) rfl)⟩
theorem lw_p31 : lw_okq (⟨"CarryFair", "getsFor", "(II)I"⟩, 20) := ⟨⟨by decide +kernel, by decide +kernel⟩, lw_t1 (List.mem_of_getElem? (i := 26) rfl), lw_t4 (List.mem_of_getElem? (i := 62) rfl), lw_t4 (List.mem_of_getElem? (i := 63) rfl)⟩
def lw_privs_2 : List (MethodName × Nat) := [(⟨"CarryFair", "walks", "(III)I"⟩, 20), (⟨"CarryFair", "arrives", "(II)I"⟩, 20), (⟨"CarryFair", "getsOf", "(II)I"⟩, 20), (⟨"CarryFair", "whyNot", "(II)I"⟩, 20), (⟨"CarryFair", "isFew", "(I)Z"⟩, 20), (⟨"CarryFair", "isSet", "(I)Z"⟩, 20), (⟨"CarryFair", "allLie", "(I)Z"⟩, 20), (⟨"CarryFair", "isEmpty", "(I)Z"⟩, 20), (⟨"CarryFair", "roundOf", "(II)I"⟩, 20), (⟨"CarryFair", "collects", "(I)V"⟩, 20), (⟨"CarryFair", "goesOn", "(III)V"⟩, 20), (⟨"CarryFair", "digit", "(II)I"⟩, 20), (⟨"CarryFair", "doneAt", "(II)I"⟩, 20), (⟨"CarryFair", "load", "(II)I"⟩, 20), (⟨"CarryFair", "shortens", "(III)V"⟩, 20), (⟨"CarryFair", "getsFor", "(II)I"⟩, 20)]
theorem lw_r2 : ∀ q ∈ lw_privs_2, lw_okq q := List.forall_mem_cons.mpr ⟨lw_p16, List.forall_mem_cons.mpr ⟨lw_p17, List.forall_mem_cons.mpr ⟨lw_p18, List.forall_mem_cons.mpr ⟨lw_p19, List.forall_mem_cons.mpr ⟨lw_p20, List.forall_mem_cons.mpr ⟨lw_p21, List.forall_mem_cons.mpr ⟨lw_p22, List.forall_mem_cons.mpr ⟨lw_p23, List.forall_mem_cons.mpr ⟨lw_p24, List.forall_mem_cons.mpr ⟨lw_p25, List.forall_mem_cons.mpr ⟨lw_p26, List.forall_mem_cons.mpr ⟨lw_p27, List.forall_mem_cons.mpr ⟨lw_p28, List.forall_mem_cons.mpr ⟨lw_p29, List.forall_mem_cons.mpr ⟨lw_p30, List.forall_mem_cons.mpr ⟨lw_p31, fun _ h => absurd h List.not_mem_nil⟩⟩⟩⟩⟩⟩⟩⟩⟩⟩⟩⟩⟩⟩⟩⟩
theorem lw_p32 : lw_okq (⟨"CarryFair", "whyNoWare", "(II)I"⟩, 20) := ⟨⟨by decide +kernel, by decide +kernel⟩, lw_t1 (List.mem_of_getElem? (i := 26) rfl), lw_t4 (List.mem_of_getElem? (i := 70) rfl), lw_t4 (List.mem_of_getElem? (i := 71) rfl)⟩
theorem lw_p33 : lw_okq (⟨"CarryFair", "shortestFor", "(II)I"⟩, 20) := ⟨⟨by decide +kernel, by decide +kernel⟩, lw_t1 (List.mem_of_getElem? (i := 26) rfl), lw_t4 (List.mem_of_getElem? (i := 74) rfl), lw_t4 (List.mem_of_getElem? (i := 75) rfl)⟩
theorem lw_p34 : lw_okq (⟨"CarryFair", "whoShortest", "(I)I"⟩, 20) := ⟨⟨by decide +kernel, by decide +kernel⟩, lw_t1 (List.mem_of_getElem? (i := 26) rfl), lw_t4 (List.mem_of_getElem? (i := 86) rfl), lw_t4 (List.mem_of_getElem? (i := 87) rfl)⟩
theorem lw_p35 : lw_okq (⟨"CarryFair", "spared", "(III)I"⟩, 20) := ⟨⟨by decide +kernel, by decide +kernel⟩, lw_t1 (List.mem_of_getElem? (i := 26) rfl), lw_t4 (List.mem_of_getElem? (i := 94) rfl), lw_t4 (List.mem_of_getElem? (i := 95) rfl)⟩
theorem lw_p36 : lw_okq (⟨"CarryFair", "whyNotBoth", "(III)I"⟩, 20) := ⟨⟨by decide +kernel, by decide +kernel⟩, lw_t1 (List.mem_of_getElem? (i := 26) rfl), lw_t4 (List.mem_of_getElem? (i := 102) rfl), lw_t4 (List.mem_of_getElem? (i := 103) rfl)⟩
theorem lw_p37 : lw_okq (⟨"CarryFair", "sharedBy", "(III)I"⟩, 20) := ⟨⟨by decide +kernel, by decide +kernel⟩, lw_t1 (List.mem_of_getElem? (i := 26) rfl), lw_t4 (List.mem_of_getElem? (i := 106) rfl), lw_t4 (List.mem_of_getElem? (i := 107) rfl)⟩
theorem lw_p38 : lw_okq (⟨"CarryFair", "roundWith", "(IIII)I"⟩, 20) := ⟨⟨by decide +kernel, by decide +kernel⟩, lw_t1 (List.mem_of_getElem? (i := 26) rfl), lw_t4 (List.mem_of_getElem? (i := 118) rfl), lw_t4 (List.mem_of_getElem? (i := 119) rfl)⟩
theorem lw_p39 : lw_okq (⟨"CarryFair", "bridged", "(II)I"⟩, 20) := ⟨⟨by decide +kernel, by decide +kernel⟩, lw_t1 (List.mem_of_getElem? (i := 26) rfl), lw_t4 (List.mem_of_getElem? (i := 130) rfl), lw_t4 (List.mem_of_getElem? (i := 131) rfl)⟩
theorem lw_p40 : lw_okq (⟨"CarryFair", "roundBridged", "(IIII)I"⟩, 20) := ⟨⟨by decide +kernel, by decide +kernel⟩, lw_t1 (List.mem_of_getElem? (i := 26) rfl), lw_t4 (List.mem_of_getElem? (i := 134) rfl), lw_t4 (List.mem_of_getElem? (i := 135) rfl)⟩
theorem lw_p41 : lw_okq (⟨"CarryFair", "reachFrom", "(I)I"⟩, 20) := ⟨⟨by decide +kernel, by decide +kernel⟩, lw_t1 (List.mem_of_getElem? (i := 26) rfl), lw_t4 (List.mem_of_getElem? (i := 146) rfl), lw_t4 (List.mem_of_getElem? (i := 147) rfl)⟩
theorem lw_p42 : lw_okq (⟨"CarryFair", "middleOf", "(I)I"⟩, 20) := ⟨⟨by decide +kernel, by decide +kernel⟩, lw_t1 (List.mem_of_getElem? (i := 26) rfl), lw_t4 (List.mem_of_getElem? (i := 154) rfl), lw_t4 (List.mem_of_getElem? (i := 155) rfl)⟩
theorem lw_p43 : lw_okq (⟨"CarryFair", "farthest", "(II)I"⟩, 20) := ⟨⟨by decide +kernel, by decide +kernel⟩, lw_t1 (List.mem_of_getElem? (i := 26) rfl), lw_t4 (List.mem_of_getElem? (i := 162) rfl), lw_t4 (List.mem_of_getElem? (i := 163) rfl)⟩
theorem lw_p44 : lw_okq (⟨"CarryFair", "whyNoDay", "(I)I"⟩, 20) := ⟨⟨by decide +kernel, by decide +kernel⟩, lw_t1 (List.mem_of_getElem? (i := 26) rfl), lw_t4 (List.mem_of_getElem? (i := 175) rfl), lw_t4 (List.mem_of_getElem? (i := 176) rfl)⟩
theorem lw_p45 : lw_okq (⟨"CarryFair", "works", "(I)I"⟩, 20) := ⟨⟨by decide +kernel, by decide +kernel⟩, lw_t1 (List.mem_of_getElem? (i := 26) rfl), lw_t4 (List.mem_of_getElem? (i := 179) rfl), lw_t4 (List.mem_of_getElem? (i := 180) rfl)⟩
theorem lw_p46 : lw_okq (⟨"CarryFair", "takesAll", "(I)V"⟩, 20) := ⟨⟨by decide +kernel, by decide +kernel⟩, lw_t1 (List.mem_of_getElem? (i := 26) rfl), lw_t4 (List.mem_of_getElem? (i := 188) rfl), lw_t4 (List.mem_of_getElem? (i := 189) rfl)⟩
theorem lw_p47 : lw_okq (⟨"CarryFair$Reader", "next", "()V"⟩, 8) := ⟨⟨by decide +kernel, by decide +kernel⟩, lw_t1 (List.mem_of_getElem? (i := 102) rfl), lw_t4 (List.mem_of_getElem? (i := 230) rfl), lw_t4 (List.mem_of_getElem? (i := 231) rfl)⟩
def lw_privs_3 : List (MethodName × Nat) := [(⟨"CarryFair", "whyNoWare", "(II)I"⟩, 20), (⟨"CarryFair", "shortestFor", "(II)I"⟩, 20), (⟨"CarryFair", "whoShortest", "(I)I"⟩, 20), (⟨"CarryFair", "spared", "(III)I"⟩, 20), (⟨"CarryFair", "whyNotBoth", "(III)I"⟩, 20), (⟨"CarryFair", "sharedBy", "(III)I"⟩, 20), (⟨"CarryFair", "roundWith", "(IIII)I"⟩, 20), (⟨"CarryFair", "bridged", "(II)I"⟩, 20), (⟨"CarryFair", "roundBridged", "(IIII)I"⟩, 20), (⟨"CarryFair", "reachFrom", "(I)I"⟩, 20), (⟨"CarryFair", "middleOf", "(I)I"⟩, 20), (⟨"CarryFair", "farthest", "(II)I"⟩, 20), (⟨"CarryFair", "whyNoDay", "(I)I"⟩, 20), (⟨"CarryFair", "works", "(I)I"⟩, 20), (⟨"CarryFair", "takesAll", "(I)V"⟩, 20), (⟨"CarryFair$Reader", "next", "()V"⟩, 8)]
theorem lw_r3 : ∀ q ∈ lw_privs_3, lw_okq q := List.forall_mem_cons.mpr ⟨lw_p32, List.forall_mem_cons.mpr ⟨lw_p33, List.forall_mem_cons.mpr ⟨lw_p34, List.forall_mem_cons.mpr ⟨lw_p35, List.forall_mem_cons.mpr ⟨lw_p36, List.forall_mem_cons.mpr ⟨lw_p37, List.forall_mem_cons.mpr ⟨lw_p38, List.forall_mem_cons.mpr ⟨lw_p39, List.forall_mem_cons.mpr ⟨lw_p40, List.forall_mem_cons.mpr ⟨lw_p41, List.forall_mem_cons.mpr ⟨lw_p42, List.forall_mem_cons.mpr ⟨lw_p43, List.forall_mem_cons.mpr ⟨lw_p44, List.forall_mem_cons.mpr ⟨lw_p45, List.forall_mem_cons.mpr ⟨lw_p46, List.forall_mem_cons.mpr ⟨lw_p47, fun _ h => absurd h List.not_mem_nil⟩⟩⟩⟩⟩⟩⟩⟩⟩⟩⟩⟩⟩⟩⟩⟩
theorem lw_p48 : lw_okq (⟨"CarryFair$Reader", "byteAt", "(I)I"⟩, 8) := ⟨⟨by decide +kernel, by decide +kernel⟩, lw_t1 (List.mem_of_getElem? (i := 102) rfl), lw_t4 (List.mem_of_getElem? (i := 234) rfl), lw_t4 (List.mem_of_getElem? (i := 235) rfl)⟩
theorem lw_p49 : lw_okq (⟨"CarryFair$Reader", "word", "()V"⟩, 8) := ⟨⟨by decide +kernel, by decide +kernel⟩, lw_t1 (List.mem_of_getElem? (i := 102) rfl), lw_t5 (List.mem_of_getElem? (i := 2) rfl), lw_t5 (List.mem_of_getElem? (i := 3) rfl)⟩
theorem lw_p50 : lw_okq (⟨"CarryFair$Reader", "isKey", "(II)Z"⟩, 8) := ⟨⟨by decide +kernel, by decide +kernel⟩, lw_t1 (List.mem_of_getElem? (i := 102) rfl), lw_t5 (List.mem_of_getElem? (i := 6) rfl), lw_t5 (List.mem_of_getElem? (i := 7) rfl)⟩
theorem lw_p51 : lw_okq (⟨"CarryFair$Reader", "need", "(Z)V"⟩, 8) := ⟨⟨by decide +kernel, by decide +kernel⟩, lw_t1 (List.mem_of_getElem? (i := 102) rfl), lw_t5 (List.mem_of_getElem? (i := 51) rfl), lw_t5 (List.mem_of_getElem? (i := 52) rfl)⟩
theorem lw_p52 : lw_okq (⟨"CarryFair$Reader", "digits", "()V"⟩, 8) := ⟨⟨by decide +kernel, by decide +kernel⟩, lw_t1 (List.mem_of_getElem? (i := 102) rfl), lw_t5 (List.mem_of_getElem? (i := 58) rfl), lw_t5 (List.mem_of_getElem? (i := 59) rfl)⟩
theorem lw_p53 : lw_okq (⟨"CarryFair$Reader", "item", "()V"⟩, 8) := ⟨⟨by decide +kernel, by decide +kernel⟩, lw_t1 (List.mem_of_getElem? (i := 102) rfl), lw_t5 (List.mem_of_getElem? (i := 62) rfl), lw_t5 (List.mem_of_getElem? (i := 63) rfl)⟩
theorem lw_p54 : lw_okq (⟨"CarryFair$Reader", "way", "()V"⟩, 8) := ⟨⟨by decide +kernel, by decide +kernel⟩, lw_t1 (List.mem_of_getElem? (i := 102) rfl), lw_t5 (List.mem_of_getElem? (i := 66) rfl), lw_t5 (List.mem_of_getElem? (i := 67) rfl)⟩
theorem lw_p55 : lw_okq (⟨"CarryFair$Reader", "behind", "(II)I"⟩, 8) := ⟨⟨by decide +kernel, by decide +kernel⟩, lw_t1 (List.mem_of_getElem? (i := 102) rfl), lw_t5 (List.mem_of_getElem? (i := 70) rfl), lw_t5 (List.mem_of_getElem? (i := 71) rfl)⟩
theorem lw_p56 : lw_okq (⟨"CarryFair$Reader", "number", "(II)I"⟩, 8) := ⟨⟨by decide +kernel, by decide +kernel⟩, lw_t1 (List.mem_of_getElem? (i := 102) rfl), lw_t5 (List.mem_of_getElem? (i := 74) rfl), lw_t5 (List.mem_of_getElem? (i := 75) rfl)⟩
theorem lw_p57 : lw_okq (⟨"CarryFair$Reader", "unlike", "(I)I"⟩, 8) := ⟨⟨by decide +kernel, by decide +kernel⟩, lw_t1 (List.mem_of_getElem? (i := 102) rfl), lw_t5 (List.mem_of_getElem? (i := 78) rfl), lw_t5 (List.mem_of_getElem? (i := 79) rfl)⟩
theorem lw_p58 : lw_okq (⟨"CarryFair$Reader", "after", "(III)I"⟩, 8) := ⟨⟨by decide +kernel, by decide +kernel⟩, lw_t1 (List.mem_of_getElem? (i := 102) rfl), lw_t5 (List.mem_of_getElem? (i := 82) rfl), lw_t5 (List.mem_of_getElem? (i := 83) rfl)⟩
theorem lw_p59 : lw_okq (⟨"CarryFair$Reader", "isWord", "(I)Z"⟩, 8) := ⟨⟨by decide +kernel, by decide +kernel⟩, lw_t1 (List.mem_of_getElem? (i := 102) rfl), lw_t5 (List.mem_of_getElem? (i := 86) rfl), lw_t5 (List.mem_of_getElem? (i := 87) rfl)⟩
theorem lw_p60 : lw_okq (⟨"CarryFair$Reader", "errand", "()V"⟩, 8) := ⟨⟨by decide +kernel, by decide +kernel⟩, lw_t1 (List.mem_of_getElem? (i := 102) rfl), lw_t5 (List.mem_of_getElem? (i := 91) rfl), lw_t5 (List.mem_of_getElem? (i := 92) rfl)⟩
theorem lw_p61 : lw_okq (⟨"CarryFair$Reader", "ware", "()V"⟩, 8) := ⟨⟨by decide +kernel, by decide +kernel⟩, lw_t1 (List.mem_of_getElem? (i := 102) rfl), lw_t5 (List.mem_of_getElem? (i := 96) rfl), lw_t5 (List.mem_of_getElem? (i := 97) rfl)⟩
theorem lw_p62 : lw_okq (⟨"CarryFair$Reader", "carrier", "(I)V"⟩, 8) := ⟨⟨by decide +kernel, by decide +kernel⟩, lw_t1 (List.mem_of_getElem? (i := 102) rfl), lw_t5 (List.mem_of_getElem? (i := 101) rfl), lw_t5 (List.mem_of_getElem? (i := 102) rfl)⟩
theorem lw_p63 : lw_okq (⟨"CarryFair$Reader", "perhaps", "(IIII)I"⟩, 8) := ⟨⟨by decide +kernel, by decide +kernel⟩, lw_t1 (List.mem_of_getElem? (i := 102) rfl), lw_t5 (List.mem_of_getElem? (i := 105) rfl), lw_t5 (List.mem_of_getElem? (i := 106) rfl)⟩
def lw_privs_4 : List (MethodName × Nat) := [(⟨"CarryFair$Reader", "byteAt", "(I)I"⟩, 8), (⟨"CarryFair$Reader", "word", "()V"⟩, 8), (⟨"CarryFair$Reader", "isKey", "(II)Z"⟩, 8), (⟨"CarryFair$Reader", "need", "(Z)V"⟩, 8), (⟨"CarryFair$Reader", "digits", "()V"⟩, 8), (⟨"CarryFair$Reader", "item", "()V"⟩, 8), (⟨"CarryFair$Reader", "way", "()V"⟩, 8), (⟨"CarryFair$Reader", "behind", "(II)I"⟩, 8), (⟨"CarryFair$Reader", "number", "(II)I"⟩, 8), (⟨"CarryFair$Reader", "unlike", "(I)I"⟩, 8), (⟨"CarryFair$Reader", "after", "(III)I"⟩, 8), (⟨"CarryFair$Reader", "isWord", "(I)Z"⟩, 8), (⟨"CarryFair$Reader", "errand", "()V"⟩, 8), (⟨"CarryFair$Reader", "ware", "()V"⟩, 8), (⟨"CarryFair$Reader", "carrier", "(I)V"⟩, 8), (⟨"CarryFair$Reader", "perhaps", "(IIII)I"⟩, 8)]
theorem lw_r4 : ∀ q ∈ lw_privs_4, lw_okq q := List.forall_mem_cons.mpr ⟨lw_p48, List.forall_mem_cons.mpr ⟨lw_p49, List.forall_mem_cons.mpr ⟨lw_p50, List.forall_mem_cons.mpr ⟨lw_p51, List.forall_mem_cons.mpr ⟨lw_p52, List.forall_mem_cons.mpr ⟨lw_p53, List.forall_mem_cons.mpr ⟨lw_p54, List.forall_mem_cons.mpr ⟨lw_p55, List.forall_mem_cons.mpr ⟨lw_p56, List.forall_mem_cons.mpr ⟨lw_p57, List.forall_mem_cons.mpr ⟨lw_p58, List.forall_mem_cons.mpr ⟨lw_p59, List.forall_mem_cons.mpr ⟨lw_p60, List.forall_mem_cons.mpr ⟨lw_p61, List.forall_mem_cons.mpr ⟨lw_p62, List.forall_mem_cons.mpr ⟨lw_p63, fun _ h => absurd h List.not_mem_nil⟩⟩⟩⟩⟩⟩⟩⟩⟩⟩⟩⟩⟩⟩⟩⟩
theorem lw_p64 : lw_okq (⟨"CarryFair", "thingAt", "(I)Ljava/lang/Object;"⟩, 20) := ⟨⟨by decide +kernel, by decide +kernel⟩, lw_t1 (List.mem_of_getElem? (i := 26) rfl), lw_t5 (List.mem_of_getElem? (i := 121) rfl), lw_t5 (List.mem_of_getElem? (i := 122) rfl)⟩
theorem lw_p65 : lw_okq (⟨"CarryFair", "rowAt", "(I)Ljava/lang/Object;"⟩, 20) := ⟨⟨by decide +kernel, by decide +kernel⟩, lw_t1 (List.mem_of_getElem? (i := 26) rfl), lw_t5 (List.mem_of_getElem? (i := 161) rfl), lw_t5 (List.mem_of_getElem? (i := 162) rfl)⟩
theorem lw_p66 : lw_okq (⟨"CarryFair", "need", "(ZI)V"⟩, 20) := ⟨⟨by decide +kernel, by decide +kernel⟩, lw_t1 (List.mem_of_getElem? (i := 26) rfl), lw_t5 (List.mem_of_getElem? (i := 165) rfl), lw_t5 (List.mem_of_getElem? (i := 166) rfl)⟩
theorem lw_p67 : lw_okq (⟨"CarryFair", "refused", "(I)LCarryFair$Refusal;"⟩, 20) := ⟨⟨by decide +kernel, by decide +kernel⟩, lw_t1 (List.mem_of_getElem? (i := 26) rfl), lw_t5 (List.mem_of_getElem? (i := 169) rfl), lw_t5 (List.mem_of_getElem? (i := 170) rfl)⟩
theorem lw_p68 : lw_okq (⟨"CarryFair", "loads", "(Ljava/lang/Object;)I"⟩, 20) := ⟨⟨by decide +kernel, by decide +kernel⟩, lw_t1 (List.mem_of_getElem? (i := 26) rfl), lw_t5 (List.mem_of_getElem? (i := 197) rfl), lw_t5 (List.mem_of_getElem? (i := 198) rfl)⟩
theorem lw_p69 : lw_okq (⟨"CarryFair", "gotOn", "(Ljava/lang/Object;I)I"⟩, 20) := ⟨⟨by decide +kernel, by decide +kernel⟩, lw_t1 (List.mem_of_getElem? (i := 26) rfl), lw_t5 (List.mem_of_getElem? (i := 208) rfl), lw_t5 (List.mem_of_getElem? (i := 209) rfl)⟩
theorem lw_p70 : lw_okq (⟨"CarryFair", "holding", "()I"⟩, 20) := ⟨⟨by decide +kernel, by decide +kernel⟩, lw_t1 (List.mem_of_getElem? (i := 26) rfl), lw_t5 (List.mem_of_getElem? (i := 228) rfl), lw_t5 (List.mem_of_getElem? (i := 229) rfl)⟩
theorem lw_p71 : lw_okq (⟨"CarryFairModel", "finding", "(I)I"⟩, 30) := ⟨⟨by decide +kernel, by decide +kernel⟩, lw_t5 (List.mem_of_getElem? (i := 236) rfl), lw_t6 (List.mem_of_getElem? (i := 113) rfl), lw_t6 (List.mem_of_getElem? (i := 114) rfl)⟩
theorem lw_p72 : lw_okq (⟨"CarryFairModel", "newCarrier", "(III)I"⟩, 30) := ⟨⟨by decide +kernel, by decide +kernel⟩, lw_t5 (List.mem_of_getElem? (i := 236) rfl), lw_t6 (List.mem_of_getElem? (i := 118) rfl), lw_t6 (List.mem_of_getElem? (i := 119) rfl)⟩
theorem lw_p73 : lw_okq (⟨"CarryFairModel", "isCarrier", "(I)Z"⟩, 30) := ⟨⟨by decide +kernel, by decide +kernel⟩, lw_t5 (List.mem_of_getElem? (i := 236) rfl), lw_t6 (List.mem_of_getElem? (i := 129) rfl), lw_t6 (List.mem_of_getElem? (i := 130) rfl)⟩
theorem lw_p74 : lw_okq (⟨"CarryFairModel", "bears", "(I)I"⟩, 30) := ⟨⟨by decide +kernel, by decide +kernel⟩, lw_t5 (List.mem_of_getElem? (i := 236) rfl), lw_t6 (List.mem_of_getElem? (i := 133) rfl), lw_t6 (List.mem_of_getElem? (i := 134) rfl)⟩
theorem lw_p75 : lw_okq (⟨"CarryFairModel", "cIs", "(II)I"⟩, 30) := ⟨⟨by decide +kernel, by decide +kernel⟩, lw_t5 (List.mem_of_getElem? (i := 236) rfl), lw_t6 (List.mem_of_getElem? (i := 137) rfl), lw_t6 (List.mem_of_getElem? (i := 138) rfl)⟩
theorem lw_p76 : lw_okq (⟨"CarryFairModel", "carries", "(I)I"⟩, 30) := ⟨⟨by decide +kernel, by decide +kernel⟩, lw_t5 (List.mem_of_getElem? (i := 236) rfl), lw_t6 (List.mem_of_getElem? (i := 147) rfl), lw_t6 (List.mem_of_getElem? (i := 148) rfl)⟩
theorem lw_p77 : lw_okq (⟨"CarryFairModel", "eIs", "(II)I"⟩, 30) := ⟨⟨by decide +kernel, by decide +kernel⟩, lw_t5 (List.mem_of_getElem? (i := 236) rfl), lw_t6 (List.mem_of_getElem? (i := 151) rfl), lw_t6 (List.mem_of_getElem? (i := 152) rfl)⟩
theorem lw_p78 : lw_okq (⟨"CarryFairModel", "weighs", "(I)I"⟩, 30) := ⟨⟨by decide +kernel, by decide +kernel⟩, lw_t5 (List.mem_of_getElem? (i := 236) rfl), lw_t6 (List.mem_of_getElem? (i := 158) rfl), lw_t6 (List.mem_of_getElem? (i := 159) rfl)⟩
theorem lw_p79 : lw_okq (⟨"CarryFairModel", "become", "(II)I"⟩, 30) := ⟨⟨by decide +kernel, by decide +kernel⟩, lw_t5 (List.mem_of_getElem? (i := 236) rfl), lw_t6 (List.mem_of_getElem? (i := 173) rfl), lw_t6 (List.mem_of_getElem? (i := 174) rfl)⟩
def lw_privs_5 : List (MethodName × Nat) := [(⟨"CarryFair", "thingAt", "(I)Ljava/lang/Object;"⟩, 20), (⟨"CarryFair", "rowAt", "(I)Ljava/lang/Object;"⟩, 20), (⟨"CarryFair", "need", "(ZI)V"⟩, 20), (⟨"CarryFair", "refused", "(I)LCarryFair$Refusal;"⟩, 20), (⟨"CarryFair", "loads", "(Ljava/lang/Object;)I"⟩, 20), (⟨"CarryFair", "gotOn", "(Ljava/lang/Object;I)I"⟩, 20), (⟨"CarryFair", "holding", "()I"⟩, 20), (⟨"CarryFairModel", "finding", "(I)I"⟩, 30), (⟨"CarryFairModel", "newCarrier", "(III)I"⟩, 30), (⟨"CarryFairModel", "isCarrier", "(I)Z"⟩, 30), (⟨"CarryFairModel", "bears", "(I)I"⟩, 30), (⟨"CarryFairModel", "cIs", "(II)I"⟩, 30), (⟨"CarryFairModel", "carries", "(I)I"⟩, 30), (⟨"CarryFairModel", "eIs", "(II)I"⟩, 30), (⟨"CarryFairModel", "weighs", "(I)I"⟩, 30), (⟨"CarryFairModel", "become", "(II)I"⟩, 30)]
theorem lw_r5 : ∀ q ∈ lw_privs_5, lw_okq q := List.forall_mem_cons.mpr ⟨lw_p64, List.forall_mem_cons.mpr ⟨lw_p65, List.forall_mem_cons.mpr ⟨lw_p66, List.forall_mem_cons.mpr ⟨lw_p67, List.forall_mem_cons.mpr ⟨lw_p68, List.forall_mem_cons.mpr ⟨lw_p69, List.forall_mem_cons.mpr ⟨lw_p70, List.forall_mem_cons.mpr ⟨lw_p71, List.forall_mem_cons.mpr ⟨lw_p72, List.forall_mem_cons.mpr ⟨lw_p73, List.forall_mem_cons.mpr ⟨lw_p74, List.forall_mem_cons.mpr ⟨lw_p75, List.forall_mem_cons.mpr ⟨lw_p76, List.forall_mem_cons.mpr ⟨lw_p77, List.forall_mem_cons.mpr ⟨lw_p78, List.forall_mem_cons.mpr ⟨lw_p79, fun _ h => absurd h List.not_mem_nil⟩⟩⟩⟩⟩⟩⟩⟩⟩⟩⟩⟩⟩⟩⟩⟩
theorem lw_p80 : lw_okq (⟨"CarryFairModel", "wayIs", "(IIII)I"⟩, 30) := ⟨⟨by decide +kernel, by decide +kernel⟩, lw_t5 (List.mem_of_getElem? (i := 236) rfl), lw_t6 (List.mem_of_getElem? (i := 181) rfl), lw_t6 (List.mem_of_getElem? (i := 182) rfl)⟩
theorem lw_p81 : lw_okq (⟨"CarryFairModel", "newErrand", "(III)I"⟩, 30) := ⟨⟨by decide +kernel, by decide +kernel⟩, lw_t5 (List.mem_of_getElem? (i := 236) rfl), lw_t6 (List.mem_of_getElem? (i := 198) rfl), lw_t6 (List.mem_of_getElem? (i := 199) rfl)⟩
theorem lw_p82 : lw_okq (⟨"CarryFairModel", "isErrand", "(I)Z"⟩, 30) := ⟨⟨by decide +kernel, by decide +kernel⟩, lw_t5 (List.mem_of_getElem? (i := 236) rfl), lw_t6 (List.mem_of_getElem? (i := 206) rfl), lw_t6 (List.mem_of_getElem? (i := 207) rfl)⟩
theorem lw_p83 : lw_okq (⟨"CarryFairModel", "worthOf", "(I)I"⟩, 30) := ⟨⟨by decide +kernel, by decide +kernel⟩, lw_t5 (List.mem_of_getElem? (i := 236) rfl), lw_t6 (List.mem_of_getElem? (i := 210) rfl), lw_t6 (List.mem_of_getElem? (i := 211) rfl)⟩
theorem lw_p84 : lw_okq (⟨"CarryFairModel", "farFor", "(III)I"⟩, 30) := ⟨⟨by decide +kernel, by decide +kernel⟩, lw_t5 (List.mem_of_getElem? (i := 236) rfl), lw_t6 (List.mem_of_getElem? (i := 214) rfl), lw_t6 (List.mem_of_getElem? (i := 215) rfl)⟩
theorem lw_p85 : lw_okq (⟨"CarryFairModel", "findFar", "(I)V"⟩, 30) := ⟨⟨by decide +kernel, by decide +kernel⟩, lw_t5 (List.mem_of_getElem? (i := 236) rfl), lw_t6 (List.mem_of_getElem? (i := 218) rfl), lw_t6 (List.mem_of_getElem? (i := 219) rfl)⟩
theorem lw_p86 : lw_okq (⟨"CarryFairModel", "counts", "(III)I"⟩, 30) := ⟨⟨by decide +kernel, by decide +kernel⟩, lw_t5 (List.mem_of_getElem? (i := 236) rfl), lw_t6 (List.mem_of_getElem? (i := 223) rfl), lw_t6 (List.mem_of_getElem? (i := 224) rfl)⟩
theorem lw_p87 : lw_okq (⟨"CarryFairModel", "newWare", "(I)I"⟩, 30) := ⟨⟨by decide +kernel, by decide +kernel⟩, lw_t5 (List.mem_of_getElem? (i := 236) rfl), lw_t6 (List.mem_of_getElem? (i := 232) rfl), lw_t6 (List.mem_of_getElem? (i := 233) rfl)⟩
theorem lw_p88 : lw_okq (⟨"CarryFairModel", "isWare", "(I)Z"⟩, 30) := ⟨⟨by decide +kernel, by decide +kernel⟩, lw_t5 (List.mem_of_getElem? (i := 236) rfl), lw_t7 (List.mem_of_getElem? (i := 3) rfl), lw_t7 (List.mem_of_getElem? (i := 4) rfl)⟩
theorem lw_p89 : lw_okq (⟨"CarryFairModel", "liesAt", "(II)Z"⟩, 30) := ⟨⟨by decide +kernel, by decide +kernel⟩, lw_t5 (List.mem_of_getElem? (i := 236) rfl), lw_t7 (List.mem_of_getElem? (i := 19) rfl), lw_t7 (List.mem_of_getElem? (i := 20) rfl)⟩
theorem lw_p90 : lw_okq (⟨"CarryFairModel", "fitsTo", "(II)Z"⟩, 30) := ⟨⟨by decide +kernel, by decide +kernel⟩, lw_t5 (List.mem_of_getElem? (i := 236) rfl), lw_t7 (List.mem_of_getElem? (i := 24) rfl), lw_t7 (List.mem_of_getElem? (i := 25) rfl)⟩
theorem lw_p91 : lw_okq (⟨"CarryFairModel", "taken", "(II)V"⟩, 30) := ⟨⟨by decide +kernel, by decide +kernel⟩, lw_t5 (List.mem_of_getElem? (i := 236) rfl), lw_t7 (List.mem_of_getElem? (i := 28) rfl), lw_t7 (List.mem_of_getElem? (i := 29) rfl)⟩
theorem lw_p92 : lw_okq (⟨"CarryFairModel", "walked", "(II)I"⟩, 30) := ⟨⟨by decide +kernel, by decide +kernel⟩, lw_t5 (List.mem_of_getElem? (i := 236) rfl), lw_t7 (List.mem_of_getElem? (i := 40) rfl), lw_t7 (List.mem_of_getElem? (i := 41) rfl)⟩
theorem lw_p93 : lw_okq (⟨"CarryFairModel", "getsFor", "(II)I"⟩, 30) := ⟨⟨by decide +kernel, by decide +kernel⟩, lw_t5 (List.mem_of_getElem? (i := 236) rfl), lw_t7 (List.mem_of_getElem? (i := 44) rfl), lw_t7 (List.mem_of_getElem? (i := 45) rfl)⟩
theorem lw_p94 : lw_okq (⟨"CarryFairModel", "errandsThat", "(I)I"⟩, 30) := ⟨⟨by decide +kernel, by decide +kernel⟩, lw_t5 (List.mem_of_getElem? (i := 236) rfl), lw_t7 (List.mem_of_getElem? (i := 56) rfl), lw_t7 (List.mem_of_getElem? (i := 57) rfl)⟩
theorem lw_p95 : lw_okq (⟨"CarryFairModel", "ofAll", "(I)I"⟩, 30) := ⟨⟨by decide +kernel, by decide +kernel⟩, lw_t5 (List.mem_of_getElem? (i := 236) rfl), lw_t7 (List.mem_of_getElem? (i := 60) rfl), lw_t7 (List.mem_of_getElem? (i := 61) rfl)⟩
def lw_privs_6 : List (MethodName × Nat) := [(⟨"CarryFairModel", "wayIs", "(IIII)I"⟩, 30), (⟨"CarryFairModel", "newErrand", "(III)I"⟩, 30), (⟨"CarryFairModel", "isErrand", "(I)Z"⟩, 30), (⟨"CarryFairModel", "worthOf", "(I)I"⟩, 30), (⟨"CarryFairModel", "farFor", "(III)I"⟩, 30), (⟨"CarryFairModel", "findFar", "(I)V"⟩, 30), (⟨"CarryFairModel", "counts", "(III)I"⟩, 30), (⟨"CarryFairModel", "newWare", "(I)I"⟩, 30), (⟨"CarryFairModel", "isWare", "(I)Z"⟩, 30), (⟨"CarryFairModel", "liesAt", "(II)Z"⟩, 30), (⟨"CarryFairModel", "fitsTo", "(II)Z"⟩, 30), (⟨"CarryFairModel", "taken", "(II)V"⟩, 30), (⟨"CarryFairModel", "walked", "(II)I"⟩, 30), (⟨"CarryFairModel", "getsFor", "(II)I"⟩, 30), (⟨"CarryFairModel", "errandsThat", "(I)I"⟩, 30), (⟨"CarryFairModel", "ofAll", "(I)I"⟩, 30)]
theorem lw_r6 : ∀ q ∈ lw_privs_6, lw_okq q := List.forall_mem_cons.mpr ⟨lw_p80, List.forall_mem_cons.mpr ⟨lw_p81, List.forall_mem_cons.mpr ⟨lw_p82, List.forall_mem_cons.mpr ⟨lw_p83, List.forall_mem_cons.mpr ⟨lw_p84, List.forall_mem_cons.mpr ⟨lw_p85, List.forall_mem_cons.mpr ⟨lw_p86, List.forall_mem_cons.mpr ⟨lw_p87, List.forall_mem_cons.mpr ⟨lw_p88, List.forall_mem_cons.mpr ⟨lw_p89, List.forall_mem_cons.mpr ⟨lw_p90, List.forall_mem_cons.mpr ⟨lw_p91, List.forall_mem_cons.mpr ⟨lw_p92, List.forall_mem_cons.mpr ⟨lw_p93, List.forall_mem_cons.mpr ⟨lw_p94, List.forall_mem_cons.mpr ⟨lw_p95, fun _ h => absurd h List.not_mem_nil⟩⟩⟩⟩⟩⟩⟩⟩⟩⟩⟩⟩⟩⟩⟩⟩
theorem lw_p96 : lw_okq (⟨"CarryFairModel", "refuses", "(II)I"⟩, 30) := ⟨⟨by decide +kernel, by decide +kernel⟩, lw_t5 (List.mem_of_getElem? (i := 236) rfl), lw_t7 (List.mem_of_getElem? (i := 68) rfl), lw_t7 (List.mem_of_getElem? (i := 69) rfl)⟩
theorem lw_p97 : lw_okq (⟨"CarryFairModel", "isSet", "(II)Z"⟩, 30) := ⟨⟨by decide +kernel, by decide +kernel⟩, lw_t5 (List.mem_of_getElem? (i := 236) rfl), lw_t7 (List.mem_of_getElem? (i := 72) rfl), lw_t7 (List.mem_of_getElem? (i := 73) rfl)⟩
theorem lw_p98 : lw_okq (⟨"CarryFairModel", "allLie", "(I)Z"⟩, 30) := ⟨⟨by decide +kernel, by decide +kernel⟩, lw_t5 (List.mem_of_getElem? (i := 236) rfl), lw_t7 (List.mem_of_getElem? (i := 79) rfl), lw_t7 (List.mem_of_getElem? (i := 80) rfl)⟩
theorem lw_p99 : lw_okq (⟨"CarryFairModel", "roundOf", "(II)I"⟩, 30) := ⟨⟨by decide +kernel, by decide +kernel⟩, lw_t5 (List.mem_of_getElem? (i := 236) rfl), lw_t7 (List.mem_of_getElem? (i := 83) rfl), lw_t7 (List.mem_of_getElem? (i := 84) rfl)⟩
theorem lw_p100 : lw_okq (⟨"CarryFairModel", "walkOn", "(II)V"⟩, 30) := ⟨⟨by decide +kernel, by decide +kernel⟩, lw_t5 (List.mem_of_getElem? (i := 236) rfl), lw_t7 (List.mem_of_getElem? (i := 87) rfl), lw_t7 (List.mem_of_getElem? (i := 88) rfl)⟩
theorem lw_p101 : lw_okq (⟨"CarryFairModel", "digit", "(II)I"⟩, 30) := ⟨⟨by decide +kernel, by decide +kernel⟩, lw_t5 (List.mem_of_getElem? (i := 236) rfl), lw_t7 (List.mem_of_getElem? (i := 91) rfl), lw_t7 (List.mem_of_getElem? (i := 92) rfl)⟩
theorem lw_p102 : lw_okq (⟨"CarryFairModel", "shorter", "(III)V"⟩, 30) := ⟨⟨by decide +kernel, by decide +kernel⟩, lw_t5 (List.mem_of_getElem? (i := 236) rfl), lw_t7 (List.mem_of_getElem? (i := 95) rfl), lw_t7 (List.mem_of_getElem? (i := 96) rfl)⟩
theorem lw_p103 : lw_okq (⟨"CarryFairModel", "takeOn", "(III)V"⟩, 30) := ⟨⟨by decide +kernel, by decide +kernel⟩, lw_t5 (List.mem_of_getElem? (i := 236) rfl), lw_t7 (List.mem_of_getElem? (i := 99) rfl), lw_t7 (List.mem_of_getElem? (i := 100) rfl)⟩
theorem lw_p104 : lw_okq (⟨"CarryFairModel", "told", "(I)I"⟩, 30) := ⟨⟨by decide +kernel, by decide +kernel⟩, lw_t5 (List.mem_of_getElem? (i := 236) rfl), lw_t7 (List.mem_of_getElem? (i := 103) rfl), lw_t7 (List.mem_of_getElem? (i := 104) rfl)⟩
theorem lw_p105 : lw_okq (⟨"CarryFairModel", "getsOf", "(II)I"⟩, 30) := ⟨⟨by decide +kernel, by decide +kernel⟩, lw_t5 (List.mem_of_getElem? (i := 236) rfl), lw_t7 (List.mem_of_getElem? (i := 111) rfl), lw_t7 (List.mem_of_getElem? (i := 112) rfl)⟩
theorem lw_p106 : lw_okq (⟨"CarryFairModel", "refusesWare", "(II)I"⟩, 30) := ⟨⟨by decide +kernel, by decide +kernel⟩, lw_t5 (List.mem_of_getElem? (i := 236) rfl), lw_t7 (List.mem_of_getElem? (i := 119) rfl), lw_t7 (List.mem_of_getElem? (i := 120) rfl)⟩
theorem lw_p107 : lw_okq (⟨"CarryFairModel", "refusesShared", "(III)I"⟩, 30) := ⟨⟨by decide +kernel, by decide +kernel⟩, lw_t5 (List.mem_of_getElem? (i := 236) rfl), lw_t7 (List.mem_of_getElem? (i := 139) rfl), lw_t7 (List.mem_of_getElem? (i := 140) rfl)⟩
theorem lw_p108 : lw_okq (⟨"CarryFairModel", "refusesBridge", "(II)I"⟩, 30) := ⟨⟨by decide +kernel, by decide +kernel⟩, lw_t5 (List.mem_of_getElem? (i := 236) rfl), lw_t7 (List.mem_of_getElem? (i := 159) rfl), lw_t7 (List.mem_of_getElem? (i := 160) rfl)⟩
theorem lw_p109 : lw_okq (⟨"CarryFairModel", "refusesDays", "(I)I"⟩, 30) := ⟨⟨by decide +kernel, by decide +kernel⟩, lw_t5 (List.mem_of_getElem? (i := 236) rfl), lw_t7 (List.mem_of_getElem? (i := 183) rfl), lw_t7 (List.mem_of_getElem? (i := 184) rfl)⟩
theorem lw_p110 : lw_okq (⟨"CarryFairModel", "days", "(I)I"⟩, 30) := ⟨⟨by decide +kernel, by decide +kernel⟩, lw_t5 (List.mem_of_getElem? (i := 236) rfl), lw_t7 (List.mem_of_getElem? (i := 187) rfl), lw_t7 (List.mem_of_getElem? (i := 188) rfl)⟩
theorem lw_p111 : lw_okq (⟨"CarryFairModel", "drawn", "(I)I"⟩, 30) := ⟨⟨by decide +kernel, by decide +kernel⟩, lw_t5 (List.mem_of_getElem? (i := 236) rfl), lw_t7 (List.mem_of_getElem? (i := 191) rfl), lw_t7 (List.mem_of_getElem? (i := 192) rfl)⟩
def lw_privs_7 : List (MethodName × Nat) := [(⟨"CarryFairModel", "refuses", "(II)I"⟩, 30), (⟨"CarryFairModel", "isSet", "(II)Z"⟩, 30), (⟨"CarryFairModel", "allLie", "(I)Z"⟩, 30), (⟨"CarryFairModel", "roundOf", "(II)I"⟩, 30), (⟨"CarryFairModel", "walkOn", "(II)V"⟩, 30), (⟨"CarryFairModel", "digit", "(II)I"⟩, 30), (⟨"CarryFairModel", "shorter", "(III)V"⟩, 30), (⟨"CarryFairModel", "takeOn", "(III)V"⟩, 30), (⟨"CarryFairModel", "told", "(I)I"⟩, 30), (⟨"CarryFairModel", "getsOf", "(II)I"⟩, 30), (⟨"CarryFairModel", "refusesWare", "(II)I"⟩, 30), (⟨"CarryFairModel", "refusesShared", "(III)I"⟩, 30), (⟨"CarryFairModel", "refusesBridge", "(II)I"⟩, 30), (⟨"CarryFairModel", "refusesDays", "(I)I"⟩, 30), (⟨"CarryFairModel", "days", "(I)I"⟩, 30), (⟨"CarryFairModel", "drawn", "(I)I"⟩, 30)]
theorem lw_r7 : ∀ q ∈ lw_privs_7, lw_okq q := List.forall_mem_cons.mpr ⟨lw_p96, List.forall_mem_cons.mpr ⟨lw_p97, List.forall_mem_cons.mpr ⟨lw_p98, List.forall_mem_cons.mpr ⟨lw_p99, List.forall_mem_cons.mpr ⟨lw_p100, List.forall_mem_cons.mpr ⟨lw_p101, List.forall_mem_cons.mpr ⟨lw_p102, List.forall_mem_cons.mpr ⟨lw_p103, List.forall_mem_cons.mpr ⟨lw_p104, List.forall_mem_cons.mpr ⟨lw_p105, List.forall_mem_cons.mpr ⟨lw_p106, List.forall_mem_cons.mpr ⟨lw_p107, List.forall_mem_cons.mpr ⟨lw_p108, List.forall_mem_cons.mpr ⟨lw_p109, List.forall_mem_cons.mpr ⟨lw_p110, List.forall_mem_cons.mpr ⟨lw_p111, fun _ h => absurd h List.not_mem_nil⟩⟩⟩⟩⟩⟩⟩⟩⟩⟩⟩⟩⟩⟩⟩⟩
theorem lw_p112 : lw_okq (⟨"CarryFairModel", "takesAll", "(I)V"⟩, 30) := ⟨⟨by decide +kernel, by decide +kernel⟩, lw_t5 (List.mem_of_getElem? (i := 236) rfl), lw_t7 (List.mem_of_getElem? (i := 196) rfl), lw_t7 (List.mem_of_getElem? (i := 197) rfl)⟩
theorem lw_p113 : lw_okq (⟨"CarryFairModel", "putBack", "(I)I"⟩, 30) := ⟨⟨by decide +kernel, by decide +kernel⟩, lw_t5 (List.mem_of_getElem? (i := 236) rfl), lw_t7 (List.mem_of_getElem? (i := 207) rfl), lw_t7 (List.mem_of_getElem? (i := 208) rfl)⟩
theorem lw_p114 : lw_okq (⟨"CarryFairModel", "next", "()V"⟩, 30) := ⟨⟨by decide +kernel, by decide +kernel⟩, lw_t5 (List.mem_of_getElem? (i := 236) rfl), lw_t7 (List.mem_of_getElem? (i := 227) rfl), lw_t7 (List.mem_of_getElem? (i := 228) rfl)⟩
theorem lw_p115 : lw_okq (⟨"CarryFairModel", "byteAt", "(I)I"⟩, 30) := ⟨⟨by decide +kernel, by decide +kernel⟩, lw_t5 (List.mem_of_getElem? (i := 236) rfl), lw_t7 (List.mem_of_getElem? (i := 231) rfl), lw_t7 (List.mem_of_getElem? (i := 232) rfl)⟩
theorem lw_p116 : lw_okq (⟨"CarryFairModel", "readItem", "()V"⟩, 30) := ⟨⟨by decide +kernel, by decide +kernel⟩, lw_t5 (List.mem_of_getElem? (i := 236) rfl), lw_t7 (List.mem_of_getElem? (i := 235) rfl), lw_t7 (List.mem_of_getElem? (i := 236) rfl)⟩
theorem lw_p117 : lw_okq (⟨"CarryFairModel", "kindTold", "()I"⟩, 30) := ⟨⟨by decide +kernel, by decide +kernel⟩, lw_t5 (List.mem_of_getElem? (i := 236) rfl), lw_t7 (List.mem_of_getElem? (i := 239) rfl), lw_t8 (List.mem_of_getElem? (i := 0) rfl)⟩
theorem lw_p118 : lw_okq (⟨"CarryFairModel", "isWord", "(Ljava/lang/String;)Z"⟩, 30) := ⟨⟨by decide +kernel, by decide +kernel⟩, lw_t5 (List.mem_of_getElem? (i := 236) rfl), lw_t8 (List.mem_of_getElem? (i := 3) rfl), lw_t8 (List.mem_of_getElem? (i := 4) rfl)⟩
theorem lw_p119 : lw_okq (⟨"CarryFairModel", "must", "(Z)V"⟩, 30) := ⟨⟨by decide +kernel, by decide +kernel⟩, lw_t5 (List.mem_of_getElem? (i := 236) rfl), lw_t8 (List.mem_of_getElem? (i := 16) rfl), lw_t8 (List.mem_of_getElem? (i := 17) rfl)⟩
theorem lw_p120 : lw_okq (⟨"CarryFairModel", "isNext", "(Ljava/lang/String;)Z"⟩, 30) := ⟨⟨by decide +kernel, by decide +kernel⟩, lw_t5 (List.mem_of_getElem? (i := 236) rfl), lw_t8 (List.mem_of_getElem? (i := 21) rfl), lw_t8 (List.mem_of_getElem? (i := 22) rfl)⟩
theorem lw_p121 : lw_okq (⟨"CarryFairModel", "number", "(II)I"⟩, 30) := ⟨⟨by decide +kernel, by decide +kernel⟩, lw_t5 (List.mem_of_getElem? (i := 236) rfl), lw_t8 (List.mem_of_getElem? (i := 25) rfl), lw_t8 (List.mem_of_getElem? (i := 26) rfl)⟩
theorem lw_p122 : lw_okq (⟨"CarryFairModel", "item", "(IIIII)V"⟩, 30) := ⟨⟨by decide +kernel, by decide +kernel⟩, lw_t5 (List.mem_of_getElem? (i := 236) rfl), lw_t8 (List.mem_of_getElem? (i := 30) rfl), lw_t8 (List.mem_of_getElem? (i := 31) rfl)⟩
theorem lw_p123 : lw_okq (⟨"CarryFairModel", "unlike", "(I)I"⟩, 30) := ⟨⟨by decide +kernel, by decide +kernel⟩, lw_t5 (List.mem_of_getElem? (i := 236) rfl), lw_t8 (List.mem_of_getElem? (i := 35) rfl), lw_t8 (List.mem_of_getElem? (i := 36) rfl)⟩
theorem lw_p124 : lw_okq (⟨"CarryFairModel", "isSo", "(I)I"⟩, 30) := ⟨⟨by decide +kernel, by decide +kernel⟩, lw_t5 (List.mem_of_getElem? (i := 236) rfl), lw_t8 (List.mem_of_getElem? (i := 45) rfl), lw_t8 (List.mem_of_getElem? (i := 46) rfl)⟩
def lw_privs_8 : List (MethodName × Nat) := [(⟨"CarryFairModel", "takesAll", "(I)V"⟩, 30), (⟨"CarryFairModel", "putBack", "(I)I"⟩, 30), (⟨"CarryFairModel", "next", "()V"⟩, 30), (⟨"CarryFairModel", "byteAt", "(I)I"⟩, 30), (⟨"CarryFairModel", "readItem", "()V"⟩, 30), (⟨"CarryFairModel", "kindTold", "()I"⟩, 30), (⟨"CarryFairModel", "isWord", "(Ljava/lang/String;)Z"⟩, 30), (⟨"CarryFairModel", "must", "(Z)V"⟩, 30), (⟨"CarryFairModel", "isNext", "(Ljava/lang/String;)Z"⟩, 30), (⟨"CarryFairModel", "number", "(II)I"⟩, 30), (⟨"CarryFairModel", "item", "(IIIII)V"⟩, 30), (⟨"CarryFairModel", "unlike", "(I)I"⟩, 30), (⟨"CarryFairModel", "isSo", "(I)I"⟩, 30)]
theorem lw_r8 : ∀ q ∈ lw_privs_8, lw_okq q := List.forall_mem_cons.mpr ⟨lw_p112, List.forall_mem_cons.mpr ⟨lw_p113, List.forall_mem_cons.mpr ⟨lw_p114, List.forall_mem_cons.mpr ⟨lw_p115, List.forall_mem_cons.mpr ⟨lw_p116, List.forall_mem_cons.mpr ⟨lw_p117, List.forall_mem_cons.mpr ⟨lw_p118, List.forall_mem_cons.mpr ⟨lw_p119, List.forall_mem_cons.mpr ⟨lw_p120, List.forall_mem_cons.mpr ⟨lw_p121, List.forall_mem_cons.mpr ⟨lw_p122, List.forall_mem_cons.mpr ⟨lw_p123, List.forall_mem_cons.mpr ⟨lw_p124, fun _ h => absurd h List.not_mem_nil⟩⟩⟩⟩⟩⟩⟩⟩⟩⟩⟩⟩⟩
def lw_privs : List (MethodName × Nat) := lw_privs_1 ++ (lw_privs_2 ++ (lw_privs_3 ++ (lw_privs_4 ++ (lw_privs_5 ++ (lw_privs_6 ++ (lw_privs_7 ++ (lw_privs_8)))))))
def lw_tbl : List Cond := k2_sels lw_privs ++ tables_1
theorem lw_privs_ok : ∀ q ∈ lw_privs, lw_okq q := by
  show ∀ q ∈ lw_privs_1 ++ (lw_privs_2 ++ (lw_privs_3 ++ (lw_privs_4 ++ (lw_privs_5 ++ (lw_privs_6 ++ (lw_privs_7 ++ (lw_privs_8))))))), lw_okq q
  exact List.forall_mem_append.mpr ⟨lw_r1, List.forall_mem_append.mpr ⟨lw_r2, List.forall_mem_append.mpr ⟨lw_r3, List.forall_mem_append.mpr ⟨lw_r4, List.forall_mem_append.mpr ⟨lw_r5, List.forall_mem_append.mpr ⟨lw_r6, List.forall_mem_append.mpr ⟨lw_r7, lw_r8⟩⟩⟩⟩⟩⟩⟩
-- ===== ONE list of words for every method: the tables' words that hold all through a run =====
def lw_all : List Cond := lw_tbl.filter goodWord
/-- a word of the tables by its place: claim/WORDS.tsv -/
theorem lw_w {w : Cond} (i : Nat) (h : lw_tbl[i]? = some w) (g : goodWord w = true) : w ∈ lw_all := List.mem_filter.mpr ⟨List.mem_of_getElem? h, g⟩
theorem lw_all_tbl {w : Cond} (h : w ∈ lw_all) : w ∈ lw_tbl := (List.mem_filter.mp h).1
theorem lw_self : GoodIn lw_all lw_all := fun w h => ⟨h, good_of_word (List.mem_filter.mp h).2⟩
/-- a class's field words, by their places -/
theorem lw_in (ws : List Cond) (ps : List Nat) (hp : ws = ps.filterMap (fun i => lw_tbl[i]?)) (hg : ws.all goodWord = true) : ∀ w ∈ ws, w ∈ lw_all := by
  intro w h
  have h1 := List.all_eq_true.mp hg w h
  rw [hp] at h
  obtain ⟨i, -, hi⟩ := List.mem_filterMap.mp h
  exact lw_w i hi h1
/-- the words of a contract for the method y with code b, L locals, answer r -/
abbrev ws_ (y : MethodName) (b : ByteArray) (L : Nat) (r : Option FieldType) : List Cond := Cond.code y b L r :: lw_all
theorem lw_meth {y : MethodName} {b : ByteArray} {L : Nat} {r : Option FieldType} (h : Cond.code y b L r ∈ lw_all) : GoodIn lw_all (ws_ y b L r) := by
  intro w hw
  rcases List.mem_cons.mp hw with e | e
  · rw [e]
    exact lw_self _ h
  · exact lw_self _ e
theorem lw_app {a c : List Cond} (ha : ∀ w ∈ a, w ∈ lw_all) (hc : GoodIn lw_all c) : GoodIn lw_all (a ++ c) := by
  intro w hw
  rcases List.mem_append.mp hw with e | e
  · exact lw_self w (ha w e)
  · exact hc w e
/-- what a call through an object asks: cwV n hts (lw_V ..) -/
theorem lw_V {own : String} {idx : Nat} {C : String} {y : MethodName} {b : ByteArray} {L : Nat} {r : Option FieldType} (h1 : Cond.methodLink own idx y ∈ lw_all) (h2 : Cond.instanceMethod y ∈ lw_all) (h3 : Cond.selects C y y ∈ lw_all) (h4 : Cond.initialized C ∈ lw_all) (h5 : Cond.code y b L r ∈ lw_all) : GoodIn lw_all (wsV own idx C y (ws_ y b L r)) := by
  refine lw_app ?_ (lw_meth h5)
  intro w hw
  simp only [List.mem_cons, List.not_mem_nil, or_false] at hw
  rcases hw with e | e | e | e
  · rw [e]; exact h1
  · rw [e]; exact h2
  · rw [e]; exact h3
  · rw [e]; exact h4
/-- what a static call asks: va_cwS n hts (lw_S ..) -/
theorem lw_S {own : String} {idx : Nat} {y : MethodName} {b : ByteArray} {L : Nat} {r : Option FieldType} (h1 : Cond.methodLink own idx y ∈ lw_all) (h2 : Cond.static y ∈ lw_all) (h3 : Cond.initialized y.cls ∈ lw_all) (h4 : Cond.code y b L r ∈ lw_all) : GoodIn lw_all (va_wsS own idx y (ws_ y b L r)) := by
  refine lw_app ?_ (lw_meth h4)
  intro w hw
  simp only [List.mem_cons, List.not_mem_nil, or_false] at hw
  rcases hw with e | e | e
  · rw [e]; exact h1
  · rw [e]; exact h2
  · rw [e]; exact h3
/-- the words of a contract for a method WITH HANDLERS (hh: its table) -/
abbrev wsW_ (y : MethodName) (b : ByteArray) (L : Nat) (r : Option FieldType) (hh : List (Nat × Nat × Nat × Nat)) : List Cond := Cond.codeWith y b L r hh :: lw_all
theorem lw_methW {y : MethodName} {b : ByteArray} {L : Nat} {r : Option FieldType} {hh : List (Nat × Nat × Nat × Nat)} (h : Cond.codeWith y b L r hh ∈ lw_all) : GoodIn lw_all (wsW_ y b L r hh) := by
  intro w hw
  rcases List.mem_cons.mp hw with e | e
  · rw [e]
    exact lw_self _ h
  · exact lw_self _ e
/-- any list of words by their places (lw_in), good -/
theorem lw_good {ws : List Cond} (h : ∀ w ∈ ws, w ∈ lw_all) : GoodIn lw_all ws := fun w hw => lw_self w (h w hw)
/-- what a call of a method with handlers asks: vx_cwVW n hts (lw_VW ..), vx_cwSW n hts (lw_SW ..) -/
theorem lw_VW {own : String} {idx : Nat} {C : String} {y : MethodName} {b : ByteArray} {L : Nat} {r : Option FieldType} {hh : List (Nat × Nat × Nat × Nat)} (h1 : Cond.methodLink own idx y ∈ lw_all) (h2 : Cond.instanceMethod y ∈ lw_all) (h3 : Cond.selects C y y ∈ lw_all) (h4 : Cond.initialized C ∈ lw_all) (h5 : Cond.codeWith y b L r hh ∈ lw_all) : GoodIn lw_all (wsV own idx C y (wsW_ y b L r hh)) := by
  refine lw_app ?_ (lw_methW h5)
  intro w hw
  simp only [List.mem_cons, List.not_mem_nil, or_false] at hw
  rcases hw with e | e | e | e
  · rw [e]; exact h1
  · rw [e]; exact h2
  · rw [e]; exact h3
  · rw [e]; exact h4
theorem lw_SW {own : String} {idx : Nat} {y : MethodName} {b : ByteArray} {L : Nat} {r : Option FieldType} {hh : List (Nat × Nat × Nat × Nat)} (h1 : Cond.methodLink own idx y ∈ lw_all) (h2 : Cond.static y ∈ lw_all) (h3 : Cond.initialized y.cls ∈ lw_all) (h4 : Cond.codeWith y b L r hh ∈ lw_all) : GoodIn lw_all (va_wsS own idx y (wsW_ y b L r hh)) := by
  refine lw_app ?_ (lw_methW h4)
  intro w hw
  simp only [List.mem_cons, List.not_mem_nil, or_false] at hw
  rcases hw with e | e | e
  · rw [e]; exact h1
  · rw [e]; exact h2
  · rw [e]; exact h3
/-- a word by its place in its run of the tables -/
theorem lw_at {r : List Cond} (hr : ∀ w ∈ r, w ∈ lw_tbl) {w : Cond} (i : Nat) (h : r[i]? = some w) : w ∈ lw_tbl := hr w (List.mem_of_getElem? h)
theorem lw_g {w : Cond} (h : w ∈ lw_tbl) (g : goodWord w = true) : w ∈ lw_all := List.mem_filter.mpr ⟨h, g⟩
theorem lw_ms : ∀ w ∈ k2_sels lw_privs, w ∈ lw_tbl := fun w h => show w ∈ k2_sels lw_privs ++ tables_1 from List.mem_append_left _ h
theorem lw_m1 : ∀ w ∈ tables_1_1, w ∈ lw_tbl := fun w h => show w ∈ k2_sels lw_privs ++ tables_1 from List.mem_append_right (k2_sels lw_privs) (show w ∈ tables_1 from List.mem_append_left _ h)
theorem lw_m2 : ∀ w ∈ tables_1_2, w ∈ lw_tbl := fun w h => show w ∈ k2_sels lw_privs ++ tables_1 from List.mem_append_right (k2_sels lw_privs) (show w ∈ tables_1 from List.mem_append_right _ (List.mem_append_left _ h))
theorem lw_m3 : ∀ w ∈ tables_1_3, w ∈ lw_tbl := fun w h => show w ∈ k2_sels lw_privs ++ tables_1 from List.mem_append_right (k2_sels lw_privs) (show w ∈ tables_1 from List.mem_append_right _ (List.mem_append_right _ (List.mem_append_left _ h)))
theorem lw_m4 : ∀ w ∈ tables_1_4, w ∈ lw_tbl := fun w h => show w ∈ k2_sels lw_privs ++ tables_1 from List.mem_append_right (k2_sels lw_privs) (show w ∈ tables_1 from List.mem_append_right _ (List.mem_append_right _ (List.mem_append_right _ (List.mem_append_left _ h))))
theorem lw_m5 : ∀ w ∈ tables_1_5, w ∈ lw_tbl := fun w h => show w ∈ k2_sels lw_privs ++ tables_1 from List.mem_append_right (k2_sels lw_privs) (show w ∈ tables_1 from List.mem_append_right _ (List.mem_append_right _ (List.mem_append_right _ (List.mem_append_right _ (List.mem_append_left _ h)))))
theorem lw_m6 : ∀ w ∈ tables_1_6, w ∈ lw_tbl := fun w h => show w ∈ k2_sels lw_privs ++ tables_1 from List.mem_append_right (k2_sels lw_privs) (show w ∈ tables_1 from List.mem_append_right _ (List.mem_append_right _ (List.mem_append_right _ (List.mem_append_right _ (List.mem_append_right _ (List.mem_append_left _ h))))))
theorem lw_m7 : ∀ w ∈ tables_1_7, w ∈ lw_tbl := fun w h => show w ∈ k2_sels lw_privs ++ tables_1 from List.mem_append_right (k2_sels lw_privs) (show w ∈ tables_1 from List.mem_append_right _ (List.mem_append_right _ (List.mem_append_right _ (List.mem_append_right _ (List.mem_append_right _ (List.mem_append_right _ (List.mem_append_left _ h)))))))
theorem lw_m8 : ∀ w ∈ tables_1_8, w ∈ lw_tbl := fun w h => show w ∈ k2_sels lw_privs ++ tables_1 from List.mem_append_right (k2_sels lw_privs) (show w ∈ tables_1 from List.mem_append_right _ (List.mem_append_right _ (List.mem_append_right _ (List.mem_append_right _ (List.mem_append_right _ (List.mem_append_right _ (List.mem_append_right _ h)))))))
theorem qs0 : (Cond.selects "java/lang/Throwable" ⟨"java/lang/Throwable", "fillInStackTrace", "(I)Ljava/lang/Throwable;"⟩ ⟨"java/lang/Throwable", "fillInStackTrace", "(I)Ljava/lang/Throwable;"⟩) ∈ lw_all := lw_g (lw_at lw_ms 0 rfl) rfl
theorem qs1 : (Cond.selects "CarryFair" ⟨"CarryFair", "made", "(II)LCarryFair$Carrier;"⟩ ⟨"CarryFair", "made", "(II)LCarryFair$Carrier;"⟩) ∈ lw_all := lw_g (lw_at lw_ms 1 rfl) rfl
theorem qs2 : (Cond.selects "CarryFair" ⟨"CarryFair", "finding", "(I)I"⟩ ⟨"CarryFair", "finding", "(I)I"⟩) ∈ lw_all := lw_g (lw_at lw_ms 2 rfl) rfl
theorem qs3 : (Cond.selects "CarryFair" ⟨"CarryFair", "isCarrier", "(I)Z"⟩ ⟨"CarryFair", "isCarrier", "(I)Z"⟩) ∈ lw_all := lw_g (lw_at lw_ms 3 rfl) rfl
theorem qs4 : (Cond.selects "CarryFair" ⟨"CarryFair", "carrierAt", "(I)LCarryFair$Carrier;"⟩ ⟨"CarryFair", "carrierAt", "(I)LCarryFair$Carrier;"⟩) ∈ lw_all := lw_g (lw_at lw_ms 4 rfl) rfl
theorem qs5 : (Cond.selects "CarryFair" ⟨"CarryFair", "bearsOf", "(I)I"⟩ ⟨"CarryFair", "bearsOf", "(I)I"⟩) ∈ lw_all := lw_g (lw_at lw_ms 5 rfl) rfl
theorem qs6 : (Cond.selects "CarryFair" ⟨"CarryFair", "isErrand", "(I)Z"⟩ ⟨"CarryFair", "isErrand", "(I)Z"⟩) ∈ lw_all := lw_g (lw_at lw_ms 6 rfl) rfl
theorem qs7 : (Cond.selects "CarryFair" ⟨"CarryFair", "worthOf", "(I)I"⟩ ⟨"CarryFair", "worthOf", "(I)I"⟩) ∈ lw_all := lw_g (lw_at lw_ms 7 rfl) rfl
theorem qs8 : (Cond.selects "CarryFair" ⟨"CarryFair", "tells", "(LCarryFair$Carries;[[I)V"⟩ ⟨"CarryFair", "tells", "(LCarryFair$Carries;[[I)V"⟩) ∈ lw_all := lw_g (lw_at lw_ms 8 rfl) rfl
theorem qs9 : (Cond.selects "CarryFair" ⟨"CarryFair", "begins", "(LCarryFair$Carries;[[I)V"⟩ ⟨"CarryFair", "begins", "(LCarryFair$Carries;[[I)V"⟩) ∈ lw_all := lw_g (lw_at lw_ms 9 rfl) rfl
theorem qs10 : (Cond.selects "CarryFair" ⟨"CarryFair", "orNone", "(I)I"⟩ ⟨"CarryFair", "orNone", "(I)I"⟩) ∈ lw_all := lw_g (lw_at lw_ms 10 rfl) rfl
theorem qs11 : (Cond.selects "CarryFair" ⟨"CarryFair", "isWare", "(I)Z"⟩ ⟨"CarryFair", "isWare", "(I)Z"⟩) ∈ lw_all := lw_g (lw_at lw_ms 11 rfl) rfl
theorem qs12 : (Cond.selects "CarryFair" ⟨"CarryFair", "farOf", "(III)I"⟩ ⟨"CarryFair", "farOf", "(III)I"⟩) ∈ lw_all := lw_g (lw_at lw_ms 12 rfl) rfl
theorem qs13 : (Cond.selects "CarryFair" ⟨"CarryFair", "tellsFor", "(I)V"⟩ ⟨"CarryFair", "tellsFor", "(I)V"⟩) ∈ lw_all := lw_g (lw_at lw_ms 13 rfl) rfl
theorem qs14 : (Cond.selects "CarryFair" ⟨"CarryFair", "firstTo", "(III)I"⟩ ⟨"CarryFair", "firstTo", "(III)I"⟩) ∈ lw_all := lw_g (lw_at lw_ms 14 rfl) rfl
theorem qs15 : (Cond.selects "CarryFair" ⟨"CarryFair", "canTake", "(II)Z"⟩ ⟨"CarryFair", "canTake", "(II)Z"⟩) ∈ lw_all := lw_g (lw_at lw_ms 15 rfl) rfl
theorem qs16 : (Cond.selects "CarryFair" ⟨"CarryFair", "walks", "(III)I"⟩ ⟨"CarryFair", "walks", "(III)I"⟩) ∈ lw_all := lw_g (lw_at lw_ms 16 rfl) rfl
theorem qs17 : (Cond.selects "CarryFair" ⟨"CarryFair", "arrives", "(II)I"⟩ ⟨"CarryFair", "arrives", "(II)I"⟩) ∈ lw_all := lw_g (lw_at lw_ms 17 rfl) rfl
theorem qs18 : (Cond.selects "CarryFair" ⟨"CarryFair", "getsOf", "(II)I"⟩ ⟨"CarryFair", "getsOf", "(II)I"⟩) ∈ lw_all := lw_g (lw_at lw_ms 18 rfl) rfl
theorem qs19 : (Cond.selects "CarryFair" ⟨"CarryFair", "whyNot", "(II)I"⟩ ⟨"CarryFair", "whyNot", "(II)I"⟩) ∈ lw_all := lw_g (lw_at lw_ms 19 rfl) rfl
theorem qs20 : (Cond.selects "CarryFair" ⟨"CarryFair", "isFew", "(I)Z"⟩ ⟨"CarryFair", "isFew", "(I)Z"⟩) ∈ lw_all := lw_g (lw_at lw_ms 20 rfl) rfl
theorem qs21 : (Cond.selects "CarryFair" ⟨"CarryFair", "isSet", "(I)Z"⟩ ⟨"CarryFair", "isSet", "(I)Z"⟩) ∈ lw_all := lw_g (lw_at lw_ms 21 rfl) rfl
theorem qs22 : (Cond.selects "CarryFair" ⟨"CarryFair", "allLie", "(I)Z"⟩ ⟨"CarryFair", "allLie", "(I)Z"⟩) ∈ lw_all := lw_g (lw_at lw_ms 22 rfl) rfl
theorem qs23 : (Cond.selects "CarryFair" ⟨"CarryFair", "isEmpty", "(I)Z"⟩ ⟨"CarryFair", "isEmpty", "(I)Z"⟩) ∈ lw_all := lw_g (lw_at lw_ms 23 rfl) rfl
theorem qs24 : (Cond.selects "CarryFair" ⟨"CarryFair", "roundOf", "(II)I"⟩ ⟨"CarryFair", "roundOf", "(II)I"⟩) ∈ lw_all := lw_g (lw_at lw_ms 24 rfl) rfl
theorem qs25 : (Cond.selects "CarryFair" ⟨"CarryFair", "collects", "(I)V"⟩ ⟨"CarryFair", "collects", "(I)V"⟩) ∈ lw_all := lw_g (lw_at lw_ms 25 rfl) rfl
theorem qs26 : (Cond.selects "CarryFair" ⟨"CarryFair", "goesOn", "(III)V"⟩ ⟨"CarryFair", "goesOn", "(III)V"⟩) ∈ lw_all := lw_g (lw_at lw_ms 26 rfl) rfl
theorem qs27 : (Cond.selects "CarryFair" ⟨"CarryFair", "digit", "(II)I"⟩ ⟨"CarryFair", "digit", "(II)I"⟩) ∈ lw_all := lw_g (lw_at lw_ms 27 rfl) rfl
theorem qs28 : (Cond.selects "CarryFair" ⟨"CarryFair", "doneAt", "(II)I"⟩ ⟨"CarryFair", "doneAt", "(II)I"⟩) ∈ lw_all := lw_g (lw_at lw_ms 28 rfl) rfl
theorem qs29 : (Cond.selects "CarryFair" ⟨"CarryFair", "load", "(II)I"⟩ ⟨"CarryFair", "load", "(II)I"⟩) ∈ lw_all := lw_g (lw_at lw_ms 29 rfl) rfl
theorem qs30 : (Cond.selects "CarryFair" ⟨"CarryFair", "shortens", "(III)V"⟩ ⟨"CarryFair", "shortens", "(III)V"⟩) ∈ lw_all := lw_g (lw_at lw_ms 30 rfl) rfl
theorem qs31 : (Cond.selects "CarryFair" ⟨"CarryFair", "getsFor", "(II)I"⟩ ⟨"CarryFair", "getsFor", "(II)I"⟩) ∈ lw_all := lw_g (lw_at lw_ms 31 rfl) rfl
theorem qs32 : (Cond.selects "CarryFair" ⟨"CarryFair", "whyNoWare", "(II)I"⟩ ⟨"CarryFair", "whyNoWare", "(II)I"⟩) ∈ lw_all := lw_g (lw_at lw_ms 32 rfl) rfl
theorem qs33 : (Cond.selects "CarryFair" ⟨"CarryFair", "shortestFor", "(II)I"⟩ ⟨"CarryFair", "shortestFor", "(II)I"⟩) ∈ lw_all := lw_g (lw_at lw_ms 33 rfl) rfl
theorem qs34 : (Cond.selects "CarryFair" ⟨"CarryFair", "whoShortest", "(I)I"⟩ ⟨"CarryFair", "whoShortest", "(I)I"⟩) ∈ lw_all := lw_g (lw_at lw_ms 34 rfl) rfl
theorem qs35 : (Cond.selects "CarryFair" ⟨"CarryFair", "spared", "(III)I"⟩ ⟨"CarryFair", "spared", "(III)I"⟩) ∈ lw_all := lw_g (lw_at lw_ms 35 rfl) rfl
theorem qs36 : (Cond.selects "CarryFair" ⟨"CarryFair", "whyNotBoth", "(III)I"⟩ ⟨"CarryFair", "whyNotBoth", "(III)I"⟩) ∈ lw_all := lw_g (lw_at lw_ms 36 rfl) rfl
theorem qs37 : (Cond.selects "CarryFair" ⟨"CarryFair", "sharedBy", "(III)I"⟩ ⟨"CarryFair", "sharedBy", "(III)I"⟩) ∈ lw_all := lw_g (lw_at lw_ms 37 rfl) rfl
theorem qs38 : (Cond.selects "CarryFair" ⟨"CarryFair", "roundWith", "(IIII)I"⟩ ⟨"CarryFair", "roundWith", "(IIII)I"⟩) ∈ lw_all := lw_g (lw_at lw_ms 38 rfl) rfl
theorem qs39 : (Cond.selects "CarryFair" ⟨"CarryFair", "bridged", "(II)I"⟩ ⟨"CarryFair", "bridged", "(II)I"⟩) ∈ lw_all := lw_g (lw_at lw_ms 39 rfl) rfl
theorem qs40 : (Cond.selects "CarryFair" ⟨"CarryFair", "roundBridged", "(IIII)I"⟩ ⟨"CarryFair", "roundBridged", "(IIII)I"⟩) ∈ lw_all := lw_g (lw_at lw_ms 40 rfl) rfl
theorem qs41 : (Cond.selects "CarryFair" ⟨"CarryFair", "reachFrom", "(I)I"⟩ ⟨"CarryFair", "reachFrom", "(I)I"⟩) ∈ lw_all := lw_g (lw_at lw_ms 41 rfl) rfl
theorem qs42 : (Cond.selects "CarryFair" ⟨"CarryFair", "middleOf", "(I)I"⟩ ⟨"CarryFair", "middleOf", "(I)I"⟩) ∈ lw_all := lw_g (lw_at lw_ms 42 rfl) rfl
theorem qs43 : (Cond.selects "CarryFair" ⟨"CarryFair", "farthest", "(II)I"⟩ ⟨"CarryFair", "farthest", "(II)I"⟩) ∈ lw_all := lw_g (lw_at lw_ms 43 rfl) rfl
theorem qs44 : (Cond.selects "CarryFair" ⟨"CarryFair", "whyNoDay", "(I)I"⟩ ⟨"CarryFair", "whyNoDay", "(I)I"⟩) ∈ lw_all := lw_g (lw_at lw_ms 44 rfl) rfl
theorem qs45 : (Cond.selects "CarryFair" ⟨"CarryFair", "works", "(I)I"⟩ ⟨"CarryFair", "works", "(I)I"⟩) ∈ lw_all := lw_g (lw_at lw_ms 45 rfl) rfl
theorem qs46 : (Cond.selects "CarryFair" ⟨"CarryFair", "takesAll", "(I)V"⟩ ⟨"CarryFair", "takesAll", "(I)V"⟩) ∈ lw_all := lw_g (lw_at lw_ms 46 rfl) rfl
theorem qs47 : (Cond.selects "CarryFair$Reader" ⟨"CarryFair$Reader", "next", "()V"⟩ ⟨"CarryFair$Reader", "next", "()V"⟩) ∈ lw_all := lw_g (lw_at lw_ms 47 rfl) rfl
theorem qs48 : (Cond.selects "CarryFair$Reader" ⟨"CarryFair$Reader", "byteAt", "(I)I"⟩ ⟨"CarryFair$Reader", "byteAt", "(I)I"⟩) ∈ lw_all := lw_g (lw_at lw_ms 48 rfl) rfl
theorem qs49 : (Cond.selects "CarryFair$Reader" ⟨"CarryFair$Reader", "word", "()V"⟩ ⟨"CarryFair$Reader", "word", "()V"⟩) ∈ lw_all := lw_g (lw_at lw_ms 49 rfl) rfl
theorem qs50 : (Cond.selects "CarryFair$Reader" ⟨"CarryFair$Reader", "isKey", "(II)Z"⟩ ⟨"CarryFair$Reader", "isKey", "(II)Z"⟩) ∈ lw_all := lw_g (lw_at lw_ms 50 rfl) rfl
theorem qs51 : (Cond.selects "CarryFair$Reader" ⟨"CarryFair$Reader", "need", "(Z)V"⟩ ⟨"CarryFair$Reader", "need", "(Z)V"⟩) ∈ lw_all := lw_g (lw_at lw_ms 51 rfl) rfl
theorem qs52 : (Cond.selects "CarryFair$Reader" ⟨"CarryFair$Reader", "digits", "()V"⟩ ⟨"CarryFair$Reader", "digits", "()V"⟩) ∈ lw_all := lw_g (lw_at lw_ms 52 rfl) rfl
theorem qs53 : (Cond.selects "CarryFair$Reader" ⟨"CarryFair$Reader", "item", "()V"⟩ ⟨"CarryFair$Reader", "item", "()V"⟩) ∈ lw_all := lw_g (lw_at lw_ms 53 rfl) rfl
theorem qs54 : (Cond.selects "CarryFair$Reader" ⟨"CarryFair$Reader", "way", "()V"⟩ ⟨"CarryFair$Reader", "way", "()V"⟩) ∈ lw_all := lw_g (lw_at lw_ms 54 rfl) rfl
theorem qs55 : (Cond.selects "CarryFair$Reader" ⟨"CarryFair$Reader", "behind", "(II)I"⟩ ⟨"CarryFair$Reader", "behind", "(II)I"⟩) ∈ lw_all := lw_g (lw_at lw_ms 55 rfl) rfl
theorem qs56 : (Cond.selects "CarryFair$Reader" ⟨"CarryFair$Reader", "number", "(II)I"⟩ ⟨"CarryFair$Reader", "number", "(II)I"⟩) ∈ lw_all := lw_g (lw_at lw_ms 56 rfl) rfl
theorem qs57 : (Cond.selects "CarryFair$Reader" ⟨"CarryFair$Reader", "unlike", "(I)I"⟩ ⟨"CarryFair$Reader", "unlike", "(I)I"⟩) ∈ lw_all := lw_g (lw_at lw_ms 57 rfl) rfl
theorem qs58 : (Cond.selects "CarryFair$Reader" ⟨"CarryFair$Reader", "after", "(III)I"⟩ ⟨"CarryFair$Reader", "after", "(III)I"⟩) ∈ lw_all := lw_g (lw_at lw_ms 58 rfl) rfl
theorem qs59 : (Cond.selects "CarryFair$Reader" ⟨"CarryFair$Reader", "isWord", "(I)Z"⟩ ⟨"CarryFair$Reader", "isWord", "(I)Z"⟩) ∈ lw_all := lw_g (lw_at lw_ms 59 rfl) rfl
theorem qs60 : (Cond.selects "CarryFair$Reader" ⟨"CarryFair$Reader", "errand", "()V"⟩ ⟨"CarryFair$Reader", "errand", "()V"⟩) ∈ lw_all := lw_g (lw_at lw_ms 60 rfl) rfl
theorem qs61 : (Cond.selects "CarryFair$Reader" ⟨"CarryFair$Reader", "ware", "()V"⟩ ⟨"CarryFair$Reader", "ware", "()V"⟩) ∈ lw_all := lw_g (lw_at lw_ms 61 rfl) rfl
theorem qs62 : (Cond.selects "CarryFair$Reader" ⟨"CarryFair$Reader", "carrier", "(I)V"⟩ ⟨"CarryFair$Reader", "carrier", "(I)V"⟩) ∈ lw_all := lw_g (lw_at lw_ms 62 rfl) rfl
theorem qs63 : (Cond.selects "CarryFair$Reader" ⟨"CarryFair$Reader", "perhaps", "(IIII)I"⟩ ⟨"CarryFair$Reader", "perhaps", "(IIII)I"⟩) ∈ lw_all := lw_g (lw_at lw_ms 63 rfl) rfl
theorem qs64 : (Cond.selects "CarryFair" ⟨"CarryFair", "thingAt", "(I)Ljava/lang/Object;"⟩ ⟨"CarryFair", "thingAt", "(I)Ljava/lang/Object;"⟩) ∈ lw_all := lw_g (lw_at lw_ms 64 rfl) rfl
theorem qs65 : (Cond.selects "CarryFair" ⟨"CarryFair", "rowAt", "(I)Ljava/lang/Object;"⟩ ⟨"CarryFair", "rowAt", "(I)Ljava/lang/Object;"⟩) ∈ lw_all := lw_g (lw_at lw_ms 65 rfl) rfl
theorem qs66 : (Cond.selects "CarryFair" ⟨"CarryFair", "need", "(ZI)V"⟩ ⟨"CarryFair", "need", "(ZI)V"⟩) ∈ lw_all := lw_g (lw_at lw_ms 66 rfl) rfl
theorem qs67 : (Cond.selects "CarryFair" ⟨"CarryFair", "refused", "(I)LCarryFair$Refusal;"⟩ ⟨"CarryFair", "refused", "(I)LCarryFair$Refusal;"⟩) ∈ lw_all := lw_g (lw_at lw_ms 67 rfl) rfl
theorem qs68 : (Cond.selects "CarryFair" ⟨"CarryFair", "loads", "(Ljava/lang/Object;)I"⟩ ⟨"CarryFair", "loads", "(Ljava/lang/Object;)I"⟩) ∈ lw_all := lw_g (lw_at lw_ms 68 rfl) rfl
theorem qs69 : (Cond.selects "CarryFair" ⟨"CarryFair", "gotOn", "(Ljava/lang/Object;I)I"⟩ ⟨"CarryFair", "gotOn", "(Ljava/lang/Object;I)I"⟩) ∈ lw_all := lw_g (lw_at lw_ms 69 rfl) rfl
theorem qs70 : (Cond.selects "CarryFair" ⟨"CarryFair", "holding", "()I"⟩ ⟨"CarryFair", "holding", "()I"⟩) ∈ lw_all := lw_g (lw_at lw_ms 70 rfl) rfl
theorem qs71 : (Cond.selects "CarryFairModel" ⟨"CarryFairModel", "finding", "(I)I"⟩ ⟨"CarryFairModel", "finding", "(I)I"⟩) ∈ lw_all := lw_g (lw_at lw_ms 71 rfl) rfl
theorem qs72 : (Cond.selects "CarryFairModel" ⟨"CarryFairModel", "newCarrier", "(III)I"⟩ ⟨"CarryFairModel", "newCarrier", "(III)I"⟩) ∈ lw_all := lw_g (lw_at lw_ms 72 rfl) rfl
theorem qs73 : (Cond.selects "CarryFairModel" ⟨"CarryFairModel", "isCarrier", "(I)Z"⟩ ⟨"CarryFairModel", "isCarrier", "(I)Z"⟩) ∈ lw_all := lw_g (lw_at lw_ms 73 rfl) rfl
theorem qs74 : (Cond.selects "CarryFairModel" ⟨"CarryFairModel", "bears", "(I)I"⟩ ⟨"CarryFairModel", "bears", "(I)I"⟩) ∈ lw_all := lw_g (lw_at lw_ms 74 rfl) rfl
theorem qs75 : (Cond.selects "CarryFairModel" ⟨"CarryFairModel", "cIs", "(II)I"⟩ ⟨"CarryFairModel", "cIs", "(II)I"⟩) ∈ lw_all := lw_g (lw_at lw_ms 75 rfl) rfl
theorem qs76 : (Cond.selects "CarryFairModel" ⟨"CarryFairModel", "carries", "(I)I"⟩ ⟨"CarryFairModel", "carries", "(I)I"⟩) ∈ lw_all := lw_g (lw_at lw_ms 76 rfl) rfl
theorem qs77 : (Cond.selects "CarryFairModel" ⟨"CarryFairModel", "eIs", "(II)I"⟩ ⟨"CarryFairModel", "eIs", "(II)I"⟩) ∈ lw_all := lw_g (lw_at lw_ms 77 rfl) rfl
theorem qs78 : (Cond.selects "CarryFairModel" ⟨"CarryFairModel", "weighs", "(I)I"⟩ ⟨"CarryFairModel", "weighs", "(I)I"⟩) ∈ lw_all := lw_g (lw_at lw_ms 78 rfl) rfl
theorem qs79 : (Cond.selects "CarryFairModel" ⟨"CarryFairModel", "become", "(II)I"⟩ ⟨"CarryFairModel", "become", "(II)I"⟩) ∈ lw_all := lw_g (lw_at lw_ms 79 rfl) rfl
theorem qs80 : (Cond.selects "CarryFairModel" ⟨"CarryFairModel", "wayIs", "(IIII)I"⟩ ⟨"CarryFairModel", "wayIs", "(IIII)I"⟩) ∈ lw_all := lw_g (lw_at lw_ms 80 rfl) rfl
theorem qs81 : (Cond.selects "CarryFairModel" ⟨"CarryFairModel", "newErrand", "(III)I"⟩ ⟨"CarryFairModel", "newErrand", "(III)I"⟩) ∈ lw_all := lw_g (lw_at lw_ms 81 rfl) rfl
theorem qs82 : (Cond.selects "CarryFairModel" ⟨"CarryFairModel", "isErrand", "(I)Z"⟩ ⟨"CarryFairModel", "isErrand", "(I)Z"⟩) ∈ lw_all := lw_g (lw_at lw_ms 82 rfl) rfl
theorem qs83 : (Cond.selects "CarryFairModel" ⟨"CarryFairModel", "worthOf", "(I)I"⟩ ⟨"CarryFairModel", "worthOf", "(I)I"⟩) ∈ lw_all := lw_g (lw_at lw_ms 83 rfl) rfl
theorem qs84 : (Cond.selects "CarryFairModel" ⟨"CarryFairModel", "farFor", "(III)I"⟩ ⟨"CarryFairModel", "farFor", "(III)I"⟩) ∈ lw_all := lw_g (lw_at lw_ms 84 rfl) rfl
theorem qs85 : (Cond.selects "CarryFairModel" ⟨"CarryFairModel", "findFar", "(I)V"⟩ ⟨"CarryFairModel", "findFar", "(I)V"⟩) ∈ lw_all := lw_g (lw_at lw_ms 85 rfl) rfl
theorem qs86 : (Cond.selects "CarryFairModel" ⟨"CarryFairModel", "counts", "(III)I"⟩ ⟨"CarryFairModel", "counts", "(III)I"⟩) ∈ lw_all := lw_g (lw_at lw_ms 86 rfl) rfl
theorem qs87 : (Cond.selects "CarryFairModel" ⟨"CarryFairModel", "newWare", "(I)I"⟩ ⟨"CarryFairModel", "newWare", "(I)I"⟩) ∈ lw_all := lw_g (lw_at lw_ms 87 rfl) rfl
theorem qs88 : (Cond.selects "CarryFairModel" ⟨"CarryFairModel", "isWare", "(I)Z"⟩ ⟨"CarryFairModel", "isWare", "(I)Z"⟩) ∈ lw_all := lw_g (lw_at lw_ms 88 rfl) rfl
theorem qs89 : (Cond.selects "CarryFairModel" ⟨"CarryFairModel", "liesAt", "(II)Z"⟩ ⟨"CarryFairModel", "liesAt", "(II)Z"⟩) ∈ lw_all := lw_g (lw_at lw_ms 89 rfl) rfl
theorem qs90 : (Cond.selects "CarryFairModel" ⟨"CarryFairModel", "fitsTo", "(II)Z"⟩ ⟨"CarryFairModel", "fitsTo", "(II)Z"⟩) ∈ lw_all := lw_g (lw_at lw_ms 90 rfl) rfl
theorem qs91 : (Cond.selects "CarryFairModel" ⟨"CarryFairModel", "taken", "(II)V"⟩ ⟨"CarryFairModel", "taken", "(II)V"⟩) ∈ lw_all := lw_g (lw_at lw_ms 91 rfl) rfl
theorem qs92 : (Cond.selects "CarryFairModel" ⟨"CarryFairModel", "walked", "(II)I"⟩ ⟨"CarryFairModel", "walked", "(II)I"⟩) ∈ lw_all := lw_g (lw_at lw_ms 92 rfl) rfl
theorem qs93 : (Cond.selects "CarryFairModel" ⟨"CarryFairModel", "getsFor", "(II)I"⟩ ⟨"CarryFairModel", "getsFor", "(II)I"⟩) ∈ lw_all := lw_g (lw_at lw_ms 93 rfl) rfl
theorem qs94 : (Cond.selects "CarryFairModel" ⟨"CarryFairModel", "errandsThat", "(I)I"⟩ ⟨"CarryFairModel", "errandsThat", "(I)I"⟩) ∈ lw_all := lw_g (lw_at lw_ms 94 rfl) rfl
theorem qs95 : (Cond.selects "CarryFairModel" ⟨"CarryFairModel", "ofAll", "(I)I"⟩ ⟨"CarryFairModel", "ofAll", "(I)I"⟩) ∈ lw_all := lw_g (lw_at lw_ms 95 rfl) rfl
theorem qs96 : (Cond.selects "CarryFairModel" ⟨"CarryFairModel", "refuses", "(II)I"⟩ ⟨"CarryFairModel", "refuses", "(II)I"⟩) ∈ lw_all := lw_g (lw_at lw_ms 96 rfl) rfl
theorem qs97 : (Cond.selects "CarryFairModel" ⟨"CarryFairModel", "isSet", "(II)Z"⟩ ⟨"CarryFairModel", "isSet", "(II)Z"⟩) ∈ lw_all := lw_g (lw_at lw_ms 97 rfl) rfl
theorem qs98 : (Cond.selects "CarryFairModel" ⟨"CarryFairModel", "allLie", "(I)Z"⟩ ⟨"CarryFairModel", "allLie", "(I)Z"⟩) ∈ lw_all := lw_g (lw_at lw_ms 98 rfl) rfl
theorem qs99 : (Cond.selects "CarryFairModel" ⟨"CarryFairModel", "roundOf", "(II)I"⟩ ⟨"CarryFairModel", "roundOf", "(II)I"⟩) ∈ lw_all := lw_g (lw_at lw_ms 99 rfl) rfl
theorem qs100 : (Cond.selects "CarryFairModel" ⟨"CarryFairModel", "walkOn", "(II)V"⟩ ⟨"CarryFairModel", "walkOn", "(II)V"⟩) ∈ lw_all := lw_g (lw_at lw_ms 100 rfl) rfl
theorem qs101 : (Cond.selects "CarryFairModel" ⟨"CarryFairModel", "digit", "(II)I"⟩ ⟨"CarryFairModel", "digit", "(II)I"⟩) ∈ lw_all := lw_g (lw_at lw_ms 101 rfl) rfl
theorem qs102 : (Cond.selects "CarryFairModel" ⟨"CarryFairModel", "shorter", "(III)V"⟩ ⟨"CarryFairModel", "shorter", "(III)V"⟩) ∈ lw_all := lw_g (lw_at lw_ms 102 rfl) rfl
theorem qs103 : (Cond.selects "CarryFairModel" ⟨"CarryFairModel", "takeOn", "(III)V"⟩ ⟨"CarryFairModel", "takeOn", "(III)V"⟩) ∈ lw_all := lw_g (lw_at lw_ms 103 rfl) rfl
theorem qs104 : (Cond.selects "CarryFairModel" ⟨"CarryFairModel", "told", "(I)I"⟩ ⟨"CarryFairModel", "told", "(I)I"⟩) ∈ lw_all := lw_g (lw_at lw_ms 104 rfl) rfl
theorem qs105 : (Cond.selects "CarryFairModel" ⟨"CarryFairModel", "getsOf", "(II)I"⟩ ⟨"CarryFairModel", "getsOf", "(II)I"⟩) ∈ lw_all := lw_g (lw_at lw_ms 105 rfl) rfl
theorem qs106 : (Cond.selects "CarryFairModel" ⟨"CarryFairModel", "refusesWare", "(II)I"⟩ ⟨"CarryFairModel", "refusesWare", "(II)I"⟩) ∈ lw_all := lw_g (lw_at lw_ms 106 rfl) rfl
theorem qs107 : (Cond.selects "CarryFairModel" ⟨"CarryFairModel", "refusesShared", "(III)I"⟩ ⟨"CarryFairModel", "refusesShared", "(III)I"⟩) ∈ lw_all := lw_g (lw_at lw_ms 107 rfl) rfl
theorem qs108 : (Cond.selects "CarryFairModel" ⟨"CarryFairModel", "refusesBridge", "(II)I"⟩ ⟨"CarryFairModel", "refusesBridge", "(II)I"⟩) ∈ lw_all := lw_g (lw_at lw_ms 108 rfl) rfl
theorem qs109 : (Cond.selects "CarryFairModel" ⟨"CarryFairModel", "refusesDays", "(I)I"⟩ ⟨"CarryFairModel", "refusesDays", "(I)I"⟩) ∈ lw_all := lw_g (lw_at lw_ms 109 rfl) rfl
theorem qs110 : (Cond.selects "CarryFairModel" ⟨"CarryFairModel", "days", "(I)I"⟩ ⟨"CarryFairModel", "days", "(I)I"⟩) ∈ lw_all := lw_g (lw_at lw_ms 110 rfl) rfl
theorem qs111 : (Cond.selects "CarryFairModel" ⟨"CarryFairModel", "drawn", "(I)I"⟩ ⟨"CarryFairModel", "drawn", "(I)I"⟩) ∈ lw_all := lw_g (lw_at lw_ms 111 rfl) rfl
theorem qs112 : (Cond.selects "CarryFairModel" ⟨"CarryFairModel", "takesAll", "(I)V"⟩ ⟨"CarryFairModel", "takesAll", "(I)V"⟩) ∈ lw_all := lw_g (lw_at lw_ms 112 rfl) rfl
theorem qs113 : (Cond.selects "CarryFairModel" ⟨"CarryFairModel", "putBack", "(I)I"⟩ ⟨"CarryFairModel", "putBack", "(I)I"⟩) ∈ lw_all := lw_g (lw_at lw_ms 113 rfl) rfl
theorem qs114 : (Cond.selects "CarryFairModel" ⟨"CarryFairModel", "next", "()V"⟩ ⟨"CarryFairModel", "next", "()V"⟩) ∈ lw_all := lw_g (lw_at lw_ms 114 rfl) rfl
theorem qs115 : (Cond.selects "CarryFairModel" ⟨"CarryFairModel", "byteAt", "(I)I"⟩ ⟨"CarryFairModel", "byteAt", "(I)I"⟩) ∈ lw_all := lw_g (lw_at lw_ms 115 rfl) rfl
theorem qs116 : (Cond.selects "CarryFairModel" ⟨"CarryFairModel", "readItem", "()V"⟩ ⟨"CarryFairModel", "readItem", "()V"⟩) ∈ lw_all := lw_g (lw_at lw_ms 116 rfl) rfl
theorem qs117 : (Cond.selects "CarryFairModel" ⟨"CarryFairModel", "kindTold", "()I"⟩ ⟨"CarryFairModel", "kindTold", "()I"⟩) ∈ lw_all := lw_g (lw_at lw_ms 117 rfl) rfl
theorem qs118 : (Cond.selects "CarryFairModel" ⟨"CarryFairModel", "isWord", "(Ljava/lang/String;)Z"⟩ ⟨"CarryFairModel", "isWord", "(Ljava/lang/String;)Z"⟩) ∈ lw_all := lw_g (lw_at lw_ms 118 rfl) rfl
theorem qs119 : (Cond.selects "CarryFairModel" ⟨"CarryFairModel", "must", "(Z)V"⟩ ⟨"CarryFairModel", "must", "(Z)V"⟩) ∈ lw_all := lw_g (lw_at lw_ms 119 rfl) rfl
theorem qs120 : (Cond.selects "CarryFairModel" ⟨"CarryFairModel", "isNext", "(Ljava/lang/String;)Z"⟩ ⟨"CarryFairModel", "isNext", "(Ljava/lang/String;)Z"⟩) ∈ lw_all := lw_g (lw_at lw_ms 120 rfl) rfl
theorem qs121 : (Cond.selects "CarryFairModel" ⟨"CarryFairModel", "number", "(II)I"⟩ ⟨"CarryFairModel", "number", "(II)I"⟩) ∈ lw_all := lw_g (lw_at lw_ms 121 rfl) rfl
theorem qs122 : (Cond.selects "CarryFairModel" ⟨"CarryFairModel", "item", "(IIIII)V"⟩ ⟨"CarryFairModel", "item", "(IIIII)V"⟩) ∈ lw_all := lw_g (lw_at lw_ms 122 rfl) rfl
theorem qs123 : (Cond.selects "CarryFairModel" ⟨"CarryFairModel", "unlike", "(I)I"⟩ ⟨"CarryFairModel", "unlike", "(I)I"⟩) ∈ lw_all := lw_g (lw_at lw_ms 123 rfl) rfl
theorem qs124 : (Cond.selects "CarryFairModel" ⟨"CarryFairModel", "isSo", "(I)I"⟩ ⟨"CarryFairModel", "isSo", "(I)I"⟩) ∈ lw_all := lw_g (lw_at lw_ms 124 rfl) rfl
