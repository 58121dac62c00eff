-- ===== PART A: goes FIRST, ahead of the names: the tables' words, and 'selects' of the private methods out of them =====
/-- a private method of a class that the tables say can be made, by its rows of tables_1 -/
def lw_okq (q : MethodName × Nat) : Prop := (q.1.cls ≠ "java/lang/invoke/MethodHandle" ∧ q.1.cls ≠ "java/lang/invoke/VarHandle") ∧ Cond.instantiable q.1.cls q.2 ∈ tables_1 ∧ Cond.privateMethod q.1 ∈ tables_1 ∧ Cond.instanceMethod q.1 ∈ tables_1
set_option maxRecDepth 100000
theorem lw_t1 {w : Cond} (h : w ∈ tables_1_1) : w ∈ tables_1 := List.mem_append_left _ h
theorem lw_t2 {w : Cond} (h : w ∈ tables_1_2) : w ∈ tables_1 := List.mem_append_right _ (List.mem_append_left _ h)
theorem lw_t3 {w : Cond} (h : w ∈ tables_1_3) : w ∈ tables_1 := List.mem_append_right _ (List.mem_append_right _ (List.mem_append_left _ h))
theorem lw_t4 {w : Cond} (h : w ∈ tables_1_4) : w ∈ tables_1 := List.mem_append_right _ (List.mem_append_right _ (List.mem_append_right _ (List.mem_append_left _ h)))
theorem lw_t5 {w : Cond} (h : w ∈ tables_1_5) : w ∈ tables_1 := List.mem_append_right _ (List.mem_append_right _ (List.mem_append_right _ (List.mem_append_right _ h)))
theorem lw_p0 : lw_okq (⟨"LimbMeasures$Reader", "here", "()I"⟩, 5) := ⟨⟨by decide +kernel, by decide +kernel⟩, lw_t1 (List.mem_of_getElem? (i := 230) rfl), lw_t2 (List.mem_of_getElem? (i := 18) rfl), lw_t2 (List.mem_of_getElem? (i := 19) rfl)⟩
theorem lw_p1 : lw_okq (⟨"LimbMeasures$Reader", "clause", "(II)V"⟩, 5) := ⟨⟨by decide +kernel, by decide +kernel⟩, lw_t1 (List.mem_of_getElem? (i := 230) rfl), lw_t2 (List.mem_of_getElem? (i := 22) rfl), lw_t2 (List.mem_of_getElem? (i := 23) rfl)⟩
theorem lw_p2 : lw_okq (⟨"java/lang/Throwable", "fillInStackTrace", "(I)Ljava/lang/Throwable;"⟩, 6) := ⟨⟨by decide +kernel, by decide +kernel⟩, lw_t2 (List.mem_of_getElem? (i := 63) rfl), lw_t2 (List.mem_of_getElem? (i := 61) rfl), lw_t2 (List.mem_of_getElem? (i := 62) rfl)⟩
theorem lw_p3 : lw_okq (⟨"LimbMeasures$Reader", "limb", "(I)V"⟩, 5) := ⟨⟨by decide +kernel, by decide +kernel⟩, lw_t1 (List.mem_of_getElem? (i := 230) rfl), lw_t2 (List.mem_of_getElem? (i := 96) rfl), lw_t2 (List.mem_of_getElem? (i := 97) rfl)⟩
theorem lw_p4 : lw_okq (⟨"LimbMeasures$Reader", "number", "(II)I"⟩, 5) := ⟨⟨by decide +kernel, by decide +kernel⟩, lw_t1 (List.mem_of_getElem? (i := 230) rfl), lw_t2 (List.mem_of_getElem? (i := 102) rfl), lw_t2 (List.mem_of_getElem? (i := 103) rfl)⟩
theorem lw_p5 : lw_okq (⟨"LimbMeasures$Reader", "contract", "(I)V"⟩, 5) := ⟨⟨by decide +kernel, by decide +kernel⟩, lw_t1 (List.mem_of_getElem? (i := 230) rfl), lw_t2 (List.mem_of_getElem? (i := 129) rfl), lw_t2 (List.mem_of_getElem? (i := 130) rfl)⟩
theorem lw_p6 : lw_okq (⟨"LimbMeasures$Reader", "rate", "(I)V"⟩, 5) := ⟨⟨by decide +kernel, by decide +kernel⟩, lw_t1 (List.mem_of_getElem? (i := 230) rfl), lw_t2 (List.mem_of_getElem? (i := 133) rfl), lw_t2 (List.mem_of_getElem? (i := 134) rfl)⟩
theorem lw_p7 : lw_okq (⟨"LimbMeasures$Reader", "heir", "()V"⟩, 5) := ⟨⟨by decide +kernel, by decide +kernel⟩, lw_t1 (List.mem_of_getElem? (i := 230) rfl), lw_t2 (List.mem_of_getElem? (i := 137) rfl), lw_t2 (List.mem_of_getElem? (i := 138) rfl)⟩
theorem lw_p8 : lw_okq (⟨"LimbMeasures", "copies", "()I"⟩, 23) := ⟨⟨by decide +kernel, by decide +kernel⟩, lw_t1 (List.mem_of_getElem? (i := 15) rfl), lw_t2 (List.mem_of_getElem? (i := 149) rfl), lw_t2 (List.mem_of_getElem? (i := 150) rfl)⟩
theorem lw_p9 : lw_okq (⟨"LimbMeasures", "isLimb", "(I)Z"⟩, 23) := ⟨⟨by decide +kernel, by decide +kernel⟩, lw_t1 (List.mem_of_getElem? (i := 15) rfl), lw_t2 (List.mem_of_getElem? (i := 157) rfl), lw_t2 (List.mem_of_getElem? (i := 158) rfl)⟩
theorem lw_p10 : lw_okq (⟨"LimbMeasures", "isContract", "(I)Z"⟩, 23) := ⟨⟨by decide +kernel, by decide +kernel⟩, lw_t1 (List.mem_of_getElem? (i := 15) rfl), lw_t2 (List.mem_of_getElem? (i := 185) rfl), lw_t2 (List.mem_of_getElem? (i := 186) rfl)⟩
theorem lw_p11 : lw_okq (⟨"LimbMeasures", "refusedSeasons", "(I)I"⟩, 23) := ⟨⟨by decide +kernel, by decide +kernel⟩, lw_t1 (List.mem_of_getElem? (i := 15) rfl), lw_t2 (List.mem_of_getElem? (i := 197) rfl), lw_t2 (List.mem_of_getElem? (i := 198) rfl)⟩
theorem lw_p12 : lw_okq (⟨"LimbMeasures", "remember", "()V"⟩, 23) := ⟨⟨by decide +kernel, by decide +kernel⟩, lw_t1 (List.mem_of_getElem? (i := 15) rfl), lw_t2 (List.mem_of_getElem? (i := 202) rfl), lw_t2 (List.mem_of_getElem? (i := 203) rfl)⟩
theorem lw_p13 : lw_okq (⟨"LimbMeasures", "basketFrom", "(III)V"⟩, 23) := ⟨⟨by decide +kernel, by decide +kernel⟩, lw_t1 (List.mem_of_getElem? (i := 15) rfl), lw_t3 (List.mem_of_getElem? (i := 42) rfl), lw_t3 (List.mem_of_getElem? (i := 43) rfl)⟩
theorem lw_p14 : lw_okq (⟨"LimbMeasures", "isSafe", "()Z"⟩, 23) := ⟨⟨by decide +kernel, by decide +kernel⟩, lw_t1 (List.mem_of_getElem? (i := 15) rfl), lw_t3 (List.mem_of_getElem? (i := 46) rfl), lw_t3 (List.mem_of_getElem? (i := 47) rfl)⟩
theorem lw_p15 : lw_okq (⟨"LimbMeasures", "findRing", "()Z"⟩, 23) := ⟨⟨by decide +kernel, by decide +kernel⟩, lw_t1 (List.mem_of_getElem? (i := 15) rfl), lw_t3 (List.mem_of_getElem? (i := 55) rfl), lw_t3 (List.mem_of_getElem? (i := 56) rfl)⟩
def lw_privs_1 : List (MethodName × Nat) := [(⟨"LimbMeasures$Reader", "here", "()I"⟩, 5), (⟨"LimbMeasures$Reader", "clause", "(II)V"⟩, 5), (⟨"java/lang/Throwable", "fillInStackTrace", "(I)Ljava/lang/Throwable;"⟩, 6), (⟨"LimbMeasures$Reader", "limb", "(I)V"⟩, 5), (⟨"LimbMeasures$Reader", "number", "(II)I"⟩, 5), (⟨"LimbMeasures$Reader", "contract", "(I)V"⟩, 5), (⟨"LimbMeasures$Reader", "rate", "(I)V"⟩, 5), (⟨"LimbMeasures$Reader", "heir", "()V"⟩, 5), (⟨"LimbMeasures", "copies", "()I"⟩, 23), (⟨"LimbMeasures", "isLimb", "(I)Z"⟩, 23), (⟨"LimbMeasures", "isContract", "(I)Z"⟩, 23), (⟨"LimbMeasures", "refusedSeasons", "(I)I"⟩, 23), (⟨"LimbMeasures", "remember", "()V"⟩, 23), (⟨"LimbMeasures", "basketFrom", "(III)V"⟩, 23), (⟨"LimbMeasures", "isSafe", "()Z"⟩, 23), (⟨"LimbMeasures", "findRing", "()Z"⟩, 23)]
theorem lw_r1 : ∀ q ∈ lw_privs_1, lw_okq q := List.forall_mem_cons.mpr ⟨lw_p0, List.forall_mem_cons.mpr ⟨lw_p1, List.forall_mem_cons.mpr ⟨lw_p2, List.forall_mem_cons.mpr ⟨lw_p3, List.forall_mem_cons.mpr ⟨lw_p4, List.forall_mem_cons.mpr ⟨lw_p5, List.forall_mem_cons.mpr ⟨lw_p6, List.forall_mem_cons.mpr ⟨lw_p7, List.forall_mem_cons.mpr ⟨lw_p8, List.forall_mem_cons.mpr ⟨lw_p9, List.forall_mem_cons.mpr ⟨lw_p10, List.forall_mem_cons.mpr ⟨lw_p11, List.forall_mem_cons.mpr ⟨lw_p12, List.forall_mem_cons.mpr ⟨lw_p13, List.forall_mem_cons.mpr ⟨lw_p14, List.forall_mem_cons.mpr ⟨lw_p15, fun _ h => absurd h List.not_mem_nil⟩⟩⟩⟩⟩⟩⟩⟩⟩⟩⟩⟩⟩⟩⟩⟩
theorem lw_p16 : lw_okq (⟨"LimbMeasures", "ringFrom", "(IIIII)Z"⟩, 23) := ⟨⟨by decide +kernel, by decide +kernel⟩, lw_t1 (List.mem_of_getElem? (i := 15) rfl), lw_t3 (List.mem_of_getElem? (i := 59) rfl), lw_t3 (List.mem_of_getElem? (i := 60) rfl)⟩
theorem lw_p17 : lw_okq (⟨"LimbMeasures", "heirFrom", "(III)V"⟩, 23) := ⟨⟨by decide +kernel, by decide +kernel⟩, lw_t1 (List.mem_of_getElem? (i := 15) rfl), lw_t3 (List.mem_of_getElem? (i := 78) rfl), lw_t3 (List.mem_of_getElem? (i := 79) rfl)⟩
theorem lw_p18 : lw_okq (⟨"LimbMeasures", "areUnlike", "(II)Z"⟩, 23) := ⟨⟨by decide +kernel, by decide +kernel⟩, lw_t1 (List.mem_of_getElem? (i := 15) rfl), lw_t3 (List.mem_of_getElem? (i := 117) rfl), lw_t3 (List.mem_of_getElem? (i := 118) rfl)⟩
theorem lw_p19 : lw_okq (⟨"LimbMeasuresModel", "here", "()I"⟩, 45) := ⟨⟨by decide +kernel, by decide +kernel⟩, lw_t3 (List.mem_of_getElem? (i := 145) rfl), lw_t4 (List.mem_of_getElem? (i := 62) rfl), lw_t4 (List.mem_of_getElem? (i := 63) rfl)⟩
theorem lw_p20 : lw_okq (⟨"LimbMeasuresModel", "takeClause", "()I"⟩, 45) := ⟨⟨by decide +kernel, by decide +kernel⟩, lw_t3 (List.mem_of_getElem? (i := 145) rfl), lw_t4 (List.mem_of_getElem? (i := 66) rfl), lw_t4 (List.mem_of_getElem? (i := 67) rfl)⟩
theorem lw_p21 : lw_okq (⟨"LimbMeasuresModel", "fails", "(II)I"⟩, 45) := ⟨⟨by decide +kernel, by decide +kernel⟩, lw_t3 (List.mem_of_getElem? (i := 145) rfl), lw_t4 (List.mem_of_getElem? (i := 70) rfl), lw_t4 (List.mem_of_getElem? (i := 71) rfl)⟩
theorem lw_p22 : lw_okq (⟨"LimbMeasuresModel", "takeLimb", "()I"⟩, 45) := ⟨⟨by decide +kernel, by decide +kernel⟩, lw_t3 (List.mem_of_getElem? (i := 145) rfl), lw_t4 (List.mem_of_getElem? (i := 74) rfl), lw_t4 (List.mem_of_getElem? (i := 75) rfl)⟩
theorem lw_p23 : lw_okq (⟨"LimbMeasuresModel", "into", "([IIII)I"⟩, 45) := ⟨⟨by decide +kernel, by decide +kernel⟩, lw_t3 (List.mem_of_getElem? (i := 145) rfl), lw_t4 (List.mem_of_getElem? (i := 78) rfl), lw_t4 (List.mem_of_getElem? (i := 79) rfl)⟩
theorem lw_p24 : lw_okq (⟨"LimbMeasuresModel", "takeNumber", "(II)I"⟩, 45) := ⟨⟨by decide +kernel, by decide +kernel⟩, lw_t3 (List.mem_of_getElem? (i := 145) rfl), lw_t4 (List.mem_of_getElem? (i := 82) rfl), lw_t4 (List.mem_of_getElem? (i := 83) rfl)⟩
theorem lw_p25 : lw_okq (⟨"LimbMeasuresModel", "takeContract", "()I"⟩, 45) := ⟨⟨by decide +kernel, by decide +kernel⟩, lw_t3 (List.mem_of_getElem? (i := 145) rfl), lw_t4 (List.mem_of_getElem? (i := 88) rfl), lw_t4 (List.mem_of_getElem? (i := 89) rfl)⟩
theorem lw_p26 : lw_okq (⟨"LimbMeasuresModel", "takeRate", "()I"⟩, 45) := ⟨⟨by decide +kernel, by decide +kernel⟩, lw_t3 (List.mem_of_getElem? (i := 145) rfl), lw_t4 (List.mem_of_getElem? (i := 92) rfl), lw_t4 (List.mem_of_getElem? (i := 93) rfl)⟩
theorem lw_p27 : lw_okq (⟨"LimbMeasuresModel", "takeHeir", "()I"⟩, 45) := ⟨⟨by decide +kernel, by decide +kernel⟩, lw_t3 (List.mem_of_getElem? (i := 145) rfl), lw_t4 (List.mem_of_getElem? (i := 96) rfl), lw_t4 (List.mem_of_getElem? (i := 97) rfl)⟩
theorem lw_p28 : lw_okq (⟨"LimbMeasuresModel", "takeRead", "()V"⟩, 45) := ⟨⟨by decide +kernel, by decide +kernel⟩, lw_t3 (List.mem_of_getElem? (i := 145) rfl), lw_t4 (List.mem_of_getElem? (i := 100) rfl), lw_t4 (List.mem_of_getElem? (i := 101) rfl)⟩
theorem lw_p29 : lw_okq (⟨"LimbMeasuresModel", "copied", "()I"⟩, 45) := ⟨⟨by decide +kernel, by decide +kernel⟩, lw_t3 (List.mem_of_getElem? (i := 145) rfl), lw_t4 (List.mem_of_getElem? (i := 112) rfl), lw_t4 (List.mem_of_getElem? (i := 113) rfl)⟩
theorem lw_p30 : lw_okq (⟨"LimbMeasuresModel", "isLimb", "(I)Z"⟩, 45) := ⟨⟨by decide +kernel, by decide +kernel⟩, lw_t3 (List.mem_of_getElem? (i := 145) rfl), lw_t4 (List.mem_of_getElem? (i := 120) rfl), lw_t4 (List.mem_of_getElem? (i := 121) rfl)⟩
theorem lw_p31 : lw_okq (⟨"LimbMeasuresModel", "measureNow", "(I)I"⟩, 45) := ⟨⟨by decide +kernel, by decide +kernel⟩, lw_t3 (List.mem_of_getElem? (i := 145) rfl), lw_t4 (List.mem_of_getElem? (i := 125) rfl), lw_t4 (List.mem_of_getElem? (i := 126) rfl)⟩
def lw_privs_2 : List (MethodName × Nat) := [(⟨"LimbMeasures", "ringFrom", "(IIIII)Z"⟩, 23), (⟨"LimbMeasures", "heirFrom", "(III)V"⟩, 23), (⟨"LimbMeasures", "areUnlike", "(II)Z"⟩, 23), (⟨"LimbMeasuresModel", "here", "()I"⟩, 45), (⟨"LimbMeasuresModel", "takeClause", "()I"⟩, 45), (⟨"LimbMeasuresModel", "fails", "(II)I"⟩, 45), (⟨"LimbMeasuresModel", "takeLimb", "()I"⟩, 45), (⟨"LimbMeasuresModel", "into", "([IIII)I"⟩, 45), (⟨"LimbMeasuresModel", "takeNumber", "(II)I"⟩, 45), (⟨"LimbMeasuresModel", "takeContract", "()I"⟩, 45), (⟨"LimbMeasuresModel", "takeRate", "()I"⟩, 45), (⟨"LimbMeasuresModel", "takeHeir", "()I"⟩, 45), (⟨"LimbMeasuresModel", "takeRead", "()V"⟩, 45), (⟨"LimbMeasuresModel", "copied", "()I"⟩, 45), (⟨"LimbMeasuresModel", "isLimb", "(I)Z"⟩, 45), (⟨"LimbMeasuresModel", "measureNow", "(I)I"⟩, 45)]
theorem lw_r2 : ∀ q ∈ lw_privs_2, lw_okq q := List.forall_mem_cons.mpr ⟨lw_p16, List.forall_mem_cons.mpr ⟨lw_p17, List.forall_mem_cons.mpr ⟨lw_p18, List.forall_mem_cons.mpr ⟨lw_p19, List.forall_mem_cons.mpr ⟨lw_p20, List.forall_mem_cons.mpr ⟨lw_p21, List.forall_mem_cons.mpr ⟨lw_p22, List.forall_mem_cons.mpr ⟨lw_p23, List.forall_mem_cons.mpr ⟨lw_p24, List.forall_mem_cons.mpr ⟨lw_p25, List.forall_mem_cons.mpr ⟨lw_p26, List.forall_mem_cons.mpr ⟨lw_p27, List.forall_mem_cons.mpr ⟨lw_p28, List.forall_mem_cons.mpr ⟨lw_p29, List.forall_mem_cons.mpr ⟨lw_p30, List.forall_mem_cons.mpr ⟨lw_p31, fun _ h => absurd h List.not_mem_nil⟩⟩⟩⟩⟩⟩⟩⟩⟩⟩⟩⟩⟩⟩⟩⟩
theorem lw_p32 : lw_okq (⟨"LimbMeasuresModel", "measure", "(II)I"⟩, 45) := ⟨⟨by decide +kernel, by decide +kernel⟩, lw_t3 (List.mem_of_getElem? (i := 145) rfl), lw_t4 (List.mem_of_getElem? (i := 129) rfl), lw_t4 (List.mem_of_getElem? (i := 130) rfl)⟩
theorem lw_p33 : lw_okq (⟨"LimbMeasuresModel", "lives", "(I)Z"⟩, 45) := ⟨⟨by decide +kernel, by decide +kernel⟩, lw_t3 (List.mem_of_getElem? (i := 145) rfl), lw_t4 (List.mem_of_getElem? (i := 133) rfl), lw_t4 (List.mem_of_getElem? (i := 134) rfl)⟩
theorem lw_p34 : lw_okq (⟨"LimbMeasuresModel", "grown", "(II)I"⟩, 45) := ⟨⟨by decide +kernel, by decide +kernel⟩, lw_t3 (List.mem_of_getElem? (i := 145) rfl), lw_t4 (List.mem_of_getElem? (i := 140) rfl), lw_t4 (List.mem_of_getElem? (i := 141) rfl)⟩
theorem lw_p35 : lw_okq (⟨"LimbMeasuresModel", "seasonsRefused", "(I)I"⟩, 45) := ⟨⟨by decide +kernel, by decide +kernel⟩, lw_t3 (List.mem_of_getElem? (i := 145) rfl), lw_t4 (List.mem_of_getElem? (i := 158) rfl), lw_t4 (List.mem_of_getElem? (i := 159) rfl)⟩
theorem lw_p36 : lw_okq (⟨"LimbMeasuresModel", "remember", "()V"⟩, 45) := ⟨⟨by decide +kernel, by decide +kernel⟩, lw_t3 (List.mem_of_getElem? (i := 145) rfl), lw_t4 (List.mem_of_getElem? (i := 164) rfl), lw_t4 (List.mem_of_getElem? (i := 165) rfl)⟩
theorem lw_p37 : lw_okq (⟨"LimbMeasuresModel", "pass", "()V"⟩, 45) := ⟨⟨by decide +kernel, by decide +kernel⟩, lw_t3 (List.mem_of_getElem? (i := 145) rfl), lw_t4 (List.mem_of_getElem? (i := 168) rfl), lw_t4 (List.mem_of_getElem? (i := 169) rfl)⟩
theorem lw_p38 : lw_okq (⟨"LimbMeasuresModel", "swell", "(II)V"⟩, 45) := ⟨⟨by decide +kernel, by decide +kernel⟩, lw_t3 (List.mem_of_getElem? (i := 145) rfl), lw_t4 (List.mem_of_getElem? (i := 177) rfl), lw_t4 (List.mem_of_getElem? (i := 178) rfl)⟩
theorem lw_p39 : lw_okq (⟨"LimbMeasuresModel", "shrink", "(I)V"⟩, 45) := ⟨⟨by decide +kernel, by decide +kernel⟩, lw_t3 (List.mem_of_getElem? (i := 145) rfl), lw_t4 (List.mem_of_getElem? (i := 185) rfl), lw_t4 (List.mem_of_getElem? (i := 186) rfl)⟩
theorem lw_p40 : lw_okq (⟨"LimbMeasuresModel", "drawn", "()V"⟩, 45) := ⟨⟨by decide +kernel, by decide +kernel⟩, lw_t3 (List.mem_of_getElem? (i := 145) rfl), lw_t4 (List.mem_of_getElem? (i := 201) rfl), lw_t4 (List.mem_of_getElem? (i := 202) rfl)⟩
theorem lw_p41 : lw_okq (⟨"LimbMeasuresModel", "draw", "(I)I"⟩, 45) := ⟨⟨by decide +kernel, by decide +kernel⟩, lw_t3 (List.mem_of_getElem? (i := 145) rfl), lw_t4 (List.mem_of_getElem? (i := 205) rfl), lw_t4 (List.mem_of_getElem? (i := 206) rfl)⟩
theorem lw_p42 : lw_okq (⟨"LimbMeasuresModel", "findBasket", "()V"⟩, 45) := ⟨⟨by decide +kernel, by decide +kernel⟩, lw_t3 (List.mem_of_getElem? (i := 145) rfl), lw_t4 (List.mem_of_getElem? (i := 230) rfl), lw_t4 (List.mem_of_getElem? (i := 231) rfl)⟩
theorem lw_p43 : lw_okq (⟨"LimbMeasuresModel", "isBasket", "(I)Z"⟩, 45) := ⟨⟨by decide +kernel, by decide +kernel⟩, lw_t3 (List.mem_of_getElem? (i := 145) rfl), lw_t4 (List.mem_of_getElem? (i := 234) rfl), lw_t4 (List.mem_of_getElem? (i := 235) rfl)⟩
theorem lw_p44 : lw_okq (⟨"LimbMeasuresModel", "isFree", "(I)Z"⟩, 45) := ⟨⟨by decide +kernel, by decide +kernel⟩, lw_t3 (List.mem_of_getElem? (i := 145) rfl), lw_t5 (List.mem_of_getElem? (i := 1) rfl), lw_t5 (List.mem_of_getElem? (i := 2) rfl)⟩
theorem lw_p45 : lw_okq (⟨"LimbMeasuresModel", "basketAt", "(II)I"⟩, 45) := ⟨⟨by decide +kernel, by decide +kernel⟩, lw_t3 (List.mem_of_getElem? (i := 145) rfl), lw_t5 (List.mem_of_getElem? (i := 5) rfl), lw_t5 (List.mem_of_getElem? (i := 6) rfl)⟩
theorem lw_p46 : lw_okq (⟨"LimbMeasuresModel", "findRing", "()I"⟩, 45) := ⟨⟨by decide +kernel, by decide +kernel⟩, lw_t3 (List.mem_of_getElem? (i := 145) rfl), lw_t5 (List.mem_of_getElem? (i := 23) rfl), lw_t5 (List.mem_of_getElem? (i := 24) rfl)⟩
theorem lw_p47 : lw_okq (⟨"LimbMeasuresModel", "isRow", "(II)Z"⟩, 45) := ⟨⟨by decide +kernel, by decide +kernel⟩, lw_t3 (List.mem_of_getElem? (i := 145) rfl), lw_t5 (List.mem_of_getElem? (i := 27) rfl), lw_t5 (List.mem_of_getElem? (i := 28) rfl)⟩
def lw_privs_3 : List (MethodName × Nat) := [(⟨"LimbMeasuresModel", "measure", "(II)I"⟩, 45), (⟨"LimbMeasuresModel", "lives", "(I)Z"⟩, 45), (⟨"LimbMeasuresModel", "grown", "(II)I"⟩, 45), (⟨"LimbMeasuresModel", "seasonsRefused", "(I)I"⟩, 45), (⟨"LimbMeasuresModel", "remember", "()V"⟩, 45), (⟨"LimbMeasuresModel", "pass", "()V"⟩, 45), (⟨"LimbMeasuresModel", "swell", "(II)V"⟩, 45), (⟨"LimbMeasuresModel", "shrink", "(I)V"⟩, 45), (⟨"LimbMeasuresModel", "drawn", "()V"⟩, 45), (⟨"LimbMeasuresModel", "draw", "(I)I"⟩, 45), (⟨"LimbMeasuresModel", "findBasket", "()V"⟩, 45), (⟨"LimbMeasuresModel", "isBasket", "(I)Z"⟩, 45), (⟨"LimbMeasuresModel", "isFree", "(I)Z"⟩, 45), (⟨"LimbMeasuresModel", "basketAt", "(II)I"⟩, 45), (⟨"LimbMeasuresModel", "findRing", "()I"⟩, 45), (⟨"LimbMeasuresModel", "isRow", "(II)Z"⟩, 45)]
theorem lw_r3 : ∀ q ∈ lw_privs_3, lw_okq q := List.forall_mem_cons.mpr ⟨lw_p32, List.forall_mem_cons.mpr ⟨lw_p33, List.forall_mem_cons.mpr ⟨lw_p34, List.forall_mem_cons.mpr ⟨lw_p35, List.forall_mem_cons.mpr ⟨lw_p36, List.forall_mem_cons.mpr ⟨lw_p37, List.forall_mem_cons.mpr ⟨lw_p38, List.forall_mem_cons.mpr ⟨lw_p39, List.forall_mem_cons.mpr ⟨lw_p40, List.forall_mem_cons.mpr ⟨lw_p41, List.forall_mem_cons.mpr ⟨lw_p42, List.forall_mem_cons.mpr ⟨lw_p43, List.forall_mem_cons.mpr ⟨lw_p44, List.forall_mem_cons.mpr ⟨lw_p45, List.forall_mem_cons.mpr ⟨lw_p46, List.forall_mem_cons.mpr ⟨lw_p47, fun _ h => absurd h List.not_mem_nil⟩⟩⟩⟩⟩⟩⟩⟩⟩⟩⟩⟩⟩⟩⟩⟩
theorem lw_p48 : lw_okq (⟨"LimbMeasuresModel", "gains", "(III)Z"⟩, 45) := ⟨⟨by decide +kernel, by decide +kernel⟩, lw_t3 (List.mem_of_getElem? (i := 145) rfl), lw_t5 (List.mem_of_getElem? (i := 34) rfl), lw_t5 (List.mem_of_getElem? (i := 35) rfl)⟩
theorem lw_p49 : lw_okq (⟨"LimbMeasuresModel", "apartBy", "(I)I"⟩, 45) := ⟨⟨by decide +kernel, by decide +kernel⟩, lw_t3 (List.mem_of_getElem? (i := 145) rfl), lw_t5 (List.mem_of_getElem? (i := 51) rfl), lw_t5 (List.mem_of_getElem? (i := 52) rfl)⟩
def lw_privs_4 : List (MethodName × Nat) := [(⟨"LimbMeasuresModel", "gains", "(III)Z"⟩, 45), (⟨"LimbMeasuresModel", "apartBy", "(I)I"⟩, 45)]
theorem lw_r4 : ∀ q ∈ lw_privs_4, lw_okq q := List.forall_mem_cons.mpr ⟨lw_p48, List.forall_mem_cons.mpr ⟨lw_p49, fun _ h => absurd h List.not_mem_nil⟩⟩
def lw_privs : List (MethodName × Nat) := lw_privs_1 ++ (lw_privs_2 ++ (lw_privs_3 ++ (lw_privs_4)))
def lw_tbl : List Cond := k2_sels lw_privs ++ tables_1
theorem lw_privs_ok : ∀ q ∈ lw_privs, lw_okq q := by
  show ∀ q ∈ lw_privs_1 ++ (lw_privs_2 ++ (lw_privs_3 ++ (lw_privs_4))), lw_okq q
  exact List.forall_mem_append.mpr ⟨lw_r1, List.forall_mem_append.mpr ⟨lw_r2, List.forall_mem_append.mpr ⟨lw_r3, lw_r4⟩⟩⟩
-- ===== ONE list of words for every method: the tables' words that hold all through a run =====
def lw_all : List Cond := lw_tbl.filter goodWord
/-- a word of the tables by its place: claim/WORDS.tsv -/
theorem lw_w {w : Cond} (i : Nat) (h : lw_tbl[i]? = some w) (g : goodWord w = true) : w ∈ lw_all := List.mem_filter.mpr ⟨List.mem_of_getElem? h, g⟩
theorem lw_all_tbl {w : Cond} (h : w ∈ lw_all) : w ∈ lw_tbl := (List.mem_filter.mp h).1
theorem lw_self : GoodIn lw_all lw_all := fun w h => ⟨h, good_of_word (List.mem_filter.mp h).2⟩
/-- a class's field words, by their places -/
theorem lw_in (ws : List Cond) (ps : List Nat) (hp : ws = ps.filterMap (fun i => lw_tbl[i]?)) (hg : ws.all goodWord = true) : ∀ w ∈ ws, w ∈ lw_all := by
  intro w h
  have h1 := List.all_eq_true.mp hg w h
  rw [hp] at h
  obtain ⟨i, -, hi⟩ := List.mem_filterMap.mp h
  exact lw_w i hi h1
/-- the words of a contract for the method y with code b, L locals, answer r -/
abbrev ws_ (y : MethodName) (b : ByteArray) (L : Nat) (r : Option FieldType) : List Cond := Cond.code y b L r :: lw_all
theorem lw_meth {y : MethodName} {b : ByteArray} {L : Nat} {r : Option FieldType} (h : Cond.code y b L r ∈ lw_all) : GoodIn lw_all (ws_ y b L r) := by
  intro w hw
  rcases List.mem_cons.mp hw with e | e
  · rw [e]
    exact lw_self _ h
  · exact lw_self _ e
theorem lw_app {a c : List Cond} (ha : ∀ w ∈ a, w ∈ lw_all) (hc : GoodIn lw_all c) : GoodIn lw_all (a ++ c) := by
  intro w hw
  rcases List.mem_append.mp hw with e | e
  · exact lw_self w (ha w e)
  · exact hc w e
/-- what a call through an object asks: cwV n hts (lw_V ..) -/
theorem lw_V {own : String} {idx : Nat} {C : String} {y : MethodName} {b : ByteArray} {L : Nat} {r : Option FieldType} (h1 : Cond.methodLink own idx y ∈ lw_all) (h2 : Cond.instanceMethod y ∈ lw_all) (h3 : Cond.selects C y y ∈ lw_all) (h4 : Cond.initialized C ∈ lw_all) (h5 : Cond.code y b L r ∈ lw_all) : GoodIn lw_all (wsV own idx C y (ws_ y b L r)) := by
  refine lw_app ?_ (lw_meth h5)
  intro w hw
  simp only [List.mem_cons, List.not_mem_nil, or_false] at hw
  rcases hw with e | e | e | e
  · rw [e]; exact h1
  · rw [e]; exact h2
  · rw [e]; exact h3
  · rw [e]; exact h4
/-- what a static call asks: va_cwS n hts (lw_S ..) -/
theorem lw_S {own : String} {idx : Nat} {y : MethodName} {b : ByteArray} {L : Nat} {r : Option FieldType} (h1 : Cond.methodLink own idx y ∈ lw_all) (h2 : Cond.static y ∈ lw_all) (h3 : Cond.initialized y.cls ∈ lw_all) (h4 : Cond.code y b L r ∈ lw_all) : GoodIn lw_all (va_wsS own idx y (ws_ y b L r)) := by
  refine lw_app ?_ (lw_meth h4)
  intro w hw
  simp only [List.mem_cons, List.not_mem_nil, or_false] at hw
  rcases hw with e | e | e
  · rw [e]; exact h1
  · rw [e]; exact h2
  · rw [e]; exact h3
/-- the words of a contract for a method WITH HANDLERS (hh: its table) -/
abbrev wsW_ (y : MethodName) (b : ByteArray) (L : Nat) (r : Option FieldType) (hh : List (Nat × Nat × Nat × Nat)) : List Cond := Cond.codeWith y b L r hh :: lw_all
theorem lw_methW {y : MethodName} {b : ByteArray} {L : Nat} {r : Option FieldType} {hh : List (Nat × Nat × Nat × Nat)} (h : Cond.codeWith y b L r hh ∈ lw_all) : GoodIn lw_all (wsW_ y b L r hh) := by
  intro w hw
  rcases List.mem_cons.mp hw with e | e
  · rw [e]
    exact lw_self _ h
  · exact lw_self _ e
/-- any list of words by their places (lw_in), good -/
theorem lw_good {ws : List Cond} (h : ∀ w ∈ ws, w ∈ lw_all) : GoodIn lw_all ws := fun w hw => lw_self w (h w hw)
/-- what a call of a method with handlers asks: vx_cwVW n hts (lw_VW ..), vx_cwSW n hts (lw_SW ..) -/
theorem lw_VW {own : String} {idx : Nat} {C : String} {y : MethodName} {b : ByteArray} {L : Nat} {r : Option FieldType} {hh : List (Nat × Nat × Nat × Nat)} (h1 : Cond.methodLink own idx y ∈ lw_all) (h2 : Cond.instanceMethod y ∈ lw_all) (h3 : Cond.selects C y y ∈ lw_all) (h4 : Cond.initialized C ∈ lw_all) (h5 : Cond.codeWith y b L r hh ∈ lw_all) : GoodIn lw_all (wsV own idx C y (wsW_ y b L r hh)) := by
  refine lw_app ?_ (lw_methW h5)
  intro w hw
  simp only [List.mem_cons, List.not_mem_nil, or_false] at hw
  rcases hw with e | e | e | e
  · rw [e]; exact h1
  · rw [e]; exact h2
  · rw [e]; exact h3
  · rw [e]; exact h4
theorem lw_SW {own : String} {idx : Nat} {y : MethodName} {b : ByteArray} {L : Nat} {r : Option FieldType} {hh : List (Nat × Nat × Nat × Nat)} (h1 : Cond.methodLink own idx y ∈ lw_all) (h2 : Cond.static y ∈ lw_all) (h3 : Cond.initialized y.cls ∈ lw_all) (h4 : Cond.codeWith y b L r hh ∈ lw_all) : GoodIn lw_all (va_wsS own idx y (wsW_ y b L r hh)) := by
  refine lw_app ?_ (lw_methW h4)
  intro w hw
  simp only [List.mem_cons, List.not_mem_nil, or_false] at hw
  rcases hw with e | e | e
  · rw [e]; exact h1
  · rw [e]; exact h2
  · rw [e]; exact h3
/-- a word by its place in its run of the tables -/
theorem lw_at {r : List Cond} (hr : ∀ w ∈ r, w ∈ lw_tbl) {w : Cond} (i : Nat) (h : r[i]? = some w) : w ∈ lw_tbl := hr w (List.mem_of_getElem? h)
theorem lw_g {w : Cond} (h : w ∈ lw_tbl) (g : goodWord w = true) : w ∈ lw_all := List.mem_filter.mpr ⟨h, g⟩
theorem lw_ms : ∀ w ∈ k2_sels lw_privs, w ∈ lw_tbl := fun w h => show w ∈ k2_sels lw_privs ++ tables_1 from List.mem_append_left _ h
theorem lw_m1 : ∀ w ∈ tables_1_1, w ∈ lw_tbl := fun w h => show w ∈ k2_sels lw_privs ++ tables_1 from List.mem_append_right (k2_sels lw_privs) (show w ∈ tables_1 from List.mem_append_left _ h)
theorem lw_m2 : ∀ w ∈ tables_1_2, w ∈ lw_tbl := fun w h => show w ∈ k2_sels lw_privs ++ tables_1 from List.mem_append_right (k2_sels lw_privs) (show w ∈ tables_1 from List.mem_append_right _ (List.mem_append_left _ h))
theorem lw_m3 : ∀ w ∈ tables_1_3, w ∈ lw_tbl := fun w h => show w ∈ k2_sels lw_privs ++ tables_1 from List.mem_append_right (k2_sels lw_privs) (show w ∈ tables_1 from List.mem_append_right _ (List.mem_append_right _ (List.mem_append_left _ h)))
theorem lw_m4 : ∀ w ∈ tables_1_4, w ∈ lw_tbl := fun w h => show w ∈ k2_sels lw_privs ++ tables_1 from List.mem_append_right (k2_sels lw_privs) (show w ∈ tables_1 from List.mem_append_right _ (List.mem_append_right _ (List.mem_append_right _ (List.mem_append_left _ h))))
theorem lw_m5 : ∀ w ∈ tables_1_5, w ∈ lw_tbl := fun w h => show w ∈ k2_sels lw_privs ++ tables_1 from List.mem_append_right (k2_sels lw_privs) (show w ∈ tables_1 from List.mem_append_right _ (List.mem_append_right _ (List.mem_append_right _ (List.mem_append_right _ h))))
theorem qs0 : (Cond.selects "LimbMeasures$Reader" ⟨"LimbMeasures$Reader", "here", "()I"⟩ ⟨"LimbMeasures$Reader", "here", "()I"⟩) ∈ lw_all := lw_g (lw_at lw_ms 0 rfl) rfl
theorem qs1 : (Cond.selects "LimbMeasures$Reader" ⟨"LimbMeasures$Reader", "clause", "(II)V"⟩ ⟨"LimbMeasures$Reader", "clause", "(II)V"⟩) ∈ lw_all := lw_g (lw_at lw_ms 1 rfl) rfl
theorem qs2 : (Cond.selects "java/lang/Throwable" ⟨"java/lang/Throwable", "fillInStackTrace", "(I)Ljava/lang/Throwable;"⟩ ⟨"java/lang/Throwable", "fillInStackTrace", "(I)Ljava/lang/Throwable;"⟩) ∈ lw_all := lw_g (lw_at lw_ms 2 rfl) rfl
theorem qs3 : (Cond.selects "LimbMeasures$Reader" ⟨"LimbMeasures$Reader", "limb", "(I)V"⟩ ⟨"LimbMeasures$Reader", "limb", "(I)V"⟩) ∈ lw_all := lw_g (lw_at lw_ms 3 rfl) rfl
theorem qs4 : (Cond.selects "LimbMeasures$Reader" ⟨"LimbMeasures$Reader", "number", "(II)I"⟩ ⟨"LimbMeasures$Reader", "number", "(II)I"⟩) ∈ lw_all := lw_g (lw_at lw_ms 4 rfl) rfl
theorem qs5 : (Cond.selects "LimbMeasures$Reader" ⟨"LimbMeasures$Reader", "contract", "(I)V"⟩ ⟨"LimbMeasures$Reader", "contract", "(I)V"⟩) ∈ lw_all := lw_g (lw_at lw_ms 5 rfl) rfl
theorem qs6 : (Cond.selects "LimbMeasures$Reader" ⟨"LimbMeasures$Reader", "rate", "(I)V"⟩ ⟨"LimbMeasures$Reader", "rate", "(I)V"⟩) ∈ lw_all := lw_g (lw_at lw_ms 6 rfl) rfl
theorem qs7 : (Cond.selects "LimbMeasures$Reader" ⟨"LimbMeasures$Reader", "heir", "()V"⟩ ⟨"LimbMeasures$Reader", "heir", "()V"⟩) ∈ lw_all := lw_g (lw_at lw_ms 7 rfl) rfl
theorem qs8 : (Cond.selects "LimbMeasures" ⟨"LimbMeasures", "copies", "()I"⟩ ⟨"LimbMeasures", "copies", "()I"⟩) ∈ lw_all := lw_g (lw_at lw_ms 8 rfl) rfl
theorem qs9 : (Cond.selects "LimbMeasures" ⟨"LimbMeasures", "isLimb", "(I)Z"⟩ ⟨"LimbMeasures", "isLimb", "(I)Z"⟩) ∈ lw_all := lw_g (lw_at lw_ms 9 rfl) rfl
theorem qs10 : (Cond.selects "LimbMeasures" ⟨"LimbMeasures", "isContract", "(I)Z"⟩ ⟨"LimbMeasures", "isContract", "(I)Z"⟩) ∈ lw_all := lw_g (lw_at lw_ms 10 rfl) rfl
theorem qs11 : (Cond.selects "LimbMeasures" ⟨"LimbMeasures", "refusedSeasons", "(I)I"⟩ ⟨"LimbMeasures", "refusedSeasons", "(I)I"⟩) ∈ lw_all := lw_g (lw_at lw_ms 11 rfl) rfl
theorem qs12 : (Cond.selects "LimbMeasures" ⟨"LimbMeasures", "remember", "()V"⟩ ⟨"LimbMeasures", "remember", "()V"⟩) ∈ lw_all := lw_g (lw_at lw_ms 12 rfl) rfl
theorem qs13 : (Cond.selects "LimbMeasures" ⟨"LimbMeasures", "basketFrom", "(III)V"⟩ ⟨"LimbMeasures", "basketFrom", "(III)V"⟩) ∈ lw_all := lw_g (lw_at lw_ms 13 rfl) rfl
theorem qs14 : (Cond.selects "LimbMeasures" ⟨"LimbMeasures", "isSafe", "()Z"⟩ ⟨"LimbMeasures", "isSafe", "()Z"⟩) ∈ lw_all := lw_g (lw_at lw_ms 14 rfl) rfl
theorem qs15 : (Cond.selects "LimbMeasures" ⟨"LimbMeasures", "findRing", "()Z"⟩ ⟨"LimbMeasures", "findRing", "()Z"⟩) ∈ lw_all := lw_g (lw_at lw_ms 15 rfl) rfl
theorem qs16 : (Cond.selects "LimbMeasures" ⟨"LimbMeasures", "ringFrom", "(IIIII)Z"⟩ ⟨"LimbMeasures", "ringFrom", "(IIIII)Z"⟩) ∈ lw_all := lw_g (lw_at lw_ms 16 rfl) rfl
theorem qs17 : (Cond.selects "LimbMeasures" ⟨"LimbMeasures", "heirFrom", "(III)V"⟩ ⟨"LimbMeasures", "heirFrom", "(III)V"⟩) ∈ lw_all := lw_g (lw_at lw_ms 17 rfl) rfl
theorem qs18 : (Cond.selects "LimbMeasures" ⟨"LimbMeasures", "areUnlike", "(II)Z"⟩ ⟨"LimbMeasures", "areUnlike", "(II)Z"⟩) ∈ lw_all := lw_g (lw_at lw_ms 18 rfl) rfl
theorem qs19 : (Cond.selects "LimbMeasuresModel" ⟨"LimbMeasuresModel", "here", "()I"⟩ ⟨"LimbMeasuresModel", "here", "()I"⟩) ∈ lw_all := lw_g (lw_at lw_ms 19 rfl) rfl
theorem qs20 : (Cond.selects "LimbMeasuresModel" ⟨"LimbMeasuresModel", "takeClause", "()I"⟩ ⟨"LimbMeasuresModel", "takeClause", "()I"⟩) ∈ lw_all := lw_g (lw_at lw_ms 20 rfl) rfl
theorem qs21 : (Cond.selects "LimbMeasuresModel" ⟨"LimbMeasuresModel", "fails", "(II)I"⟩ ⟨"LimbMeasuresModel", "fails", "(II)I"⟩) ∈ lw_all := lw_g (lw_at lw_ms 21 rfl) rfl
theorem qs22 : (Cond.selects "LimbMeasuresModel" ⟨"LimbMeasuresModel", "takeLimb", "()I"⟩ ⟨"LimbMeasuresModel", "takeLimb", "()I"⟩) ∈ lw_all := lw_g (lw_at lw_ms 22 rfl) rfl
theorem qs23 : (Cond.selects "LimbMeasuresModel" ⟨"LimbMeasuresModel", "into", "([IIII)I"⟩ ⟨"LimbMeasuresModel", "into", "([IIII)I"⟩) ∈ lw_all := lw_g (lw_at lw_ms 23 rfl) rfl
theorem qs24 : (Cond.selects "LimbMeasuresModel" ⟨"LimbMeasuresModel", "takeNumber", "(II)I"⟩ ⟨"LimbMeasuresModel", "takeNumber", "(II)I"⟩) ∈ lw_all := lw_g (lw_at lw_ms 24 rfl) rfl
theorem qs25 : (Cond.selects "LimbMeasuresModel" ⟨"LimbMeasuresModel", "takeContract", "()I"⟩ ⟨"LimbMeasuresModel", "takeContract", "()I"⟩) ∈ lw_all := lw_g (lw_at lw_ms 25 rfl) rfl
theorem qs26 : (Cond.selects "LimbMeasuresModel" ⟨"LimbMeasuresModel", "takeRate", "()I"⟩ ⟨"LimbMeasuresModel", "takeRate", "()I"⟩) ∈ lw_all := lw_g (lw_at lw_ms 26 rfl) rfl
theorem qs27 : (Cond.selects "LimbMeasuresModel" ⟨"LimbMeasuresModel", "takeHeir", "()I"⟩ ⟨"LimbMeasuresModel", "takeHeir", "()I"⟩) ∈ lw_all := lw_g (lw_at lw_ms 27 rfl) rfl
theorem qs28 : (Cond.selects "LimbMeasuresModel" ⟨"LimbMeasuresModel", "takeRead", "()V"⟩ ⟨"LimbMeasuresModel", "takeRead", "()V"⟩) ∈ lw_all := lw_g (lw_at lw_ms 28 rfl) rfl
theorem qs29 : (Cond.selects "LimbMeasuresModel" ⟨"LimbMeasuresModel", "copied", "()I"⟩ ⟨"LimbMeasuresModel", "copied", "()I"⟩) ∈ lw_all := lw_g (lw_at lw_ms 29 rfl) rfl
theorem qs30 : (Cond.selects "LimbMeasuresModel" ⟨"LimbMeasuresModel", "isLimb", "(I)Z"⟩ ⟨"LimbMeasuresModel", "isLimb", "(I)Z"⟩) ∈ lw_all := lw_g (lw_at lw_ms 30 rfl) rfl
theorem qs31 : (Cond.selects "LimbMeasuresModel" ⟨"LimbMeasuresModel", "measureNow", "(I)I"⟩ ⟨"LimbMeasuresModel", "measureNow", "(I)I"⟩) ∈ lw_all := lw_g (lw_at lw_ms 31 rfl) rfl
theorem qs32 : (Cond.selects "LimbMeasuresModel" ⟨"LimbMeasuresModel", "measure", "(II)I"⟩ ⟨"LimbMeasuresModel", "measure", "(II)I"⟩) ∈ lw_all := lw_g (lw_at lw_ms 32 rfl) rfl
theorem qs33 : (Cond.selects "LimbMeasuresModel" ⟨"LimbMeasuresModel", "lives", "(I)Z"⟩ ⟨"LimbMeasuresModel", "lives", "(I)Z"⟩) ∈ lw_all := lw_g (lw_at lw_ms 33 rfl) rfl
theorem qs34 : (Cond.selects "LimbMeasuresModel" ⟨"LimbMeasuresModel", "grown", "(II)I"⟩ ⟨"LimbMeasuresModel", "grown", "(II)I"⟩) ∈ lw_all := lw_g (lw_at lw_ms 34 rfl) rfl
theorem qs35 : (Cond.selects "LimbMeasuresModel" ⟨"LimbMeasuresModel", "seasonsRefused", "(I)I"⟩ ⟨"LimbMeasuresModel", "seasonsRefused", "(I)I"⟩) ∈ lw_all := lw_g (lw_at lw_ms 35 rfl) rfl
theorem qs36 : (Cond.selects "LimbMeasuresModel" ⟨"LimbMeasuresModel", "remember", "()V"⟩ ⟨"LimbMeasuresModel", "remember", "()V"⟩) ∈ lw_all := lw_g (lw_at lw_ms 36 rfl) rfl
theorem qs37 : (Cond.selects "LimbMeasuresModel" ⟨"LimbMeasuresModel", "pass", "()V"⟩ ⟨"LimbMeasuresModel", "pass", "()V"⟩) ∈ lw_all := lw_g (lw_at lw_ms 37 rfl) rfl
theorem qs38 : (Cond.selects "LimbMeasuresModel" ⟨"LimbMeasuresModel", "swell", "(II)V"⟩ ⟨"LimbMeasuresModel", "swell", "(II)V"⟩) ∈ lw_all := lw_g (lw_at lw_ms 38 rfl) rfl
theorem qs39 : (Cond.selects "LimbMeasuresModel" ⟨"LimbMeasuresModel", "shrink", "(I)V"⟩ ⟨"LimbMeasuresModel", "shrink", "(I)V"⟩) ∈ lw_all := lw_g (lw_at lw_ms 39 rfl) rfl
theorem qs40 : (Cond.selects "LimbMeasuresModel" ⟨"LimbMeasuresModel", "drawn", "()V"⟩ ⟨"LimbMeasuresModel", "drawn", "()V"⟩) ∈ lw_all := lw_g (lw_at lw_ms 40 rfl) rfl
theorem qs41 : (Cond.selects "LimbMeasuresModel" ⟨"LimbMeasuresModel", "draw", "(I)I"⟩ ⟨"LimbMeasuresModel", "draw", "(I)I"⟩) ∈ lw_all := lw_g (lw_at lw_ms 41 rfl) rfl
theorem qs42 : (Cond.selects "LimbMeasuresModel" ⟨"LimbMeasuresModel", "findBasket", "()V"⟩ ⟨"LimbMeasuresModel", "findBasket", "()V"⟩) ∈ lw_all := lw_g (lw_at lw_ms 42 rfl) rfl
theorem qs43 : (Cond.selects "LimbMeasuresModel" ⟨"LimbMeasuresModel", "isBasket", "(I)Z"⟩ ⟨"LimbMeasuresModel", "isBasket", "(I)Z"⟩) ∈ lw_all := lw_g (lw_at lw_ms 43 rfl) rfl
theorem qs44 : (Cond.selects "LimbMeasuresModel" ⟨"LimbMeasuresModel", "isFree", "(I)Z"⟩ ⟨"LimbMeasuresModel", "isFree", "(I)Z"⟩) ∈ lw_all := lw_g (lw_at lw_ms 44 rfl) rfl
theorem qs45 : (Cond.selects "LimbMeasuresModel" ⟨"LimbMeasuresModel", "basketAt", "(II)I"⟩ ⟨"LimbMeasuresModel", "basketAt", "(II)I"⟩) ∈ lw_all := lw_g (lw_at lw_ms 45 rfl) rfl
theorem qs46 : (Cond.selects "LimbMeasuresModel" ⟨"LimbMeasuresModel", "findRing", "()I"⟩ ⟨"LimbMeasuresModel", "findRing", "()I"⟩) ∈ lw_all := lw_g (lw_at lw_ms 46 rfl) rfl
theorem qs47 : (Cond.selects "LimbMeasuresModel" ⟨"LimbMeasuresModel", "isRow", "(II)Z"⟩ ⟨"LimbMeasuresModel", "isRow", "(II)Z"⟩) ∈ lw_all := lw_g (lw_at lw_ms 47 rfl) rfl
theorem qs48 : (Cond.selects "LimbMeasuresModel" ⟨"LimbMeasuresModel", "gains", "(III)Z"⟩ ⟨"LimbMeasuresModel", "gains", "(III)Z"⟩) ∈ lw_all := lw_g (lw_at lw_ms 48 rfl) rfl
theorem qs49 : (Cond.selects "LimbMeasuresModel" ⟨"LimbMeasuresModel", "apartBy", "(I)I"⟩ ⟨"LimbMeasuresModel", "apartBy", "(I)I"⟩) ∈ lw_all := lw_g (lw_at lw_ms 49 rfl) rfl
-- ===== end of PART A; then your names; then what follows =====
