-- ===== PART A: goes FIRST, ahead of the names: the tables' words, and 'selects' of the private methods out of them =====
/-- a private method of a class that the tables say can be made, by its rows of tables_1 -/
def lw_okq (q : MethodName × Nat) : Prop := (q.1.cls ≠ "java/lang/invoke/MethodHandle" ∧ q.1.cls ≠ "java/lang/invoke/VarHandle") ∧ Cond.instantiable q.1.cls q.2 ∈ tables_1 ∧ Cond.privateMethod q.1 ∈ tables_1 ∧ Cond.instanceMethod q.1 ∈ tables_1
set_option maxRecDepth 100000
theorem lw_t1 {w : Cond} (h : w ∈ tables_1_1) : w ∈ tables_1 := List.mem_append_left _ h
theorem lw_t2 {w : Cond} (h : w ∈ tables_1_2) : w ∈ tables_1 := List.mem_append_right _ (List.mem_append_left _ h)
theorem lw_t3 {w : Cond} (h : w ∈ tables_1_3) : w ∈ tables_1 := List.mem_append_right _ (List.mem_append_right _ (List.mem_append_left _ h))
theorem lw_t4 {w : Cond} (h : w ∈ tables_1_4) : w ∈ tables_1 := List.mem_append_right _ (List.mem_append_right _ (List.mem_append_right _ (List.mem_append_left _ h)))
theorem lw_t5 {w : Cond} (h : w ∈ tables_1_5) : w ∈ tables_1 := List.mem_append_right _ (List.mem_append_right _ (List.mem_append_right _ (List.mem_append_right _ (List.mem_append_left _ h))))
theorem lw_t6 {w : Cond} (h : w ∈ tables_1_6) : w ∈ tables_1 := List.mem_append_right _ (List.mem_append_right _ (List.mem_append_right _ (List.mem_append_right _ (List.mem_append_right _ (List.mem_append_left _ h)))))
theorem lw_t7 {w : Cond} (h : w ∈ tables_1_7) : w ∈ tables_1 := List.mem_append_right _ (List.mem_append_right _ (List.mem_append_right _ (List.mem_append_right _ (List.mem_append_right _ (List.mem_append_right _ (List.mem_append_left _ h))))))
theorem lw_t8 {w : Cond} (h : w ∈ tables_1_8) : w ∈ tables_1 := List.mem_append_right _ (List.mem_append_right _ (List.mem_append_right _ (List.mem_append_right _ (List.mem_append_right _ (List.mem_append_right _ (List.mem_append_right _ h))))))
theorem lw_p0 : lw_okq (⟨"java/lang/NullPointerException", "getExtendedNPEMessage", "()Ljava/lang/String;"⟩, 8) := ⟨⟨by decide +kernel, by decide +kernel⟩, lw_t2 (List.mem_of_getElem? (i := 2) rfl), lw_t2 (List.mem_of_getElem? (i := 0) rfl), lw_t2 (List.mem_of_getElem? (i := 1) rfl)⟩
theorem lw_p1 : lw_okq (⟨"java/lang/Throwable", "fillInStackTrace", "(I)Ljava/lang/Throwable;"⟩, 6) := ⟨⟨by decide +kernel, by decide +kernel⟩, lw_t2 (List.mem_of_getElem? (i := 14) rfl), lw_t2 (List.mem_of_getElem? (i := 12) rfl), lw_t2 (List.mem_of_getElem? (i := 13) rfl)⟩
theorem lw_p2 : lw_okq (⟨"StepRiders", "well", "(I)I"⟩, 14) := ⟨⟨by decide +kernel, by decide +kernel⟩, lw_t1 (List.mem_of_getElem? (i := 43) rfl), lw_t2 (List.mem_of_getElem? (i := 69) rfl), lw_t2 (List.mem_of_getElem? (i := 70) rfl)⟩
theorem lw_p3 : lw_okq (⟨"StepRiders", "found", "(I)I"⟩, 14) := ⟨⟨by decide +kernel, by decide +kernel⟩, lw_t1 (List.mem_of_getElem? (i := 43) rfl), lw_t2 (List.mem_of_getElem? (i := 73) rfl), lw_t2 (List.mem_of_getElem? (i := 74) rfl)⟩
theorem lw_p4 : lw_okq (⟨"StepRiders$Shelf", "put", "(II)I"⟩, 1) := ⟨⟨by decide +kernel, by decide +kernel⟩, lw_t1 (List.mem_of_getElem? (i := 55) rfl), lw_t2 (List.mem_of_getElem? (i := 127) rfl), lw_t2 (List.mem_of_getElem? (i := 128) rfl)⟩
theorem lw_p5 : lw_okq (⟨"StepRiders$Shelf", "at", "(I)I"⟩, 1) := ⟨⟨by decide +kernel, by decide +kernel⟩, lw_t1 (List.mem_of_getElem? (i := 55) rfl), lw_t2 (List.mem_of_getElem? (i := 134) rfl), lw_t2 (List.mem_of_getElem? (i := 135) rfl)⟩
theorem lw_p6 : lw_okq (⟨"StepRiders$Shelf", "many", "()I"⟩, 1) := ⟨⟨by decide +kernel, by decide +kernel⟩, lw_t1 (List.mem_of_getElem? (i := 55) rfl), lw_t2 (List.mem_of_getElem? (i := 164) rfl), lw_t2 (List.mem_of_getElem? (i := 165) rfl)⟩
theorem lw_p7 : lw_okq (⟨"StepRiders$Reader", "next", "()V"⟩, 7) := ⟨⟨by decide +kernel, by decide +kernel⟩, lw_t2 (List.mem_of_getElem? (i := 179) rfl), lw_t2 (List.mem_of_getElem? (i := 214) rfl), lw_t2 (List.mem_of_getElem? (i := 215) rfl)⟩
theorem lw_p8 : lw_okq (⟨"StepRiders$Reader", "look", "()I"⟩, 7) := ⟨⟨by decide +kernel, by decide +kernel⟩, lw_t2 (List.mem_of_getElem? (i := 179) rfl), lw_t2 (List.mem_of_getElem? (i := 218) rfl), lw_t2 (List.mem_of_getElem? (i := 219) rfl)⟩
theorem lw_p9 : lw_okq (⟨"StepRiders$Reader", "is", "(II)Z"⟩, 7) := ⟨⟨by decide +kernel, by decide +kernel⟩, lw_t2 (List.mem_of_getElem? (i := 179) rfl), lw_t2 (List.mem_of_getElem? (i := 228) rfl), lw_t2 (List.mem_of_getElem? (i := 229) rfl)⟩
theorem lw_p10 : lw_okq (⟨"StepRiders$Reader", "must", "(ZI)V"⟩, 7) := ⟨⟨by decide +kernel, by decide +kernel⟩, lw_t2 (List.mem_of_getElem? (i := 179) rfl), lw_t2 (List.mem_of_getElem? (i := 232) rfl), lw_t2 (List.mem_of_getElem? (i := 233) rfl)⟩
theorem lw_p11 : lw_okq (⟨"StepRiders$Reader", "figure", "(II)I"⟩, 7) := ⟨⟨by decide +kernel, by decide +kernel⟩, lw_t2 (List.mem_of_getElem? (i := 179) rfl), lw_t3 (List.mem_of_getElem? (i := 24) rfl), lw_t3 (List.mem_of_getElem? (i := 25) rfl)⟩
theorem lw_p12 : lw_okq (⟨"StepRiders$Reader", "sign", "(I)V"⟩, 7) := ⟨⟨by decide +kernel, by decide +kernel⟩, lw_t2 (List.mem_of_getElem? (i := 179) rfl), lw_t3 (List.mem_of_getElem? (i := 28) rfl), lw_t3 (List.mem_of_getElem? (i := 29) rfl)⟩
theorem lw_p13 : lw_okq (⟨"StepRiders$Reader", "isRider", "()Z"⟩, 7) := ⟨⟨by decide +kernel, by decide +kernel⟩, lw_t2 (List.mem_of_getElem? (i := 179) rfl), lw_t3 (List.mem_of_getElem? (i := 32) rfl), lw_t3 (List.mem_of_getElem? (i := 33) rfl)⟩
theorem lw_p14 : lw_okq (⟨"StepRiders$Reader", "rider", "()V"⟩, 7) := ⟨⟨by decide +kernel, by decide +kernel⟩, lw_t2 (List.mem_of_getElem? (i := 179) rfl), lw_t3 (List.mem_of_getElem? (i := 123) rfl), lw_t3 (List.mem_of_getElem? (i := 124) rfl)⟩
theorem lw_p15 : lw_okq (⟨"java/util/ArrayList", "add", "(Ljava/lang/Object;[Ljava/lang/Object;I)V"⟩, 3) := ⟨⟨by decide +kernel, by decide +kernel⟩, lw_t1 (List.mem_of_getElem? (i := 72) rfl), lw_t3 (List.mem_of_getElem? (i := 198) rfl), lw_t3 (List.mem_of_getElem? (i := 199) rfl)⟩
def lw_privs_1 : List (MethodName × Nat) := [(⟨"java/lang/NullPointerException", "getExtendedNPEMessage", "()Ljava/lang/String;"⟩, 8), (⟨"java/lang/Throwable", "fillInStackTrace", "(I)Ljava/lang/Throwable;"⟩, 6), (⟨"StepRiders", "well", "(I)I"⟩, 14), (⟨"StepRiders", "found", "(I)I"⟩, 14), (⟨"StepRiders$Shelf", "put", "(II)I"⟩, 1), (⟨"StepRiders$Shelf", "at", "(I)I"⟩, 1), (⟨"StepRiders$Shelf", "many", "()I"⟩, 1), (⟨"StepRiders$Reader", "next", "()V"⟩, 7), (⟨"StepRiders$Reader", "look", "()I"⟩, 7), (⟨"StepRiders$Reader", "is", "(II)Z"⟩, 7), (⟨"StepRiders$Reader", "must", "(ZI)V"⟩, 7), (⟨"StepRiders$Reader", "figure", "(II)I"⟩, 7), (⟨"StepRiders$Reader", "sign", "(I)V"⟩, 7), (⟨"StepRiders$Reader", "isRider", "()Z"⟩, 7), (⟨"StepRiders$Reader", "rider", "()V"⟩, 7), (⟨"java/util/ArrayList", "add", "(Ljava/lang/Object;[Ljava/lang/Object;I)V"⟩, 3)]
theorem lw_r1 : ∀ q ∈ lw_privs_1, lw_okq q := List.forall_mem_cons.mpr ⟨lw_p0, List.forall_mem_cons.mpr ⟨lw_p1, List.forall_mem_cons.mpr ⟨lw_p2, List.forall_mem_cons.mpr ⟨lw_p3, List.forall_mem_cons.mpr ⟨lw_p4, List.forall_mem_cons.mpr ⟨lw_p5, List.forall_mem_cons.mpr ⟨lw_p6, List.forall_mem_cons.mpr ⟨lw_p7, List.forall_mem_cons.mpr ⟨lw_p8, List.forall_mem_cons.mpr ⟨lw_p9, List.forall_mem_cons.mpr ⟨lw_p10, List.forall_mem_cons.mpr ⟨lw_p11, List.forall_mem_cons.mpr ⟨lw_p12, List.forall_mem_cons.mpr ⟨lw_p13, List.forall_mem_cons.mpr ⟨lw_p14, List.forall_mem_cons.mpr ⟨lw_p15, fun _ h => absurd h List.not_mem_nil⟩⟩⟩⟩⟩⟩⟩⟩⟩⟩⟩⟩⟩⟩⟩⟩
theorem lw_p16 : lw_okq (⟨"java/util/ArrayList", "grow", "()[Ljava/lang/Object;"⟩, 3) := ⟨⟨by decide +kernel, by decide +kernel⟩, lw_t1 (List.mem_of_getElem? (i := 72) rfl), lw_t3 (List.mem_of_getElem? (i := 202) rfl), lw_t3 (List.mem_of_getElem? (i := 203) rfl)⟩
theorem lw_p17 : lw_okq (⟨"java/util/ArrayList", "grow", "(I)[Ljava/lang/Object;"⟩, 3) := ⟨⟨by decide +kernel, by decide +kernel⟩, lw_t1 (List.mem_of_getElem? (i := 72) rfl), lw_t3 (List.mem_of_getElem? (i := 206) rfl), lw_t3 (List.mem_of_getElem? (i := 207) rfl)⟩
theorem lw_p18 : lw_okq (⟨"StepRiders", "isThere", "()Z"⟩, 14) := ⟨⟨by decide +kernel, by decide +kernel⟩, lw_t1 (List.mem_of_getElem? (i := 43) rfl), lw_t4 (List.mem_of_getElem? (i := 64) rfl), lw_t4 (List.mem_of_getElem? (i := 65) rfl)⟩
theorem lw_p19 : lw_okq (⟨"StepRiders", "keep", "()V"⟩, 14) := ⟨⟨by decide +kernel, by decide +kernel⟩, lw_t1 (List.mem_of_getElem? (i := 43) rfl), lw_t4 (List.mem_of_getElem? (i := 70) rfl), lw_t4 (List.mem_of_getElem? (i := 71) rfl)⟩
theorem lw_p20 : lw_okq (⟨"StepRiders$Stair", "lineUp", "()I"⟩, 8) := ⟨⟨by decide +kernel, by decide +kernel⟩, lw_t1 (List.mem_of_getElem? (i := 66) rfl), lw_t4 (List.mem_of_getElem? (i := 78) rfl), lw_t4 (List.mem_of_getElem? (i := 79) rfl)⟩
theorem lw_p21 : lw_okq (⟨"StepRiders$Stair", "comes", "()V"⟩, 8) := ⟨⟨by decide +kernel, by decide +kernel⟩, lw_t1 (List.mem_of_getElem? (i := 66) rfl), lw_t4 (List.mem_of_getElem? (i := 156) rfl), lw_t4 (List.mem_of_getElem? (i := 157) rfl)⟩
theorem lw_p22 : lw_okq (⟨"StepRiders", "isRider", "(I)Z"⟩, 14) := ⟨⟨by decide +kernel, by decide +kernel⟩, lw_t1 (List.mem_of_getElem? (i := 43) rfl), lw_t4 (List.mem_of_getElem? (i := 182) rfl), lw_t4 (List.mem_of_getElem? (i := 183) rfl)⟩
theorem lw_p23 : lw_okq (⟨"StepRiders", "asNow", "()LStepRiders$Stair;"⟩, 14) := ⟨⟨by decide +kernel, by decide +kernel⟩, lw_t1 (List.mem_of_getElem? (i := 43) rfl), lw_t4 (List.mem_of_getElem? (i := 221) rfl), lw_t4 (List.mem_of_getElem? (i := 222) rfl)⟩
theorem lw_p24 : lw_okq (⟨"StepRiders", "pacesFrom", "(IIII)V"⟩, 14) := ⟨⟨by decide +kernel, by decide +kernel⟩, lw_t1 (List.mem_of_getElem? (i := 43) rfl), lw_t5 (List.mem_of_getElem? (i := 26) rfl), lw_t5 (List.mem_of_getElem? (i := 27) rfl)⟩
theorem lw_p25 : lw_okq (⟨"StepRiders", "butBy", "(II)LStepRiders$But;"⟩, 14) := ⟨⟨by decide +kernel, by decide +kernel⟩, lw_t1 (List.mem_of_getElem? (i := 43) rfl), lw_t5 (List.mem_of_getElem? (i := 36) rfl), lw_t5 (List.mem_of_getElem? (i := 37) rfl)⟩
theorem lw_p26 : lw_okq (⟨"StepRiders", "items", "(III)[I"⟩, 14) := ⟨⟨by decide +kernel, by decide +kernel⟩, lw_t1 (List.mem_of_getElem? (i := 43) rfl), lw_t5 (List.mem_of_getElem? (i := 80) rfl), lw_t5 (List.mem_of_getElem? (i := 81) rfl)⟩
theorem lw_p27 : lw_okq (⟨"StepRiders", "fitting", "(LStepRiders$But;I[I)I"⟩, 14) := ⟨⟨by decide +kernel, by decide +kernel⟩, lw_t1 (List.mem_of_getElem? (i := 43) rfl), lw_t5 (List.mem_of_getElem? (i := 92) rfl), lw_t5 (List.mem_of_getElem? (i := 93) rfl)⟩
theorem lw_p28 : lw_okq (⟨"StepRidersModel", "ends", "(I)I"⟩, 20) := ⟨⟨by decide +kernel, by decide +kernel⟩, lw_t6 (List.mem_of_getElem? (i := 132) rfl), lw_t6 (List.mem_of_getElem? (i := 212) rfl), lw_t6 (List.mem_of_getElem? (i := 213) rfl)⟩
theorem lw_p29 : lw_okq (⟨"StepRidersModel", "lies", "(III)Z"⟩, 20) := ⟨⟨by decide +kernel, by decide +kernel⟩, lw_t6 (List.mem_of_getElem? (i := 132) rfl), lw_t6 (List.mem_of_getElem? (i := 223) rfl), lw_t6 (List.mem_of_getElem? (i := 224) rfl)⟩
theorem lw_p30 : lw_okq (⟨"StepRidersModel", "reads", "()Z"⟩, 20) := ⟨⟨by decide +kernel, by decide +kernel⟩, lw_t6 (List.mem_of_getElem? (i := 132) rfl), lw_t7 (List.mem_of_getElem? (i := 8) rfl), lw_t7 (List.mem_of_getElem? (i := 9) rfl)⟩
theorem lw_p31 : lw_okq (⟨"StepRidersModel", "sign", "(I)Z"⟩, 20) := ⟨⟨by decide +kernel, by decide +kernel⟩, lw_t6 (List.mem_of_getElem? (i := 132) rfl), lw_t7 (List.mem_of_getElem? (i := 12) rfl), lw_t7 (List.mem_of_getElem? (i := 13) rfl)⟩
def lw_privs_2 : List (MethodName × Nat) := [(⟨"java/util/ArrayList", "grow", "()[Ljava/lang/Object;"⟩, 3), (⟨"java/util/ArrayList", "grow", "(I)[Ljava/lang/Object;"⟩, 3), (⟨"StepRiders", "isThere", "()Z"⟩, 14), (⟨"StepRiders", "keep", "()V"⟩, 14), (⟨"StepRiders$Stair", "lineUp", "()I"⟩, 8), (⟨"StepRiders$Stair", "comes", "()V"⟩, 8), (⟨"StepRiders", "isRider", "(I)Z"⟩, 14), (⟨"StepRiders", "asNow", "()LStepRiders$Stair;"⟩, 14), (⟨"StepRiders", "pacesFrom", "(IIII)V"⟩, 14), (⟨"StepRiders", "butBy", "(II)LStepRiders$But;"⟩, 14), (⟨"StepRiders", "items", "(III)[I"⟩, 14), (⟨"StepRiders", "fitting", "(LStepRiders$But;I[I)I"⟩, 14), (⟨"StepRidersModel", "ends", "(I)I"⟩, 20), (⟨"StepRidersModel", "lies", "(III)Z"⟩, 20), (⟨"StepRidersModel", "reads", "()Z"⟩, 20), (⟨"StepRidersModel", "sign", "(I)Z"⟩, 20)]
theorem lw_r2 : ∀ q ∈ lw_privs_2, lw_okq q := List.forall_mem_cons.mpr ⟨lw_p16, List.forall_mem_cons.mpr ⟨lw_p17, List.forall_mem_cons.mpr ⟨lw_p18, List.forall_mem_cons.mpr ⟨lw_p19, List.forall_mem_cons.mpr ⟨lw_p20, List.forall_mem_cons.mpr ⟨lw_p21, List.forall_mem_cons.mpr ⟨lw_p22, List.forall_mem_cons.mpr ⟨lw_p23, List.forall_mem_cons.mpr ⟨lw_p24, List.forall_mem_cons.mpr ⟨lw_p25, List.forall_mem_cons.mpr ⟨lw_p26, List.forall_mem_cons.mpr ⟨lw_p27, List.forall_mem_cons.mpr ⟨lw_p28, List.forall_mem_cons.mpr ⟨lw_p29, List.forall_mem_cons.mpr ⟨lw_p30, List.forall_mem_cons.mpr ⟨lw_p31, fun _ h => absurd h List.not_mem_nil⟩⟩⟩⟩⟩⟩⟩⟩⟩⟩⟩⟩⟩⟩⟩⟩
theorem lw_p32 : lw_okq (⟨"StepRidersModel", "letterAt", "(I)I"⟩, 20) := ⟨⟨by decide +kernel, by decide +kernel⟩, lw_t6 (List.mem_of_getElem? (i := 132) rfl), lw_t7 (List.mem_of_getElem? (i := 16) rfl), lw_t7 (List.mem_of_getElem? (i := 17) rfl)⟩
theorem lw_p33 : lw_okq (⟨"StepRidersModel", "fails", "(I)Z"⟩, 20) := ⟨⟨by decide +kernel, by decide +kernel⟩, lw_t6 (List.mem_of_getElem? (i := 132) rfl), lw_t7 (List.mem_of_getElem? (i := 20) rfl), lw_t7 (List.mem_of_getElem? (i := 21) rfl)⟩
theorem lw_p34 : lw_okq (⟨"StepRidersModel", "number", "(III)Z"⟩, 20) := ⟨⟨by decide +kernel, by decide +kernel⟩, lw_t6 (List.mem_of_getElem? (i := 132) rfl), lw_t7 (List.mem_of_getElem? (i := 24) rfl), lw_t7 (List.mem_of_getElem? (i := 25) rfl)⟩
theorem lw_p35 : lw_okq (⟨"StepRidersModel", "isStair", "()Z"⟩, 20) := ⟨⟨by decide +kernel, by decide +kernel⟩, lw_t6 (List.mem_of_getElem? (i := 132) rfl), lw_t7 (List.mem_of_getElem? (i := 43) rfl), lw_t7 (List.mem_of_getElem? (i := 44) rfl)⟩
theorem lw_p36 : lw_okq (⟨"StepRidersModel", "keeps", "()V"⟩, 20) := ⟨⟨by decide +kernel, by decide +kernel⟩, lw_t6 (List.mem_of_getElem? (i := 132) rfl), lw_t7 (List.mem_of_getElem? (i := 48) rfl), lw_t7 (List.mem_of_getElem? (i := 49) rfl)⟩
theorem lw_p37 : lw_okq (⟨"StepRidersModel", "tick", "([I)V"⟩, 20) := ⟨⟨by decide +kernel, by decide +kernel⟩, lw_t6 (List.mem_of_getElem? (i := 132) rfl), lw_t7 (List.mem_of_getElem? (i := 52) rfl), lw_t7 (List.mem_of_getElem? (i := 53) rfl)⟩
theorem lw_p38 : lw_okq (⟨"StepRidersModel", "isRider", "(I)Z"⟩, 20) := ⟨⟨by decide +kernel, by decide +kernel⟩, lw_t6 (List.mem_of_getElem? (i := 132) rfl), lw_t7 (List.mem_of_getElem? (i := 79) rfl), lw_t7 (List.mem_of_getElem? (i := 80) rfl)⟩
theorem lw_p39 : lw_okq (⟨"StepRidersModel", "starts", "()V"⟩, 20) := ⟨⟨by decide +kernel, by decide +kernel⟩, lw_t6 (List.mem_of_getElem? (i := 132) rfl), lw_t7 (List.mem_of_getElem? (i := 107) rfl), lw_t7 (List.mem_of_getElem? (i := 108) rfl)⟩
theorem lw_p40 : lw_okq (⟨"StepRidersModel", "clears", "()I"⟩, 20) := ⟨⟨by decide +kernel, by decide +kernel⟩, lw_t6 (List.mem_of_getElem? (i := 132) rfl), lw_t7 (List.mem_of_getElem? (i := 124) rfl), lw_t7 (List.mem_of_getElem? (i := 125) rfl)⟩
theorem lw_p41 : lw_okq (⟨"StepRidersModel", "queued", "()I"⟩, 20) := ⟨⟨by decide +kernel, by decide +kernel⟩, lw_t6 (List.mem_of_getElem? (i := 132) rfl), lw_t7 (List.mem_of_getElem? (i := 132) rfl), lw_t7 (List.mem_of_getElem? (i := 133) rfl)⟩
theorem lw_p42 : lw_okq (⟨"StepRidersModel", "isSo", "(III)Z"⟩, 20) := ⟨⟨by decide +kernel, by decide +kernel⟩, lw_t6 (List.mem_of_getElem? (i := 132) rfl), lw_t7 (List.mem_of_getElem? (i := 151) rfl), lw_t7 (List.mem_of_getElem? (i := 152) rfl)⟩
theorem lw_p43 : lw_okq (⟨"StepRidersModel", "size", "(I)I"⟩, 20) := ⟨⟨by decide +kernel, by decide +kernel⟩, lw_t6 (List.mem_of_getElem? (i := 132) rfl), lw_t7 (List.mem_of_getElem? (i := 190) rfl), lw_t7 (List.mem_of_getElem? (i := 191) rfl)⟩
theorem lw_p44 : lw_okq (⟨"StepRidersModel", "begins", "(I)V"⟩, 20) := ⟨⟨by decide +kernel, by decide +kernel⟩, lw_t6 (List.mem_of_getElem? (i := 132) rfl), lw_t7 (List.mem_of_getElem? (i := 194) rfl), lw_t7 (List.mem_of_getElem? (i := 195) rfl)⟩
theorem lw_p45 : lw_okq (⟨"StepRidersModel", "stands", "(I)I"⟩, 20) := ⟨⟨by decide +kernel, by decide +kernel⟩, lw_t6 (List.mem_of_getElem? (i := 132) rfl), lw_t7 (List.mem_of_getElem? (i := 198) rfl), lw_t7 (List.mem_of_getElem? (i := 199) rfl)⟩
def lw_privs_3 : List (MethodName × Nat) := [(⟨"StepRidersModel", "letterAt", "(I)I"⟩, 20), (⟨"StepRidersModel", "fails", "(I)Z"⟩, 20), (⟨"StepRidersModel", "number", "(III)Z"⟩, 20), (⟨"StepRidersModel", "isStair", "()Z"⟩, 20), (⟨"StepRidersModel", "keeps", "()V"⟩, 20), (⟨"StepRidersModel", "tick", "([I)V"⟩, 20), (⟨"StepRidersModel", "isRider", "(I)Z"⟩, 20), (⟨"StepRidersModel", "starts", "()V"⟩, 20), (⟨"StepRidersModel", "clears", "()I"⟩, 20), (⟨"StepRidersModel", "queued", "()I"⟩, 20), (⟨"StepRidersModel", "isSo", "(III)Z"⟩, 20), (⟨"StepRidersModel", "size", "(I)I"⟩, 20), (⟨"StepRidersModel", "begins", "(I)V"⟩, 20), (⟨"StepRidersModel", "stands", "(I)I"⟩, 20)]
theorem lw_r3 : ∀ q ∈ lw_privs_3, lw_okq q := List.forall_mem_cons.mpr ⟨lw_p32, List.forall_mem_cons.mpr ⟨lw_p33, List.forall_mem_cons.mpr ⟨lw_p34, List.forall_mem_cons.mpr ⟨lw_p35, List.forall_mem_cons.mpr ⟨lw_p36, List.forall_mem_cons.mpr ⟨lw_p37, List.forall_mem_cons.mpr ⟨lw_p38, List.forall_mem_cons.mpr ⟨lw_p39, List.forall_mem_cons.mpr ⟨lw_p40, List.forall_mem_cons.mpr ⟨lw_p41, List.forall_mem_cons.mpr ⟨lw_p42, List.forall_mem_cons.mpr ⟨lw_p43, List.forall_mem_cons.mpr ⟨lw_p44, List.forall_mem_cons.mpr ⟨lw_p45, fun _ h => absurd h List.not_mem_nil⟩⟩⟩⟩⟩⟩⟩⟩⟩⟩⟩⟩⟩⟩
def lw_privs : List (MethodName × Nat) := lw_privs_1 ++ (lw_privs_2 ++ (lw_privs_3))
def lw_tbl : List Cond := k2_sels lw_privs ++ tables_1
theorem lw_privs_ok : ∀ q ∈ lw_privs, lw_okq q := by
  show ∀ q ∈ lw_privs_1 ++ (lw_privs_2 ++ (lw_privs_3)), lw_okq q
  exact List.forall_mem_append.mpr ⟨lw_r1, List.forall_mem_append.mpr ⟨lw_r2, lw_r3⟩⟩
-- ===== ONE list of words for every method: the tables' words that hold all through a run =====
def lw_all : List Cond := lw_tbl.filter goodWord
/-- a word of the tables by its place: claim/WORDS.tsv -/
theorem lw_w {w : Cond} (i : Nat) (h : lw_tbl[i]? = some w) (g : goodWord w = true) : w ∈ lw_all := List.mem_filter.mpr ⟨List.mem_of_getElem? h, g⟩
theorem lw_all_tbl {w : Cond} (h : w ∈ lw_all) : w ∈ lw_tbl := (List.mem_filter.mp h).1
theorem lw_self : GoodIn lw_all lw_all := fun w h => ⟨h, good_of_word (List.mem_filter.mp h).2⟩
/-- a class's field words, by their places -/
theorem lw_in (ws : List Cond) (ps : List Nat) (hp : ws = ps.filterMap (fun i => lw_tbl[i]?)) (hg : ws.all goodWord = true) : ∀ w ∈ ws, w ∈ lw_all := by
  intro w h
  have h1 := List.all_eq_true.mp hg w h
  rw [hp] at h
  obtain ⟨i, -, hi⟩ := List.mem_filterMap.mp h
  exact lw_w i hi h1
/-- the words of a contract for the method y with code b, L locals, answer r -/
abbrev ws_ (y : MethodName) (b : ByteArray) (L : Nat) (r : Option FieldType) : List Cond := Cond.code y b L r :: lw_all
theorem lw_meth {y : MethodName} {b : ByteArray} {L : Nat} {r : Option FieldType} (h : Cond.code y b L r ∈ lw_all) : GoodIn lw_all (ws_ y b L r) := by
  intro w hw
  rcases List.mem_cons.mp hw with e | e
  · rw [e]
    exact lw_self _ h
  · exact lw_self _ e
theorem lw_app {a c : List Cond} (ha : ∀ w ∈ a, w ∈ lw_all) (hc : GoodIn lw_all c) : GoodIn lw_all (a ++ c) := by
  intro w hw
  rcases List.mem_append.mp hw with e | e
  · exact lw_self w (ha w e)
  · exact hc w e
/-- what a call through an object asks: cwV n hts (lw_V ..) -/
theorem lw_V {own : String} {idx : Nat} {C : String} {y : MethodName} {b : ByteArray} {L : Nat} {r : Option FieldType} (h1 : Cond.methodLink own idx y ∈ lw_all) (h2 : Cond.instanceMethod y ∈ lw_all) (h3 : Cond.selects C y y ∈ lw_all) (h4 : Cond.initialized C ∈ lw_all) (h5 : Cond.code y b L r ∈ lw_all) : GoodIn lw_all (wsV own idx C y (ws_ y b L r)) := by
  refine lw_app ?_ (lw_meth h5)
  intro w hw
  simp only [List.mem_cons, List.not_mem_nil, or_false] at hw
  rcases hw with e | e | e | e
  · rw [e]; exact h1
  · rw [e]; exact h2
  · rw [e]; exact h3
  · rw [e]; exact h4
/-- what a static call asks: va_cwS n hts (lw_S ..) -/
theorem lw_S {own : String} {idx : Nat} {y : MethodName} {b : ByteArray} {L : Nat} {r : Option FieldType} (h1 : Cond.methodLink own idx y ∈ lw_all) (h2 : Cond.static y ∈ lw_all) (h3 : Cond.initialized y.cls ∈ lw_all) (h4 : Cond.code y b L r ∈ lw_all) : GoodIn lw_all (va_wsS own idx y (ws_ y b L r)) := by
  refine lw_app ?_ (lw_meth h4)
  intro w hw
  simp only [List.mem_cons, List.not_mem_nil, or_false] at hw
  rcases hw with e | e | e
  · rw [e]; exact h1
  · rw [e]; exact h2
  · rw [e]; exact h3
/-- the words of a contract for a method WITH HANDLERS (hh: its table) -/
abbrev wsW_ (y : MethodName) (b : ByteArray) (L : Nat) (r : Option FieldType) (hh : List (Nat × Nat × Nat × Nat)) : List Cond := Cond.codeWith y b L r hh :: lw_all
theorem lw_methW {y : MethodName} {b : ByteArray} {L : Nat} {r : Option FieldType} {hh : List (Nat × Nat × Nat × Nat)} (h : Cond.codeWith y b L r hh ∈ lw_all) : GoodIn lw_all (wsW_ y b L r hh) := by
  intro w hw
  rcases List.mem_cons.mp hw with e | e
  · rw [e]
    exact lw_self _ h
  · exact lw_self _ e
/-- any list of words by their places (lw_in), good -/
theorem lw_good {ws : List Cond} (h : ∀ w ∈ ws, w ∈ lw_all) : GoodIn lw_all ws := fun w hw => lw_self w (h w hw)
/-- what a call of a method with handlers asks: vx_cwVW n hts (lw_VW ..), vx_cwSW n hts (lw_SW ..) -/
theorem lw_VW {own : String} {idx : Nat} {C : String} {y : MethodName} {b : ByteArray} {L : Nat} {r : Option FieldType} {hh : List (Nat × Nat × Nat × Nat)} (h1 : Cond.methodLink own idx y ∈ lw_all) (h2 : Cond.instanceMethod y ∈ lw_all) (h3 : Cond.selects C y y ∈ lw_all) (h4 : Cond.initialized C ∈ lw_all) (h5 : Cond.codeWith y b L r hh ∈ lw_all) : GoodIn lw_all (wsV own idx C y (wsW_ y b L r hh)) := by
  refine lw_app ?_ (lw_methW h5)
  intro w hw
  simp only [List.mem_cons, List.not_mem_nil, or_false] at hw
  rcases hw with e | e | e | e
  · rw [e]; exact h1
  · rw [e]; exact h2
  · rw [e]; exact h3
  · rw [e]; exact h4
theorem lw_SW {own : String} {idx : Nat} {y : MethodName} {b : ByteArray} {L : Nat} {r : Option FieldType} {hh : List (Nat × Nat × Nat × Nat)} (h1 : Cond.methodLink own idx y ∈ lw_all) (h2 : Cond.static y ∈ lw_all) (h3 : Cond.initialized y.cls ∈ lw_all) (h4 : Cond.codeWith y b L r hh ∈ lw_all) : GoodIn lw_all (va_wsS own idx y (wsW_ y b L r hh)) := by
  refine lw_app ?_ (lw_methW h4)
  intro w hw
  simp only [List.mem_cons, List.not_mem_nil, or_false] at hw
  rcases hw with e | e | e
  · rw [e]; exact h1
  · rw [e]; exact h2
  · rw [e]; exact h3
/-- a word by its place in its run of the tables -/
theorem lw_at {r : List Cond} (hr : ∀ w ∈ r, w ∈ lw_tbl) {w : Cond} (i : Nat) (h : r[i]? = some w) : w ∈ lw_tbl := hr w (List.mem_of_getElem? h)
theorem lw_g {w : Cond} (h : w ∈ lw_tbl) (g : goodWord w = true) : w ∈ lw_all := List.mem_filter.mpr ⟨h, g⟩
theorem lw_ms : ∀ w ∈ k2_sels lw_privs, w ∈ lw_tbl := fun w h => show w ∈ k2_sels lw_privs ++ tables_1 from List.mem_append_left _ h
theorem lw_m1 : ∀ w ∈ tables_1_1, w ∈ lw_tbl := fun w h => show w ∈ k2_sels lw_privs ++ tables_1 from List.mem_append_right (k2_sels lw_privs) (show w ∈ tables_1 from List.mem_append_left _ h)
theorem lw_m2 : ∀ w ∈ tables_1_2, w ∈ lw_tbl := fun w h => show w ∈ k2_sels lw_privs ++ tables_1 from List.mem_append_right (k2_sels lw_privs) (show w ∈ tables_1 from List.mem_append_right _ (List.mem_append_left _ h))
theorem lw_m3 : ∀ w ∈ tables_1_3, w ∈ lw_tbl := fun w h => show w ∈ k2_sels lw_privs ++ tables_1 from List.mem_append_right (k2_sels lw_privs) (show w ∈ tables_1 from List.mem_append_right _ (List.mem_append_right _ (List.mem_append_left _ h)))
theorem lw_m4 : ∀ w ∈ tables_1_4, w ∈ lw_tbl := fun w h => show w ∈ k2_sels lw_privs ++ tables_1 from List.mem_append_right (k2_sels lw_privs) (show w ∈ tables_1 from List.mem_append_right _ (List.mem_append_right _ (List.mem_append_right _ (List.mem_append_left _ h))))
theorem lw_m5 : ∀ w ∈ tables_1_5, w ∈ lw_tbl := fun w h => show w ∈ k2_sels lw_privs ++ tables_1 from List.mem_append_right (k2_sels lw_privs) (show w ∈ tables_1 from List.mem_append_right _ (List.mem_append_right _ (List.mem_append_right _ (List.mem_append_right _ (List.mem_append_left _ h)))))
theorem lw_m6 : ∀ w ∈ tables_1_6, w ∈ lw_tbl := fun w h => show w ∈ k2_sels lw_privs ++ tables_1 from List.mem_append_right (k2_sels lw_privs) (show w ∈ tables_1 from List.mem_append_right _ (List.mem_append_right _ (List.mem_append_right _ (List.mem_append_right _ (List.mem_append_right _ (List.mem_append_left _ h))))))
theorem lw_m7 : ∀ w ∈ tables_1_7, w ∈ lw_tbl := fun w h => show w ∈ k2_sels lw_privs ++ tables_1 from List.mem_append_right (k2_sels lw_privs) (show w ∈ tables_1 from List.mem_append_right _ (List.mem_append_right _ (List.mem_append_right _ (List.mem_append_right _ (List.mem_append_right _ (List.mem_append_right _ (List.mem_append_left _ h)))))))
theorem lw_m8 : ∀ w ∈ tables_1_8, w ∈ lw_tbl := fun w h => show w ∈ k2_sels lw_privs ++ tables_1 from List.mem_append_right (k2_sels lw_privs) (show w ∈ tables_1 from List.mem_append_right _ (List.mem_append_right _ (List.mem_append_right _ (List.mem_append_right _ (List.mem_append_right _ (List.mem_append_right _ (List.mem_append_right _ h)))))))
theorem qs0 : (Cond.selects "java/lang/NullPointerException" ⟨"java/lang/NullPointerException", "getExtendedNPEMessage", "()Ljava/lang/String;"⟩ ⟨"java/lang/NullPointerException", "getExtendedNPEMessage", "()Ljava/lang/String;"⟩) ∈ lw_all := lw_g (lw_at lw_ms 0 rfl) rfl
theorem qs1 : (Cond.selects "java/lang/Throwable" ⟨"java/lang/Throwable", "fillInStackTrace", "(I)Ljava/lang/Throwable;"⟩ ⟨"java/lang/Throwable", "fillInStackTrace", "(I)Ljava/lang/Throwable;"⟩) ∈ lw_all := lw_g (lw_at lw_ms 1 rfl) rfl
theorem qs2 : (Cond.selects "StepRiders" ⟨"StepRiders", "well", "(I)I"⟩ ⟨"StepRiders", "well", "(I)I"⟩) ∈ lw_all := lw_g (lw_at lw_ms 2 rfl) rfl
theorem qs3 : (Cond.selects "StepRiders" ⟨"StepRiders", "found", "(I)I"⟩ ⟨"StepRiders", "found", "(I)I"⟩) ∈ lw_all := lw_g (lw_at lw_ms 3 rfl) rfl
theorem qs4 : (Cond.selects "StepRiders$Shelf" ⟨"StepRiders$Shelf", "put", "(II)I"⟩ ⟨"StepRiders$Shelf", "put", "(II)I"⟩) ∈ lw_all := lw_g (lw_at lw_ms 4 rfl) rfl
theorem qs5 : (Cond.selects "StepRiders$Shelf" ⟨"StepRiders$Shelf", "at", "(I)I"⟩ ⟨"StepRiders$Shelf", "at", "(I)I"⟩) ∈ lw_all := lw_g (lw_at lw_ms 5 rfl) rfl
theorem qs6 : (Cond.selects "StepRiders$Shelf" ⟨"StepRiders$Shelf", "many", "()I"⟩ ⟨"StepRiders$Shelf", "many", "()I"⟩) ∈ lw_all := lw_g (lw_at lw_ms 6 rfl) rfl
theorem qs7 : (Cond.selects "StepRiders$Reader" ⟨"StepRiders$Reader", "next", "()V"⟩ ⟨"StepRiders$Reader", "next", "()V"⟩) ∈ lw_all := lw_g (lw_at lw_ms 7 rfl) rfl
theorem qs8 : (Cond.selects "StepRiders$Reader" ⟨"StepRiders$Reader", "look", "()I"⟩ ⟨"StepRiders$Reader", "look", "()I"⟩) ∈ lw_all := lw_g (lw_at lw_ms 8 rfl) rfl
theorem qs9 : (Cond.selects "StepRiders$Reader" ⟨"StepRiders$Reader", "is", "(II)Z"⟩ ⟨"StepRiders$Reader", "is", "(II)Z"⟩) ∈ lw_all := lw_g (lw_at lw_ms 9 rfl) rfl
theorem qs10 : (Cond.selects "StepRiders$Reader" ⟨"StepRiders$Reader", "must", "(ZI)V"⟩ ⟨"StepRiders$Reader", "must", "(ZI)V"⟩) ∈ lw_all := lw_g (lw_at lw_ms 10 rfl) rfl
theorem qs11 : (Cond.selects "StepRiders$Reader" ⟨"StepRiders$Reader", "figure", "(II)I"⟩ ⟨"StepRiders$Reader", "figure", "(II)I"⟩) ∈ lw_all := lw_g (lw_at lw_ms 11 rfl) rfl
theorem qs12 : (Cond.selects "StepRiders$Reader" ⟨"StepRiders$Reader", "sign", "(I)V"⟩ ⟨"StepRiders$Reader", "sign", "(I)V"⟩) ∈ lw_all := lw_g (lw_at lw_ms 12 rfl) rfl
theorem qs13 : (Cond.selects "StepRiders$Reader" ⟨"StepRiders$Reader", "isRider", "()Z"⟩ ⟨"StepRiders$Reader", "isRider", "()Z"⟩) ∈ lw_all := lw_g (lw_at lw_ms 13 rfl) rfl
theorem qs14 : (Cond.selects "StepRiders$Reader" ⟨"StepRiders$Reader", "rider", "()V"⟩ ⟨"StepRiders$Reader", "rider", "()V"⟩) ∈ lw_all := lw_g (lw_at lw_ms 14 rfl) rfl
theorem qs15 : (Cond.selects "java/util/ArrayList" ⟨"java/util/ArrayList", "add", "(Ljava/lang/Object;[Ljava/lang/Object;I)V"⟩ ⟨"java/util/ArrayList", "add", "(Ljava/lang/Object;[Ljava/lang/Object;I)V"⟩) ∈ lw_all := lw_g (lw_at lw_ms 15 rfl) rfl
theorem qs16 : (Cond.selects "java/util/ArrayList" ⟨"java/util/ArrayList", "grow", "()[Ljava/lang/Object;"⟩ ⟨"java/util/ArrayList", "grow", "()[Ljava/lang/Object;"⟩) ∈ lw_all := lw_g (lw_at lw_ms 16 rfl) rfl
theorem qs17 : (Cond.selects "java/util/ArrayList" ⟨"java/util/ArrayList", "grow", "(I)[Ljava/lang/Object;"⟩ ⟨"java/util/ArrayList", "grow", "(I)[Ljava/lang/Object;"⟩) ∈ lw_all := lw_g (lw_at lw_ms 17 rfl) rfl
theorem qs18 : (Cond.selects "StepRiders" ⟨"StepRiders", "isThere", "()Z"⟩ ⟨"StepRiders", "isThere", "()Z"⟩) ∈ lw_all := lw_g (lw_at lw_ms 18 rfl) rfl
theorem qs19 : (Cond.selects "StepRiders" ⟨"StepRiders", "keep", "()V"⟩ ⟨"StepRiders", "keep", "()V"⟩) ∈ lw_all := lw_g (lw_at lw_ms 19 rfl) rfl
theorem qs20 : (Cond.selects "StepRiders$Stair" ⟨"StepRiders$Stair", "lineUp", "()I"⟩ ⟨"StepRiders$Stair", "lineUp", "()I"⟩) ∈ lw_all := lw_g (lw_at lw_ms 20 rfl) rfl
theorem qs21 : (Cond.selects "StepRiders$Stair" ⟨"StepRiders$Stair", "comes", "()V"⟩ ⟨"StepRiders$Stair", "comes", "()V"⟩) ∈ lw_all := lw_g (lw_at lw_ms 21 rfl) rfl
theorem qs22 : (Cond.selects "StepRiders" ⟨"StepRiders", "isRider", "(I)Z"⟩ ⟨"StepRiders", "isRider", "(I)Z"⟩) ∈ lw_all := lw_g (lw_at lw_ms 22 rfl) rfl
theorem qs23 : (Cond.selects "StepRiders" ⟨"StepRiders", "asNow", "()LStepRiders$Stair;"⟩ ⟨"StepRiders", "asNow", "()LStepRiders$Stair;"⟩) ∈ lw_all := lw_g (lw_at lw_ms 23 rfl) rfl
theorem qs24 : (Cond.selects "StepRiders" ⟨"StepRiders", "pacesFrom", "(IIII)V"⟩ ⟨"StepRiders", "pacesFrom", "(IIII)V"⟩) ∈ lw_all := lw_g (lw_at lw_ms 24 rfl) rfl
theorem qs25 : (Cond.selects "StepRiders" ⟨"StepRiders", "butBy", "(II)LStepRiders$But;"⟩ ⟨"StepRiders", "butBy", "(II)LStepRiders$But;"⟩) ∈ lw_all := lw_g (lw_at lw_ms 25 rfl) rfl
theorem qs26 : (Cond.selects "StepRiders" ⟨"StepRiders", "items", "(III)[I"⟩ ⟨"StepRiders", "items", "(III)[I"⟩) ∈ lw_all := lw_g (lw_at lw_ms 26 rfl) rfl
theorem qs27 : (Cond.selects "StepRiders" ⟨"StepRiders", "fitting", "(LStepRiders$But;I[I)I"⟩ ⟨"StepRiders", "fitting", "(LStepRiders$But;I[I)I"⟩) ∈ lw_all := lw_g (lw_at lw_ms 27 rfl) rfl
theorem qs28 : (Cond.selects "StepRidersModel" ⟨"StepRidersModel", "ends", "(I)I"⟩ ⟨"StepRidersModel", "ends", "(I)I"⟩) ∈ lw_all := lw_g (lw_at lw_ms 28 rfl) rfl
theorem qs29 : (Cond.selects "StepRidersModel" ⟨"StepRidersModel", "lies", "(III)Z"⟩ ⟨"StepRidersModel", "lies", "(III)Z"⟩) ∈ lw_all := lw_g (lw_at lw_ms 29 rfl) rfl
theorem qs30 : (Cond.selects "StepRidersModel" ⟨"StepRidersModel", "reads", "()Z"⟩ ⟨"StepRidersModel", "reads", "()Z"⟩) ∈ lw_all := lw_g (lw_at lw_ms 30 rfl) rfl
theorem qs31 : (Cond.selects "StepRidersModel" ⟨"StepRidersModel", "sign", "(I)Z"⟩ ⟨"StepRidersModel", "sign", "(I)Z"⟩) ∈ lw_all := lw_g (lw_at lw_ms 31 rfl) rfl
theorem qs32 : (Cond.selects "StepRidersModel" ⟨"StepRidersModel", "letterAt", "(I)I"⟩ ⟨"StepRidersModel", "letterAt", "(I)I"⟩) ∈ lw_all := lw_g (lw_at lw_ms 32 rfl) rfl
theorem qs33 : (Cond.selects "StepRidersModel" ⟨"StepRidersModel", "fails", "(I)Z"⟩ ⟨"StepRidersModel", "fails", "(I)Z"⟩) ∈ lw_all := lw_g (lw_at lw_ms 33 rfl) rfl
theorem qs34 : (Cond.selects "StepRidersModel" ⟨"StepRidersModel", "number", "(III)Z"⟩ ⟨"StepRidersModel", "number", "(III)Z"⟩) ∈ lw_all := lw_g (lw_at lw_ms 34 rfl) rfl
theorem qs35 : (Cond.selects "StepRidersModel" ⟨"StepRidersModel", "isStair", "()Z"⟩ ⟨"StepRidersModel", "isStair", "()Z"⟩) ∈ lw_all := lw_g (lw_at lw_ms 35 rfl) rfl
theorem qs36 : (Cond.selects "StepRidersModel" ⟨"StepRidersModel", "keeps", "()V"⟩ ⟨"StepRidersModel", "keeps", "()V"⟩) ∈ lw_all := lw_g (lw_at lw_ms 36 rfl) rfl
theorem qs37 : (Cond.selects "StepRidersModel" ⟨"StepRidersModel", "tick", "([I)V"⟩ ⟨"StepRidersModel", "tick", "([I)V"⟩) ∈ lw_all := lw_g (lw_at lw_ms 37 rfl) rfl
theorem qs38 : (Cond.selects "StepRidersModel" ⟨"StepRidersModel", "isRider", "(I)Z"⟩ ⟨"StepRidersModel", "isRider", "(I)Z"⟩) ∈ lw_all := lw_g (lw_at lw_ms 38 rfl) rfl
theorem qs39 : (Cond.selects "StepRidersModel" ⟨"StepRidersModel", "starts", "()V"⟩ ⟨"StepRidersModel", "starts", "()V"⟩) ∈ lw_all := lw_g (lw_at lw_ms 39 rfl) rfl
theorem qs40 : (Cond.selects "StepRidersModel" ⟨"StepRidersModel", "clears", "()I"⟩ ⟨"StepRidersModel", "clears", "()I"⟩) ∈ lw_all := lw_g (lw_at lw_ms 40 rfl) rfl
theorem qs41 : (Cond.selects "StepRidersModel" ⟨"StepRidersModel", "queued", "()I"⟩ ⟨"StepRidersModel", "queued", "()I"⟩) ∈ lw_all := lw_g (lw_at lw_ms 41 rfl) rfl
theorem qs42 : (Cond.selects "StepRidersModel" ⟨"StepRidersModel", "isSo", "(III)Z"⟩ ⟨"StepRidersModel", "isSo", "(III)Z"⟩) ∈ lw_all := lw_g (lw_at lw_ms 42 rfl) rfl
theorem qs43 : (Cond.selects "StepRidersModel" ⟨"StepRidersModel", "size", "(I)I"⟩ ⟨"StepRidersModel", "size", "(I)I"⟩) ∈ lw_all := lw_g (lw_at lw_ms 43 rfl) rfl
theorem qs44 : (Cond.selects "StepRidersModel" ⟨"StepRidersModel", "begins", "(I)V"⟩ ⟨"StepRidersModel", "begins", "(I)V"⟩) ∈ lw_all := lw_g (lw_at lw_ms 44 rfl) rfl
theorem qs45 : (Cond.selects "StepRidersModel" ⟨"StepRidersModel", "stands", "(I)I"⟩ ⟨"StepRidersModel", "stands", "(I)I"⟩) ∈ lw_all := lw_g (lw_at lw_ms 45 rfl) rfl
