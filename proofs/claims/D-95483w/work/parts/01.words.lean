-- ===== PART A: goes FIRST, ahead of the names: the tables' words, and 'selects' of the private methods out of them =====
/-- a private method of a class that the tables say can be made, by its rows of tables_1 -/
def lw_okq (q : MethodName × Nat) : Prop := (q.1.cls ≠ "java/lang/invoke/MethodHandle" ∧ q.1.cls ≠ "java/lang/invoke/VarHandle") ∧ Cond.instantiable q.1.cls q.2 ∈ tables_1 ∧ Cond.privateMethod q.1 ∈ tables_1 ∧ Cond.instanceMethod q.1 ∈ tables_1
set_option maxRecDepth 100000
theorem lw_t1 {w : Cond} (h : w ∈ tables_1_1) : w ∈ tables_1 := List.mem_append_left _ h
theorem lw_t2 {w : Cond} (h : w ∈ tables_1_2) : w ∈ tables_1 := List.mem_append_right _ (List.mem_append_left _ h)
theorem lw_t3 {w : Cond} (h : w ∈ tables_1_3) : w ∈ tables_1 := List.mem_append_right _ (List.mem_append_right _ (List.mem_append_left _ h))
theorem lw_t4 {w : Cond} (h : w ∈ tables_1_4) : w ∈ tables_1 := List.mem_append_right _ (List.mem_append_right _ (List.mem_append_right _ (List.mem_append_left _ h)))
theorem lw_t5 {w : Cond} (h : w ∈ tables_1_5) : w ∈ tables_1 := List.mem_append_right _ (List.mem_append_right _ (List.mem_append_right _ (List.mem_append_right _ h)))
theorem lw_p0 : lw_okq (⟨"TownOnWeight", "goThrough", "(LTownOnWeight$Reader;)I"⟩, 15) := ⟨⟨by decide +kernel, by decide +kernel⟩, lw_t1 (List.mem_of_getElem? (i := 19) rfl), lw_t1 (List.mem_of_getElem? (i := 156) rfl), lw_t1 (List.mem_of_getElem? (i := 157) rfl)⟩
theorem lw_p1 : lw_okq (⟨"TownOnWeight", "isHouse", "(I)Z"⟩, 15) := ⟨⟨by decide +kernel, by decide +kernel⟩, lw_t1 (List.mem_of_getElem? (i := 19) rfl), lw_t2 (List.mem_of_getElem? (i := 16) rfl), lw_t2 (List.mem_of_getElem? (i := 17) rfl)⟩
theorem lw_p2 : lw_okq (⟨"TownOnWeight", "aboutOf", "(II)I"⟩, 15) := ⟨⟨by decide +kernel, by decide +kernel⟩, lw_t1 (List.mem_of_getElem? (i := 19) rfl), lw_t2 (List.mem_of_getElem? (i := 21) rfl), lw_t2 (List.mem_of_getElem? (i := 22) rfl)⟩
theorem lw_p3 : lw_okq (⟨"java/lang/Throwable", "fillInStackTrace", "(I)Ljava/lang/Throwable;"⟩, 6) := ⟨⟨by decide +kernel, by decide +kernel⟩, lw_t2 (List.mem_of_getElem? (i := 75) rfl), lw_t2 (List.mem_of_getElem? (i := 73) rfl), lw_t2 (List.mem_of_getElem? (i := 74) rfl)⟩
theorem lw_p4 : lw_okq (⟨"TownOnWeight", "wantsOf", "(LTownOnWeight$Day;I)I"⟩, 15) := ⟨⟨by decide +kernel, by decide +kernel⟩, lw_t1 (List.mem_of_getElem? (i := 19) rfl), lw_t2 (List.mem_of_getElem? (i := 140) rfl), lw_t2 (List.mem_of_getElem? (i := 141) rfl)⟩
theorem lw_p5 : lw_okq (⟨"TownOnWeight", "isSet", "(I)Z"⟩, 15) := ⟨⟨by decide +kernel, by decide +kernel⟩, lw_t1 (List.mem_of_getElem? (i := 19) rfl), lw_t2 (List.mem_of_getElem? (i := 172) rfl), lw_t2 (List.mem_of_getElem? (i := 173) rfl)⟩
theorem lw_p6 : lw_okq (⟨"TownOnWeight", "goesBy", "(LTownOnWeight$Day;I)I"⟩, 15) := ⟨⟨by decide +kernel, by decide +kernel⟩, lw_t1 (List.mem_of_getElem? (i := 19) rfl), lw_t2 (List.mem_of_getElem? (i := 176) rfl), lw_t2 (List.mem_of_getElem? (i := 177) rfl)⟩
theorem lw_p7 : lw_okq (⟨"TownOnWeight", "wanting", "(LTownOnWeight$Day;)I"⟩, 15) := ⟨⟨by decide +kernel, by decide +kernel⟩, lw_t1 (List.mem_of_getElem? (i := 19) rfl), lw_t2 (List.mem_of_getElem? (i := 180) rfl), lw_t2 (List.mem_of_getElem? (i := 181) rfl)⟩
theorem lw_p8 : lw_okq (⟨"TownOnWeight", "through", "(I)I"⟩, 15) := ⟨⟨by decide +kernel, by decide +kernel⟩, lw_t1 (List.mem_of_getElem? (i := 19) rfl), lw_t2 (List.mem_of_getElem? (i := 184) rfl), lw_t2 (List.mem_of_getElem? (i := 185) rfl)⟩
theorem lw_p9 : lw_okq (⟨"TownOnWeight", "pass", "(LTownOnWeight$Day;)I"⟩, 15) := ⟨⟨by decide +kernel, by decide +kernel⟩, lw_t1 (List.mem_of_getElem? (i := 19) rfl), lw_t2 (List.mem_of_getElem? (i := 207) rfl), lw_t2 (List.mem_of_getElem? (i := 208) rfl)⟩
theorem lw_p10 : lw_okq (⟨"TownOnWeight", "lastToStop", "(I)I"⟩, 15) := ⟨⟨by decide +kernel, by decide +kernel⟩, lw_t1 (List.mem_of_getElem? (i := 19) rfl), lw_t2 (List.mem_of_getElem? (i := 211) rfl), lw_t2 (List.mem_of_getElem? (i := 212) rfl)⟩
theorem lw_p11 : lw_okq (⟨"TownOnWeight", "partOf", "(I)I"⟩, 15) := ⟨⟨by decide +kernel, by decide +kernel⟩, lw_t1 (List.mem_of_getElem? (i := 19) rfl), lw_t2 (List.mem_of_getElem? (i := 234) rfl), lw_t2 (List.mem_of_getElem? (i := 235) rfl)⟩
theorem lw_p12 : lw_okq (⟨"TownOnWeight", "planOf", "(I)I"⟩, 15) := ⟨⟨by decide +kernel, by decide +kernel⟩, lw_t1 (List.mem_of_getElem? (i := 19) rfl), lw_t3 (List.mem_of_getElem? (i := 13) rfl), lw_t3 (List.mem_of_getElem? (i := 14) rfl)⟩
theorem lw_p13 : lw_okq (⟨"TownOnWeight", "takenBy", "(II)I"⟩, 15) := ⟨⟨by decide +kernel, by decide +kernel⟩, lw_t1 (List.mem_of_getElem? (i := 19) rfl), lw_t3 (List.mem_of_getElem? (i := 17) rfl), lw_t3 (List.mem_of_getElem? (i := 18) rfl)⟩
theorem lw_p14 : lw_okq (⟨"TownOnWeight", "restOf", "()I"⟩, 15) := ⟨⟨by decide +kernel, by decide +kernel⟩, lw_t1 (List.mem_of_getElem? (i := 19) rfl), lw_t3 (List.mem_of_getElem? (i := 26) rfl), lw_t3 (List.mem_of_getElem? (i := 27) rfl)⟩
theorem lw_p15 : lw_okq (⟨"TownOnWeight", "moreOf", "(I)I"⟩, 15) := ⟨⟨by decide +kernel, by decide +kernel⟩, lw_t1 (List.mem_of_getElem? (i := 19) rfl), lw_t3 (List.mem_of_getElem? (i := 40) rfl), lw_t3 (List.mem_of_getElem? (i := 41) rfl)⟩
def lw_privs_1 : List (MethodName × Nat) := [(⟨"TownOnWeight", "goThrough", "(LTownOnWeight$Reader;)I"⟩, 15), (⟨"TownOnWeight", "isHouse", "(I)Z"⟩, 15), (⟨"TownOnWeight", "aboutOf", "(II)I"⟩, 15), (⟨"java/lang/Throwable", "fillInStackTrace", "(I)Ljava/lang/Throwable;"⟩, 6), (⟨"TownOnWeight", "wantsOf", "(LTownOnWeight$Day;I)I"⟩, 15), (⟨"TownOnWeight", "isSet", "(I)Z"⟩, 15), (⟨"TownOnWeight", "goesBy", "(LTownOnWeight$Day;I)I"⟩, 15), (⟨"TownOnWeight", "wanting", "(LTownOnWeight$Day;)I"⟩, 15), (⟨"TownOnWeight", "through", "(I)I"⟩, 15), (⟨"TownOnWeight", "pass", "(LTownOnWeight$Day;)I"⟩, 15), (⟨"TownOnWeight", "lastToStop", "(I)I"⟩, 15), (⟨"TownOnWeight", "partOf", "(I)I"⟩, 15), (⟨"TownOnWeight", "planOf", "(I)I"⟩, 15), (⟨"TownOnWeight", "takenBy", "(II)I"⟩, 15), (⟨"TownOnWeight", "restOf", "()I"⟩, 15), (⟨"TownOnWeight", "moreOf", "(I)I"⟩, 15)]
theorem lw_r1 : ∀ q ∈ lw_privs_1, lw_okq q := List.forall_mem_cons.mpr ⟨lw_p0, List.forall_mem_cons.mpr ⟨lw_p1, List.forall_mem_cons.mpr ⟨lw_p2, List.forall_mem_cons.mpr ⟨lw_p3, List.forall_mem_cons.mpr ⟨lw_p4, List.forall_mem_cons.mpr ⟨lw_p5, List.forall_mem_cons.mpr ⟨lw_p6, List.forall_mem_cons.mpr ⟨lw_p7, List.forall_mem_cons.mpr ⟨lw_p8, List.forall_mem_cons.mpr ⟨lw_p9, List.forall_mem_cons.mpr ⟨lw_p10, List.forall_mem_cons.mpr ⟨lw_p11, List.forall_mem_cons.mpr ⟨lw_p12, List.forall_mem_cons.mpr ⟨lw_p13, List.forall_mem_cons.mpr ⟨lw_p14, List.forall_mem_cons.mpr ⟨lw_p15, fun _ h => absurd h List.not_mem_nil⟩⟩⟩⟩⟩⟩⟩⟩⟩⟩⟩⟩⟩⟩⟩⟩
theorem lw_p16 : lw_okq (⟨"TownOnWeight", "missingOf", "(II)I"⟩, 15) := ⟨⟨by decide +kernel, by decide +kernel⟩, lw_t1 (List.mem_of_getElem? (i := 19) rfl), lw_t3 (List.mem_of_getElem? (i := 50) rfl), lw_t3 (List.mem_of_getElem? (i := 51) rfl)⟩
theorem lw_p17 : lw_okq (⟨"TownOnWeight", "takesOf", "(I)I"⟩, 15) := ⟨⟨by decide +kernel, by decide +kernel⟩, lw_t1 (List.mem_of_getElem? (i := 19) rfl), lw_t3 (List.mem_of_getElem? (i := 54) rfl), lw_t3 (List.mem_of_getElem? (i := 55) rfl)⟩
theorem lw_p18 : lw_okq (⟨"TownOnWeight", "restBy", "(II)I"⟩, 15) := ⟨⟨by decide +kernel, by decide +kernel⟩, lw_t1 (List.mem_of_getElem? (i := 19) rfl), lw_t3 (List.mem_of_getElem? (i := 63) rfl), lw_t3 (List.mem_of_getElem? (i := 64) rfl)⟩
theorem lw_p19 : lw_okq (⟨"TownOnWeight", "leaksOf", "()I"⟩, 15) := ⟨⟨by decide +kernel, by decide +kernel⟩, lw_t1 (List.mem_of_getElem? (i := 19) rfl), lw_t3 (List.mem_of_getElem? (i := 84) rfl), lw_t3 (List.mem_of_getElem? (i := 85) rfl)⟩
theorem lw_p20 : lw_okq (⟨"TownOnWeight", "leakOf", "(I)I"⟩, 15) := ⟨⟨by decide +kernel, by decide +kernel⟩, lw_t1 (List.mem_of_getElem? (i := 19) rfl), lw_t3 (List.mem_of_getElem? (i := 88) rfl), lw_t3 (List.mem_of_getElem? (i := 89) rfl)⟩
theorem lw_p21 : lw_okq (⟨"TownOnWeight", "isLeak", "(II)Z"⟩, 15) := ⟨⟨by decide +kernel, by decide +kernel⟩, lw_t1 (List.mem_of_getElem? (i := 19) rfl), lw_t3 (List.mem_of_getElem? (i := 92) rfl), lw_t3 (List.mem_of_getElem? (i := 93) rfl)⟩
theorem lw_p22 : lw_okq (⟨"TownOnWeight", "expected", "(I)I"⟩, 15) := ⟨⟨by decide +kernel, by decide +kernel⟩, lw_t1 (List.mem_of_getElem? (i := 19) rfl), lw_t3 (List.mem_of_getElem? (i := 96) rfl), lw_t3 (List.mem_of_getElem? (i := 97) rfl)⟩
theorem lw_p23 : lw_okq (⟨"TownOnWeight", "lookOf", "()I"⟩, 15) := ⟨⟨by decide +kernel, by decide +kernel⟩, lw_t1 (List.mem_of_getElem? (i := 19) rfl), lw_t3 (List.mem_of_getElem? (i := 108) rfl), lw_t3 (List.mem_of_getElem? (i := 109) rfl)⟩
theorem lw_p24 : lw_okq (⟨"TownOnWeight", "note", "(J)V"⟩, 15) := ⟨⟨by decide +kernel, by decide +kernel⟩, lw_t1 (List.mem_of_getElem? (i := 19) rfl), lw_t3 (List.mem_of_getElem? (i := 132) rfl), lw_t3 (List.mem_of_getElem? (i := 133) rfl)⟩
theorem lw_p25 : lw_okq (⟨"TownOnWeightModel", "faultNow", "()I"⟩, 47) := ⟨⟨by decide +kernel, by decide +kernel⟩, lw_t3 (List.mem_of_getElem? (i := 138) rfl), lw_t4 (List.mem_of_getElem? (i := 59) rfl), lw_t4 (List.mem_of_getElem? (i := 60) rfl)⟩
theorem lw_p26 : lw_okq (⟨"TownOnWeightModel", "mayStand", "(II)Z"⟩, 47) := ⟨⟨by decide +kernel, by decide +kernel⟩, lw_t3 (List.mem_of_getElem? (i := 138) rfl), lw_t4 (List.mem_of_getElem? (i := 63) rfl), lw_t4 (List.mem_of_getElem? (i := 64) rfl)⟩
theorem lw_p27 : lw_okq (⟨"TownOnWeightModel", "isHouse", "(I)Z"⟩, 47) := ⟨⟨by decide +kernel, by decide +kernel⟩, lw_t3 (List.mem_of_getElem? (i := 138) rfl), lw_t4 (List.mem_of_getElem? (i := 81) rfl), lw_t4 (List.mem_of_getElem? (i := 82) rfl)⟩
theorem lw_p28 : lw_okq (⟨"TownOnWeightModel", "houseNow", "(II)I"⟩, 47) := ⟨⟨by decide +kernel, by decide +kernel⟩, lw_t3 (List.mem_of_getElem? (i := 138) rfl), lw_t4 (List.mem_of_getElem? (i := 85) rfl), lw_t4 (List.mem_of_getElem? (i := 86) rfl)⟩
theorem lw_p29 : lw_okq (⟨"TownOnWeightModel", "wantsNow", "(I)I"⟩, 47) := ⟨⟨by decide +kernel, by decide +kernel⟩, lw_t3 (List.mem_of_getElem? (i := 138) rfl), lw_t4 (List.mem_of_getElem? (i := 112) rfl), lw_t4 (List.mem_of_getElem? (i := 113) rfl)⟩
theorem lw_p30 : lw_okq (⟨"TownOnWeightModel", "isTime", "(I)Z"⟩, 47) := ⟨⟨by decide +kernel, by decide +kernel⟩, lw_t3 (List.mem_of_getElem? (i := 138) rfl), lw_t4 (List.mem_of_getElem? (i := 116) rfl), lw_t4 (List.mem_of_getElem? (i := 117) rfl)⟩
theorem lw_p31 : lw_okq (⟨"TownOnWeightModel", "everybody", "()I"⟩, 47) := ⟨⟨by decide +kernel, by decide +kernel⟩, lw_t3 (List.mem_of_getElem? (i := 138) rfl), lw_t4 (List.mem_of_getElem? (i := 124) rfl), lw_t4 (List.mem_of_getElem? (i := 125) rfl)⟩
def lw_privs_2 : List (MethodName × Nat) := [(⟨"TownOnWeight", "missingOf", "(II)I"⟩, 15), (⟨"TownOnWeight", "takesOf", "(I)I"⟩, 15), (⟨"TownOnWeight", "restBy", "(II)I"⟩, 15), (⟨"TownOnWeight", "leaksOf", "()I"⟩, 15), (⟨"TownOnWeight", "leakOf", "(I)I"⟩, 15), (⟨"TownOnWeight", "isLeak", "(II)Z"⟩, 15), (⟨"TownOnWeight", "expected", "(I)I"⟩, 15), (⟨"TownOnWeight", "lookOf", "()I"⟩, 15), (⟨"TownOnWeight", "note", "(J)V"⟩, 15), (⟨"TownOnWeightModel", "faultNow", "()I"⟩, 47), (⟨"TownOnWeightModel", "mayStand", "(II)Z"⟩, 47), (⟨"TownOnWeightModel", "isHouse", "(I)Z"⟩, 47), (⟨"TownOnWeightModel", "houseNow", "(II)I"⟩, 47), (⟨"TownOnWeightModel", "wantsNow", "(I)I"⟩, 47), (⟨"TownOnWeightModel", "isTime", "(I)Z"⟩, 47), (⟨"TownOnWeightModel", "everybody", "()I"⟩, 47)]
theorem lw_r2 : ∀ q ∈ lw_privs_2, lw_okq q := List.forall_mem_cons.mpr ⟨lw_p16, List.forall_mem_cons.mpr ⟨lw_p17, List.forall_mem_cons.mpr ⟨lw_p18, List.forall_mem_cons.mpr ⟨lw_p19, List.forall_mem_cons.mpr ⟨lw_p20, List.forall_mem_cons.mpr ⟨lw_p21, List.forall_mem_cons.mpr ⟨lw_p22, List.forall_mem_cons.mpr ⟨lw_p23, List.forall_mem_cons.mpr ⟨lw_p24, List.forall_mem_cons.mpr ⟨lw_p25, List.forall_mem_cons.mpr ⟨lw_p26, List.forall_mem_cons.mpr ⟨lw_p27, List.forall_mem_cons.mpr ⟨lw_p28, List.forall_mem_cons.mpr ⟨lw_p29, List.forall_mem_cons.mpr ⟨lw_p30, List.forall_mem_cons.mpr ⟨lw_p31, fun _ h => absurd h List.not_mem_nil⟩⟩⟩⟩⟩⟩⟩⟩⟩⟩⟩⟩⟩⟩⟩⟩
theorem lw_p32 : lw_okq (⟨"TownOnWeightModel", "goesBy", "(I)I"⟩, 47) := ⟨⟨by decide +kernel, by decide +kernel⟩, lw_t3 (List.mem_of_getElem? (i := 138) rfl), lw_t4 (List.mem_of_getElem? (i := 128) rfl), lw_t4 (List.mem_of_getElem? (i := 129) rfl)⟩
theorem lw_p33 : lw_okq (⟨"TownOnWeightModel", "wanting", "(I)I"⟩, 47) := ⟨⟨by decide +kernel, by decide +kernel⟩, lw_t3 (List.mem_of_getElem? (i := 138) rfl), lw_t4 (List.mem_of_getElem? (i := 132) rfl), lw_t4 (List.mem_of_getElem? (i := 133) rfl)⟩
theorem lw_p34 : lw_okq (⟨"TownOnWeightModel", "shafts", "(I)I"⟩, 47) := ⟨⟨by decide +kernel, by decide +kernel⟩, lw_t3 (List.mem_of_getElem? (i := 138) rfl), lw_t4 (List.mem_of_getElem? (i := 136) rfl), lw_t4 (List.mem_of_getElem? (i := 137) rfl)⟩
theorem lw_p35 : lw_okq (⟨"TownOnWeightModel", "takesBy", "(I)I"⟩, 47) := ⟨⟨by decide +kernel, by decide +kernel⟩, lw_t3 (List.mem_of_getElem? (i := 138) rfl), lw_t4 (List.mem_of_getElem? (i := 140) rfl), lw_t4 (List.mem_of_getElem? (i := 141) rfl)⟩
theorem lw_p36 : lw_okq (⟨"TownOnWeightModel", "isOver", "()Z"⟩, 47) := ⟨⟨by decide +kernel, by decide +kernel⟩, lw_t3 (List.mem_of_getElem? (i := 138) rfl), lw_t4 (List.mem_of_getElem? (i := 148) rfl), lw_t4 (List.mem_of_getElem? (i := 149) rfl)⟩
theorem lw_p37 : lw_okq (⟨"TownOnWeightModel", "goHour", "()I"⟩, 47) := ⟨⟨by decide +kernel, by decide +kernel⟩, lw_t3 (List.mem_of_getElem? (i := 138) rfl), lw_t4 (List.mem_of_getElem? (i := 152) rfl), lw_t4 (List.mem_of_getElem? (i := 153) rfl)⟩
theorem lw_p38 : lw_okq (⟨"TownOnWeightModel", "working", "()I"⟩, 47) := ⟨⟨by decide +kernel, by decide +kernel⟩, lw_t3 (List.mem_of_getElem? (i := 138) rfl), lw_t4 (List.mem_of_getElem? (i := 156) rfl), lw_t4 (List.mem_of_getElem? (i := 157) rfl)⟩
theorem lw_p39 : lw_okq (⟨"TownOnWeightModel", "partOf", "(I)I"⟩, 47) := ⟨⟨by decide +kernel, by decide +kernel⟩, lw_t3 (List.mem_of_getElem? (i := 138) rfl), lw_t4 (List.mem_of_getElem? (i := 168) rfl), lw_t4 (List.mem_of_getElem? (i := 169) rfl)⟩
theorem lw_p40 : lw_okq (⟨"TownOnWeightModel", "takenAll", "()I"⟩, 47) := ⟨⟨by decide +kernel, by decide +kernel⟩, lw_t3 (List.mem_of_getElem? (i := 138) rfl), lw_t4 (List.mem_of_getElem? (i := 172) rfl), lw_t4 (List.mem_of_getElem? (i := 173) rfl)⟩
theorem lw_p41 : lw_okq (⟨"TownOnWeightModel", "planNow", "(I)I"⟩, 47) := ⟨⟨by decide +kernel, by decide +kernel⟩, lw_t3 (List.mem_of_getElem? (i := 138) rfl), lw_t4 (List.mem_of_getElem? (i := 184) rfl), lw_t4 (List.mem_of_getElem? (i := 185) rfl)⟩
theorem lw_p42 : lw_okq (⟨"TownOnWeightModel", "takenOn", "(II)I"⟩, 47) := ⟨⟨by decide +kernel, by decide +kernel⟩, lw_t3 (List.mem_of_getElem? (i := 138) rfl), lw_t4 (List.mem_of_getElem? (i := 188) rfl), lw_t4 (List.mem_of_getElem? (i := 189) rfl)⟩
theorem lw_p43 : lw_okq (⟨"TownOnWeightModel", "save", "()V"⟩, 47) := ⟨⟨by decide +kernel, by decide +kernel⟩, lw_t3 (List.mem_of_getElem? (i := 138) rfl), lw_t4 (List.mem_of_getElem? (i := 192) rfl), lw_t4 (List.mem_of_getElem? (i := 193) rfl)⟩
theorem lw_p44 : lw_okq (⟨"TownOnWeightModel", "back", "()V"⟩, 47) := ⟨⟨by decide +kernel, by decide +kernel⟩, lw_t3 (List.mem_of_getElem? (i := 138) rfl), lw_t4 (List.mem_of_getElem? (i := 196) rfl), lw_t4 (List.mem_of_getElem? (i := 197) rfl)⟩
theorem lw_p45 : lw_okq (⟨"TownOnWeightModel", "moreNow", "(I)I"⟩, 47) := ⟨⟨by decide +kernel, by decide +kernel⟩, lw_t3 (List.mem_of_getElem? (i := 138) rfl), lw_t4 (List.mem_of_getElem? (i := 207) rfl), lw_t4 (List.mem_of_getElem? (i := 208) rfl)⟩
theorem lw_p46 : lw_okq (⟨"TownOnWeightModel", "sumOf", "(I)I"⟩, 47) := ⟨⟨by decide +kernel, by decide +kernel⟩, lw_t3 (List.mem_of_getElem? (i := 138) rfl), lw_t4 (List.mem_of_getElem? (i := 215) rfl), lw_t4 (List.mem_of_getElem? (i := 216) rfl)⟩
theorem lw_p47 : lw_okq (⟨"TownOnWeightModel", "draw", "(I)I"⟩, 47) := ⟨⟨by decide +kernel, by decide +kernel⟩, lw_t3 (List.mem_of_getElem? (i := 138) rfl), lw_t4 (List.mem_of_getElem? (i := 223) rfl), lw_t4 (List.mem_of_getElem? (i := 224) rfl)⟩
def lw_privs_3 : List (MethodName × Nat) := [(⟨"TownOnWeightModel", "goesBy", "(I)I"⟩, 47), (⟨"TownOnWeightModel", "wanting", "(I)I"⟩, 47), (⟨"TownOnWeightModel", "shafts", "(I)I"⟩, 47), (⟨"TownOnWeightModel", "takesBy", "(I)I"⟩, 47), (⟨"TownOnWeightModel", "isOver", "()Z"⟩, 47), (⟨"TownOnWeightModel", "goHour", "()I"⟩, 47), (⟨"TownOnWeightModel", "working", "()I"⟩, 47), (⟨"TownOnWeightModel", "partOf", "(I)I"⟩, 47), (⟨"TownOnWeightModel", "takenAll", "()I"⟩, 47), (⟨"TownOnWeightModel", "planNow", "(I)I"⟩, 47), (⟨"TownOnWeightModel", "takenOn", "(II)I"⟩, 47), (⟨"TownOnWeightModel", "save", "()V"⟩, 47), (⟨"TownOnWeightModel", "back", "()V"⟩, 47), (⟨"TownOnWeightModel", "moreNow", "(I)I"⟩, 47), (⟨"TownOnWeightModel", "sumOf", "(I)I"⟩, 47), (⟨"TownOnWeightModel", "draw", "(I)I"⟩, 47)]
theorem lw_r3 : ∀ q ∈ lw_privs_3, lw_okq q := List.forall_mem_cons.mpr ⟨lw_p32, List.forall_mem_cons.mpr ⟨lw_p33, List.forall_mem_cons.mpr ⟨lw_p34, List.forall_mem_cons.mpr ⟨lw_p35, List.forall_mem_cons.mpr ⟨lw_p36, List.forall_mem_cons.mpr ⟨lw_p37, List.forall_mem_cons.mpr ⟨lw_p38, List.forall_mem_cons.mpr ⟨lw_p39, List.forall_mem_cons.mpr ⟨lw_p40, List.forall_mem_cons.mpr ⟨lw_p41, List.forall_mem_cons.mpr ⟨lw_p42, List.forall_mem_cons.mpr ⟨lw_p43, List.forall_mem_cons.mpr ⟨lw_p44, List.forall_mem_cons.mpr ⟨lw_p45, List.forall_mem_cons.mpr ⟨lw_p46, List.forall_mem_cons.mpr ⟨lw_p47, fun _ h => absurd h List.not_mem_nil⟩⟩⟩⟩⟩⟩⟩⟩⟩⟩⟩⟩⟩⟩⟩⟩
theorem lw_p48 : lw_okq (⟨"TownOnWeightModel", "leakNow", "(I)I"⟩, 47) := ⟨⟨by decide +kernel, by decide +kernel⟩, lw_t3 (List.mem_of_getElem? (i := 138) rfl), lw_t5 (List.mem_of_getElem? (i := 3) rfl), lw_t5 (List.mem_of_getElem? (i := 4) rfl)⟩
theorem lw_p49 : lw_okq (⟨"TownOnWeightModel", "feetBy", "(I)I"⟩, 47) := ⟨⟨by decide +kernel, by decide +kernel⟩, lw_t3 (List.mem_of_getElem? (i := 138) rfl), lw_t5 (List.mem_of_getElem? (i := 7) rfl), lw_t5 (List.mem_of_getElem? (i := 8) rfl)⟩
theorem lw_p50 : lw_okq (⟨"TownOnWeightModel", "leaksNow", "()I"⟩, 47) := ⟨⟨by decide +kernel, by decide +kernel⟩, lw_t3 (List.mem_of_getElem? (i := 138) rfl), lw_t5 (List.mem_of_getElem? (i := 15) rfl), lw_t5 (List.mem_of_getElem? (i := 16) rfl)⟩
theorem lw_p51 : lw_okq (⟨"TownOnWeightModel", "lookNow", "()I"⟩, 47) := ⟨⟨by decide +kernel, by decide +kernel⟩, lw_t3 (List.mem_of_getElem? (i := 138) rfl), lw_t5 (List.mem_of_getElem? (i := 23) rfl), lw_t5 (List.mem_of_getElem? (i := 24) rfl)⟩
theorem lw_p52 : lw_okq (⟨"TownOnWeightModel", "howMany", "(I)I"⟩, 47) := ⟨⟨by decide +kernel, by decide +kernel⟩, lw_t3 (List.mem_of_getElem? (i := 138) rfl), lw_t5 (List.mem_of_getElem? (i := 39) rfl), lw_t5 (List.mem_of_getElem? (i := 40) rfl)⟩
theorem lw_p53 : lw_okq (⟨"TownOnWeightModel", "mix", "(J)V"⟩, 47) := ⟨⟨by decide +kernel, by decide +kernel⟩, lw_t3 (List.mem_of_getElem? (i := 138) rfl), lw_t5 (List.mem_of_getElem? (i := 48) rfl), lw_t5 (List.mem_of_getElem? (i := 49) rfl)⟩
def lw_privs_4 : List (MethodName × Nat) := [(⟨"TownOnWeightModel", "leakNow", "(I)I"⟩, 47), (⟨"TownOnWeightModel", "feetBy", "(I)I"⟩, 47), (⟨"TownOnWeightModel", "leaksNow", "()I"⟩, 47), (⟨"TownOnWeightModel", "lookNow", "()I"⟩, 47), (⟨"TownOnWeightModel", "howMany", "(I)I"⟩, 47), (⟨"TownOnWeightModel", "mix", "(J)V"⟩, 47)]
theorem lw_r4 : ∀ q ∈ lw_privs_4, lw_okq q := List.forall_mem_cons.mpr ⟨lw_p48, List.forall_mem_cons.mpr ⟨lw_p49, List.forall_mem_cons.mpr ⟨lw_p50, List.forall_mem_cons.mpr ⟨lw_p51, List.forall_mem_cons.mpr ⟨lw_p52, List.forall_mem_cons.mpr ⟨lw_p53, fun _ h => absurd h List.not_mem_nil⟩⟩⟩⟩⟩⟩
def lw_privs : List (MethodName × Nat) := lw_privs_1 ++ (lw_privs_2 ++ (lw_privs_3 ++ (lw_privs_4)))
def lw_tbl : List Cond := k2_sels lw_privs ++ tables_1
theorem lw_privs_ok : ∀ q ∈ lw_privs, lw_okq q := by
  show ∀ q ∈ lw_privs_1 ++ (lw_privs_2 ++ (lw_privs_3 ++ (lw_privs_4))), lw_okq q
  exact List.forall_mem_append.mpr ⟨lw_r1, List.forall_mem_append.mpr ⟨lw_r2, List.forall_mem_append.mpr ⟨lw_r3, lw_r4⟩⟩⟩
-- ===== ONE list of words for every method: the tables' words that hold all through a run =====
def lw_all : List Cond := lw_tbl.filter goodWord
/-- a word of the tables by its place: claim/WORDS.tsv -/
theorem lw_w {w : Cond} (i : Nat) (h : lw_tbl[i]? = some w) (g : goodWord w = true) : w ∈ lw_all := List.mem_filter.mpr ⟨List.mem_of_getElem? h, g⟩
theorem lw_all_tbl {w : Cond} (h : w ∈ lw_all) : w ∈ lw_tbl := (List.mem_filter.mp h).1
theorem lw_self : GoodIn lw_all lw_all := fun w h => ⟨h, good_of_word (List.mem_filter.mp h).2⟩
/-- a class's field words, by their places -/
theorem lw_in (ws : List Cond) (ps : List Nat) (hp : ws = ps.filterMap (fun i => lw_tbl[i]?)) (hg : ws.all goodWord = true) : ∀ w ∈ ws, w ∈ lw_all := by
  intro w h
  have h1 := List.all_eq_true.mp hg w h
  rw [hp] at h
  obtain ⟨i, -, hi⟩ := List.mem_filterMap.mp h
  exact lw_w i hi h1
/-- the words of a contract for the method y with code b, L locals, answer r -/
abbrev ws_ (y : MethodName) (b : ByteArray) (L : Nat) (r : Option FieldType) : List Cond := Cond.code y b L r :: lw_all
theorem lw_meth {y : MethodName} {b : ByteArray} {L : Nat} {r : Option FieldType} (h : Cond.code y b L r ∈ lw_all) : GoodIn lw_all (ws_ y b L r) := by
  intro w hw
  rcases List.mem_cons.mp hw with e | e
  · rw [e]
    exact lw_self _ h
  · exact lw_self _ e
theorem lw_app {a c : List Cond} (ha : ∀ w ∈ a, w ∈ lw_all) (hc : GoodIn lw_all c) : GoodIn lw_all (a ++ c) := by
  intro w hw
  rcases List.mem_append.mp hw with e | e
  · exact lw_self w (ha w e)
  · exact hc w e
/-- what a call through an object asks: cwV n hts (lw_V ..) -/
theorem lw_V {own : String} {idx : Nat} {C : String} {y : MethodName} {b : ByteArray} {L : Nat} {r : Option FieldType} (h1 : Cond.methodLink own idx y ∈ lw_all) (h2 : Cond.instanceMethod y ∈ lw_all) (h3 : Cond.selects C y y ∈ lw_all) (h4 : Cond.initialized C ∈ lw_all) (h5 : Cond.code y b L r ∈ lw_all) : GoodIn lw_all (wsV own idx C y (ws_ y b L r)) := by
  refine lw_app ?_ (lw_meth h5)
  intro w hw
  simp only [List.mem_cons, List.not_mem_nil, or_false] at hw
  rcases hw with e | e | e | e
  · rw [e]; exact h1
  · rw [e]; exact h2
  · rw [e]; exact h3
  · rw [e]; exact h4
/-- what a static call asks: va_cwS n hts (lw_S ..) -/
theorem lw_S {own : String} {idx : Nat} {y : MethodName} {b : ByteArray} {L : Nat} {r : Option FieldType} (h1 : Cond.methodLink own idx y ∈ lw_all) (h2 : Cond.static y ∈ lw_all) (h3 : Cond.initialized y.cls ∈ lw_all) (h4 : Cond.code y b L r ∈ lw_all) : GoodIn lw_all (va_wsS own idx y (ws_ y b L r)) := by
  refine lw_app ?_ (lw_meth h4)
  intro w hw
  simp only [List.mem_cons, List.not_mem_nil, or_false] at hw
  rcases hw with e | e | e
  · rw [e]; exact h1
  · rw [e]; exact h2
  · rw [e]; exact h3
/-- the words of a contract for a method WITH HANDLERS (hh: its table) -/
abbrev wsW_ (y : MethodName) (b : ByteArray) (L : Nat) (r : Option FieldType) (hh : List (Nat × Nat × Nat × Nat)) : List Cond := Cond.codeWith y b L r hh :: lw_all
theorem lw_methW {y : MethodName} {b : ByteArray} {L : Nat} {r : Option FieldType} {hh : List (Nat × Nat × Nat × Nat)} (h : Cond.codeWith y b L r hh ∈ lw_all) : GoodIn lw_all (wsW_ y b L r hh) := by
  intro w hw
  rcases List.mem_cons.mp hw with e | e
  · rw [e]
    exact lw_self _ h
  · exact lw_self _ e
/-- any list of words by their places (lw_in), good -/
theorem lw_good {ws : List Cond} (h : ∀ w ∈ ws, w ∈ lw_all) : GoodIn lw_all ws := fun w hw => lw_self w (h w hw)
/-- what a call of a method with handlers asks: vx_cwVW n hts (lw_VW ..), vx_cwSW n hts (lw_SW ..) -/
theorem lw_VW {own : String} {idx : Nat} {C : String} {y : MethodName} {b : ByteArray} {L : Nat} {r : Option FieldType} {hh : List (Nat × Nat × Nat × Nat)} (h1 : Cond.methodLink own idx y ∈ lw_all) (h2 : Cond.instanceMethod y ∈ lw_all) (h3 : Cond.selects C y y ∈ lw_all) (h4 : Cond.initialized C ∈ lw_all) (h5 : Cond.codeWith y b L r hh ∈ lw_all) : GoodIn lw_all (wsV own idx C y (wsW_ y b L r hh)) := by
  refine lw_app ?_ (lw_methW h5)
  intro w hw
  simp only [List.mem_cons, List.not_mem_nil, or_false] at hw
  rcases hw with e | e | e | e
  · rw [e]; exact h1
  · rw [e]; exact h2
  · rw [e]; exact h3
  · rw [e]; exact h4
theorem lw_SW {own : String} {idx : Nat} {y : MethodName} {b : ByteArray} {L : Nat} {r : Option FieldType} {hh : List (Nat × Nat × Nat × Nat)} (h1 : Cond.methodLink own idx y ∈ lw_all) (h2 : Cond.static y ∈ lw_all) (h3 : Cond.initialized y.cls ∈ lw_all) (h4 : Cond.codeWith y b L r hh ∈ lw_all) : GoodIn lw_all (va_wsS own idx y (wsW_ y b L r hh)) := by
  refine lw_app ?_ (lw_methW h4)
  intro w hw
  simp only [List.mem_cons, List.not_mem_nil, or_false] at hw
  rcases hw with e | e | e
  · rw [e]; exact h1
  · rw [e]; exact h2
  · rw [e]; exact h3
/-- a word by its place in its run of the tables -/
theorem lw_at {r : List Cond} (hr : ∀ w ∈ r, w ∈ lw_tbl) {w : Cond} (i : Nat) (h : r[i]? = some w) : w ∈ lw_tbl := hr w (List.mem_of_getElem? h)
theorem lw_g {w : Cond} (h : w ∈ lw_tbl) (g : goodWord w = true) : w ∈ lw_all := List.mem_filter.mpr ⟨h, g⟩
theorem lw_ms : ∀ w ∈ k2_sels lw_privs, w ∈ lw_tbl := fun w h => show w ∈ k2_sels lw_privs ++ tables_1 from List.mem_append_left _ h
theorem lw_m1 : ∀ w ∈ tables_1_1, w ∈ lw_tbl := fun w h => show w ∈ k2_sels lw_privs ++ tables_1 from List.mem_append_right (k2_sels lw_privs) (show w ∈ tables_1 from List.mem_append_left _ h)
theorem lw_m2 : ∀ w ∈ tables_1_2, w ∈ lw_tbl := fun w h => show w ∈ k2_sels lw_privs ++ tables_1 from List.mem_append_right (k2_sels lw_privs) (show w ∈ tables_1 from List.mem_append_right _ (List.mem_append_left _ h))
theorem lw_m3 : ∀ w ∈ tables_1_3, w ∈ lw_tbl := fun w h => show w ∈ k2_sels lw_privs ++ tables_1 from List.mem_append_right (k2_sels lw_privs) (show w ∈ tables_1 from List.mem_append_right _ (List.mem_append_right _ (List.mem_append_left _ h)))
theorem lw_m4 : ∀ w ∈ tables_1_4, w ∈ lw_tbl := fun w h => show w ∈ k2_sels lw_privs ++ tables_1 from List.mem_append_right (k2_sels lw_privs) (show w ∈ tables_1 from List.mem_append_right _ (List.mem_append_right _ (List.mem_append_right _ (List.mem_append_left _ h))))
theorem lw_m5 : ∀ w ∈ tables_1_5, w ∈ lw_tbl := fun w h => show w ∈ k2_sels lw_privs ++ tables_1 from List.mem_append_right (k2_sels lw_privs) (show w ∈ tables_1 from List.mem_append_right _ (List.mem_append_right _ (List.mem_append_right _ (List.mem_append_right _ h))))
theorem qs0 : (Cond.selects "TownOnWeight" ⟨"TownOnWeight", "goThrough", "(LTownOnWeight$Reader;)I"⟩ ⟨"TownOnWeight", "goThrough", "(LTownOnWeight$Reader;)I"⟩) ∈ lw_all := lw_g (lw_at lw_ms 0 rfl) rfl
theorem qs1 : (Cond.selects "TownOnWeight" ⟨"TownOnWeight", "isHouse", "(I)Z"⟩ ⟨"TownOnWeight", "isHouse", "(I)Z"⟩) ∈ lw_all := lw_g (lw_at lw_ms 1 rfl) rfl
theorem qs2 : (Cond.selects "TownOnWeight" ⟨"TownOnWeight", "aboutOf", "(II)I"⟩ ⟨"TownOnWeight", "aboutOf", "(II)I"⟩) ∈ lw_all := lw_g (lw_at lw_ms 2 rfl) rfl
theorem qs3 : (Cond.selects "java/lang/Throwable" ⟨"java/lang/Throwable", "fillInStackTrace", "(I)Ljava/lang/Throwable;"⟩ ⟨"java/lang/Throwable", "fillInStackTrace", "(I)Ljava/lang/Throwable;"⟩) ∈ lw_all := lw_g (lw_at lw_ms 3 rfl) rfl
theorem qs4 : (Cond.selects "TownOnWeight" ⟨"TownOnWeight", "wantsOf", "(LTownOnWeight$Day;I)I"⟩ ⟨"TownOnWeight", "wantsOf", "(LTownOnWeight$Day;I)I"⟩) ∈ lw_all := lw_g (lw_at lw_ms 4 rfl) rfl
theorem qs5 : (Cond.selects "TownOnWeight" ⟨"TownOnWeight", "isSet", "(I)Z"⟩ ⟨"TownOnWeight", "isSet", "(I)Z"⟩) ∈ lw_all := lw_g (lw_at lw_ms 5 rfl) rfl
theorem qs6 : (Cond.selects "TownOnWeight" ⟨"TownOnWeight", "goesBy", "(LTownOnWeight$Day;I)I"⟩ ⟨"TownOnWeight", "goesBy", "(LTownOnWeight$Day;I)I"⟩) ∈ lw_all := lw_g (lw_at lw_ms 6 rfl) rfl
theorem qs7 : (Cond.selects "TownOnWeight" ⟨"TownOnWeight", "wanting", "(LTownOnWeight$Day;)I"⟩ ⟨"TownOnWeight", "wanting", "(LTownOnWeight$Day;)I"⟩) ∈ lw_all := lw_g (lw_at lw_ms 7 rfl) rfl
theorem qs8 : (Cond.selects "TownOnWeight" ⟨"TownOnWeight", "through", "(I)I"⟩ ⟨"TownOnWeight", "through", "(I)I"⟩) ∈ lw_all := lw_g (lw_at lw_ms 8 rfl) rfl
theorem qs9 : (Cond.selects "TownOnWeight" ⟨"TownOnWeight", "pass", "(LTownOnWeight$Day;)I"⟩ ⟨"TownOnWeight", "pass", "(LTownOnWeight$Day;)I"⟩) ∈ lw_all := lw_g (lw_at lw_ms 9 rfl) rfl
theorem qs10 : (Cond.selects "TownOnWeight" ⟨"TownOnWeight", "lastToStop", "(I)I"⟩ ⟨"TownOnWeight", "lastToStop", "(I)I"⟩) ∈ lw_all := lw_g (lw_at lw_ms 10 rfl) rfl
theorem qs11 : (Cond.selects "TownOnWeight" ⟨"TownOnWeight", "partOf", "(I)I"⟩ ⟨"TownOnWeight", "partOf", "(I)I"⟩) ∈ lw_all := lw_g (lw_at lw_ms 11 rfl) rfl
theorem qs12 : (Cond.selects "TownOnWeight" ⟨"TownOnWeight", "planOf", "(I)I"⟩ ⟨"TownOnWeight", "planOf", "(I)I"⟩) ∈ lw_all := lw_g (lw_at lw_ms 12 rfl) rfl
theorem qs13 : (Cond.selects "TownOnWeight" ⟨"TownOnWeight", "takenBy", "(II)I"⟩ ⟨"TownOnWeight", "takenBy", "(II)I"⟩) ∈ lw_all := lw_g (lw_at lw_ms 13 rfl) rfl
theorem qs14 : (Cond.selects "TownOnWeight" ⟨"TownOnWeight", "restOf", "()I"⟩ ⟨"TownOnWeight", "restOf", "()I"⟩) ∈ lw_all := lw_g (lw_at lw_ms 14 rfl) rfl
theorem qs15 : (Cond.selects "TownOnWeight" ⟨"TownOnWeight", "moreOf", "(I)I"⟩ ⟨"TownOnWeight", "moreOf", "(I)I"⟩) ∈ lw_all := lw_g (lw_at lw_ms 15 rfl) rfl
theorem qs16 : (Cond.selects "TownOnWeight" ⟨"TownOnWeight", "missingOf", "(II)I"⟩ ⟨"TownOnWeight", "missingOf", "(II)I"⟩) ∈ lw_all := lw_g (lw_at lw_ms 16 rfl) rfl
theorem qs17 : (Cond.selects "TownOnWeight" ⟨"TownOnWeight", "takesOf", "(I)I"⟩ ⟨"TownOnWeight", "takesOf", "(I)I"⟩) ∈ lw_all := lw_g (lw_at lw_ms 17 rfl) rfl
theorem qs18 : (Cond.selects "TownOnWeight" ⟨"TownOnWeight", "restBy", "(II)I"⟩ ⟨"TownOnWeight", "restBy", "(II)I"⟩) ∈ lw_all := lw_g (lw_at lw_ms 18 rfl) rfl
theorem qs19 : (Cond.selects "TownOnWeight" ⟨"TownOnWeight", "leaksOf", "()I"⟩ ⟨"TownOnWeight", "leaksOf", "()I"⟩) ∈ lw_all := lw_g (lw_at lw_ms 19 rfl) rfl
theorem qs20 : (Cond.selects "TownOnWeight" ⟨"TownOnWeight", "leakOf", "(I)I"⟩ ⟨"TownOnWeight", "leakOf", "(I)I"⟩) ∈ lw_all := lw_g (lw_at lw_ms 20 rfl) rfl
theorem qs21 : (Cond.selects "TownOnWeight" ⟨"TownOnWeight", "isLeak", "(II)Z"⟩ ⟨"TownOnWeight", "isLeak", "(II)Z"⟩) ∈ lw_all := lw_g (lw_at lw_ms 21 rfl) rfl
theorem qs22 : (Cond.selects "TownOnWeight" ⟨"TownOnWeight", "expected", "(I)I"⟩ ⟨"TownOnWeight", "expected", "(I)I"⟩) ∈ lw_all := lw_g (lw_at lw_ms 22 rfl) rfl
theorem qs23 : (Cond.selects "TownOnWeight" ⟨"TownOnWeight", "lookOf", "()I"⟩ ⟨"TownOnWeight", "lookOf", "()I"⟩) ∈ lw_all := lw_g (lw_at lw_ms 23 rfl) rfl
theorem qs24 : (Cond.selects "TownOnWeight" ⟨"TownOnWeight", "note", "(J)V"⟩ ⟨"TownOnWeight", "note", "(J)V"⟩) ∈ lw_all := lw_g (lw_at lw_ms 24 rfl) rfl
theorem qs25 : (Cond.selects "TownOnWeightModel" ⟨"TownOnWeightModel", "faultNow", "()I"⟩ ⟨"TownOnWeightModel", "faultNow", "()I"⟩) ∈ lw_all := lw_g (lw_at lw_ms 25 rfl) rfl
theorem qs26 : (Cond.selects "TownOnWeightModel" ⟨"TownOnWeightModel", "mayStand", "(II)Z"⟩ ⟨"TownOnWeightModel", "mayStand", "(II)Z"⟩) ∈ lw_all := lw_g (lw_at lw_ms 26 rfl) rfl
theorem qs27 : (Cond.selects "TownOnWeightModel" ⟨"TownOnWeightModel", "isHouse", "(I)Z"⟩ ⟨"TownOnWeightModel", "isHouse", "(I)Z"⟩) ∈ lw_all := lw_g (lw_at lw_ms 27 rfl) rfl
theorem qs28 : (Cond.selects "TownOnWeightModel" ⟨"TownOnWeightModel", "houseNow", "(II)I"⟩ ⟨"TownOnWeightModel", "houseNow", "(II)I"⟩) ∈ lw_all := lw_g (lw_at lw_ms 28 rfl) rfl
theorem qs29 : (Cond.selects "TownOnWeightModel" ⟨"TownOnWeightModel", "wantsNow", "(I)I"⟩ ⟨"TownOnWeightModel", "wantsNow", "(I)I"⟩) ∈ lw_all := lw_g (lw_at lw_ms 29 rfl) rfl
theorem qs30 : (Cond.selects "TownOnWeightModel" ⟨"TownOnWeightModel", "isTime", "(I)Z"⟩ ⟨"TownOnWeightModel", "isTime", "(I)Z"⟩) ∈ lw_all := lw_g (lw_at lw_ms 30 rfl) rfl
theorem qs31 : (Cond.selects "TownOnWeightModel" ⟨"TownOnWeightModel", "everybody", "()I"⟩ ⟨"TownOnWeightModel", "everybody", "()I"⟩) ∈ lw_all := lw_g (lw_at lw_ms 31 rfl) rfl
theorem qs32 : (Cond.selects "TownOnWeightModel" ⟨"TownOnWeightModel", "goesBy", "(I)I"⟩ ⟨"TownOnWeightModel", "goesBy", "(I)I"⟩) ∈ lw_all := lw_g (lw_at lw_ms 32 rfl) rfl
theorem qs33 : (Cond.selects "TownOnWeightModel" ⟨"TownOnWeightModel", "wanting", "(I)I"⟩ ⟨"TownOnWeightModel", "wanting", "(I)I"⟩) ∈ lw_all := lw_g (lw_at lw_ms 33 rfl) rfl
theorem qs34 : (Cond.selects "TownOnWeightModel" ⟨"TownOnWeightModel", "shafts", "(I)I"⟩ ⟨"TownOnWeightModel", "shafts", "(I)I"⟩) ∈ lw_all := lw_g (lw_at lw_ms 34 rfl) rfl
theorem qs35 : (Cond.selects "TownOnWeightModel" ⟨"TownOnWeightModel", "takesBy", "(I)I"⟩ ⟨"TownOnWeightModel", "takesBy", "(I)I"⟩) ∈ lw_all := lw_g (lw_at lw_ms 35 rfl) rfl
theorem qs36 : (Cond.selects "TownOnWeightModel" ⟨"TownOnWeightModel", "isOver", "()Z"⟩ ⟨"TownOnWeightModel", "isOver", "()Z"⟩) ∈ lw_all := lw_g (lw_at lw_ms 36 rfl) rfl
theorem qs37 : (Cond.selects "TownOnWeightModel" ⟨"TownOnWeightModel", "goHour", "()I"⟩ ⟨"TownOnWeightModel", "goHour", "()I"⟩) ∈ lw_all := lw_g (lw_at lw_ms 37 rfl) rfl
theorem qs38 : (Cond.selects "TownOnWeightModel" ⟨"TownOnWeightModel", "working", "()I"⟩ ⟨"TownOnWeightModel", "working", "()I"⟩) ∈ lw_all := lw_g (lw_at lw_ms 38 rfl) rfl
theorem qs39 : (Cond.selects "TownOnWeightModel" ⟨"TownOnWeightModel", "partOf", "(I)I"⟩ ⟨"TownOnWeightModel", "partOf", "(I)I"⟩) ∈ lw_all := lw_g (lw_at lw_ms 39 rfl) rfl
theorem qs40 : (Cond.selects "TownOnWeightModel" ⟨"TownOnWeightModel", "takenAll", "()I"⟩ ⟨"TownOnWeightModel", "takenAll", "()I"⟩) ∈ lw_all := lw_g (lw_at lw_ms 40 rfl) rfl
theorem qs41 : (Cond.selects "TownOnWeightModel" ⟨"TownOnWeightModel", "planNow", "(I)I"⟩ ⟨"TownOnWeightModel", "planNow", "(I)I"⟩) ∈ lw_all := lw_g (lw_at lw_ms 41 rfl) rfl
theorem qs42 : (Cond.selects "TownOnWeightModel" ⟨"TownOnWeightModel", "takenOn", "(II)I"⟩ ⟨"TownOnWeightModel", "takenOn", "(II)I"⟩) ∈ lw_all := lw_g (lw_at lw_ms 42 rfl) rfl
theorem qs43 : (Cond.selects "TownOnWeightModel" ⟨"TownOnWeightModel", "save", "()V"⟩ ⟨"TownOnWeightModel", "save", "()V"⟩) ∈ lw_all := lw_g (lw_at lw_ms 43 rfl) rfl
theorem qs44 : (Cond.selects "TownOnWeightModel" ⟨"TownOnWeightModel", "back", "()V"⟩ ⟨"TownOnWeightModel", "back", "()V"⟩) ∈ lw_all := lw_g (lw_at lw_ms 44 rfl) rfl
theorem qs45 : (Cond.selects "TownOnWeightModel" ⟨"TownOnWeightModel", "moreNow", "(I)I"⟩ ⟨"TownOnWeightModel", "moreNow", "(I)I"⟩) ∈ lw_all := lw_g (lw_at lw_ms 45 rfl) rfl
theorem qs46 : (Cond.selects "TownOnWeightModel" ⟨"TownOnWeightModel", "sumOf", "(I)I"⟩ ⟨"TownOnWeightModel", "sumOf", "(I)I"⟩) ∈ lw_all := lw_g (lw_at lw_ms 46 rfl) rfl
theorem qs47 : (Cond.selects "TownOnWeightModel" ⟨"TownOnWeightModel", "draw", "(I)I"⟩ ⟨"TownOnWeightModel", "draw", "(I)I"⟩) ∈ lw_all := lw_g (lw_at lw_ms 47 rfl) rfl
theorem qs48 : (Cond.selects "TownOnWeightModel" ⟨"TownOnWeightModel", "leakNow", "(I)I"⟩ ⟨"TownOnWeightModel", "leakNow", "(I)I"⟩) ∈ lw_all := lw_g (lw_at lw_ms 48 rfl) rfl
theorem qs49 : (Cond.selects "TownOnWeightModel" ⟨"TownOnWeightModel", "feetBy", "(I)I"⟩ ⟨"TownOnWeightModel", "feetBy", "(I)I"⟩) ∈ lw_all := lw_g (lw_at lw_ms 49 rfl) rfl
theorem qs50 : (Cond.selects "TownOnWeightModel" ⟨"TownOnWeightModel", "leaksNow", "()I"⟩ ⟨"TownOnWeightModel", "leaksNow", "()I"⟩) ∈ lw_all := lw_g (lw_at lw_ms 50 rfl) rfl
theorem qs51 : (Cond.selects "TownOnWeightModel" ⟨"TownOnWeightModel", "lookNow", "()I"⟩ ⟨"TownOnWeightModel", "lookNow", "()I"⟩) ∈ lw_all := lw_g (lw_at lw_ms 51 rfl) rfl
theorem qs52 : (Cond.selects "TownOnWeightModel" ⟨"TownOnWeightModel", "howMany", "(I)I"⟩ ⟨"TownOnWeightModel", "howMany", "(I)I"⟩) ∈ lw_all := lw_g (lw_at lw_ms 52 rfl) rfl
theorem qs53 : (Cond.selects "TownOnWeightModel" ⟨"TownOnWeightModel", "mix", "(J)V"⟩ ⟨"TownOnWeightModel", "mix", "(J)V"⟩) ∈ lw_all := lw_g (lw_at lw_ms 53 rfl) rfl
