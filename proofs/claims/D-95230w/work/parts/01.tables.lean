-- ===== PART A: goes FIRST, ahead of the names: the tables' words, and 'selects' of the private methods out of them =====
/-- a private method of a class that the tables say can be made, by its rows of tables_1 -/
def lw_okq (q : MethodName × Nat) : Prop := (q.1.cls ≠ "java/lang/invoke/MethodHandle" ∧ q.1.cls ≠ "java/lang/invoke/VarHandle") ∧ Cond.instantiable q.1.cls q.2 ∈ tables_1 ∧ Cond.privateMethod q.1 ∈ tables_1 ∧ Cond.instanceMethod q.1 ∈ tables_1
set_option maxRecDepth 100000
theorem lw_t1 {w : Cond} (h : w ∈ tables_1_1) : w ∈ tables_1 := List.mem_append_left _ h
theorem lw_t2 {w : Cond} (h : w ∈ tables_1_2) : w ∈ tables_1 := List.mem_append_right _ (List.mem_append_left _ h)
theorem lw_t3 {w : Cond} (h : w ∈ tables_1_3) : w ∈ tables_1 := List.mem_append_right _ (List.mem_append_right _ (List.mem_append_left _ h))
theorem lw_t4 {w : Cond} (h : w ∈ tables_1_4) : w ∈ tables_1 := List.mem_append_right _ (List.mem_append_right _ (List.mem_append_right _ (List.mem_append_left _ h)))
theorem lw_t5 {w : Cond} (h : w ∈ tables_1_5) : w ∈ tables_1 := List.mem_append_right _ (List.mem_append_right _ (List.mem_append_right _ (List.mem_append_right _ (List.mem_append_left _ h))))
theorem lw_t6 {w : Cond} (h : w ∈ tables_1_6) : w ∈ tables_1 := List.mem_append_right _ (List.mem_append_right _ (List.mem_append_right _ (List.mem_append_right _ (List.mem_append_right _ (List.mem_append_left _ h)))))
theorem lw_t7 {w : Cond} (h : w ∈ tables_1_7) : w ∈ tables_1 := List.mem_append_right _ (List.mem_append_right _ (List.mem_append_right _ (List.mem_append_right _ (List.mem_append_right _ (List.mem_append_right _ h)))))
theorem lw_p0 : lw_okq (⟨"CafeTables", "noTable", "(I)Z"⟩, 24) := ⟨⟨by decide +kernel, by decide +kernel⟩, lw_t1 (List.mem_of_getElem? (i := 32) rfl), lw_t1 (List.mem_of_getElem? (i := 148) rfl), lw_t1 (List.mem_of_getElem? (i := 149) rfl)⟩
theorem lw_p1 : lw_okq (⟨"java/util/ArrayList", "add", "(Ljava/lang/Object;[Ljava/lang/Object;I)V"⟩, 3) := ⟨⟨by decide +kernel, by decide +kernel⟩, lw_t1 (List.mem_of_getElem? (i := 40) rfl), lw_t2 (List.mem_of_getElem? (i := 33) rfl), lw_t2 (List.mem_of_getElem? (i := 34) rfl)⟩
theorem lw_p2 : lw_okq (⟨"java/util/ArrayList", "grow", "()[Ljava/lang/Object;"⟩, 3) := ⟨⟨by decide +kernel, by decide +kernel⟩, lw_t1 (List.mem_of_getElem? (i := 40) rfl), lw_t2 (List.mem_of_getElem? (i := 37) rfl), lw_t2 (List.mem_of_getElem? (i := 38) rfl)⟩
theorem lw_p3 : lw_okq (⟨"java/util/ArrayList", "grow", "(I)[Ljava/lang/Object;"⟩, 3) := ⟨⟨by decide +kernel, by decide +kernel⟩, lw_t1 (List.mem_of_getElem? (i := 40) rfl), lw_t2 (List.mem_of_getElem? (i := 41) rfl), lw_t2 (List.mem_of_getElem? (i := 42) rfl)⟩
theorem lw_p4 : lw_okq (⟨"CafeTables", "noGroup", "(I)Z"⟩, 24) := ⟨⟨by decide +kernel, by decide +kernel⟩, lw_t1 (List.mem_of_getElem? (i := 32) rfl), lw_t2 (List.mem_of_getElem? (i := 96) rfl), lw_t2 (List.mem_of_getElem? (i := 97) rfl)⟩
theorem lw_p5 : lw_okq (⟨"CafeTables", "goTo", "(II)V"⟩, 24) := ⟨⟨by decide +kernel, by decide +kernel⟩, lw_t1 (List.mem_of_getElem? (i := 32) rfl), lw_t2 (List.mem_of_getElem? (i := 154) rfl), lw_t2 (List.mem_of_getElem? (i := 155) rfl)⟩
theorem lw_p6 : lw_okq (⟨"CafeTables", "beginDay", "(I)V"⟩, 24) := ⟨⟨by decide +kernel, by decide +kernel⟩, lw_t1 (List.mem_of_getElem? (i := 32) rfl), lw_t2 (List.mem_of_getElem? (i := 158) rfl), lw_t2 (List.mem_of_getElem? (i := 159) rfl)⟩
theorem lw_p7 : lw_okq (⟨"CafeTables", "goMinute", "(I)V"⟩, 24) := ⟨⟨by decide +kernel, by decide +kernel⟩, lw_t1 (List.mem_of_getElem? (i := 32) rfl), lw_t2 (List.mem_of_getElem? (i := 165) rfl), lw_t2 (List.mem_of_getElem? (i := 166) rfl)⟩
theorem lw_p8 : lw_okq (⟨"CafeTables", "goes", "(II)V"⟩, 24) := ⟨⟨by decide +kernel, by decide +kernel⟩, lw_t1 (List.mem_of_getElem? (i := 32) rfl), lw_t2 (List.mem_of_getElem? (i := 169) rfl), lw_t2 (List.mem_of_getElem? (i := 170) rfl)⟩
theorem lw_p9 : lw_okq (⟨"CafeTables", "beginRain", "(I)V"⟩, 24) := ⟨⟨by decide +kernel, by decide +kernel⟩, lw_t1 (List.mem_of_getElem? (i := 32) rfl), lw_t2 (List.mem_of_getElem? (i := 173) rfl), lw_t2 (List.mem_of_getElem? (i := 174) rfl)⟩
theorem lw_p10 : lw_okq (⟨"CafeTables", "doesSit", "(LCafeTables$Guest;)Z"⟩, 24) := ⟨⟨by decide +kernel, by decide +kernel⟩, lw_t1 (List.mem_of_getElem? (i := 32) rfl), lw_t2 (List.mem_of_getElem? (i := 177) rfl), lw_t2 (List.mem_of_getElem? (i := 178) rfl)⟩
theorem lw_p11 : lw_okq (⟨"CafeTables", "tableFor", "(LCafeTables$Guest;)I"⟩, 24) := ⟨⟨by decide +kernel, by decide +kernel⟩, lw_t1 (List.mem_of_getElem? (i := 32) rfl), lw_t2 (List.mem_of_getElem? (i := 181) rfl), lw_t2 (List.mem_of_getElem? (i := 182) rfl)⟩
theorem lw_p12 : lw_okq (⟨"CafeTables", "isFree", "(I)Z"⟩, 24) := ⟨⟨by decide +kernel, by decide +kernel⟩, lw_t1 (List.mem_of_getElem? (i := 32) rfl), lw_t2 (List.mem_of_getElem? (i := 185) rfl), lw_t2 (List.mem_of_getElem? (i := 186) rfl)⟩
theorem lw_p13 : lw_okq (⟨"CafeTables", "tightest", "(LCafeTables$Guest;Z)I"⟩, 24) := ⟨⟨by decide +kernel, by decide +kernel⟩, lw_t1 (List.mem_of_getElem? (i := 32) rfl), lw_t2 (List.mem_of_getElem? (i := 189) rfl), lw_t2 (List.mem_of_getElem? (i := 190) rfl)⟩
theorem lw_p14 : lw_okq (⟨"CafeTables", "letWaiting", "(I)V"⟩, 24) := ⟨⟨by decide +kernel, by decide +kernel⟩, lw_t1 (List.mem_of_getElem? (i := 32) rfl), lw_t2 (List.mem_of_getElem? (i := 193) rfl), lw_t2 (List.mem_of_getElem? (i := 194) rfl)⟩
theorem lw_p15 : lw_okq (⟨"CafeTables", "nextWaiting", "(I)I"⟩, 24) := ⟨⟨by decide +kernel, by decide +kernel⟩, lw_t1 (List.mem_of_getElem? (i := 32) rfl), lw_t2 (List.mem_of_getElem? (i := 197) rfl), lw_t2 (List.mem_of_getElem? (i := 198) rfl)⟩
def lw_privs_1 : List (MethodName × Nat) := [(⟨"CafeTables", "noTable", "(I)Z"⟩, 24), (⟨"java/util/ArrayList", "add", "(Ljava/lang/Object;[Ljava/lang/Object;I)V"⟩, 3), (⟨"java/util/ArrayList", "grow", "()[Ljava/lang/Object;"⟩, 3), (⟨"java/util/ArrayList", "grow", "(I)[Ljava/lang/Object;"⟩, 3), (⟨"CafeTables", "noGroup", "(I)Z"⟩, 24), (⟨"CafeTables", "goTo", "(II)V"⟩, 24), (⟨"CafeTables", "beginDay", "(I)V"⟩, 24), (⟨"CafeTables", "goMinute", "(I)V"⟩, 24), (⟨"CafeTables", "goes", "(II)V"⟩, 24), (⟨"CafeTables", "beginRain", "(I)V"⟩, 24), (⟨"CafeTables", "doesSit", "(LCafeTables$Guest;)Z"⟩, 24), (⟨"CafeTables", "tableFor", "(LCafeTables$Guest;)I"⟩, 24), (⟨"CafeTables", "isFree", "(I)Z"⟩, 24), (⟨"CafeTables", "tightest", "(LCafeTables$Guest;Z)I"⟩, 24), (⟨"CafeTables", "letWaiting", "(I)V"⟩, 24), (⟨"CafeTables", "nextWaiting", "(I)I"⟩, 24)]
theorem lw_r1 : ∀ q ∈ lw_privs_1, lw_okq q := List.forall_mem_cons.mpr ⟨lw_p0, List.forall_mem_cons.mpr ⟨lw_p1, List.forall_mem_cons.mpr ⟨lw_p2, List.forall_mem_cons.mpr ⟨lw_p3, List.forall_mem_cons.mpr ⟨lw_p4, List.forall_mem_cons.mpr ⟨lw_p5, List.forall_mem_cons.mpr ⟨lw_p6, List.forall_mem_cons.mpr ⟨lw_p7, List.forall_mem_cons.mpr ⟨lw_p8, List.forall_mem_cons.mpr ⟨lw_p9, List.forall_mem_cons.mpr ⟨lw_p10, List.forall_mem_cons.mpr ⟨lw_p11, List.forall_mem_cons.mpr ⟨lw_p12, List.forall_mem_cons.mpr ⟨lw_p13, List.forall_mem_cons.mpr ⟨lw_p14, List.forall_mem_cons.mpr ⟨lw_p15, fun _ h => absurd h List.not_mem_nil⟩⟩⟩⟩⟩⟩⟩⟩⟩⟩⟩⟩⟩⟩⟩⟩
theorem lw_p16 : lw_okq (⟨"CafeTables", "sitsDown", "(LCafeTables$Guest;I)Z"⟩, 24) := ⟨⟨by decide +kernel, by decide +kernel⟩, lw_t1 (List.mem_of_getElem? (i := 32) rfl), lw_t2 (List.mem_of_getElem? (i := 201) rfl), lw_t2 (List.mem_of_getElem? (i := 202) rfl)⟩
theorem lw_p17 : lw_okq (⟨"CafeTables", "waitingNow", "()I"⟩, 24) := ⟨⟨by decide +kernel, by decide +kernel⟩, lw_t1 (List.mem_of_getElem? (i := 32) rfl), lw_t2 (List.mem_of_getElem? (i := 205) rfl), lw_t2 (List.mem_of_getElem? (i := 206) rfl)⟩
theorem lw_p18 : lw_okq (⟨"CafeTables", "goesOff", "(III)V"⟩, 24) := ⟨⟨by decide +kernel, by decide +kernel⟩, lw_t1 (List.mem_of_getElem? (i := 32) rfl), lw_t2 (List.mem_of_getElem? (i := 210) rfl), lw_t2 (List.mem_of_getElem? (i := 211) rfl)⟩
theorem lw_p19 : lw_okq (⟨"CafeTables", "letCome", "(I)V"⟩, 24) := ⟨⟨by decide +kernel, by decide +kernel⟩, lw_t1 (List.mem_of_getElem? (i := 32) rfl), lw_t2 (List.mem_of_getElem? (i := 214) rfl), lw_t2 (List.mem_of_getElem? (i := 215) rfl)⟩
theorem lw_p20 : lw_okq (⟨"CafeTables", "takenNow", "()I"⟩, 24) := ⟨⟨by decide +kernel, by decide +kernel⟩, lw_t1 (List.mem_of_getElem? (i := 32) rfl), lw_t2 (List.mem_of_getElem? (i := 218) rfl), lw_t2 (List.mem_of_getElem? (i := 219) rfl)⟩
theorem lw_p21 : lw_okq (⟨"CafeTables", "coinOf", "(I)I"⟩, 24) := ⟨⟨by decide +kernel, by decide +kernel⟩, lw_t1 (List.mem_of_getElem? (i := 32) rfl), lw_t2 (List.mem_of_getElem? (i := 222) rfl), lw_t2 (List.mem_of_getElem? (i := 223) rfl)⟩
theorem lw_p22 : lw_okq (⟨"CafeTables", "coinOfDay", "(I)I"⟩, 24) := ⟨⟨by decide +kernel, by decide +kernel⟩, lw_t1 (List.mem_of_getElem? (i := 32) rfl), lw_t3 (List.mem_of_getElem? (i := 11) rfl), lw_t3 (List.mem_of_getElem? (i := 12) rfl)⟩
theorem lw_p23 : lw_okq (⟨"CafeTables", "tryPlan", "(II)V"⟩, 24) := ⟨⟨by decide +kernel, by decide +kernel⟩, lw_t1 (List.mem_of_getElem? (i := 32) rfl), lw_t3 (List.mem_of_getElem? (i := 26) rfl), lw_t3 (List.mem_of_getElem? (i := 27) rfl)⟩
theorem lw_p24 : lw_okq (⟨"CafeTables", "isClear", "(II)Z"⟩, 24) := ⟨⟨by decide +kernel, by decide +kernel⟩, lw_t1 (List.mem_of_getElem? (i := 32) rfl), lw_t3 (List.mem_of_getElem? (i := 31) rfl), lw_t3 (List.mem_of_getElem? (i := 32) rfl)⟩
theorem lw_p25 : lw_okq (⟨"CafeTables", "layPatiences", "()V"⟩, 24) := ⟨⟨by decide +kernel, by decide +kernel⟩, lw_t1 (List.mem_of_getElem? (i := 32) rfl), lw_t3 (List.mem_of_getElem? (i := 44) rfl), lw_t3 (List.mem_of_getElem? (i := 45) rfl)⟩
theorem lw_p26 : lw_okq (⟨"CafeTables", "layMix", "(III)V"⟩, 24) := ⟨⟨by decide +kernel, by decide +kernel⟩, lw_t1 (List.mem_of_getElem? (i := 32) rfl), lw_t3 (List.mem_of_getElem? (i := 54) rfl), lw_t3 (List.mem_of_getElem? (i := 55) rfl)⟩
theorem lw_p27 : lw_okq (⟨"java/lang/NullPointerException", "getExtendedNPEMessage", "()Ljava/lang/String;"⟩, 8) := ⟨⟨by decide +kernel, by decide +kernel⟩, lw_t3 (List.mem_of_getElem? (i := 135) rfl), lw_t3 (List.mem_of_getElem? (i := 133) rfl), lw_t3 (List.mem_of_getElem? (i := 134) rfl)⟩
theorem lw_p28 : lw_okq (⟨"java/lang/Throwable", "fillInStackTrace", "(I)Ljava/lang/Throwable;"⟩, 6) := ⟨⟨by decide +kernel, by decide +kernel⟩, lw_t3 (List.mem_of_getElem? (i := 147) rfl), lw_t3 (List.mem_of_getElem? (i := 145) rfl), lw_t3 (List.mem_of_getElem? (i := 146) rfl)⟩
theorem lw_p29 : lw_okq (⟨"CafeTables", "refused", "(I)I"⟩, 24) := ⟨⟨by decide +kernel, by decide +kernel⟩, lw_t1 (List.mem_of_getElem? (i := 32) rfl), lw_t3 (List.mem_of_getElem? (i := 194) rfl), lw_t3 (List.mem_of_getElem? (i := 195) rfl)⟩
theorem lw_p30 : lw_okq (⟨"CafeTables", "fails", "(I)I"⟩, 24) := ⟨⟨by decide +kernel, by decide +kernel⟩, lw_t1 (List.mem_of_getElem? (i := 32) rfl), lw_t3 (List.mem_of_getElem? (i := 212) rfl), lw_t3 (List.mem_of_getElem? (i := 213) rfl)⟩
theorem lw_p31 : lw_okq (⟨"CafeTables", "rowIn", "(I)Ljava/lang/Object;"⟩, 24) := ⟨⟨by decide +kernel, by decide +kernel⟩, lw_t1 (List.mem_of_getElem? (i := 32) rfl), lw_t4 (List.mem_of_getElem? (i := 52) rfl), lw_t4 (List.mem_of_getElem? (i := 53) rfl)⟩
def lw_privs_2 : List (MethodName × Nat) := [(⟨"CafeTables", "sitsDown", "(LCafeTables$Guest;I)Z"⟩, 24), (⟨"CafeTables", "waitingNow", "()I"⟩, 24), (⟨"CafeTables", "goesOff", "(III)V"⟩, 24), (⟨"CafeTables", "letCome", "(I)V"⟩, 24), (⟨"CafeTables", "takenNow", "()I"⟩, 24), (⟨"CafeTables", "coinOf", "(I)I"⟩, 24), (⟨"CafeTables", "coinOfDay", "(I)I"⟩, 24), (⟨"CafeTables", "tryPlan", "(II)V"⟩, 24), (⟨"CafeTables", "isClear", "(II)Z"⟩, 24), (⟨"CafeTables", "layPatiences", "()V"⟩, 24), (⟨"CafeTables", "layMix", "(III)V"⟩, 24), (⟨"java/lang/NullPointerException", "getExtendedNPEMessage", "()Ljava/lang/String;"⟩, 8), (⟨"java/lang/Throwable", "fillInStackTrace", "(I)Ljava/lang/Throwable;"⟩, 6), (⟨"CafeTables", "refused", "(I)I"⟩, 24), (⟨"CafeTables", "fails", "(I)I"⟩, 24), (⟨"CafeTables", "rowIn", "(I)Ljava/lang/Object;"⟩, 24)]
theorem lw_r2 : ∀ q ∈ lw_privs_2, lw_okq q := List.forall_mem_cons.mpr ⟨lw_p16, List.forall_mem_cons.mpr ⟨lw_p17, List.forall_mem_cons.mpr ⟨lw_p18, List.forall_mem_cons.mpr ⟨lw_p19, List.forall_mem_cons.mpr ⟨lw_p20, List.forall_mem_cons.mpr ⟨lw_p21, List.forall_mem_cons.mpr ⟨lw_p22, List.forall_mem_cons.mpr ⟨lw_p23, List.forall_mem_cons.mpr ⟨lw_p24, List.forall_mem_cons.mpr ⟨lw_p25, List.forall_mem_cons.mpr ⟨lw_p26, List.forall_mem_cons.mpr ⟨lw_p27, List.forall_mem_cons.mpr ⟨lw_p28, List.forall_mem_cons.mpr ⟨lw_p29, List.forall_mem_cons.mpr ⟨lw_p30, List.forall_mem_cons.mpr ⟨lw_p31, fun _ h => absurd h List.not_mem_nil⟩⟩⟩⟩⟩⟩⟩⟩⟩⟩⟩⟩⟩⟩⟩⟩
theorem lw_p32 : lw_okq (⟨"CafeTables", "failsLong", "(I)J"⟩, 24) := ⟨⟨by decide +kernel, by decide +kernel⟩, lw_t1 (List.mem_of_getElem? (i := 32) rfl), lw_t4 (List.mem_of_getElem? (i := 59) rfl), lw_t4 (List.mem_of_getElem? (i := 60) rfl)⟩
theorem lw_p33 : lw_okq (⟨"CafeTables", "newCafe", "([I)I"⟩, 24) := ⟨⟨by decide +kernel, by decide +kernel⟩, lw_t1 (List.mem_of_getElem? (i := 32) rfl), lw_t4 (List.mem_of_getElem? (i := 152) rfl), lw_t4 (List.mem_of_getElem? (i := 153) rfl)⟩
theorem lw_p34 : lw_okq (⟨"CafeTablesModel", "against", "(IIII)I"⟩, 44) := ⟨⟨by decide +kernel, by decide +kernel⟩, lw_t5 (List.mem_of_getElem? (i := 80) rfl), lw_t5 (List.mem_of_getElem? (i := 233) rfl), lw_t5 (List.mem_of_getElem? (i := 234) rfl)⟩
theorem lw_p35 : lw_okq (⟨"CafeTablesModel", "fails", "(I)I"⟩, 44) := ⟨⟨by decide +kernel, by decide +kernel⟩, lw_t5 (List.mem_of_getElem? (i := 80) rfl), lw_t5 (List.mem_of_getElem? (i := 237) rfl), lw_t5 (List.mem_of_getElem? (i := 238) rfl)⟩
theorem lw_p36 : lw_okq (⟨"CafeTablesModel", "readCafe", "(I)Z"⟩, 44) := ⟨⟨by decide +kernel, by decide +kernel⟩, lw_t5 (List.mem_of_getElem? (i := 80) rfl), lw_t6 (List.mem_of_getElem? (i := 1) rfl), lw_t6 (List.mem_of_getElem? (i := 2) rfl)⟩
theorem lw_p37 : lw_okq (⟨"CafeTablesModel", "isCode", "(II)Z"⟩, 44) := ⟨⟨by decide +kernel, by decide +kernel⟩, lw_t5 (List.mem_of_getElem? (i := 80) rfl), lw_t6 (List.mem_of_getElem? (i := 5) rfl), lw_t6 (List.mem_of_getElem? (i := 6) rfl)⟩
theorem lw_p38 : lw_okq (⟨"CafeTablesModel", "isCafe", "()Z"⟩, 44) := ⟨⟨by decide +kernel, by decide +kernel⟩, lw_t5 (List.mem_of_getElem? (i := 80) rfl), lw_t6 (List.mem_of_getElem? (i := 17) rfl), lw_t6 (List.mem_of_getElem? (i := 18) rfl)⟩
theorem lw_p39 : lw_okq (⟨"CafeTablesModel", "isGroup", "(I)Z"⟩, 44) := ⟨⟨by decide +kernel, by decide +kernel⟩, lw_t5 (List.mem_of_getElem? (i := 80) rfl), lw_t6 (List.mem_of_getElem? (i := 41) rfl), lw_t6 (List.mem_of_getElem? (i := 42) rfl)⟩
theorem lw_p40 : lw_okq (⟨"CafeTablesModel", "stays", "(I)I"⟩, 44) := ⟨⟨by decide +kernel, by decide +kernel⟩, lw_t5 (List.mem_of_getElem? (i := 80) rfl), lw_t6 (List.mem_of_getElem? (i := 45) rfl), lw_t6 (List.mem_of_getElem? (i := 46) rfl)⟩
theorem lw_p41 : lw_okq (⟨"CafeTablesModel", "coinNow", "()I"⟩, 44) := ⟨⟨by decide +kernel, by decide +kernel⟩, lw_t5 (List.mem_of_getElem? (i := 80) rfl), lw_t6 (List.mem_of_getElem? (i := 53) rfl), lw_t6 (List.mem_of_getElem? (i := 54) rfl)⟩
theorem lw_p42 : lw_okq (⟨"CafeTablesModel", "layNow", "()V"⟩, 44) := ⟨⟨by decide +kernel, by decide +kernel⟩, lw_t5 (List.mem_of_getElem? (i := 80) rfl), lw_t6 (List.mem_of_getElem? (i := 57) rfl), lw_t6 (List.mem_of_getElem? (i := 58) rfl)⟩
theorem lw_p43 : lw_okq (⟨"CafeTablesModel", "goDay", "()V"⟩, 44) := ⟨⟨by decide +kernel, by decide +kernel⟩, lw_t5 (List.mem_of_getElem? (i := 80) rfl), lw_t6 (List.mem_of_getElem? (i := 61) rfl), lw_t6 (List.mem_of_getElem? (i := 62) rfl)⟩
theorem lw_p44 : lw_okq (⟨"CafeTablesModel", "goMinute", "(I)V"⟩, 44) := ⟨⟨by decide +kernel, by decide +kernel⟩, lw_t5 (List.mem_of_getElem? (i := 80) rfl), lw_t6 (List.mem_of_getElem? (i := 65) rfl), lw_t6 (List.mem_of_getElem? (i := 66) rfl)⟩
theorem lw_p45 : lw_okq (⟨"CafeTablesModel", "getsUp", "(I)V"⟩, 44) := ⟨⟨by decide +kernel, by decide +kernel⟩, lw_t5 (List.mem_of_getElem? (i := 80) rfl), lw_t6 (List.mem_of_getElem? (i := 69) rfl), lw_t6 (List.mem_of_getElem? (i := 70) rfl)⟩
theorem lw_p46 : lw_okq (⟨"CafeTablesModel", "goes", "(II)V"⟩, 44) := ⟨⟨by decide +kernel, by decide +kernel⟩, lw_t5 (List.mem_of_getElem? (i := 80) rfl), lw_t6 (List.mem_of_getElem? (i := 73) rfl), lw_t6 (List.mem_of_getElem? (i := 74) rfl)⟩
theorem lw_p47 : lw_okq (⟨"CafeTablesModel", "coinOf", "(II)I"⟩, 44) := ⟨⟨by decide +kernel, by decide +kernel⟩, lw_t5 (List.mem_of_getElem? (i := 80) rfl), lw_t6 (List.mem_of_getElem? (i := 77) rfl), lw_t6 (List.mem_of_getElem? (i := 78) rfl)⟩
def lw_privs_3 : List (MethodName × Nat) := [(⟨"CafeTables", "failsLong", "(I)J"⟩, 24), (⟨"CafeTables", "newCafe", "([I)I"⟩, 24), (⟨"CafeTablesModel", "against", "(IIII)I"⟩, 44), (⟨"CafeTablesModel", "fails", "(I)I"⟩, 44), (⟨"CafeTablesModel", "readCafe", "(I)Z"⟩, 44), (⟨"CafeTablesModel", "isCode", "(II)Z"⟩, 44), (⟨"CafeTablesModel", "isCafe", "()Z"⟩, 44), (⟨"CafeTablesModel", "isGroup", "(I)Z"⟩, 44), (⟨"CafeTablesModel", "stays", "(I)I"⟩, 44), (⟨"CafeTablesModel", "coinNow", "()I"⟩, 44), (⟨"CafeTablesModel", "layNow", "()V"⟩, 44), (⟨"CafeTablesModel", "goDay", "()V"⟩, 44), (⟨"CafeTablesModel", "goMinute", "(I)V"⟩, 44), (⟨"CafeTablesModel", "getsUp", "(I)V"⟩, 44), (⟨"CafeTablesModel", "goes", "(II)V"⟩, 44), (⟨"CafeTablesModel", "coinOf", "(II)I"⟩, 44)]
theorem lw_r3 : ∀ q ∈ lw_privs_3, lw_okq q := List.forall_mem_cons.mpr ⟨lw_p32, List.forall_mem_cons.mpr ⟨lw_p33, List.forall_mem_cons.mpr ⟨lw_p34, List.forall_mem_cons.mpr ⟨lw_p35, List.forall_mem_cons.mpr ⟨lw_p36, List.forall_mem_cons.mpr ⟨lw_p37, List.forall_mem_cons.mpr ⟨lw_p38, List.forall_mem_cons.mpr ⟨lw_p39, List.forall_mem_cons.mpr ⟨lw_p40, List.forall_mem_cons.mpr ⟨lw_p41, List.forall_mem_cons.mpr ⟨lw_p42, List.forall_mem_cons.mpr ⟨lw_p43, List.forall_mem_cons.mpr ⟨lw_p44, List.forall_mem_cons.mpr ⟨lw_p45, List.forall_mem_cons.mpr ⟨lw_p46, List.forall_mem_cons.mpr ⟨lw_p47, fun _ h => absurd h List.not_mem_nil⟩⟩⟩⟩⟩⟩⟩⟩⟩⟩⟩⟩⟩⟩⟩⟩
theorem lw_p48 : lw_okq (⟨"CafeTablesModel", "rainsOn", "(I)V"⟩, 44) := ⟨⟨by decide +kernel, by decide +kernel⟩, lw_t5 (List.mem_of_getElem? (i := 80) rfl), lw_t6 (List.mem_of_getElem? (i := 81) rfl), lw_t6 (List.mem_of_getElem? (i := 82) rfl)⟩
theorem lw_p49 : lw_okq (⟨"CafeTablesModel", "isInSun", "(I)Z"⟩, 44) := ⟨⟨by decide +kernel, by decide +kernel⟩, lw_t5 (List.mem_of_getElem? (i := 80) rfl), lw_t6 (List.mem_of_getElem? (i := 85) rfl), lw_t6 (List.mem_of_getElem? (i := 86) rfl)⟩
theorem lw_p50 : lw_okq (⟨"CafeTablesModel", "takesTable", "(I)Z"⟩, 44) := ⟨⟨by decide +kernel, by decide +kernel⟩, lw_t5 (List.mem_of_getElem? (i := 80) rfl), lw_t6 (List.mem_of_getElem? (i := 89) rfl), lw_t6 (List.mem_of_getElem? (i := 90) rfl)⟩
theorem lw_p51 : lw_okq (⟨"CafeTablesModel", "smallest", "(IZ)I"⟩, 44) := ⟨⟨by decide +kernel, by decide +kernel⟩, lw_t5 (List.mem_of_getElem? (i := 80) rfl), lw_t6 (List.mem_of_getElem? (i := 93) rfl), lw_t6 (List.mem_of_getElem? (i := 94) rfl)⟩
theorem lw_p52 : lw_okq (⟨"CafeTablesModel", "isFree", "(I)Z"⟩, 44) := ⟨⟨by decide +kernel, by decide +kernel⟩, lw_t5 (List.mem_of_getElem? (i := 80) rfl), lw_t6 (List.mem_of_getElem? (i := 97) rfl), lw_t6 (List.mem_of_getElem? (i := 98) rfl)⟩
theorem lw_p53 : lw_okq (⟨"CafeTablesModel", "firstFor", "(I)I"⟩, 44) := ⟨⟨by decide +kernel, by decide +kernel⟩, lw_t5 (List.mem_of_getElem? (i := 80) rfl), lw_t6 (List.mem_of_getElem? (i := 101) rfl), lw_t6 (List.mem_of_getElem? (i := 102) rfl)⟩
theorem lw_p54 : lw_okq (⟨"CafeTablesModel", "joinsTwo", "(I)Z"⟩, 44) := ⟨⟨by decide +kernel, by decide +kernel⟩, lw_t5 (List.mem_of_getElem? (i := 80) rfl), lw_t6 (List.mem_of_getElem? (i := 105) rfl), lw_t6 (List.mem_of_getElem? (i := 106) rfl)⟩
theorem lw_p55 : lw_okq (⟨"CafeTablesModel", "tryWaiting", "(I)V"⟩, 44) := ⟨⟨by decide +kernel, by decide +kernel⟩, lw_t5 (List.mem_of_getElem? (i := 80) rfl), lw_t6 (List.mem_of_getElem? (i := 109) rfl), lw_t6 (List.mem_of_getElem? (i := 110) rfl)⟩
theorem lw_p56 : lw_okq (⟨"CafeTablesModel", "triesAgain", "(II)V"⟩, 44) := ⟨⟨by decide +kernel, by decide +kernel⟩, lw_t5 (List.mem_of_getElem? (i := 80) rfl), lw_t6 (List.mem_of_getElem? (i := 113) rfl), lw_t6 (List.mem_of_getElem? (i := 114) rfl)⟩
theorem lw_p57 : lw_okq (⟨"CafeTablesModel", "sitsDown", "(II)Z"⟩, 44) := ⟨⟨by decide +kernel, by decide +kernel⟩, lw_t5 (List.mem_of_getElem? (i := 80) rfl), lw_t6 (List.mem_of_getElem? (i := 117) rfl), lw_t6 (List.mem_of_getElem? (i := 118) rfl)⟩
theorem lw_p58 : lw_okq (⟨"CafeTablesModel", "manyWait", "(I)I"⟩, 44) := ⟨⟨by decide +kernel, by decide +kernel⟩, lw_t5 (List.mem_of_getElem? (i := 80) rfl), lw_t6 (List.mem_of_getElem? (i := 121) rfl), lw_t6 (List.mem_of_getElem? (i := 122) rfl)⟩
theorem lw_p59 : lw_okq (⟨"CafeTablesModel", "comesIn", "(II)V"⟩, 44) := ⟨⟨by decide +kernel, by decide +kernel⟩, lw_t5 (List.mem_of_getElem? (i := 80) rfl), lw_t6 (List.mem_of_getElem? (i := 125) rfl), lw_t6 (List.mem_of_getElem? (i := 126) rfl)⟩
theorem lw_p60 : lw_okq (⟨"CafeTablesModel", "manyTaken", "()I"⟩, 44) := ⟨⟨by decide +kernel, by decide +kernel⟩, lw_t5 (List.mem_of_getElem? (i := 80) rfl), lw_t6 (List.mem_of_getElem? (i := 129) rfl), lw_t6 (List.mem_of_getElem? (i := 130) rfl)⟩
theorem lw_p61 : lw_okq (⟨"CafeTablesModel", "allCoin", "()I"⟩, 44) := ⟨⟨by decide +kernel, by decide +kernel⟩, lw_t5 (List.mem_of_getElem? (i := 80) rfl), lw_t6 (List.mem_of_getElem? (i := 133) rfl), lw_t6 (List.mem_of_getElem? (i := 134) rfl)⟩
theorem lw_p62 : lw_okq (⟨"CafeTablesModel", "planned", "()I"⟩, 44) := ⟨⟨by decide +kernel, by decide +kernel⟩, lw_t5 (List.mem_of_getElem? (i := 80) rfl), lw_t6 (List.mem_of_getElem? (i := 154) rfl), lw_t6 (List.mem_of_getElem? (i := 155) rfl)⟩
theorem lw_p63 : lw_okq (⟨"CafeTablesModel", "findPlan", "()V"⟩, 44) := ⟨⟨by decide +kernel, by decide +kernel⟩, lw_t5 (List.mem_of_getElem? (i := 80) rfl), lw_t6 (List.mem_of_getElem? (i := 158) rfl), lw_t6 (List.mem_of_getElem? (i := 159) rfl)⟩
def lw_privs_4 : List (MethodName × Nat) := [(⟨"CafeTablesModel", "rainsOn", "(I)V"⟩, 44), (⟨"CafeTablesModel", "isInSun", "(I)Z"⟩, 44), (⟨"CafeTablesModel", "takesTable", "(I)Z"⟩, 44), (⟨"CafeTablesModel", "smallest", "(IZ)I"⟩, 44), (⟨"CafeTablesModel", "isFree", "(I)Z"⟩, 44), (⟨"CafeTablesModel", "firstFor", "(I)I"⟩, 44), (⟨"CafeTablesModel", "joinsTwo", "(I)Z"⟩, 44), (⟨"CafeTablesModel", "tryWaiting", "(I)V"⟩, 44), (⟨"CafeTablesModel", "triesAgain", "(II)V"⟩, 44), (⟨"CafeTablesModel", "sitsDown", "(II)Z"⟩, 44), (⟨"CafeTablesModel", "manyWait", "(I)I"⟩, 44), (⟨"CafeTablesModel", "comesIn", "(II)V"⟩, 44), (⟨"CafeTablesModel", "manyTaken", "()I"⟩, 44), (⟨"CafeTablesModel", "allCoin", "()I"⟩, 44), (⟨"CafeTablesModel", "planned", "()I"⟩, 44), (⟨"CafeTablesModel", "findPlan", "()V"⟩, 44)]
theorem lw_r4 : ∀ q ∈ lw_privs_4, lw_okq q := List.forall_mem_cons.mpr ⟨lw_p48, List.forall_mem_cons.mpr ⟨lw_p49, List.forall_mem_cons.mpr ⟨lw_p50, List.forall_mem_cons.mpr ⟨lw_p51, List.forall_mem_cons.mpr ⟨lw_p52, List.forall_mem_cons.mpr ⟨lw_p53, List.forall_mem_cons.mpr ⟨lw_p54, List.forall_mem_cons.mpr ⟨lw_p55, List.forall_mem_cons.mpr ⟨lw_p56, List.forall_mem_cons.mpr ⟨lw_p57, List.forall_mem_cons.mpr ⟨lw_p58, List.forall_mem_cons.mpr ⟨lw_p59, List.forall_mem_cons.mpr ⟨lw_p60, List.forall_mem_cons.mpr ⟨lw_p61, List.forall_mem_cons.mpr ⟨lw_p62, List.forall_mem_cons.mpr ⟨lw_p63, fun _ h => absurd h List.not_mem_nil⟩⟩⟩⟩⟩⟩⟩⟩⟩⟩⟩⟩⟩⟩⟩⟩
theorem lw_p64 : lw_okq (⟨"CafeTablesModel", "maySit", "(II)Z"⟩, 44) := ⟨⟨by decide +kernel, by decide +kernel⟩, lw_t5 (List.mem_of_getElem? (i := 80) rfl), lw_t6 (List.mem_of_getElem? (i := 162) rfl), lw_t6 (List.mem_of_getElem? (i := 163) rfl)⟩
theorem lw_p65 : lw_okq (⟨"CafeTablesModel", "offer", "(I)V"⟩, 44) := ⟨⟨by decide +kernel, by decide +kernel⟩, lw_t5 (List.mem_of_getElem? (i := 80) rfl), lw_t6 (List.mem_of_getElem? (i := 166) rfl), lw_t6 (List.mem_of_getElem? (i := 167) rfl)⟩
theorem lw_p66 : lw_okq (⟨"CafeTablesModel", "coinBy", "(II)I"⟩, 44) := ⟨⟨by decide +kernel, by decide +kernel⟩, lw_t5 (List.mem_of_getElem? (i := 80) rfl), lw_t6 (List.mem_of_getElem? (i := 174) rfl), lw_t6 (List.mem_of_getElem? (i := 175) rfl)⟩
theorem lw_p67 : lw_okq (⟨"CafeTablesModel", "layMix", "(III)V"⟩, 44) := ⟨⟨by decide +kernel, by decide +kernel⟩, lw_t5 (List.mem_of_getElem? (i := 80) rfl), lw_t6 (List.mem_of_getElem? (i := 186) rfl), lw_t6 (List.mem_of_getElem? (i := 187) rfl)⟩
theorem lw_p68 : lw_okq (⟨"CafeTablesModel", "lost", "(I)J"⟩, 44) := ⟨⟨by decide +kernel, by decide +kernel⟩, lw_t5 (List.mem_of_getElem? (i := 80) rfl), lw_t6 (List.mem_of_getElem? (i := 231) rfl), lw_t6 (List.mem_of_getElem? (i := 232) rfl)⟩
theorem lw_p69 : lw_okq (⟨"CafeTablesModel", "begins", "(I)V"⟩, 44) := ⟨⟨by decide +kernel, by decide +kernel⟩, lw_t5 (List.mem_of_getElem? (i := 80) rfl), lw_t7 (List.mem_of_getElem? (i := 3) rfl), lw_t7 (List.mem_of_getElem? (i := 4) rfl)⟩
def lw_privs_5 : List (MethodName × Nat) := [(⟨"CafeTablesModel", "maySit", "(II)Z"⟩, 44), (⟨"CafeTablesModel", "offer", "(I)V"⟩, 44), (⟨"CafeTablesModel", "coinBy", "(II)I"⟩, 44), (⟨"CafeTablesModel", "layMix", "(III)V"⟩, 44), (⟨"CafeTablesModel", "lost", "(I)J"⟩, 44), (⟨"CafeTablesModel", "begins", "(I)V"⟩, 44)]
theorem lw_r5 : ∀ q ∈ lw_privs_5, lw_okq q := List.forall_mem_cons.mpr ⟨lw_p64, List.forall_mem_cons.mpr ⟨lw_p65, List.forall_mem_cons.mpr ⟨lw_p66, List.forall_mem_cons.mpr ⟨lw_p67, List.forall_mem_cons.mpr ⟨lw_p68, List.forall_mem_cons.mpr ⟨lw_p69, fun _ h => absurd h List.not_mem_nil⟩⟩⟩⟩⟩⟩
def lw_privs : List (MethodName × Nat) := lw_privs_1 ++ (lw_privs_2 ++ (lw_privs_3 ++ (lw_privs_4 ++ (lw_privs_5))))
def lw_tbl : List Cond := k2_sels lw_privs ++ tables_1
theorem lw_privs_ok : ∀ q ∈ lw_privs, lw_okq q := by
  show ∀ q ∈ lw_privs_1 ++ (lw_privs_2 ++ (lw_privs_3 ++ (lw_privs_4 ++ (lw_privs_5)))), lw_okq q
  exact List.forall_mem_append.mpr ⟨lw_r1, List.forall_mem_append.mpr ⟨lw_r2, List.forall_mem_append.mpr ⟨lw_r3, List.forall_mem_append.mpr ⟨lw_r4, lw_r5⟩⟩⟩⟩
-- ===== ONE list of words for every method: the tables' words that hold all through a run =====
def lw_all : List Cond := lw_tbl.filter goodWord
/-- a word of the tables by its place: claim/WORDS.tsv -/
theorem lw_w {w : Cond} (i : Nat) (h : lw_tbl[i]? = some w) (g : goodWord w = true) : w ∈ lw_all := List.mem_filter.mpr ⟨List.mem_of_getElem? h, g⟩
theorem lw_all_tbl {w : Cond} (h : w ∈ lw_all) : w ∈ lw_tbl := (List.mem_filter.mp h).1
theorem lw_self : GoodIn lw_all lw_all := fun w h => ⟨h, good_of_word (List.mem_filter.mp h).2⟩
/-- a class's field words, by their places -/
theorem lw_in (ws : List Cond) (ps : List Nat) (hp : ws = ps.filterMap (fun i => lw_tbl[i]?)) (hg : ws.all goodWord = true) : ∀ w ∈ ws, w ∈ lw_all := by
  intro w h
  have h1 := List.all_eq_true.mp hg w h
  rw [hp] at h
  obtain ⟨i, -, hi⟩ := List.mem_filterMap.mp h
  exact lw_w i hi h1
/-- the words of a contract for the method y with code b, L locals, answer r -/
abbrev ws_ (y : MethodName) (b : ByteArray) (L : Nat) (r : Option FieldType) : List Cond := Cond.code y b L r :: lw_all
theorem lw_meth {y : MethodName} {b : ByteArray} {L : Nat} {r : Option FieldType} (h : Cond.code y b L r ∈ lw_all) : GoodIn lw_all (ws_ y b L r) := by
  intro w hw
  rcases List.mem_cons.mp hw with e | e
  · rw [e]
    exact lw_self _ h
  · exact lw_self _ e
theorem lw_app {a c : List Cond} (ha : ∀ w ∈ a, w ∈ lw_all) (hc : GoodIn lw_all c) : GoodIn lw_all (a ++ c) := by
  intro w hw
  rcases List.mem_append.mp hw with e | e
  · exact lw_self w (ha w e)
  · exact hc w e
/-- what a call through an object asks: cwV n hts (lw_V ..) -/
theorem lw_V {own : String} {idx : Nat} {C : String} {y : MethodName} {b : ByteArray} {L : Nat} {r : Option FieldType} (h1 : Cond.methodLink own idx y ∈ lw_all) (h2 : Cond.instanceMethod y ∈ lw_all) (h3 : Cond.selects C y y ∈ lw_all) (h4 : Cond.initialized C ∈ lw_all) (h5 : Cond.code y b L r ∈ lw_all) : GoodIn lw_all (wsV own idx C y (ws_ y b L r)) := by
  refine lw_app ?_ (lw_meth h5)
  intro w hw
  simp only [List.mem_cons, List.not_mem_nil, or_false] at hw
  rcases hw with e | e | e | e
  · rw [e]; exact h1
  · rw [e]; exact h2
  · rw [e]; exact h3
  · rw [e]; exact h4
/-- what a static call asks: va_cwS n hts (lw_S ..) -/
theorem lw_S {own : String} {idx : Nat} {y : MethodName} {b : ByteArray} {L : Nat} {r : Option FieldType} (h1 : Cond.methodLink own idx y ∈ lw_all) (h2 : Cond.static y ∈ lw_all) (h3 : Cond.initialized y.cls ∈ lw_all) (h4 : Cond.code y b L r ∈ lw_all) : GoodIn lw_all (va_wsS own idx y (ws_ y b L r)) := by
  refine lw_app ?_ (lw_meth h4)
  intro w hw
  simp only [List.mem_cons, List.not_mem_nil, or_false] at hw
  rcases hw with e | e | e
  · rw [e]; exact h1
  · rw [e]; exact h2
  · rw [e]; exact h3
/-- the words of a contract for a method WITH HANDLERS (hh: its table) -/
abbrev wsW_ (y : MethodName) (b : ByteArray) (L : Nat) (r : Option FieldType) (hh : List (Nat × Nat × Nat × Nat)) : List Cond := Cond.codeWith y b L r hh :: lw_all
theorem lw_methW {y : MethodName} {b : ByteArray} {L : Nat} {r : Option FieldType} {hh : List (Nat × Nat × Nat × Nat)} (h : Cond.codeWith y b L r hh ∈ lw_all) : GoodIn lw_all (wsW_ y b L r hh) := by
  intro w hw
  rcases List.mem_cons.mp hw with e | e
  · rw [e]
    exact lw_self _ h
  · exact lw_self _ e
/-- any list of words by their places (lw_in), good -/
theorem lw_good {ws : List Cond} (h : ∀ w ∈ ws, w ∈ lw_all) : GoodIn lw_all ws := fun w hw => lw_self w (h w hw)
/-- what a call of a method with handlers asks: vx_cwVW n hts (lw_VW ..), vx_cwSW n hts (lw_SW ..) -/
theorem lw_VW {own : String} {idx : Nat} {C : String} {y : MethodName} {b : ByteArray} {L : Nat} {r : Option FieldType} {hh : List (Nat × Nat × Nat × Nat)} (h1 : Cond.methodLink own idx y ∈ lw_all) (h2 : Cond.instanceMethod y ∈ lw_all) (h3 : Cond.selects C y y ∈ lw_all) (h4 : Cond.initialized C ∈ lw_all) (h5 : Cond.codeWith y b L r hh ∈ lw_all) : GoodIn lw_all (wsV own idx C y (wsW_ y b L r hh)) := by
  refine lw_app ?_ (lw_methW h5)
  intro w hw
  simp only [List.mem_cons, List.not_mem_nil, or_false] at hw
  rcases hw with e | e | e | e
  · rw [e]; exact h1
  · rw [e]; exact h2
  · rw [e]; exact h3
  · rw [e]; exact h4
theorem lw_SW {own : String} {idx : Nat} {y : MethodName} {b : ByteArray} {L : Nat} {r : Option FieldType} {hh : List (Nat × Nat × Nat × Nat)} (h1 : Cond.methodLink own idx y ∈ lw_all) (h2 : Cond.static y ∈ lw_all) (h3 : Cond.initialized y.cls ∈ lw_all) (h4 : Cond.codeWith y b L r hh ∈ lw_all) : GoodIn lw_all (va_wsS own idx y (wsW_ y b L r hh)) := by
  refine lw_app ?_ (lw_methW h4)
  intro w hw
  simp only [List.mem_cons, List.not_mem_nil, or_false] at hw
  rcases hw with e | e | e
  · rw [e]; exact h1
  · rw [e]; exact h2
  · rw [e]; exact h3
/-- a word by its place in its run of the tables -/
theorem lw_at {r : List Cond} (hr : ∀ w ∈ r, w ∈ lw_tbl) {w : Cond} (i : Nat) (h : r[i]? = some w) : w ∈ lw_tbl := hr w (List.mem_of_getElem? h)
theorem lw_g {w : Cond} (h : w ∈ lw_tbl) (g : goodWord w = true) : w ∈ lw_all := List.mem_filter.mpr ⟨h, g⟩
theorem lw_ms : ∀ w ∈ k2_sels lw_privs, w ∈ lw_tbl := fun w h => show w ∈ k2_sels lw_privs ++ tables_1 from List.mem_append_left _ h
theorem lw_m1 : ∀ w ∈ tables_1_1, w ∈ lw_tbl := fun w h => show w ∈ k2_sels lw_privs ++ tables_1 from List.mem_append_right (k2_sels lw_privs) (show w ∈ tables_1 from List.mem_append_left _ h)
theorem lw_m2 : ∀ w ∈ tables_1_2, w ∈ lw_tbl := fun w h => show w ∈ k2_sels lw_privs ++ tables_1 from List.mem_append_right (k2_sels lw_privs) (show w ∈ tables_1 from List.mem_append_right _ (List.mem_append_left _ h))
theorem lw_m3 : ∀ w ∈ tables_1_3, w ∈ lw_tbl := fun w h => show w ∈ k2_sels lw_privs ++ tables_1 from List.mem_append_right (k2_sels lw_privs) (show w ∈ tables_1 from List.mem_append_right _ (List.mem_append_right _ (List.mem_append_left _ h)))
theorem lw_m4 : ∀ w ∈ tables_1_4, w ∈ lw_tbl := fun w h => show w ∈ k2_sels lw_privs ++ tables_1 from List.mem_append_right (k2_sels lw_privs) (show w ∈ tables_1 from List.mem_append_right _ (List.mem_append_right _ (List.mem_append_right _ (List.mem_append_left _ h))))
theorem lw_m5 : ∀ w ∈ tables_1_5, w ∈ lw_tbl := fun w h => show w ∈ k2_sels lw_privs ++ tables_1 from List.mem_append_right (k2_sels lw_privs) (show w ∈ tables_1 from List.mem_append_right _ (List.mem_append_right _ (List.mem_append_right _ (List.mem_append_right _ (List.mem_append_left _ h)))))
theorem lw_m6 : ∀ w ∈ tables_1_6, w ∈ lw_tbl := fun w h => show w ∈ k2_sels lw_privs ++ tables_1 from List.mem_append_right (k2_sels lw_privs) (show w ∈ tables_1 from List.mem_append_right _ (List.mem_append_right _ (List.mem_append_right _ (List.mem_append_right _ (List.mem_append_right _ (List.mem_append_left _ h))))))
theorem lw_m7 : ∀ w ∈ tables_1_7, w ∈ lw_tbl := fun w h => show w ∈ k2_sels lw_privs ++ tables_1 from List.mem_append_right (k2_sels lw_privs) (show w ∈ tables_1 from List.mem_append_right _ (List.mem_append_right _ (List.mem_append_right _ (List.mem_append_right _ (List.mem_append_right _ (List.mem_append_right _ h))))))
theorem qs0 : (Cond.selects "CafeTables" ⟨"CafeTables", "noTable", "(I)Z"⟩ ⟨"CafeTables", "noTable", "(I)Z"⟩) ∈ lw_all := lw_g (lw_at lw_ms 0 rfl) rfl
theorem qs1 : (Cond.selects "java/util/ArrayList" ⟨"java/util/ArrayList", "add", "(Ljava/lang/Object;[Ljava/lang/Object;I)V"⟩ ⟨"java/util/ArrayList", "add", "(Ljava/lang/Object;[Ljava/lang/Object;I)V"⟩) ∈ lw_all := lw_g (lw_at lw_ms 1 rfl) rfl
theorem qs2 : (Cond.selects "java/util/ArrayList" ⟨"java/util/ArrayList", "grow", "()[Ljava/lang/Object;"⟩ ⟨"java/util/ArrayList", "grow", "()[Ljava/lang/Object;"⟩) ∈ lw_all := lw_g (lw_at lw_ms 2 rfl) rfl
theorem qs3 : (Cond.selects "java/util/ArrayList" ⟨"java/util/ArrayList", "grow", "(I)[Ljava/lang/Object;"⟩ ⟨"java/util/ArrayList", "grow", "(I)[Ljava/lang/Object;"⟩) ∈ lw_all := lw_g (lw_at lw_ms 3 rfl) rfl
theorem qs4 : (Cond.selects "CafeTables" ⟨"CafeTables", "noGroup", "(I)Z"⟩ ⟨"CafeTables", "noGroup", "(I)Z"⟩) ∈ lw_all := lw_g (lw_at lw_ms 4 rfl) rfl
theorem qs5 : (Cond.selects "CafeTables" ⟨"CafeTables", "goTo", "(II)V"⟩ ⟨"CafeTables", "goTo", "(II)V"⟩) ∈ lw_all := lw_g (lw_at lw_ms 5 rfl) rfl
theorem qs6 : (Cond.selects "CafeTables" ⟨"CafeTables", "beginDay", "(I)V"⟩ ⟨"CafeTables", "beginDay", "(I)V"⟩) ∈ lw_all := lw_g (lw_at lw_ms 6 rfl) rfl
theorem qs7 : (Cond.selects "CafeTables" ⟨"CafeTables", "goMinute", "(I)V"⟩ ⟨"CafeTables", "goMinute", "(I)V"⟩) ∈ lw_all := lw_g (lw_at lw_ms 7 rfl) rfl
theorem qs8 : (Cond.selects "CafeTables" ⟨"CafeTables", "goes", "(II)V"⟩ ⟨"CafeTables", "goes", "(II)V"⟩) ∈ lw_all := lw_g (lw_at lw_ms 8 rfl) rfl
theorem qs9 : (Cond.selects "CafeTables" ⟨"CafeTables", "beginRain", "(I)V"⟩ ⟨"CafeTables", "beginRain", "(I)V"⟩) ∈ lw_all := lw_g (lw_at lw_ms 9 rfl) rfl
theorem qs10 : (Cond.selects "CafeTables" ⟨"CafeTables", "doesSit", "(LCafeTables$Guest;)Z"⟩ ⟨"CafeTables", "doesSit", "(LCafeTables$Guest;)Z"⟩) ∈ lw_all := lw_g (lw_at lw_ms 10 rfl) rfl
theorem qs11 : (Cond.selects "CafeTables" ⟨"CafeTables", "tableFor", "(LCafeTables$Guest;)I"⟩ ⟨"CafeTables", "tableFor", "(LCafeTables$Guest;)I"⟩) ∈ lw_all := lw_g (lw_at lw_ms 11 rfl) rfl
theorem qs12 : (Cond.selects "CafeTables" ⟨"CafeTables", "isFree", "(I)Z"⟩ ⟨"CafeTables", "isFree", "(I)Z"⟩) ∈ lw_all := lw_g (lw_at lw_ms 12 rfl) rfl
theorem qs13 : (Cond.selects "CafeTables" ⟨"CafeTables", "tightest", "(LCafeTables$Guest;Z)I"⟩ ⟨"CafeTables", "tightest", "(LCafeTables$Guest;Z)I"⟩) ∈ lw_all := lw_g (lw_at lw_ms 13 rfl) rfl
theorem qs14 : (Cond.selects "CafeTables" ⟨"CafeTables", "letWaiting", "(I)V"⟩ ⟨"CafeTables", "letWaiting", "(I)V"⟩) ∈ lw_all := lw_g (lw_at lw_ms 14 rfl) rfl
theorem qs15 : (Cond.selects "CafeTables" ⟨"CafeTables", "nextWaiting", "(I)I"⟩ ⟨"CafeTables", "nextWaiting", "(I)I"⟩) ∈ lw_all := lw_g (lw_at lw_ms 15 rfl) rfl
theorem qs16 : (Cond.selects "CafeTables" ⟨"CafeTables", "sitsDown", "(LCafeTables$Guest;I)Z"⟩ ⟨"CafeTables", "sitsDown", "(LCafeTables$Guest;I)Z"⟩) ∈ lw_all := lw_g (lw_at lw_ms 16 rfl) rfl
theorem qs17 : (Cond.selects "CafeTables" ⟨"CafeTables", "waitingNow", "()I"⟩ ⟨"CafeTables", "waitingNow", "()I"⟩) ∈ lw_all := lw_g (lw_at lw_ms 17 rfl) rfl
theorem qs18 : (Cond.selects "CafeTables" ⟨"CafeTables", "goesOff", "(III)V"⟩ ⟨"CafeTables", "goesOff", "(III)V"⟩) ∈ lw_all := lw_g (lw_at lw_ms 18 rfl) rfl
theorem qs19 : (Cond.selects "CafeTables" ⟨"CafeTables", "letCome", "(I)V"⟩ ⟨"CafeTables", "letCome", "(I)V"⟩) ∈ lw_all := lw_g (lw_at lw_ms 19 rfl) rfl
theorem qs20 : (Cond.selects "CafeTables" ⟨"CafeTables", "takenNow", "()I"⟩ ⟨"CafeTables", "takenNow", "()I"⟩) ∈ lw_all := lw_g (lw_at lw_ms 20 rfl) rfl
theorem qs21 : (Cond.selects "CafeTables" ⟨"CafeTables", "coinOf", "(I)I"⟩ ⟨"CafeTables", "coinOf", "(I)I"⟩) ∈ lw_all := lw_g (lw_at lw_ms 21 rfl) rfl
theorem qs22 : (Cond.selects "CafeTables" ⟨"CafeTables", "coinOfDay", "(I)I"⟩ ⟨"CafeTables", "coinOfDay", "(I)I"⟩) ∈ lw_all := lw_g (lw_at lw_ms 22 rfl) rfl
theorem qs23 : (Cond.selects "CafeTables" ⟨"CafeTables", "tryPlan", "(II)V"⟩ ⟨"CafeTables", "tryPlan", "(II)V"⟩) ∈ lw_all := lw_g (lw_at lw_ms 23 rfl) rfl
theorem qs24 : (Cond.selects "CafeTables" ⟨"CafeTables", "isClear", "(II)Z"⟩ ⟨"CafeTables", "isClear", "(II)Z"⟩) ∈ lw_all := lw_g (lw_at lw_ms 24 rfl) rfl
theorem qs25 : (Cond.selects "CafeTables" ⟨"CafeTables", "layPatiences", "()V"⟩ ⟨"CafeTables", "layPatiences", "()V"⟩) ∈ lw_all := lw_g (lw_at lw_ms 25 rfl) rfl
theorem qs26 : (Cond.selects "CafeTables" ⟨"CafeTables", "layMix", "(III)V"⟩ ⟨"CafeTables", "layMix", "(III)V"⟩) ∈ lw_all := lw_g (lw_at lw_ms 26 rfl) rfl
theorem qs27 : (Cond.selects "java/lang/NullPointerException" ⟨"java/lang/NullPointerException", "getExtendedNPEMessage", "()Ljava/lang/String;"⟩ ⟨"java/lang/NullPointerException", "getExtendedNPEMessage", "()Ljava/lang/String;"⟩) ∈ lw_all := lw_g (lw_at lw_ms 27 rfl) rfl
theorem qs28 : (Cond.selects "java/lang/Throwable" ⟨"java/lang/Throwable", "fillInStackTrace", "(I)Ljava/lang/Throwable;"⟩ ⟨"java/lang/Throwable", "fillInStackTrace", "(I)Ljava/lang/Throwable;"⟩) ∈ lw_all := lw_g (lw_at lw_ms 28 rfl) rfl
theorem qs29 : (Cond.selects "CafeTables" ⟨"CafeTables", "refused", "(I)I"⟩ ⟨"CafeTables", "refused", "(I)I"⟩) ∈ lw_all := lw_g (lw_at lw_ms 29 rfl) rfl
theorem qs30 : (Cond.selects "CafeTables" ⟨"CafeTables", "fails", "(I)I"⟩ ⟨"CafeTables", "fails", "(I)I"⟩) ∈ lw_all := lw_g (lw_at lw_ms 30 rfl) rfl
theorem qs31 : (Cond.selects "CafeTables" ⟨"CafeTables", "rowIn", "(I)Ljava/lang/Object;"⟩ ⟨"CafeTables", "rowIn", "(I)Ljava/lang/Object;"⟩) ∈ lw_all := lw_g (lw_at lw_ms 31 rfl) rfl
theorem qs32 : (Cond.selects "CafeTables" ⟨"CafeTables", "failsLong", "(I)J"⟩ ⟨"CafeTables", "failsLong", "(I)J"⟩) ∈ lw_all := lw_g (lw_at lw_ms 32 rfl) rfl
theorem qs33 : (Cond.selects "CafeTables" ⟨"CafeTables", "newCafe", "([I)I"⟩ ⟨"CafeTables", "newCafe", "([I)I"⟩) ∈ lw_all := lw_g (lw_at lw_ms 33 rfl) rfl
theorem qs34 : (Cond.selects "CafeTablesModel" ⟨"CafeTablesModel", "against", "(IIII)I"⟩ ⟨"CafeTablesModel", "against", "(IIII)I"⟩) ∈ lw_all := lw_g (lw_at lw_ms 34 rfl) rfl
theorem qs35 : (Cond.selects "CafeTablesModel" ⟨"CafeTablesModel", "fails", "(I)I"⟩ ⟨"CafeTablesModel", "fails", "(I)I"⟩) ∈ lw_all := lw_g (lw_at lw_ms 35 rfl) rfl
theorem qs36 : (Cond.selects "CafeTablesModel" ⟨"CafeTablesModel", "readCafe", "(I)Z"⟩ ⟨"CafeTablesModel", "readCafe", "(I)Z"⟩) ∈ lw_all := lw_g (lw_at lw_ms 36 rfl) rfl
theorem qs37 : (Cond.selects "CafeTablesModel" ⟨"CafeTablesModel", "isCode", "(II)Z"⟩ ⟨"CafeTablesModel", "isCode", "(II)Z"⟩) ∈ lw_all := lw_g (lw_at lw_ms 37 rfl) rfl
theorem qs38 : (Cond.selects "CafeTablesModel" ⟨"CafeTablesModel", "isCafe", "()Z"⟩ ⟨"CafeTablesModel", "isCafe", "()Z"⟩) ∈ lw_all := lw_g (lw_at lw_ms 38 rfl) rfl
theorem qs39 : (Cond.selects "CafeTablesModel" ⟨"CafeTablesModel", "isGroup", "(I)Z"⟩ ⟨"CafeTablesModel", "isGroup", "(I)Z"⟩) ∈ lw_all := lw_g (lw_at lw_ms 39 rfl) rfl
theorem qs40 : (Cond.selects "CafeTablesModel" ⟨"CafeTablesModel", "stays", "(I)I"⟩ ⟨"CafeTablesModel", "stays", "(I)I"⟩) ∈ lw_all := lw_g (lw_at lw_ms 40 rfl) rfl
theorem qs41 : (Cond.selects "CafeTablesModel" ⟨"CafeTablesModel", "coinNow", "()I"⟩ ⟨"CafeTablesModel", "coinNow", "()I"⟩) ∈ lw_all := lw_g (lw_at lw_ms 41 rfl) rfl
theorem qs42 : (Cond.selects "CafeTablesModel" ⟨"CafeTablesModel", "layNow", "()V"⟩ ⟨"CafeTablesModel", "layNow", "()V"⟩) ∈ lw_all := lw_g (lw_at lw_ms 42 rfl) rfl
theorem qs43 : (Cond.selects "CafeTablesModel" ⟨"CafeTablesModel", "goDay", "()V"⟩ ⟨"CafeTablesModel", "goDay", "()V"⟩) ∈ lw_all := lw_g (lw_at lw_ms 43 rfl) rfl
theorem qs44 : (Cond.selects "CafeTablesModel" ⟨"CafeTablesModel", "goMinute", "(I)V"⟩ ⟨"CafeTablesModel", "goMinute", "(I)V"⟩) ∈ lw_all := lw_g (lw_at lw_ms 44 rfl) rfl
theorem qs45 : (Cond.selects "CafeTablesModel" ⟨"CafeTablesModel", "getsUp", "(I)V"⟩ ⟨"CafeTablesModel", "getsUp", "(I)V"⟩) ∈ lw_all := lw_g (lw_at lw_ms 45 rfl) rfl
theorem qs46 : (Cond.selects "CafeTablesModel" ⟨"CafeTablesModel", "goes", "(II)V"⟩ ⟨"CafeTablesModel", "goes", "(II)V"⟩) ∈ lw_all := lw_g (lw_at lw_ms 46 rfl) rfl
theorem qs47 : (Cond.selects "CafeTablesModel" ⟨"CafeTablesModel", "coinOf", "(II)I"⟩ ⟨"CafeTablesModel", "coinOf", "(II)I"⟩) ∈ lw_all := lw_g (lw_at lw_ms 47 rfl) rfl
theorem qs48 : (Cond.selects "CafeTablesModel" ⟨"CafeTablesModel", "rainsOn", "(I)V"⟩ ⟨"CafeTablesModel", "rainsOn", "(I)V"⟩) ∈ lw_all := lw_g (lw_at lw_ms 48 rfl) rfl
theorem qs49 : (Cond.selects "CafeTablesModel" ⟨"CafeTablesModel", "isInSun", "(I)Z"⟩ ⟨"CafeTablesModel", "isInSun", "(I)Z"⟩) ∈ lw_all := lw_g (lw_at lw_ms 49 rfl) rfl
theorem qs50 : (Cond.selects "CafeTablesModel" ⟨"CafeTablesModel", "takesTable", "(I)Z"⟩ ⟨"CafeTablesModel", "takesTable", "(I)Z"⟩) ∈ lw_all := lw_g (lw_at lw_ms 50 rfl) rfl
theorem qs51 : (Cond.selects "CafeTablesModel" ⟨"CafeTablesModel", "smallest", "(IZ)I"⟩ ⟨"CafeTablesModel", "smallest", "(IZ)I"⟩) ∈ lw_all := lw_g (lw_at lw_ms 51 rfl) rfl
theorem qs52 : (Cond.selects "CafeTablesModel" ⟨"CafeTablesModel", "isFree", "(I)Z"⟩ ⟨"CafeTablesModel", "isFree", "(I)Z"⟩) ∈ lw_all := lw_g (lw_at lw_ms 52 rfl) rfl
theorem qs53 : (Cond.selects "CafeTablesModel" ⟨"CafeTablesModel", "firstFor", "(I)I"⟩ ⟨"CafeTablesModel", "firstFor", "(I)I"⟩) ∈ lw_all := lw_g (lw_at lw_ms 53 rfl) rfl
theorem qs54 : (Cond.selects "CafeTablesModel" ⟨"CafeTablesModel", "joinsTwo", "(I)Z"⟩ ⟨"CafeTablesModel", "joinsTwo", "(I)Z"⟩) ∈ lw_all := lw_g (lw_at lw_ms 54 rfl) rfl
theorem qs55 : (Cond.selects "CafeTablesModel" ⟨"CafeTablesModel", "tryWaiting", "(I)V"⟩ ⟨"CafeTablesModel", "tryWaiting", "(I)V"⟩) ∈ lw_all := lw_g (lw_at lw_ms 55 rfl) rfl
theorem qs56 : (Cond.selects "CafeTablesModel" ⟨"CafeTablesModel", "triesAgain", "(II)V"⟩ ⟨"CafeTablesModel", "triesAgain", "(II)V"⟩) ∈ lw_all := lw_g (lw_at lw_ms 56 rfl) rfl
theorem qs57 : (Cond.selects "CafeTablesModel" ⟨"CafeTablesModel", "sitsDown", "(II)Z"⟩ ⟨"CafeTablesModel", "sitsDown", "(II)Z"⟩) ∈ lw_all := lw_g (lw_at lw_ms 57 rfl) rfl
theorem qs58 : (Cond.selects "CafeTablesModel" ⟨"CafeTablesModel", "manyWait", "(I)I"⟩ ⟨"CafeTablesModel", "manyWait", "(I)I"⟩) ∈ lw_all := lw_g (lw_at lw_ms 58 rfl) rfl
theorem qs59 : (Cond.selects "CafeTablesModel" ⟨"CafeTablesModel", "comesIn", "(II)V"⟩ ⟨"CafeTablesModel", "comesIn", "(II)V"⟩) ∈ lw_all := lw_g (lw_at lw_ms 59 rfl) rfl
theorem qs60 : (Cond.selects "CafeTablesModel" ⟨"CafeTablesModel", "manyTaken", "()I"⟩ ⟨"CafeTablesModel", "manyTaken", "()I"⟩) ∈ lw_all := lw_g (lw_at lw_ms 60 rfl) rfl
theorem qs61 : (Cond.selects "CafeTablesModel" ⟨"CafeTablesModel", "allCoin", "()I"⟩ ⟨"CafeTablesModel", "allCoin", "()I"⟩) ∈ lw_all := lw_g (lw_at lw_ms 61 rfl) rfl
theorem qs62 : (Cond.selects "CafeTablesModel" ⟨"CafeTablesModel", "planned", "()I"⟩ ⟨"CafeTablesModel", "planned", "()I"⟩) ∈ lw_all := lw_g (lw_at lw_ms 62 rfl) rfl
theorem qs63 : (Cond.selects "CafeTablesModel" ⟨"CafeTablesModel", "findPlan", "()V"⟩ ⟨"CafeTablesModel", "findPlan", "()V"⟩) ∈ lw_all := lw_g (lw_at lw_ms 63 rfl) rfl
theorem qs64 : (Cond.selects "CafeTablesModel" ⟨"CafeTablesModel", "maySit", "(II)Z"⟩ ⟨"CafeTablesModel", "maySit", "(II)Z"⟩) ∈ lw_all := lw_g (lw_at lw_ms 64 rfl) rfl
theorem qs65 : (Cond.selects "CafeTablesModel" ⟨"CafeTablesModel", "offer", "(I)V"⟩ ⟨"CafeTablesModel", "offer", "(I)V"⟩) ∈ lw_all := lw_g (lw_at lw_ms 65 rfl) rfl
theorem qs66 : (Cond.selects "CafeTablesModel" ⟨"CafeTablesModel", "coinBy", "(II)I"⟩ ⟨"CafeTablesModel", "coinBy", "(II)I"⟩) ∈ lw_all := lw_g (lw_at lw_ms 66 rfl) rfl
theorem qs67 : (Cond.selects "CafeTablesModel" ⟨"CafeTablesModel", "layMix", "(III)V"⟩ ⟨"CafeTablesModel", "layMix", "(III)V"⟩) ∈ lw_all := lw_g (lw_at lw_ms 67 rfl) rfl
theorem qs68 : (Cond.selects "CafeTablesModel" ⟨"CafeTablesModel", "lost", "(I)J"⟩ ⟨"CafeTablesModel", "lost", "(I)J"⟩) ∈ lw_all := lw_g (lw_at lw_ms 68 rfl) rfl
theorem qs69 : (Cond.selects "CafeTablesModel" ⟨"CafeTablesModel", "begins", "(I)V"⟩ ⟨"CafeTablesModel", "begins", "(I)V"⟩) ∈ lw_all := lw_g (lw_at lw_ms 69 rfl) rfl
