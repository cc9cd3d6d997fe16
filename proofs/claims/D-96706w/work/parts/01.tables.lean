/-- a private method of a class that the tables say can be made, by its rows of tables_1 -/
def lw_okq (q : MethodName × Nat) : Prop := (q.1.cls ≠ "java/lang/invoke/MethodHandle" ∧ q.1.cls ≠ "java/lang/invoke/VarHandle") ∧ Cond.instantiable q.1.cls q.2 ∈ tables_1 ∧ Cond.privateMethod q.1 ∈ tables_1 ∧ Cond.instanceMethod q.1 ∈ tables_1
set_option maxRecDepth 100000
theorem lw_t1 {w : Cond} (h : w ∈ tables_1_1) : w ∈ tables_1 := List.mem_append_left _ h
theorem lw_t2 {w : Cond} (h : w ∈ tables_1_2) : w ∈ tables_1 := List.mem_append_right _ (List.mem_append_left _ h)
theorem lw_t3 {w : Cond} (h : w ∈ tables_1_3) : w ∈ tables_1 := List.mem_append_right _ (List.mem_append_right _ (List.mem_append_left _ h))
theorem lw_t4 {w : Cond} (h : w ∈ tables_1_4) : w ∈ tables_1 := List.mem_append_right _ (List.mem_append_right _ (List.mem_append_right _ (List.mem_append_left _ h)))
theorem lw_t5 {w : Cond} (h : w ∈ tables_1_5) : w ∈ tables_1 := List.mem_append_right _ (List.mem_append_right _ (List.mem_append_right _ (List.mem_append_right _ (List.mem_append_left _ h))))
theorem lw_t6 {w : Cond} (h : w ∈ tables_1_6) : w ∈ tables_1 := List.mem_append_right _ (List.mem_append_right _ (List.mem_append_right _ (List.mem_append_right _ (List.mem_append_right _ (List.mem_append_left _ h)))))
theorem lw_t7 {w : Cond} (h : w ∈ tables_1_7) : w ∈ tables_1 := List.mem_append_right _ (List.mem_append_right _ (List.mem_append_right _ (List.mem_append_right _ (List.mem_append_right _ (List.mem_append_right _ h)))))
theorem lw_p0 : lw_okq (⟨"PrayerMatsFace", "refuse", "(I)I"⟩, 17) := ⟨⟨by decide +kernel, by decide +kernel⟩, lw_t1 (List.mem_of_getElem? (i := 25) rfl), lw_t1 (List.mem_of_getElem? (i := 153) rfl), lw_t1 (List.mem_of_getElem? (i := 154) rfl)⟩
theorem lw_p1 : lw_okq (⟨"java/util/ArrayList", "add", "(Ljava/lang/Object;[Ljava/lang/Object;I)V"⟩, 3) := ⟨⟨by decide +kernel, by decide +kernel⟩, lw_t1 (List.mem_of_getElem? (i := 39) rfl), lw_t1 (List.mem_of_getElem? (i := 197) rfl), lw_t1 (List.mem_of_getElem? (i := 198) rfl)⟩
theorem lw_p2 : lw_okq (⟨"java/util/ArrayList", "grow", "()[Ljava/lang/Object;"⟩, 3) := ⟨⟨by decide +kernel, by decide +kernel⟩, lw_t1 (List.mem_of_getElem? (i := 39) rfl), lw_t1 (List.mem_of_getElem? (i := 201) rfl), lw_t1 (List.mem_of_getElem? (i := 202) rfl)⟩
theorem lw_p3 : lw_okq (⟨"java/util/ArrayList", "grow", "(I)[Ljava/lang/Object;"⟩, 3) := ⟨⟨by decide +kernel, by decide +kernel⟩, lw_t1 (List.mem_of_getElem? (i := 39) rfl), lw_t1 (List.mem_of_getElem? (i := 205) rfl), lw_t1 (List.mem_of_getElem? (i := 206) rfl)⟩
theorem lw_p4 : lw_okq (⟨"PrayerMatsFace$Reader", "here", "()I"⟩, 4) := ⟨⟨by decide +kernel, by decide +kernel⟩, lw_t2 (List.mem_of_getElem? (i := 13) rfl), lw_t2 (List.mem_of_getElem? (i := 37) rfl), lw_t2 (List.mem_of_getElem? (i := 38) rfl)⟩
theorem lw_p5 : lw_okq (⟨"PrayerMatsFace$Reader", "person", "()V"⟩, 4) := ⟨⟨by decide +kernel, by decide +kernel⟩, lw_t2 (List.mem_of_getElem? (i := 13) rfl), lw_t2 (List.mem_of_getElem? (i := 41) rfl), lw_t2 (List.mem_of_getElem? (i := 42) rfl)⟩
theorem lw_p6 : lw_okq (⟨"PrayerMatsFace$Reader", "digit", "()I"⟩, 4) := ⟨⟨by decide +kernel, by decide +kernel⟩, lw_t2 (List.mem_of_getElem? (i := 13) rfl), lw_t2 (List.mem_of_getElem? (i := 45) rfl), lw_t2 (List.mem_of_getElem? (i := 46) rfl)⟩
theorem lw_p7 : lw_okq (⟨"java/lang/Throwable", "fillInStackTrace", "(I)Ljava/lang/Throwable;"⟩, 6) := ⟨⟨by decide +kernel, by decide +kernel⟩, lw_t2 (List.mem_of_getElem? (i := 87) rfl), lw_t2 (List.mem_of_getElem? (i := 85) rfl), lw_t2 (List.mem_of_getElem? (i := 86) rfl)⟩
theorem lw_p8 : lw_okq (⟨"PrayerMatsFace$Reader", "two", "()I"⟩, 4) := ⟨⟨by decide +kernel, by decide +kernel⟩, lw_t2 (List.mem_of_getElem? (i := 13) rfl), lw_t2 (List.mem_of_getElem? (i := 119) rfl), lw_t2 (List.mem_of_getElem? (i := 120) rfl)⟩
theorem lw_p9 : lw_okq (⟨"PrayerMatsFace$Reader", "ends", "()V"⟩, 4) := ⟨⟨by decide +kernel, by decide +kernel⟩, lw_t2 (List.mem_of_getElem? (i := 13) rfl), lw_t2 (List.mem_of_getElem? (i := 123) rfl), lw_t2 (List.mem_of_getElem? (i := 124) rfl)⟩
theorem lw_p10 : lw_okq (⟨"PrayerMatsFace$Reader", "well", "(Z)Z"⟩, 4) := ⟨⟨by decide +kernel, by decide +kernel⟩, lw_t2 (List.mem_of_getElem? (i := 13) rfl), lw_t2 (List.mem_of_getElem? (i := 131) rfl), lw_t2 (List.mem_of_getElem? (i := 132) rfl)⟩
theorem lw_p11 : lw_okq (⟨"PrayerMatsFace$Reader", "hours", "()V"⟩, 4) := ⟨⟨by decide +kernel, by decide +kernel⟩, lw_t2 (List.mem_of_getElem? (i := 13) rfl), lw_t2 (List.mem_of_getElem? (i := 211) rfl), lw_t2 (List.mem_of_getElem? (i := 212) rfl)⟩
theorem lw_p12 : lw_okq (⟨"PrayerMatsFace$Reader", "quarrel", "()V"⟩, 4) := ⟨⟨by decide +kernel, by decide +kernel⟩, lw_t2 (List.mem_of_getElem? (i := 13) rfl), lw_t2 (List.mem_of_getElem? (i := 215) rfl), lw_t2 (List.mem_of_getElem? (i := 216) rfl)⟩
theorem lw_p13 : lw_okq (⟨"PrayerMatsFace$Reader", "areBoth", "(II)Z"⟩, 4) := ⟨⟨by decide +kernel, by decide +kernel⟩, lw_t2 (List.mem_of_getElem? (i := 13) rfl), lw_t2 (List.mem_of_getElem? (i := 219) rfl), lw_t2 (List.mem_of_getElem? (i := 220) rfl)⟩
theorem lw_p14 : lw_okq (⟨"PrayerMatsFace$Reader", "mat", "()V"⟩, 4) := ⟨⟨by decide +kernel, by decide +kernel⟩, lw_t2 (List.mem_of_getElem? (i := 13) rfl), lw_t2 (List.mem_of_getElem? (i := 224) rfl), lw_t2 (List.mem_of_getElem? (i := 225) rfl)⟩
theorem lw_p15 : lw_okq (⟨"PrayerMatsFace$Reader", "days", "()V"⟩, 4) := ⟨⟨by decide +kernel, by decide +kernel⟩, lw_t2 (List.mem_of_getElem? (i := 13) rfl), lw_t3 (List.mem_of_getElem? (i := 0) rfl), lw_t3 (List.mem_of_getElem? (i := 1) rfl)⟩
def lw_privs_1 : List (MethodName × Nat) := [(⟨"PrayerMatsFace", "refuse", "(I)I"⟩, 17), (⟨"java/util/ArrayList", "add", "(Ljava/lang/Object;[Ljava/lang/Object;I)V"⟩, 3), (⟨"java/util/ArrayList", "grow", "()[Ljava/lang/Object;"⟩, 3), (⟨"java/util/ArrayList", "grow", "(I)[Ljava/lang/Object;"⟩, 3), (⟨"PrayerMatsFace$Reader", "here", "()I"⟩, 4), (⟨"PrayerMatsFace$Reader", "person", "()V"⟩, 4), (⟨"PrayerMatsFace$Reader", "digit", "()I"⟩, 4), (⟨"java/lang/Throwable", "fillInStackTrace", "(I)Ljava/lang/Throwable;"⟩, 6), (⟨"PrayerMatsFace$Reader", "two", "()I"⟩, 4), (⟨"PrayerMatsFace$Reader", "ends", "()V"⟩, 4), (⟨"PrayerMatsFace$Reader", "well", "(Z)Z"⟩, 4), (⟨"PrayerMatsFace$Reader", "hours", "()V"⟩, 4), (⟨"PrayerMatsFace$Reader", "quarrel", "()V"⟩, 4), (⟨"PrayerMatsFace$Reader", "areBoth", "(II)Z"⟩, 4), (⟨"PrayerMatsFace$Reader", "mat", "()V"⟩, 4), (⟨"PrayerMatsFace$Reader", "days", "()V"⟩, 4)]
theorem lw_r1 : ∀ q ∈ lw_privs_1, lw_okq q := List.forall_mem_cons.mpr ⟨lw_p0, List.forall_mem_cons.mpr ⟨lw_p1, List.forall_mem_cons.mpr ⟨lw_p2, List.forall_mem_cons.mpr ⟨lw_p3, List.forall_mem_cons.mpr ⟨lw_p4, List.forall_mem_cons.mpr ⟨lw_p5, List.forall_mem_cons.mpr ⟨lw_p6, List.forall_mem_cons.mpr ⟨lw_p7, List.forall_mem_cons.mpr ⟨lw_p8, List.forall_mem_cons.mpr ⟨lw_p9, List.forall_mem_cons.mpr ⟨lw_p10, List.forall_mem_cons.mpr ⟨lw_p11, List.forall_mem_cons.mpr ⟨lw_p12, List.forall_mem_cons.mpr ⟨lw_p13, List.forall_mem_cons.mpr ⟨lw_p14, List.forall_mem_cons.mpr ⟨lw_p15, fun _ h => absurd h List.not_mem_nil⟩⟩⟩⟩⟩⟩⟩⟩⟩⟩⟩⟩⟩⟩⟩⟩
theorem lw_p16 : lw_okq (⟨"PrayerMatsFace$Quarter", "kneel", "(III)V"⟩, 5) := ⟨⟨by decide +kernel, by decide +kernel⟩, lw_t1 (List.mem_of_getElem? (i := 33) rfl), lw_t3 (List.mem_of_getElem? (i := 16) rfl), lw_t3 (List.mem_of_getElem? (i := 17) rfl)⟩
theorem lw_p17 : lw_okq (⟨"PrayerMatsFace", "isPerson", "(I)Z"⟩, 17) := ⟨⟨by decide +kernel, by decide +kernel⟩, lw_t1 (List.mem_of_getElem? (i := 25) rfl), lw_t3 (List.mem_of_getElem? (i := 78) rfl), lw_t3 (List.mem_of_getElem? (i := 79) rfl)⟩
theorem lw_p18 : lw_okq (⟨"PrayerMatsFace", "areTwo", "(II)Z"⟩, 17) := ⟨⟨by decide +kernel, by decide +kernel⟩, lw_t1 (List.mem_of_getElem? (i := 25) rfl), lw_t3 (List.mem_of_getElem? (i := 116) rfl), lw_t3 (List.mem_of_getElem? (i := 117) rfl)⟩
theorem lw_p19 : lw_okq (⟨"PrayerMatsFace", "remembers", "()V"⟩, 17) := ⟨⟨by decide +kernel, by decide +kernel⟩, lw_t1 (List.mem_of_getElem? (i := 25) rfl), lw_t3 (List.mem_of_getElem? (i := 139) rfl), lw_t3 (List.mem_of_getElem? (i := 140) rfl)⟩
theorem lw_p20 : lw_okq (⟨"PrayerMatsFace", "goesOn", "(I)V"⟩, 17) := ⟨⟨by decide +kernel, by decide +kernel⟩, lw_t1 (List.mem_of_getElem? (i := 25) rfl), lw_t3 (List.mem_of_getElem? (i := 177) rfl), lw_t3 (List.mem_of_getElem? (i := 178) rfl)⟩
theorem lw_p21 : lw_okq (⟨"PrayerMatsFace", "whenMended", "(II)I"⟩, 17) := ⟨⟨by decide +kernel, by decide +kernel⟩, lw_t1 (List.mem_of_getElem? (i := 25) rfl), lw_t3 (List.mem_of_getElem? (i := 196) rfl), lw_t3 (List.mem_of_getElem? (i := 197) rfl)⟩
theorem lw_p22 : lw_okq (⟨"PrayerMatsFace", "refuseFar", "(I)I"⟩, 17) := ⟨⟨by decide +kernel, by decide +kernel⟩, lw_t1 (List.mem_of_getElem? (i := 25) rfl), lw_t3 (List.mem_of_getElem? (i := 212) rfl), lw_t3 (List.mem_of_getElem? (i := 213) rfl)⟩
theorem lw_p23 : lw_okq (⟨"PrayerMatsFace", "findsPairing", "(Z)V"⟩, 17) := ⟨⟨by decide +kernel, by decide +kernel⟩, lw_t1 (List.mem_of_getElem? (i := 25) rfl), lw_t3 (List.mem_of_getElem? (i := 238) rfl), lw_t3 (List.mem_of_getElem? (i := 239) rfl)⟩
theorem lw_p24 : lw_okq (⟨"PrayerMatsFace", "eachPairing", "(IZ)V"⟩, 17) := ⟨⟨by decide +kernel, by decide +kernel⟩, lw_t1 (List.mem_of_getElem? (i := 25) rfl), lw_t4 (List.mem_of_getElem? (i := 2) rfl), lw_t4 (List.mem_of_getElem? (i := 3) rfl)⟩
theorem lw_p25 : lw_okq (⟨"PrayerMatsFace", "looksAt", "(Z)V"⟩, 17) := ⟨⟨by decide +kernel, by decide +kernel⟩, lw_t1 (List.mem_of_getElem? (i := 25) rfl), lw_t4 (List.mem_of_getElem? (i := 6) rfl), lw_t4 (List.mem_of_getElem? (i := 7) rfl)⟩
theorem lw_p26 : lw_okq (⟨"PrayerMatsFace", "keepsPairing", "()V"⟩, 17) := ⟨⟨by decide +kernel, by decide +kernel⟩, lw_t1 (List.mem_of_getElem? (i := 25) rfl), lw_t4 (List.mem_of_getElem? (i := 16) rfl), lw_t4 (List.mem_of_getElem? (i := 17) rfl)⟩
theorem lw_p27 : lw_okq (⟨"PrayerMatsFace", "favourite", "(I)I"⟩, 17) := ⟨⟨by decide +kernel, by decide +kernel⟩, lw_t1 (List.mem_of_getElem? (i := 25) rfl), lw_t4 (List.mem_of_getElem? (i := 34) rfl), lw_t4 (List.mem_of_getElem? (i := 35) rfl)⟩
theorem lw_p28 : lw_okq (⟨"PrayerMatsFace", "supposes", "(III)V"⟩, 17) := ⟨⟨by decide +kernel, by decide +kernel⟩, lw_t1 (List.mem_of_getElem? (i := 25) rfl), lw_t4 (List.mem_of_getElem? (i := 60) rfl), lw_t4 (List.mem_of_getElem? (i := 61) rfl)⟩
theorem lw_p29 : lw_okq (⟨"PrayerMatsFace", "isQuarrelSo", "(II)Z"⟩, 17) := ⟨⟨by decide +kernel, by decide +kernel⟩, lw_t1 (List.mem_of_getElem? (i := 25) rfl), lw_t4 (List.mem_of_getElem? (i := 68) rfl), lw_t4 (List.mem_of_getElem? (i := 69) rfl)⟩
theorem lw_p30 : lw_okq (⟨"PrayerMatsFace", "refuseWide", "(I)J"⟩, 17) := ⟨⟨by decide +kernel, by decide +kernel⟩, lw_t1 (List.mem_of_getElem? (i := 25) rfl), lw_t4 (List.mem_of_getElem? (i := 84) rfl), lw_t4 (List.mem_of_getElem? (i := 85) rfl)⟩
theorem lw_p31 : lw_okq (⟨"PrayerMatsFace", "quarrelBy", "(IIII)I"⟩, 17) := ⟨⟨by decide +kernel, by decide +kernel⟩, lw_t1 (List.mem_of_getElem? (i := 25) rfl), lw_t4 (List.mem_of_getElem? (i := 89) rfl), lw_t4 (List.mem_of_getElem? (i := 90) rfl)⟩
def lw_privs_2 : List (MethodName × Nat) := [(⟨"PrayerMatsFace$Quarter", "kneel", "(III)V"⟩, 5), (⟨"PrayerMatsFace", "isPerson", "(I)Z"⟩, 17), (⟨"PrayerMatsFace", "areTwo", "(II)Z"⟩, 17), (⟨"PrayerMatsFace", "remembers", "()V"⟩, 17), (⟨"PrayerMatsFace", "goesOn", "(I)V"⟩, 17), (⟨"PrayerMatsFace", "whenMended", "(II)I"⟩, 17), (⟨"PrayerMatsFace", "refuseFar", "(I)I"⟩, 17), (⟨"PrayerMatsFace", "findsPairing", "(Z)V"⟩, 17), (⟨"PrayerMatsFace", "eachPairing", "(IZ)V"⟩, 17), (⟨"PrayerMatsFace", "looksAt", "(Z)V"⟩, 17), (⟨"PrayerMatsFace", "keepsPairing", "()V"⟩, 17), (⟨"PrayerMatsFace", "favourite", "(I)I"⟩, 17), (⟨"PrayerMatsFace", "supposes", "(III)V"⟩, 17), (⟨"PrayerMatsFace", "isQuarrelSo", "(II)Z"⟩, 17), (⟨"PrayerMatsFace", "refuseWide", "(I)J"⟩, 17), (⟨"PrayerMatsFace", "quarrelBy", "(IIII)I"⟩, 17)]
theorem lw_r2 : ∀ q ∈ lw_privs_2, lw_okq q := List.forall_mem_cons.mpr ⟨lw_p16, List.forall_mem_cons.mpr ⟨lw_p17, List.forall_mem_cons.mpr ⟨lw_p18, List.forall_mem_cons.mpr ⟨lw_p19, List.forall_mem_cons.mpr ⟨lw_p20, List.forall_mem_cons.mpr ⟨lw_p21, List.forall_mem_cons.mpr ⟨lw_p22, List.forall_mem_cons.mpr ⟨lw_p23, List.forall_mem_cons.mpr ⟨lw_p24, List.forall_mem_cons.mpr ⟨lw_p25, List.forall_mem_cons.mpr ⟨lw_p26, List.forall_mem_cons.mpr ⟨lw_p27, List.forall_mem_cons.mpr ⟨lw_p28, List.forall_mem_cons.mpr ⟨lw_p29, List.forall_mem_cons.mpr ⟨lw_p30, List.forall_mem_cons.mpr ⟨lw_p31, fun _ h => absurd h List.not_mem_nil⟩⟩⟩⟩⟩⟩⟩⟩⟩⟩⟩⟩⟩⟩⟩⟩
theorem lw_p32 : lw_okq (⟨"PrayerMatsFace", "comingAt", "(I)I"⟩, 17) := ⟨⟨by decide +kernel, by decide +kernel⟩, lw_t1 (List.mem_of_getElem? (i := 25) rfl), lw_t4 (List.mem_of_getElem? (i := 106) rfl), lw_t4 (List.mem_of_getElem? (i := 107) rfl)⟩
theorem lw_p33 : lw_okq (⟨"PrayerMatsFace", "isWanted", "(I)Z"⟩, 17) := ⟨⟨by decide +kernel, by decide +kernel⟩, lw_t1 (List.mem_of_getElem? (i := 25) rfl), lw_t4 (List.mem_of_getElem? (i := 126) rfl), lw_t4 (List.mem_of_getElem? (i := 127) rfl)⟩
theorem lw_p34 : lw_okq (⟨"PrayerMatsFace", "allDoubled", "(I)I"⟩, 17) := ⟨⟨by decide +kernel, by decide +kernel⟩, lw_t1 (List.mem_of_getElem? (i := 25) rfl), lw_t4 (List.mem_of_getElem? (i := 158) rfl), lw_t4 (List.mem_of_getElem? (i := 159) rfl)⟩
theorem lw_p35 : lw_okq (⟨"PrayerMatsFace", "drawn", "(I)I"⟩, 17) := ⟨⟨by decide +kernel, by decide +kernel⟩, lw_t1 (List.mem_of_getElem? (i := 25) rfl), lw_t4 (List.mem_of_getElem? (i := 180) rfl), lw_t4 (List.mem_of_getElem? (i := 181) rfl)⟩
theorem lw_p36 : lw_okq (⟨"PrayerMatsFace", "allComing", "()I"⟩, 17) := ⟨⟨by decide +kernel, by decide +kernel⟩, lw_t1 (List.mem_of_getElem? (i := 25) rfl), lw_t4 (List.mem_of_getElem? (i := 199) rfl), lw_t4 (List.mem_of_getElem? (i := 200) rfl)⟩
theorem lw_p37 : lw_okq (⟨"PrayerMatsFaceModel", "refuse", "(I)I"⟩, 33) := ⟨⟨by decide +kernel, by decide +kernel⟩, lw_t4 (List.mem_of_getElem? (i := 203) rfl), lw_t5 (List.mem_of_getElem? (i := 73) rfl), lw_t5 (List.mem_of_getElem? (i := 74) rfl)⟩
theorem lw_p38 : lw_okq (⟨"PrayerMatsFaceModel", "readStatement", "()V"⟩, 33) := ⟨⟨by decide +kernel, by decide +kernel⟩, lw_t4 (List.mem_of_getElem? (i := 203) rfl), lw_t5 (List.mem_of_getElem? (i := 81) rfl), lw_t5 (List.mem_of_getElem? (i := 82) rfl)⟩
theorem lw_p39 : lw_okq (⟨"PrayerMatsFaceModel", "here", "()I"⟩, 33) := ⟨⟨by decide +kernel, by decide +kernel⟩, lw_t4 (List.mem_of_getElem? (i := 203) rfl), lw_t5 (List.mem_of_getElem? (i := 85) rfl), lw_t5 (List.mem_of_getElem? (i := 86) rfl)⟩
theorem lw_p40 : lw_okq (⟨"PrayerMatsFaceModel", "readNumbers", "(II)V"⟩, 33) := ⟨⟨by decide +kernel, by decide +kernel⟩, lw_t4 (List.mem_of_getElem? (i := 203) rfl), lw_t5 (List.mem_of_getElem? (i := 92) rfl), lw_t5 (List.mem_of_getElem? (i := 93) rfl)⟩
theorem lw_p41 : lw_okq (⟨"PrayerMatsFaceModel", "readDigits", "(I)I"⟩, 33) := ⟨⟨by decide +kernel, by decide +kernel⟩, lw_t4 (List.mem_of_getElem? (i := 203) rfl), lw_t5 (List.mem_of_getElem? (i := 96) rfl), lw_t5 (List.mem_of_getElem? (i := 97) rfl)⟩
theorem lw_p42 : lw_okq (⟨"PrayerMatsFaceModel", "think", "()V"⟩, 33) := ⟨⟨by decide +kernel, by decide +kernel⟩, lw_t4 (List.mem_of_getElem? (i := 203) rfl), lw_t5 (List.mem_of_getElem? (i := 105) rfl), lw_t5 (List.mem_of_getElem? (i := 106) rfl)⟩
theorem lw_p43 : lw_okq (⟨"PrayerMatsFaceModel", "carryAll", "([IZ)V"⟩, 33) := ⟨⟨by decide +kernel, by decide +kernel⟩, lw_t4 (List.mem_of_getElem? (i := 203) rfl), lw_t5 (List.mem_of_getElem? (i := 109) rfl), lw_t5 (List.mem_of_getElem? (i := 110) rfl)⟩
theorem lw_p44 : lw_okq (⟨"PrayerMatsFaceModel", "carry", "(I)I"⟩, 33) := ⟨⟨by decide +kernel, by decide +kernel⟩, lw_t4 (List.mem_of_getElem? (i := 203) rfl), lw_t5 (List.mem_of_getElem? (i := 113) rfl), lw_t5 (List.mem_of_getElem? (i := 114) rfl)⟩
theorem lw_p45 : lw_okq (⟨"PrayerMatsFaceModel", "comesTold", "(I)Z"⟩, 33) := ⟨⟨by decide +kernel, by decide +kernel⟩, lw_t4 (List.mem_of_getElem? (i := 203) rfl), lw_t5 (List.mem_of_getElem? (i := 117) rfl), lw_t5 (List.mem_of_getElem? (i := 118) rfl)⟩
theorem lw_p46 : lw_okq (⟨"PrayerMatsFaceModel", "oneComes", "(III)V"⟩, 33) := ⟨⟨by decide +kernel, by decide +kernel⟩, lw_t4 (List.mem_of_getElem? (i := 203) rfl), lw_t5 (List.mem_of_getElem? (i := 121) rfl), lw_t5 (List.mem_of_getElem? (i := 122) rfl)⟩
theorem lw_p47 : lw_okq (⟨"PrayerMatsFaceModel", "setQuarrel", "(III)V"⟩, 33) := ⟨⟨by decide +kernel, by decide +kernel⟩, lw_t4 (List.mem_of_getElem? (i := 203) rfl), lw_t5 (List.mem_of_getElem? (i := 125) rfl), lw_t5 (List.mem_of_getElem? (i := 126) rfl)⟩
def lw_privs_3 : List (MethodName × Nat) := [(⟨"PrayerMatsFace", "comingAt", "(I)I"⟩, 17), (⟨"PrayerMatsFace", "isWanted", "(I)Z"⟩, 17), (⟨"PrayerMatsFace", "allDoubled", "(I)I"⟩, 17), (⟨"PrayerMatsFace", "drawn", "(I)I"⟩, 17), (⟨"PrayerMatsFace", "allComing", "()I"⟩, 17), (⟨"PrayerMatsFaceModel", "refuse", "(I)I"⟩, 33), (⟨"PrayerMatsFaceModel", "readStatement", "()V"⟩, 33), (⟨"PrayerMatsFaceModel", "here", "()I"⟩, 33), (⟨"PrayerMatsFaceModel", "readNumbers", "(II)V"⟩, 33), (⟨"PrayerMatsFaceModel", "readDigits", "(I)I"⟩, 33), (⟨"PrayerMatsFaceModel", "think", "()V"⟩, 33), (⟨"PrayerMatsFaceModel", "carryAll", "([IZ)V"⟩, 33), (⟨"PrayerMatsFaceModel", "carry", "(I)I"⟩, 33), (⟨"PrayerMatsFaceModel", "comesTold", "(I)Z"⟩, 33), (⟨"PrayerMatsFaceModel", "oneComes", "(III)V"⟩, 33), (⟨"PrayerMatsFaceModel", "setQuarrel", "(III)V"⟩, 33)]
theorem lw_r3 : ∀ q ∈ lw_privs_3, lw_okq q := List.forall_mem_cons.mpr ⟨lw_p32, List.forall_mem_cons.mpr ⟨lw_p33, List.forall_mem_cons.mpr ⟨lw_p34, List.forall_mem_cons.mpr ⟨lw_p35, List.forall_mem_cons.mpr ⟨lw_p36, List.forall_mem_cons.mpr ⟨lw_p37, List.forall_mem_cons.mpr ⟨lw_p38, List.forall_mem_cons.mpr ⟨lw_p39, List.forall_mem_cons.mpr ⟨lw_p40, List.forall_mem_cons.mpr ⟨lw_p41, List.forall_mem_cons.mpr ⟨lw_p42, List.forall_mem_cons.mpr ⟨lw_p43, List.forall_mem_cons.mpr ⟨lw_p44, List.forall_mem_cons.mpr ⟨lw_p45, List.forall_mem_cons.mpr ⟨lw_p46, List.forall_mem_cons.mpr ⟨lw_p47, fun _ h => absurd h List.not_mem_nil⟩⟩⟩⟩⟩⟩⟩⟩⟩⟩⟩⟩⟩⟩⟩⟩
theorem lw_p48 : lw_okq (⟨"PrayerMatsFaceModel", "isOne", "(I)Z"⟩, 33) := ⟨⟨by decide +kernel, by decide +kernel⟩, lw_t4 (List.mem_of_getElem? (i := 203) rfl), lw_t5 (List.mem_of_getElem? (i := 129) rfl), lw_t5 (List.mem_of_getElem? (i := 130) rfl)⟩
theorem lw_p49 : lw_okq (⟨"PrayerMatsFaceModel", "areTwo", "(II)Z"⟩, 33) := ⟨⟨by decide +kernel, by decide +kernel⟩, lw_t4 (List.mem_of_getElem? (i := 203) rfl), lw_t5 (List.mem_of_getElem? (i := 133) rfl), lw_t5 (List.mem_of_getElem? (i := 134) rfl)⟩
theorem lw_p50 : lw_okq (⟨"PrayerMatsFaceModel", "joinOrNot", "(II)V"⟩, 33) := ⟨⟨by decide +kernel, by decide +kernel⟩, lw_t4 (List.mem_of_getElem? (i := 203) rfl), lw_t5 (List.mem_of_getElem? (i := 137) rfl), lw_t5 (List.mem_of_getElem? (i := 138) rfl)⟩
theorem lw_p51 : lw_okq (⟨"PrayerMatsFaceModel", "leaveMat", "(I)V"⟩, 33) := ⟨⟨by decide +kernel, by decide +kernel⟩, lw_t4 (List.mem_of_getElem? (i := 203) rfl), lw_t5 (List.mem_of_getElem? (i := 141) rfl), lw_t5 (List.mem_of_getElem? (i := 142) rfl)⟩
theorem lw_p52 : lw_okq (⟨"PrayerMatsFaceModel", "join", "(II)V"⟩, 33) := ⟨⟨by decide +kernel, by decide +kernel⟩, lw_t4 (List.mem_of_getElem? (i := 203) rfl), lw_t5 (List.mem_of_getElem? (i := 145) rfl), lw_t5 (List.mem_of_getElem? (i := 146) rfl)⟩
theorem lw_p53 : lw_okq (⟨"PrayerMatsFaceModel", "goDays", "(I)V"⟩, 33) := ⟨⟨by decide +kernel, by decide +kernel⟩, lw_t4 (List.mem_of_getElem? (i := 203) rfl), lw_t5 (List.mem_of_getElem? (i := 150) rfl), lw_t5 (List.mem_of_getElem? (i := 151) rfl)⟩
theorem lw_p54 : lw_okq (⟨"PrayerMatsFaceModel", "dayBy", "(II)V"⟩, 33) := ⟨⟨by decide +kernel, by decide +kernel⟩, lw_t4 (List.mem_of_getElem? (i := 203) rfl), lw_t5 (List.mem_of_getElem? (i := 154) rfl), lw_t5 (List.mem_of_getElem? (i := 155) rfl)⟩
theorem lw_p55 : lw_okq (⟨"PrayerMatsFaceModel", "behindHour", "(IIIII)I"⟩, 33) := ⟨⟨by decide +kernel, by decide +kernel⟩, lw_t4 (List.mem_of_getElem? (i := 203) rfl), lw_t5 (List.mem_of_getElem? (i := 158) rfl), lw_t5 (List.mem_of_getElem? (i := 159) rfl)⟩
theorem lw_p56 : lw_okq (⟨"PrayerMatsFaceModel", "quarrelOf", "(II)I"⟩, 33) := ⟨⟨by decide +kernel, by decide +kernel⟩, lw_t4 (List.mem_of_getElem? (i := 203) rfl), lw_t5 (List.mem_of_getElem? (i := 165) rfl), lw_t5 (List.mem_of_getElem? (i := 166) rfl)⟩
theorem lw_p57 : lw_okq (⟨"PrayerMatsFaceModel", "softOf", "(I)I"⟩, 33) := ⟨⟨by decide +kernel, by decide +kernel⟩, lw_t4 (List.mem_of_getElem? (i := 203) rfl), lw_t5 (List.mem_of_getElem? (i := 169) rfl), lw_t5 (List.mem_of_getElem? (i := 170) rfl)⟩
theorem lw_p58 : lw_okq (⟨"PrayerMatsFaceModel", "soreOf", "(I)I"⟩, 33) := ⟨⟨by decide +kernel, by decide +kernel⟩, lw_t4 (List.mem_of_getElem? (i := 203) rfl), lw_t5 (List.mem_of_getElem? (i := 173) rfl), lw_t5 (List.mem_of_getElem? (i := 174) rfl)⟩
theorem lw_p59 : lw_okq (⟨"PrayerMatsFaceModel", "again", "()V"⟩, 33) := ⟨⟨by decide +kernel, by decide +kernel⟩, lw_t4 (List.mem_of_getElem? (i := 203) rfl), lw_t5 (List.mem_of_getElem? (i := 180) rfl), lw_t5 (List.mem_of_getElem? (i := 181) rfl)⟩
theorem lw_p60 : lw_okq (⟨"PrayerMatsFaceModel", "charmOf", "(I)I"⟩, 33) := ⟨⟨by decide +kernel, by decide +kernel⟩, lw_t4 (List.mem_of_getElem? (i := 203) rfl), lw_t5 (List.mem_of_getElem? (i := 201) rfl), lw_t5 (List.mem_of_getElem? (i := 202) rfl)⟩
theorem lw_p61 : lw_okq (⟨"PrayerMatsFaceModel", "likesOf", "(II)I"⟩, 33) := ⟨⟨by decide +kernel, by decide +kernel⟩, lw_t4 (List.mem_of_getElem? (i := 203) rfl), lw_t5 (List.mem_of_getElem? (i := 212) rfl), lw_t5 (List.mem_of_getElem? (i := 213) rfl)⟩
theorem lw_p62 : lw_okq (⟨"PrayerMatsFaceModel", "keepTurn", "()V"⟩, 33) := ⟨⟨by decide +kernel, by decide +kernel⟩, lw_t4 (List.mem_of_getElem? (i := 203) rfl), lw_t5 (List.mem_of_getElem? (i := 231) rfl), lw_t5 (List.mem_of_getElem? (i := 232) rfl)⟩
theorem lw_p63 : lw_okq (⟨"PrayerMatsFaceModel", "matsOf", "()I"⟩, 33) := ⟨⟨by decide +kernel, by decide +kernel⟩, lw_t4 (List.mem_of_getElem? (i := 203) rfl), lw_t6 (List.mem_of_getElem? (i := 3) rfl), lw_t6 (List.mem_of_getElem? (i := 4) rfl)⟩
def lw_privs_4 : List (MethodName × Nat) := [(⟨"PrayerMatsFaceModel", "isOne", "(I)Z"⟩, 33), (⟨"PrayerMatsFaceModel", "areTwo", "(II)Z"⟩, 33), (⟨"PrayerMatsFaceModel", "joinOrNot", "(II)V"⟩, 33), (⟨"PrayerMatsFaceModel", "leaveMat", "(I)V"⟩, 33), (⟨"PrayerMatsFaceModel", "join", "(II)V"⟩, 33), (⟨"PrayerMatsFaceModel", "goDays", "(I)V"⟩, 33), (⟨"PrayerMatsFaceModel", "dayBy", "(II)V"⟩, 33), (⟨"PrayerMatsFaceModel", "behindHour", "(IIIII)I"⟩, 33), (⟨"PrayerMatsFaceModel", "quarrelOf", "(II)I"⟩, 33), (⟨"PrayerMatsFaceModel", "softOf", "(I)I"⟩, 33), (⟨"PrayerMatsFaceModel", "soreOf", "(I)I"⟩, 33), (⟨"PrayerMatsFaceModel", "again", "()V"⟩, 33), (⟨"PrayerMatsFaceModel", "charmOf", "(I)I"⟩, 33), (⟨"PrayerMatsFaceModel", "likesOf", "(II)I"⟩, 33), (⟨"PrayerMatsFaceModel", "keepTurn", "()V"⟩, 33), (⟨"PrayerMatsFaceModel", "matsOf", "()I"⟩, 33)]
theorem lw_r4 : ∀ q ∈ lw_privs_4, lw_okq q := List.forall_mem_cons.mpr ⟨lw_p48, List.forall_mem_cons.mpr ⟨lw_p49, List.forall_mem_cons.mpr ⟨lw_p50, List.forall_mem_cons.mpr ⟨lw_p51, List.forall_mem_cons.mpr ⟨lw_p52, List.forall_mem_cons.mpr ⟨lw_p53, List.forall_mem_cons.mpr ⟨lw_p54, List.forall_mem_cons.mpr ⟨lw_p55, List.forall_mem_cons.mpr ⟨lw_p56, List.forall_mem_cons.mpr ⟨lw_p57, List.forall_mem_cons.mpr ⟨lw_p58, List.forall_mem_cons.mpr ⟨lw_p59, List.forall_mem_cons.mpr ⟨lw_p60, List.forall_mem_cons.mpr ⟨lw_p61, List.forall_mem_cons.mpr ⟨lw_p62, List.forall_mem_cons.mpr ⟨lw_p63, fun _ h => absurd h List.not_mem_nil⟩⟩⟩⟩⟩⟩⟩⟩⟩⟩⟩⟩⟩⟩⟩⟩
theorem lw_p64 : lw_okq (⟨"PrayerMatsFaceModel", "allOf", "()I"⟩, 33) := ⟨⟨by decide +kernel, by decide +kernel⟩, lw_t4 (List.mem_of_getElem? (i := 203) rfl), lw_t6 (List.mem_of_getElem? (i := 11) rfl), lw_t6 (List.mem_of_getElem? (i := 12) rfl)⟩
theorem lw_p65 : lw_okq (⟨"PrayerMatsFaceModel", "zerosOf", "()I"⟩, 33) := ⟨⟨by decide +kernel, by decide +kernel⟩, lw_t4 (List.mem_of_getElem? (i := 203) rfl), lw_t6 (List.mem_of_getElem? (i := 23) rfl), lw_t6 (List.mem_of_getElem? (i := 24) rfl)⟩
theorem lw_p66 : lw_okq (⟨"PrayerMatsFaceModel", "worstTwo", "()I"⟩, 33) := ⟨⟨by decide +kernel, by decide +kernel⟩, lw_t4 (List.mem_of_getElem? (i := 203) rfl), lw_t6 (List.mem_of_getElem? (i := 27) rfl), lw_t6 (List.mem_of_getElem? (i := 28) rfl)⟩
theorem lw_p67 : lw_okq (⟨"PrayerMatsFaceModel", "zeroIn", "(II)I"⟩, 33) := ⟨⟨by decide +kernel, by decide +kernel⟩, lw_t4 (List.mem_of_getElem? (i := 203) rfl), lw_t6 (List.mem_of_getElem? (i := 35) rfl), lw_t6 (List.mem_of_getElem? (i := 36) rfl)⟩
theorem lw_p68 : lw_okq (⟨"PrayerMatsFaceModel", "wouldLeave", "(II)Z"⟩, 33) := ⟨⟨by decide +kernel, by decide +kernel⟩, lw_t4 (List.mem_of_getElem? (i := 203) rfl), lw_t6 (List.mem_of_getElem? (i := 53) rfl), lw_t6 (List.mem_of_getElem? (i := 54) rfl)⟩
theorem lw_p69 : lw_okq (⟨"PrayerMatsFaceModel", "ratherThanMate", "(II)Z"⟩, 33) := ⟨⟨by decide +kernel, by decide +kernel⟩, lw_t4 (List.mem_of_getElem? (i := 203) rfl), lw_t6 (List.mem_of_getElem? (i := 57) rfl), lw_t6 (List.mem_of_getElem? (i := 58) rfl)⟩
theorem lw_p70 : lw_okq (⟨"PrayerMatsFaceModel", "leavingTwos", "()I"⟩, 33) := ⟨⟨by decide +kernel, by decide +kernel⟩, lw_t4 (List.mem_of_getElem? (i := 203) rfl), lw_t6 (List.mem_of_getElem? (i := 61) rfl), lw_t6 (List.mem_of_getElem? (i := 62) rfl)⟩
theorem lw_p71 : lw_okq (⟨"PrayerMatsFaceModel", "ridBits", "()I"⟩, 33) := ⟨⟨by decide +kernel, by decide +kernel⟩, lw_t4 (List.mem_of_getElem? (i := 203) rfl), lw_t6 (List.mem_of_getElem? (i := 65) rfl), lw_t6 (List.mem_of_getElem? (i := 66) rfl)⟩
theorem lw_p72 : lw_okq (⟨"PrayerMatsFaceModel", "layPairings", "()V"⟩, 33) := ⟨⟨by decide +kernel, by decide +kernel⟩, lw_t4 (List.mem_of_getElem? (i := 203) rfl), lw_t6 (List.mem_of_getElem? (i := 74) rfl), lw_t6 (List.mem_of_getElem? (i := 75) rfl)⟩
theorem lw_p73 : lw_okq (⟨"PrayerMatsFaceModel", "layTrial", "(II)Z"⟩, 33) := ⟨⟨by decide +kernel, by decide +kernel⟩, lw_t4 (List.mem_of_getElem? (i := 203) rfl), lw_t6 (List.mem_of_getElem? (i := 78) rfl), lw_t6 (List.mem_of_getElem? (i := 79) rfl)⟩
theorem lw_p74 : lw_okq (⟨"PrayerMatsFaceModel", "takePairing", "(I)V"⟩, 33) := ⟨⟨by decide +kernel, by decide +kernel⟩, lw_t4 (List.mem_of_getElem? (i := 203) rfl), lw_t6 (List.mem_of_getElem? (i := 82) rfl), lw_t6 (List.mem_of_getElem? (i := 83) rfl)⟩
theorem lw_p75 : lw_okq (⟨"PrayerMatsFaceModel", "mostLiked", "(I)I"⟩, 33) := ⟨⟨by decide +kernel, by decide +kernel⟩, lw_t4 (List.mem_of_getElem? (i := 203) rfl), lw_t6 (List.mem_of_getElem? (i := 98) rfl), lw_t6 (List.mem_of_getElem? (i := 99) rfl)⟩
theorem lw_p76 : lw_okq (⟨"PrayerMatsFaceModel", "allLikes", "()I"⟩, 33) := ⟨⟨by decide +kernel, by decide +kernel⟩, lw_t4 (List.mem_of_getElem? (i := 203) rfl), lw_t6 (List.mem_of_getElem? (i := 110) rfl), lw_t6 (List.mem_of_getElem? (i := 111) rfl)⟩
theorem lw_p77 : lw_okq (⟨"PrayerMatsFaceModel", "isRow", "(II)Z"⟩, 33) := ⟨⟨by decide +kernel, by decide +kernel⟩, lw_t4 (List.mem_of_getElem? (i := 203) rfl), lw_t6 (List.mem_of_getElem? (i := 122) rfl), lw_t6 (List.mem_of_getElem? (i := 123) rfl)⟩
theorem lw_p78 : lw_okq (⟨"PrayerMatsFaceModel", "comingAt", "(I)I"⟩, 33) := ⟨⟨by decide +kernel, by decide +kernel⟩, lw_t4 (List.mem_of_getElem? (i := 203) rfl), lw_t6 (List.mem_of_getElem? (i := 148) rfl), lw_t6 (List.mem_of_getElem? (i := 149) rfl)⟩
theorem lw_p79 : lw_okq (⟨"PrayerMatsFaceModel", "isPeace", "()Z"⟩, 33) := ⟨⟨by decide +kernel, by decide +kernel⟩, lw_t4 (List.mem_of_getElem? (i := 203) rfl), lw_t6 (List.mem_of_getElem? (i := 184) rfl), lw_t6 (List.mem_of_getElem? (i := 185) rfl)⟩
def lw_privs_5 : List (MethodName × Nat) := [(⟨"PrayerMatsFaceModel", "allOf", "()I"⟩, 33), (⟨"PrayerMatsFaceModel", "zerosOf", "()I"⟩, 33), (⟨"PrayerMatsFaceModel", "worstTwo", "()I"⟩, 33), (⟨"PrayerMatsFaceModel", "zeroIn", "(II)I"⟩, 33), (⟨"PrayerMatsFaceModel", "wouldLeave", "(II)Z"⟩, 33), (⟨"PrayerMatsFaceModel", "ratherThanMate", "(II)Z"⟩, 33), (⟨"PrayerMatsFaceModel", "leavingTwos", "()I"⟩, 33), (⟨"PrayerMatsFaceModel", "ridBits", "()I"⟩, 33), (⟨"PrayerMatsFaceModel", "layPairings", "()V"⟩, 33), (⟨"PrayerMatsFaceModel", "layTrial", "(II)Z"⟩, 33), (⟨"PrayerMatsFaceModel", "takePairing", "(I)V"⟩, 33), (⟨"PrayerMatsFaceModel", "mostLiked", "(I)I"⟩, 33), (⟨"PrayerMatsFaceModel", "allLikes", "()I"⟩, 33), (⟨"PrayerMatsFaceModel", "isRow", "(II)Z"⟩, 33), (⟨"PrayerMatsFaceModel", "comingAt", "(I)I"⟩, 33), (⟨"PrayerMatsFaceModel", "isPeace", "()Z"⟩, 33)]
theorem lw_r5 : ∀ q ∈ lw_privs_5, lw_okq q := List.forall_mem_cons.mpr ⟨lw_p64, List.forall_mem_cons.mpr ⟨lw_p65, List.forall_mem_cons.mpr ⟨lw_p66, List.forall_mem_cons.mpr ⟨lw_p67, List.forall_mem_cons.mpr ⟨lw_p68, List.forall_mem_cons.mpr ⟨lw_p69, List.forall_mem_cons.mpr ⟨lw_p70, List.forall_mem_cons.mpr ⟨lw_p71, List.forall_mem_cons.mpr ⟨lw_p72, List.forall_mem_cons.mpr ⟨lw_p73, List.forall_mem_cons.mpr ⟨lw_p74, List.forall_mem_cons.mpr ⟨lw_p75, List.forall_mem_cons.mpr ⟨lw_p76, List.forall_mem_cons.mpr ⟨lw_p77, List.forall_mem_cons.mpr ⟨lw_p78, List.forall_mem_cons.mpr ⟨lw_p79, fun _ h => absurd h List.not_mem_nil⟩⟩⟩⟩⟩⟩⟩⟩⟩⟩⟩⟩⟩⟩⟩⟩
theorem lw_p80 : lw_okq (⟨"PrayerMatsFaceModel", "drawBelow", "(I)I"⟩, 33) := ⟨⟨by decide +kernel, by decide +kernel⟩, lw_t4 (List.mem_of_getElem? (i := 203) rfl), lw_t6 (List.mem_of_getElem? (i := 213) rfl), lw_t6 (List.mem_of_getElem? (i := 214) rfl)⟩
def lw_privs_6 : List (MethodName × Nat) := [(⟨"PrayerMatsFaceModel", "drawBelow", "(I)I"⟩, 33)]
theorem lw_r6 : ∀ q ∈ lw_privs_6, lw_okq q := List.forall_mem_cons.mpr ⟨lw_p80, fun _ h => absurd h List.not_mem_nil⟩
def lw_privs : List (MethodName × Nat) := lw_privs_1 ++ (lw_privs_2 ++ (lw_privs_3 ++ (lw_privs_4 ++ (lw_privs_5 ++ (lw_privs_6)))))
def lw_tbl : List Cond := k2_sels lw_privs ++ tables_1
theorem lw_privs_ok : ∀ q ∈ lw_privs, lw_okq q := by
  show ∀ q ∈ lw_privs_1 ++ (lw_privs_2 ++ (lw_privs_3 ++ (lw_privs_4 ++ (lw_privs_5 ++ (lw_privs_6))))), lw_okq q
  exact List.forall_mem_append.mpr ⟨lw_r1, List.forall_mem_append.mpr ⟨lw_r2, List.forall_mem_append.mpr ⟨lw_r3, List.forall_mem_append.mpr ⟨lw_r4, List.forall_mem_append.mpr ⟨lw_r5, lw_r6⟩⟩⟩⟩⟩
-- ===== ONE list of words for every method: the tables' words that hold all through a run =====
def lw_all : List Cond := lw_tbl.filter goodWord
/-- a word of the tables by its place: claim/WORDS.tsv -/
theorem lw_w {w : Cond} (i : Nat) (h : lw_tbl[i]? = some w) (g : goodWord w = true) : w ∈ lw_all := List.mem_filter.mpr ⟨List.mem_of_getElem? h, g⟩
theorem lw_all_tbl {w : Cond} (h : w ∈ lw_all) : w ∈ lw_tbl := (List.mem_filter.mp h).1
theorem lw_self : GoodIn lw_all lw_all := fun w h => ⟨h, good_of_word (List.mem_filter.mp h).2⟩
/-- a class's field words, by their places -/
theorem lw_in (ws : List Cond) (ps : List Nat) (hp : ws = ps.filterMap (fun i => lw_tbl[i]?)) (hg : ws.all goodWord = true) : ∀ w ∈ ws, w ∈ lw_all := by
  intro w h
  have h1 := List.all_eq_true.mp hg w h
  rw [hp] at h
  obtain ⟨i, -, hi⟩ := List.mem_filterMap.mp h
  exact lw_w i hi h1
/-- the words of a contract for the method y with code b, L locals, answer r -/
abbrev ws_ (y : MethodName) (b : ByteArray) (L : Nat) (r : Option FieldType) : List Cond := Cond.code y b L r :: lw_all
theorem lw_meth {y : MethodName} {b : ByteArray} {L : Nat} {r : Option FieldType} (h : Cond.code y b L r ∈ lw_all) : GoodIn lw_all (ws_ y b L r) := by
  intro w hw
  rcases List.mem_cons.mp hw with e | e
  · rw [e]
    exact lw_self _ h
  · exact lw_self _ e
theorem lw_app {a c : List Cond} (ha : ∀ w ∈ a, w ∈ lw_all) (hc : GoodIn lw_all c) : GoodIn lw_all (a ++ c) := by
  intro w hw
  rcases List.mem_append.mp hw with e | e
  · exact lw_self w (ha w e)
  · exact hc w e
/-- what a call through an object asks: cwV n hts (lw_V ..) -/
theorem lw_V {own : String} {idx : Nat} {C : String} {y : MethodName} {b : ByteArray} {L : Nat} {r : Option FieldType} (h1 : Cond.methodLink own idx y ∈ lw_all) (h2 : Cond.instanceMethod y ∈ lw_all) (h3 : Cond.selects C y y ∈ lw_all) (h4 : Cond.initialized C ∈ lw_all) (h5 : Cond.code y b L r ∈ lw_all) : GoodIn lw_all (wsV own idx C y (ws_ y b L r)) := by
  refine lw_app ?_ (lw_meth h5)
  intro w hw
  simp only [List.mem_cons, List.not_mem_nil, or_false] at hw
  rcases hw with e | e | e | e
  · rw [e]; exact h1
  · rw [e]; exact h2
  · rw [e]; exact h3
  · rw [e]; exact h4
/-- what a static call asks: va_cwS n hts (lw_S ..) -/
theorem lw_S {own : String} {idx : Nat} {y : MethodName} {b : ByteArray} {L : Nat} {r : Option FieldType} (h1 : Cond.methodLink own idx y ∈ lw_all) (h2 : Cond.static y ∈ lw_all) (h3 : Cond.initialized y.cls ∈ lw_all) (h4 : Cond.code y b L r ∈ lw_all) : GoodIn lw_all (va_wsS own idx y (ws_ y b L r)) := by
  refine lw_app ?_ (lw_meth h4)
  intro w hw
  simp only [List.mem_cons, List.not_mem_nil, or_false] at hw
  rcases hw with e | e | e
  · rw [e]; exact h1
  · rw [e]; exact h2
  · rw [e]; exact h3
/-- the words of a contract for a method WITH HANDLERS (hh: its table) -/
abbrev wsW_ (y : MethodName) (b : ByteArray) (L : Nat) (r : Option FieldType) (hh : List (Nat × Nat × Nat × Nat)) : List Cond := Cond.codeWith y b L r hh :: lw_all
theorem lw_methW {y : MethodName} {b : ByteArray} {L : Nat} {r : Option FieldType} {hh : List (Nat × Nat × Nat × Nat)} (h : Cond.codeWith y b L r hh ∈ lw_all) : GoodIn lw_all (wsW_ y b L r hh) := by
  intro w hw
  rcases List.mem_cons.mp hw with e | e
  · rw [e]
    exact lw_self _ h
  · exact lw_self _ e
/-- any list of words by their places (lw_in), good -/
theorem lw_good {ws : List Cond} (h : ∀ w ∈ ws, w ∈ lw_all) : GoodIn lw_all ws := fun w hw => lw_self w (h w hw)
/-- what a call of a method with handlers asks: vx_cwVW n hts (lw_VW ..), vx_cwSW n hts (lw_SW ..) -/
theorem lw_VW {own : String} {idx : Nat} {C : String} {y : MethodName} {b : ByteArray} {L : Nat} {r : Option FieldType} {hh : List (Nat × Nat × Nat × Nat)} (h1 : Cond.methodLink own idx y ∈ lw_all) (h2 : Cond.instanceMethod y ∈ lw_all) (h3 : Cond.selects C y y ∈ lw_all) (h4 : Cond.initialized C ∈ lw_all) (h5 : Cond.codeWith y b L r hh ∈ lw_all) : GoodIn lw_all (wsV own idx C y (wsW_ y b L r hh)) := by
  refine lw_app ?_ (lw_methW h5)
  intro w hw
  simp only [List.mem_cons, List.not_mem_nil, or_false] at hw
  rcases hw with e | e | e | e
  · rw [e]; exact h1
  · rw [e]; exact h2
  · rw [e]; exact h3
  · rw [e]; exact h4
theorem lw_SW {own : String} {idx : Nat} {y : MethodName} {b : ByteArray} {L : Nat} {r : Option FieldType} {hh : List (Nat × Nat × Nat × Nat)} (h1 : Cond.methodLink own idx y ∈ lw_all) (h2 : Cond.static y ∈ lw_all) (h3 : Cond.initialized y.cls ∈ lw_all) (h4 : Cond.codeWith y b L r hh ∈ lw_all) : GoodIn lw_all (va_wsS own idx y (wsW_ y b L r hh)) := by
  refine lw_app ?_ (lw_methW h4)
  intro w hw
  simp only [List.mem_cons, List.not_mem_nil, or_false] at hw
  rcases hw with e | e | e
  · rw [e]; exact h1
  · rw [e]; exact h2
  · rw [e]; exact h3
/-- a word by its place in its run of the tables -/
theorem lw_at {r : List Cond} (hr : ∀ w ∈ r, w ∈ lw_tbl) {w : Cond} (i : Nat) (h : r[i]? = some w) : w ∈ lw_tbl := hr w (List.mem_of_getElem? h)
theorem lw_g {w : Cond} (h : w ∈ lw_tbl) (g : goodWord w = true) : w ∈ lw_all := List.mem_filter.mpr ⟨h, g⟩
theorem lw_ms : ∀ w ∈ k2_sels lw_privs, w ∈ lw_tbl := fun w h => show w ∈ k2_sels lw_privs ++ tables_1 from List.mem_append_left _ h
theorem lw_m1 : ∀ w ∈ tables_1_1, w ∈ lw_tbl := fun w h => show w ∈ k2_sels lw_privs ++ tables_1 from List.mem_append_right (k2_sels lw_privs) (show w ∈ tables_1 from List.mem_append_left _ h)
theorem lw_m2 : ∀ w ∈ tables_1_2, w ∈ lw_tbl := fun w h => show w ∈ k2_sels lw_privs ++ tables_1 from List.mem_append_right (k2_sels lw_privs) (show w ∈ tables_1 from List.mem_append_right _ (List.mem_append_left _ h))
theorem lw_m3 : ∀ w ∈ tables_1_3, w ∈ lw_tbl := fun w h => show w ∈ k2_sels lw_privs ++ tables_1 from List.mem_append_right (k2_sels lw_privs) (show w ∈ tables_1 from List.mem_append_right _ (List.mem_append_right _ (List.mem_append_left _ h)))
theorem lw_m4 : ∀ w ∈ tables_1_4, w ∈ lw_tbl := fun w h => show w ∈ k2_sels lw_privs ++ tables_1 from List.mem_append_right (k2_sels lw_privs) (show w ∈ tables_1 from List.mem_append_right _ (List.mem_append_right _ (List.mem_append_right _ (List.mem_append_left _ h))))
theorem lw_m5 : ∀ w ∈ tables_1_5, w ∈ lw_tbl := fun w h => show w ∈ k2_sels lw_privs ++ tables_1 from List.mem_append_right (k2_sels lw_privs) (show w ∈ tables_1 from List.mem_append_right _ (List.mem_append_right _ (List.mem_append_right _ (List.mem_append_right _ (List.mem_append_left _ h)))))
theorem lw_m6 : ∀ w ∈ tables_1_6, w ∈ lw_tbl := fun w h => show w ∈ k2_sels lw_privs ++ tables_1 from List.mem_append_right (k2_sels lw_privs) (show w ∈ tables_1 from List.mem_append_right _ (List.mem_append_right _ (List.mem_append_right _ (List.mem_append_right _ (List.mem_append_right _ (List.mem_append_left _ h))))))
theorem lw_m7 : ∀ w ∈ tables_1_7, w ∈ lw_tbl := fun w h => show w ∈ k2_sels lw_privs ++ tables_1 from List.mem_append_right (k2_sels lw_privs) (show w ∈ tables_1 from List.mem_append_right _ (List.mem_append_right _ (List.mem_append_right _ (List.mem_append_right _ (List.mem_append_right _ (List.mem_append_right _ h))))))
theorem qs0 : (Cond.selects "PrayerMatsFace" ⟨"PrayerMatsFace", "refuse", "(I)I"⟩ ⟨"PrayerMatsFace", "refuse", "(I)I"⟩) ∈ lw_all := lw_g (lw_at lw_ms 0 rfl) rfl
theorem qs1 : (Cond.selects "java/util/ArrayList" ⟨"java/util/ArrayList", "add", "(Ljava/lang/Object;[Ljava/lang/Object;I)V"⟩ ⟨"java/util/ArrayList", "add", "(Ljava/lang/Object;[Ljava/lang/Object;I)V"⟩) ∈ lw_all := lw_g (lw_at lw_ms 1 rfl) rfl
theorem qs2 : (Cond.selects "java/util/ArrayList" ⟨"java/util/ArrayList", "grow", "()[Ljava/lang/Object;"⟩ ⟨"java/util/ArrayList", "grow", "()[Ljava/lang/Object;"⟩) ∈ lw_all := lw_g (lw_at lw_ms 2 rfl) rfl
theorem qs3 : (Cond.selects "java/util/ArrayList" ⟨"java/util/ArrayList", "grow", "(I)[Ljava/lang/Object;"⟩ ⟨"java/util/ArrayList", "grow", "(I)[Ljava/lang/Object;"⟩) ∈ lw_all := lw_g (lw_at lw_ms 3 rfl) rfl
theorem qs4 : (Cond.selects "PrayerMatsFace$Reader" ⟨"PrayerMatsFace$Reader", "here", "()I"⟩ ⟨"PrayerMatsFace$Reader", "here", "()I"⟩) ∈ lw_all := lw_g (lw_at lw_ms 4 rfl) rfl
theorem qs5 : (Cond.selects "PrayerMatsFace$Reader" ⟨"PrayerMatsFace$Reader", "person", "()V"⟩ ⟨"PrayerMatsFace$Reader", "person", "()V"⟩) ∈ lw_all := lw_g (lw_at lw_ms 5 rfl) rfl
theorem qs6 : (Cond.selects "PrayerMatsFace$Reader" ⟨"PrayerMatsFace$Reader", "digit", "()I"⟩ ⟨"PrayerMatsFace$Reader", "digit", "()I"⟩) ∈ lw_all := lw_g (lw_at lw_ms 6 rfl) rfl
theorem qs7 : (Cond.selects "java/lang/Throwable" ⟨"java/lang/Throwable", "fillInStackTrace", "(I)Ljava/lang/Throwable;"⟩ ⟨"java/lang/Throwable", "fillInStackTrace", "(I)Ljava/lang/Throwable;"⟩) ∈ lw_all := lw_g (lw_at lw_ms 7 rfl) rfl
theorem qs8 : (Cond.selects "PrayerMatsFace$Reader" ⟨"PrayerMatsFace$Reader", "two", "()I"⟩ ⟨"PrayerMatsFace$Reader", "two", "()I"⟩) ∈ lw_all := lw_g (lw_at lw_ms 8 rfl) rfl
theorem qs9 : (Cond.selects "PrayerMatsFace$Reader" ⟨"PrayerMatsFace$Reader", "ends", "()V"⟩ ⟨"PrayerMatsFace$Reader", "ends", "()V"⟩) ∈ lw_all := lw_g (lw_at lw_ms 9 rfl) rfl
theorem qs10 : (Cond.selects "PrayerMatsFace$Reader" ⟨"PrayerMatsFace$Reader", "well", "(Z)Z"⟩ ⟨"PrayerMatsFace$Reader", "well", "(Z)Z"⟩) ∈ lw_all := lw_g (lw_at lw_ms 10 rfl) rfl
theorem qs11 : (Cond.selects "PrayerMatsFace$Reader" ⟨"PrayerMatsFace$Reader", "hours", "()V"⟩ ⟨"PrayerMatsFace$Reader", "hours", "()V"⟩) ∈ lw_all := lw_g (lw_at lw_ms 11 rfl) rfl
theorem qs12 : (Cond.selects "PrayerMatsFace$Reader" ⟨"PrayerMatsFace$Reader", "quarrel", "()V"⟩ ⟨"PrayerMatsFace$Reader", "quarrel", "()V"⟩) ∈ lw_all := lw_g (lw_at lw_ms 12 rfl) rfl
theorem qs13 : (Cond.selects "PrayerMatsFace$Reader" ⟨"PrayerMatsFace$Reader", "areBoth", "(II)Z"⟩ ⟨"PrayerMatsFace$Reader", "areBoth", "(II)Z"⟩) ∈ lw_all := lw_g (lw_at lw_ms 13 rfl) rfl
theorem qs14 : (Cond.selects "PrayerMatsFace$Reader" ⟨"PrayerMatsFace$Reader", "mat", "()V"⟩ ⟨"PrayerMatsFace$Reader", "mat", "()V"⟩) ∈ lw_all := lw_g (lw_at lw_ms 14 rfl) rfl
theorem qs15 : (Cond.selects "PrayerMatsFace$Reader" ⟨"PrayerMatsFace$Reader", "days", "()V"⟩ ⟨"PrayerMatsFace$Reader", "days", "()V"⟩) ∈ lw_all := lw_g (lw_at lw_ms 15 rfl) rfl
theorem qs16 : (Cond.selects "PrayerMatsFace$Quarter" ⟨"PrayerMatsFace$Quarter", "kneel", "(III)V"⟩ ⟨"PrayerMatsFace$Quarter", "kneel", "(III)V"⟩) ∈ lw_all := lw_g (lw_at lw_ms 16 rfl) rfl
theorem qs17 : (Cond.selects "PrayerMatsFace" ⟨"PrayerMatsFace", "isPerson", "(I)Z"⟩ ⟨"PrayerMatsFace", "isPerson", "(I)Z"⟩) ∈ lw_all := lw_g (lw_at lw_ms 17 rfl) rfl
theorem qs18 : (Cond.selects "PrayerMatsFace" ⟨"PrayerMatsFace", "areTwo", "(II)Z"⟩ ⟨"PrayerMatsFace", "areTwo", "(II)Z"⟩) ∈ lw_all := lw_g (lw_at lw_ms 18 rfl) rfl
theorem qs19 : (Cond.selects "PrayerMatsFace" ⟨"PrayerMatsFace", "remembers", "()V"⟩ ⟨"PrayerMatsFace", "remembers", "()V"⟩) ∈ lw_all := lw_g (lw_at lw_ms 19 rfl) rfl
theorem qs20 : (Cond.selects "PrayerMatsFace" ⟨"PrayerMatsFace", "goesOn", "(I)V"⟩ ⟨"PrayerMatsFace", "goesOn", "(I)V"⟩) ∈ lw_all := lw_g (lw_at lw_ms 20 rfl) rfl
theorem qs21 : (Cond.selects "PrayerMatsFace" ⟨"PrayerMatsFace", "whenMended", "(II)I"⟩ ⟨"PrayerMatsFace", "whenMended", "(II)I"⟩) ∈ lw_all := lw_g (lw_at lw_ms 21 rfl) rfl
theorem qs22 : (Cond.selects "PrayerMatsFace" ⟨"PrayerMatsFace", "refuseFar", "(I)I"⟩ ⟨"PrayerMatsFace", "refuseFar", "(I)I"⟩) ∈ lw_all := lw_g (lw_at lw_ms 22 rfl) rfl
theorem qs23 : (Cond.selects "PrayerMatsFace" ⟨"PrayerMatsFace", "findsPairing", "(Z)V"⟩ ⟨"PrayerMatsFace", "findsPairing", "(Z)V"⟩) ∈ lw_all := lw_g (lw_at lw_ms 23 rfl) rfl
theorem qs24 : (Cond.selects "PrayerMatsFace" ⟨"PrayerMatsFace", "eachPairing", "(IZ)V"⟩ ⟨"PrayerMatsFace", "eachPairing", "(IZ)V"⟩) ∈ lw_all := lw_g (lw_at lw_ms 24 rfl) rfl
theorem qs25 : (Cond.selects "PrayerMatsFace" ⟨"PrayerMatsFace", "looksAt", "(Z)V"⟩ ⟨"PrayerMatsFace", "looksAt", "(Z)V"⟩) ∈ lw_all := lw_g (lw_at lw_ms 25 rfl) rfl
theorem qs26 : (Cond.selects "PrayerMatsFace" ⟨"PrayerMatsFace", "keepsPairing", "()V"⟩ ⟨"PrayerMatsFace", "keepsPairing", "()V"⟩) ∈ lw_all := lw_g (lw_at lw_ms 26 rfl) rfl
theorem qs27 : (Cond.selects "PrayerMatsFace" ⟨"PrayerMatsFace", "favourite", "(I)I"⟩ ⟨"PrayerMatsFace", "favourite", "(I)I"⟩) ∈ lw_all := lw_g (lw_at lw_ms 27 rfl) rfl
theorem qs28 : (Cond.selects "PrayerMatsFace" ⟨"PrayerMatsFace", "supposes", "(III)V"⟩ ⟨"PrayerMatsFace", "supposes", "(III)V"⟩) ∈ lw_all := lw_g (lw_at lw_ms 28 rfl) rfl
theorem qs29 : (Cond.selects "PrayerMatsFace" ⟨"PrayerMatsFace", "isQuarrelSo", "(II)Z"⟩ ⟨"PrayerMatsFace", "isQuarrelSo", "(II)Z"⟩) ∈ lw_all := lw_g (lw_at lw_ms 29 rfl) rfl
theorem qs30 : (Cond.selects "PrayerMatsFace" ⟨"PrayerMatsFace", "refuseWide", "(I)J"⟩ ⟨"PrayerMatsFace", "refuseWide", "(I)J"⟩) ∈ lw_all := lw_g (lw_at lw_ms 30 rfl) rfl
theorem qs31 : (Cond.selects "PrayerMatsFace" ⟨"PrayerMatsFace", "quarrelBy", "(IIII)I"⟩ ⟨"PrayerMatsFace", "quarrelBy", "(IIII)I"⟩) ∈ lw_all := lw_g (lw_at lw_ms 31 rfl) rfl
theorem qs32 : (Cond.selects "PrayerMatsFace" ⟨"PrayerMatsFace", "comingAt", "(I)I"⟩ ⟨"PrayerMatsFace", "comingAt", "(I)I"⟩) ∈ lw_all := lw_g (lw_at lw_ms 32 rfl) rfl
theorem qs33 : (Cond.selects "PrayerMatsFace" ⟨"PrayerMatsFace", "isWanted", "(I)Z"⟩ ⟨"PrayerMatsFace", "isWanted", "(I)Z"⟩) ∈ lw_all := lw_g (lw_at lw_ms 33 rfl) rfl
theorem qs34 : (Cond.selects "PrayerMatsFace" ⟨"PrayerMatsFace", "allDoubled", "(I)I"⟩ ⟨"PrayerMatsFace", "allDoubled", "(I)I"⟩) ∈ lw_all := lw_g (lw_at lw_ms 34 rfl) rfl
theorem qs35 : (Cond.selects "PrayerMatsFace" ⟨"PrayerMatsFace", "drawn", "(I)I"⟩ ⟨"PrayerMatsFace", "drawn", "(I)I"⟩) ∈ lw_all := lw_g (lw_at lw_ms 35 rfl) rfl
theorem qs36 : (Cond.selects "PrayerMatsFace" ⟨"PrayerMatsFace", "allComing", "()I"⟩ ⟨"PrayerMatsFace", "allComing", "()I"⟩) ∈ lw_all := lw_g (lw_at lw_ms 36 rfl) rfl
theorem qs37 : (Cond.selects "PrayerMatsFaceModel" ⟨"PrayerMatsFaceModel", "refuse", "(I)I"⟩ ⟨"PrayerMatsFaceModel", "refuse", "(I)I"⟩) ∈ lw_all := lw_g (lw_at lw_ms 37 rfl) rfl
theorem qs38 : (Cond.selects "PrayerMatsFaceModel" ⟨"PrayerMatsFaceModel", "readStatement", "()V"⟩ ⟨"PrayerMatsFaceModel", "readStatement", "()V"⟩) ∈ lw_all := lw_g (lw_at lw_ms 38 rfl) rfl
theorem qs39 : (Cond.selects "PrayerMatsFaceModel" ⟨"PrayerMatsFaceModel", "here", "()I"⟩ ⟨"PrayerMatsFaceModel", "here", "()I"⟩) ∈ lw_all := lw_g (lw_at lw_ms 39 rfl) rfl
theorem qs40 : (Cond.selects "PrayerMatsFaceModel" ⟨"PrayerMatsFaceModel", "readNumbers", "(II)V"⟩ ⟨"PrayerMatsFaceModel", "readNumbers", "(II)V"⟩) ∈ lw_all := lw_g (lw_at lw_ms 40 rfl) rfl
theorem qs41 : (Cond.selects "PrayerMatsFaceModel" ⟨"PrayerMatsFaceModel", "readDigits", "(I)I"⟩ ⟨"PrayerMatsFaceModel", "readDigits", "(I)I"⟩) ∈ lw_all := lw_g (lw_at lw_ms 41 rfl) rfl
theorem qs42 : (Cond.selects "PrayerMatsFaceModel" ⟨"PrayerMatsFaceModel", "think", "()V"⟩ ⟨"PrayerMatsFaceModel", "think", "()V"⟩) ∈ lw_all := lw_g (lw_at lw_ms 42 rfl) rfl
theorem qs43 : (Cond.selects "PrayerMatsFaceModel" ⟨"PrayerMatsFaceModel", "carryAll", "([IZ)V"⟩ ⟨"PrayerMatsFaceModel", "carryAll", "([IZ)V"⟩) ∈ lw_all := lw_g (lw_at lw_ms 43 rfl) rfl
theorem qs44 : (Cond.selects "PrayerMatsFaceModel" ⟨"PrayerMatsFaceModel", "carry", "(I)I"⟩ ⟨"PrayerMatsFaceModel", "carry", "(I)I"⟩) ∈ lw_all := lw_g (lw_at lw_ms 44 rfl) rfl
theorem qs45 : (Cond.selects "PrayerMatsFaceModel" ⟨"PrayerMatsFaceModel", "comesTold", "(I)Z"⟩ ⟨"PrayerMatsFaceModel", "comesTold", "(I)Z"⟩) ∈ lw_all := lw_g (lw_at lw_ms 45 rfl) rfl
theorem qs46 : (Cond.selects "PrayerMatsFaceModel" ⟨"PrayerMatsFaceModel", "oneComes", "(III)V"⟩ ⟨"PrayerMatsFaceModel", "oneComes", "(III)V"⟩) ∈ lw_all := lw_g (lw_at lw_ms 46 rfl) rfl
theorem qs47 : (Cond.selects "PrayerMatsFaceModel" ⟨"PrayerMatsFaceModel", "setQuarrel", "(III)V"⟩ ⟨"PrayerMatsFaceModel", "setQuarrel", "(III)V"⟩) ∈ lw_all := lw_g (lw_at lw_ms 47 rfl) rfl
theorem qs48 : (Cond.selects "PrayerMatsFaceModel" ⟨"PrayerMatsFaceModel", "isOne", "(I)Z"⟩ ⟨"PrayerMatsFaceModel", "isOne", "(I)Z"⟩) ∈ lw_all := lw_g (lw_at lw_ms 48 rfl) rfl
theorem qs49 : (Cond.selects "PrayerMatsFaceModel" ⟨"PrayerMatsFaceModel", "areTwo", "(II)Z"⟩ ⟨"PrayerMatsFaceModel", "areTwo", "(II)Z"⟩) ∈ lw_all := lw_g (lw_at lw_ms 49 rfl) rfl
theorem qs50 : (Cond.selects "PrayerMatsFaceModel" ⟨"PrayerMatsFaceModel", "joinOrNot", "(II)V"⟩ ⟨"PrayerMatsFaceModel", "joinOrNot", "(II)V"⟩) ∈ lw_all := lw_g (lw_at lw_ms 50 rfl) rfl
theorem qs51 : (Cond.selects "PrayerMatsFaceModel" ⟨"PrayerMatsFaceModel", "leaveMat", "(I)V"⟩ ⟨"PrayerMatsFaceModel", "leaveMat", "(I)V"⟩) ∈ lw_all := lw_g (lw_at lw_ms 51 rfl) rfl
theorem qs52 : (Cond.selects "PrayerMatsFaceModel" ⟨"PrayerMatsFaceModel", "join", "(II)V"⟩ ⟨"PrayerMatsFaceModel", "join", "(II)V"⟩) ∈ lw_all := lw_g (lw_at lw_ms 52 rfl) rfl
theorem qs53 : (Cond.selects "PrayerMatsFaceModel" ⟨"PrayerMatsFaceModel", "goDays", "(I)V"⟩ ⟨"PrayerMatsFaceModel", "goDays", "(I)V"⟩) ∈ lw_all := lw_g (lw_at lw_ms 53 rfl) rfl
theorem qs54 : (Cond.selects "PrayerMatsFaceModel" ⟨"PrayerMatsFaceModel", "dayBy", "(II)V"⟩ ⟨"PrayerMatsFaceModel", "dayBy", "(II)V"⟩) ∈ lw_all := lw_g (lw_at lw_ms 54 rfl) rfl
theorem qs55 : (Cond.selects "PrayerMatsFaceModel" ⟨"PrayerMatsFaceModel", "behindHour", "(IIIII)I"⟩ ⟨"PrayerMatsFaceModel", "behindHour", "(IIIII)I"⟩) ∈ lw_all := lw_g (lw_at lw_ms 55 rfl) rfl
theorem qs56 : (Cond.selects "PrayerMatsFaceModel" ⟨"PrayerMatsFaceModel", "quarrelOf", "(II)I"⟩ ⟨"PrayerMatsFaceModel", "quarrelOf", "(II)I"⟩) ∈ lw_all := lw_g (lw_at lw_ms 56 rfl) rfl
theorem qs57 : (Cond.selects "PrayerMatsFaceModel" ⟨"PrayerMatsFaceModel", "softOf", "(I)I"⟩ ⟨"PrayerMatsFaceModel", "softOf", "(I)I"⟩) ∈ lw_all := lw_g (lw_at lw_ms 57 rfl) rfl
theorem qs58 : (Cond.selects "PrayerMatsFaceModel" ⟨"PrayerMatsFaceModel", "soreOf", "(I)I"⟩ ⟨"PrayerMatsFaceModel", "soreOf", "(I)I"⟩) ∈ lw_all := lw_g (lw_at lw_ms 58 rfl) rfl
theorem qs59 : (Cond.selects "PrayerMatsFaceModel" ⟨"PrayerMatsFaceModel", "again", "()V"⟩ ⟨"PrayerMatsFaceModel", "again", "()V"⟩) ∈ lw_all := lw_g (lw_at lw_ms 59 rfl) rfl
theorem qs60 : (Cond.selects "PrayerMatsFaceModel" ⟨"PrayerMatsFaceModel", "charmOf", "(I)I"⟩ ⟨"PrayerMatsFaceModel", "charmOf", "(I)I"⟩) ∈ lw_all := lw_g (lw_at lw_ms 60 rfl) rfl
theorem qs61 : (Cond.selects "PrayerMatsFaceModel" ⟨"PrayerMatsFaceModel", "likesOf", "(II)I"⟩ ⟨"PrayerMatsFaceModel", "likesOf", "(II)I"⟩) ∈ lw_all := lw_g (lw_at lw_ms 61 rfl) rfl
theorem qs62 : (Cond.selects "PrayerMatsFaceModel" ⟨"PrayerMatsFaceModel", "keepTurn", "()V"⟩ ⟨"PrayerMatsFaceModel", "keepTurn", "()V"⟩) ∈ lw_all := lw_g (lw_at lw_ms 62 rfl) rfl
theorem qs63 : (Cond.selects "PrayerMatsFaceModel" ⟨"PrayerMatsFaceModel", "matsOf", "()I"⟩ ⟨"PrayerMatsFaceModel", "matsOf", "()I"⟩) ∈ lw_all := lw_g (lw_at lw_ms 63 rfl) rfl
theorem qs64 : (Cond.selects "PrayerMatsFaceModel" ⟨"PrayerMatsFaceModel", "allOf", "()I"⟩ ⟨"PrayerMatsFaceModel", "allOf", "()I"⟩) ∈ lw_all := lw_g (lw_at lw_ms 64 rfl) rfl
theorem qs65 : (Cond.selects "PrayerMatsFaceModel" ⟨"PrayerMatsFaceModel", "zerosOf", "()I"⟩ ⟨"PrayerMatsFaceModel", "zerosOf", "()I"⟩) ∈ lw_all := lw_g (lw_at lw_ms 65 rfl) rfl
theorem qs66 : (Cond.selects "PrayerMatsFaceModel" ⟨"PrayerMatsFaceModel", "worstTwo", "()I"⟩ ⟨"PrayerMatsFaceModel", "worstTwo", "()I"⟩) ∈ lw_all := lw_g (lw_at lw_ms 66 rfl) rfl
theorem qs67 : (Cond.selects "PrayerMatsFaceModel" ⟨"PrayerMatsFaceModel", "zeroIn", "(II)I"⟩ ⟨"PrayerMatsFaceModel", "zeroIn", "(II)I"⟩) ∈ lw_all := lw_g (lw_at lw_ms 67 rfl) rfl
theorem qs68 : (Cond.selects "PrayerMatsFaceModel" ⟨"PrayerMatsFaceModel", "wouldLeave", "(II)Z"⟩ ⟨"PrayerMatsFaceModel", "wouldLeave", "(II)Z"⟩) ∈ lw_all := lw_g (lw_at lw_ms 68 rfl) rfl
theorem qs69 : (Cond.selects "PrayerMatsFaceModel" ⟨"PrayerMatsFaceModel", "ratherThanMate", "(II)Z"⟩ ⟨"PrayerMatsFaceModel", "ratherThanMate", "(II)Z"⟩) ∈ lw_all := lw_g (lw_at lw_ms 69 rfl) rfl
theorem qs70 : (Cond.selects "PrayerMatsFaceModel" ⟨"PrayerMatsFaceModel", "leavingTwos", "()I"⟩ ⟨"PrayerMatsFaceModel", "leavingTwos", "()I"⟩) ∈ lw_all := lw_g (lw_at lw_ms 70 rfl) rfl
theorem qs71 : (Cond.selects "PrayerMatsFaceModel" ⟨"PrayerMatsFaceModel", "ridBits", "()I"⟩ ⟨"PrayerMatsFaceModel", "ridBits", "()I"⟩) ∈ lw_all := lw_g (lw_at lw_ms 71 rfl) rfl
theorem qs72 : (Cond.selects "PrayerMatsFaceModel" ⟨"PrayerMatsFaceModel", "layPairings", "()V"⟩ ⟨"PrayerMatsFaceModel", "layPairings", "()V"⟩) ∈ lw_all := lw_g (lw_at lw_ms 72 rfl) rfl
theorem qs73 : (Cond.selects "PrayerMatsFaceModel" ⟨"PrayerMatsFaceModel", "layTrial", "(II)Z"⟩ ⟨"PrayerMatsFaceModel", "layTrial", "(II)Z"⟩) ∈ lw_all := lw_g (lw_at lw_ms 73 rfl) rfl
theorem qs74 : (Cond.selects "PrayerMatsFaceModel" ⟨"PrayerMatsFaceModel", "takePairing", "(I)V"⟩ ⟨"PrayerMatsFaceModel", "takePairing", "(I)V"⟩) ∈ lw_all := lw_g (lw_at lw_ms 74 rfl) rfl
theorem qs75 : (Cond.selects "PrayerMatsFaceModel" ⟨"PrayerMatsFaceModel", "mostLiked", "(I)I"⟩ ⟨"PrayerMatsFaceModel", "mostLiked", "(I)I"⟩) ∈ lw_all := lw_g (lw_at lw_ms 75 rfl) rfl
theorem qs76 : (Cond.selects "PrayerMatsFaceModel" ⟨"PrayerMatsFaceModel", "allLikes", "()I"⟩ ⟨"PrayerMatsFaceModel", "allLikes", "()I"⟩) ∈ lw_all := lw_g (lw_at lw_ms 76 rfl) rfl
theorem qs77 : (Cond.selects "PrayerMatsFaceModel" ⟨"PrayerMatsFaceModel", "isRow", "(II)Z"⟩ ⟨"PrayerMatsFaceModel", "isRow", "(II)Z"⟩) ∈ lw_all := lw_g (lw_at lw_ms 77 rfl) rfl
theorem qs78 : (Cond.selects "PrayerMatsFaceModel" ⟨"PrayerMatsFaceModel", "comingAt", "(I)I"⟩ ⟨"PrayerMatsFaceModel", "comingAt", "(I)I"⟩) ∈ lw_all := lw_g (lw_at lw_ms 78 rfl) rfl
theorem qs79 : (Cond.selects "PrayerMatsFaceModel" ⟨"PrayerMatsFaceModel", "isPeace", "()Z"⟩ ⟨"PrayerMatsFaceModel", "isPeace", "()Z"⟩) ∈ lw_all := lw_g (lw_at lw_ms 79 rfl) rfl
theorem qs80 : (Cond.selects "PrayerMatsFaceModel" ⟨"PrayerMatsFaceModel", "drawBelow", "(I)I"⟩ ⟨"PrayerMatsFaceModel", "drawBelow", "(I)I"⟩) ∈ lw_all := lw_g (lw_at lw_ms 80 rfl) rfl
