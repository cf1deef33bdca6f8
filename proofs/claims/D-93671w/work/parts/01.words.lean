-- ===== PART A: goes FIRST, ahead of the names: the tables' words, and 'selects' of the private methods out of them =====
/-- a private method of a class that the tables say can be made, by its rows of tables_1 -/
def lw_okq (q : MethodName × Nat) : Prop := (q.1.cls ≠ "java/lang/invoke/MethodHandle" ∧ q.1.cls ≠ "java/lang/invoke/VarHandle") ∧ Cond.instantiable q.1.cls q.2 ∈ tables_1 ∧ Cond.privateMethod q.1 ∈ tables_1 ∧ Cond.instanceMethod q.1 ∈ tables_1
set_option maxRecDepth 100000
theorem lw_t1 {w : Cond} (h : w ∈ tables_1_1) : w ∈ tables_1 := List.mem_append_left _ h
theorem lw_t2 {w : Cond} (h : w ∈ tables_1_2) : w ∈ tables_1 := List.mem_append_right _ (List.mem_append_left _ h)
theorem lw_t3 {w : Cond} (h : w ∈ tables_1_3) : w ∈ tables_1 := List.mem_append_right _ (List.mem_append_right _ (List.mem_append_left _ h))
theorem lw_t4 {w : Cond} (h : w ∈ tables_1_4) : w ∈ tables_1 := List.mem_append_right _ (List.mem_append_right _ (List.mem_append_right _ (List.mem_append_left _ h)))
theorem lw_t5 {w : Cond} (h : w ∈ tables_1_5) : w ∈ tables_1 := List.mem_append_right _ (List.mem_append_right _ (List.mem_append_right _ (List.mem_append_right _ (List.mem_append_left _ h))))
theorem lw_t6 {w : Cond} (h : w ∈ tables_1_6) : w ∈ tables_1 := List.mem_append_right _ (List.mem_append_right _ (List.mem_append_right _ (List.mem_append_right _ (List.mem_append_right _ (List.mem_append_left _ h)))))
theorem lw_t7 {w : Cond} (h : w ∈ tables_1_7) : w ∈ tables_1 := List.mem_append_right _ (List.mem_append_right _ (List.mem_append_right _ (List.mem_append_right _ (List.mem_append_right _ (List.mem_append_right _ (List.mem_append_left _ h))))))
theorem lw_t8 {w : Cond} (h : w ∈ tables_1_8) : w ∈ tables_1 := List.mem_append_right _ (List.mem_append_right _ (List.mem_append_right _ (List.mem_append_right _ (List.mem_append_right _ (List.mem_append_right _ (List.mem_append_right _ h))))))
theorem lw_p0 : lw_okq (⟨"GateRoad$Reader", "next", "()V"⟩, 8) := ⟨⟨by decide +kernel, by decide +kernel⟩, lw_t1 (List.mem_of_getElem? (i := 151) rfl), lw_t1 (List.mem_of_getElem? (i := 190) rfl), lw_t1 (List.mem_of_getElem? (i := 191) rfl)⟩
theorem lw_p1 : lw_okq (⟨"GateRoad$Reader", "here", "()I"⟩, 8) := ⟨⟨by decide +kernel, by decide +kernel⟩, lw_t1 (List.mem_of_getElem? (i := 151) rfl), lw_t1 (List.mem_of_getElem? (i := 194) rfl), lw_t1 (List.mem_of_getElem? (i := 195) rfl)⟩
theorem lw_p2 : lw_okq (⟨"GateRoad$Reader", "fault", "()LGateRoad$Fault;"⟩, 8) := ⟨⟨by decide +kernel, by decide +kernel⟩, lw_t1 (List.mem_of_getElem? (i := 151) rfl), lw_t2 (List.mem_of_getElem? (i := 127) rfl), lw_t2 (List.mem_of_getElem? (i := 128) rfl)⟩
theorem lw_p3 : lw_okq (⟨"java/lang/Throwable", "fillInStackTrace", "(I)Ljava/lang/Throwable;"⟩, 6) := ⟨⟨by decide +kernel, by decide +kernel⟩, lw_t2 (List.mem_of_getElem? (i := 168) rfl), lw_t2 (List.mem_of_getElem? (i := 166) rfl), lw_t2 (List.mem_of_getElem? (i := 167) rfl)⟩
theorem lw_p4 : lw_okq (⟨"GateRoad$Reader", "is", "(Ljava/lang/String;)Z"⟩, 8) := ⟨⟨by decide +kernel, by decide +kernel⟩, lw_t1 (List.mem_of_getElem? (i := 151) rfl), lw_t3 (List.mem_of_getElem? (i := 16) rfl), lw_t3 (List.mem_of_getElem? (i := 17) rfl)⟩
theorem lw_p5 : lw_okq (⟨"GateRoad$Reader", "either", "()LGateRoad$Node;"⟩, 8) := ⟨⟨by decide +kernel, by decide +kernel⟩, lw_t1 (List.mem_of_getElem? (i := 151) rfl), lw_t3 (List.mem_of_getElem? (i := 28) rfl), lw_t3 (List.mem_of_getElem? (i := 29) rfl)⟩
theorem lw_p6 : lw_okq (⟨"GateRoad$Reader", "both", "()LGateRoad$Node;"⟩, 8) := ⟨⟨by decide +kernel, by decide +kernel⟩, lw_t1 (List.mem_of_getElem? (i := 151) rfl), lw_t3 (List.mem_of_getElem? (i := 32) rfl), lw_t3 (List.mem_of_getElem? (i := 33) rfl)⟩
theorem lw_p7 : lw_okq (⟨"GateRoad$Reader", "not", "()LGateRoad$Node;"⟩, 8) := ⟨⟨by decide +kernel, by decide +kernel⟩, lw_t1 (List.mem_of_getElem? (i := 151) rfl), lw_t3 (List.mem_of_getElem? (i := 36) rfl), lw_t3 (List.mem_of_getElem? (i := 37) rfl)⟩
theorem lw_p8 : lw_okq (⟨"GateRoad$Reader", "opens", "()V"⟩, 8) := ⟨⟨by decide +kernel, by decide +kernel⟩, lw_t1 (List.mem_of_getElem? (i := 151) rfl), lw_t3 (List.mem_of_getElem? (i := 41) rfl), lw_t3 (List.mem_of_getElem? (i := 42) rfl)⟩
theorem lw_p9 : lw_okq (⟨"GateRoad$Reader", "sum", "()LGateRoad$Node;"⟩, 8) := ⟨⟨by decide +kernel, by decide +kernel⟩, lw_t1 (List.mem_of_getElem? (i := 151) rfl), lw_t3 (List.mem_of_getElem? (i := 58) rfl), lw_t3 (List.mem_of_getElem? (i := 59) rfl)⟩
theorem lw_p10 : lw_okq (⟨"GateRoad$Reader", "term", "()LGateRoad$Node;"⟩, 8) := ⟨⟨by decide +kernel, by decide +kernel⟩, lw_t1 (List.mem_of_getElem? (i := 151) rfl), lw_t3 (List.mem_of_getElem? (i := 62) rfl), lw_t3 (List.mem_of_getElem? (i := 63) rfl)⟩
theorem lw_p11 : lw_okq (⟨"GateRoad$Reader", "one", "()LGateRoad$Node;"⟩, 8) := ⟨⟨by decide +kernel, by decide +kernel⟩, lw_t1 (List.mem_of_getElem? (i := 151) rfl), lw_t3 (List.mem_of_getElem? (i := 66) rfl), lw_t3 (List.mem_of_getElem? (i := 67) rfl)⟩
theorem lw_p12 : lw_okq (⟨"GateRoad$Reader", "takes", "(I)Z"⟩, 8) := ⟨⟨by decide +kernel, by decide +kernel⟩, lw_t1 (List.mem_of_getElem? (i := 151) rfl), lw_t3 (List.mem_of_getElem? (i := 85) rfl), lw_t3 (List.mem_of_getElem? (i := 86) rfl)⟩
theorem lw_p13 : lw_okq (⟨"GateRoad", "isSort", "(I)Z"⟩, 32) := ⟨⟨by decide +kernel, by decide +kernel⟩, lw_t1 (List.mem_of_getElem? (i := 39) rfl), lw_t3 (List.mem_of_getElem? (i := 232) rfl), lw_t3 (List.mem_of_getElem? (i := 233) rfl)⟩
theorem lw_p14 : lw_okq (⟨"java/util/ArrayList", "add", "(Ljava/lang/Object;[Ljava/lang/Object;I)V"⟩, 3) := ⟨⟨by decide +kernel, by decide +kernel⟩, lw_t1 (List.mem_of_getElem? (i := 47) rfl), lw_t4 (List.mem_of_getElem? (i := 93) rfl), lw_t4 (List.mem_of_getElem? (i := 94) rfl)⟩
theorem lw_p15 : lw_okq (⟨"java/util/ArrayList", "grow", "()[Ljava/lang/Object;"⟩, 3) := ⟨⟨by decide +kernel, by decide +kernel⟩, lw_t1 (List.mem_of_getElem? (i := 47) rfl), lw_t4 (List.mem_of_getElem? (i := 97) rfl), lw_t4 (List.mem_of_getElem? (i := 98) rfl)⟩
def lw_privs_1 : List (MethodName × Nat) := [(⟨"GateRoad$Reader", "next", "()V"⟩, 8), (⟨"GateRoad$Reader", "here", "()I"⟩, 8), (⟨"GateRoad$Reader", "fault", "()LGateRoad$Fault;"⟩, 8), (⟨"java/lang/Throwable", "fillInStackTrace", "(I)Ljava/lang/Throwable;"⟩, 6), (⟨"GateRoad$Reader", "is", "(Ljava/lang/String;)Z"⟩, 8), (⟨"GateRoad$Reader", "either", "()LGateRoad$Node;"⟩, 8), (⟨"GateRoad$Reader", "both", "()LGateRoad$Node;"⟩, 8), (⟨"GateRoad$Reader", "not", "()LGateRoad$Node;"⟩, 8), (⟨"GateRoad$Reader", "opens", "()V"⟩, 8), (⟨"GateRoad$Reader", "sum", "()LGateRoad$Node;"⟩, 8), (⟨"GateRoad$Reader", "term", "()LGateRoad$Node;"⟩, 8), (⟨"GateRoad$Reader", "one", "()LGateRoad$Node;"⟩, 8), (⟨"GateRoad$Reader", "takes", "(I)Z"⟩, 8), (⟨"GateRoad", "isSort", "(I)Z"⟩, 32), (⟨"java/util/ArrayList", "add", "(Ljava/lang/Object;[Ljava/lang/Object;I)V"⟩, 3), (⟨"java/util/ArrayList", "grow", "()[Ljava/lang/Object;"⟩, 3)]
theorem lw_r1 : ∀ q ∈ lw_privs_1, lw_okq q := List.forall_mem_cons.mpr ⟨lw_p0, List.forall_mem_cons.mpr ⟨lw_p1, List.forall_mem_cons.mpr ⟨lw_p2, List.forall_mem_cons.mpr ⟨lw_p3, List.forall_mem_cons.mpr ⟨lw_p4, List.forall_mem_cons.mpr ⟨lw_p5, List.forall_mem_cons.mpr ⟨lw_p6, List.forall_mem_cons.mpr ⟨lw_p7, List.forall_mem_cons.mpr ⟨lw_p8, List.forall_mem_cons.mpr ⟨lw_p9, List.forall_mem_cons.mpr ⟨lw_p10, List.forall_mem_cons.mpr ⟨lw_p11, List.forall_mem_cons.mpr ⟨lw_p12, List.forall_mem_cons.mpr ⟨lw_p13, List.forall_mem_cons.mpr ⟨lw_p14, List.forall_mem_cons.mpr ⟨lw_p15, fun _ h => absurd h List.not_mem_nil⟩⟩⟩⟩⟩⟩⟩⟩⟩⟩⟩⟩⟩⟩⟩⟩
theorem lw_p16 : lw_okq (⟨"java/util/ArrayList", "grow", "(I)[Ljava/lang/Object;"⟩, 3) := ⟨⟨by decide +kernel, by decide +kernel⟩, lw_t1 (List.mem_of_getElem? (i := 47) rfl), lw_t4 (List.mem_of_getElem? (i := 101) rfl), lw_t4 (List.mem_of_getElem? (i := 102) rfl)⟩
theorem lw_p17 : lw_okq (⟨"GateRoad", "isWay", "(I)Z"⟩, 32) := ⟨⟨by decide +kernel, by decide +kernel⟩, lw_t1 (List.mem_of_getElem? (i := 39) rfl), lw_t4 (List.mem_of_getElem? (i := 145) rfl), lw_t4 (List.mem_of_getElem? (i := 146) rfl)⟩
theorem lw_p18 : lw_okq (⟨"GateRoad", "runs", "(LGateRoad$Way;)V"⟩, 32) := ⟨⟨by decide +kernel, by decide +kernel⟩, lw_t1 (List.mem_of_getElem? (i := 39) rfl), lw_t4 (List.mem_of_getElem? (i := 191) rfl), lw_t4 (List.mem_of_getElem? (i := 192) rfl)⟩
theorem lw_p19 : lw_okq (⟨"GateRoad", "first", "(LGateRoad$Way;II)I"⟩, 32) := ⟨⟨by decide +kernel, by decide +kernel⟩, lw_t1 (List.mem_of_getElem? (i := 39) rfl), lw_t4 (List.mem_of_getElem? (i := 195) rfl), lw_t4 (List.mem_of_getElem? (i := 196) rfl)⟩
theorem lw_p20 : lw_okq (⟨"GateRoad", "waits", "(LGateRoad$Way;III)Z"⟩, 32) := ⟨⟨by decide +kernel, by decide +kernel⟩, lw_t1 (List.mem_of_getElem? (i := 39) rfl), lw_t4 (List.mem_of_getElem? (i := 199) rfl), lw_t4 (List.mem_of_getElem? (i := 200) rfl)⟩
theorem lw_p21 : lw_okq (⟨"GateRoad", "keyOf", "(LGateRoad$Way;I)I"⟩, 32) := ⟨⟨by decide +kernel, by decide +kernel⟩, lw_t1 (List.mem_of_getElem? (i := 39) rfl), lw_t4 (List.mem_of_getElem? (i := 203) rfl), lw_t4 (List.mem_of_getElem? (i := 204) rfl)⟩
theorem lw_p22 : lw_okq (⟨"GateRoad", "waiting", "(LGateRoad$Way;II)I"⟩, 32) := ⟨⟨by decide +kernel, by decide +kernel⟩, lw_t1 (List.mem_of_getElem? (i := 39) rfl), lw_t4 (List.mem_of_getElem? (i := 230) rfl), lw_t4 (List.mem_of_getElem? (i := 231) rfl)⟩
theorem lw_p23 : lw_okq (⟨"GateRoad", "cost", "(LGateRoad$Way;I)I"⟩, 32) := ⟨⟨by decide +kernel, by decide +kernel⟩, lw_t1 (List.mem_of_getElem? (i := 39) rfl), lw_t4 (List.mem_of_getElem? (i := 234) rfl), lw_t4 (List.mem_of_getElem? (i := 235) rfl)⟩
theorem lw_p24 : lw_okq (⟨"GateRoad", "asks", "(LGateRoad$Way;II)I"⟩, 32) := ⟨⟨by decide +kernel, by decide +kernel⟩, lw_t1 (List.mem_of_getElem? (i := 39) rfl), lw_t4 (List.mem_of_getElem? (i := 238) rfl), lw_t4 (List.mem_of_getElem? (i := 239) rfl)⟩
theorem lw_p25 : lw_okq (⟨"GateRoad", "paid", "(LGateRoad$Way;I)I"⟩, 32) := ⟨⟨by decide +kernel, by decide +kernel⟩, lw_t1 (List.mem_of_getElem? (i := 39) rfl), lw_t5 (List.mem_of_getElem? (i := 3) rfl), lw_t5 (List.mem_of_getElem? (i := 4) rfl)⟩
theorem lw_p26 : lw_okq (⟨"GateRoad", "says", "(IIIIIII)I"⟩, 32) := ⟨⟨by decide +kernel, by decide +kernel⟩, lw_t1 (List.mem_of_getElem? (i := 39) rfl), lw_t5 (List.mem_of_getElem? (i := 22) rfl), lw_t5 (List.mem_of_getElem? (i := 23) rfl)⟩
theorem lw_p27 : lw_okq (⟨"GateRoad", "whole", "(LGateRoad$Way;)J"⟩, 32) := ⟨⟨by decide +kernel, by decide +kernel⟩, lw_t1 (List.mem_of_getElem? (i := 39) rfl), lw_t5 (List.mem_of_getElem? (i := 78) rfl), lw_t5 (List.mem_of_getElem? (i := 79) rfl)⟩
theorem lw_p28 : lw_okq (⟨"GateRoad", "restless", "(LGateRoad$Way;)I"⟩, 32) := ⟨⟨by decide +kernel, by decide +kernel⟩, lw_t1 (List.mem_of_getElem? (i := 39) rfl), lw_t5 (List.mem_of_getElem? (i := 87) rfl), lw_t5 (List.mem_of_getElem? (i := 88) rfl)⟩
theorem lw_p29 : lw_okq (⟨"GateRoad", "betters", "(LGateRoad$Way;I)Z"⟩, 32) := ⟨⟨by decide +kernel, by decide +kernel⟩, lw_t1 (List.mem_of_getElem? (i := 39) rfl), lw_t5 (List.mem_of_getElem? (i := 91) rfl), lw_t5 (List.mem_of_getElem? (i := 92) rfl)⟩
theorem lw_p30 : lw_okq (⟨"GateRoad", "moves", "(LGateRoad$Way;I)I"⟩, 32) := ⟨⟨by decide +kernel, by decide +kernel⟩, lw_t1 (List.mem_of_getElem? (i := 39) rfl), lw_t5 (List.mem_of_getElem? (i := 100) rfl), lw_t5 (List.mem_of_getElem? (i := 101) rfl)⟩
theorem lw_p31 : lw_okq (⟨"GateRoad", "trial", "(LGateRoad$Way;)LGateRoad$Way;"⟩, 32) := ⟨⟨by decide +kernel, by decide +kernel⟩, lw_t1 (List.mem_of_getElem? (i := 39) rfl), lw_t5 (List.mem_of_getElem? (i := 108) rfl), lw_t5 (List.mem_of_getElem? (i := 109) rfl)⟩
def lw_privs_2 : List (MethodName × Nat) := [(⟨"java/util/ArrayList", "grow", "(I)[Ljava/lang/Object;"⟩, 3), (⟨"GateRoad", "isWay", "(I)Z"⟩, 32), (⟨"GateRoad", "runs", "(LGateRoad$Way;)V"⟩, 32), (⟨"GateRoad", "first", "(LGateRoad$Way;II)I"⟩, 32), (⟨"GateRoad", "waits", "(LGateRoad$Way;III)Z"⟩, 32), (⟨"GateRoad", "keyOf", "(LGateRoad$Way;I)I"⟩, 32), (⟨"GateRoad", "waiting", "(LGateRoad$Way;II)I"⟩, 32), (⟨"GateRoad", "cost", "(LGateRoad$Way;I)I"⟩, 32), (⟨"GateRoad", "asks", "(LGateRoad$Way;II)I"⟩, 32), (⟨"GateRoad", "paid", "(LGateRoad$Way;I)I"⟩, 32), (⟨"GateRoad", "says", "(IIIIIII)I"⟩, 32), (⟨"GateRoad", "whole", "(LGateRoad$Way;)J"⟩, 32), (⟨"GateRoad", "restless", "(LGateRoad$Way;)I"⟩, 32), (⟨"GateRoad", "betters", "(LGateRoad$Way;I)Z"⟩, 32), (⟨"GateRoad", "moves", "(LGateRoad$Way;I)I"⟩, 32), (⟨"GateRoad", "trial", "(LGateRoad$Way;)LGateRoad$Way;"⟩, 32)]
theorem lw_r2 : ∀ q ∈ lw_privs_2, lw_okq q := List.forall_mem_cons.mpr ⟨lw_p16, List.forall_mem_cons.mpr ⟨lw_p17, List.forall_mem_cons.mpr ⟨lw_p18, List.forall_mem_cons.mpr ⟨lw_p19, List.forall_mem_cons.mpr ⟨lw_p20, List.forall_mem_cons.mpr ⟨lw_p21, List.forall_mem_cons.mpr ⟨lw_p22, List.forall_mem_cons.mpr ⟨lw_p23, List.forall_mem_cons.mpr ⟨lw_p24, List.forall_mem_cons.mpr ⟨lw_p25, List.forall_mem_cons.mpr ⟨lw_p26, List.forall_mem_cons.mpr ⟨lw_p27, List.forall_mem_cons.mpr ⟨lw_p28, List.forall_mem_cons.mpr ⟨lw_p29, List.forall_mem_cons.mpr ⟨lw_p30, List.forall_mem_cons.mpr ⟨lw_p31, fun _ h => absurd h List.not_mem_nil⟩⟩⟩⟩⟩⟩⟩⟩⟩⟩⟩⟩⟩⟩⟩⟩
theorem lw_p32 : lw_okq (⟨"GateRoad", "there", "(I)LGateRoad$Sheet;"⟩, 32) := ⟨⟨by decide +kernel, by decide +kernel⟩, lw_t1 (List.mem_of_getElem? (i := 39) rfl), lw_t5 (List.mem_of_getElem? (i := 196) rfl), lw_t5 (List.mem_of_getElem? (i := 197) rfl)⟩
theorem lw_p33 : lw_okq (⟨"GateRoad", "isCart", "(I)Z"⟩, 32) := ⟨⟨by decide +kernel, by decide +kernel⟩, lw_t1 (List.mem_of_getElem? (i := 39) rfl), lw_t5 (List.mem_of_getElem? (i := 239) rfl), lw_t6 (List.mem_of_getElem? (i := 0) rfl)⟩
theorem lw_p34 : lw_okq (⟨"GateRoadModel", "first", "(IIIII)V"⟩, 49) := ⟨⟨by decide +kernel, by decide +kernel⟩, lw_t6 (List.mem_of_getElem? (i := 50) rfl), lw_t6 (List.mem_of_getElem? (i := 68) rfl), lw_t6 (List.mem_of_getElem? (i := 69) rfl)⟩
theorem lw_p35 : lw_okq (⟨"GateRoadModel", "isSort", "(I)Z"⟩, 49) := ⟨⟨by decide +kernel, by decide +kernel⟩, lw_t6 (List.mem_of_getElem? (i := 50) rfl), lw_t7 (List.mem_of_getElem? (i := 4) rfl), lw_t7 (List.mem_of_getElem? (i := 5) rfl)⟩
theorem lw_p36 : lw_okq (⟨"GateRoadModel", "next", "()V"⟩, 49) := ⟨⟨by decide +kernel, by decide +kernel⟩, lw_t6 (List.mem_of_getElem? (i := 50) rfl), lw_t7 (List.mem_of_getElem? (i := 29) rfl), lw_t7 (List.mem_of_getElem? (i := 30) rfl)⟩
theorem lw_p37 : lw_okq (⟨"GateRoadModel", "letters", "()J"⟩, 49) := ⟨⟨by decide +kernel, by decide +kernel⟩, lw_t6 (List.mem_of_getElem? (i := 50) rfl), lw_t7 (List.mem_of_getElem? (i := 33) rfl), lw_t7 (List.mem_of_getElem? (i := 34) rfl)⟩
theorem lw_p38 : lw_okq (⟨"GateRoadModel", "eRead", "()Z"⟩, 49) := ⟨⟨by decide +kernel, by decide +kernel⟩, lw_t6 (List.mem_of_getElem? (i := 50) rfl), lw_t7 (List.mem_of_getElem? (i := 37) rfl), lw_t7 (List.mem_of_getElem? (i := 38) rfl)⟩
theorem lw_p39 : lw_okq (⟨"GateRoadModel", "puts", "(I)V"⟩, 49) := ⟨⟨by decide +kernel, by decide +kernel⟩, lw_t6 (List.mem_of_getElem? (i := 50) rfl), lw_t7 (List.mem_of_getElem? (i := 42) rfl), lw_t7 (List.mem_of_getElem? (i := 43) rfl)⟩
theorem lw_p40 : lw_okq (⟨"GateRoadModel", "unwinds", "(I)V"⟩, 49) := ⟨⟨by decide +kernel, by decide +kernel⟩, lw_t6 (List.mem_of_getElem? (i := 50) rfl), lw_t7 (List.mem_of_getElem? (i := 46) rfl), lw_t7 (List.mem_of_getElem? (i := 47) rfl)⟩
theorem lw_p41 : lw_okq (⟨"GateRoadModel", "opensOne", "(I)Z"⟩, 49) := ⟨⟨by decide +kernel, by decide +kernel⟩, lw_t6 (List.mem_of_getElem? (i := 50) rfl), lw_t7 (List.mem_of_getElem? (i := 53) rfl), lw_t7 (List.mem_of_getElem? (i := 54) rfl)⟩
theorem lw_p42 : lw_okq (⟨"GateRoadModel", "holds", "(I)V"⟩, 49) := ⟨⟨by decide +kernel, by decide +kernel⟩, lw_t6 (List.mem_of_getElem? (i := 50) rfl), lw_t7 (List.mem_of_getElem? (i := 57) rfl), lw_t7 (List.mem_of_getElem? (i := 58) rfl)⟩
theorem lw_p43 : lw_okq (⟨"GateRoadModel", "signOf", "()I"⟩, 49) := ⟨⟨by decide +kernel, by decide +kernel⟩, lw_t6 (List.mem_of_getElem? (i := 50) rfl), lw_t7 (List.mem_of_getElem? (i := 61) rfl), lw_t7 (List.mem_of_getElem? (i := 62) rfl)⟩
theorem lw_p44 : lw_okq (⟨"GateRoadModel", "between", "(I)Z"⟩, 49) := ⟨⟨by decide +kernel, by decide +kernel⟩, lw_t6 (List.mem_of_getElem? (i := 50) rfl), lw_t7 (List.mem_of_getElem? (i := 65) rfl), lw_t7 (List.mem_of_getElem? (i := 66) rfl)⟩
theorem lw_p45 : lw_okq (⟨"GateRoadModel", "isWay", "(I)Z"⟩, 49) := ⟨⟨by decide +kernel, by decide +kernel⟩, lw_t6 (List.mem_of_getElem? (i := 50) rfl), lw_t7 (List.mem_of_getElem? (i := 84) rfl), lw_t7 (List.mem_of_getElem? (i := 85) rfl)⟩
theorem lw_p46 : lw_okq (⟨"GateRoadModel", "isOf", "(II)Z"⟩, 49) := ⟨⟨by decide +kernel, by decide +kernel⟩, lw_t6 (List.mem_of_getElem? (i := 50) rfl), lw_t7 (List.mem_of_getElem? (i := 88) rfl), lw_t7 (List.mem_of_getElem? (i := 89) rfl)⟩
theorem lw_p47 : lw_okq (⟨"GateRoadModel", "lays", "(I)V"⟩, 49) := ⟨⟨by decide +kernel, by decide +kernel⟩, lw_t6 (List.mem_of_getElem? (i := 50) rfl), lw_t7 (List.mem_of_getElem? (i := 100) rfl), lw_t7 (List.mem_of_getElem? (i := 101) rfl)⟩
def lw_privs_3 : List (MethodName × Nat) := [(⟨"GateRoad", "there", "(I)LGateRoad$Sheet;"⟩, 32), (⟨"GateRoad", "isCart", "(I)Z"⟩, 32), (⟨"GateRoadModel", "first", "(IIIII)V"⟩, 49), (⟨"GateRoadModel", "isSort", "(I)Z"⟩, 49), (⟨"GateRoadModel", "next", "()V"⟩, 49), (⟨"GateRoadModel", "letters", "()J"⟩, 49), (⟨"GateRoadModel", "eRead", "()Z"⟩, 49), (⟨"GateRoadModel", "puts", "(I)V"⟩, 49), (⟨"GateRoadModel", "unwinds", "(I)V"⟩, 49), (⟨"GateRoadModel", "opensOne", "(I)Z"⟩, 49), (⟨"GateRoadModel", "holds", "(I)V"⟩, 49), (⟨"GateRoadModel", "signOf", "()I"⟩, 49), (⟨"GateRoadModel", "between", "(I)Z"⟩, 49), (⟨"GateRoadModel", "isWay", "(I)Z"⟩, 49), (⟨"GateRoadModel", "isOf", "(II)Z"⟩, 49), (⟨"GateRoadModel", "lays", "(I)V"⟩, 49)]
theorem lw_r3 : ∀ q ∈ lw_privs_3, lw_okq q := List.forall_mem_cons.mpr ⟨lw_p32, List.forall_mem_cons.mpr ⟨lw_p33, List.forall_mem_cons.mpr ⟨lw_p34, List.forall_mem_cons.mpr ⟨lw_p35, List.forall_mem_cons.mpr ⟨lw_p36, List.forall_mem_cons.mpr ⟨lw_p37, List.forall_mem_cons.mpr ⟨lw_p38, List.forall_mem_cons.mpr ⟨lw_p39, List.forall_mem_cons.mpr ⟨lw_p40, List.forall_mem_cons.mpr ⟨lw_p41, List.forall_mem_cons.mpr ⟨lw_p42, List.forall_mem_cons.mpr ⟨lw_p43, List.forall_mem_cons.mpr ⟨lw_p44, List.forall_mem_cons.mpr ⟨lw_p45, List.forall_mem_cons.mpr ⟨lw_p46, List.forall_mem_cons.mpr ⟨lw_p47, fun _ h => absurd h List.not_mem_nil⟩⟩⟩⟩⟩⟩⟩⟩⟩⟩⟩⟩⟩⟩⟩⟩
theorem lw_p48 : lw_okq (⟨"GateRoadModel", "goes", "(I)V"⟩, 49) := ⟨⟨by decide +kernel, by decide +kernel⟩, lw_t6 (List.mem_of_getElem? (i := 50) rfl), lw_t7 (List.mem_of_getElem? (i := 104) rfl), lw_t7 (List.mem_of_getElem? (i := 105) rfl)⟩
theorem lw_p49 : lw_okq (⟨"GateRoadModel", "nextAt", "(III)I"⟩, 49) := ⟨⟨by decide +kernel, by decide +kernel⟩, lw_t6 (List.mem_of_getElem? (i := 50) rfl), lw_t7 (List.mem_of_getElem? (i := 108) rfl), lw_t7 (List.mem_of_getElem? (i := 109) rfl)⟩
theorem lw_p50 : lw_okq (⟨"GateRoadModel", "orderOf", "(II)I"⟩, 49) := ⟨⟨by decide +kernel, by decide +kernel⟩, lw_t6 (List.mem_of_getElem? (i := 50) rfl), lw_t7 (List.mem_of_getElem? (i := 112) rfl), lw_t7 (List.mem_of_getElem? (i := 113) rfl)⟩
theorem lw_p51 : lw_okq (⟨"GateRoadModel", "cost", "(II)I"⟩, 49) := ⟨⟨by decide +kernel, by decide +kernel⟩, lw_t6 (List.mem_of_getElem? (i := 50) rfl), lw_t7 (List.mem_of_getElem? (i := 116) rfl), lw_t7 (List.mem_of_getElem? (i := 117) rfl)⟩
theorem lw_p52 : lw_okq (⟨"GateRoadModel", "names", "(II)V"⟩, 49) := ⟨⟨by decide +kernel, by decide +kernel⟩, lw_t6 (List.mem_of_getElem? (i := 50) rfl), lw_t7 (List.mem_of_getElem? (i := 120) rfl), lw_t7 (List.mem_of_getElem? (i := 121) rfl)⟩
theorem lw_p53 : lw_okq (⟨"GateRoadModel", "paid", "(II)I"⟩, 49) := ⟨⟨by decide +kernel, by decide +kernel⟩, lw_t6 (List.mem_of_getElem? (i := 50) rfl), lw_t7 (List.mem_of_getElem? (i := 124) rfl), lw_t7 (List.mem_of_getElem? (i := 125) rfl)⟩
theorem lw_p54 : lw_okq (⟨"GateRoadModel", "worth", "(I)I"⟩, 49) := ⟨⟨by decide +kernel, by decide +kernel⟩, lw_t6 (List.mem_of_getElem? (i := 50) rfl), lw_t7 (List.mem_of_getElem? (i := 128) rfl), lw_t7 (List.mem_of_getElem? (i := 129) rfl)⟩
theorem lw_p55 : lw_okq (⟨"GateRoadModel", "lost", "(II)I"⟩, 49) := ⟨⟨by decide +kernel, by decide +kernel⟩, lw_t6 (List.mem_of_getElem? (i := 50) rfl), lw_t7 (List.mem_of_getElem? (i := 138) rfl), lw_t7 (List.mem_of_getElem? (i := 139) rfl)⟩
theorem lw_p56 : lw_okq (⟨"GateRoadModel", "costNow", "(I)J"⟩, 49) := ⟨⟨by decide +kernel, by decide +kernel⟩, lw_t6 (List.mem_of_getElem? (i := 50) rfl), lw_t7 (List.mem_of_getElem? (i := 155) rfl), lw_t7 (List.mem_of_getElem? (i := 156) rfl)⟩
theorem lw_p57 : lw_okq (⟨"GateRoadModel", "costAll", "(I)J"⟩, 49) := ⟨⟨by decide +kernel, by decide +kernel⟩, lw_t6 (List.mem_of_getElem? (i := 50) rfl), lw_t7 (List.mem_of_getElem? (i := 159) rfl), lw_t7 (List.mem_of_getElem? (i := 160) rfl)⟩
theorem lw_p58 : lw_okq (⟨"GateRoadModel", "looks", "(I)V"⟩, 49) := ⟨⟨by decide +kernel, by decide +kernel⟩, lw_t6 (List.mem_of_getElem? (i := 50) rfl), lw_t7 (List.mem_of_getElem? (i := 167) rfl), lw_t7 (List.mem_of_getElem? (i := 168) rfl)⟩
theorem lw_p59 : lw_okq (⟨"GateRoadModel", "costBy", "(III)I"⟩, 49) := ⟨⟨by decide +kernel, by decide +kernel⟩, lw_t6 (List.mem_of_getElem? (i := 50) rfl), lw_t7 (List.mem_of_getElem? (i := 171) rfl), lw_t7 (List.mem_of_getElem? (i := 172) rfl)⟩
theorem lw_p60 : lw_okq (⟨"GateRoadModel", "moves", "(II)I"⟩, 49) := ⟨⟨by decide +kernel, by decide +kernel⟩, lw_t6 (List.mem_of_getElem? (i := 50) rfl), lw_t7 (List.mem_of_getElem? (i := 179) rfl), lw_t7 (List.mem_of_getElem? (i := 180) rfl)⟩
theorem lw_p61 : lw_okq (⟨"GateRoadModel", "costWith", "(IIII)J"⟩, 49) := ⟨⟨by decide +kernel, by decide +kernel⟩, lw_t6 (List.mem_of_getElem? (i := 50) rfl), lw_t7 (List.mem_of_getElem? (i := 195) rfl), lw_t7 (List.mem_of_getElem? (i := 196) rfl)⟩
theorem lw_p62 : lw_okq (⟨"GateRoadModel", "waited", "(I)I"⟩, 49) := ⟨⟨by decide +kernel, by decide +kernel⟩, lw_t6 (List.mem_of_getElem? (i := 50) rfl), lw_t7 (List.mem_of_getElem? (i := 215) rfl), lw_t7 (List.mem_of_getElem? (i := 216) rfl)⟩
def lw_privs_4 : List (MethodName × Nat) := [(⟨"GateRoadModel", "goes", "(I)V"⟩, 49), (⟨"GateRoadModel", "nextAt", "(III)I"⟩, 49), (⟨"GateRoadModel", "orderOf", "(II)I"⟩, 49), (⟨"GateRoadModel", "cost", "(II)I"⟩, 49), (⟨"GateRoadModel", "names", "(II)V"⟩, 49), (⟨"GateRoadModel", "paid", "(II)I"⟩, 49), (⟨"GateRoadModel", "worth", "(I)I"⟩, 49), (⟨"GateRoadModel", "lost", "(II)I"⟩, 49), (⟨"GateRoadModel", "costNow", "(I)J"⟩, 49), (⟨"GateRoadModel", "costAll", "(I)J"⟩, 49), (⟨"GateRoadModel", "looks", "(I)V"⟩, 49), (⟨"GateRoadModel", "costBy", "(III)I"⟩, 49), (⟨"GateRoadModel", "moves", "(II)I"⟩, 49), (⟨"GateRoadModel", "costWith", "(IIII)J"⟩, 49), (⟨"GateRoadModel", "waited", "(I)I"⟩, 49)]
theorem lw_r4 : ∀ q ∈ lw_privs_4, lw_okq q := List.forall_mem_cons.mpr ⟨lw_p48, List.forall_mem_cons.mpr ⟨lw_p49, List.forall_mem_cons.mpr ⟨lw_p50, List.forall_mem_cons.mpr ⟨lw_p51, List.forall_mem_cons.mpr ⟨lw_p52, List.forall_mem_cons.mpr ⟨lw_p53, List.forall_mem_cons.mpr ⟨lw_p54, List.forall_mem_cons.mpr ⟨lw_p55, List.forall_mem_cons.mpr ⟨lw_p56, List.forall_mem_cons.mpr ⟨lw_p57, List.forall_mem_cons.mpr ⟨lw_p58, List.forall_mem_cons.mpr ⟨lw_p59, List.forall_mem_cons.mpr ⟨lw_p60, List.forall_mem_cons.mpr ⟨lw_p61, List.forall_mem_cons.mpr ⟨lw_p62, fun _ h => absurd h List.not_mem_nil⟩⟩⟩⟩⟩⟩⟩⟩⟩⟩⟩⟩⟩⟩⟩
def lw_privs : List (MethodName × Nat) := lw_privs_1 ++ (lw_privs_2 ++ (lw_privs_3 ++ (lw_privs_4)))
def lw_tbl : List Cond := k2_sels lw_privs ++ tables_1
theorem lw_privs_ok : ∀ q ∈ lw_privs, lw_okq q := by
  show ∀ q ∈ lw_privs_1 ++ (lw_privs_2 ++ (lw_privs_3 ++ (lw_privs_4))), lw_okq q
  exact List.forall_mem_append.mpr ⟨lw_r1, List.forall_mem_append.mpr ⟨lw_r2, List.forall_mem_append.mpr ⟨lw_r3, lw_r4⟩⟩⟩
-- ===== ONE list of words for every method: the tables' words that hold all through a run =====
def lw_all : List Cond := lw_tbl.filter goodWord
/-- a word of the tables by its place: claim/WORDS.tsv -/
theorem lw_w {w : Cond} (i : Nat) (h : lw_tbl[i]? = some w) (g : goodWord w = true) : w ∈ lw_all := List.mem_filter.mpr ⟨List.mem_of_getElem? h, g⟩
theorem lw_all_tbl {w : Cond} (h : w ∈ lw_all) : w ∈ lw_tbl := (List.mem_filter.mp h).1
theorem lw_self : GoodIn lw_all lw_all := fun w h => ⟨h, good_of_word (List.mem_filter.mp h).2⟩
/-- a class's field words, by their places -/
theorem lw_in (ws : List Cond) (ps : List Nat) (hp : ws = ps.filterMap (fun i => lw_tbl[i]?)) (hg : ws.all goodWord = true) : ∀ w ∈ ws, w ∈ lw_all := by
  intro w h
  have h1 := List.all_eq_true.mp hg w h
  rw [hp] at h
  obtain ⟨i, -, hi⟩ := List.mem_filterMap.mp h
  exact lw_w i hi h1
/-- the words of a contract for the method y with code b, L locals, answer r -/
abbrev ws_ (y : MethodName) (b : ByteArray) (L : Nat) (r : Option FieldType) : List Cond := Cond.code y b L r :: lw_all
theorem lw_meth {y : MethodName} {b : ByteArray} {L : Nat} {r : Option FieldType} (h : Cond.code y b L r ∈ lw_all) : GoodIn lw_all (ws_ y b L r) := by
  intro w hw
  rcases List.mem_cons.mp hw with e | e
  · rw [e]
    exact lw_self _ h
  · exact lw_self _ e
theorem lw_app {a c : List Cond} (ha : ∀ w ∈ a, w ∈ lw_all) (hc : GoodIn lw_all c) : GoodIn lw_all (a ++ c) := by
  intro w hw
  rcases List.mem_append.mp hw with e | e
  · exact lw_self w (ha w e)
  · exact hc w e
/-- what a call through an object asks: cwV n hts (lw_V ..) -/
theorem lw_V {own : String} {idx : Nat} {C : String} {y : MethodName} {b : ByteArray} {L : Nat} {r : Option FieldType} (h1 : Cond.methodLink own idx y ∈ lw_all) (h2 : Cond.instanceMethod y ∈ lw_all) (h3 : Cond.selects C y y ∈ lw_all) (h4 : Cond.initialized C ∈ lw_all) (h5 : Cond.code y b L r ∈ lw_all) : GoodIn lw_all (wsV own idx C y (ws_ y b L r)) := by
  refine lw_app ?_ (lw_meth h5)
  intro w hw
  simp only [List.mem_cons, List.not_mem_nil, or_false] at hw
  rcases hw with e | e | e | e
  · rw [e]; exact h1
  · rw [e]; exact h2
  · rw [e]; exact h3
  · rw [e]; exact h4
/-- what a static call asks: va_cwS n hts (lw_S ..) -/
theorem lw_S {own : String} {idx : Nat} {y : MethodName} {b : ByteArray} {L : Nat} {r : Option FieldType} (h1 : Cond.methodLink own idx y ∈ lw_all) (h2 : Cond.static y ∈ lw_all) (h3 : Cond.initialized y.cls ∈ lw_all) (h4 : Cond.code y b L r ∈ lw_all) : GoodIn lw_all (va_wsS own idx y (ws_ y b L r)) := by
  refine lw_app ?_ (lw_meth h4)
  intro w hw
  simp only [List.mem_cons, List.not_mem_nil, or_false] at hw
  rcases hw with e | e | e
  · rw [e]; exact h1
  · rw [e]; exact h2
  · rw [e]; exact h3
/-- the words of a contract for a method WITH HANDLERS (hh: its table) -/
abbrev wsW_ (y : MethodName) (b : ByteArray) (L : Nat) (r : Option FieldType) (hh : List (Nat × Nat × Nat × Nat)) : List Cond := Cond.codeWith y b L r hh :: lw_all
theorem lw_methW {y : MethodName} {b : ByteArray} {L : Nat} {r : Option FieldType} {hh : List (Nat × Nat × Nat × Nat)} (h : Cond.codeWith y b L r hh ∈ lw_all) : GoodIn lw_all (wsW_ y b L r hh) := by
  intro w hw
  rcases List.mem_cons.mp hw with e | e
  · rw [e]
    exact lw_self _ h
  · exact lw_self _ e
/-- any list of words by their places (lw_in), good -/
theorem lw_good {ws : List Cond} (h : ∀ w ∈ ws, w ∈ lw_all) : GoodIn lw_all ws := fun w hw => lw_self w (h w hw)
/-- what a call of a method with handlers asks: vx_cwVW n hts (lw_VW ..), vx_cwSW n hts (lw_SW ..) -/
theorem lw_VW {own : String} {idx : Nat} {C : String} {y : MethodName} {b : ByteArray} {L : Nat} {r : Option FieldType} {hh : List (Nat × Nat × Nat × Nat)} (h1 : Cond.methodLink own idx y ∈ lw_all) (h2 : Cond.instanceMethod y ∈ lw_all) (h3 : Cond.selects C y y ∈ lw_all) (h4 : Cond.initialized C ∈ lw_all) (h5 : Cond.codeWith y b L r hh ∈ lw_all) : GoodIn lw_all (wsV own idx C y (wsW_ y b L r hh)) := by
  refine lw_app ?_ (lw_methW h5)
  intro w hw
  simp only [List.mem_cons, List.not_mem_nil, or_false] at hw
  rcases hw with e | e | e | e
  · rw [e]; exact h1
  · rw [e]; exact h2
  · rw [e]; exact h3
  · rw [e]; exact h4
theorem lw_SW {own : String} {idx : Nat} {y : MethodName} {b : ByteArray} {L : Nat} {r : Option FieldType} {hh : List (Nat × Nat × Nat × Nat)} (h1 : Cond.methodLink own idx y ∈ lw_all) (h2 : Cond.static y ∈ lw_all) (h3 : Cond.initialized y.cls ∈ lw_all) (h4 : Cond.codeWith y b L r hh ∈ lw_all) : GoodIn lw_all (va_wsS own idx y (wsW_ y b L r hh)) := by
  refine lw_app ?_ (lw_methW h4)
  intro w hw
  simp only [List.mem_cons, List.not_mem_nil, or_false] at hw
  rcases hw with e | e | e
  · rw [e]; exact h1
  · rw [e]; exact h2
  · rw [e]; exact h3
/-- a word by its place in its run of the tables -/
theorem lw_at {r : List Cond} (hr : ∀ w ∈ r, w ∈ lw_tbl) {w : Cond} (i : Nat) (h : r[i]? = some w) : w ∈ lw_tbl := hr w (List.mem_of_getElem? h)
theorem lw_g {w : Cond} (h : w ∈ lw_tbl) (g : goodWord w = true) : w ∈ lw_all := List.mem_filter.mpr ⟨h, g⟩
theorem lw_ms : ∀ w ∈ k2_sels lw_privs, w ∈ lw_tbl := fun w h => show w ∈ k2_sels lw_privs ++ tables_1 from List.mem_append_left _ h
theorem lw_m1 : ∀ w ∈ tables_1_1, w ∈ lw_tbl := fun w h => show w ∈ k2_sels lw_privs ++ tables_1 from List.mem_append_right (k2_sels lw_privs) (show w ∈ tables_1 from List.mem_append_left _ h)
theorem lw_m2 : ∀ w ∈ tables_1_2, w ∈ lw_tbl := fun w h => show w ∈ k2_sels lw_privs ++ tables_1 from List.mem_append_right (k2_sels lw_privs) (show w ∈ tables_1 from List.mem_append_right _ (List.mem_append_left _ h))
theorem lw_m3 : ∀ w ∈ tables_1_3, w ∈ lw_tbl := fun w h => show w ∈ k2_sels lw_privs ++ tables_1 from List.mem_append_right (k2_sels lw_privs) (show w ∈ tables_1 from List.mem_append_right _ (List.mem_append_right _ (List.mem_append_left _ h)))
theorem lw_m4 : ∀ w ∈ tables_1_4, w ∈ lw_tbl := fun w h => show w ∈ k2_sels lw_privs ++ tables_1 from List.mem_append_right (k2_sels lw_privs) (show w ∈ tables_1 from List.mem_append_right _ (List.mem_append_right _ (List.mem_append_right _ (List.mem_append_left _ h))))
theorem lw_m5 : ∀ w ∈ tables_1_5, w ∈ lw_tbl := fun w h => show w ∈ k2_sels lw_privs ++ tables_1 from List.mem_append_right (k2_sels lw_privs) (show w ∈ tables_1 from List.mem_append_right _ (List.mem_append_right _ (List.mem_append_right _ (List.mem_append_right _ (List.mem_append_left _ h)))))
theorem lw_m6 : ∀ w ∈ tables_1_6, w ∈ lw_tbl := fun w h => show w ∈ k2_sels lw_privs ++ tables_1 from List.mem_append_right (k2_sels lw_privs) (show w ∈ tables_1 from List.mem_append_right _ (List.mem_append_right _ (List.mem_append_right _ (List.mem_append_right _ (List.mem_append_right _ (List.mem_append_left _ h))))))
theorem lw_m7 : ∀ w ∈ tables_1_7, w ∈ lw_tbl := fun w h => show w ∈ k2_sels lw_privs ++ tables_1 from List.mem_append_right (k2_sels lw_privs) (show w ∈ tables_1 from List.mem_append_right _ (List.mem_append_right _ (List.mem_append_right _ (List.mem_append_right _ (List.mem_append_right _ (List.mem_append_right _ (List.mem_append_left _ h)))))))
theorem lw_m8 : ∀ w ∈ tables_1_8, w ∈ lw_tbl := fun w h => show w ∈ k2_sels lw_privs ++ tables_1 from List.mem_append_right (k2_sels lw_privs) (show w ∈ tables_1 from List.mem_append_right _ (List.mem_append_right _ (List.mem_append_right _ (List.mem_append_right _ (List.mem_append_right _ (List.mem_append_right _ (List.mem_append_right _ h)))))))
theorem qs0 : (Cond.selects "GateRoad$Reader" ⟨"GateRoad$Reader", "next", "()V"⟩ ⟨"GateRoad$Reader", "next", "()V"⟩) ∈ lw_all := lw_g (lw_at lw_ms 0 rfl) rfl
theorem qs1 : (Cond.selects "GateRoad$Reader" ⟨"GateRoad$Reader", "here", "()I"⟩ ⟨"GateRoad$Reader", "here", "()I"⟩) ∈ lw_all := lw_g (lw_at lw_ms 1 rfl) rfl
theorem qs2 : (Cond.selects "GateRoad$Reader" ⟨"GateRoad$Reader", "fault", "()LGateRoad$Fault;"⟩ ⟨"GateRoad$Reader", "fault", "()LGateRoad$Fault;"⟩) ∈ lw_all := lw_g (lw_at lw_ms 2 rfl) rfl
theorem qs3 : (Cond.selects "java/lang/Throwable" ⟨"java/lang/Throwable", "fillInStackTrace", "(I)Ljava/lang/Throwable;"⟩ ⟨"java/lang/Throwable", "fillInStackTrace", "(I)Ljava/lang/Throwable;"⟩) ∈ lw_all := lw_g (lw_at lw_ms 3 rfl) rfl
theorem qs4 : (Cond.selects "GateRoad$Reader" ⟨"GateRoad$Reader", "is", "(Ljava/lang/String;)Z"⟩ ⟨"GateRoad$Reader", "is", "(Ljava/lang/String;)Z"⟩) ∈ lw_all := lw_g (lw_at lw_ms 4 rfl) rfl
theorem qs5 : (Cond.selects "GateRoad$Reader" ⟨"GateRoad$Reader", "either", "()LGateRoad$Node;"⟩ ⟨"GateRoad$Reader", "either", "()LGateRoad$Node;"⟩) ∈ lw_all := lw_g (lw_at lw_ms 5 rfl) rfl
theorem qs6 : (Cond.selects "GateRoad$Reader" ⟨"GateRoad$Reader", "both", "()LGateRoad$Node;"⟩ ⟨"GateRoad$Reader", "both", "()LGateRoad$Node;"⟩) ∈ lw_all := lw_g (lw_at lw_ms 6 rfl) rfl
theorem qs7 : (Cond.selects "GateRoad$Reader" ⟨"GateRoad$Reader", "not", "()LGateRoad$Node;"⟩ ⟨"GateRoad$Reader", "not", "()LGateRoad$Node;"⟩) ∈ lw_all := lw_g (lw_at lw_ms 7 rfl) rfl
theorem qs8 : (Cond.selects "GateRoad$Reader" ⟨"GateRoad$Reader", "opens", "()V"⟩ ⟨"GateRoad$Reader", "opens", "()V"⟩) ∈ lw_all := lw_g (lw_at lw_ms 8 rfl) rfl
theorem qs9 : (Cond.selects "GateRoad$Reader" ⟨"GateRoad$Reader", "sum", "()LGateRoad$Node;"⟩ ⟨"GateRoad$Reader", "sum", "()LGateRoad$Node;"⟩) ∈ lw_all := lw_g (lw_at lw_ms 9 rfl) rfl
theorem qs10 : (Cond.selects "GateRoad$Reader" ⟨"GateRoad$Reader", "term", "()LGateRoad$Node;"⟩ ⟨"GateRoad$Reader", "term", "()LGateRoad$Node;"⟩) ∈ lw_all := lw_g (lw_at lw_ms 10 rfl) rfl
theorem qs11 : (Cond.selects "GateRoad$Reader" ⟨"GateRoad$Reader", "one", "()LGateRoad$Node;"⟩ ⟨"GateRoad$Reader", "one", "()LGateRoad$Node;"⟩) ∈ lw_all := lw_g (lw_at lw_ms 11 rfl) rfl
theorem qs12 : (Cond.selects "GateRoad$Reader" ⟨"GateRoad$Reader", "takes", "(I)Z"⟩ ⟨"GateRoad$Reader", "takes", "(I)Z"⟩) ∈ lw_all := lw_g (lw_at lw_ms 12 rfl) rfl
theorem qs13 : (Cond.selects "GateRoad" ⟨"GateRoad", "isSort", "(I)Z"⟩ ⟨"GateRoad", "isSort", "(I)Z"⟩) ∈ lw_all := lw_g (lw_at lw_ms 13 rfl) rfl
theorem qs14 : (Cond.selects "java/util/ArrayList" ⟨"java/util/ArrayList", "add", "(Ljava/lang/Object;[Ljava/lang/Object;I)V"⟩ ⟨"java/util/ArrayList", "add", "(Ljava/lang/Object;[Ljava/lang/Object;I)V"⟩) ∈ lw_all := lw_g (lw_at lw_ms 14 rfl) rfl
theorem qs15 : (Cond.selects "java/util/ArrayList" ⟨"java/util/ArrayList", "grow", "()[Ljava/lang/Object;"⟩ ⟨"java/util/ArrayList", "grow", "()[Ljava/lang/Object;"⟩) ∈ lw_all := lw_g (lw_at lw_ms 15 rfl) rfl
theorem qs16 : (Cond.selects "java/util/ArrayList" ⟨"java/util/ArrayList", "grow", "(I)[Ljava/lang/Object;"⟩ ⟨"java/util/ArrayList", "grow", "(I)[Ljava/lang/Object;"⟩) ∈ lw_all := lw_g (lw_at lw_ms 16 rfl) rfl
theorem qs17 : (Cond.selects "GateRoad" ⟨"GateRoad", "isWay", "(I)Z"⟩ ⟨"GateRoad", "isWay", "(I)Z"⟩) ∈ lw_all := lw_g (lw_at lw_ms 17 rfl) rfl
theorem qs18 : (Cond.selects "GateRoad" ⟨"GateRoad", "runs", "(LGateRoad$Way;)V"⟩ ⟨"GateRoad", "runs", "(LGateRoad$Way;)V"⟩) ∈ lw_all := lw_g (lw_at lw_ms 18 rfl) rfl
theorem qs19 : (Cond.selects "GateRoad" ⟨"GateRoad", "first", "(LGateRoad$Way;II)I"⟩ ⟨"GateRoad", "first", "(LGateRoad$Way;II)I"⟩) ∈ lw_all := lw_g (lw_at lw_ms 19 rfl) rfl
theorem qs20 : (Cond.selects "GateRoad" ⟨"GateRoad", "waits", "(LGateRoad$Way;III)Z"⟩ ⟨"GateRoad", "waits", "(LGateRoad$Way;III)Z"⟩) ∈ lw_all := lw_g (lw_at lw_ms 20 rfl) rfl
theorem qs21 : (Cond.selects "GateRoad" ⟨"GateRoad", "keyOf", "(LGateRoad$Way;I)I"⟩ ⟨"GateRoad", "keyOf", "(LGateRoad$Way;I)I"⟩) ∈ lw_all := lw_g (lw_at lw_ms 21 rfl) rfl
theorem qs22 : (Cond.selects "GateRoad" ⟨"GateRoad", "waiting", "(LGateRoad$Way;II)I"⟩ ⟨"GateRoad", "waiting", "(LGateRoad$Way;II)I"⟩) ∈ lw_all := lw_g (lw_at lw_ms 22 rfl) rfl
theorem qs23 : (Cond.selects "GateRoad" ⟨"GateRoad", "cost", "(LGateRoad$Way;I)I"⟩ ⟨"GateRoad", "cost", "(LGateRoad$Way;I)I"⟩) ∈ lw_all := lw_g (lw_at lw_ms 23 rfl) rfl
theorem qs24 : (Cond.selects "GateRoad" ⟨"GateRoad", "asks", "(LGateRoad$Way;II)I"⟩ ⟨"GateRoad", "asks", "(LGateRoad$Way;II)I"⟩) ∈ lw_all := lw_g (lw_at lw_ms 24 rfl) rfl
theorem qs25 : (Cond.selects "GateRoad" ⟨"GateRoad", "paid", "(LGateRoad$Way;I)I"⟩ ⟨"GateRoad", "paid", "(LGateRoad$Way;I)I"⟩) ∈ lw_all := lw_g (lw_at lw_ms 25 rfl) rfl
theorem qs26 : (Cond.selects "GateRoad" ⟨"GateRoad", "says", "(IIIIIII)I"⟩ ⟨"GateRoad", "says", "(IIIIIII)I"⟩) ∈ lw_all := lw_g (lw_at lw_ms 26 rfl) rfl
theorem qs27 : (Cond.selects "GateRoad" ⟨"GateRoad", "whole", "(LGateRoad$Way;)J"⟩ ⟨"GateRoad", "whole", "(LGateRoad$Way;)J"⟩) ∈ lw_all := lw_g (lw_at lw_ms 27 rfl) rfl
theorem qs28 : (Cond.selects "GateRoad" ⟨"GateRoad", "restless", "(LGateRoad$Way;)I"⟩ ⟨"GateRoad", "restless", "(LGateRoad$Way;)I"⟩) ∈ lw_all := lw_g (lw_at lw_ms 28 rfl) rfl
theorem qs29 : (Cond.selects "GateRoad" ⟨"GateRoad", "betters", "(LGateRoad$Way;I)Z"⟩ ⟨"GateRoad", "betters", "(LGateRoad$Way;I)Z"⟩) ∈ lw_all := lw_g (lw_at lw_ms 29 rfl) rfl
theorem qs30 : (Cond.selects "GateRoad" ⟨"GateRoad", "moves", "(LGateRoad$Way;I)I"⟩ ⟨"GateRoad", "moves", "(LGateRoad$Way;I)I"⟩) ∈ lw_all := lw_g (lw_at lw_ms 30 rfl) rfl
theorem qs31 : (Cond.selects "GateRoad" ⟨"GateRoad", "trial", "(LGateRoad$Way;)LGateRoad$Way;"⟩ ⟨"GateRoad", "trial", "(LGateRoad$Way;)LGateRoad$Way;"⟩) ∈ lw_all := lw_g (lw_at lw_ms 31 rfl) rfl
theorem qs32 : (Cond.selects "GateRoad" ⟨"GateRoad", "there", "(I)LGateRoad$Sheet;"⟩ ⟨"GateRoad", "there", "(I)LGateRoad$Sheet;"⟩) ∈ lw_all := lw_g (lw_at lw_ms 32 rfl) rfl
theorem qs33 : (Cond.selects "GateRoad" ⟨"GateRoad", "isCart", "(I)Z"⟩ ⟨"GateRoad", "isCart", "(I)Z"⟩) ∈ lw_all := lw_g (lw_at lw_ms 33 rfl) rfl
theorem qs34 : (Cond.selects "GateRoadModel" ⟨"GateRoadModel", "first", "(IIIII)V"⟩ ⟨"GateRoadModel", "first", "(IIIII)V"⟩) ∈ lw_all := lw_g (lw_at lw_ms 34 rfl) rfl
theorem qs35 : (Cond.selects "GateRoadModel" ⟨"GateRoadModel", "isSort", "(I)Z"⟩ ⟨"GateRoadModel", "isSort", "(I)Z"⟩) ∈ lw_all := lw_g (lw_at lw_ms 35 rfl) rfl
theorem qs36 : (Cond.selects "GateRoadModel" ⟨"GateRoadModel", "next", "()V"⟩ ⟨"GateRoadModel", "next", "()V"⟩) ∈ lw_all := lw_g (lw_at lw_ms 36 rfl) rfl
theorem qs37 : (Cond.selects "GateRoadModel" ⟨"GateRoadModel", "letters", "()J"⟩ ⟨"GateRoadModel", "letters", "()J"⟩) ∈ lw_all := lw_g (lw_at lw_ms 37 rfl) rfl
theorem qs38 : (Cond.selects "GateRoadModel" ⟨"GateRoadModel", "eRead", "()Z"⟩ ⟨"GateRoadModel", "eRead", "()Z"⟩) ∈ lw_all := lw_g (lw_at lw_ms 38 rfl) rfl
theorem qs39 : (Cond.selects "GateRoadModel" ⟨"GateRoadModel", "puts", "(I)V"⟩ ⟨"GateRoadModel", "puts", "(I)V"⟩) ∈ lw_all := lw_g (lw_at lw_ms 39 rfl) rfl
theorem qs40 : (Cond.selects "GateRoadModel" ⟨"GateRoadModel", "unwinds", "(I)V"⟩ ⟨"GateRoadModel", "unwinds", "(I)V"⟩) ∈ lw_all := lw_g (lw_at lw_ms 40 rfl) rfl
theorem qs41 : (Cond.selects "GateRoadModel" ⟨"GateRoadModel", "opensOne", "(I)Z"⟩ ⟨"GateRoadModel", "opensOne", "(I)Z"⟩) ∈ lw_all := lw_g (lw_at lw_ms 41 rfl) rfl
theorem qs42 : (Cond.selects "GateRoadModel" ⟨"GateRoadModel", "holds", "(I)V"⟩ ⟨"GateRoadModel", "holds", "(I)V"⟩) ∈ lw_all := lw_g (lw_at lw_ms 42 rfl) rfl
theorem qs43 : (Cond.selects "GateRoadModel" ⟨"GateRoadModel", "signOf", "()I"⟩ ⟨"GateRoadModel", "signOf", "()I"⟩) ∈ lw_all := lw_g (lw_at lw_ms 43 rfl) rfl
theorem qs44 : (Cond.selects "GateRoadModel" ⟨"GateRoadModel", "between", "(I)Z"⟩ ⟨"GateRoadModel", "between", "(I)Z"⟩) ∈ lw_all := lw_g (lw_at lw_ms 44 rfl) rfl
theorem qs45 : (Cond.selects "GateRoadModel" ⟨"GateRoadModel", "isWay", "(I)Z"⟩ ⟨"GateRoadModel", "isWay", "(I)Z"⟩) ∈ lw_all := lw_g (lw_at lw_ms 45 rfl) rfl
theorem qs46 : (Cond.selects "GateRoadModel" ⟨"GateRoadModel", "isOf", "(II)Z"⟩ ⟨"GateRoadModel", "isOf", "(II)Z"⟩) ∈ lw_all := lw_g (lw_at lw_ms 46 rfl) rfl
theorem qs47 : (Cond.selects "GateRoadModel" ⟨"GateRoadModel", "lays", "(I)V"⟩ ⟨"GateRoadModel", "lays", "(I)V"⟩) ∈ lw_all := lw_g (lw_at lw_ms 47 rfl) rfl
theorem qs48 : (Cond.selects "GateRoadModel" ⟨"GateRoadModel", "goes", "(I)V"⟩ ⟨"GateRoadModel", "goes", "(I)V"⟩) ∈ lw_all := lw_g (lw_at lw_ms 48 rfl) rfl
theorem qs49 : (Cond.selects "GateRoadModel" ⟨"GateRoadModel", "nextAt", "(III)I"⟩ ⟨"GateRoadModel", "nextAt", "(III)I"⟩) ∈ lw_all := lw_g (lw_at lw_ms 49 rfl) rfl
theorem qs50 : (Cond.selects "GateRoadModel" ⟨"GateRoadModel", "orderOf", "(II)I"⟩ ⟨"GateRoadModel", "orderOf", "(II)I"⟩) ∈ lw_all := lw_g (lw_at lw_ms 50 rfl) rfl
theorem qs51 : (Cond.selects "GateRoadModel" ⟨"GateRoadModel", "cost", "(II)I"⟩ ⟨"GateRoadModel", "cost", "(II)I"⟩) ∈ lw_all := lw_g (lw_at lw_ms 51 rfl) rfl
theorem qs52 : (Cond.selects "GateRoadModel" ⟨"GateRoadModel", "names", "(II)V"⟩ ⟨"GateRoadModel", "names", "(II)V"⟩) ∈ lw_all := lw_g (lw_at lw_ms 52 rfl) rfl
theorem qs53 : (Cond.selects "GateRoadModel" ⟨"GateRoadModel", "paid", "(II)I"⟩ ⟨"GateRoadModel", "paid", "(II)I"⟩) ∈ lw_all := lw_g (lw_at lw_ms 53 rfl) rfl
theorem qs54 : (Cond.selects "GateRoadModel" ⟨"GateRoadModel", "worth", "(I)I"⟩ ⟨"GateRoadModel", "worth", "(I)I"⟩) ∈ lw_all := lw_g (lw_at lw_ms 54 rfl) rfl
theorem qs55 : (Cond.selects "GateRoadModel" ⟨"GateRoadModel", "lost", "(II)I"⟩ ⟨"GateRoadModel", "lost", "(II)I"⟩) ∈ lw_all := lw_g (lw_at lw_ms 55 rfl) rfl
theorem qs56 : (Cond.selects "GateRoadModel" ⟨"GateRoadModel", "costNow", "(I)J"⟩ ⟨"GateRoadModel", "costNow", "(I)J"⟩) ∈ lw_all := lw_g (lw_at lw_ms 56 rfl) rfl
theorem qs57 : (Cond.selects "GateRoadModel" ⟨"GateRoadModel", "costAll", "(I)J"⟩ ⟨"GateRoadModel", "costAll", "(I)J"⟩) ∈ lw_all := lw_g (lw_at lw_ms 57 rfl) rfl
theorem qs58 : (Cond.selects "GateRoadModel" ⟨"GateRoadModel", "looks", "(I)V"⟩ ⟨"GateRoadModel", "looks", "(I)V"⟩) ∈ lw_all := lw_g (lw_at lw_ms 58 rfl) rfl
theorem qs59 : (Cond.selects "GateRoadModel" ⟨"GateRoadModel", "costBy", "(III)I"⟩ ⟨"GateRoadModel", "costBy", "(III)I"⟩) ∈ lw_all := lw_g (lw_at lw_ms 59 rfl) rfl
theorem qs60 : (Cond.selects "GateRoadModel" ⟨"GateRoadModel", "moves", "(II)I"⟩ ⟨"GateRoadModel", "moves", "(II)I"⟩) ∈ lw_all := lw_g (lw_at lw_ms 60 rfl) rfl
theorem qs61 : (Cond.selects "GateRoadModel" ⟨"GateRoadModel", "costWith", "(IIII)J"⟩ ⟨"GateRoadModel", "costWith", "(IIII)J"⟩) ∈ lw_all := lw_g (lw_at lw_ms 61 rfl) rfl
theorem qs62 : (Cond.selects "GateRoadModel" ⟨"GateRoadModel", "waited", "(I)I"⟩ ⟨"GateRoadModel", "waited", "(I)I"⟩) ∈ lw_all := lw_g (lw_at lw_ms 62 rfl) rfl
