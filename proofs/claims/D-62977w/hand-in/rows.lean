section
-- ===== PART A: goes FIRST, ahead of the names: the tables' words, and 'selects' of the private methods out of them =====
/-- a private method of a class that the tables say can be made, by its rows of tables_1 -/
def lw_okq (q : MethodName × Nat) : Prop := (q.1.cls ≠ "java/lang/invoke/MethodHandle" ∧ q.1.cls ≠ "java/lang/invoke/VarHandle") ∧ Cond.instantiable q.1.cls q.2 ∈ tables_1 ∧ Cond.privateMethod q.1 ∈ tables_1 ∧ Cond.instanceMethod q.1 ∈ tables_1
set_option maxRecDepth 100000
theorem lw_t1 {w : Cond} (h : w ∈ tables_1_1) : w ∈ tables_1 := List.mem_append_left _ h
theorem lw_t2 {w : Cond} (h : w ∈ tables_1_2) : w ∈ tables_1 := List.mem_append_right _ (List.mem_append_left _ h)
theorem lw_t3 {w : Cond} (h : w ∈ tables_1_3) : w ∈ tables_1 := List.mem_append_right _ (List.mem_append_right _ h)
theorem lw_p0 : lw_okq (⟨"ChannelRouter", "kind", "(I)I"⟩, 12) := ⟨⟨by decide +kernel, by decide +kernel⟩, lw_t1 (List.mem_of_getElem? (i := 17) rfl), lw_t1 (List.mem_of_getElem? (i := 127) rfl), lw_t1 (List.mem_of_getElem? (i := 128) rfl)⟩
theorem lw_p1 : lw_okq (⟨"ChannelRouter", "pins", "(I)I"⟩, 12) := ⟨⟨by decide +kernel, by decide +kernel⟩, lw_t1 (List.mem_of_getElem? (i := 17) rfl), lw_t1 (List.mem_of_getElem? (i := 131) rfl), lw_t1 (List.mem_of_getElem? (i := 132) rfl)⟩
theorem lw_p2 : lw_okq (⟨"ChannelRouter", "left", "(I)I"⟩, 12) := ⟨⟨by decide +kernel, by decide +kernel⟩, lw_t1 (List.mem_of_getElem? (i := 17) rfl), lw_t1 (List.mem_of_getElem? (i := 135) rfl), lw_t1 (List.mem_of_getElem? (i := 136) rfl)⟩
theorem lw_p3 : lw_okq (⟨"ChannelRouter", "has", "(II)Z"⟩, 12) := ⟨⟨by decide +kernel, by decide +kernel⟩, lw_t1 (List.mem_of_getElem? (i := 17) rfl), lw_t1 (List.mem_of_getElem? (i := 139) rfl), lw_t1 (List.mem_of_getElem? (i := 140) rfl)⟩
theorem lw_p4 : lw_okq (⟨"ChannelRouter", "right", "(I)I"⟩, 12) := ⟨⟨by decide +kernel, by decide +kernel⟩, lw_t1 (List.mem_of_getElem? (i := 17) rfl), lw_t1 (List.mem_of_getElem? (i := 143) rfl), lw_t1 (List.mem_of_getElem? (i := 144) rfl)⟩
theorem lw_p5 : lw_okq (⟨"ChannelRouter", "plan", "(Z)V"⟩, 12) := ⟨⟨by decide +kernel, by decide +kernel⟩, lw_t1 (List.mem_of_getElem? (i := 17) rfl), lw_t1 (List.mem_of_getElem? (i := 154) rfl), lw_t1 (List.mem_of_getElem? (i := 155) rfl)⟩
theorem lw_p6 : lw_okq (⟨"ChannelRouter", "cut", "(IZ)V"⟩, 12) := ⟨⟨by decide +kernel, by decide +kernel⟩, lw_t1 (List.mem_of_getElem? (i := 17) rfl), lw_t1 (List.mem_of_getElem? (i := 158) rfl), lw_t1 (List.mem_of_getElem? (i := 159) rfl)⟩
theorem lw_p7 : lw_okq (⟨"ChannelRouter", "order", "(I)V"⟩, 12) := ⟨⟨by decide +kernel, by decide +kernel⟩, lw_t1 (List.mem_of_getElem? (i := 17) rfl), lw_t1 (List.mem_of_getElem? (i := 170) rfl), lw_t1 (List.mem_of_getElem? (i := 171) rfl)⟩
theorem lw_p8 : lw_okq (⟨"ChannelRouter", "tracks", "()I"⟩, 12) := ⟨⟨by decide +kernel, by decide +kernel⟩, lw_t1 (List.mem_of_getElem? (i := 17) rfl), lw_t1 (List.mem_of_getElem? (i := 188) rfl), lw_t1 (List.mem_of_getElem? (i := 189) rfl)⟩
theorem lw_p9 : lw_okq (⟨"java/lang/Throwable", "fillInStackTrace", "(I)Ljava/lang/Throwable;"⟩, 6) := ⟨⟨by decide +kernel, by decide +kernel⟩, lw_t1 (List.mem_of_getElem? (i := 226) rfl), lw_t1 (List.mem_of_getElem? (i := 224) rfl), lw_t1 (List.mem_of_getElem? (i := 225) rfl)⟩
theorem lw_p10 : lw_okq (⟨"ChannelRouter", "noSingle", "()V"⟩, 12) := ⟨⟨by decide +kernel, by decide +kernel⟩, lw_t1 (List.mem_of_getElem? (i := 17) rfl), lw_t2 (List.mem_of_getElem? (i := 87) rfl), lw_t2 (List.mem_of_getElem? (i := 88) rfl)⟩
theorem lw_p11 : lw_okq (⟨"ChannelRouter", "tried", "(Z)I"⟩, 12) := ⟨⟨by decide +kernel, by decide +kernel⟩, lw_t1 (List.mem_of_getElem? (i := 17) rfl), lw_t2 (List.mem_of_getElem? (i := 91) rfl), lw_t2 (List.mem_of_getElem? (i := 92) rfl)⟩
theorem lw_p12 : lw_okq (⟨"ChannelRouter", "layAll", "(Z)I"⟩, 12) := ⟨⟨by decide +kernel, by decide +kernel⟩, lw_t1 (List.mem_of_getElem? (i := 17) rfl), lw_t2 (List.mem_of_getElem? (i := 96) rfl), lw_t2 (List.mem_of_getElem? (i := 97) rfl)⟩
theorem lw_p13 : lw_okq (⟨"ChannelRouter", "searchRing", "()V"⟩, 12) := ⟨⟨by decide +kernel, by decide +kernel⟩, lw_t1 (List.mem_of_getElem? (i := 17) rfl), lw_t2 (List.mem_of_getElem? (i := 100) rfl), lw_t2 (List.mem_of_getElem? (i := 101) rfl)⟩
theorem lw_p14 : lw_okq (⟨"ChannelRouter", "inRing", "(I)Z"⟩, 12) := ⟨⟨by decide +kernel, by decide +kernel⟩, lw_t1 (List.mem_of_getElem? (i := 17) rfl), lw_t2 (List.mem_of_getElem? (i := 104) rfl), lw_t2 (List.mem_of_getElem? (i := 105) rfl)⟩
theorem lw_p15 : lw_okq (⟨"ChannelRouter", "leading", "(II)J"⟩, 12) := ⟨⟨by decide +kernel, by decide +kernel⟩, lw_t1 (List.mem_of_getElem? (i := 17) rfl), lw_t2 (List.mem_of_getElem? (i := 108) rfl), lw_t2 (List.mem_of_getElem? (i := 109) rfl)⟩
def lw_privs_1 : List (MethodName × Nat) := [(⟨"ChannelRouter", "kind", "(I)I"⟩, 12), (⟨"ChannelRouter", "pins", "(I)I"⟩, 12), (⟨"ChannelRouter", "left", "(I)I"⟩, 12), (⟨"ChannelRouter", "has", "(II)Z"⟩, 12), (⟨"ChannelRouter", "right", "(I)I"⟩, 12), (⟨"ChannelRouter", "plan", "(Z)V"⟩, 12), (⟨"ChannelRouter", "cut", "(IZ)V"⟩, 12), (⟨"ChannelRouter", "order", "(I)V"⟩, 12), (⟨"ChannelRouter", "tracks", "()I"⟩, 12), (⟨"java/lang/Throwable", "fillInStackTrace", "(I)Ljava/lang/Throwable;"⟩, 6), (⟨"ChannelRouter", "noSingle", "()V"⟩, 12), (⟨"ChannelRouter", "tried", "(Z)I"⟩, 12), (⟨"ChannelRouter", "layAll", "(Z)I"⟩, 12), (⟨"ChannelRouter", "searchRing", "()V"⟩, 12), (⟨"ChannelRouter", "inRing", "(I)Z"⟩, 12), (⟨"ChannelRouter", "leading", "(II)J"⟩, 12)]
theorem lw_r1 : ∀ q ∈ lw_privs_1, lw_okq q := List.forall_mem_cons.mpr ⟨lw_p0, List.forall_mem_cons.mpr ⟨lw_p1, List.forall_mem_cons.mpr ⟨lw_p2, List.forall_mem_cons.mpr ⟨lw_p3, List.forall_mem_cons.mpr ⟨lw_p4, List.forall_mem_cons.mpr ⟨lw_p5, List.forall_mem_cons.mpr ⟨lw_p6, List.forall_mem_cons.mpr ⟨lw_p7, List.forall_mem_cons.mpr ⟨lw_p8, List.forall_mem_cons.mpr ⟨lw_p9, List.forall_mem_cons.mpr ⟨lw_p10, List.forall_mem_cons.mpr ⟨lw_p11, List.forall_mem_cons.mpr ⟨lw_p12, List.forall_mem_cons.mpr ⟨lw_p13, List.forall_mem_cons.mpr ⟨lw_p14, List.forall_mem_cons.mpr ⟨lw_p15, fun _ h => absurd h List.not_mem_nil⟩⟩⟩⟩⟩⟩⟩⟩⟩⟩⟩⟩⟩⟩⟩⟩
theorem lw_p16 : lw_okq (⟨"ChannelRouter", "fill", "(I)I"⟩, 12) := ⟨⟨by decide +kernel, by decide +kernel⟩, lw_t1 (List.mem_of_getElem? (i := 17) rfl), lw_t2 (List.mem_of_getElem? (i := 133) rfl), lw_t2 (List.mem_of_getElem? (i := 134) rfl)⟩
theorem lw_p17 : lw_okq (⟨"ChannelRouter", "ready", "(LChannelRouter$Segment;I)Z"⟩, 12) := ⟨⟨by decide +kernel, by decide +kernel⟩, lw_t1 (List.mem_of_getElem? (i := 17) rfl), lw_t2 (List.mem_of_getElem? (i := 137) rfl), lw_t2 (List.mem_of_getElem? (i := 138) rfl)⟩
theorem lw_p18 : lw_okq (⟨"ChannelRouter", "draw", "()V"⟩, 12) := ⟨⟨by decide +kernel, by decide +kernel⟩, lw_t1 (List.mem_of_getElem? (i := 17) rfl), lw_t2 (List.mem_of_getElem? (i := 141) rfl), lw_t2 (List.mem_of_getElem? (i := 142) rfl)⟩
theorem lw_p19 : lw_okq (⟨"ChannelRouter", "refuse", "()V"⟩, 12) := ⟨⟨by decide +kernel, by decide +kernel⟩, lw_t1 (List.mem_of_getElem? (i := 17) rfl), lw_t2 (List.mem_of_getElem? (i := 145) rfl), lw_t2 (List.mem_of_getElem? (i := 146) rfl)⟩
theorem lw_p20 : lw_okq (⟨"ChannelRouter", "uprightAt", "(II)I"⟩, 12) := ⟨⟨by decide +kernel, by decide +kernel⟩, lw_t1 (List.mem_of_getElem? (i := 17) rfl), lw_t2 (List.mem_of_getElem? (i := 177) rfl), lw_t2 (List.mem_of_getElem? (i := 178) rfl)⟩
theorem lw_p21 : lw_okq (⟨"ChannelRouter", "reach", "(IIZ)I"⟩, 12) := ⟨⟨by decide +kernel, by decide +kernel⟩, lw_t1 (List.mem_of_getElem? (i := 17) rfl), lw_t2 (List.mem_of_getElem? (i := 181) rfl), lw_t2 (List.mem_of_getElem? (i := 182) rfl)⟩
theorem lw_p22 : lw_okq (⟨"ChannelRouter", "joined", "(II)Z"⟩, 12) := ⟨⟨by decide +kernel, by decide +kernel⟩, lw_t1 (List.mem_of_getElem? (i := 17) rfl), lw_t2 (List.mem_of_getElem? (i := 192) rfl), lw_t2 (List.mem_of_getElem? (i := 193) rfl)⟩
theorem lw_p23 : lw_okq (⟨"ChannelRouterModel", "anySingle", "()Z"⟩, 23) := ⟨⟨by decide +kernel, by decide +kernel⟩, lw_t2 (List.mem_of_getElem? (i := 210) rfl), lw_t3 (List.mem_of_getElem? (i := 62) rfl), lw_t3 (List.mem_of_getElem? (i := 63) rfl)⟩
theorem lw_p24 : lw_okq (⟨"ChannelRouterModel", "sort", "(I)I"⟩, 23) := ⟨⟨by decide +kernel, by decide +kernel⟩, lw_t2 (List.mem_of_getElem? (i := 210) rfl), lw_t3 (List.mem_of_getElem? (i := 66) rfl), lw_t3 (List.mem_of_getElem? (i := 67) rfl)⟩
theorem lw_p25 : lw_okq (⟨"ChannelRouterModel", "pinsOf", "(I)I"⟩, 23) := ⟨⟨by decide +kernel, by decide +kernel⟩, lw_t2 (List.mem_of_getElem? (i := 210) rfl), lw_t3 (List.mem_of_getElem? (i := 70) rfl), lw_t3 (List.mem_of_getElem? (i := 71) rfl)⟩
theorem lw_p26 : lw_okq (⟨"ChannelRouterModel", "columns", "(I)I"⟩, 23) := ⟨⟨by decide +kernel, by decide +kernel⟩, lw_t2 (List.mem_of_getElem? (i := 210) rfl), lw_t3 (List.mem_of_getElem? (i := 74) rfl), lw_t3 (List.mem_of_getElem? (i := 75) rfl)⟩
theorem lw_p27 : lw_okq (⟨"ChannelRouterModel", "fail", "(I)I"⟩, 23) := ⟨⟨by decide +kernel, by decide +kernel⟩, lw_t2 (List.mem_of_getElem? (i := 210) rfl), lw_t3 (List.mem_of_getElem? (i := 84) rfl), lw_t3 (List.mem_of_getElem? (i := 85) rfl)⟩
theorem lw_p28 : lw_okq (⟨"ChannelRouterModel", "study", "(Z)I"⟩, 23) := ⟨⟨by decide +kernel, by decide +kernel⟩, lw_t2 (List.mem_of_getElem? (i := 210) rfl), lw_t3 (List.mem_of_getElem? (i := 88) rfl), lw_t3 (List.mem_of_getElem? (i := 89) rfl)⟩
theorem lw_p29 : lw_okq (⟨"ChannelRouterModel", "makeSegments", "(Z)V"⟩, 23) := ⟨⟨by decide +kernel, by decide +kernel⟩, lw_t2 (List.mem_of_getElem? (i := 210) rfl), lw_t3 (List.mem_of_getElem? (i := 92) rfl), lw_t3 (List.mem_of_getElem? (i := 93) rfl)⟩
theorem lw_p30 : lw_okq (⟨"ChannelRouterModel", "segmentOf", "(IIII)V"⟩, 23) := ⟨⟨by decide +kernel, by decide +kernel⟩, lw_t2 (List.mem_of_getElem? (i := 210) rfl), lw_t3 (List.mem_of_getElem? (i := 96) rfl), lw_t3 (List.mem_of_getElem? (i := 97) rfl)⟩
theorem lw_p31 : lw_okq (⟨"ChannelRouterModel", "touching", "(III)Z"⟩, 23) := ⟨⟨by decide +kernel, by decide +kernel⟩, lw_t2 (List.mem_of_getElem? (i := 210) rfl), lw_t3 (List.mem_of_getElem? (i := 100) rfl), lw_t3 (List.mem_of_getElem? (i := 101) rfl)⟩
def lw_privs_2 : List (MethodName × Nat) := [(⟨"ChannelRouter", "fill", "(I)I"⟩, 12), (⟨"ChannelRouter", "ready", "(LChannelRouter$Segment;I)Z"⟩, 12), (⟨"ChannelRouter", "draw", "()V"⟩, 12), (⟨"ChannelRouter", "refuse", "()V"⟩, 12), (⟨"ChannelRouter", "uprightAt", "(II)I"⟩, 12), (⟨"ChannelRouter", "reach", "(IIZ)I"⟩, 12), (⟨"ChannelRouter", "joined", "(II)Z"⟩, 12), (⟨"ChannelRouterModel", "anySingle", "()Z"⟩, 23), (⟨"ChannelRouterModel", "sort", "(I)I"⟩, 23), (⟨"ChannelRouterModel", "pinsOf", "(I)I"⟩, 23), (⟨"ChannelRouterModel", "columns", "(I)I"⟩, 23), (⟨"ChannelRouterModel", "fail", "(I)I"⟩, 23), (⟨"ChannelRouterModel", "study", "(Z)I"⟩, 23), (⟨"ChannelRouterModel", "makeSegments", "(Z)V"⟩, 23), (⟨"ChannelRouterModel", "segmentOf", "(IIII)V"⟩, 23), (⟨"ChannelRouterModel", "touching", "(III)Z"⟩, 23)]
theorem lw_r2 : ∀ q ∈ lw_privs_2, lw_okq q := List.forall_mem_cons.mpr ⟨lw_p16, List.forall_mem_cons.mpr ⟨lw_p17, List.forall_mem_cons.mpr ⟨lw_p18, List.forall_mem_cons.mpr ⟨lw_p19, List.forall_mem_cons.mpr ⟨lw_p20, List.forall_mem_cons.mpr ⟨lw_p21, List.forall_mem_cons.mpr ⟨lw_p22, List.forall_mem_cons.mpr ⟨lw_p23, List.forall_mem_cons.mpr ⟨lw_p24, List.forall_mem_cons.mpr ⟨lw_p25, List.forall_mem_cons.mpr ⟨lw_p26, List.forall_mem_cons.mpr ⟨lw_p27, List.forall_mem_cons.mpr ⟨lw_p28, List.forall_mem_cons.mpr ⟨lw_p29, List.forall_mem_cons.mpr ⟨lw_p30, List.forall_mem_cons.mpr ⟨lw_p31, fun _ h => absurd h List.not_mem_nil⟩⟩⟩⟩⟩⟩⟩⟩⟩⟩⟩⟩⟩⟩⟩⟩
theorem lw_p32 : lw_okq (⟨"ChannelRouterModel", "noRing", "()Z"⟩, 23) := ⟨⟨by decide +kernel, by decide +kernel⟩, lw_t2 (List.mem_of_getElem? (i := 210) rfl), lw_t3 (List.mem_of_getElem? (i := 104) rfl), lw_t3 (List.mem_of_getElem? (i := 105) rfl)⟩
theorem lw_p33 : lw_okq (⟨"ChannelRouterModel", "inRing", "()I"⟩, 23) := ⟨⟨by decide +kernel, by decide +kernel⟩, lw_t2 (List.mem_of_getElem? (i := 210) rfl), lw_t3 (List.mem_of_getElem? (i := 108) rfl), lw_t3 (List.mem_of_getElem? (i := 109) rfl)⟩
theorem lw_p34 : lw_okq (⟨"ChannelRouterModel", "tellRing", "(I)V"⟩, 23) := ⟨⟨by decide +kernel, by decide +kernel⟩, lw_t2 (List.mem_of_getElem? (i := 210) rfl), lw_t3 (List.mem_of_getElem? (i := 115) rfl), lw_t3 (List.mem_of_getElem? (i := 116) rfl)⟩
theorem lw_p35 : lw_okq (⟨"ChannelRouterModel", "countSteps", "(I)V"⟩, 23) := ⟨⟨by decide +kernel, by decide +kernel⟩, lw_t2 (List.mem_of_getElem? (i := 210) rfl), lw_t3 (List.mem_of_getElem? (i := 119) rfl), lw_t3 (List.mem_of_getElem? (i := 120) rfl)⟩
theorem lw_p36 : lw_okq (⟨"ChannelRouterModel", "layNow", "()I"⟩, 23) := ⟨⟨by decide +kernel, by decide +kernel⟩, lw_t2 (List.mem_of_getElem? (i := 210) rfl), lw_t3 (List.mem_of_getElem? (i := 123) rfl), lw_t3 (List.mem_of_getElem? (i := 124) rfl)⟩
theorem lw_p37 : lw_okq (⟨"ChannelRouterModel", "fill", "()I"⟩, 23) := ⟨⟨by decide +kernel, by decide +kernel⟩, lw_t2 (List.mem_of_getElem? (i := 210) rfl), lw_t3 (List.mem_of_getElem? (i := 127) rfl), lw_t3 (List.mem_of_getElem? (i := 128) rfl)⟩
theorem lw_p38 : lw_okq (⟨"ChannelRouterModel", "nextFor", "(IIII)I"⟩, 23) := ⟨⟨by decide +kernel, by decide +kernel⟩, lw_t2 (List.mem_of_getElem? (i := 210) rfl), lw_t3 (List.mem_of_getElem? (i := 131) rfl), lw_t3 (List.mem_of_getElem? (i := 132) rfl)⟩
theorem lw_p39 : lw_okq (⟨"ChannelRouterModel", "free", "(II)Z"⟩, 23) := ⟨⟨by decide +kernel, by decide +kernel⟩, lw_t2 (List.mem_of_getElem? (i := 210) rfl), lw_t3 (List.mem_of_getElem? (i := 135) rfl), lw_t3 (List.mem_of_getElem? (i := 136) rfl)⟩
theorem lw_p40 : lw_okq (⟨"ChannelRouterModel", "out", "(Z)Z"⟩, 23) := ⟨⟨by decide +kernel, by decide +kernel⟩, lw_t2 (List.mem_of_getElem? (i := 210) rfl), lw_t3 (List.mem_of_getElem? (i := 155) rfl), lw_t3 (List.mem_of_getElem? (i := 156) rfl)⟩
theorem lw_p41 : lw_okq (⟨"ChannelRouterModel", "levelAt", "(II)I"⟩, 23) := ⟨⟨by decide +kernel, by decide +kernel⟩, lw_t2 (List.mem_of_getElem? (i := 210) rfl), lw_t3 (List.mem_of_getElem? (i := 159) rfl), lw_t3 (List.mem_of_getElem? (i := 160) rfl)⟩
theorem lw_p42 : lw_okq (⟨"ChannelRouterModel", "uprightAt", "(II)I"⟩, 23) := ⟨⟨by decide +kernel, by decide +kernel⟩, lw_t2 (List.mem_of_getElem? (i := 210) rfl), lw_t3 (List.mem_of_getElem? (i := 167) rfl), lw_t3 (List.mem_of_getElem? (i := 168) rfl)⟩
theorem lw_p43 : lw_okq (⟨"ChannelRouterModel", "lies", "(III)Z"⟩, 23) := ⟨⟨by decide +kernel, by decide +kernel⟩, lw_t2 (List.mem_of_getElem? (i := 210) rfl), lw_t3 (List.mem_of_getElem? (i := 171) rfl), lw_t3 (List.mem_of_getElem? (i := 172) rfl)⟩
theorem lw_p44 : lw_okq (⟨"ChannelRouterModel", "viaAt", "(II)Z"⟩, 23) := ⟨⟨by decide +kernel, by decide +kernel⟩, lw_t2 (List.mem_of_getElem? (i := 210) rfl), lw_t3 (List.mem_of_getElem? (i := 179) rfl), lw_t3 (List.mem_of_getElem? (i := 180) rfl)⟩
theorem lw_p45 : lw_okq (⟨"ChannelRouterModel", "vias", "()I"⟩, 23) := ⟨⟨by decide +kernel, by decide +kernel⟩, lw_t2 (List.mem_of_getElem? (i := 210) rfl), lw_t3 (List.mem_of_getElem? (i := 199) rfl), lw_t3 (List.mem_of_getElem? (i := 200) rfl)⟩
def lw_privs_3 : List (MethodName × Nat) := [(⟨"ChannelRouterModel", "noRing", "()Z"⟩, 23), (⟨"ChannelRouterModel", "inRing", "()I"⟩, 23), (⟨"ChannelRouterModel", "tellRing", "(I)V"⟩, 23), (⟨"ChannelRouterModel", "countSteps", "(I)V"⟩, 23), (⟨"ChannelRouterModel", "layNow", "()I"⟩, 23), (⟨"ChannelRouterModel", "fill", "()I"⟩, 23), (⟨"ChannelRouterModel", "nextFor", "(IIII)I"⟩, 23), (⟨"ChannelRouterModel", "free", "(II)Z"⟩, 23), (⟨"ChannelRouterModel", "out", "(Z)Z"⟩, 23), (⟨"ChannelRouterModel", "levelAt", "(II)I"⟩, 23), (⟨"ChannelRouterModel", "uprightAt", "(II)I"⟩, 23), (⟨"ChannelRouterModel", "lies", "(III)Z"⟩, 23), (⟨"ChannelRouterModel", "viaAt", "(II)Z"⟩, 23), (⟨"ChannelRouterModel", "vias", "()I"⟩, 23)]
theorem lw_r3 : ∀ q ∈ lw_privs_3, lw_okq q := List.forall_mem_cons.mpr ⟨lw_p32, List.forall_mem_cons.mpr ⟨lw_p33, List.forall_mem_cons.mpr ⟨lw_p34, List.forall_mem_cons.mpr ⟨lw_p35, List.forall_mem_cons.mpr ⟨lw_p36, List.forall_mem_cons.mpr ⟨lw_p37, List.forall_mem_cons.mpr ⟨lw_p38, List.forall_mem_cons.mpr ⟨lw_p39, List.forall_mem_cons.mpr ⟨lw_p40, List.forall_mem_cons.mpr ⟨lw_p41, List.forall_mem_cons.mpr ⟨lw_p42, List.forall_mem_cons.mpr ⟨lw_p43, List.forall_mem_cons.mpr ⟨lw_p44, List.forall_mem_cons.mpr ⟨lw_p45, fun _ h => absurd h List.not_mem_nil⟩⟩⟩⟩⟩⟩⟩⟩⟩⟩⟩⟩⟩⟩
def lw_privs : List (MethodName × Nat) := lw_privs_1 ++ (lw_privs_2 ++ (lw_privs_3))
def lw_tbl : List Cond := k2_sels lw_privs ++ tables_1
theorem lw_privs_ok : ∀ q ∈ lw_privs, lw_okq q := by
  show ∀ q ∈ lw_privs_1 ++ (lw_privs_2 ++ (lw_privs_3)), lw_okq q
  exact List.forall_mem_append.mpr ⟨lw_r1, List.forall_mem_append.mpr ⟨lw_r2, lw_r3⟩⟩
-- ===== ONE list of words for every method: the tables' words that hold all through a run =====
def lw_all : List Cond := lw_tbl.filter goodWord
/-- a word of the tables by its place: claim/WORDS.tsv -/
theorem lw_w {w : Cond} (i : Nat) (h : lw_tbl[i]? = some w) (g : goodWord w = true) : w ∈ lw_all := List.mem_filter.mpr ⟨List.mem_of_getElem? h, g⟩
theorem lw_all_tbl {w : Cond} (h : w ∈ lw_all) : w ∈ lw_tbl := (List.mem_filter.mp h).1
theorem lw_self : GoodIn lw_all lw_all := fun w h => ⟨h, good_of_word (List.mem_filter.mp h).2⟩
/-- a class's field words, by their places -/
theorem lw_in (ws : List Cond) (ps : List Nat) (hp : ws = ps.filterMap (fun i => lw_tbl[i]?)) (hg : ws.all goodWord = true) : ∀ w ∈ ws, w ∈ lw_all := by
  intro w h
  have h1 := List.all_eq_true.mp hg w h
  rw [hp] at h
  obtain ⟨i, -, hi⟩ := List.mem_filterMap.mp h
  exact lw_w i hi h1
/-- the words of a contract for the method y with code b, L locals, answer r -/
abbrev ws_ (y : MethodName) (b : ByteArray) (L : Nat) (r : Option FieldType) : List Cond := Cond.code y b L r :: lw_all
theorem lw_meth {y : MethodName} {b : ByteArray} {L : Nat} {r : Option FieldType} (h : Cond.code y b L r ∈ lw_all) : GoodIn lw_all (ws_ y b L r) := by
  intro w hw
  rcases List.mem_cons.mp hw with e | e
  · rw [e]
    exact lw_self _ h
  · exact lw_self _ e
theorem lw_app {a c : List Cond} (ha : ∀ w ∈ a, w ∈ lw_all) (hc : GoodIn lw_all c) : GoodIn lw_all (a ++ c) := by
  intro w hw
  rcases List.mem_append.mp hw with e | e
  · exact lw_self w (ha w e)
  · exact hc w e
/-- what a call through an object asks: cwV n hts (lw_V ..) -/
theorem lw_V {own : String} {idx : Nat} {C : String} {y : MethodName} {b : ByteArray} {L : Nat} {r : Option FieldType} (h1 : Cond.methodLink own idx y ∈ lw_all) (h2 : Cond.instanceMethod y ∈ lw_all) (h3 : Cond.selects C y y ∈ lw_all) (h4 : Cond.initialized C ∈ lw_all) (h5 : Cond.code y b L r ∈ lw_all) : GoodIn lw_all (wsV own idx C y (ws_ y b L r)) := by
  refine lw_app ?_ (lw_meth h5)
  intro w hw
  simp only [List.mem_cons, List.not_mem_nil, or_false] at hw
  rcases hw with e | e | e | e
  · rw [e]; exact h1
  · rw [e]; exact h2
  · rw [e]; exact h3
  · rw [e]; exact h4
/-- what a static call asks: va_cwS n hts (lw_S ..) -/
theorem lw_S {own : String} {idx : Nat} {y : MethodName} {b : ByteArray} {L : Nat} {r : Option FieldType} (h1 : Cond.methodLink own idx y ∈ lw_all) (h2 : Cond.static y ∈ lw_all) (h3 : Cond.initialized y.cls ∈ lw_all) (h4 : Cond.code y b L r ∈ lw_all) : GoodIn lw_all (va_wsS own idx y (ws_ y b L r)) := by
  refine lw_app ?_ (lw_meth h4)
  intro w hw
  simp only [List.mem_cons, List.not_mem_nil, or_false] at hw
  rcases hw with e | e | e
  · rw [e]; exact h1
  · rw [e]; exact h2
  · rw [e]; exact h3
/-- the words of a contract for a method WITH HANDLERS (hh: its table) -/
abbrev wsW_ (y : MethodName) (b : ByteArray) (L : Nat) (r : Option FieldType) (hh : List (Nat × Nat × Nat × Nat)) : List Cond := Cond.codeWith y b L r hh :: lw_all
theorem lw_methW {y : MethodName} {b : ByteArray} {L : Nat} {r : Option FieldType} {hh : List (Nat × Nat × Nat × Nat)} (h : Cond.codeWith y b L r hh ∈ lw_all) : GoodIn lw_all (wsW_ y b L r hh) := by
  intro w hw
  rcases List.mem_cons.mp hw with e | e
  · rw [e]
    exact lw_self _ h
  · exact lw_self _ e
/-- any list of words by their places (lw_in), good -/
theorem lw_good {ws : List Cond} (h : ∀ w ∈ ws, w ∈ lw_all) : GoodIn lw_all ws := fun w hw => lw_self w (h w hw)
/-- what a call of a method with handlers asks: vx_cwVW n hts (lw_VW ..), vx_cwSW n hts (lw_SW ..) -/
theorem lw_VW {own : String} {idx : Nat} {C : String} {y : MethodName} {b : ByteArray} {L : Nat} {r : Option FieldType} {hh : List (Nat × Nat × Nat × Nat)} (h1 : Cond.methodLink own idx y ∈ lw_all) (h2 : Cond.instanceMethod y ∈ lw_all) (h3 : Cond.selects C y y ∈ lw_all) (h4 : Cond.initialized C ∈ lw_all) (h5 : Cond.codeWith y b L r hh ∈ lw_all) : GoodIn lw_all (wsV own idx C y (wsW_ y b L r hh)) := by
  refine lw_app ?_ (lw_methW h5)
  intro w hw
  simp only [List.mem_cons, List.not_mem_nil, or_false] at hw
  rcases hw with e | e | e | e
  · rw [e]; exact h1
  · rw [e]; exact h2
  · rw [e]; exact h3
  · rw [e]; exact h4
theorem lw_SW {own : String} {idx : Nat} {y : MethodName} {b : ByteArray} {L : Nat} {r : Option FieldType} {hh : List (Nat × Nat × Nat × Nat)} (h1 : Cond.methodLink own idx y ∈ lw_all) (h2 : Cond.static y ∈ lw_all) (h3 : Cond.initialized y.cls ∈ lw_all) (h4 : Cond.codeWith y b L r hh ∈ lw_all) : GoodIn lw_all (va_wsS own idx y (wsW_ y b L r hh)) := by
  refine lw_app ?_ (lw_methW h4)
  intro w hw
  simp only [List.mem_cons, List.not_mem_nil, or_false] at hw
  rcases hw with e | e | e
  · rw [e]; exact h1
  · rw [e]; exact h2
  · rw [e]; exact h3
/-- a word by its place in its run of the tables -/
theorem lw_at {r : List Cond} (hr : ∀ w ∈ r, w ∈ lw_tbl) {w : Cond} (i : Nat) (h : r[i]? = some w) : w ∈ lw_tbl := hr w (List.mem_of_getElem? h)
theorem lw_g {w : Cond} (h : w ∈ lw_tbl) (g : goodWord w = true) : w ∈ lw_all := List.mem_filter.mpr ⟨h, g⟩
theorem lw_ms : ∀ w ∈ k2_sels lw_privs, w ∈ lw_tbl := fun w h => show w ∈ k2_sels lw_privs ++ tables_1 from List.mem_append_left _ h
theorem lw_m1 : ∀ w ∈ tables_1_1, w ∈ lw_tbl := fun w h => show w ∈ k2_sels lw_privs ++ tables_1 from List.mem_append_right (k2_sels lw_privs) (show w ∈ tables_1 from List.mem_append_left _ h)
theorem lw_m2 : ∀ w ∈ tables_1_2, w ∈ lw_tbl := fun w h => show w ∈ k2_sels lw_privs ++ tables_1 from List.mem_append_right (k2_sels lw_privs) (show w ∈ tables_1 from List.mem_append_right _ (List.mem_append_left _ h))
theorem lw_m3 : ∀ w ∈ tables_1_3, w ∈ lw_tbl := fun w h => show w ∈ k2_sels lw_privs ++ tables_1 from List.mem_append_right (k2_sels lw_privs) (show w ∈ tables_1 from List.mem_append_right _ (List.mem_append_right _ h))
theorem qs0 : (Cond.selects "ChannelRouter" ⟨"ChannelRouter", "kind", "(I)I"⟩ ⟨"ChannelRouter", "kind", "(I)I"⟩) ∈ lw_all := lw_g (lw_at lw_ms 0 rfl) rfl
theorem qs1 : (Cond.selects "ChannelRouter" ⟨"ChannelRouter", "pins", "(I)I"⟩ ⟨"ChannelRouter", "pins", "(I)I"⟩) ∈ lw_all := lw_g (lw_at lw_ms 1 rfl) rfl
theorem qs2 : (Cond.selects "ChannelRouter" ⟨"ChannelRouter", "left", "(I)I"⟩ ⟨"ChannelRouter", "left", "(I)I"⟩) ∈ lw_all := lw_g (lw_at lw_ms 2 rfl) rfl
theorem qs3 : (Cond.selects "ChannelRouter" ⟨"ChannelRouter", "has", "(II)Z"⟩ ⟨"ChannelRouter", "has", "(II)Z"⟩) ∈ lw_all := lw_g (lw_at lw_ms 3 rfl) rfl
theorem qs4 : (Cond.selects "ChannelRouter" ⟨"ChannelRouter", "right", "(I)I"⟩ ⟨"ChannelRouter", "right", "(I)I"⟩) ∈ lw_all := lw_g (lw_at lw_ms 4 rfl) rfl
theorem qs5 : (Cond.selects "ChannelRouter" ⟨"ChannelRouter", "plan", "(Z)V"⟩ ⟨"ChannelRouter", "plan", "(Z)V"⟩) ∈ lw_all := lw_g (lw_at lw_ms 5 rfl) rfl
theorem qs6 : (Cond.selects "ChannelRouter" ⟨"ChannelRouter", "cut", "(IZ)V"⟩ ⟨"ChannelRouter", "cut", "(IZ)V"⟩) ∈ lw_all := lw_g (lw_at lw_ms 6 rfl) rfl
theorem qs7 : (Cond.selects "ChannelRouter" ⟨"ChannelRouter", "order", "(I)V"⟩ ⟨"ChannelRouter", "order", "(I)V"⟩) ∈ lw_all := lw_g (lw_at lw_ms 7 rfl) rfl
theorem qs8 : (Cond.selects "ChannelRouter" ⟨"ChannelRouter", "tracks", "()I"⟩ ⟨"ChannelRouter", "tracks", "()I"⟩) ∈ lw_all := lw_g (lw_at lw_ms 8 rfl) rfl
theorem qs9 : (Cond.selects "java/lang/Throwable" ⟨"java/lang/Throwable", "fillInStackTrace", "(I)Ljava/lang/Throwable;"⟩ ⟨"java/lang/Throwable", "fillInStackTrace", "(I)Ljava/lang/Throwable;"⟩) ∈ lw_all := lw_g (lw_at lw_ms 9 rfl) rfl
theorem qs10 : (Cond.selects "ChannelRouter" ⟨"ChannelRouter", "noSingle", "()V"⟩ ⟨"ChannelRouter", "noSingle", "()V"⟩) ∈ lw_all := lw_g (lw_at lw_ms 10 rfl) rfl
theorem qs11 : (Cond.selects "ChannelRouter" ⟨"ChannelRouter", "tried", "(Z)I"⟩ ⟨"ChannelRouter", "tried", "(Z)I"⟩) ∈ lw_all := lw_g (lw_at lw_ms 11 rfl) rfl
theorem qs12 : (Cond.selects "ChannelRouter" ⟨"ChannelRouter", "layAll", "(Z)I"⟩ ⟨"ChannelRouter", "layAll", "(Z)I"⟩) ∈ lw_all := lw_g (lw_at lw_ms 12 rfl) rfl
theorem qs13 : (Cond.selects "ChannelRouter" ⟨"ChannelRouter", "searchRing", "()V"⟩ ⟨"ChannelRouter", "searchRing", "()V"⟩) ∈ lw_all := lw_g (lw_at lw_ms 13 rfl) rfl
theorem qs14 : (Cond.selects "ChannelRouter" ⟨"ChannelRouter", "inRing", "(I)Z"⟩ ⟨"ChannelRouter", "inRing", "(I)Z"⟩) ∈ lw_all := lw_g (lw_at lw_ms 14 rfl) rfl
theorem qs15 : (Cond.selects "ChannelRouter" ⟨"ChannelRouter", "leading", "(II)J"⟩ ⟨"ChannelRouter", "leading", "(II)J"⟩) ∈ lw_all := lw_g (lw_at lw_ms 15 rfl) rfl
theorem qs16 : (Cond.selects "ChannelRouter" ⟨"ChannelRouter", "fill", "(I)I"⟩ ⟨"ChannelRouter", "fill", "(I)I"⟩) ∈ lw_all := lw_g (lw_at lw_ms 16 rfl) rfl
theorem qs17 : (Cond.selects "ChannelRouter" ⟨"ChannelRouter", "ready", "(LChannelRouter$Segment;I)Z"⟩ ⟨"ChannelRouter", "ready", "(LChannelRouter$Segment;I)Z"⟩) ∈ lw_all := lw_g (lw_at lw_ms 17 rfl) rfl
theorem qs18 : (Cond.selects "ChannelRouter" ⟨"ChannelRouter", "draw", "()V"⟩ ⟨"ChannelRouter", "draw", "()V"⟩) ∈ lw_all := lw_g (lw_at lw_ms 18 rfl) rfl
theorem qs19 : (Cond.selects "ChannelRouter" ⟨"ChannelRouter", "refuse", "()V"⟩ ⟨"ChannelRouter", "refuse", "()V"⟩) ∈ lw_all := lw_g (lw_at lw_ms 19 rfl) rfl
theorem qs20 : (Cond.selects "ChannelRouter" ⟨"ChannelRouter", "uprightAt", "(II)I"⟩ ⟨"ChannelRouter", "uprightAt", "(II)I"⟩) ∈ lw_all := lw_g (lw_at lw_ms 20 rfl) rfl
theorem qs21 : (Cond.selects "ChannelRouter" ⟨"ChannelRouter", "reach", "(IIZ)I"⟩ ⟨"ChannelRouter", "reach", "(IIZ)I"⟩) ∈ lw_all := lw_g (lw_at lw_ms 21 rfl) rfl
theorem qs22 : (Cond.selects "ChannelRouter" ⟨"ChannelRouter", "joined", "(II)Z"⟩ ⟨"ChannelRouter", "joined", "(II)Z"⟩) ∈ lw_all := lw_g (lw_at lw_ms 22 rfl) rfl
theorem qs23 : (Cond.selects "ChannelRouterModel" ⟨"ChannelRouterModel", "anySingle", "()Z"⟩ ⟨"ChannelRouterModel", "anySingle", "()Z"⟩) ∈ lw_all := lw_g (lw_at lw_ms 23 rfl) rfl
theorem qs24 : (Cond.selects "ChannelRouterModel" ⟨"ChannelRouterModel", "sort", "(I)I"⟩ ⟨"ChannelRouterModel", "sort", "(I)I"⟩) ∈ lw_all := lw_g (lw_at lw_ms 24 rfl) rfl
theorem qs25 : (Cond.selects "ChannelRouterModel" ⟨"ChannelRouterModel", "pinsOf", "(I)I"⟩ ⟨"ChannelRouterModel", "pinsOf", "(I)I"⟩) ∈ lw_all := lw_g (lw_at lw_ms 25 rfl) rfl
theorem qs26 : (Cond.selects "ChannelRouterModel" ⟨"ChannelRouterModel", "columns", "(I)I"⟩ ⟨"ChannelRouterModel", "columns", "(I)I"⟩) ∈ lw_all := lw_g (lw_at lw_ms 26 rfl) rfl
theorem qs27 : (Cond.selects "ChannelRouterModel" ⟨"ChannelRouterModel", "fail", "(I)I"⟩ ⟨"ChannelRouterModel", "fail", "(I)I"⟩) ∈ lw_all := lw_g (lw_at lw_ms 27 rfl) rfl
theorem qs28 : (Cond.selects "ChannelRouterModel" ⟨"ChannelRouterModel", "study", "(Z)I"⟩ ⟨"ChannelRouterModel", "study", "(Z)I"⟩) ∈ lw_all := lw_g (lw_at lw_ms 28 rfl) rfl
theorem qs29 : (Cond.selects "ChannelRouterModel" ⟨"ChannelRouterModel", "makeSegments", "(Z)V"⟩ ⟨"ChannelRouterModel", "makeSegments", "(Z)V"⟩) ∈ lw_all := lw_g (lw_at lw_ms 29 rfl) rfl
theorem qs30 : (Cond.selects "ChannelRouterModel" ⟨"ChannelRouterModel", "segmentOf", "(IIII)V"⟩ ⟨"ChannelRouterModel", "segmentOf", "(IIII)V"⟩) ∈ lw_all := lw_g (lw_at lw_ms 30 rfl) rfl
theorem qs31 : (Cond.selects "ChannelRouterModel" ⟨"ChannelRouterModel", "touching", "(III)Z"⟩ ⟨"ChannelRouterModel", "touching", "(III)Z"⟩) ∈ lw_all := lw_g (lw_at lw_ms 31 rfl) rfl
theorem qs32 : (Cond.selects "ChannelRouterModel" ⟨"ChannelRouterModel", "noRing", "()Z"⟩ ⟨"ChannelRouterModel", "noRing", "()Z"⟩) ∈ lw_all := lw_g (lw_at lw_ms 32 rfl) rfl
theorem qs33 : (Cond.selects "ChannelRouterModel" ⟨"ChannelRouterModel", "inRing", "()I"⟩ ⟨"ChannelRouterModel", "inRing", "()I"⟩) ∈ lw_all := lw_g (lw_at lw_ms 33 rfl) rfl
theorem qs34 : (Cond.selects "ChannelRouterModel" ⟨"ChannelRouterModel", "tellRing", "(I)V"⟩ ⟨"ChannelRouterModel", "tellRing", "(I)V"⟩) ∈ lw_all := lw_g (lw_at lw_ms 34 rfl) rfl
theorem qs35 : (Cond.selects "ChannelRouterModel" ⟨"ChannelRouterModel", "countSteps", "(I)V"⟩ ⟨"ChannelRouterModel", "countSteps", "(I)V"⟩) ∈ lw_all := lw_g (lw_at lw_ms 35 rfl) rfl
theorem qs36 : (Cond.selects "ChannelRouterModel" ⟨"ChannelRouterModel", "layNow", "()I"⟩ ⟨"ChannelRouterModel", "layNow", "()I"⟩) ∈ lw_all := lw_g (lw_at lw_ms 36 rfl) rfl
theorem qs37 : (Cond.selects "ChannelRouterModel" ⟨"ChannelRouterModel", "fill", "()I"⟩ ⟨"ChannelRouterModel", "fill", "()I"⟩) ∈ lw_all := lw_g (lw_at lw_ms 37 rfl) rfl
theorem qs38 : (Cond.selects "ChannelRouterModel" ⟨"ChannelRouterModel", "nextFor", "(IIII)I"⟩ ⟨"ChannelRouterModel", "nextFor", "(IIII)I"⟩) ∈ lw_all := lw_g (lw_at lw_ms 38 rfl) rfl
theorem qs39 : (Cond.selects "ChannelRouterModel" ⟨"ChannelRouterModel", "free", "(II)Z"⟩ ⟨"ChannelRouterModel", "free", "(II)Z"⟩) ∈ lw_all := lw_g (lw_at lw_ms 39 rfl) rfl
theorem qs40 : (Cond.selects "ChannelRouterModel" ⟨"ChannelRouterModel", "out", "(Z)Z"⟩ ⟨"ChannelRouterModel", "out", "(Z)Z"⟩) ∈ lw_all := lw_g (lw_at lw_ms 40 rfl) rfl
theorem qs41 : (Cond.selects "ChannelRouterModel" ⟨"ChannelRouterModel", "levelAt", "(II)I"⟩ ⟨"ChannelRouterModel", "levelAt", "(II)I"⟩) ∈ lw_all := lw_g (lw_at lw_ms 41 rfl) rfl
theorem qs42 : (Cond.selects "ChannelRouterModel" ⟨"ChannelRouterModel", "uprightAt", "(II)I"⟩ ⟨"ChannelRouterModel", "uprightAt", "(II)I"⟩) ∈ lw_all := lw_g (lw_at lw_ms 42 rfl) rfl
theorem qs43 : (Cond.selects "ChannelRouterModel" ⟨"ChannelRouterModel", "lies", "(III)Z"⟩ ⟨"ChannelRouterModel", "lies", "(III)Z"⟩) ∈ lw_all := lw_g (lw_at lw_ms 43 rfl) rfl
theorem qs44 : (Cond.selects "ChannelRouterModel" ⟨"ChannelRouterModel", "viaAt", "(II)Z"⟩ ⟨"ChannelRouterModel", "viaAt", "(II)Z"⟩) ∈ lw_all := lw_g (lw_at lw_ms 44 rfl) rfl
theorem qs45 : (Cond.selects "ChannelRouterModel" ⟨"ChannelRouterModel", "vias", "()I"⟩ ⟨"ChannelRouterModel", "vias", "()I"⟩) ∈ lw_all := lw_g (lw_at lw_ms 45 rfl) rfl
-- ===== end of PART A; then your names; then what follows =====
end
section
/-! the methods as tables of the pure machine, printed by gen/emit_tables.py -/
set_option maxRecDepth 100000
/-- (name, bytes, number of variables, answer), (owner, kind: 0 static 1 virtual 2 maker, parameters), handlers, rows -/
abbrev pj_Mi : Type := (MethodName × ByteArray × Nat × Option FieldType) × (Nat × Nat × Nat) × List (Nat × Nat × Nat × Nat) × List (Nat × Instr × Nat)
def gX0_pin : pj_Mi := ((⟨"ChannelRouterLaw", "pin", "(LChannelRouter;IZI[J)I"⟩, method_3_code, 6, some .int), (0, 0, 5), [(0, 12, 15, 13), (0, 12, 19, 15)], [(0, .aload 4, 2), (2, .iconst 0, 1), (3, .aload_n 0, 1), (4, .iload_n 1, 1), (5, .iload_n 2, 1), (6, .iload_n 3, 1), (7, .invokevirtual 7, 3), (10, .i2l, 1), (11, .lastore, 1), (12, .goto 11, 3), (15, .astore 5, 2), (17, .iconst 1, 1), (18, .ireturn, 1), (19, .astore 5, 2), (21, .iconst 2, 1), (22, .ireturn, 1), (23, .iconst 0, 1), (24, .ireturn, 1)])
def gX0_lay : pj_Mi := ((⟨"ChannelRouterLaw", "lay", "(LChannelRouter;Z[J)I"⟩, method_4_code, 4, some .int), (0, 0, 3), [(0, 9, 12, 15), (0, 9, 15, 21)], [(0, .aload_n 2, 1), (1, .iconst 0, 1), (2, .aload_n 0, 1), (3, .iload_n 1, 1), (4, .invokevirtual 17, 3), (7, .i2l, 1), (8, .lastore, 1), (9, .goto 9, 3), (12, .astore_n 3, 1), (13, .iconst 1, 1), (14, .ireturn, 1), (15, .astore_n 3, 1), (16, .iconst 2, 1), (17, .ireturn, 1), (18, .iconst 0, 1), (19, .ireturn, 1)])
def gX0_layAny : pj_Mi := ((⟨"ChannelRouterLaw", "layAny", "(LChannelRouter;[J)I"⟩, method_5_code, 3, some .int), (0, 0, 2), [(0, 8, 11, 15), (0, 8, 14, 21)], [(0, .aload_n 1, 1), (1, .iconst 0, 1), (2, .aload_n 0, 1), (3, .invokevirtual 23, 3), (6, .i2l, 1), (7, .lastore, 1), (8, .goto 9, 3), (11, .astore_n 2, 1), (12, .iconst 1, 1), (13, .ireturn, 1), (14, .astore_n 2, 1), (15, .iconst 2, 1), (16, .ireturn, 1), (17, .iconst 0, 1), (18, .ireturn, 1)])
def gX0_segment : pj_Mi := ((⟨"ChannelRouterLaw", "segment", "(LChannelRouter;II[J)I"⟩, method_6_code, 5, some .int), (0, 0, 4), [(0, 10, 13, 13)], [(0, .aload_n 3, 1), (1, .iconst 0, 1), (2, .aload_n 0, 1), (3, .iload_n 1, 1), (4, .iload_n 2, 1), (5, .invokevirtual 27, 3), (8, .i2l, 1), (9, .lastore, 1), (10, .goto 7, 3), (13, .astore 4, 2), (15, .iconst 1, 1), (16, .ireturn, 1), (17, .iconst 0, 1), (18, .ireturn, 1)])
def gX0_level : pj_Mi := ((⟨"ChannelRouterLaw", "level", "(LChannelRouter;II[J)I"⟩, method_7_code, 5, some .int), (0, 0, 4), [(0, 10, 13, 13)], [(0, .aload_n 3, 1), (1, .iconst 0, 1), (2, .aload_n 0, 1), (3, .iload_n 1, 1), (4, .iload_n 2, 1), (5, .invokevirtual 31, 3), (8, .i2l, 1), (9, .lastore, 1), (10, .goto 7, 3), (13, .astore 4, 2), (15, .iconst 1, 1), (16, .ireturn, 1), (17, .iconst 0, 1), (18, .ireturn, 1)])
def gX0_upright : pj_Mi := ((⟨"ChannelRouterLaw", "upright", "(LChannelRouter;II[J)I"⟩, method_8_code, 5, some .int), (0, 0, 4), [(0, 10, 13, 13)], [(0, .aload_n 3, 1), (1, .iconst 0, 1), (2, .aload_n 0, 1), (3, .iload_n 1, 1), (4, .iload_n 2, 1), (5, .invokevirtual 34, 3), (8, .i2l, 1), (9, .lastore, 1), (10, .goto 7, 3), (13, .astore 4, 2), (15, .iconst 1, 1), (16, .ireturn, 1), (17, .iconst 0, 1), (18, .ireturn, 1)])
def gX0_via : pj_Mi := ((⟨"ChannelRouterLaw", "via", "(LChannelRouter;II[J)I"⟩, method_9_code, 5, some .int), (0, 0, 4), [(0, 17, 20, 13)], [(0, .aload_n 3, 1), (1, .iconst 0, 1), (2, .aload_n 0, 1), (3, .iload_n 1, 1), (4, .iload_n 2, 1), (5, .invokevirtual 37, 3), (8, .ifCond .eq 7, 3), (11, .lconst 1, 1), (12, .goto 4, 3), (15, .lconst 0, 1), (16, .lastore, 1), (17, .goto 7, 3), (20, .astore 4, 2), (22, .iconst 1, 1), (23, .ireturn, 1), (24, .iconst 0, 1), (25, .ireturn, 1)])
def gX0_net : pj_Mi := ((⟨"ChannelRouterLaw", "net", "(LChannelRouter;II[J)I"⟩, method_10_code, 5, some .int), (0, 0, 4), [(0, 10, 13, 13)], [(0, .aload_n 3, 1), (1, .iconst 0, 1), (2, .aload_n 0, 1), (3, .iload_n 1, 1), (4, .iload_n 2, 1), (5, .invokevirtual 41, 3), (8, .i2l, 1), (9, .lastore, 1), (10, .goto 7, 3), (13, .astore 4, 2), (15, .iconst 1, 1), (16, .ireturn, 1), (17, .iconst 0, 1), (18, .ireturn, 1)])
def gX0_count : pj_Mi := ((⟨"ChannelRouterLaw", "count", "(LChannelRouter;I[J)I"⟩, method_11_code, 4, some .int), (0, 0, 3), [(0, 9, 12, 13)], [(0, .aload_n 2, 1), (1, .iconst 0, 1), (2, .aload_n 0, 1), (3, .iload_n 1, 1), (4, .invokevirtual 44, 3), (7, .i2l, 1), (8, .lastore, 1), (9, .goto 6, 3), (12, .astore_n 3, 1), (13, .iconst 1, 1), (14, .ireturn, 1), (15, .iconst 0, 1), (16, .ireturn, 1)])
def gX1_init : pj_Mi := ((⟨"ChannelRouter", "<init>", "()V"⟩, prog_1_method_1_code, 1, none), (1, 2, 0), [], [(0, .aload_n 0, 1), (1, .invokespecial 1, 3), (4, .aload_n 0, 1), (5, .bipush 20, 2), (7, .newarray .int, 2), (9, .putfield 7, 3), (12, .aload_n 0, 1), (13, .bipush 20, 2), (15, .newarray .int, 2), (17, .putfield 13, 3), (20, .aload_n 0, 1), (21, .new 16, 3), (24, .dup, 1), (25, .invokespecial 18, 3), (28, .putfield 19, 3), (31, .aload_n 0, 1), (32, .new 16, 3), (35, .dup, 1), (36, .invokespecial 18, 3), (39, .putfield 23, 3), (42, .aload_n 0, 1), (43, .bipush 40, 2), (45, .newarray .int, 2), (47, .putfield 26, 3), (50, .aload_n 0, 1), (51, .bipush 40, 2), (53, .newarray .int, 2), (55, .putfield 29, 3), (58, .aload_n 0, 1), (59, .bipush 40, 2), (61, .bipush 20, 2), (63, .multianewarray 32 2, 4), (67, .putfield 34, 3), (70, .return_, 1)])
def gX1_ring : pj_Mi := ((⟨"ChannelRouter", "ring", "(I)I"⟩, prog_1_method_25_code, 2, some .int), (1, 1, 1), [], [(0, .iload_n 1, 1), (1, .ifCond .lt 11, 3), (4, .iload_n 1, 1), (5, .aload_n 0, 1), (6, .getfield 172, 3), (9, .if_icmp .lt 7, 3), (12, .iconst (-1), 1), (13, .goto 9, 3), (16, .aload_n 0, 1), (17, .getfield 26, 3), (20, .iload_n 1, 1), (21, .iaload, 1), (22, .ireturn, 1)])
def gX1_density : pj_Mi := ((⟨"ChannelRouter", "density", "()I"⟩, prog_1_method_34_code, 5, some .int), (1, 1, 0), [], [(0, .iconst 0, 1), (1, .istore_n 1, 1), (2, .iconst 0, 1), (3, .istore_n 2, 1), (4, .iload_n 2, 1), (5, .bipush 20, 2), (7, .if_icmp .ge 66, 3), (10, .iconst 0, 1), (11, .istore_n 3, 1), (12, .iconst 1, 1), (13, .istore 4, 2), (15, .iload 4, 2), (17, .bipush 10, 2), (19, .if_icmp .ge 42, 3), (22, .aload_n 0, 1), (23, .iload 4, 2), (25, .invokevirtual 76, 3), (28, .iconst 3, 1), (29, .if_icmp .ne 26, 3), (32, .aload_n 0, 1), (33, .iload 4, 2), (35, .invokevirtual 51, 3), (38, .iload_n 2, 1), (39, .if_icmp .gt 16, 3), (42, .aload_n 0, 1), (43, .iload 4, 2), (45, .invokevirtual 54, 3), (48, .iload_n 2, 1), (49, .if_icmp .lt 6, 3), (52, .iinc 3 1, 3), (55, .iinc 4 1, 3), (58, .goto (-43), 3), (61, .iload_n 1, 1), (62, .iload_n 3, 1), (63, .invokestatic 192, 3), (66, .istore_n 1, 1), (67, .iinc 2 1, 3), (70, .goto (-66), 3), (73, .iload_n 1, 1), (74, .ireturn, 1)])
def gX1_kind : pj_Mi := ((⟨"ChannelRouter", "kind", "(I)I"⟩, prog_1_method_8_code, 3, some .int), (1, 1, 1), [], [(0, .aload_n 0, 1), (1, .iload_n 1, 1), (2, .invokevirtual 47, 3), (5, .istore_n 2, 1), (6, .iload_n 2, 1), (7, .iconst 2, 1), (8, .if_icmp .ge 7, 3), (11, .iload_n 2, 1), (12, .goto 21, 3), (15, .aload_n 0, 1), (16, .iload_n 1, 1), (17, .invokevirtual 51, 3), (20, .aload_n 0, 1), (21, .iload_n 1, 1), (22, .invokevirtual 54, 3), (25, .if_icmp .ne 7, 3), (28, .iconst 2, 1), (29, .goto 4, 3), (32, .iconst 3, 1), (33, .ireturn, 1)])
def gX1_pins : pj_Mi := ((⟨"ChannelRouter", "pins", "(I)I"⟩, prog_1_method_5_code, 4, some .int), (1, 1, 1), [], [(0, .iconst 0, 1), (1, .istore_n 2, 1), (2, .iconst 0, 1), (3, .istore_n 3, 1), (4, .iload_n 3, 1), (5, .bipush 20, 2), (7, .if_icmp .ge 43, 3), (10, .iload_n 2, 1), (11, .aload_n 0, 1), (12, .getfield 7, 3), (15, .iload_n 3, 1), (16, .iaload, 1), (17, .iload_n 1, 1), (18, .if_icmp .ne 7, 3), (21, .iconst 1, 1), (22, .goto 4, 3), (25, .iconst 0, 1), (26, .aload_n 0, 1), (27, .getfield 13, 3), (30, .iload_n 3, 1), (31, .iaload, 1), (32, .iload_n 1, 1), (33, .if_icmp .ne 7, 3), (36, .iconst 1, 1), (37, .goto 4, 3), (40, .iconst 0, 1), (41, .iadd, 1), (42, .iadd, 1), (43, .istore_n 2, 1), (44, .iinc 3 1, 3), (47, .goto (-43), 3), (50, .iload_n 2, 1), (51, .ireturn, 1)])
def gX1_left : pj_Mi := ((⟨"ChannelRouter", "left", "(I)I"⟩, prog_1_method_6_code, 3, some .int), (1, 1, 1), [], [(0, .iconst 0, 1), (1, .istore_n 2, 1), (2, .iload_n 2, 1), (3, .bipush 20, 2), (5, .if_icmp .ge 18, 3), (8, .aload_n 0, 1), (9, .iload_n 1, 1), (10, .iload_n 2, 1), (11, .invokevirtual 43, 3), (14, .ifCond .ne 9, 3), (17, .iinc 2 1, 3), (20, .goto (-18), 3), (23, .iload_n 2, 1), (24, .ireturn, 1)])
def gX1_has : pj_Mi := ((⟨"ChannelRouter", "has", "(II)Z"⟩, prog_1_method_4_code, 3, some .boolean), (1, 1, 2), [], [(0, .aload_n 0, 1), (1, .getfield 7, 3), (4, .iload_n 2, 1), (5, .iaload, 1), (6, .iload_n 1, 1), (7, .if_icmp .eq 13, 3), (10, .aload_n 0, 1), (11, .getfield 13, 3), (14, .iload_n 2, 1), (15, .iaload, 1), (16, .iload_n 1, 1), (17, .if_icmp .ne 7, 3), (20, .iconst 1, 1), (21, .goto 4, 3), (24, .iconst 0, 1), (25, .ireturn, 1)])
def gX1_right : pj_Mi := ((⟨"ChannelRouter", "right", "(I)I"⟩, prog_1_method_7_code, 3, some .int), (1, 1, 1), [], [(0, .bipush 19, 2), (2, .istore_n 2, 1), (3, .iload_n 2, 1), (4, .ifCond .lt 18, 3), (7, .aload_n 0, 1), (8, .iload_n 1, 1), (9, .iload_n 2, 1), (10, .invokevirtual 43, 3), (13, .ifCond .ne 9, 3), (16, .iinc 2 (-1), 3), (19, .goto (-16), 3), (22, .iload_n 2, 1), (23, .ireturn, 1)])
def gX1_pairs : pj_Mi := ((⟨"ChannelRouter", "pairs", "(Z)I"⟩, prog_1_method_35_code, 4, some .int), (1, 1, 1), [], [(0, .aload_n 0, 1), (1, .iload_n 1, 1), (2, .invokevirtual 144, 3), (5, .iconst 0, 1), (6, .istore_n 2, 1), (7, .iconst 0, 1), (8, .istore_n 3, 1), (9, .iload_n 3, 1), (10, .aload_n 0, 1), (11, .getfield 23, 3), (14, .getfield 69, 3), (17, .if_icmp .ge 27, 3), (20, .iload_n 2, 1), (21, .aload_n 0, 1), (22, .getfield 23, 3), (25, .getfield 96, 3), (28, .iload_n 3, 1), (29, .aaload, 1), (30, .getfield 107, 3), (33, .invokestatic 197, 3), (36, .iadd, 1), (37, .istore_n 2, 1), (38, .iinc 3 1, 3), (41, .goto (-32), 3), (44, .iload_n 2, 1), (45, .ireturn, 1)])
def gX1_plan : pj_Mi := ((⟨"ChannelRouter", "plan", "(Z)V"⟩, prog_1_method_10_code, 3, none), (1, 1, 1), [], [(0, .aload_n 0, 1), (1, .getfield 23, 3), (4, .iconst 0, 1), (5, .putfield 69, 3), (8, .aload_n 0, 1), (9, .getfield 23, 3), (12, .iconst 0, 1), (13, .putfield 73, 3), (16, .iconst 1, 1), (17, .istore_n 2, 1), (18, .iload_n 2, 1), (19, .bipush 10, 2), (21, .if_icmp .ge 24, 3), (24, .aload_n 0, 1), (25, .iload_n 2, 1), (26, .invokevirtual 76, 3), (29, .iconst 3, 1), (30, .if_icmp .ne 9, 3), (33, .aload_n 0, 1), (34, .iload_n 2, 1), (35, .iload_n 1, 1), (36, .invokevirtual 79, 3), (39, .iinc 2 1, 3), (42, .goto (-24), 3), (45, .iconst 0, 1), (46, .istore_n 2, 1), (47, .iload_n 2, 1), (48, .bipush 20, 2), (50, .if_icmp .ge 47, 3), (53, .aload_n 0, 1), (54, .getfield 7, 3), (57, .iload_n 2, 1), (58, .iaload, 1), (59, .ifCond .eq 32, 3), (62, .aload_n 0, 1), (63, .getfield 13, 3), (66, .iload_n 2, 1), (67, .iaload, 1), (68, .ifCond .eq 23, 3), (71, .aload_n 0, 1), (72, .getfield 7, 3), (75, .iload_n 2, 1), (76, .iaload, 1), (77, .aload_n 0, 1), (78, .getfield 13, 3), (81, .iload_n 2, 1), (82, .iaload, 1), (83, .if_icmp .eq 8, 3), (86, .aload_n 0, 1), (87, .iload_n 2, 1), (88, .invokevirtual 83, 3), (91, .iinc 2 1, 3), (94, .goto (-47), 3), (97, .return_, 1)])
def gX1_cut : pj_Mi := ((⟨"ChannelRouter", "cut", "(IZ)V"⟩, prog_1_method_11_code, 6, none), (1, 1, 2), [], [(0, .aload_n 0, 1), (1, .iload_n 1, 1), (2, .invokevirtual 51, 3), (5, .istore_n 3, 1), (6, .iload_n 2, 1), (7, .ifCond .eq 7, 3), (10, .aconst_null, 1), (11, .goto 17, 3), (14, .aload_n 0, 1), (15, .getfield 23, 3), (18, .iload_n 1, 1), (19, .iload_n 3, 1), (20, .aload_n 0, 1), (21, .iload_n 1, 1), (22, .invokevirtual 54, 3), (25, .invokevirtual 87, 3), (28, .astore 4, 2), (30, .iload_n 3, 1), (31, .iconst 1, 1), (32, .iadd, 1), (33, .istore 5, 2), (35, .iload 5, 2), (37, .bipush 20, 2), (39, .if_icmp .ge 58, 3), (42, .aload_n 0, 1), (43, .iload_n 1, 1), (44, .iload 5, 2), (46, .invokevirtual 43, 3), (49, .ifCond .ne 6, 3), (52, .goto 39, 3), (55, .iload_n 2, 1), (56, .ifCond .eq 18, 3), (59, .aload_n 0, 1), (60, .getfield 23, 3), (63, .iload_n 1, 1), (64, .iload_n 3, 1), (65, .iload 5, 2), (67, .invokevirtual 87, 3), (70, .pop, 1), (71, .goto 17, 3), (74, .aload 4, 2), (76, .dup, 1), (77, .getfield 91, 3), (80, .iconst 1, 1), (81, .iload 5, 2), (83, .ishl, 1), (84, .ior, 1), (85, .putfield 91, 3), (88, .iload 5, 2), (90, .istore_n 3, 1), (91, .iinc 5 1, 3), (94, .goto (-59), 3), (97, .return_, 1)])
def gX1_order : pj_Mi := ((⟨"ChannelRouter", "order", "(I)V"⟩, prog_1_method_12_code, 6, none), (1, 1, 1), [], [(0, .iconst 0, 1), (1, .istore_n 2, 1), (2, .iload_n 2, 1), (3, .aload_n 0, 1), (4, .getfield 23, 3), (7, .getfield 69, 3), (10, .if_icmp .ge 128, 3), (13, .aload_n 0, 1), (14, .getfield 23, 3), (17, .getfield 96, 3), (20, .iload_n 2, 1), (21, .aaload, 1), (22, .astore_n 3, 1), (23, .aload_n 3, 1), (24, .getfield 100, 3), (27, .aload_n 0, 1), (28, .getfield 7, 3), (31, .iload_n 1, 1), (32, .iaload, 1), (33, .if_icmp .ne 99, 3), (36, .aload_n 3, 1), (37, .iload_n 1, 1), (38, .invokevirtual 103, 3), (41, .ifCond .ne 6, 3), (44, .goto 88, 3), (47, .iconst 0, 1), (48, .istore 4, 2), (50, .iload 4, 2), (52, .aload_n 0, 1), (53, .getfield 23, 3), (56, .getfield 69, 3), (59, .if_icmp .ge 73, 3), (62, .aload_n 0, 1), (63, .getfield 23, 3), (66, .getfield 96, 3), (69, .iload 4, 2), (71, .aaload, 1), (72, .astore 5, 2), (74, .aload 5, 2), (76, .getfield 100, 3), (79, .aload_n 0, 1), (80, .getfield 13, 3), (83, .iload_n 1, 1), (84, .iaload, 1), (85, .if_icmp .ne 41, 3), (88, .aload 5, 2), (90, .iload_n 1, 1), (91, .invokevirtual 103, 3), (94, .ifCond .ne 6, 3), (97, .goto 29, 3), (100, .aload_n 3, 1), (101, .dup, 1), (102, .getfield 107, 3), (105, .lconst 1, 1), (106, .iload 4, 2), (108, .lshl, 1), (109, .lor, 1), (110, .putfield 107, 3), (113, .aload 5, 2), (115, .dup, 1), (116, .getfield 111, 3), (119, .lconst 1, 1), (120, .iload_n 2, 1), (121, .lshl, 1), (122, .lor, 1), (123, .putfield 111, 3), (126, .iinc 4 1, 3), (129, .goto (-79), 3), (132, .iinc 2 1, 3), (135, .goto (-133), 3), (138, .return_, 1)])
def gX1_used : pj_Mi := ((⟨"ChannelRouter", "used", "()F"⟩, prog_1_method_38_code, 4, some .float), (1, 1, 0), [], [(0, .iconst 0, 1), (1, .istore_n 1, 1), (2, .iconst 0, 1), (3, .istore_n 2, 1), (4, .iload_n 2, 1), (5, .aload_n 0, 1), (6, .invokevirtual 178, 3), (9, .if_icmp .ge 37, 3), (12, .iconst 0, 1), (13, .istore_n 3, 1), (14, .iload_n 3, 1), (15, .bipush 20, 2), (17, .if_icmp .ge 23, 3), (20, .aload_n 0, 1), (21, .getfield 34, 3), (24, .iload_n 2, 1), (25, .aaload, 1), (26, .iload_n 3, 1), (27, .iaload, 1), (28, .ifCond .eq 6, 3), (31, .iinc 1 1, 3), (34, .iinc 3 1, 3), (37, .goto (-23), 3), (40, .iinc 2 1, 3), (43, .goto (-39), 3), (46, .aload_n 0, 1), (47, .invokevirtual 178, 3), (50, .ifCond .ne 7, 3), (53, .fconst 0, 1), (54, .goto 14, 3), (57, .iload_n 1, 1), (58, .i2f, 1), (59, .bipush 20, 2), (61, .aload_n 0, 1), (62, .invokevirtual 178, 3), (65, .imul, 1), (66, .i2f, 1), (67, .fdiv, 1), (68, .freturn, 1)])
def gX1_tracks : pj_Mi := ((⟨"ChannelRouter", "tracks", "()I"⟩, prog_1_method_26_code, 1, some .int), (1, 1, 0), [], [(0, .aload_n 0, 1), (1, .getfield 65, 3), (4, .ifCond .eq 13, 3), (7, .aload_n 0, 1), (8, .getfield 19, 3), (11, .getfield 73, 3), (14, .goto 4, 3), (17, .iconst 0, 1), (18, .ireturn, 1)])
def gX1_pin : pj_Mi := ((⟨"ChannelRouter", "pin", "(IZI)I"⟩, prog_1_method_9_code, 6, some .int), (1, 1, 3), [], [(0, .iload_n 1, 1), (1, .bipush 20, 2), (3, .invokestatic 57, 3), (6, .iload_n 3, 1), (7, .ifCond .lt 13, 3), (10, .iload_n 3, 1), (11, .bipush 10, 2), (13, .if_icmp .ge 7, 3), (16, .iconst 1, 1), (17, .goto 4, 3), (20, .iconst 0, 1), (21, .invokestatic 61, 3), (24, .iload_n 2, 1), (25, .ifCond .eq 10, 3), (28, .aload_n 0, 1), (29, .getfield 7, 3), (32, .goto 7, 3), (35, .aload_n 0, 1), (36, .getfield 13, 3), (39, .astore 4, 2), (41, .aload 4, 2), (43, .iload_n 1, 1), (44, .iaload, 1), (45, .istore 5, 2), (47, .aload 4, 2), (49, .iload_n 1, 1), (50, .iload_n 3, 1), (51, .iastore, 1), (52, .aload_n 0, 1), (53, .iconst 0, 1), (54, .putfield 65, 3), (57, .iload 5, 2), (59, .ireturn, 1)])
def gX1_among : pj_Mi := ((⟨"ChannelRouter", "among", "(II)V"⟩, prog_1_method_2_code, 2, none), (1, 0, 2), [], [(0, .iload_n 0, 1), (1, .ifCond .lt 8, 3), (4, .iload_n 0, 1), (5, .iload_n 1, 1), (6, .if_icmp .lt 11, 3), (9, .new 37, 3), (12, .dup, 1), (13, .invokespecial 39, 3), (16, .athrow, 1), (17, .return_, 1)])
def gX1_allow : pj_Mi := ((⟨"ChannelRouter", "allow", "(Z)V"⟩, prog_1_method_3_code, 1, none), (1, 0, 1), [], [(0, .iload_n 0, 1), (1, .ifCond .ne 11, 3), (4, .new 40, 3), (7, .dup, 1), (8, .invokespecial 42, 3), (11, .athrow, 1), (12, .return_, 1)])
def gX1_lay : pj_Mi := ((⟨"ChannelRouter", "lay", "(Z)I"⟩, prog_1_method_21_code, 3, some .int), (1, 1, 1), [], [(0, .aload_n 0, 1), (1, .invokevirtual 159, 3), (4, .aload_n 0, 1), (5, .iload_n 1, 1), (6, .invokevirtual 162, 3), (9, .istore_n 2, 1), (10, .iload_n 2, 1), (11, .iconst (-1), 1), (12, .if_icmp .ne 7, 3), (15, .aload_n 0, 1), (16, .invokevirtual 166, 3), (19, .iload_n 2, 1), (20, .ireturn, 1)])
def gX1_noSingle : pj_Mi := ((⟨"ChannelRouter", "noSingle", "()V"⟩, prog_1_method_20_code, 2, none), (1, 1, 0), [], [(0, .iconst 1, 1), (1, .istore_n 1, 1), (2, .iload_n 1, 1), (3, .bipush 10, 2), (5, .if_icmp .ge 26, 3), (8, .aload_n 0, 1), (9, .iload_n 1, 1), (10, .invokevirtual 76, 3), (13, .iconst 1, 1), (14, .if_icmp .eq 7, 3), (17, .iconst 1, 1), (18, .goto 4, 3), (21, .iconst 0, 1), (22, .invokestatic 61, 3), (25, .iinc 1 1, 3), (28, .goto (-26), 3), (31, .return_, 1)])
def gX1_tried : pj_Mi := ((⟨"ChannelRouter", "tried", "(Z)I"⟩, prog_1_method_22_code, 3, some .int), (1, 1, 1), [(0, 5, 6, 130)], [(0, .aload_n 0, 1), (1, .iload_n 1, 1), (2, .invokevirtual 169, 3), (5, .ireturn, 1), (6, .astore_n 2, 1), (7, .iconst (-1), 1), (8, .ireturn, 1)])
def gX1_layAll : pj_Mi := ((⟨"ChannelRouter", "layAll", "(Z)I"⟩, prog_1_method_19_code, 4, some .int), (1, 1, 1), [], [(0, .aload_n 0, 1), (1, .iload_n 1, 1), (2, .invokevirtual 144, 3), (5, .aload_n 0, 1), (6, .invokevirtual 147, 3), (9, .aload_n 0, 1), (10, .getfield 23, 3), (13, .getfield 69, 3), (16, .istore_n 2, 1), (17, .iload_n 2, 1), (18, .ifCond .le 33, 3), (21, .iload_n 2, 1), (22, .aload_n 0, 1), (23, .aload_n 0, 1), (24, .getfield 23, 3), (27, .getfield 73, 3), (30, .invokevirtual 150, 3), (33, .isub, 1), (34, .istore_n 2, 1), (35, .aload_n 0, 1), (36, .getfield 23, 3), (39, .dup, 1), (40, .getfield 73, 3), (43, .iconst 1, 1), (44, .iadd, 1), (45, .putfield 73, 3), (48, .goto (-31), 3), (51, .aload_n 0, 1), (52, .getfield 19, 3), (55, .astore_n 3, 1), (56, .aload_n 0, 1), (57, .aload_n 0, 1), (58, .getfield 23, 3), (61, .putfield 19, 3), (64, .aload_n 0, 1), (65, .aload_n 3, 1), (66, .putfield 23, 3), (69, .aload_n 0, 1), (70, .iconst 1, 1), (71, .putfield 65, 3), (74, .aload_n 0, 1), (75, .dup, 1), (76, .getfield 153, 3), (79, .iconst 1, 1), (80, .iadd, 1), (81, .putfield 153, 3), (84, .aload_n 0, 1), (85, .invokevirtual 156, 3), (88, .aload_n 0, 1), (89, .getfield 19, 3), (92, .getfield 73, 3), (95, .ireturn, 1)])
def gX1_searchRing : pj_Mi := ((⟨"ChannelRouter", "searchRing", "()V"⟩, prog_1_method_15_code, 6, none), (1, 1, 0), [], [(0, .iconst 0, 1), (1, .istore_n 1, 1), (2, .iload_n 1, 1), (3, .aload_n 0, 1), (4, .getfield 23, 3), (7, .getfield 69, 3), (10, .if_icmp .ge 17, 3), (13, .aload_n 0, 1), (14, .iload_n 1, 1), (15, .invokevirtual 118, 3), (18, .ifCond .ne 9, 3), (21, .iinc 1 1, 3), (24, .goto (-22), 3), (27, .iload_n 1, 1), (28, .aload_n 0, 1), (29, .getfield 23, 3), (32, .getfield 69, 3), (35, .if_icmp .ne 4, 3), (38, .return_, 1), (39, .aload_n 0, 1), (40, .iconst 0, 1), (41, .putfield 121, 3), (44, .iload_n 1, 1), (45, .istore_n 2, 1), (46, .aload_n 0, 1), (47, .getfield 29, 3), (50, .aload_n 0, 1), (51, .dup, 1), (52, .getfield 121, 3), (55, .dup_x1, 1), (56, .iconst 1, 1), (57, .iadd, 1), (58, .putfield 121, 3), (61, .iload_n 2, 1), (62, .iastore, 1), (63, .iconst 0, 1), (64, .istore_n 3, 1), (65, .aload_n 0, 1), (66, .getfield 23, 3), (69, .getfield 96, 3), (72, .iload_n 2, 1), (73, .aaload, 1), (74, .getfield 107, 3), (77, .lstore 4, 2), (79, .lload 4, 2), (81, .aload_n 0, 1), (82, .iload_n 1, 1), (83, .iload_n 3, 1), (84, .invokevirtual 114, 3), (87, .land, 1), (88, .lconst 0, 1), (89, .lcmp, 1), (90, .ifCond .ne 9, 3), (93, .iinc 3 1, 3), (96, .goto (-17), 3), (99, .lload 4, 2), (101, .aload_n 0, 1), (102, .iload_n 1, 1), (103, .iload_n 3, 1), (104, .invokevirtual 114, 3), (107, .land, 1), (108, .invokestatic 124, 3), (111, .istore_n 2, 1), (112, .iload_n 2, 1), (113, .iload_n 1, 1), (114, .if_icmp .ne (-68), 3), (117, .new 130, 3), (120, .dup, 1), (121, .invokespecial 132, 3), (124, .athrow, 1)])
def gX1_inRing : pj_Mi := ((⟨"ChannelRouter", "inRing", "(I)Z"⟩, prog_1_method_14_code, 4, some .boolean), (1, 1, 1), [], [(0, .aload_n 0, 1), (1, .iload_n 1, 1), (2, .aload_n 0, 1), (3, .getfield 23, 3), (6, .getfield 69, 3), (9, .invokevirtual 114, 3), (12, .lstore_n 2, 1), (13, .aload_n 0, 1), (14, .getfield 23, 3), (17, .getfield 96, 3), (20, .iload_n 1, 1), (21, .aaload, 1), (22, .getfield 107, 3), (25, .lload_n 2, 1), (26, .land, 1), (27, .lconst 0, 1), (28, .lcmp, 1), (29, .ifCond .eq 7, 3), (32, .iconst 1, 1), (33, .goto 4, 3), (36, .iconst 0, 1), (37, .ireturn, 1)])
def gX1_leading : pj_Mi := ((⟨"ChannelRouter", "leading", "(II)J"⟩, prog_1_method_13_code, 9, some .long), (1, 1, 2), [], [(0, .lconst 1, 1), (1, .iload_n 1, 1), (2, .lshl, 1), (3, .lstore_n 3, 1), (4, .iconst 0, 1), (5, .istore 5, 2), (7, .iload 5, 2), (9, .iload_n 2, 1), (10, .if_icmp .ge 65, 3), (13, .lload_n 3, 1), (14, .lstore 6, 2), (16, .iconst 0, 1), (17, .istore 8, 2), (19, .iload 8, 2), (21, .aload_n 0, 1), (22, .getfield 23, 3), (25, .getfield 69, 3), (28, .if_icmp .ge 38, 3), (31, .aload_n 0, 1), (32, .getfield 23, 3), (35, .getfield 96, 3), (38, .iload 8, 2), (40, .aaload, 1), (41, .getfield 107, 3), (44, .lload_n 3, 1), (45, .land, 1), (46, .lconst 0, 1), (47, .lcmp, 1), (48, .ifCond .eq 12, 3), (51, .lload 6, 2), (53, .lconst 1, 1), (54, .iload 8, 2), (56, .lshl, 1), (57, .lor, 1), (58, .lstore 6, 2), (60, .iinc 8 1, 3), (63, .goto (-44), 3), (66, .lload 6, 2), (68, .lstore_n 3, 1), (69, .iinc 5 1, 3), (72, .goto (-65), 3), (75, .lload_n 3, 1), (76, .lreturn, 1)])
def gX1_fill : pj_Mi := ((⟨"ChannelRouter", "fill", "(I)I"⟩, prog_1_method_17_code, 8, some .int), (1, 1, 1), [], [(0, .aconst_null, 1), (1, .astore_n 2, 1), (2, .iconst 0, 1), (3, .istore_n 3, 1), (4, .iconst 0, 1), (5, .istore 4, 2), (7, .iload 4, 2), (9, .bipush 20, 2), (11, .if_icmp .ge 132, 3), (14, .iconst 0, 1), (15, .istore 5, 2), (17, .iload 5, 2), (19, .aload_n 0, 1), (20, .getfield 23, 3), (23, .getfield 69, 3), (26, .if_icmp .ge 111, 3), (29, .aload_n 0, 1), (30, .getfield 23, 3), (33, .getfield 96, 3), (36, .iload 5, 2), (38, .aaload, 1), (39, .astore 6, 2), (41, .aload 6, 2), (43, .getfield 136, 3), (46, .iload 4, 2), (48, .if_icmp .ne 83, 3), (51, .aload_n 0, 1), (52, .aload 6, 2), (54, .iload_n 1, 1), (55, .invokevirtual 138, 3), (58, .ifCond .ne 6, 3), (61, .goto 70, 3), (64, .aload_n 2, 1), (65, .ifnull 39, 3), (68, .aload 6, 2), (70, .getfield 136, 3), (73, .aload_n 2, 1), (74, .getfield 142, 3), (77, .if_icmp .gt 27, 3), (80, .aload 6, 2), (82, .getfield 136, 3), (85, .aload_n 2, 1), (86, .getfield 142, 3), (89, .if_icmp .ne 19, 3), (92, .aload 6, 2), (94, .getfield 100, 3), (97, .aload_n 2, 1), (98, .getfield 100, 3), (101, .if_icmp .ne 7, 3), (104, .iconst 1, 1), (105, .goto 4, 3), (108, .iconst 0, 1), (109, .istore 7, 2), (111, .iload 7, 2), (113, .ifCond .ne 6, 3), (116, .goto 15, 3), (119, .aload 6, 2), (121, .iload_n 1, 1), (122, .putfield 133, 3), (125, .aload 6, 2), (127, .astore_n 2, 1), (128, .iinc 3 1, 3), (131, .iinc 5 1, 3), (134, .goto (-117), 3), (137, .iinc 4 1, 3), (140, .goto (-133), 3), (143, .iload_n 3, 1), (144, .ireturn, 1)])
def gX1_ready : pj_Mi := ((⟨"ChannelRouter", "ready", "(LChannelRouter$Segment;I)Z"⟩, prog_1_method_16_code, 5, some .boolean), (1, 1, 2), [], [(0, .aload_n 1, 1), (1, .getfield 133, 3), (4, .iconst (-1), 1), (5, .if_icmp .eq 5, 3), (8, .iconst 0, 1), (9, .ireturn, 1), (10, .iconst 0, 1), (11, .istore_n 3, 1), (12, .iload_n 3, 1), (13, .aload_n 0, 1), (14, .getfield 23, 3), (17, .getfield 69, 3), (20, .if_icmp .ge 53, 3), (23, .aload_n 0, 1), (24, .getfield 23, 3), (27, .getfield 96, 3), (30, .iload_n 3, 1), (31, .aaload, 1), (32, .astore 4, 2), (34, .aload_n 1, 1), (35, .getfield 111, 3), (38, .iload_n 3, 1), (39, .lshr, 1), (40, .lconst 1, 1), (41, .land, 1), (42, .lconst 1, 1), (43, .lcmp, 1), (44, .ifCond .ne 23, 3), (47, .aload 4, 2), (49, .getfield 133, 3), (52, .iconst (-1), 1), (53, .if_icmp .eq 12, 3), (56, .aload 4, 2), (58, .getfield 133, 3), (61, .iload_n 2, 1), (62, .if_icmp .ne 5, 3), (65, .iconst 0, 1), (66, .ireturn, 1), (67, .iinc 3 1, 3), (70, .goto (-58), 3), (73, .iconst 1, 1), (74, .ireturn, 1)])
def gX1_draw : pj_Mi := ((⟨"ChannelRouter", "draw", "()V"⟩, prog_1_method_18_code, 4, none), (1, 1, 0), [], [(0, .iconst 0, 1), (1, .istore_n 1, 1), (2, .iload_n 1, 1), (3, .aload_n 0, 1), (4, .getfield 19, 3), (7, .getfield 73, 3), (10, .if_icmp .ge 32, 3), (13, .iconst 0, 1), (14, .istore_n 2, 1), (15, .iload_n 2, 1), (16, .bipush 20, 2), (18, .if_icmp .ge 18, 3), (21, .aload_n 0, 1), (22, .getfield 34, 3), (25, .iload_n 1, 1), (26, .aaload, 1), (27, .iload_n 2, 1), (28, .iconst 0, 1), (29, .iastore, 1), (30, .iinc 2 1, 3), (33, .goto (-18), 3), (36, .iinc 1 1, 3), (39, .goto (-37), 3), (42, .iconst 0, 1), (43, .istore_n 1, 1), (44, .iload_n 1, 1), (45, .aload_n 0, 1), (46, .getfield 19, 3), (49, .getfield 69, 3), (52, .if_icmp .ge 53, 3), (55, .aload_n 0, 1), (56, .getfield 19, 3), (59, .getfield 96, 3), (62, .iload_n 1, 1), (63, .aaload, 1), (64, .astore_n 2, 1), (65, .aload_n 2, 1), (66, .getfield 136, 3), (69, .istore_n 3, 1), (70, .iload_n 3, 1), (71, .aload_n 2, 1), (72, .getfield 142, 3), (75, .if_icmp .gt 24, 3), (78, .aload_n 0, 1), (79, .getfield 34, 3), (82, .aload_n 2, 1), (83, .getfield 133, 3), (86, .aaload, 1), (87, .iload_n 3, 1), (88, .aload_n 2, 1), (89, .getfield 100, 3), (92, .iastore, 1), (93, .iinc 3 1, 3), (96, .goto (-26), 3), (99, .iinc 1 1, 3), (102, .goto (-58), 3), (105, .return_, 1)])
def gX1_refuse : pj_Mi := ((⟨"ChannelRouter", "refuse", "()V"⟩, prog_1_method_23_code, 2, none), (1, 1, 0), [], [(0, .aload_n 0, 1), (1, .getfield 26, 3), (4, .astore_n 1, 1), (5, .aload_n 0, 1), (6, .aload_n 0, 1), (7, .getfield 29, 3), (10, .putfield 26, 3), (13, .aload_n 0, 1), (14, .aload_n 1, 1), (15, .putfield 29, 3), (18, .aload_n 0, 1), (19, .aload_n 0, 1), (20, .getfield 121, 3), (23, .putfield 172, 3), (26, .aload_n 0, 1), (27, .dup, 1), (28, .getfield 175, 3), (31, .iconst 1, 1), (32, .iadd, 1), (33, .putfield 175, 3), (36, .new 130, 3), (39, .dup, 1), (40, .invokespecial 132, 3), (43, .athrow, 1)])
def gX1_layAny : pj_Mi := ((⟨"ChannelRouter", "layAny", "()I"⟩, prog_1_method_24_code, 2, some .int), (1, 1, 0), [], [(0, .aload_n 0, 1), (1, .invokevirtual 159, 3), (4, .aload_n 0, 1), (5, .iconst 0, 1), (6, .invokevirtual 162, 3), (9, .istore_n 1, 1), (10, .iload_n 1, 1), (11, .iconst (-1), 1), (12, .if_icmp .eq 5, 3), (15, .iload_n 1, 1), (16, .ireturn, 1), (17, .aload_n 0, 1), (18, .iconst 1, 1), (19, .invokevirtual 162, 3), (22, .istore_n 1, 1), (23, .iload_n 1, 1), (24, .iconst (-1), 1), (25, .if_icmp .ne 7, 3), (28, .aload_n 0, 1), (29, .invokevirtual 166, 3), (32, .sipush 1000, 3), (35, .iload_n 1, 1), (36, .iadd, 1), (37, .ireturn, 1)])
def gX1_segment : pj_Mi := ((⟨"ChannelRouter", "segment", "(II)I"⟩, prog_1_method_27_code, 4, some .int), (1, 1, 2), [], [(0, .iload_n 1, 1), (1, .aload_n 0, 1), (2, .getfield 65, 3), (5, .ifCond .eq 13, 3), (8, .aload_n 0, 1), (9, .getfield 19, 3), (12, .getfield 69, 3), (15, .goto 4, 3), (18, .iconst 0, 1), (19, .invokestatic 57, 3), (22, .iload_n 2, 1), (23, .iconst 4, 1), (24, .invokestatic 57, 3), (27, .aload_n 0, 1), (28, .getfield 19, 3), (31, .getfield 96, 3), (34, .iload_n 1, 1), (35, .aaload, 1), (36, .astore_n 3, 1), (37, .iload_n 2, 1), (38, .ifCond .ne 10, 3), (41, .aload_n 3, 1), (42, .getfield 100, 3), (45, .goto 31, 3), (48, .iload_n 2, 1), (49, .iconst 1, 1), (50, .if_icmp .ne 10, 3), (53, .aload_n 3, 1), (54, .getfield 136, 3), (57, .goto 19, 3), (60, .iload_n 2, 1), (61, .iconst 2, 1), (62, .if_icmp .ne 10, 3), (65, .aload_n 3, 1), (66, .getfield 142, 3), (69, .goto 7, 3), (72, .aload_n 3, 1), (73, .getfield 133, 3), (76, .ireturn, 1)])
def gX1_level : pj_Mi := ((⟨"ChannelRouter", "level", "(II)I"⟩, prog_1_method_28_code, 3, some .int), (1, 1, 2), [], [(0, .iload_n 1, 1), (1, .aload_n 0, 1), (2, .invokevirtual 178, 3), (5, .invokestatic 57, 3), (8, .iload_n 2, 1), (9, .bipush 20, 2), (11, .invokestatic 57, 3), (14, .aload_n 0, 1), (15, .getfield 34, 3), (18, .iload_n 1, 1), (19, .aaload, 1), (20, .iload_n 2, 1), (21, .iaload, 1), (22, .ireturn, 1)])
def gX1_upright : pj_Mi := ((⟨"ChannelRouter", "upright", "(II)I"⟩, prog_1_method_31_code, 3, some .int), (1, 1, 2), [], [(0, .iload_n 1, 1), (1, .bipush 20, 2), (3, .invokestatic 57, 3), (6, .iload_n 2, 1), (7, .iconst 1, 1), (8, .iadd, 1), (9, .aload_n 0, 1), (10, .getfield 65, 3), (13, .ifCond .eq 15, 3), (16, .aload_n 0, 1), (17, .getfield 19, 3), (20, .getfield 73, 3), (23, .iconst 2, 1), (24, .iadd, 1), (25, .goto 4, 3), (28, .iconst 0, 1), (29, .invokestatic 57, 3), (32, .aload_n 0, 1), (33, .iload_n 1, 1), (34, .iload_n 2, 1), (35, .invokevirtual 185, 3), (38, .ireturn, 1)])
def gX1_uprightAt : pj_Mi := ((⟨"ChannelRouter", "uprightAt", "(II)I"⟩, prog_1_method_30_code, 5, some .int), (1, 1, 2), [], [(0, .aload_n 0, 1), (1, .getfield 7, 3), (4, .iload_n 1, 1), (5, .iaload, 1), (6, .istore_n 3, 1), (7, .aload_n 0, 1), (8, .getfield 13, 3), (11, .iload_n 1, 1), (12, .iaload, 1), (13, .istore 4, 2), (15, .iload_n 3, 1), (16, .iload 4, 2), (18, .if_icmp .ne 5, 3), (21, .iload_n 3, 1), (22, .ireturn, 1), (23, .iload_n 3, 1), (24, .ifCond .eq 16, 3), (27, .iload_n 2, 1), (28, .aload_n 0, 1), (29, .iload_n 3, 1), (30, .iload_n 1, 1), (31, .iconst 1, 1), (32, .invokevirtual 181, 3), (35, .if_icmp .gt 5, 3), (38, .iload_n 3, 1), (39, .ireturn, 1), (40, .iload 4, 2), (42, .ifCond .eq 20, 3), (45, .iload_n 2, 1), (46, .aload_n 0, 1), (47, .iload 4, 2), (49, .iload_n 1, 1), (50, .iconst 0, 1), (51, .invokevirtual 181, 3), (54, .if_icmp .lt 8, 3), (57, .iload 4, 2), (59, .goto 4, 3), (62, .iconst 0, 1), (63, .ireturn, 1)])
def gX1_reach : pj_Mi := ((⟨"ChannelRouter", "reach", "(IIZ)I"⟩, prog_1_method_29_code, 7, some .int), (1, 1, 3), [], [(0, .iconst (-1), 1), (1, .istore 4, 2), (3, .iconst 0, 1), (4, .istore 5, 2), (6, .iload 5, 2), (8, .aload_n 0, 1), (9, .getfield 19, 3), (12, .getfield 69, 3), (15, .if_icmp .ge 71, 3), (18, .aload_n 0, 1), (19, .getfield 19, 3), (22, .getfield 96, 3), (25, .iload 5, 2), (27, .aaload, 1), (28, .astore 6, 2), (30, .aload 6, 2), (32, .getfield 100, 3), (35, .iload_n 1, 1), (36, .if_icmp .ne 44, 3), (39, .aload 6, 2), (41, .iload_n 2, 1), (42, .invokevirtual 103, 3), (45, .ifCond .eq 35, 3), (48, .iload 4, 2), (50, .iconst (-1), 1), (51, .if_icmp .eq 22, 3), (54, .aload 6, 2), (56, .getfield 133, 3), (59, .iload 4, 2), (61, .if_icmp .le 7, 3), (64, .iconst 1, 1), (65, .goto 4, 3), (68, .iconst 0, 1), (69, .iload_n 3, 1), (70, .if_icmp .ne 10, 3), (73, .aload 6, 2), (75, .getfield 133, 3), (78, .istore 4, 2), (80, .iinc 5 1, 3), (83, .goto (-77), 3), (86, .iload 4, 2), (88, .ireturn, 1)])
def gX1_via : pj_Mi := ((⟨"ChannelRouter", "via", "(II)Z"⟩, prog_1_method_33_code, 3, some .boolean), (1, 1, 2), [], [(0, .iload_n 1, 1), (1, .aload_n 0, 1), (2, .invokevirtual 178, 3), (5, .invokestatic 57, 3), (8, .iload_n 2, 1), (9, .bipush 20, 2), (11, .invokestatic 57, 3), (14, .aload_n 0, 1), (15, .iload_n 1, 1), (16, .iload_n 2, 1), (17, .invokevirtual 189, 3), (20, .ireturn, 1)])
def gX1_joined : pj_Mi := ((⟨"ChannelRouter", "joined", "(II)Z"⟩, prog_1_method_32_code, 7, some .boolean), (1, 1, 2), [], [(0, .aload_n 0, 1), (1, .getfield 34, 3), (4, .iload_n 1, 1), (5, .aaload, 1), (6, .iload_n 2, 1), (7, .iaload, 1), (8, .istore_n 3, 1), (9, .iload_n 3, 1), (10, .ifCond .eq 13, 3), (13, .aload_n 0, 1), (14, .iload_n 2, 1), (15, .iload_n 1, 1), (16, .invokevirtual 185, 3), (19, .iload_n 3, 1), (20, .if_icmp .eq 5, 3), (23, .iconst 0, 1), (24, .ireturn, 1), (25, .iconst 0, 1), (26, .istore 4, 2), (28, .iconst 0, 1), (29, .istore 5, 2), (31, .iload 5, 2), (33, .aload_n 0, 1), (34, .getfield 19, 3), (37, .getfield 69, 3), (40, .if_icmp .ge 58, 3), (43, .aload_n 0, 1), (44, .getfield 19, 3), (47, .getfield 96, 3), (50, .iload 5, 2), (52, .aaload, 1), (53, .astore 6, 2), (55, .iload 4, 2), (57, .aload 6, 2), (59, .getfield 133, 3), (62, .iload_n 1, 1), (63, .if_icmp .ne 25, 3), (66, .aload 6, 2), (68, .getfield 100, 3), (71, .iload_n 3, 1), (72, .if_icmp .ne 16, 3), (75, .aload 6, 2), (77, .iload_n 2, 1), (78, .invokevirtual 103, 3), (81, .ifCond .eq 7, 3), (84, .iconst 1, 1), (85, .goto 4, 3), (88, .iconst 0, 1), (89, .ior, 1), (90, .istore 4, 2), (92, .iinc 5 1, 3), (95, .goto (-64), 3), (98, .iload 4, 2), (100, .ireturn, 1)])
def gX1_net : pj_Mi := ((⟨"ChannelRouter", "net", "(II)I"⟩, prog_1_method_36_code, 4, some .int), (1, 1, 2), [], [(0, .iload_n 1, 1), (1, .iconst 1, 1), (2, .isub, 1), (3, .bipush 9, 2), (5, .invokestatic 57, 3), (8, .iload_n 2, 1), (9, .iconst 4, 1), (10, .invokestatic 57, 3), (13, .aload_n 0, 1), (14, .iload_n 1, 1), (15, .invokevirtual 76, 3), (18, .istore_n 3, 1), (19, .iload_n 2, 1), (20, .iconst 2, 1), (21, .if_icmp .ge 30, 3), (24, .iload_n 3, 1), (25, .iconst 3, 1), (26, .if_icmp .eq 7, 3), (29, .iconst (-1), 1), (30, .goto 20, 3), (33, .iload_n 2, 1), (34, .ifCond .ne 11, 3), (37, .aload_n 0, 1), (38, .iload_n 1, 1), (39, .invokevirtual 51, 3), (42, .goto 8, 3), (45, .aload_n 0, 1), (46, .iload_n 1, 1), (47, .invokevirtual 54, 3), (50, .ireturn, 1), (51, .iload_n 2, 1), (52, .iconst 2, 1), (53, .if_icmp .ne 11, 3), (56, .aload_n 0, 1), (57, .iload_n 1, 1), (58, .invokevirtual 47, 3), (61, .goto 4, 3), (64, .iload_n 3, 1), (65, .ireturn, 1)])
def gX1_count : pj_Mi := ((⟨"ChannelRouter", "count", "(I)I"⟩, prog_1_method_37_code, 5, some .int), (1, 1, 1), [], [(0, .iload_n 1, 1), (1, .bipush 6, 2), (3, .invokestatic 57, 3), (6, .iconst 0, 1), (7, .istore_n 2, 1), (8, .iconst 0, 1), (9, .istore_n 3, 1), (10, .iload_n 3, 1), (11, .aload_n 0, 1), (12, .invokevirtual 178, 3), (15, .if_icmp .ge 43, 3), (18, .iload_n 1, 1), (19, .iconst 2, 1), (20, .if_icmp .ne 38, 3), (23, .iconst 0, 1), (24, .istore 4, 2), (26, .iload 4, 2), (28, .bipush 20, 2), (30, .if_icmp .ge 22, 3), (33, .aload_n 0, 1), (34, .iload_n 3, 1), (35, .iload 4, 2), (37, .invokevirtual 189, 3), (40, .ifCond .eq 6, 3), (43, .iinc 2 1, 3), (46, .iinc 4 1, 3), (49, .goto (-23), 3), (52, .iinc 3 1, 3), (55, .goto (-45), 3), (58, .iload_n 1, 1), (59, .tableswitch 69 0 4 #[33, 38, 57, 59, 64], 33), (92, .aload_n 0, 1), (93, .invokevirtual 178, 3), (96, .ireturn, 1), (97, .aload_n 0, 1), (98, .getfield 65, 3), (101, .ifCond .eq 13, 3), (104, .aload_n 0, 1), (105, .getfield 19, 3), (108, .getfield 69, 3), (111, .goto 4, 3), (114, .iconst 0, 1), (115, .ireturn, 1), (116, .iload_n 2, 1), (117, .ireturn, 1), (118, .aload_n 0, 1), (119, .getfield 153, 3), (122, .ireturn, 1), (123, .aload_n 0, 1), (124, .getfield 175, 3), (127, .ireturn, 1), (128, .aload_n 0, 1), (129, .getfield 65, 3), (132, .ifCond .eq 7, 3), (135, .iconst 1, 1), (136, .goto 4, 3), (139, .iconst 0, 1), (140, .ireturn, 1)])
def gX2_init : pj_Mi := ((⟨"ChannelRouter$Plan", "<init>", "()V"⟩, prog_2_method_1_code, 2, none), (2, 2, 0), [], [(0, .aload_n 0, 1), (1, .invokespecial 3, 3), (4, .aload_n 0, 1), (5, .bipush 40, 2), (7, .anewarray 9, 3), (10, .putfield 11, 3), (13, .iconst 0, 1), (14, .istore_n 1, 1), (15, .iload_n 1, 1), (16, .bipush 40, 2), (18, .if_icmp .ge 22, 3), (21, .aload_n 0, 1), (22, .getfield 11, 3), (25, .iload_n 1, 1), (26, .new 9, 3), (29, .dup, 1), (30, .invokespecial 17, 3), (33, .aastore, 1), (34, .iinc 1 1, 3), (37, .goto (-22), 3), (40, .return_, 1)])
def gX2_add : pj_Mi := ((⟨"ChannelRouter$Plan", "add", "(III)LChannelRouter$Segment;"⟩, prog_2_method_2_code, 5, some (.object "ChannelRouter$Segment")), (2, 1, 3), [], [(0, .aload_n 0, 1), (1, .getfield 11, 3), (4, .aload_n 0, 1), (5, .dup, 1), (6, .getfield 18, 3), (9, .dup_x1, 1), (10, .iconst 1, 1), (11, .iadd, 1), (12, .putfield 18, 3), (15, .aaload, 1), (16, .astore 4, 2), (18, .aload 4, 2), (20, .iload_n 1, 1), (21, .iload_n 2, 1), (22, .iload_n 3, 1), (23, .invokevirtual 22, 3), (26, .aload 4, 2), (28, .areturn, 1)])
def gX3_init : pj_Mi := ((⟨"ChannelRouter$Segment", "<init>", "()V"⟩, prog_3_method_1_code, 1, none), (3, 2, 0), [], [(0, .aload_n 0, 1), (1, .invokespecial 3, 3), (4, .return_, 1)])
def gX3_begin : pj_Mi := ((⟨"ChannelRouter$Segment", "begin", "(III)V"⟩, prog_3_method_2_code, 4, none), (3, 1, 3), [], [(0, .aload_n 0, 1), (1, .iload_n 1, 1), (2, .putfield 9, 3), (5, .aload_n 0, 1), (6, .iload_n 2, 1), (7, .putfield 15, 3), (10, .aload_n 0, 1), (11, .iload_n 3, 1), (12, .putfield 18, 3), (15, .aload_n 0, 1), (16, .iconst (-1), 1), (17, .putfield 21, 3), (20, .aload_n 0, 1), (21, .iconst 1, 1), (22, .iload_n 2, 1), (23, .ishl, 1), (24, .iconst 1, 1), (25, .iload_n 3, 1), (26, .ishl, 1), (27, .ior, 1), (28, .putfield 24, 3), (31, .aload_n 0, 1), (32, .lconst 0, 1), (33, .putfield 27, 3), (36, .aload_n 0, 1), (37, .lconst 0, 1), (38, .putfield 31, 3), (41, .return_, 1)])
def gX3_touch : pj_Mi := ((⟨"ChannelRouter$Segment", "touch", "(I)Z"⟩, prog_3_method_3_code, 2, some .boolean), (3, 1, 1), [], [(0, .aload_n 0, 1), (1, .getfield 24, 3), (4, .iload_n 1, 1), (5, .ishr, 1), (6, .iconst 1, 1), (7, .iand, 1), (8, .iconst 1, 1), (9, .if_icmp .ne 7, 3), (12, .iconst 1, 1), (13, .goto 4, 3), (16, .iconst 0, 1), (17, .ireturn, 1)])
def gX4_init : pj_Mi := ((⟨"ChannelRouterModel", "<init>", "()V"⟩, prog_5_method_1_code, 1, none), (4, 2, 0), [], [(0, .aload_n 0, 1), (1, .invokespecial 1, 3), (4, .aload_n 0, 1), (5, .bipush 40, 2), (7, .newarray .int, 2), (9, .putfield 7, 3), (12, .aload_n 0, 1), (13, .bipush 40, 2), (15, .newarray .int, 2), (17, .putfield 13, 3), (20, .aload_n 0, 1), (21, .bipush 40, 2), (23, .newarray .int, 2), (25, .putfield 16, 3), (28, .aload_n 0, 1), (29, .bipush 40, 2), (31, .newarray .int, 2), (33, .putfield 19, 3), (36, .aload_n 0, 1), (37, .bipush 40, 2), (39, .newarray .int, 2), (41, .putfield 22, 3), (44, .aload_n 0, 1), (45, .bipush 40, 2), (47, .newarray .long, 2), (49, .putfield 25, 3), (52, .aload_n 0, 1), (53, .bipush 40, 2), (55, .newarray .long, 2), (57, .putfield 29, 3), (60, .aload_n 0, 1), (61, .bipush 40, 2), (63, .newarray .int, 2), (65, .putfield 32, 3), (68, .aload_n 0, 1), (69, .bipush 40, 2), (71, .newarray .int, 2), (73, .putfield 35, 3), (76, .aload_n 0, 1), (77, .bipush 40, 2), (79, .newarray .int, 2), (81, .putfield 38, 3), (84, .aload_n 0, 1), (85, .bipush 40, 2), (87, .newarray .int, 2), (89, .putfield 41, 3), (92, .aload_n 0, 1), (93, .bipush 40, 2), (95, .newarray .int, 2), (97, .putfield 44, 3), (100, .aload_n 0, 1), (101, .bipush 40, 2), (103, .newarray .int, 2), (105, .putfield 47, 3), (108, .aload_n 0, 1), (109, .bipush 40, 2), (111, .newarray .int, 2), (113, .putfield 50, 3), (116, .aload_n 0, 1), (117, .bipush 40, 2), (119, .newarray .int, 2), (121, .putfield 53, 3), (124, .return_, 1)])
def gX4_thrown : pj_Mi := ((⟨"ChannelRouterModel", "thrown", "()I"⟩, prog_5_method_2_code, 1, some .int), (4, 1, 0), [], [(0, .aload_n 0, 1), (1, .getfield 56, 3), (4, .ireturn, 1)])
def gX4_pin : pj_Mi := ((⟨"ChannelRouterModel", "pin", "(IZI)I"⟩, prog_5_method_5_code, 6, some .int), (4, 1, 3), [], [(0, .aload_n 0, 1), (1, .iload_n 1, 1), (2, .iconst 0, 1), (3, .bipush 19, 2), (5, .invokestatic 60, 3), (8, .ifCond .ne 7, 3), (11, .iconst 1, 1), (12, .goto 18, 3), (15, .iload_n 3, 1), (16, .iconst 0, 1), (17, .bipush 9, 2), (19, .invokestatic 60, 3), (22, .ifCond .ne 7, 3), (25, .iconst 2, 1), (26, .goto 4, 3), (29, .iconst 0, 1), (30, .putfield 56, 3), (33, .aload_n 0, 1), (34, .getfield 56, 3), (37, .ifCond .le 5, 3), (40, .iconst 0, 1), (41, .ireturn, 1), (42, .iload_n 2, 1), (43, .ifCond .eq 7, 3), (46, .iload_n 1, 1), (47, .goto 7, 3), (50, .bipush 20, 2), (52, .iload_n 1, 1), (53, .iadd, 1), (54, .istore 4, 2), (56, .aload_n 0, 1), (57, .getfield 7, 3), (60, .iload 4, 2), (62, .iaload, 1), (63, .istore 5, 2), (65, .aload_n 0, 1), (66, .getfield 7, 3), (69, .iload 4, 2), (71, .iload_n 3, 1), (72, .iastore, 1), (73, .aload_n 0, 1), (74, .iconst 0, 1), (75, .putfield 64, 3), (78, .aload_n 0, 1), (79, .iconst 0, 1), (80, .putfield 68, 3), (83, .aload_n 0, 1), (84, .iconst 0, 1), (85, .putfield 71, 3), (88, .iload 5, 2), (90, .ireturn, 1)])
def gX4_in : pj_Mi := ((⟨"ChannelRouterModel", "in", "(III)Z"⟩, prog_5_method_4_code, 3, some .boolean), (4, 0, 3), [], [(0, .iload_n 0, 1), (1, .iload_n 1, 1), (2, .if_icmp .lt 12, 3), (5, .iload_n 0, 1), (6, .iload_n 2, 1), (7, .if_icmp .gt 7, 3), (10, .iconst 1, 1), (11, .goto 4, 3), (14, .iconst 0, 1), (15, .ireturn, 1)])
def gX4_lay : pj_Mi := ((⟨"ChannelRouterModel", "lay", "(Z)I"⟩, prog_5_method_25_code, 3, some .int), (4, 1, 1), [], [(0, .aload_n 0, 1), (1, .iconst 0, 1), (2, .putfield 56, 3), (5, .aload_n 0, 1), (6, .invokevirtual 139, 3), (9, .ifCond .eq 9, 3), (12, .aload_n 0, 1), (13, .iconst 1, 1), (14, .invokevirtual 143, 3), (17, .ireturn, 1), (18, .aload_n 0, 1), (19, .iload_n 1, 1), (20, .invokevirtual 146, 3), (23, .istore_n 2, 1), (24, .aload_n 0, 1), (25, .invokevirtual 150, 3), (28, .ifCond .eq 10, 3), (31, .aload_n 0, 1), (32, .invokevirtual 153, 3), (35, .goto 4, 3), (38, .iconst 0, 1), (39, .ireturn, 1)])
def gX4_anySingle : pj_Mi := ((⟨"ChannelRouterModel", "anySingle", "()Z"⟩, prog_5_method_11_code, 3, some .boolean), (4, 1, 0), [], [(0, .iconst 0, 1), (1, .istore_n 1, 1), (2, .iconst 1, 1), (3, .istore_n 2, 1), (4, .iload_n 2, 1), (5, .bipush 9, 2), (7, .if_icmp .gt 28, 3), (10, .iload_n 1, 1), (11, .ifCond .ne 12, 3), (14, .aload_n 0, 1), (15, .iload_n 2, 1), (16, .invokevirtual 87, 3), (19, .iconst 1, 1), (20, .if_icmp .ne 7, 3), (23, .iconst 1, 1), (24, .goto 4, 3), (27, .iconst 0, 1), (28, .istore_n 1, 1), (29, .iinc 2 1, 3), (32, .goto (-28), 3), (35, .iload_n 1, 1), (36, .ireturn, 1)])
def gX4_sort : pj_Mi := ((⟨"ChannelRouterModel", "sort", "(I)I"⟩, prog_5_method_10_code, 4, some .int), (4, 1, 1), [], [(0, .aload_n 0, 1), (1, .iload_n 1, 1), (2, .invokevirtual 74, 3), (5, .istore_n 2, 1), (6, .aload_n 0, 1), (7, .iload_n 1, 1), (8, .invokevirtual 78, 3), (11, .istore_n 3, 1), (12, .iload_n 2, 1), (13, .iconst 2, 1), (14, .if_icmp .ge 7, 3), (17, .iload_n 2, 1), (18, .goto 19, 3), (21, .iload_n 3, 1), (22, .invokestatic 81, 3), (25, .iload_n 3, 1), (26, .invokestatic 84, 3), (29, .if_icmp .ne 7, 3), (32, .iconst 2, 1), (33, .goto 4, 3), (36, .iconst 3, 1), (37, .ireturn, 1)])
def gX4_pinsOf : pj_Mi := ((⟨"ChannelRouterModel", "pinsOf", "(I)I"⟩, prog_5_method_7_code, 4, some .int), (4, 1, 1), [], [(0, .iconst 0, 1), (1, .istore_n 2, 1), (2, .iconst 0, 1), (3, .istore_n 3, 1), (4, .iload_n 3, 1), (5, .bipush 40, 2), (7, .if_icmp .ge 27, 3), (10, .aload_n 0, 1), (11, .getfield 7, 3), (14, .iload_n 3, 1), (15, .iaload, 1), (16, .iload_n 1, 1), (17, .if_icmp .ne 9, 3), (20, .iload_n 2, 1), (21, .iconst 1, 1), (22, .iadd, 1), (23, .goto 4, 3), (26, .iload_n 2, 1), (27, .istore_n 2, 1), (28, .iinc 3 1, 3), (31, .goto (-27), 3), (34, .iload_n 2, 1), (35, .ireturn, 1)])
def gX4_columns : pj_Mi := ((⟨"ChannelRouterModel", "columns", "(I)I"⟩, prog_5_method_6_code, 4, some .int), (4, 1, 1), [], [(0, .iconst 0, 1), (1, .istore_n 2, 1), (2, .iconst 0, 1), (3, .istore_n 3, 1), (4, .iload_n 3, 1), (5, .bipush 20, 2), (7, .if_icmp .ge 42, 3), (10, .aload_n 0, 1), (11, .getfield 7, 3), (14, .iload_n 3, 1), (15, .iaload, 1), (16, .iload_n 1, 1), (17, .if_icmp .eq 16, 3), (20, .aload_n 0, 1), (21, .getfield 7, 3), (24, .bipush 20, 2), (26, .iload_n 3, 1), (27, .iadd, 1), (28, .iaload, 1), (29, .iload_n 1, 1), (30, .if_icmp .ne 11, 3), (33, .iload_n 2, 1), (34, .iconst 1, 1), (35, .iload_n 3, 1), (36, .ishl, 1), (37, .ior, 1), (38, .goto 4, 3), (41, .iload_n 2, 1), (42, .istore_n 2, 1), (43, .iinc 3 1, 3), (46, .goto (-42), 3), (49, .iload_n 2, 1), (50, .ireturn, 1)])
def gX4_lowest : pj_Mi := ((⟨"ChannelRouterModel", "lowest", "(I)I"⟩, prog_5_method_8_code, 2, some .int), (4, 0, 1), [], [(0, .iconst 0, 1), (1, .istore_n 1, 1), (2, .iload_n 0, 1), (3, .iload_n 1, 1), (4, .ishr, 1), (5, .iconst 1, 1), (6, .iand, 1), (7, .ifCond .ne 9, 3), (10, .iinc 1 1, 3), (13, .goto (-11), 3), (16, .iload_n 1, 1), (17, .ireturn, 1)])
def gX4_highest : pj_Mi := ((⟨"ChannelRouterModel", "highest", "(I)I"⟩, prog_5_method_9_code, 2, some .int), (4, 0, 1), [], [(0, .bipush 19, 2), (2, .istore_n 1, 1), (3, .iload_n 0, 1), (4, .iload_n 1, 1), (5, .ishr, 1), (6, .iconst 1, 1), (7, .iand, 1), (8, .ifCond .ne 9, 3), (11, .iinc 1 (-1), 3), (14, .goto (-11), 3), (17, .iload_n 1, 1), (18, .ireturn, 1)])
def gX4_fail : pj_Mi := ((⟨"ChannelRouterModel", "fail", "(I)I"⟩, prog_5_method_3_code, 2, some .int), (4, 1, 1), [], [(0, .aload_n 0, 1), (1, .iload_n 1, 1), (2, .putfield 56, 3), (5, .iconst 0, 1), (6, .ireturn, 1)])
def gX4_study : pj_Mi := ((⟨"ChannelRouterModel", "study", "(Z)I"⟩, prog_5_method_15_code, 9, some .int), (4, 1, 1), [], [(0, .aload_n 0, 1), (1, .iload_n 1, 1), (2, .invokevirtual 97, 3), (5, .iconst 0, 1), (6, .istore_n 2, 1), (7, .iconst 0, 1), (8, .istore_n 3, 1), (9, .iload_n 3, 1), (10, .aload_n 0, 1), (11, .getfield 90, 3), (14, .if_icmp .ge 172, 3), (17, .aload_n 0, 1), (18, .getfield 25, 3), (21, .iload_n 3, 1), (22, .lconst 0, 1), (23, .lastore, 1), (24, .iconst 0, 1), (25, .istore 4, 2), (27, .iload 4, 2), (29, .aload_n 0, 1), (30, .getfield 90, 3), (33, .if_icmp .ge 147, 3), (36, .iconst 0, 1), (37, .istore 5, 2), (39, .iconst 0, 1), (40, .istore 6, 2), (42, .iload 6, 2), (44, .bipush 20, 2), (46, .if_icmp .ge 84, 3), (49, .aload_n 0, 1), (50, .getfield 7, 3), (53, .iload 6, 2), (55, .iaload, 1), (56, .istore 7, 2), (58, .aload_n 0, 1), (59, .getfield 7, 3), (62, .bipush 20, 2), (64, .iload 6, 2), (66, .iadd, 1), (67, .iaload, 1), (68, .istore 8, 2), (70, .iload 5, 2), (72, .ifCond .ne 45, 3), (75, .iload 7, 2), (77, .ifCond .le 44, 3), (80, .iload 8, 2), (82, .ifCond .le 39, 3), (85, .iload 7, 2), (87, .iload 8, 2), (89, .if_icmp .eq 32, 3), (92, .aload_n 0, 1), (93, .iload_n 3, 1), (94, .iload 6, 2), (96, .iload 7, 2), (98, .invokevirtual 101, 3), (101, .ifCond .eq 20, 3), (104, .aload_n 0, 1), (105, .iload 4, 2), (107, .iload 6, 2), (109, .iload 8, 2), (111, .invokevirtual 101, 3), (114, .ifCond .eq 7, 3), (117, .iconst 1, 1), (118, .goto 4, 3), (121, .iconst 0, 1), (122, .istore 5, 2), (124, .iinc 6 1, 3), (127, .goto (-85), 3), (130, .aload_n 0, 1), (131, .getfield 25, 3), (134, .iload_n 3, 1), (135, .iload 5, 2), (137, .ifCond .eq 17, 3), (140, .aload_n 0, 1), (141, .getfield 25, 3), (144, .iload_n 3, 1), (145, .laload, 1), (146, .lconst 1, 1), (147, .iload 4, 2), (149, .lshl, 1), (150, .lor, 1), (151, .goto 9, 3), (154, .aload_n 0, 1), (155, .getfield 25, 3), (158, .iload_n 3, 1), (159, .laload, 1), (160, .lastore, 1), (161, .iload 5, 2), (163, .ifCond .eq 9, 3), (166, .iload_n 2, 1), (167, .iconst 1, 1), (168, .iadd, 1), (169, .goto 4, 3), (172, .iload_n 2, 1), (173, .istore_n 2, 1), (174, .iinc 4 1, 3), (177, .goto (-150), 3), (180, .iinc 3 1, 3), (183, .goto (-174), 3), (186, .iload_n 2, 1), (187, .ireturn, 1)])
def gX4_makeSegments : pj_Mi := ((⟨"ChannelRouterModel", "makeSegments", "(Z)V"⟩, prog_5_method_13_code, 6, none), (4, 1, 1), [], [(0, .aload_n 0, 1), (1, .iconst 0, 1), (2, .putfield 90, 3), (5, .iconst 1, 1), (6, .istore_n 2, 1), (7, .iload_n 2, 1), (8, .bipush 9, 2), (10, .if_icmp .gt 111, 3), (13, .aload_n 0, 1), (14, .iload_n 2, 1), (15, .invokevirtual 78, 3), (18, .istore_n 3, 1), (19, .aload_n 0, 1), (20, .iload_n 2, 1), (21, .invokevirtual 87, 3), (24, .iconst 3, 1), (25, .if_icmp .ne 21, 3), (28, .iload_n 1, 1), (29, .ifCond .ne 17, 3), (32, .aload_n 0, 1), (33, .iload_n 2, 1), (34, .iload_n 3, 1), (35, .invokestatic 81, 3), (38, .iload_n 3, 1), (39, .invokestatic 84, 3), (42, .iload_n 3, 1), (43, .invokevirtual 93, 3), (46, .iconst (-1), 1), (47, .istore 4, 2), (49, .iconst 0, 1), (50, .istore 5, 2), (52, .iload 5, 2), (54, .bipush 20, 2), (56, .if_icmp .ge 59, 3), (59, .aload_n 0, 1), (60, .iload_n 2, 1), (61, .invokevirtual 87, 3), (64, .iconst 3, 1), (65, .if_icmp .ne 50, 3), (68, .iload_n 1, 1), (69, .ifCond .eq 46, 3), (72, .iload_n 3, 1), (73, .iload 5, 2), (75, .ishr, 1), (76, .iconst 1, 1), (77, .iand, 1), (78, .iconst 1, 1), (79, .if_icmp .ne 30, 3), (82, .iload 4, 2), (84, .ifCond .lt 21, 3), (87, .aload_n 0, 1), (88, .iload_n 2, 1), (89, .iload 4, 2), (91, .iload 5, 2), (93, .iconst 1, 1), (94, .iload 4, 2), (96, .ishl, 1), (97, .iconst 1, 1), (98, .iload 5, 2), (100, .ishl, 1), (101, .ior, 1), (102, .invokevirtual 93, 3), (105, .iload 5, 2), (107, .istore 4, 2), (109, .iinc 5 1, 3), (112, .goto (-60), 3), (115, .iinc 2 1, 3), (118, .goto (-111), 3), (121, .return_, 1)])
def gX4_segmentOf : pj_Mi := ((⟨"ChannelRouterModel", "segmentOf", "(IIII)V"⟩, prog_5_method_12_code, 5, none), (4, 1, 4), [], [(0, .aload_n 0, 1), (1, .getfield 13, 3), (4, .aload_n 0, 1), (5, .getfield 90, 3), (8, .iload_n 1, 1), (9, .iastore, 1), (10, .aload_n 0, 1), (11, .getfield 16, 3), (14, .aload_n 0, 1), (15, .getfield 90, 3), (18, .iload_n 2, 1), (19, .iastore, 1), (20, .aload_n 0, 1), (21, .getfield 19, 3), (24, .aload_n 0, 1), (25, .getfield 90, 3), (28, .iload_n 3, 1), (29, .iastore, 1), (30, .aload_n 0, 1), (31, .getfield 22, 3), (34, .aload_n 0, 1), (35, .getfield 90, 3), (38, .iload 4, 2), (40, .iastore, 1), (41, .aload_n 0, 1), (42, .dup, 1), (43, .getfield 90, 3), (46, .iconst 1, 1), (47, .iadd, 1), (48, .putfield 90, 3), (51, .return_, 1)])
def gX4_touching : pj_Mi := ((⟨"ChannelRouterModel", "touching", "(III)Z"⟩, prog_5_method_14_code, 4, some .boolean), (4, 1, 3), [], [(0, .aload_n 0, 1), (1, .getfield 13, 3), (4, .iload_n 1, 1), (5, .iaload, 1), (6, .iload_n 3, 1), (7, .if_icmp .ne 21, 3), (10, .aload_n 0, 1), (11, .getfield 22, 3), (14, .iload_n 1, 1), (15, .iaload, 1), (16, .iload_n 2, 1), (17, .ishr, 1), (18, .iconst 1, 1), (19, .iand, 1), (20, .iconst 1, 1), (21, .if_icmp .ne 7, 3), (24, .iconst 1, 1), (25, .goto 4, 3), (28, .iconst 0, 1), (29, .ireturn, 1)])
def gX4_noRing : pj_Mi := ((⟨"ChannelRouterModel", "noRing", "()Z"⟩, prog_5_method_24_code, 2, some .boolean), (4, 1, 0), [], [(0, .aload_n 0, 1), (1, .invokevirtual 130, 3), (4, .istore_n 1, 1), (5, .iload_n 1, 1), (6, .ifCond .ge 5, 3), (9, .iconst 1, 1), (10, .ireturn, 1), (11, .aload_n 0, 1), (12, .iload_n 1, 1), (13, .invokevirtual 133, 3), (16, .aload_n 0, 1), (17, .dup, 1), (18, .getfield 136, 3), (21, .iconst 1, 1), (22, .iadd, 1), (23, .putfield 136, 3), (26, .aload_n 0, 1), (27, .iconst 2, 1), (28, .putfield 56, 3), (31, .iconst 0, 1), (32, .ireturn, 1)])
def gX4_inRing : pj_Mi := ((⟨"ChannelRouterModel", "inRing", "()I"⟩, prog_5_method_17_code, 3, some .int), (4, 1, 0), [], [(0, .iconst 0, 1), (1, .istore_n 1, 1), (2, .iload_n 1, 1), (3, .aload_n 0, 1), (4, .getfield 90, 3), (7, .if_icmp .ge 21, 3), (10, .aload_n 0, 1), (11, .getfield 29, 3), (14, .iload_n 1, 1), (15, .aload_n 0, 1), (16, .getfield 25, 3), (19, .iload_n 1, 1), (20, .laload, 1), (21, .lastore, 1), (22, .iinc 1 1, 3), (25, .goto (-23), 3), (28, .iconst 0, 1), (29, .istore_n 1, 1), (30, .iload_n 1, 1), (31, .aload_n 0, 1), (32, .getfield 90, 3), (35, .if_icmp .ge 66, 3), (38, .iconst 0, 1), (39, .istore_n 2, 1), (40, .iload_n 2, 1), (41, .aload_n 0, 1), (42, .getfield 90, 3), (45, .if_icmp .ge 50, 3), (48, .aload_n 0, 1), (49, .getfield 29, 3), (52, .iload_n 2, 1), (53, .aload_n 0, 1), (54, .getfield 29, 3), (57, .iload_n 2, 1), (58, .laload, 1), (59, .iload_n 1, 1), (60, .invokestatic 104, 3), (63, .ifCond .eq 19, 3), (66, .aload_n 0, 1), (67, .getfield 29, 3), (70, .iload_n 2, 1), (71, .laload, 1), (72, .aload_n 0, 1), (73, .getfield 29, 3), (76, .iload_n 1, 1), (77, .laload, 1), (78, .lor, 1), (79, .goto 9, 3), (82, .aload_n 0, 1), (83, .getfield 29, 3), (86, .iload_n 2, 1), (87, .laload, 1), (88, .lastore, 1), (89, .iinc 2 1, 3), (92, .goto (-52), 3), (95, .iinc 1 1, 3), (98, .goto (-68), 3), (101, .iconst (-1), 1), (102, .istore_n 1, 1), (103, .aload_n 0, 1), (104, .getfield 90, 3), (107, .iconst 1, 1), (108, .isub, 1), (109, .istore_n 2, 1), (110, .iload_n 2, 1), (111, .ifCond .lt 28, 3), (114, .aload_n 0, 1), (115, .getfield 29, 3), (118, .iload_n 2, 1), (119, .laload, 1), (120, .iload_n 2, 1), (121, .invokestatic 104, 3), (124, .ifCond .eq 7, 3), (127, .iload_n 2, 1), (128, .goto 4, 3), (131, .iload_n 1, 1), (132, .istore_n 1, 1), (133, .iinc 2 (-1), 3), (136, .goto (-26), 3), (139, .iload_n 1, 1), (140, .ireturn, 1)])
def gX4_has : pj_Mi := ((⟨"ChannelRouterModel", "has", "(JI)Z"⟩, prog_5_method_16_code, 3, some .boolean), (4, 0, 2), [], [(0, .lload_n 0, 1), (1, .iload_n 2, 1), (2, .lshr, 1), (3, .lconst 1, 1), (4, .land, 1), (5, .lconst 1, 1), (6, .lcmp, 1), (7, .ifCond .ne 7, 3), (10, .iconst 1, 1), (11, .goto 4, 3), (14, .iconst 0, 1), (15, .ireturn, 1)])
def gX4_tellRing : pj_Mi := ((⟨"ChannelRouterModel", "tellRing", "(I)V"⟩, prog_5_method_19_code, 7, none), (4, 1, 1), [], [(0, .aload_n 0, 1), (1, .iload_n 1, 1), (2, .invokevirtual 108, 3), (5, .aload_n 0, 1), (6, .iconst 0, 1), (7, .putfield 112, 3), (10, .iload_n 1, 1), (11, .istore_n 2, 1), (12, .iconst 1, 1), (13, .istore_n 3, 1), (14, .iload_n 3, 1), (15, .ifCond .eq 118, 3), (18, .aload_n 0, 1), (19, .getfield 53, 3), (22, .aload_n 0, 1), (23, .getfield 112, 3), (26, .iload_n 2, 1), (27, .iastore, 1), (28, .aload_n 0, 1), (29, .dup, 1), (30, .getfield 112, 3), (33, .iconst 1, 1), (34, .iadd, 1), (35, .putfield 112, 3), (38, .iconst (-1), 1), (39, .istore 4, 2), (41, .iconst 0, 1), (42, .istore 5, 2), (44, .iload 5, 2), (46, .aload_n 0, 1), (47, .getfield 90, 3), (50, .if_icmp .ge 66, 3), (53, .aload_n 0, 1), (54, .getfield 25, 3), (57, .iload_n 2, 1), (58, .laload, 1), (59, .iload 5, 2), (61, .invokestatic 104, 3), (64, .ifCond .eq 29, 3), (67, .iload 4, 2), (69, .ifCond .lt 20, 3), (72, .aload_n 0, 1), (73, .getfield 35, 3), (76, .iload 5, 2), (78, .iaload, 1), (79, .aload_n 0, 1), (80, .getfield 35, 3), (83, .iload 4, 2), (85, .iaload, 1), (86, .if_icmp .ge 7, 3), (89, .iconst 1, 1), (90, .goto 4, 3), (93, .iconst 0, 1), (94, .istore 6, 2), (96, .iload 6, 2), (98, .ifCond .eq 8, 3), (101, .iload 5, 2), (103, .goto 5, 3), (106, .iload 4, 2), (108, .istore 4, 2), (110, .iinc 5 1, 3), (113, .goto (-69), 3), (116, .iload 4, 2), (118, .istore_n 2, 1), (119, .iload_n 2, 1), (120, .iload_n 1, 1), (121, .if_icmp .eq 7, 3), (124, .iconst 1, 1), (125, .goto 4, 3), (128, .iconst 0, 1), (129, .istore_n 3, 1), (130, .goto (-116), 3), (133, .return_, 1)])
def gX4_countSteps : pj_Mi := ((⟨"ChannelRouterModel", "countSteps", "(I)V"⟩, prog_5_method_18_code, 6, none), (4, 1, 1), [], [(0, .iconst 0, 1), (1, .istore_n 2, 1), (2, .iload_n 2, 1), (3, .aload_n 0, 1), (4, .getfield 90, 3), (7, .if_icmp .ge 26, 3), (10, .aload_n 0, 1), (11, .getfield 35, 3), (14, .iload_n 2, 1), (15, .iload_n 2, 1), (16, .iload_n 1, 1), (17, .if_icmp .ne 7, 3), (20, .iconst 0, 1), (21, .goto 5, 3), (24, .bipush 100, 2), (26, .iastore, 1), (27, .iinc 2 1, 3), (30, .goto (-28), 3), (33, .iconst 0, 1), (34, .istore_n 2, 1), (35, .iload_n 2, 1), (36, .aload_n 0, 1), (37, .getfield 90, 3), (40, .if_icmp .ge 111, 3), (43, .iconst 0, 1), (44, .istore_n 3, 1), (45, .iload_n 3, 1), (46, .aload_n 0, 1), (47, .getfield 90, 3), (50, .if_icmp .ge 95, 3), (53, .iconst 0, 1), (54, .istore 4, 2), (56, .iload 4, 2), (58, .aload_n 0, 1), (59, .getfield 90, 3), (62, .if_icmp .ge 77, 3), (65, .aload_n 0, 1), (66, .getfield 25, 3), (69, .iload_n 3, 1), (70, .laload, 1), (71, .iload 4, 2), (73, .invokestatic 104, 3), (76, .ifCond .eq 25, 3), (79, .aload_n 0, 1), (80, .getfield 35, 3), (83, .iload 4, 2), (85, .iaload, 1), (86, .iconst 1, 1), (87, .iadd, 1), (88, .aload_n 0, 1), (89, .getfield 35, 3), (92, .iload_n 3, 1), (93, .iaload, 1), (94, .if_icmp .ge 7, 3), (97, .iconst 1, 1), (98, .goto 4, 3), (101, .iconst 0, 1), (102, .istore 5, 2), (104, .aload_n 0, 1), (105, .getfield 35, 3), (108, .iload_n 3, 1), (109, .iload 5, 2), (111, .ifCond .eq 15, 3), (114, .aload_n 0, 1), (115, .getfield 35, 3), (118, .iload 4, 2), (120, .iaload, 1), (121, .iconst 1, 1), (122, .iadd, 1), (123, .goto 9, 3), (126, .aload_n 0, 1), (127, .getfield 35, 3), (130, .iload_n 3, 1), (131, .iaload, 1), (132, .iastore, 1), (133, .iinc 4 1, 3), (136, .goto (-80), 3), (139, .iinc 3 1, 3), (142, .goto (-97), 3), (145, .iinc 2 1, 3), (148, .goto (-113), 3), (151, .return_, 1)])
def gX4_layNow : pj_Mi := ((⟨"ChannelRouterModel", "layNow", "()I"⟩, prog_5_method_23_code, 2, some .int), (4, 1, 0), [], [(0, .aload_n 0, 1), (1, .aload_n 0, 1), (2, .invokevirtual 123, 3), (5, .putfield 71, 3), (8, .aload_n 0, 1), (9, .iconst 1, 1), (10, .putfield 64, 3), (13, .aload_n 0, 1), (14, .aload_n 0, 1), (15, .getfield 90, 3), (18, .putfield 68, 3), (21, .iconst 0, 1), (22, .istore_n 1, 1), (23, .iload_n 1, 1), (24, .aload_n 0, 1), (25, .getfield 90, 3), (28, .if_icmp .ge 69, 3), (31, .aload_n 0, 1), (32, .getfield 38, 3), (35, .iload_n 1, 1), (36, .aload_n 0, 1), (37, .getfield 13, 3), (40, .iload_n 1, 1), (41, .iaload, 1), (42, .iastore, 1), (43, .aload_n 0, 1), (44, .getfield 41, 3), (47, .iload_n 1, 1), (48, .aload_n 0, 1), (49, .getfield 16, 3), (52, .iload_n 1, 1), (53, .iaload, 1), (54, .iastore, 1), (55, .aload_n 0, 1), (56, .getfield 44, 3), (59, .iload_n 1, 1), (60, .aload_n 0, 1), (61, .getfield 19, 3), (64, .iload_n 1, 1), (65, .iaload, 1), (66, .iastore, 1), (67, .aload_n 0, 1), (68, .getfield 47, 3), (71, .iload_n 1, 1), (72, .aload_n 0, 1), (73, .getfield 22, 3), (76, .iload_n 1, 1), (77, .iaload, 1), (78, .iastore, 1), (79, .aload_n 0, 1), (80, .getfield 50, 3), (83, .iload_n 1, 1), (84, .aload_n 0, 1), (85, .getfield 32, 3), (88, .iload_n 1, 1), (89, .iaload, 1), (90, .iastore, 1), (91, .iinc 1 1, 3), (94, .goto (-71), 3), (97, .aload_n 0, 1), (98, .dup, 1), (99, .getfield 127, 3), (102, .iconst 1, 1), (103, .iadd, 1), (104, .putfield 127, 3), (107, .aload_n 0, 1), (108, .getfield 71, 3), (111, .ireturn, 1)])
def gX4_fill : pj_Mi := ((⟨"ChannelRouterModel", "fill", "()I"⟩, prog_5_method_22_code, 5, some .int), (4, 1, 0), [], [(0, .iconst 0, 1), (1, .istore_n 1, 1), (2, .iconst 0, 1), (3, .istore_n 2, 1), (4, .iconst 0, 1), (5, .istore_n 3, 1), (6, .iload_n 3, 1), (7, .aload_n 0, 1), (8, .getfield 90, 3), (11, .if_icmp .ge 16, 3), (14, .aload_n 0, 1), (15, .getfield 32, 3), (18, .iload_n 3, 1), (19, .iconst (-1), 1), (20, .iastore, 1), (21, .iinc 3 1, 3), (24, .goto (-18), 3), (27, .iload_n 1, 1), (28, .aload_n 0, 1), (29, .getfield 90, 3), (32, .if_icmp .ge 58, 3), (35, .iconst (-1), 1), (36, .istore_n 3, 1), (37, .aload_n 0, 1), (38, .iload_n 2, 1), (39, .iconst (-1), 1), (40, .iconst (-1), 1), (41, .iconst (-1), 1), (42, .invokevirtual 119, 3), (45, .istore 4, 2), (47, .iload 4, 2), (49, .ifCond .lt 35, 3), (52, .aload_n 0, 1), (53, .getfield 32, 3), (56, .iload 4, 2), (58, .iload_n 2, 1), (59, .iastore, 1), (60, .iinc 1 1, 3), (63, .iload 4, 2), (65, .istore_n 3, 1), (66, .aload_n 0, 1), (67, .iload_n 2, 1), (68, .iload_n 3, 1), (69, .aload_n 0, 1), (70, .getfield 16, 3), (73, .iload_n 3, 1), (74, .iaload, 1), (75, .iload_n 3, 1), (76, .invokevirtual 119, 3), (79, .istore 4, 2), (81, .goto (-34), 3), (84, .iinc 2 1, 3), (87, .goto (-60), 3), (90, .iload_n 2, 1), (91, .ireturn, 1)])
def gX4_nextFor : pj_Mi := ((⟨"ChannelRouterModel", "nextFor", "(IIII)I"⟩, prog_5_method_21_code, 9, some .int), (4, 1, 4), [], [(0, .iconst (-1), 1), (1, .istore 5, 2), (3, .aload_n 0, 1), (4, .getfield 90, 3), (7, .iconst 1, 1), (8, .isub, 1), (9, .istore 6, 2), (11, .iload 6, 2), (13, .ifCond .lt 150, 3), (16, .aload_n 0, 1), (17, .getfield 16, 3), (20, .iload 6, 2), (22, .iaload, 1), (23, .iload_n 3, 1), (24, .if_icmp .gt 21, 3), (27, .aload_n 0, 1), (28, .getfield 16, 3), (31, .iload 6, 2), (33, .iaload, 1), (34, .iload_n 3, 1), (35, .if_icmp .ne 14, 3), (38, .iload 6, 2), (40, .iload 4, 2), (42, .if_icmp .le 7, 3), (45, .iconst 1, 1), (46, .goto 4, 3), (49, .iconst 0, 1), (50, .istore 7, 2), (52, .iload_n 2, 1), (53, .ifCond .lt 51, 3), (56, .aload_n 0, 1), (57, .getfield 16, 3), (60, .iload 6, 2), (62, .iaload, 1), (63, .aload_n 0, 1), (64, .getfield 19, 3), (67, .iload_n 2, 1), (68, .iaload, 1), (69, .if_icmp .gt 35, 3), (72, .aload_n 0, 1), (73, .getfield 16, 3), (76, .iload 6, 2), (78, .iaload, 1), (79, .aload_n 0, 1), (80, .getfield 19, 3), (83, .iload_n 2, 1), (84, .iaload, 1), (85, .if_icmp .ne 23, 3), (88, .aload_n 0, 1), (89, .getfield 13, 3), (92, .iload 6, 2), (94, .iaload, 1), (95, .aload_n 0, 1), (96, .getfield 13, 3), (99, .iload_n 2, 1), (100, .iaload, 1), (101, .if_icmp .ne 7, 3), (104, .iconst 1, 1), (105, .goto 4, 3), (108, .iconst 0, 1), (109, .istore 8, 2), (111, .iload 7, 2), (113, .ifCond .eq 44, 3), (116, .iload 8, 2), (118, .ifCond .eq 39, 3), (121, .aload_n 0, 1), (122, .iload 6, 2), (124, .iload_n 1, 1), (125, .invokevirtual 115, 3), (128, .ifCond .eq 29, 3), (131, .iload 5, 2), (133, .ifCond .lt 20, 3), (136, .aload_n 0, 1), (137, .getfield 16, 3), (140, .iload 6, 2), (142, .iaload, 1), (143, .aload_n 0, 1), (144, .getfield 16, 3), (147, .iload 5, 2), (149, .iaload, 1), (150, .if_icmp .gt 7, 3), (153, .iload 6, 2), (155, .istore 5, 2), (157, .iinc 6 (-1), 3), (160, .goto (-149), 3), (163, .iload 5, 2), (165, .ireturn, 1)])
def gX4_free : pj_Mi := ((⟨"ChannelRouterModel", "free", "(II)Z"⟩, prog_5_method_20_code, 5, some .boolean), (4, 1, 2), [], [(0, .aload_n 0, 1), (1, .getfield 32, 3), (4, .iload_n 1, 1), (5, .iaload, 1), (6, .ifCond .ge 7, 3), (9, .iconst 1, 1), (10, .goto 4, 3), (13, .iconst 0, 1), (14, .istore_n 3, 1), (15, .iconst 0, 1), (16, .istore 4, 2), (18, .iload 4, 2), (20, .aload_n 0, 1), (21, .getfield 90, 3), (24, .if_icmp .ge 50, 3), (27, .iload_n 3, 1), (28, .ifCond .eq 38, 3), (31, .aload_n 0, 1), (32, .getfield 25, 3), (35, .iload 4, 2), (37, .laload, 1), (38, .iload_n 1, 1), (39, .invokestatic 104, 3), (42, .ifCond .eq 20, 3), (45, .aload_n 0, 1), (46, .getfield 32, 3), (49, .iload 4, 2), (51, .iaload, 1), (52, .iconst 0, 1), (53, .iload_n 2, 1), (54, .iconst 1, 1), (55, .isub, 1), (56, .invokestatic 60, 3), (59, .ifCond .eq 7, 3), (62, .iconst 1, 1), (63, .goto 4, 3), (66, .iconst 0, 1), (67, .istore_n 3, 1), (68, .iinc 4 1, 3), (71, .goto (-53), 3), (74, .iload_n 3, 1), (75, .ireturn, 1)])
def gX4_layAny : pj_Mi := ((⟨"ChannelRouterModel", "layAny", "()I"⟩, prog_5_method_26_code, 2, some .int), (4, 1, 0), [], [(0, .aload_n 0, 1), (1, .iconst 0, 1), (2, .putfield 56, 3), (5, .aload_n 0, 1), (6, .invokevirtual 139, 3), (9, .ifCond .eq 9, 3), (12, .aload_n 0, 1), (13, .iconst 1, 1), (14, .invokevirtual 143, 3), (17, .ireturn, 1), (18, .aload_n 0, 1), (19, .iconst 0, 1), (20, .invokevirtual 146, 3), (23, .istore_n 1, 1), (24, .aload_n 0, 1), (25, .invokevirtual 130, 3), (28, .ifCond .ge 8, 3), (31, .aload_n 0, 1), (32, .invokevirtual 153, 3), (35, .ireturn, 1), (36, .aload_n 0, 1), (37, .iconst 1, 1), (38, .invokevirtual 146, 3), (41, .istore_n 1, 1), (42, .aload_n 0, 1), (43, .invokevirtual 150, 3), (46, .ifCond .eq 14, 3), (49, .sipush 1000, 3), (52, .aload_n 0, 1), (53, .invokevirtual 153, 3), (56, .iadd, 1), (57, .goto 4, 3), (60, .iconst 0, 1), (61, .ireturn, 1)])
def gX4_ring : pj_Mi := ((⟨"ChannelRouterModel", "ring", "(I)I"⟩, prog_5_method_27_code, 2, some .int), (4, 1, 1), [], [(0, .aload_n 0, 1), (1, .iconst 0, 1), (2, .putfield 56, 3), (5, .iload_n 1, 1), (6, .iconst 0, 1), (7, .aload_n 0, 1), (8, .getfield 112, 3), (11, .iconst 1, 1), (12, .isub, 1), (13, .invokestatic 60, 3), (16, .ifCond .eq 12, 3), (19, .aload_n 0, 1), (20, .getfield 53, 3), (23, .iload_n 1, 1), (24, .iaload, 1), (25, .goto 4, 3), (28, .iconst (-1), 1), (29, .ireturn, 1)])
def gX4_segment : pj_Mi := ((⟨"ChannelRouterModel", "segment", "(II)I"⟩, prog_5_method_28_code, 3, some .int), (4, 1, 2), [], [(0, .aload_n 0, 1), (1, .iload_n 1, 1), (2, .iconst 0, 1), (3, .aload_n 0, 1), (4, .getfield 68, 3), (7, .iconst 1, 1), (8, .isub, 1), (9, .invokestatic 60, 3), (12, .ifCond .eq 16, 3), (15, .iload_n 2, 1), (16, .iconst 0, 1), (17, .iconst 3, 1), (18, .invokestatic 60, 3), (21, .ifCond .eq 7, 3), (24, .iconst 0, 1), (25, .goto 4, 3), (28, .iconst 1, 1), (29, .putfield 56, 3), (32, .aload_n 0, 1), (33, .getfield 56, 3), (36, .ifCond .le 5, 3), (39, .iconst 0, 1), (40, .ireturn, 1), (41, .iload_n 2, 1), (42, .ifCond .ne 12, 3), (45, .aload_n 0, 1), (46, .getfield 38, 3), (49, .iload_n 1, 1), (50, .iaload, 1), (51, .goto 37, 3), (54, .iload_n 2, 1), (55, .iconst 1, 1), (56, .if_icmp .ne 12, 3), (59, .aload_n 0, 1), (60, .getfield 41, 3), (63, .iload_n 1, 1), (64, .iaload, 1), (65, .goto 23, 3), (68, .iload_n 2, 1), (69, .iconst 2, 1), (70, .if_icmp .ne 12, 3), (73, .aload_n 0, 1), (74, .getfield 44, 3), (77, .iload_n 1, 1), (78, .iaload, 1), (79, .goto 9, 3), (82, .aload_n 0, 1), (83, .getfield 50, 3), (86, .iload_n 1, 1), (87, .iaload, 1), (88, .ireturn, 1)])
def gX4_level : pj_Mi := ((⟨"ChannelRouterModel", "level", "(II)I"⟩, prog_5_method_31_code, 3, some .int), (4, 1, 2), [], [(0, .aload_n 0, 1), (1, .iload_n 1, 1), (2, .iconst 0, 1), (3, .aload_n 0, 1), (4, .getfield 71, 3), (7, .iconst 1, 1), (8, .isub, 1), (9, .invokestatic 60, 3), (12, .ifCond .eq 17, 3), (15, .iload_n 2, 1), (16, .iconst 0, 1), (17, .bipush 19, 2), (19, .invokestatic 60, 3), (22, .ifCond .eq 7, 3), (25, .iconst 1, 1), (26, .goto 4, 3), (29, .iconst 0, 1), (30, .invokevirtual 156, 3), (33, .ifCond .eq 7, 3), (36, .iconst 0, 1), (37, .goto 9, 3), (40, .aload_n 0, 1), (41, .iload_n 1, 1), (42, .iload_n 2, 1), (43, .invokevirtual 160, 3), (46, .ireturn, 1)])
def gX4_out : pj_Mi := ((⟨"ChannelRouterModel", "out", "(Z)Z"⟩, prog_5_method_29_code, 2, some .boolean), (4, 1, 1), [], [(0, .aload_n 0, 1), (1, .iload_n 1, 1), (2, .ifCond .eq 7, 3), (5, .iconst 0, 1), (6, .goto 4, 3), (9, .iconst 1, 1), (10, .putfield 56, 3), (13, .iload_n 1, 1), (14, .ifCond .ne 7, 3), (17, .iconst 1, 1), (18, .goto 4, 3), (21, .iconst 0, 1), (22, .ireturn, 1)])
def gX4_levelAt : pj_Mi := ((⟨"ChannelRouterModel", "levelAt", "(II)I"⟩, prog_5_method_30_code, 5, some .int), (4, 1, 2), [], [(0, .iconst 0, 1), (1, .istore_n 3, 1), (2, .iconst 0, 1), (3, .istore 4, 2), (5, .iload 4, 2), (7, .aload_n 0, 1), (8, .getfield 68, 3), (11, .if_icmp .ge 53, 3), (14, .aload_n 0, 1), (15, .getfield 50, 3), (18, .iload 4, 2), (20, .iaload, 1), (21, .iload_n 1, 1), (22, .if_icmp .ne 34, 3), (25, .iload_n 2, 1), (26, .aload_n 0, 1), (27, .getfield 41, 3), (30, .iload 4, 2), (32, .iaload, 1), (33, .aload_n 0, 1), (34, .getfield 44, 3), (37, .iload 4, 2), (39, .iaload, 1), (40, .invokestatic 60, 3), (43, .ifCond .eq 13, 3), (46, .aload_n 0, 1), (47, .getfield 38, 3), (50, .iload 4, 2), (52, .iaload, 1), (53, .goto 4, 3), (56, .iload_n 3, 1), (57, .istore_n 3, 1), (58, .iinc 4 1, 3), (61, .goto (-56), 3), (64, .iload_n 3, 1), (65, .ireturn, 1)])
def gX4_upright : pj_Mi := ((⟨"ChannelRouterModel", "upright", "(II)I"⟩, prog_5_method_34_code, 3, some .int), (4, 1, 2), [], [(0, .aload_n 0, 1), (1, .aload_n 0, 1), (2, .getfield 64, 3), (5, .ifCond .eq 29, 3), (8, .iload_n 1, 1), (9, .iconst 0, 1), (10, .bipush 19, 2), (12, .invokestatic 60, 3), (15, .ifCond .eq 19, 3), (18, .iload_n 2, 1), (19, .iconst (-1), 1), (20, .aload_n 0, 1), (21, .getfield 71, 3), (24, .invokestatic 60, 3), (27, .ifCond .eq 7, 3), (30, .iconst 1, 1), (31, .goto 4, 3), (34, .iconst 0, 1), (35, .invokevirtual 156, 3), (38, .ifCond .eq 7, 3), (41, .iconst 0, 1), (42, .goto 9, 3), (45, .aload_n 0, 1), (46, .iload_n 1, 1), (47, .iload_n 2, 1), (48, .invokevirtual 167, 3), (51, .ireturn, 1)])
def gX4_uprightAt : pj_Mi := ((⟨"ChannelRouterModel", "uprightAt", "(II)I"⟩, prog_5_method_33_code, 8, some .int), (4, 1, 2), [], [(0, .aload_n 0, 1), (1, .getfield 7, 3), (4, .iload_n 1, 1), (5, .iaload, 1), (6, .istore_n 3, 1), (7, .aload_n 0, 1), (8, .getfield 7, 3), (11, .bipush 20, 2), (13, .iload_n 1, 1), (14, .iadd, 1), (15, .iaload, 1), (16, .istore 4, 2), (18, .iload_n 3, 1), (19, .iload 4, 2), (21, .if_icmp .ne 5, 3), (24, .iload_n 3, 1), (25, .ireturn, 1), (26, .iload_n 2, 1), (27, .iconst (-1), 1), (28, .if_icmp .ne 7, 3), (31, .iconst 1, 1), (32, .goto 4, 3), (35, .iconst 0, 1), (36, .istore 5, 2), (38, .iload_n 2, 1), (39, .aload_n 0, 1), (40, .getfield 71, 3), (43, .if_icmp .ne 7, 3), (46, .iconst 1, 1), (47, .goto 4, 3), (50, .iconst 0, 1), (51, .istore 6, 2), (53, .iconst 0, 1), (54, .istore 7, 2), (56, .iload 7, 2), (58, .aload_n 0, 1), (59, .getfield 71, 3), (62, .if_icmp .ge 68, 3), (65, .iload 5, 2), (67, .ifCond .ne 20, 3), (70, .iload 7, 2), (72, .iload_n 2, 1), (73, .if_icmp .lt 18, 3), (76, .aload_n 0, 1), (77, .iload_n 3, 1), (78, .iload_n 1, 1), (79, .iload 7, 2), (81, .invokevirtual 164, 3), (84, .ifCond .eq 7, 3), (87, .iconst 1, 1), (88, .goto 4, 3), (91, .iconst 0, 1), (92, .istore 5, 2), (94, .iload 6, 2), (96, .ifCond .ne 21, 3), (99, .iload 7, 2), (101, .iload_n 2, 1), (102, .if_icmp .gt 19, 3), (105, .aload_n 0, 1), (106, .iload 4, 2), (108, .iload_n 1, 1), (109, .iload 7, 2), (111, .invokevirtual 164, 3), (114, .ifCond .eq 7, 3), (117, .iconst 1, 1), (118, .goto 4, 3), (121, .iconst 0, 1), (122, .istore 6, 2), (124, .iinc 7 1, 3), (127, .goto (-71), 3), (130, .iload_n 3, 1), (131, .ifCond .le 12, 3), (134, .iload 5, 2), (136, .ifCond .eq 7, 3), (139, .iload_n 3, 1), (140, .goto 19, 3), (143, .iload 4, 2), (145, .ifCond .le 13, 3), (148, .iload 6, 2), (150, .ifCond .eq 8, 3), (153, .iload 4, 2), (155, .goto 4, 3), (158, .iconst 0, 1), (159, .ireturn, 1)])
def gX4_lies : pj_Mi := ((⟨"ChannelRouterModel", "lies", "(III)Z"⟩, prog_5_method_32_code, 6, some .boolean), (4, 1, 3), [], [(0, .iconst 0, 1), (1, .istore 4, 2), (3, .iconst 0, 1), (4, .istore 5, 2), (6, .iload 5, 2), (8, .aload_n 0, 1), (9, .getfield 68, 3), (12, .if_icmp .ge 58, 3), (15, .iload 4, 2), (17, .ifCond .ne 40, 3), (20, .aload_n 0, 1), (21, .getfield 38, 3), (24, .iload 5, 2), (26, .iaload, 1), (27, .iload_n 1, 1), (28, .if_icmp .ne 33, 3), (31, .aload_n 0, 1), (32, .getfield 50, 3), (35, .iload 5, 2), (37, .iaload, 1), (38, .iload_n 3, 1), (39, .if_icmp .ne 22, 3), (42, .aload_n 0, 1), (43, .getfield 47, 3), (46, .iload 5, 2), (48, .iaload, 1), (49, .iload_n 2, 1), (50, .ishr, 1), (51, .iconst 1, 1), (52, .iand, 1), (53, .iconst 1, 1), (54, .if_icmp .ne 7, 3), (57, .iconst 1, 1), (58, .goto 4, 3), (61, .iconst 0, 1), (62, .istore 4, 2), (64, .iinc 5 1, 3), (67, .goto (-61), 3), (70, .iload 4, 2), (72, .ireturn, 1)])
def gX4_via : pj_Mi := ((⟨"ChannelRouterModel", "via", "(II)Z"⟩, prog_5_method_36_code, 3, some .boolean), (4, 1, 2), [], [(0, .aload_n 0, 1), (1, .iload_n 1, 1), (2, .iconst 0, 1), (3, .aload_n 0, 1), (4, .getfield 71, 3), (7, .iconst 1, 1), (8, .isub, 1), (9, .invokestatic 60, 3), (12, .ifCond .eq 17, 3), (15, .iload_n 2, 1), (16, .iconst 0, 1), (17, .bipush 19, 2), (19, .invokestatic 60, 3), (22, .ifCond .eq 7, 3), (25, .iconst 1, 1), (26, .goto 4, 3), (29, .iconst 0, 1), (30, .invokevirtual 156, 3), (33, .ifCond .ne 16, 3), (36, .aload_n 0, 1), (37, .iload_n 1, 1), (38, .iload_n 2, 1), (39, .invokevirtual 170, 3), (42, .ifCond .eq 7, 3), (45, .iconst 1, 1), (46, .goto 4, 3), (49, .iconst 0, 1), (50, .ireturn, 1)])
def gX4_viaAt : pj_Mi := ((⟨"ChannelRouterModel", "viaAt", "(II)Z"⟩, prog_5_method_35_code, 4, some .boolean), (4, 1, 2), [], [(0, .aload_n 0, 1), (1, .iload_n 1, 1), (2, .iload_n 2, 1), (3, .invokevirtual 160, 3), (6, .istore_n 3, 1), (7, .iload_n 3, 1), (8, .ifCond .le 27, 3), (11, .aload_n 0, 1), (12, .iload_n 2, 1), (13, .iload_n 1, 1), (14, .invokevirtual 167, 3), (17, .iload_n 3, 1), (18, .if_icmp .ne 17, 3), (21, .aload_n 0, 1), (22, .iload_n 3, 1), (23, .iload_n 2, 1), (24, .iload_n 1, 1), (25, .invokevirtual 164, 3), (28, .ifCond .eq 7, 3), (31, .iconst 1, 1), (32, .goto 4, 3), (35, .iconst 0, 1), (36, .ireturn, 1)])
def gX4_density : pj_Mi := ((⟨"ChannelRouterModel", "density", "()I"⟩, prog_5_method_37_code, 6, some .int), (4, 1, 0), [], [(0, .aload_n 0, 1), (1, .iconst 0, 1), (2, .putfield 56, 3), (5, .iconst 0, 1), (6, .istore_n 1, 1), (7, .iconst 0, 1), (8, .istore_n 2, 1), (9, .iload_n 2, 1), (10, .bipush 20, 2), (12, .if_icmp .ge 93, 3), (15, .iconst 0, 1), (16, .istore_n 3, 1), (17, .iconst 1, 1), (18, .istore 4, 2), (20, .iload 4, 2), (22, .bipush 9, 2), (24, .if_icmp .gt 64, 3), (27, .aload_n 0, 1), (28, .iload 4, 2), (30, .invokevirtual 87, 3), (33, .iconst 3, 1), (34, .if_icmp .ne 32, 3), (37, .iload_n 2, 1), (38, .aload_n 0, 1), (39, .iload 4, 2), (41, .invokevirtual 78, 3), (44, .invokestatic 81, 3), (47, .aload_n 0, 1), (48, .iload 4, 2), (50, .invokevirtual 78, 3), (53, .invokestatic 84, 3), (56, .invokestatic 60, 3), (59, .ifCond .eq 7, 3), (62, .iconst 1, 1), (63, .goto 4, 3), (66, .iconst 0, 1), (67, .istore 5, 2), (69, .iload 5, 2), (71, .ifCond .eq 9, 3), (74, .iload_n 3, 1), (75, .iconst 1, 1), (76, .iadd, 1), (77, .goto 4, 3), (80, .iload_n 3, 1), (81, .istore_n 3, 1), (82, .iinc 4 1, 3), (85, .goto (-65), 3), (88, .iload_n 3, 1), (89, .iload_n 1, 1), (90, .if_icmp .le 7, 3), (93, .iload_n 3, 1), (94, .goto 4, 3), (97, .iload_n 1, 1), (98, .istore_n 1, 1), (99, .iinc 2 1, 3), (102, .goto (-93), 3), (105, .iload_n 1, 1), (106, .ireturn, 1)])
def gX4_pairs : pj_Mi := ((⟨"ChannelRouterModel", "pairs", "(Z)I"⟩, prog_5_method_38_code, 2, some .int), (4, 1, 1), [], [(0, .aload_n 0, 1), (1, .iconst 0, 1), (2, .putfield 56, 3), (5, .aload_n 0, 1), (6, .iload_n 1, 1), (7, .invokevirtual 146, 3), (10, .ireturn, 1)])
def gX4_net : pj_Mi := ((⟨"ChannelRouterModel", "net", "(II)I"⟩, prog_5_method_39_code, 4, some .int), (4, 1, 2), [], [(0, .aload_n 0, 1), (1, .iload_n 1, 1), (2, .iconst 1, 1), (3, .bipush 9, 2), (5, .invokestatic 60, 3), (8, .ifCond .eq 16, 3), (11, .iload_n 2, 1), (12, .iconst 0, 1), (13, .iconst 3, 1), (14, .invokestatic 60, 3), (17, .ifCond .eq 7, 3), (20, .iconst 1, 1), (21, .goto 4, 3), (24, .iconst 0, 1), (25, .invokevirtual 156, 3), (28, .ifCond .eq 5, 3), (31, .iconst 0, 1), (32, .ireturn, 1), (33, .aload_n 0, 1), (34, .iload_n 1, 1), (35, .invokevirtual 87, 3), (38, .istore_n 3, 1), (39, .iload_n 2, 1), (40, .iconst 2, 1), (41, .if_icmp .ge 36, 3), (44, .iload_n 3, 1), (45, .iconst 3, 1), (46, .if_icmp .ge 7, 3), (49, .iconst (-1), 1), (50, .goto 26, 3), (53, .iload_n 2, 1), (54, .ifCond .ne 14, 3), (57, .aload_n 0, 1), (58, .iload_n 1, 1), (59, .invokevirtual 78, 3), (62, .invokestatic 81, 3), (65, .goto 11, 3), (68, .aload_n 0, 1), (69, .iload_n 1, 1), (70, .invokevirtual 78, 3), (73, .invokestatic 84, 3), (76, .ireturn, 1), (77, .iload_n 2, 1), (78, .iconst 2, 1), (79, .if_icmp .ne 11, 3), (82, .aload_n 0, 1), (83, .iload_n 1, 1), (84, .invokevirtual 74, 3), (87, .goto 4, 3), (90, .iload_n 3, 1), (91, .ireturn, 1)])
def gX4_count : pj_Mi := ((⟨"ChannelRouterModel", "count", "(I)I"⟩, prog_5_method_41_code, 2, some .int), (4, 1, 1), [], [(0, .aload_n 0, 1), (1, .iload_n 1, 1), (2, .iconst 0, 1), (3, .iconst 5, 1), (4, .invokestatic 60, 3), (7, .invokevirtual 156, 3), (10, .ifCond .eq 5, 3), (13, .iconst 0, 1), (14, .ireturn, 1), (15, .iload_n 1, 1), (16, .tableswitch 61 0 4 #[36, 41, 46, 51, 56], 36), (52, .aload_n 0, 1), (53, .getfield 71, 3), (56, .ireturn, 1), (57, .aload_n 0, 1), (58, .getfield 68, 3), (61, .ireturn, 1), (62, .aload_n 0, 1), (63, .invokevirtual 173, 3), (66, .ireturn, 1), (67, .aload_n 0, 1), (68, .getfield 127, 3), (71, .ireturn, 1), (72, .aload_n 0, 1), (73, .getfield 136, 3), (76, .ireturn, 1), (77, .aload_n 0, 1), (78, .getfield 64, 3), (81, .ifCond .eq 7, 3), (84, .iconst 1, 1), (85, .goto 4, 3), (88, .iconst 0, 1), (89, .ireturn, 1)])
def gX4_vias : pj_Mi := ((⟨"ChannelRouterModel", "vias", "()I"⟩, prog_5_method_40_code, 4, some .int), (4, 1, 0), [], [(0, .iconst 0, 1), (1, .istore_n 1, 1), (2, .iconst 0, 1), (3, .istore_n 2, 1), (4, .iload_n 2, 1), (5, .aload_n 0, 1), (6, .getfield 71, 3), (9, .if_icmp .ge 40, 3), (12, .iconst 0, 1), (13, .istore_n 3, 1), (14, .iload_n 3, 1), (15, .bipush 20, 2), (17, .if_icmp .ge 26, 3), (20, .aload_n 0, 1), (21, .iload_n 2, 1), (22, .iload_n 3, 1), (23, .invokevirtual 170, 3), (26, .ifCond .eq 9, 3), (29, .iload_n 1, 1), (30, .iconst 1, 1), (31, .iadd, 1), (32, .goto 4, 3), (35, .iload_n 1, 1), (36, .istore_n 1, 1), (37, .iinc 3 1, 3), (40, .goto (-26), 3), (43, .iinc 2 1, 3), (46, .goto (-42), 3), (49, .iload_n 1, 1), (50, .ireturn, 1)])
def gX4_used : pj_Mi := ((⟨"ChannelRouterModel", "used", "()F"⟩, prog_5_method_42_code, 4, some .float), (4, 1, 0), [], [(0, .aload_n 0, 1), (1, .iconst 0, 1), (2, .putfield 56, 3), (5, .iconst 0, 1), (6, .istore_n 1, 1), (7, .iconst 0, 1), (8, .istore_n 2, 1), (9, .iload_n 2, 1), (10, .aload_n 0, 1), (11, .getfield 71, 3), (14, .if_icmp .ge 40, 3), (17, .iconst 0, 1), (18, .istore_n 3, 1), (19, .iload_n 3, 1), (20, .bipush 20, 2), (22, .if_icmp .ge 26, 3), (25, .aload_n 0, 1), (26, .iload_n 2, 1), (27, .iload_n 3, 1), (28, .invokevirtual 160, 3), (31, .ifCond .le 9, 3), (34, .iload_n 1, 1), (35, .iconst 1, 1), (36, .iadd, 1), (37, .goto 4, 3), (40, .iload_n 1, 1), (41, .istore_n 1, 1), (42, .iinc 3 1, 3), (45, .goto (-26), 3), (48, .iinc 2 1, 3), (51, .goto (-42), 3), (54, .aload_n 0, 1), (55, .getfield 71, 3), (58, .ifCond .ne 5, 3), (61, .fconst 0, 1), (62, .freturn, 1), (63, .iload_n 1, 1), (64, .i2f, 1), (65, .fstore_n 2, 1), (66, .bipush 20, 2), (68, .aload_n 0, 1), (69, .getfield 71, 3), (72, .imul, 1), (73, .i2f, 1), (74, .fstore_n 3, 1), (75, .fload_n 2, 1), (76, .fload_n 3, 1), (77, .fdiv, 1), (78, .freturn, 1)])
def gJ7_bitCount : pj_Mi := ((⟨"java/lang/Long", "bitCount", "(J)I"⟩, prog_12_method_50_code, 2, some .int), (5, 0, 1), [], [(0, .lload_n 0, 1), (1, .lload_n 0, 1), (2, .iconst 1, 1), (3, .lushr, 1), (4, .ldc2_w 314, 3), (7, .land, 1), (8, .lsub, 1), (9, .lstore_n 0, 1), (10, .lload_n 0, 1), (11, .ldc2_w 316, 3), (14, .land, 1), (15, .lload_n 0, 1), (16, .iconst 2, 1), (17, .lushr, 1), (18, .ldc2_w 316, 3), (21, .land, 1), (22, .ladd, 1), (23, .lstore_n 0, 1), (24, .lload_n 0, 1), (25, .lload_n 0, 1), (26, .iconst 4, 1), (27, .lushr, 1), (28, .ladd, 1), (29, .ldc2_w 318, 3), (32, .land, 1), (33, .lstore_n 0, 1), (34, .lload_n 0, 1), (35, .lload_n 0, 1), (36, .bipush 8, 2), (38, .lushr, 1), (39, .ladd, 1), (40, .lstore_n 0, 1), (41, .lload_n 0, 1), (42, .lload_n 0, 1), (43, .bipush 16, 2), (45, .lushr, 1), (46, .ladd, 1), (47, .lstore_n 0, 1), (48, .lload_n 0, 1), (49, .lload_n 0, 1), (50, .bipush 32, 2), (52, .lushr, 1), (53, .ladd, 1), (54, .lstore_n 0, 1), (55, .lload_n 0, 1), (56, .l2i, 1), (57, .bipush 127, 2), (59, .iand, 1), (60, .ireturn, 1)])
def gJ7_numberOfTrailingZeros : pj_Mi := ((⟨"java/lang/Long", "numberOfTrailingZeros", "(J)I"⟩, prog_12_method_49_code, 3, some .int), (5, 0, 1), [], [(0, .lload_n 0, 1), (1, .l2i, 1), (2, .istore_n 2, 1), (3, .iload_n 2, 1), (4, .ifCond .ne 17, 3), (7, .bipush 32, 2), (9, .lload_n 0, 1), (10, .bipush 32, 2), (12, .lushr, 1), (13, .l2i, 1), (14, .invokestatic 311, 3), (17, .iadd, 1), (18, .goto 7, 3), (21, .iload_n 2, 1), (22, .invokestatic 311, 3), (25, .ireturn, 1)])
def gJ8_numberOfTrailingZeros : pj_Mi := ((⟨"java/lang/Integer", "numberOfTrailingZeros", "(I)I"⟩, prog_11_method_48_code, 2, some .int), (6, 0, 1), [], [(0, .iload_n 0, 1), (1, .iconst (-1), 1), (2, .ixor, 1), (3, .iload_n 0, 1), (4, .iconst 1, 1), (5, .isub, 1), (6, .iand, 1), (7, .istore_n 0, 1), (8, .iload_n 0, 1), (9, .ifCond .gt 8, 3), (12, .iload_n 0, 1), (13, .bipush 32, 2), (15, .iand, 1), (16, .ireturn, 1), (17, .iconst 1, 1), (18, .istore_n 1, 1), (19, .iload_n 0, 1), (20, .ldc_w 264, 3), (23, .if_icmp .le 11, 3), (26, .iinc 1 16, 3), (29, .iload_n 0, 1), (30, .bipush 16, 2), (32, .iushr, 1), (33, .istore_n 0, 1), (34, .iload_n 0, 1), (35, .sipush 256, 3), (38, .if_icmp .le 11, 3), (41, .iinc 1 8, 3), (44, .iload_n 0, 1), (45, .bipush 8, 2), (47, .iushr, 1), (48, .istore_n 0, 1), (49, .iload_n 0, 1), (50, .bipush 16, 2), (52, .if_icmp .le 10, 3), (55, .iinc 1 4, 3), (58, .iload_n 0, 1), (59, .iconst 4, 1), (60, .iushr, 1), (61, .istore_n 0, 1), (62, .iload_n 0, 1), (63, .iconst 4, 1), (64, .if_icmp .le 10, 3), (67, .iinc 1 2, 3), (70, .iload_n 0, 1), (71, .iconst 2, 1), (72, .iushr, 1), (73, .istore_n 0, 1), (74, .iload_n 1, 1), (75, .iload_n 0, 1), (76, .iconst 1, 1), (77, .iushr, 1), (78, .iadd, 1), (79, .ireturn, 1)])
def gJ10_max : pj_Mi := ((⟨"java/lang/Math", "max", "(II)I"⟩, prog_13_method_65_code, 2, some .int), (7, 0, 2), [], [(0, .iload_n 0, 1), (1, .iload_n 1, 1), (2, .if_icmp .lt 7, 3), (5, .iload_n 0, 1), (6, .goto 4, 3), (9, .iload_n 1, 1), (10, .ireturn, 1)])
def pj_mts : List pj_Mi := [gX0_pin, gX0_lay, gX0_layAny, gX0_segment, gX0_level, gX0_upright, gX0_via, gX0_net, gX0_count, gX1_init, gX1_ring, gX1_density, gX1_kind, gX1_pins, gX1_left, gX1_has, gX1_right, gX1_pairs, gX1_plan, gX1_cut, gX1_order, gX1_used, gX1_tracks, gX1_pin, gX1_among, gX1_allow, gX1_lay, gX1_noSingle, gX1_tried, gX1_layAll, gX1_searchRing, gX1_inRing, gX1_leading, gX1_fill, gX1_ready, gX1_draw, gX1_refuse, gX1_layAny, gX1_segment, gX1_level, gX1_upright, gX1_uprightAt, gX1_reach, gX1_via, gX1_joined, gX1_net, gX1_count, gX2_init, gX2_add, gX3_init, gX3_begin, gX3_touch, gX4_init, gX4_thrown, gX4_pin, gX4_in, gX4_lay, gX4_anySingle, gX4_sort, gX4_pinsOf, gX4_columns, gX4_lowest, gX4_highest, gX4_fail, gX4_study, gX4_makeSegments, gX4_segmentOf, gX4_touching, gX4_noRing, gX4_inRing, gX4_has, gX4_tellRing, gX4_countSteps, gX4_layNow, gX4_fill, gX4_nextFor, gX4_free, gX4_layAny, gX4_ring, gX4_segment, gX4_level, gX4_out, gX4_levelAt, gX4_upright, gX4_uprightAt, gX4_lies, gX4_via, gX4_viaAt, gX4_density, gX4_pairs, gX4_net, gX4_count, gX4_vias, gX4_used, gJ7_bitCount, gJ7_numberOfTrailingZeros, gJ8_numberOfTrailingZeros, gJ10_max]
/-- the rows are those of the bytes -/
def pj_okT (G : pj_Mi) : Prop := ∀ e ∈ G.2.2.2, decode G.1.2.1 e.1 = .ok (e.2.1, e.2.2)
theorem tb_X0_pin : pj_okT gX0_pin := by unfold pj_okT; decide +kernel
theorem tb_X0_lay : pj_okT gX0_lay := by unfold pj_okT; decide +kernel
theorem tb_X0_layAny : pj_okT gX0_layAny := by unfold pj_okT; decide +kernel
theorem tb_X0_segment : pj_okT gX0_segment := by unfold pj_okT; decide +kernel
theorem tb_X0_level : pj_okT gX0_level := by unfold pj_okT; decide +kernel
theorem tb_X0_upright : pj_okT gX0_upright := by unfold pj_okT; decide +kernel
theorem tb_X0_via : pj_okT gX0_via := by unfold pj_okT; decide +kernel
theorem tb_X0_net : pj_okT gX0_net := by unfold pj_okT; decide +kernel
theorem tb_X0_count : pj_okT gX0_count := by unfold pj_okT; decide +kernel
theorem tb_X1_init : pj_okT gX1_init := by unfold pj_okT; decide +kernel
theorem tb_X1_ring : pj_okT gX1_ring := by unfold pj_okT; decide +kernel
theorem tb_X1_density : pj_okT gX1_density := by unfold pj_okT; decide +kernel
theorem tb_X1_kind : pj_okT gX1_kind := by unfold pj_okT; decide +kernel
theorem tb_X1_pins : pj_okT gX1_pins := by unfold pj_okT; decide +kernel
theorem tb_X1_left : pj_okT gX1_left := by unfold pj_okT; decide +kernel
theorem tb_X1_has : pj_okT gX1_has := by unfold pj_okT; decide +kernel
theorem tb_X1_right : pj_okT gX1_right := by unfold pj_okT; decide +kernel
theorem tb_X1_pairs : pj_okT gX1_pairs := by unfold pj_okT; decide +kernel
theorem tb_X1_plan : pj_okT gX1_plan := by unfold pj_okT; decide +kernel
theorem tb_X1_cut : pj_okT gX1_cut := by unfold pj_okT; decide +kernel
theorem tb_X1_order : pj_okT gX1_order := by unfold pj_okT; decide +kernel
theorem tb_X1_used : pj_okT gX1_used := by unfold pj_okT; decide +kernel
theorem tb_X1_tracks : pj_okT gX1_tracks := by unfold pj_okT; decide +kernel
theorem tb_X1_pin : pj_okT gX1_pin := by unfold pj_okT; decide +kernel
theorem tb_X1_among : pj_okT gX1_among := by unfold pj_okT; decide +kernel
theorem tb_X1_allow : pj_okT gX1_allow := by unfold pj_okT; decide +kernel
theorem tb_X1_lay : pj_okT gX1_lay := by unfold pj_okT; decide +kernel
theorem tb_X1_noSingle : pj_okT gX1_noSingle := by unfold pj_okT; decide +kernel
theorem tb_X1_tried : pj_okT gX1_tried := by unfold pj_okT; decide +kernel
theorem tb_X1_layAll : pj_okT gX1_layAll := by unfold pj_okT; decide +kernel
theorem tb_X1_searchRing : pj_okT gX1_searchRing := by unfold pj_okT; decide +kernel
theorem tb_X1_inRing : pj_okT gX1_inRing := by unfold pj_okT; decide +kernel
theorem tb_X1_leading : pj_okT gX1_leading := by unfold pj_okT; decide +kernel
theorem tb_X1_fill : pj_okT gX1_fill := by unfold pj_okT; decide +kernel
theorem tb_X1_ready : pj_okT gX1_ready := by unfold pj_okT; decide +kernel
theorem tb_X1_draw : pj_okT gX1_draw := by unfold pj_okT; decide +kernel
theorem tb_X1_refuse : pj_okT gX1_refuse := by unfold pj_okT; decide +kernel
theorem tb_X1_layAny : pj_okT gX1_layAny := by unfold pj_okT; decide +kernel
theorem tb_X1_segment : pj_okT gX1_segment := by unfold pj_okT; decide +kernel
theorem tb_X1_level : pj_okT gX1_level := by unfold pj_okT; decide +kernel
theorem tb_X1_upright : pj_okT gX1_upright := by unfold pj_okT; decide +kernel
theorem tb_X1_uprightAt : pj_okT gX1_uprightAt := by unfold pj_okT; decide +kernel
theorem tb_X1_reach : pj_okT gX1_reach := by unfold pj_okT; decide +kernel
theorem tb_X1_via : pj_okT gX1_via := by unfold pj_okT; decide +kernel
theorem tb_X1_joined : pj_okT gX1_joined := by unfold pj_okT; decide +kernel
theorem tb_X1_net : pj_okT gX1_net := by unfold pj_okT; decide +kernel
theorem tb_X1_count : pj_okT gX1_count := by unfold pj_okT; decide +kernel
theorem tb_X2_init : pj_okT gX2_init := by unfold pj_okT; decide +kernel
theorem tb_X2_add : pj_okT gX2_add := by unfold pj_okT; decide +kernel
theorem tb_X3_init : pj_okT gX3_init := by unfold pj_okT; decide +kernel
theorem tb_X3_begin : pj_okT gX3_begin := by unfold pj_okT; decide +kernel
theorem tb_X3_touch : pj_okT gX3_touch := by unfold pj_okT; decide +kernel
theorem tb_X4_init : pj_okT gX4_init := by unfold pj_okT; decide +kernel
theorem tb_X4_thrown : pj_okT gX4_thrown := by unfold pj_okT; decide +kernel
theorem tb_X4_pin : pj_okT gX4_pin := by unfold pj_okT; decide +kernel
theorem tb_X4_in : pj_okT gX4_in := by unfold pj_okT; decide +kernel
theorem tb_X4_lay : pj_okT gX4_lay := by unfold pj_okT; decide +kernel
theorem tb_X4_anySingle : pj_okT gX4_anySingle := by unfold pj_okT; decide +kernel
theorem tb_X4_sort : pj_okT gX4_sort := by unfold pj_okT; decide +kernel
theorem tb_X4_pinsOf : pj_okT gX4_pinsOf := by unfold pj_okT; decide +kernel
theorem tb_X4_columns : pj_okT gX4_columns := by unfold pj_okT; decide +kernel
theorem tb_X4_lowest : pj_okT gX4_lowest := by unfold pj_okT; decide +kernel
theorem tb_X4_highest : pj_okT gX4_highest := by unfold pj_okT; decide +kernel
theorem tb_X4_fail : pj_okT gX4_fail := by unfold pj_okT; decide +kernel
theorem tb_X4_study : pj_okT gX4_study := by unfold pj_okT; decide +kernel
theorem tb_X4_makeSegments : pj_okT gX4_makeSegments := by unfold pj_okT; decide +kernel
theorem tb_X4_segmentOf : pj_okT gX4_segmentOf := by unfold pj_okT; decide +kernel
theorem tb_X4_touching : pj_okT gX4_touching := by unfold pj_okT; decide +kernel
theorem tb_X4_noRing : pj_okT gX4_noRing := by unfold pj_okT; decide +kernel
theorem tb_X4_inRing : pj_okT gX4_inRing := by unfold pj_okT; decide +kernel
theorem tb_X4_has : pj_okT gX4_has := by unfold pj_okT; decide +kernel
theorem tb_X4_tellRing : pj_okT gX4_tellRing := by unfold pj_okT; decide +kernel
theorem tb_X4_countSteps : pj_okT gX4_countSteps := by unfold pj_okT; decide +kernel
theorem tb_X4_layNow : pj_okT gX4_layNow := by unfold pj_okT; decide +kernel
theorem tb_X4_fill : pj_okT gX4_fill := by unfold pj_okT; decide +kernel
theorem tb_X4_nextFor : pj_okT gX4_nextFor := by unfold pj_okT; decide +kernel
theorem tb_X4_free : pj_okT gX4_free := by unfold pj_okT; decide +kernel
theorem tb_X4_layAny : pj_okT gX4_layAny := by unfold pj_okT; decide +kernel
theorem tb_X4_ring : pj_okT gX4_ring := by unfold pj_okT; decide +kernel
theorem tb_X4_segment : pj_okT gX4_segment := by unfold pj_okT; decide +kernel
theorem tb_X4_level : pj_okT gX4_level := by unfold pj_okT; decide +kernel
theorem tb_X4_out : pj_okT gX4_out := by unfold pj_okT; decide +kernel
theorem tb_X4_levelAt : pj_okT gX4_levelAt := by unfold pj_okT; decide +kernel
theorem tb_X4_upright : pj_okT gX4_upright := by unfold pj_okT; decide +kernel
theorem tb_X4_uprightAt : pj_okT gX4_uprightAt := by unfold pj_okT; decide +kernel
theorem tb_X4_lies : pj_okT gX4_lies := by unfold pj_okT; decide +kernel
theorem tb_X4_via : pj_okT gX4_via := by unfold pj_okT; decide +kernel
theorem tb_X4_viaAt : pj_okT gX4_viaAt := by unfold pj_okT; decide +kernel
theorem tb_X4_density : pj_okT gX4_density := by unfold pj_okT; decide +kernel
theorem tb_X4_pairs : pj_okT gX4_pairs := by unfold pj_okT; decide +kernel
theorem tb_X4_net : pj_okT gX4_net := by unfold pj_okT; decide +kernel
theorem tb_X4_count : pj_okT gX4_count := by unfold pj_okT; decide +kernel
theorem tb_X4_vias : pj_okT gX4_vias := by unfold pj_okT; decide +kernel
theorem tb_X4_used : pj_okT gX4_used := by unfold pj_okT; decide +kernel
theorem tb_J7_bitCount : pj_okT gJ7_bitCount := by unfold pj_okT; decide +kernel
theorem tb_J7_numberOfTrailingZeros : pj_okT gJ7_numberOfTrailingZeros := by unfold pj_okT; decide +kernel
theorem tb_J8_numberOfTrailingZeros : pj_okT gJ8_numberOfTrailingZeros := by unfold pj_okT; decide +kernel
theorem tb_J10_max : pj_okT gJ10_max := by unfold pj_okT; decide +kernel
theorem pj_mts_tb : ∀ G ∈ pj_mts, pj_okT G := List.forall_mem_cons.mpr ⟨tb_X0_pin, List.forall_mem_cons.mpr ⟨tb_X0_lay, List.forall_mem_cons.mpr ⟨tb_X0_layAny, List.forall_mem_cons.mpr ⟨tb_X0_segment, List.forall_mem_cons.mpr ⟨tb_X0_level, List.forall_mem_cons.mpr ⟨tb_X0_upright, List.forall_mem_cons.mpr ⟨tb_X0_via, List.forall_mem_cons.mpr ⟨tb_X0_net, List.forall_mem_cons.mpr ⟨tb_X0_count, List.forall_mem_cons.mpr ⟨tb_X1_init, List.forall_mem_cons.mpr ⟨tb_X1_ring, List.forall_mem_cons.mpr ⟨tb_X1_density, List.forall_mem_cons.mpr ⟨tb_X1_kind, List.forall_mem_cons.mpr ⟨tb_X1_pins, List.forall_mem_cons.mpr ⟨tb_X1_left, List.forall_mem_cons.mpr ⟨tb_X1_has, List.forall_mem_cons.mpr ⟨tb_X1_right, List.forall_mem_cons.mpr ⟨tb_X1_pairs, List.forall_mem_cons.mpr ⟨tb_X1_plan, List.forall_mem_cons.mpr ⟨tb_X1_cut, List.forall_mem_cons.mpr ⟨tb_X1_order, List.forall_mem_cons.mpr ⟨tb_X1_used, List.forall_mem_cons.mpr ⟨tb_X1_tracks, List.forall_mem_cons.mpr ⟨tb_X1_pin, List.forall_mem_cons.mpr ⟨tb_X1_among, List.forall_mem_cons.mpr ⟨tb_X1_allow, List.forall_mem_cons.mpr ⟨tb_X1_lay, List.forall_mem_cons.mpr ⟨tb_X1_noSingle, List.forall_mem_cons.mpr ⟨tb_X1_tried, List.forall_mem_cons.mpr ⟨tb_X1_layAll, List.forall_mem_cons.mpr ⟨tb_X1_searchRing, List.forall_mem_cons.mpr ⟨tb_X1_inRing, List.forall_mem_cons.mpr ⟨tb_X1_leading, List.forall_mem_cons.mpr ⟨tb_X1_fill, List.forall_mem_cons.mpr ⟨tb_X1_ready, List.forall_mem_cons.mpr ⟨tb_X1_draw, List.forall_mem_cons.mpr ⟨tb_X1_refuse, List.forall_mem_cons.mpr ⟨tb_X1_layAny, List.forall_mem_cons.mpr ⟨tb_X1_segment, List.forall_mem_cons.mpr ⟨tb_X1_level, List.forall_mem_cons.mpr ⟨tb_X1_upright, List.forall_mem_cons.mpr ⟨tb_X1_uprightAt, List.forall_mem_cons.mpr ⟨tb_X1_reach, List.forall_mem_cons.mpr ⟨tb_X1_via, List.forall_mem_cons.mpr ⟨tb_X1_joined, List.forall_mem_cons.mpr ⟨tb_X1_net, List.forall_mem_cons.mpr ⟨tb_X1_count, List.forall_mem_cons.mpr ⟨tb_X2_init, List.forall_mem_cons.mpr ⟨tb_X2_add, List.forall_mem_cons.mpr ⟨tb_X3_init, List.forall_mem_cons.mpr ⟨tb_X3_begin, List.forall_mem_cons.mpr ⟨tb_X3_touch, List.forall_mem_cons.mpr ⟨tb_X4_init, List.forall_mem_cons.mpr ⟨tb_X4_thrown, List.forall_mem_cons.mpr ⟨tb_X4_pin, List.forall_mem_cons.mpr ⟨tb_X4_in, List.forall_mem_cons.mpr ⟨tb_X4_lay, List.forall_mem_cons.mpr ⟨tb_X4_anySingle, List.forall_mem_cons.mpr ⟨tb_X4_sort, List.forall_mem_cons.mpr ⟨tb_X4_pinsOf, List.forall_mem_cons.mpr ⟨tb_X4_columns, List.forall_mem_cons.mpr ⟨tb_X4_lowest, List.forall_mem_cons.mpr ⟨tb_X4_highest, List.forall_mem_cons.mpr ⟨tb_X4_fail, List.forall_mem_cons.mpr ⟨tb_X4_study, List.forall_mem_cons.mpr ⟨tb_X4_makeSegments, List.forall_mem_cons.mpr ⟨tb_X4_segmentOf, List.forall_mem_cons.mpr ⟨tb_X4_touching, List.forall_mem_cons.mpr ⟨tb_X4_noRing, List.forall_mem_cons.mpr ⟨tb_X4_inRing, List.forall_mem_cons.mpr ⟨tb_X4_has, List.forall_mem_cons.mpr ⟨tb_X4_tellRing, List.forall_mem_cons.mpr ⟨tb_X4_countSteps, List.forall_mem_cons.mpr ⟨tb_X4_layNow, List.forall_mem_cons.mpr ⟨tb_X4_fill, List.forall_mem_cons.mpr ⟨tb_X4_nextFor, List.forall_mem_cons.mpr ⟨tb_X4_free, List.forall_mem_cons.mpr ⟨tb_X4_layAny, List.forall_mem_cons.mpr ⟨tb_X4_ring, List.forall_mem_cons.mpr ⟨tb_X4_segment, List.forall_mem_cons.mpr ⟨tb_X4_level, List.forall_mem_cons.mpr ⟨tb_X4_out, List.forall_mem_cons.mpr ⟨tb_X4_levelAt, List.forall_mem_cons.mpr ⟨tb_X4_upright, List.forall_mem_cons.mpr ⟨tb_X4_uprightAt, List.forall_mem_cons.mpr ⟨tb_X4_lies, List.forall_mem_cons.mpr ⟨tb_X4_via, List.forall_mem_cons.mpr ⟨tb_X4_viaAt, List.forall_mem_cons.mpr ⟨tb_X4_density, List.forall_mem_cons.mpr ⟨tb_X4_pairs, List.forall_mem_cons.mpr ⟨tb_X4_net, List.forall_mem_cons.mpr ⟨tb_X4_count, List.forall_mem_cons.mpr ⟨tb_X4_vias, List.forall_mem_cons.mpr ⟨tb_X4_used, List.forall_mem_cons.mpr ⟨tb_J7_bitCount, List.forall_mem_cons.mpr ⟨tb_J7_numberOfTrailingZeros, List.forall_mem_cons.mpr ⟨tb_J8_numberOfTrailingZeros, List.forall_mem_cons.mpr ⟨tb_J10_max, fun _ h => absurd h List.not_mem_nil⟩⟩⟩⟩⟩⟩⟩⟩⟩⟩⟩⟩⟩⟩⟩⟩⟩⟩⟩⟩⟩⟩⟩⟩⟩⟩⟩⟩⟩⟩⟩⟩⟩⟩⟩⟩⟩⟩⟩⟩⟩⟩⟩⟩⟩⟩⟩⟩⟩⟩⟩⟩⟩⟩⟩⟩⟩⟩⟩⟩⟩⟩⟩⟩⟩⟩⟩⟩⟩⟩⟩⟩⟩⟩⟩⟩⟩⟩⟩⟩⟩⟩⟩⟩⟩⟩⟩⟩⟩⟩⟩⟩⟩⟩⟩⟩⟩⟩
end
section
/-! the rows of the law itself, in pieces -/
set_option maxRecDepth 100000
def rL_0 : List (Nat × Instr × Nat) := [(0, .new 8, 3), (3, .dup, 1), (4, .invokespecial 48, 3), (7, .astore_n 1, 1), (8, .new 49, 3), (11, .dup, 1), (12, .invokespecial 51, 3), (15, .astore_n 2, 1), (16, .iconst 1, 1), (17, .newarray .long, 2), (19, .astore_n 3, 1), (20, .iconst 0, 1), (21, .istore 4, 2), (23, .iload 4, 2), (25, .aload_n 0, 1), (26, .arraylength, 1), (27, .iconst 4, 1), (28, .isub, 1), (29, .if_icmp .gt 818, 3), (32, .aload_n 0, 1), (33, .iload 4, 2), (35, .iaload, 1), (36, .bipush 15, 2), (38, .iand, 1), (39, .tableswitch 802 0 12 #[65, 161, 233, 277, 302, 370, 438, 506, 581, 594, 635, 703, 759], 65)]
theorem tbL_0 : ∀ e ∈ rL_0, decode code e.1 = .ok (e.2.1, e.2.2) := by decide +kernel
def rL_1 : List (Nat × Instr × Nat) := [(104, .aload_n 1, 1), (105, .aload_n 0, 1), (106, .iload 4, 2), (108, .iconst 1, 1), (109, .iadd, 1), (110, .iaload, 1), (111, .aload_n 0, 1), (112, .iload 4, 2), (114, .iconst 2, 1), (115, .iadd, 1), (116, .iaload, 1), (117, .ifCond .eq 7, 3), (120, .iconst 1, 1), (121, .goto 4, 3), (124, .iconst 0, 1), (125, .aload_n 0, 1), (126, .iload 4, 2), (128, .iconst 3, 1), (129, .iadd, 1), (130, .iaload, 1), (131, .aload_n 3, 1), (132, .invokestatic 52, 3), (135, .istore 5, 2), (137, .aload_n 2, 1), (138, .aload_n 0, 1)]
theorem tbL_1 : ∀ e ∈ rL_1, decode code e.1 = .ok (e.2.1, e.2.2) := by decide +kernel
def rL_2 : List (Nat × Instr × Nat) := [(139, .iload 4, 2), (141, .iconst 1, 1), (142, .iadd, 1), (143, .iaload, 1), (144, .aload_n 0, 1), (145, .iload 4, 2), (147, .iconst 2, 1), (148, .iadd, 1), (149, .iaload, 1), (150, .ifCond .eq 7, 3), (153, .iconst 1, 1), (154, .goto 4, 3), (157, .iconst 0, 1), (158, .aload_n 0, 1), (159, .iload 4, 2), (161, .iconst 3, 1), (162, .iadd, 1), (163, .iaload, 1), (164, .invokevirtual 57, 3), (167, .istore 6, 2), (169, .aload_n 2, 1), (170, .invokevirtual 58, 3), (173, .iload 5, 2), (175, .if_icmp .eq 5, 3), (178, .iconst 0, 1)]
theorem tbL_2 : ∀ e ∈ rL_2, decode code e.1 = .ok (e.2.1, e.2.2) := by decide +kernel
def rL_3 : List (Nat × Instr × Nat) := [(179, .ireturn, 1), (180, .iload 5, 2), (182, .ifCond .ne 15, 3), (185, .aload_n 3, 1), (186, .iconst 0, 1), (187, .laload, 1), (188, .iload 6, 2), (190, .i2l, 1), (191, .lcmp, 1), (192, .ifCond .eq 5, 3), (195, .iconst 0, 1), (196, .ireturn, 1), (197, .goto 644, 3), (200, .aload_n 1, 1), (201, .aload_n 0, 1), (202, .iload 4, 2), (204, .iconst 1, 1), (205, .iadd, 1), (206, .iaload, 1), (207, .ifCond .eq 7, 3), (210, .iconst 1, 1), (211, .goto 4, 3), (214, .iconst 0, 1), (215, .aload_n 3, 1), (216, .invokestatic 61, 3)]
theorem tbL_3 : ∀ e ∈ rL_3, decode code e.1 = .ok (e.2.1, e.2.2) := by decide +kernel
def rL_4 : List (Nat × Instr × Nat) := [(219, .istore 5, 2), (221, .aload_n 2, 1), (222, .aload_n 0, 1), (223, .iload 4, 2), (225, .iconst 1, 1), (226, .iadd, 1), (227, .iaload, 1), (228, .ifCond .eq 7, 3), (231, .iconst 1, 1), (232, .goto 4, 3), (235, .iconst 0, 1), (236, .invokevirtual 64, 3), (239, .istore 6, 2), (241, .aload_n 2, 1), (242, .invokevirtual 58, 3), (245, .iload 5, 2), (247, .if_icmp .eq 5, 3), (250, .iconst 0, 1), (251, .ireturn, 1), (252, .iload 5, 2), (254, .ifCond .ne 15, 3), (257, .aload_n 3, 1), (258, .iconst 0, 1), (259, .laload, 1), (260, .iload 6, 2)]
theorem tbL_4 : ∀ e ∈ rL_4, decode code e.1 = .ok (e.2.1, e.2.2) := by decide +kernel
def rL_5 : List (Nat × Instr × Nat) := [(262, .i2l, 1), (263, .lcmp, 1), (264, .ifCond .eq 5, 3), (267, .iconst 0, 1), (268, .ireturn, 1), (269, .goto 572, 3), (272, .aload_n 1, 1), (273, .aload_n 3, 1), (274, .invokestatic 65, 3), (277, .istore 5, 2), (279, .aload_n 2, 1), (280, .invokevirtual 68, 3), (283, .istore 6, 2), (285, .aload_n 2, 1), (286, .invokevirtual 58, 3), (289, .iload 5, 2), (291, .if_icmp .eq 5, 3), (294, .iconst 0, 1), (295, .ireturn, 1), (296, .iload 5, 2), (298, .ifCond .ne 15, 3), (301, .aload_n 3, 1), (302, .iconst 0, 1), (303, .laload, 1), (304, .iload 6, 2)]
theorem tbL_5 : ∀ e ∈ rL_5, decode code e.1 = .ok (e.2.1, e.2.2) := by decide +kernel
def rL_6 : List (Nat × Instr × Nat) := [(306, .i2l, 1), (307, .lcmp, 1), (308, .ifCond .eq 5, 3), (311, .iconst 0, 1), (312, .ireturn, 1), (313, .goto 528, 3), (316, .aload_n 1, 1), (317, .aload_n 0, 1), (318, .iload 4, 2), (320, .iconst 1, 1), (321, .iadd, 1), (322, .iaload, 1), (323, .invokevirtual 69, 3), (326, .aload_n 2, 1), (327, .aload_n 0, 1), (328, .iload 4, 2), (330, .iconst 1, 1), (331, .iadd, 1), (332, .iaload, 1), (333, .invokevirtual 72, 3), (336, .if_icmp .eq 505, 3), (339, .iconst 0, 1), (340, .ireturn, 1), (341, .aload_n 1, 1), (342, .aload_n 0, 1)]
theorem tbL_6 : ∀ e ∈ rL_6, decode code e.1 = .ok (e.2.1, e.2.2) := by decide +kernel
def rL_7 : List (Nat × Instr × Nat) := [(343, .iload 4, 2), (345, .iconst 1, 1), (346, .iadd, 1), (347, .iaload, 1), (348, .aload_n 0, 1), (349, .iload 4, 2), (351, .iconst 2, 1), (352, .iadd, 1), (353, .iaload, 1), (354, .aload_n 3, 1), (355, .invokestatic 73, 3), (358, .istore 5, 2), (360, .aload_n 2, 1), (361, .aload_n 0, 1), (362, .iload 4, 2), (364, .iconst 1, 1), (365, .iadd, 1), (366, .iaload, 1), (367, .aload_n 0, 1), (368, .iload 4, 2), (370, .iconst 2, 1), (371, .iadd, 1), (372, .iaload, 1), (373, .invokevirtual 76, 3), (376, .istore 6, 2)]
theorem tbL_7 : ∀ e ∈ rL_7, decode code e.1 = .ok (e.2.1, e.2.2) := by decide +kernel
def rL_8 : List (Nat × Instr × Nat) := [(378, .aload_n 2, 1), (379, .invokevirtual 58, 3), (382, .iload 5, 2), (384, .if_icmp .eq 5, 3), (387, .iconst 0, 1), (388, .ireturn, 1), (389, .iload 5, 2), (391, .ifCond .ne 15, 3), (394, .aload_n 3, 1), (395, .iconst 0, 1), (396, .laload, 1), (397, .iload 6, 2), (399, .i2l, 1), (400, .lcmp, 1), (401, .ifCond .eq 5, 3), (404, .iconst 0, 1), (405, .ireturn, 1), (406, .goto 435, 3), (409, .aload_n 1, 1), (410, .aload_n 0, 1), (411, .iload 4, 2), (413, .iconst 1, 1), (414, .iadd, 1), (415, .iaload, 1), (416, .aload_n 0, 1)]
theorem tbL_8 : ∀ e ∈ rL_8, decode code e.1 = .ok (e.2.1, e.2.2) := by decide +kernel
def rL_9 : List (Nat × Instr × Nat) := [(417, .iload 4, 2), (419, .iconst 2, 1), (420, .iadd, 1), (421, .iaload, 1), (422, .aload_n 3, 1), (423, .invokestatic 77, 3), (426, .istore 5, 2), (428, .aload_n 2, 1), (429, .aload_n 0, 1), (430, .iload 4, 2), (432, .iconst 1, 1), (433, .iadd, 1), (434, .iaload, 1), (435, .aload_n 0, 1), (436, .iload 4, 2), (438, .iconst 2, 1), (439, .iadd, 1), (440, .iaload, 1), (441, .invokevirtual 79, 3), (444, .istore 6, 2), (446, .aload_n 2, 1), (447, .invokevirtual 58, 3), (450, .iload 5, 2), (452, .if_icmp .eq 5, 3), (455, .iconst 0, 1)]
theorem tbL_9 : ∀ e ∈ rL_9, decode code e.1 = .ok (e.2.1, e.2.2) := by decide +kernel
def rL_10 : List (Nat × Instr × Nat) := [(456, .ireturn, 1), (457, .iload 5, 2), (459, .ifCond .ne 15, 3), (462, .aload_n 3, 1), (463, .iconst 0, 1), (464, .laload, 1), (465, .iload 6, 2), (467, .i2l, 1), (468, .lcmp, 1), (469, .ifCond .eq 5, 3), (472, .iconst 0, 1), (473, .ireturn, 1), (474, .goto 367, 3), (477, .aload_n 1, 1), (478, .aload_n 0, 1), (479, .iload 4, 2), (481, .iconst 1, 1), (482, .iadd, 1), (483, .iaload, 1), (484, .aload_n 0, 1), (485, .iload 4, 2), (487, .iconst 2, 1), (488, .iadd, 1), (489, .iaload, 1), (490, .aload_n 3, 1)]
theorem tbL_10 : ∀ e ∈ rL_10, decode code e.1 = .ok (e.2.1, e.2.2) := by decide +kernel
def rL_11 : List (Nat × Instr × Nat) := [(491, .invokestatic 80, 3), (494, .istore 5, 2), (496, .aload_n 2, 1), (497, .aload_n 0, 1), (498, .iload 4, 2), (500, .iconst 1, 1), (501, .iadd, 1), (502, .iaload, 1), (503, .aload_n 0, 1), (504, .iload 4, 2), (506, .iconst 2, 1), (507, .iadd, 1), (508, .iaload, 1), (509, .invokevirtual 82, 3), (512, .istore 6, 2), (514, .aload_n 2, 1), (515, .invokevirtual 58, 3), (518, .iload 5, 2), (520, .if_icmp .eq 5, 3), (523, .iconst 0, 1), (524, .ireturn, 1), (525, .iload 5, 2), (527, .ifCond .ne 15, 3), (530, .aload_n 3, 1), (531, .iconst 0, 1)]
theorem tbL_11 : ∀ e ∈ rL_11, decode code e.1 = .ok (e.2.1, e.2.2) := by decide +kernel
def rL_12 : List (Nat × Instr × Nat) := [(532, .laload, 1), (533, .iload 6, 2), (535, .i2l, 1), (536, .lcmp, 1), (537, .ifCond .eq 5, 3), (540, .iconst 0, 1), (541, .ireturn, 1), (542, .goto 299, 3), (545, .aload_n 1, 1), (546, .aload_n 0, 1), (547, .iload 4, 2), (549, .iconst 1, 1), (550, .iadd, 1), (551, .iaload, 1), (552, .aload_n 0, 1), (553, .iload 4, 2), (555, .iconst 2, 1), (556, .iadd, 1), (557, .iaload, 1), (558, .aload_n 3, 1), (559, .invokestatic 83, 3), (562, .istore 5, 2), (564, .aload_n 2, 1), (565, .aload_n 0, 1), (566, .iload 4, 2)]
theorem tbL_12 : ∀ e ∈ rL_12, decode code e.1 = .ok (e.2.1, e.2.2) := by decide +kernel
def rL_13 : List (Nat × Instr × Nat) := [(568, .iconst 1, 1), (569, .iadd, 1), (570, .iaload, 1), (571, .aload_n 0, 1), (572, .iload 4, 2), (574, .iconst 2, 1), (575, .iadd, 1), (576, .iaload, 1), (577, .invokevirtual 85, 3), (580, .istore 6, 2), (582, .aload_n 2, 1), (583, .invokevirtual 58, 3), (586, .iload 5, 2), (588, .if_icmp .eq 5, 3), (591, .iconst 0, 1), (592, .ireturn, 1), (593, .iload 5, 2), (595, .ifCond .ne 22, 3), (598, .aload_n 3, 1), (599, .iconst 0, 1), (600, .laload, 1), (601, .iload 6, 2), (603, .ifCond .eq 7, 3), (606, .lconst 1, 1), (607, .goto 4, 3)]
theorem tbL_13 : ∀ e ∈ rL_13, decode code e.1 = .ok (e.2.1, e.2.2) := by decide +kernel
def rL_14 : List (Nat × Instr × Nat) := [(610, .lconst 0, 1), (611, .lcmp, 1), (612, .ifCond .eq 5, 3), (615, .iconst 0, 1), (616, .ireturn, 1), (617, .goto 224, 3), (620, .aload_n 1, 1), (621, .invokevirtual 86, 3), (624, .aload_n 2, 1), (625, .invokevirtual 89, 3), (628, .if_icmp .eq 213, 3), (631, .iconst 0, 1), (632, .ireturn, 1), (633, .aload_n 1, 1), (634, .aload_n 0, 1), (635, .iload 4, 2), (637, .iconst 1, 1), (638, .iadd, 1), (639, .iaload, 1), (640, .ifCond .eq 7, 3), (643, .iconst 1, 1), (644, .goto 4, 3), (647, .iconst 0, 1), (648, .invokevirtual 90, 3), (651, .aload_n 2, 1)]
theorem tbL_14 : ∀ e ∈ rL_14, decode code e.1 = .ok (e.2.1, e.2.2) := by decide +kernel
def rL_15 : List (Nat × Instr × Nat) := [(652, .aload_n 0, 1), (653, .iload 4, 2), (655, .iconst 1, 1), (656, .iadd, 1), (657, .iaload, 1), (658, .ifCond .eq 7, 3), (661, .iconst 1, 1), (662, .goto 4, 3), (665, .iconst 0, 1), (666, .invokevirtual 93, 3), (669, .if_icmp .eq 172, 3), (672, .iconst 0, 1), (673, .ireturn, 1), (674, .aload_n 1, 1), (675, .aload_n 0, 1), (676, .iload 4, 2), (678, .iconst 1, 1), (679, .iadd, 1), (680, .iaload, 1), (681, .aload_n 0, 1), (682, .iload 4, 2), (684, .iconst 2, 1), (685, .iadd, 1), (686, .iaload, 1), (687, .aload_n 3, 1)]
theorem tbL_15 : ∀ e ∈ rL_15, decode code e.1 = .ok (e.2.1, e.2.2) := by decide +kernel
def rL_16 : List (Nat × Instr × Nat) := [(688, .invokestatic 94, 3), (691, .istore 5, 2), (693, .aload_n 2, 1), (694, .aload_n 0, 1), (695, .iload 4, 2), (697, .iconst 1, 1), (698, .iadd, 1), (699, .iaload, 1), (700, .aload_n 0, 1), (701, .iload 4, 2), (703, .iconst 2, 1), (704, .iadd, 1), (705, .iaload, 1), (706, .invokevirtual 96, 3), (709, .istore 6, 2), (711, .aload_n 2, 1), (712, .invokevirtual 58, 3), (715, .iload 5, 2), (717, .if_icmp .eq 5, 3), (720, .iconst 0, 1), (721, .ireturn, 1), (722, .iload 5, 2), (724, .ifCond .ne 15, 3), (727, .aload_n 3, 1), (728, .iconst 0, 1)]
theorem tbL_16 : ∀ e ∈ rL_16, decode code e.1 = .ok (e.2.1, e.2.2) := by decide +kernel
def rL_17 : List (Nat × Instr × Nat) := [(729, .laload, 1), (730, .iload 6, 2), (732, .i2l, 1), (733, .lcmp, 1), (734, .ifCond .eq 5, 3), (737, .iconst 0, 1), (738, .ireturn, 1), (739, .goto 102, 3), (742, .aload_n 1, 1), (743, .aload_n 0, 1), (744, .iload 4, 2), (746, .iconst 1, 1), (747, .iadd, 1), (748, .iaload, 1), (749, .aload_n 3, 1), (750, .invokestatic 97, 3), (753, .istore 5, 2), (755, .aload_n 2, 1), (756, .aload_n 0, 1), (757, .iload 4, 2), (759, .iconst 1, 1), (760, .iadd, 1), (761, .iaload, 1), (762, .invokevirtual 100, 3), (765, .istore 6, 2)]
theorem tbL_17 : ∀ e ∈ rL_17, decode code e.1 = .ok (e.2.1, e.2.2) := by decide +kernel
def rL_18 : List (Nat × Instr × Nat) := [(767, .aload_n 2, 1), (768, .invokevirtual 58, 3), (771, .iload 5, 2), (773, .if_icmp .eq 5, 3), (776, .iconst 0, 1), (777, .ireturn, 1), (778, .iload 5, 2), (780, .ifCond .ne 15, 3), (783, .aload_n 3, 1), (784, .iconst 0, 1), (785, .laload, 1), (786, .iload 6, 2), (788, .i2l, 1), (789, .lcmp, 1), (790, .ifCond .eq 5, 3), (793, .iconst 0, 1), (794, .ireturn, 1), (795, .goto 46, 3), (798, .aload_n 1, 1), (799, .invokevirtual 101, 3), (802, .f2d, 1), (803, .dstore 5, 2), (805, .aload_n 2, 1), (806, .invokevirtual 105, 3), (809, .f2d, 1)]
theorem tbL_18 : ∀ e ∈ rL_18, decode code e.1 = .ok (e.2.1, e.2.2) := by decide +kernel
def rL_19 : List (Nat × Instr × Nat) := [(810, .dstore 7, 2), (812, .dload 5, 2), (814, .dload 7, 2), (816, .dcmp .l, 1), (817, .ifCond .eq 21, 3), (820, .dload 5, 2), (822, .dload 5, 2), (824, .dcmp .l, 1), (825, .ifCond .eq 11, 3), (828, .dload 7, 2), (830, .dload 7, 2), (832, .dcmp .l, 1), (833, .ifCond .ne 5, 3), (836, .iconst 0, 1), (837, .ireturn, 1), (838, .goto 3, 3), (841, .iinc 4 4, 3), (844, .goto (-821), 3), (847, .iconst 1, 1), (848, .ireturn, 1)]
theorem tbL_19 : ∀ e ∈ rL_19, decode code e.1 = .ok (e.2.1, e.2.2) := by decide +kernel
def gL_law : pj_Mi := ((⟨"ChannelRouterLaw", "law", "([I)Z"⟩, code, 9, some .boolean), (0, 0, 1), [], rL_0 ++ (rL_1 ++ (rL_2 ++ (rL_3 ++ (rL_4 ++ (rL_5 ++ (rL_6 ++ (rL_7 ++ (rL_8 ++ (rL_9 ++ (rL_10 ++ (rL_11 ++ (rL_12 ++ (rL_13 ++ (rL_14 ++ (rL_15 ++ (rL_16 ++ (rL_17 ++ (rL_18 ++ (rL_19))))))))))))))))))))
theorem tb_L_law : pj_okT gL_law := by
  show ∀ e ∈ rL_0 ++ (rL_1 ++ (rL_2 ++ (rL_3 ++ (rL_4 ++ (rL_5 ++ (rL_6 ++ (rL_7 ++ (rL_8 ++ (rL_9 ++ (rL_10 ++ (rL_11 ++ (rL_12 ++ (rL_13 ++ (rL_14 ++ (rL_15 ++ (rL_16 ++ (rL_17 ++ (rL_18 ++ (rL_19))))))))))))))))))), decode code e.1 = .ok (e.2.1, e.2.2)
  exact List.forall_mem_append.mpr ⟨tbL_0, List.forall_mem_append.mpr ⟨tbL_1, List.forall_mem_append.mpr ⟨tbL_2, List.forall_mem_append.mpr ⟨tbL_3, List.forall_mem_append.mpr ⟨tbL_4, List.forall_mem_append.mpr ⟨tbL_5, List.forall_mem_append.mpr ⟨tbL_6, List.forall_mem_append.mpr ⟨tbL_7, List.forall_mem_append.mpr ⟨tbL_8, List.forall_mem_append.mpr ⟨tbL_9, List.forall_mem_append.mpr ⟨tbL_10, List.forall_mem_append.mpr ⟨tbL_11, List.forall_mem_append.mpr ⟨tbL_12, List.forall_mem_append.mpr ⟨tbL_13, List.forall_mem_append.mpr ⟨tbL_14, List.forall_mem_append.mpr ⟨tbL_15, List.forall_mem_append.mpr ⟨tbL_16, List.forall_mem_append.mpr ⟨tbL_17, List.forall_mem_append.mpr ⟨tbL_18, tbL_19⟩⟩⟩⟩⟩⟩⟩⟩⟩⟩⟩⟩⟩⟩⟩⟩⟩⟩⟩
end
section
/-! THE PURE MACHINE: ids for cells, typed stores, the lib's Instr as code. ids: 0 the script, 1 .. N those made, in the order of making -/
abbrev pj_SI : Type := Nat → Nat → Int32
abbrev pj_SJ : Type := Nat → Nat → Int64
abbrev pj_SP : Type := Nat → Nat → Option Nat
/-- how many cells were made: inl N: N of the 147; inr n: all the 147, and n more (thrown ones) -/
abbrev pj_N : Type := Nat ⊕ Nat
def pj_al : pj_N → Nat → Bool
  | .inl N, o => decide (o ≤ N)
  | .inr _, o => decide (o ≤ 147)
def pj_cnt : pj_N → Nat
  | .inl N => N
  | .inr n => 147 + n
def pj_inc : pj_N → pj_N
  | .inl N => if N = 146 then .inr 0 else .inl (N + 1)
  | .inr n => .inr (n + 1)
/-- cells made; ints; longs; references -/
abbrev pj_St : Type := pj_N × pj_SI × pj_SJ × pj_SP
def pj_u2 {α : Type} (f : Nat → Nat → α) (o k : Nat) (v : α) : Nat → Nat → α := fun a b => if a = o ∧ b = k then v else f a b
/-- a whole row is set -/
def pj_u1 {α : Type} (f : Nat → Nat → α) (o : Nat) (v : α) : Nat → Nat → α := fun a b => if a = o then v else f a b
def pj_rf : Option Nat → Value
  | none => .null
  | some q => .ref q
/-- kinds of cells: 1 router 2 plan 3 segment 4 model 5 ints 6 longs 7 segments' array 8 rows' array 0 none -/
def pj_kd (o : Nat) : Nat :=
  if o = 0 then 5 else if o = 1 then 1 else if o ≤ 3 then 5 else if o = 4 then 2 else if o = 5 then 7 else if o ≤ 45 then 3 else if o = 46 then 2 else if o = 47 then 7 else if o ≤ 87 then 3
  else if o ≤ 89 then 5 else if o = 90 then 8 else if o ≤ 130 then 5 else if o = 131 then 4 else if o ≤ 136 then 5 else if o ≤ 138 then 6 else if o ≤ 146 then 5 else if o = 147 then 6 else 0
/-- lengths of arrays; L: the script's -/
def pj_ln (L o : Nat) : Nat :=
  if o = 0 then L else if o ≤ 3 then 20 else if o ≤ 90 then 40 else if o ≤ 130 then 20 else if o ≤ 146 then 40 else 1
/-- a field's sort: 0 int 1 boolean 2 long 3 reference -/
def pj_ft (c k : Nat) : Nat :=
  if c = 1 then (if k ≤ 3 then 3 else if k = 4 then 1 else if k ≤ 6 then 3 else if k ≤ 10 then 0 else 3)
  else if c = 2 then (if k = 0 then 3 else 0)
  else if c = 3 then (if k ≤ 4 then 0 else 2)
  else (if k = 0 then 0 else if k = 2 then 0 else if k = 11 then 1 else if k = 12 then 0 else if k = 13 then 0 else if k = 19 then 0 else if k = 21 then 0 else if k = 22 then 0 else 3)
def pj_nf (c : Nat) : Nat := if c = 1 then 12 else if c = 2 then 3 else if c = 3 then 7 else 23
/-- final fields -/
def pj_fin (c k : Nat) : Bool := if c = 1 then (k == 0 || k == 1 || k == 11) else if c = 2 then k == 0 else if c = 3 then false else pj_ft 4 k == 3
def pj_fv (σ : pj_St) (c o k : Nat) : Value := if pj_ft c k = 3 then pj_rf (σ.2.2.2 o k) else if pj_ft c k = 2 then .long (σ.2.2.1 o k) else .int (σ.2.1 o k)
/-- names of classes by number -/
def pj_cn (c : Nat) : String := if c = 0 then "ChannelRouterLaw" else if c = 1 then "ChannelRouter" else if c = 2 then "ChannelRouter$Plan" else if c = 3 then "ChannelRouter$Segment" else if c = 4 then "ChannelRouterModel"
  else if c = 5 then "java/lang/Long" else if c = 6 then "java/lang/Integer" else if c = 7 then "java/lang/Math" else if c = 20 then "java/lang/IndexOutOfBoundsException" else if c = 21 then "java/lang/IllegalArgumentException" else "java/lang/IllegalStateException"
/-- field entries of a pool: entry, (kind, field) -/
def pj_fl : Nat → List (Nat × (Nat × Nat))
  | 1 => [(7, (1, 0)), (13, (1, 1)), (19, (1, 2)), (23, (1, 3)), (26, (1, 5)), (29, (1, 6)), (34, (1, 11)), (65, (1, 4)), (69, (2, 1)), (73, (2, 2)), (91, (3, 4)), (96, (2, 0)), (100, (3, 0)), (107, (3, 5)), (111, (3, 6)), (121, (1, 8)), (133, (3, 3)), (136, (3, 1)), (142, (3, 2)), (153, (1, 9)), (172, (1, 7)), (175, (1, 10))]
  | 2 => [(11, (2, 0)), (18, (2, 1))]
  | 3 => [(9, (3, 0)), (15, (3, 1)), (18, (3, 2)), (21, (3, 3)), (24, (3, 4)), (27, (3, 5)), (31, (3, 6))]
  | 4 => [(7, (4, 1)), (13, (4, 3)), (16, (4, 4)), (19, (4, 5)), (22, (4, 6)), (25, (4, 7)), (29, (4, 8)), (32, (4, 9)), (35, (4, 10)), (38, (4, 14)), (41, (4, 15)), (44, (4, 16)), (47, (4, 17)), (50, (4, 18)), (53, (4, 20)), (56, (4, 0)), (64, (4, 11)), (68, (4, 12)), (71, (4, 13)), (90, (4, 2)), (112, (4, 19)), (127, (4, 21)), (136, (4, 22))]
  | _ => []
/-- method entries: entry, place in pj_mts (999: Object's own) -/
def pj_ml : Nat → List (Nat × Nat)
  | 0 => [(7, 23), (17, 26), (23, 37), (27, 38), (31, 39), (34, 40), (37, 43), (41, 45), (44, 46), (48, 9), (51, 52), (52, 0), (57, 54), (58, 53), (61, 1), (64, 56), (65, 2), (68, 77), (69, 10), (72, 78), (73, 3), (76, 79), (77, 4), (79, 80), (80, 5), (82, 83), (83, 6), (85, 86), (86, 11), (89, 88), (90, 17), (93, 89), (94, 7), (96, 90), (97, 8), (100, 91), (101, 21), (105, 93)]
  | 1 => [(1, 999), (18, 47), (43, 15), (47, 13), (51, 14), (54, 16), (57, 24), (61, 25), (76, 12), (79, 19), (83, 20), (87, 48), (103, 51), (114, 32), (118, 31), (124, 95), (138, 34), (144, 18), (147, 30), (150, 33), (156, 35), (159, 27), (162, 28), (166, 36), (169, 29), (178, 22), (181, 42), (185, 41), (189, 44), (192, 97), (197, 94)]
  | 2 => [(3, 999), (17, 49), (22, 50)]
  | 3 => [(3, 999)]
  | 4 => [(1, 999), (60, 55), (74, 59), (78, 60), (81, 61), (84, 62), (87, 58), (93, 66), (97, 65), (101, 67), (104, 70), (108, 72), (115, 76), (119, 75), (123, 74), (130, 69), (133, 71), (139, 57), (143, 63), (146, 64), (150, 68), (153, 73), (156, 81), (160, 82), (164, 85), (167, 84), (170, 87), (173, 92)]
  | 5 => [(311, 96)]
  | _ => []
/-- entries for classes -/
def pj_cl : Nat → List (Nat × Nat)
  | 0 => [(8, 1), (13, 20), (15, 21), (21, 22), (49, 4)]
  | 1 => [(16, 2), (37, 20), (40, 21), (130, 22)]
  | 2 => [(9, 3)]
  | _ => []
def pj_fr (c i : Nat) : Option (Nat × Nat) := (pj_fl c).lookup i
def pj_mr (c i : Nat) : Option Nat := (pj_ml c).lookup i
def pj_cr (c i : Nat) : Option Nat := (pj_cl c).lookup i
/-- long constants of java/lang/Long -/
def pj_lk (i : Nat) : Option Int64 := if i = 314 then some 6148914691236517205 else if i = 316 then some 3689348814741910323 else if i = 318 then some 1085102592571150095 else none
def pj_cd (G : pj_Mi) (pc : Nat) : Option (Instr × Nat) := G.2.2.2.lookup pc
def pj_ld (lv : List Slot) (k : Nat) : Option Value := match lv[k]? with
  | some (.val v) => some v
  | _ => none
def pj_wide (lv : List Slot) (k : Nat) : Bool := match k with
  | 0 => false
  | j + 1 => match lv[j]? with
    | some (.val v) => v.category == 2
    | _ => false
def pj_sto (lv : List Slot) (k : Nat) (v : Value) : Option (List Slot) := if k < lv.length ∧ pj_wide lv k = false then some (lv.set k (.val v)) else none
def pj_sto2 (lv : List Slot) (k : Nat) (v : Value) : Option (List Slot) := if k + 1 < lv.length ∧ pj_wide lv k = false then some ((lv.set k (.val v)).set (k + 1) .unset) else none
def pj_tg (pc : Nat) (off : Int) : Option Nat := match (pc : Int) + off with
  | .ofNat t => some t
  | .negSucc _ => none
def pj_ic (c : ClassFile.Cond) (x y : Int32) : Bool := match c with
  | .eq => decide (x = y)
  | .ne => decide (¬ x = y)
  | .lt => decide (x < y)
  | .ge => decide (y ≤ x)
  | .gt => decide (y < x)
  | .le => decide (x ≤ y)
abbrev pj_Cf : Type := Nat × List Slot × List Value × pj_St
def pj_in (L o : Nat) (j : Int32) : Bool := decide (¬ (j < 0 ∨ pj_ln L o ≤ j.toNatClampNeg))
/-- a store into field k of an object of kind c -/
def pj_put (σ : pj_St) (c o k : Nat) (v : Value) : Option pj_St :=
  if pj_ft c k = 3 then (match v with
    | .null => some (σ.1, σ.2.1, σ.2.2.1, pj_u2 σ.2.2.2 o k none)
    | .ref q => some (σ.1, σ.2.1, σ.2.2.1, pj_u2 σ.2.2.2 o k (some q))
    | _ => none)
  else if pj_ft c k = 2 then (match v with
    | .long x => some (σ.1, σ.2.1, pj_u2 σ.2.2.1 o k x, σ.2.2.2)
    | _ => none)
  else (match v with
    | .int x => if pj_ft c k = 0 ∨ x = 0 ∨ x = 1 then some (σ.1, pj_u2 σ.2.1 o k x, σ.2.2.1, σ.2.2.2) else none
    | _ => none)
/-- a new cell: the next id, its places empty -/
def pj_new (σ : pj_St) : pj_St := (pj_inc σ.1, pj_u1 σ.2.1 (pj_cnt σ.1 + 1) 0, pj_u1 σ.2.2.1 (pj_cnt σ.1 + 1) 0, pj_u1 σ.2.2.2 (pj_cnt σ.1 + 1) none)
/-- a thrown one: nothing of it is kept -/
def pj_gar (σ : pj_St) : pj_St := (pj_inc σ.1, σ.2.1, σ.2.2.1, σ.2.2.2)
/-- the 41 cells of the grid -/
def pj_grid (σ : pj_St) : pj_St := (.inl 130, (fun a b => if 90 ≤ a ∧ a ≤ 130 then 0 else σ.2.1 a b), (fun a b => if 90 ≤ a ∧ a ≤ 130 then 0 else σ.2.2.1 a b), (fun a b => if a = 90 ∧ b < 40 then some (91 + b) else if 90 ≤ a ∧ a ≤ 130 then none else σ.2.2.2 a b))
/-- one plain instruction -/
def pj_stp (L : Nat) (G : pj_Mi) (i : Instr) (len pc : Nat) (lv : List Slot) (st : List Value) (σ : pj_St) : Option pj_Cf :=
  let nx : List Value → Option pj_Cf := fun st' => some (pc + len, lv, st', σ)
  match i with
  | .iconst n => nx (.int (Int32.ofInt n) :: st)
  | .bipush n => nx (.int (Int8.ofInt n).toInt32 :: st)
  | .sipush n => nx (.int (Int16.ofInt n).toInt32 :: st)
  | .lconst n => nx (.long (Int64.ofNat (n : Nat)) :: st)
  | .fconst n => if (n : Nat) = 0 then nx (.float FP.fconst0 :: st) else none
  | .aconst_null => nx (.null :: st)
  | .ldc_w x => if G.2.1.1 = 6 ∧ x = 264 then nx (.int 65536 :: st) else none
  | .ldc2_w x => if G.2.1.1 = 5 then (match pj_lk x with
    | some v => nx (.long v :: st)
    | none => none) else none
  | .iload_n k => (match pj_ld lv k with
    | some (.int x) => nx (.int x :: st)
    | _ => none)
  | .iload k => (match pj_ld lv k with
    | some (.int x) => nx (.int x :: st)
    | _ => none)
  | .lload_n k => (match pj_ld lv k with
    | some (.long x) => nx (.long x :: st)
    | _ => none)
  | .lload k => (match pj_ld lv k with
    | some (.long x) => nx (.long x :: st)
    | _ => none)
  | .fload_n k => (match pj_ld lv k with
    | some (.float x) => nx (.float x :: st)
    | _ => none)
  | .dload k => (match pj_ld lv k with
    | some (.double x) => nx (.double x :: st)
    | _ => none)
  | .aload_n k => (match pj_ld lv k with
    | some (.ref x) => nx (.ref x :: st)
    | some .null => nx (.null :: st)
    | _ => none)
  | .aload k => (match pj_ld lv k with
    | some (.ref x) => nx (.ref x :: st)
    | some .null => nx (.null :: st)
    | _ => none)
  | .istore_n k => (match st with
    | .int x :: r => (match pj_sto lv k (.int x) with
      | some lv' => some (pc + len, lv', r, σ)
      | none => none)
    | _ => none)
  | .istore k => (match st with
    | .int x :: r => (match pj_sto lv k (.int x) with
      | some lv' => some (pc + len, lv', r, σ)
      | none => none)
    | _ => none)
  | .fstore_n k => (match st with
    | .float x :: r => (match pj_sto lv k (.float x) with
      | some lv' => some (pc + len, lv', r, σ)
      | none => none)
    | _ => none)
  | .astore_n k => (match st with
    | .ref x :: r => (match pj_sto lv k (.ref x) with
      | some lv' => some (pc + len, lv', r, σ)
      | none => none)
    | .null :: r => (match pj_sto lv k .null with
      | some lv' => some (pc + len, lv', r, σ)
      | none => none)
    | _ => none)
  | .astore k => (match st with
    | .ref x :: r => (match pj_sto lv k (.ref x) with
      | some lv' => some (pc + len, lv', r, σ)
      | none => none)
    | .null :: r => (match pj_sto lv k .null with
      | some lv' => some (pc + len, lv', r, σ)
      | none => none)
    | _ => none)
  | .lstore_n k => (match st with
    | .long x :: r => (match pj_sto2 lv k (.long x) with
      | some lv' => some (pc + len, lv', r, σ)
      | none => none)
    | _ => none)
  | .lstore k => (match st with
    | .long x :: r => (match pj_sto2 lv k (.long x) with
      | some lv' => some (pc + len, lv', r, σ)
      | none => none)
    | _ => none)
  | .dstore k => (match st with
    | .double x :: r => (match pj_sto2 lv k (.double x) with
      | some lv' => some (pc + len, lv', r, σ)
      | none => none)
    | _ => none)
  | .iinc k n => (match pj_ld lv k with
    | some (.int x) => (match pj_sto lv k (.int (x + Int32.ofInt n)) with
      | some lv' => some (pc + len, lv', st, σ)
      | none => none)
    | _ => none)
  | .iadd => (match st with
    | .int y :: .int x :: r => nx (.int (x + y) :: r)
    | _ => none)
  | .isub => (match st with
    | .int y :: .int x :: r => nx (.int (x - y) :: r)
    | _ => none)
  | .imul => (match st with
    | .int y :: .int x :: r => nx (.int (x * y) :: r)
    | _ => none)
  | .iand => (match st with
    | .int y :: .int x :: r => nx (.int (x &&& y) :: r)
    | _ => none)
  | .ior => (match st with
    | .int y :: .int x :: r => nx (.int (x ||| y) :: r)
    | _ => none)
  | .ixor => (match st with
    | .int y :: .int x :: r => nx (.int (x ^^^ y) :: r)
    | _ => none)
  | .ishl => (match st with
    | .int y :: .int x :: r => nx (.int (x <<< (y &&& 31)) :: r)
    | _ => none)
  | .ishr => (match st with
    | .int y :: .int x :: r => nx (.int (x >>> (y &&& 31)) :: r)
    | _ => none)
  | .iushr => (match st with
    | .int y :: .int x :: r => nx (.int (x.toUInt32 >>> (y.toUInt32 &&& Int32.toUInt32 31)).toInt32 :: r)
    | _ => none)
  | .ladd => (match st with
    | .long y :: .long x :: r => nx (.long (x + y) :: r)
    | _ => none)
  | .lsub => (match st with
    | .long y :: .long x :: r => nx (.long (x - y) :: r)
    | _ => none)
  | .land => (match st with
    | .long y :: .long x :: r => nx (.long (x &&& y) :: r)
    | _ => none)
  | .lor => (match st with
    | .long y :: .long x :: r => nx (.long (x ||| y) :: r)
    | _ => none)
  | .lshl => (match st with
    | .int y :: .long x :: r => nx (.long (x <<< (y.toInt64 &&& 63)) :: r)
    | _ => none)
  | .lshr => (match st with
    | .int y :: .long x :: r => nx (.long (x >>> (y.toInt64 &&& 63)) :: r)
    | _ => none)
  | .lushr => (match st with
    | .int y :: .long x :: r => nx (.long (x.toUInt64 >>> (y.toInt64.toUInt64 &&& Int64.toUInt64 63)).toInt64 :: r)
    | _ => none)
  | .lcmp => (match st with
    | .long y :: .long x :: r => nx (.int (lg_cmp x y) :: r)
    | _ => none)
  | .i2l => (match st with
    | .int x :: r => nx (.long x.toInt64 :: r)
    | _ => none)
  | .l2i => (match st with
    | .long x :: r => nx (.int x.toInt32 :: r)
    | _ => none)
  | .i2f => (match st with
    | .int x :: r => nx (.float (FP.i2f x) :: r)
    | _ => none)
  | .fdiv => (match st with
    | .float y :: .float x :: r => if FP.fdiv x y &&& 0x7fffffff ≤ 0x7f800000 then nx (.float (FP.fdiv x y) :: r) else none
    | _ => none)
  | .f2d => (match st with
    | .float x :: r => if FP.f2d x &&& 0x7fffffffffffffff ≤ 0x7ff0000000000000 then nx (.double (FP.f2d x) :: r) else none
    | _ => none)
  | .dcmp op => (match st with
    | .double y :: .double x :: r => nx (.int (Op.cmpValue (FP.dcmp x y) op) :: r)
    | _ => none)
  | .dup => (match st with
    | v :: r => if v.category = 1 then nx (v :: v :: r) else none
    | _ => none)
  | .dup_x1 => (match st with
    | v :: w :: r => if v.category = 1 ∧ w.category = 1 then nx (v :: w :: v :: r) else none
    | _ => none)
  | .pop => (match st with
    | v :: r => if v.category = 1 then nx r else none
    | _ => none)
  | .goto off => (match pj_tg pc off with
    | some t => some (t, lv, st, σ)
    | none => none)
  | .if_icmp c off => (match st with
    | .int y :: .int x :: r => (match pj_tg pc off with
      | some t => some (if pj_ic c x y = true then t else pc + len, lv, r, σ)
      | none => none)
    | _ => none)
  | .ifCond c off => (match st with
    | .int x :: r => (match pj_tg pc off with
      | some t => some (if pj_ic c x 0 = true then t else pc + len, lv, r, σ)
      | none => none)
    | _ => none)
  | .ifnull off => (match st with
    | .ref _ :: r => nx r
    | .null :: r => (match pj_tg pc off with
      | some t => some (t, lv, r, σ)
      | none => none)
    | _ => none)
  | .tableswitch d lo hi offs => (match st with
    | .int x :: r => if x.toInt < lo ∨ hi < x.toInt then (match pj_tg pc d with
        | some t => some (t, lv, r, σ)
        | none => none)
      else (match offs[(x.toInt - lo).toNat]? with
        | some off => (match pj_tg pc off with
          | some t => some (t, lv, r, σ)
          | none => none)
        | none => none)
    | _ => none)
  | .getfield idx => (match st, pj_fr G.2.1.1 idx with
    | .ref o :: r, some (c, k) => if pj_kd o = c ∧ pj_al σ.1 o = true then nx (pj_fv σ c o k :: r) else none
    | _, _ => none)
  | .putfield idx => (match st, pj_fr G.2.1.1 idx with
    | v :: .ref o :: r, some (c, k) => if pj_kd o = c ∧ pj_al σ.1 o = true ∧ (pj_fin c k = false ∨ (G.2.1.2.1 = 2 ∧ G.2.1.1 = c)) then (match pj_put σ c o k v with
        | some σ' => some (pc + len, lv, r, σ')
        | none => none) else none
    | _, _ => none)
  | .iaload => (match st with
    | .int j :: .ref o :: r => if pj_kd o = 5 ∧ pj_al σ.1 o = true ∧ pj_in L o j = true then nx (.int (σ.2.1 o j.toNatClampNeg) :: r) else none
    | _ => none)
  | .laload => (match st with
    | .int j :: .ref o :: r => if pj_kd o = 6 ∧ pj_al σ.1 o = true ∧ pj_in L o j = true then nx (.long (σ.2.2.1 o j.toNatClampNeg) :: r) else none
    | _ => none)
  | .aaload => (match st with
    | .int j :: .ref o :: r => if (pj_kd o = 7 ∨ pj_kd o = 8) ∧ pj_al σ.1 o = true ∧ pj_in L o j = true then nx (pj_rf (σ.2.2.2 o j.toNatClampNeg) :: r) else none
    | _ => none)
  | .iastore => (match st with
    | .int x :: .int j :: .ref o :: r => if pj_kd o = 5 ∧ 0 < o ∧ pj_al σ.1 o = true ∧ pj_in L o j = true then some (pc + len, lv, r, (σ.1, pj_u2 σ.2.1 o j.toNatClampNeg x, σ.2.2.1, σ.2.2.2)) else none
    | _ => none)
  | .lastore => (match st with
    | .long x :: .int j :: .ref o :: r => if pj_kd o = 6 ∧ pj_al σ.1 o = true ∧ pj_in L o j = true then some (pc + len, lv, r, (σ.1, σ.2.1, pj_u2 σ.2.2.1 o j.toNatClampNeg x, σ.2.2.2)) else none
    | _ => none)
  | .aastore => (match st with
    | .ref q :: .int j :: .ref o :: r => if pj_kd o = 7 ∧ pj_al σ.1 o = true ∧ pj_in L o j = true ∧ pj_kd q = 3 ∧ pj_al σ.1 q = true then some (pc + len, lv, r, (σ.1, σ.2.1, σ.2.2.1, pj_u2 σ.2.2.2 o j.toNatClampNeg (some q))) else none
    | _ => none)
  | .arraylength => (match st with
    | .ref o :: r => if pj_kd o = 5 ∧ pj_al σ.1 o = true then nx (.int (nI (pj_ln L o)) :: r) else none
    | _ => none)
  | .new idx => (match pj_cr G.2.1.1 idx with
    | some c => if 1 ≤ c ∧ c ≤ 4 ∧ pj_kd (pj_cnt σ.1 + 1) = c then some (pc + len, lv, .ref (pj_cnt σ.1 + 1) :: st, pj_new σ) else none
    | none => none)
  | .newarray t => (match st with
    | .int n :: r => if ((t = .int ∧ pj_kd (pj_cnt σ.1 + 1) = 5) ∨ (t = .long ∧ pj_kd (pj_cnt σ.1 + 1) = 6)) ∧ ¬ n < 0 ∧ n.toNatClampNeg = pj_ln L (pj_cnt σ.1 + 1) then some (pc + len, lv, .ref (pj_cnt σ.1 + 1) :: r, pj_new σ) else none
    | _ => none)
  | .anewarray idx => (match st with
    | .int n :: r => if G.2.1.1 = 2 ∧ idx = 9 ∧ pj_kd (pj_cnt σ.1 + 1) = 7 ∧ ¬ n < 0 ∧ n.toNatClampNeg = pj_ln L (pj_cnt σ.1 + 1) then some (pc + len, lv, .ref (pj_cnt σ.1 + 1) :: r, pj_new σ) else none
    | _ => none)
  | .multianewarray idx dm => (match st with
    | .int n2 :: .int n1 :: r => if G.2.1.1 = 1 ∧ idx = 32 ∧ dm = 2 ∧ n1 = 40 ∧ n2 = 20 ∧ σ.1 = .inl 89 then some (pc + len, lv, .ref 90 :: r, pj_grid σ) else none
    | _ => none)
  | _ => none
/-- how a run ends: an answer, or a throw of the class with that number -/
abbrev pj_Rs : Type := Option Value ⊕ Nat
/-- the places with which a method begins -/
def pj_ent (n : Nat) (vs : List Value) : List Slot := (vs.flatMap fun v => if v.category = 2 then [.val v, .unset] else [.val v]) ++ List.replicate (n - (vs.flatMap fun v => if v.category = 2 then [Slot.val v, .unset] else [.val v]).length) Slot.unset
/-- the arguments of a call off the operand stack (n of them, the first is deepest) -/
def pj_pop (n : Nat) (st : List Value) : Option (List Value × List Value) := if n ≤ st.length then some ((st.take n).reverse, st.drop n) else none
/-- the handler that takes a throw of class x at pc -/
def pj_hd (c : Nat) (pc x : Nat) : List (Nat × Nat × Nat × Nat) → Option Nat
  | [] => none
  | h :: t => if h.1 ≤ pc ∧ pc < h.2.1 ∧ pj_cr c h.2.2.2 = some x then some h.2.2.1 else pj_hd c pc x t
/-- the answer fits what the method says -/
def pj_ret (G : pj_Mi) (i : Instr) (st : List Value) : Option (Option Value) := match i, st, G.1.2.2.2 with
  | .return_, [], none => some none
  | .ireturn, [.int v], some .int => some (some (.int v))
  | .ireturn, [.int v], some .boolean => if v = 0 ∨ v = 1 then some (some (.int v)) else none
  | .lreturn, [.long v], some .long => some (some (.long v))
  | .freturn, [.float v], some .float => some (some (.float v))
  | .areturn, [.ref v], some (.object _) => some (some (.ref v))
  | _, _, _ => none
/-- a throw: new X; dup; X(); athrow -/
def pj_thr (G : pj_Mi) (i : Instr) (pc : Nat) : Option Nat := match i with
  | .new idx => (match pj_cr G.2.1.1 idx with
    | some x => if 20 ≤ x ∧ x ≤ 22 ∧ G.2.2.1 = [] ∧ G.2.1.1 = 1 ∧ pj_cd G (pc + 3) = some (.dup, 1) ∧ pj_cd G (pc + 4) = some (.invokespecial (if x = 20 then 39 else if x = 21 then 42 else 132), 3) ∧ pj_cd G (pc + 7) = some (.athrow, 1) then some x else none
    | none => none)
  | _ => none
def pj_isRet (i : Instr) : Bool := match i with
  | .return_ | .ireturn | .lreturn | .freturn | .areturn => true
  | _ => false
/-- which method an instruction calls: (its place, how: 0 static 1 virtual 2 maker) -/
def pj_cal (G : pj_Mi) (i : Instr) : Option (Nat × Nat) := match i with
  | .invokestatic idx => (pj_mr G.2.1.1 idx).map fun k => (k, 0)
  | .invokevirtual idx => (pj_mr G.2.1.1 idx).map fun k => (k, 1)
  | .invokespecial idx => (pj_mr G.2.1.1 idx).map fun k => (k, 2)
  | _ => none
/-- the receiver, if there is one, is an object of the class -/
def pj_rcv (M : pj_Mi) (N : pj_N) (as : List Value) : Bool := if M.2.1.2.1 = 0 then true else match as with
  | .ref o :: _ => decide (pj_kd o = M.2.1.1 ∧ pj_al N o = true)
  | _ => false
def pj_wt (st : List Value) : Nat := (st.map fun v => v.category).sum
def pj_run (L : Nat) : Nat → Nat → pj_Mi → Nat → List Slot → List Value → pj_St → Option (pj_Rs × pj_St)
  | 0, _, _, _, _, _, _ => none
  | f + 1, d, G, pc, lv, st, σ => match pj_cd G pc with
    | none => none
    | some (i, len) => if pj_isRet i = true then (match pj_ret G i st with
        | some v => some (.inl v, σ)
        | none => none)
      else match pj_thr G i pc with
      | some x => if pj_wt st ≤ 8 ∧ pj_al σ.1 147 = true then some (.inr x, pj_gar σ) else none
      | none => match pj_cal G i with
        | some (k, kd) => if k = 999 then (match st with
            | .ref _ :: r => if kd = 2 ∧ pj_wt r ≤ 8 then pj_run L f d G (pc + len) lv r σ else none
            | _ => none)
          else match d, pj_mts[k]? with
            | d' + 1, some M => if M.2.1.2.1 = kd then (match pj_pop (M.2.1.2.2 + (if kd = 0 then 0 else 1)) st with
                | some (as, r) => if pj_rcv M σ.1 as = true ∧ pj_wt r ≤ 8 ∧ pj_wt as ≤ M.1.2.2.1 then (match pj_run L f d' M 0 (pj_ent M.1.2.2.1 as) [] σ with
                    | some (.inl v, σ') => pj_run L f (d' + 1) G (pc + len) lv (v.toList ++ r) σ'
                    | some (.inr x, σ') => (match pj_hd G.2.1.1 pc x G.2.2.1 with
                      | some h => (match pj_cd G h with
                        | some (.astore_n q, 1) => if (q : Nat) < lv.length ∧ pj_wide lv q = false then pj_run L f (d' + 1) G (h + 1) (lv.set q .unset) [] σ' else none
                        | some (.astore q, 2) => if q < lv.length ∧ pj_wide lv q = false then pj_run L f (d' + 1) G (h + 2) (lv.set q .unset) [] σ' else none
                        | _ => none)
                      | none => if G.2.2.1.isEmpty = true then some (.inr x, σ') else none)
                    | none => none) else none
                | none => none) else none
            | _, _ => none
        | none => match pj_stp L G i len pc lv st σ with
          | some (pc', lv', st', σ') => pj_run L f d G pc' lv' st' σ'
          | none => none
end
section
/-! reasoning over the pure machine -/
def pj_Ev (L d : Nat) (G : pj_Mi) (pc : Nat) (lv : List Slot) (st : List Value) (σ : pj_St) (r : pj_Rs × pj_St) : Prop := ∃ f, pj_run L f d G pc lv st σ = some r
/-- so many plain steps -/
def pj_blk (L : Nat) (G : pj_Mi) : Nat → Nat → List Slot → List Value → pj_St → Option pj_Cf
  | 0, pc, lv, st, σ => some (pc, lv, st, σ)
  | n + 1, pc, lv, st, σ => match pj_cd G pc with
    | none => none
    | some (i, len) => if pj_isRet i = true then none else match pj_thr G i pc with
      | some _ => none
      | none => match pj_cal G i with
        | some _ => none
        | none => match pj_stp L G i len pc lv st σ with
          | some (pc', lv', st', σ') => pj_blk L G n pc' lv' st' σ'
          | none => none
theorem pj_Ev.blk {L d : Nat} {G : pj_Mi} (n : Nat) {pc : Nat} {lv : List Slot} {st : List Value} {σ : pj_St} {r : pj_Rs × pj_St} {pc' : Nat} {lv' : List Slot} {st' : List Value} {σ' : pj_St}
    (h : pj_blk L G n pc lv st σ = some (pc', lv', st', σ')) (k : pj_Ev L d G pc' lv' st' σ' r) : pj_Ev L d G pc lv st σ r := by
  induction n generalizing pc lv st σ with
  | zero =>
    simp only [pj_blk, Option.some.injEq, Prod.mk.injEq] at h
    obtain ⟨rfl, rfl, rfl, rfl⟩ := h
    exact k
  | succ n ih =>
    unfold pj_blk at h
    cases hc : pj_cd G pc with
    | none => rw [hc] at h; cases h
    | some il =>
      obtain ⟨i, len⟩ := il
      rw [hc] at h
      simp only at h
      by_cases hr : pj_isRet i = true
      · rw [if_pos hr] at h; cases h
      · rw [if_neg hr] at h
        cases ht : pj_thr G i pc with
        | some x => rw [ht] at h; cases h
        | none =>
          rw [ht] at h
          simp only at h
          cases hk : pj_cal G i with
          | some x => rw [hk] at h; cases h
          | none =>
            rw [hk] at h
            simp only at h
            cases hs : pj_stp L G i len pc lv st σ with
            | none => rw [hs] at h; cases h
            | some q =>
              obtain ⟨a, b, c, e⟩ := q
              rw [hs] at h
              obtain ⟨f, hf⟩ := ih h
              refine ⟨f + 1, ?_⟩
              show (match pj_cd G pc with | none => none | some (i, len) => _) = _
              rw [hc]
              simp only [if_neg hr, ht, hk, hs, hf]
/-- the references once all are made -/
def pj_PT (pl tr rg fr : Nat) : pj_SP := fun o k =>
  if o = 1 then (if k = 0 then some 2 else if k = 1 then some 3 else if k = 2 then some pl else if k = 3 then some tr else if k = 5 then some rg else if k = 6 then some fr else if k = 11 then some 90 else none)
  else if o = 4 then (if k = 0 then some 5 else none)
  else if o = 46 then (if k = 0 then some 47 else none)
  else if o = 5 then (if k < 40 then some (6 + k) else none)
  else if o = 47 then (if k < 40 then some (48 + k) else none)
  else if o = 90 then (if k < 40 then some (91 + k) else none)
  else if o = 131 then (if k = 1 then some 132 else if k = 3 then some 133 else if k = 4 then some 134 else if k = 5 then some 135 else if k = 6 then some 136 else if k = 7 then some 137 else if k = 8 then some 138 else if k = 9 then some 139 else if k = 10 then some 140
    else if k = 14 then some 141 else if k = 15 then some 142 else if k = 16 then some 143 else if k = 17 then some 144 else if k = 18 then some 145 else if k = 20 then some 146 else none)
  else none
end
section
/-! contracts that may throw: own form, own call -/
/-- the tables are warmer; nothing has moved but the slots L and at most k new cells of n slots -/
def pj_FE (st t : State) (L : List Loc) (k n : Nat) : Prop := st.WarmedH t.vm ∧ st.sameButNew ({ t with vm := st.vm } : State) L k n
/-- y's contract at launch l: it answers or throws -/
def pj_Met (l : Launch) (y : MethodName) (w : Cond) (rm : Room) (Pc : Array Value → State → Prop) (Qc : Array Value → State → Outcome → State → Prop) (mc ms : Nat) (free : Addr → Prop) : Prop :=
  MetFree l y (headSpec [w] rm) Pc (fun _ _ _ _ _ => True) (fun a st o t => Qc a st o t ∧ ∃ L, pj_FE st t L mc ms ∧ ∀ q ∈ L, free q.base)
section PJC
variable {p : Program} {l : Launch} {e : Env} {R : Room} {s : State} {m : MethodId} {args : Array Value} {below : List Frame} {meth : Method} {c : Code}
/-- where a call comes back: behind the instruction, or as a throw over the caller's frame -/
def pj_To (p : Program) (e : Env) (below : List Frame) (from_ : State) (B : State) (g : JFrame) (len : Nat) : Outcome → Prop
  | .returned v => Steps p.tables e below from_ (B.setTop { g with pc := g.pc + len, stack := v.toList ++ g.stack })
  | .threw x => Steps p.tables e below from_ ((B.setTop g).pushFrame (.throwing x))
theorem pj_inv {U : State} {Ls : List Loc} {c0 s0 : Nat} (X : Stand p l e R s m args below meth c U Ls c0 s0) {y : MethodName} {maxL : Nat} {methY : Method} {cY : Code} {w : Cond} {rm : Room}
    {Pc : Array Value → State → Prop} {Qc : Array Value → State → Outcome → State → Prop} {mc ms : Nat} {free : Addr → Prop}
    (hM : pj_Met l y w rm Pc Qc mc ms free) {g : JFrame} {ig : Instr} {len : Nat} {mk : MethodId} {a : Array Value} (hg : g.method = m) (hsize : g.locals.size = c.maxLocals) (hdg : decode c.code g.pc = .ok (ig, len))
    (hW : 2 * g.monitorRoom + (g.stack.map fun v => v.category).sum ≤ 8) (hn : U.methodNamed? y = some mk) (hw : w.before a U = true) (hmY : U.vm.method? mk = some methY) (hcY : methY.code = some cY) (hlY : cY.maxLocals = maxL) (hini : (Cond.initialized y.cls).before a U = true)
    (hfr : rm.frames + 1 ≤ R.frames) (hlo : 8 + (maxL + 11) + rm.locals ≤ R.locals) (hce : c0 + rm.cells ≤ R.cells) (hsl : s0 + rm.slots ≤ R.slots) (hP : Pc a (U.calling g mk a)) :
    ∃ (o : Outcome) (t B : State) (L : List Loc), B.heap = t.heap ∧ B.vm = t.vm ∧ Stand p l e R s m args below meth c B (Ls ++ L) (c0 + mc) (s0 + ms) ∧ (∀ q ∈ L, free q.base) ∧ Qc a (U.calling g mk a) o t ∧
      pj_To p e below (doInvoke e (U.setTop g) [] mk a).1 B g len o := by
  obtain ⟨kY, hkY, -⟩ := className_of_methodNamed hn
  have hinitY : kY.init = .initialized := Cond.initialized_spec (findClass_of_methodNamed hn) hkY hini
  have h : At U g.method c below := by rw [hg]; exact X.here
  have happ : (headSpec [w] rm).appliesLoose y e.platform (U.calling g mk a) = true :=
    Spec.appliesLoose_calling (g := g) h hdg hn hkY hinitY
      (X.room_calling (g := g) (R' := (headSpec [w] rm).room) hsize hmY hcY hfr (by rw [hlY]; show _ + _ + (maxL + 11) + rm.locals ≤ _; omega) hce hsl) (atoms_intro fun v hv => by rw [List.mem_singleton.mp hv]; exact hw)
  obtain ⟨mid, hmid⟩ := h.above
  have hfrm : (U.setTop g).frames = (.java g :: mid) ++ below := by rw [State.frames_setTop' g h.top, hmid]; rfl
  obtain ⟨o, s₂, hsteps, -, hend, hq⟩ := Steps.callFree hM p X.admits X.cas X.clock (acts := []) hfrm happ hP trivial
  have hq' : Qc a (U.calling g mk a) o s₂ ∧ ∃ L, pj_FE (U.calling g mk a) s₂ L mc ms ∧ ∀ q ∈ L, free q.base := hq
  obtain ⟨hQ, L, ⟨hW₂, e2, q2, q3, q4, q5, q6⟩, hL⟩ := hq'
  rw [State.frames_setTop' g h.top] at hend
  have e3 : s₂ = ({ (U.calling g mk a).setFrames s₂.frames with heap := s₂.heap, slotsUsed := s₂.slotsUsed } : State).setVm s₂.vm := by
    have : s₂ = ({ s₂ with vm := (U.calling g mk a).vm } : State).setVm s₂.vm := rfl
    rw [e2] at this
    exact this
  have hW' : U.WarmedH s₂.vm := hW₂
  obtain ⟨g₀, hg0⟩ := Option.isSome_iff_exists.mp h.top
  obtain ⟨r, hr⟩ := State.topJava?_eq_some.mp hg0
  have hr' : (({ U with heap := s₂.heap, slotsUsed := s₂.slotsUsed } : State).setVm s₂.vm).frames = .java g₀ :: r := hr
  have hsame : U.sameButNew ({ U with heap := s₂.heap, slotsUsed := s₂.slotsUsed } : State) L mc ms := by
    refine ⟨?_, q2, q3, q4, q5, q6⟩
    obtain ⟨t, ht, -⟩ := State.frames_cons hr
    show ({ U with heap := s₂.heap, slotsUsed := s₂.slotsUsed } : State) = { U.setFrames U.frames with heap := s₂.heap, slotsUsed := s₂.slotsUsed }
    rw [State.setFrames_self ht]
  have hst : Stand p l e R s m args below meth c (({ U with heap := s₂.heap, slotsUsed := s₂.slotsUsed } : State).setVm s₂.vm) (Ls ++ L) (c0 + mc) (s0 + ms) :=
    ⟨X.admits, X.cas, X.clock, X.frames, X.room, X.hears, X.method, X.code, (X.here.setHeapUsed s₂.heap s₂.slotsUsed).setVm hW'.alike, X.tail, State.WarmedH.trans X.warmed hW', X.limits, X.bytes, X.same.trans (hsame.setVm s.vm)⟩
  refine ⟨o, s₂, (({ U with heap := s₂.heap, slotsUsed := s₂.slotsUsed } : State).setVm s₂.vm), L, rfl, rfl, hst, hL, hQ, ?_⟩
  cases o with
  | returned v =>
    obtain ⟨c₂, i₂, len₂, hc₂, hd₂, hf₂⟩ := hend
    have hcc : c₂ = c := by
      have h1 : s₂.code? g.method = U.code? g.method := by
        rw [State.code?_eq, State.code?_eq, hW'.alike.method?]
      exact Option.some.inj (hc₂.symm.trans (h1.trans h.code))
    subst hcc
    have hlen : len₂ = len := by rw [hdg] at hd₂; cases hd₂; rfl
    subst hlen
    have hs₂ : s₂ = (({ U with heap := s₂.heap, slotsUsed := s₂.slotsUsed } : State).setVm s₂.vm).setTop { g with pc := g.pc + len₂, stack := v.toList ++ g.stack } := by
      refine e3.trans ?_
      rw [hf₂, State.calling_eq h.top, State.setFrames_setFrames, State.setTop_of_frames _ hr', hr]
      rfl
    show Steps p.tables e below _ ((({ U with heap := s₂.heap, slotsUsed := s₂.slotsUsed } : State).setVm s₂.vm).setTop { g with pc := g.pc + len₂, stack := v.toList ++ g.stack })
    rw [← hs₂]
    exact hsteps
  | threw v =>
    have hf₂ : s₂.frames = .throwing v :: .java g :: U.frames.tail := hend
    have hs₂ : s₂ = ((({ U with heap := s₂.heap, slotsUsed := s₂.slotsUsed } : State).setVm s₂.vm).setTop g).pushFrame (.throwing v) := by
      refine e3.trans ?_
      rw [hf₂, State.calling_eq h.top, State.setFrames_setFrames, State.pushFrame, State.frames_setTop _ hr', State.setTop_of_frames _ hr', State.setFrames_setFrames, hr]
      rfl
    show Steps p.tables e below _ (((({ U with heap := s₂.heap, slotsUsed := s₂.slotsUsed } : State).setVm s₂.vm).setTop g).pushFrame (.throwing v))
    rw [← hs₂]
    exact hsteps
end PJC
end
section
/-! a throw caught by a clause whose class the tables may not have resolved yet -/
section PJK
variable {e : Env} {s : State} {f : JFrame} {a : Addr}
theorem pj_goC {x : ExceptionTableEntry} {t : List ExceptionTableEntry} {c : ClassId} {cell : Cell} {vm' : Vm} {Q : Handler → Pre} {E : CtlPost} {d : Bool} {acts : List Action} (hx : covers x f.pc = true) (h0 : x.catchType ≠ 0)
    (hg : (Jvm.resolveClass f.method.cls x.catchType).Gives e.toSetting s.vm (.ok c) vm') (hsz : vm'.classes.size ≤ s.vm.classes.size) (hcell : s.heap[a]? = some cell) (hobj : ∀ k, cell.vm ≠ .statics k)
    (hk : ∃ k, vm'.classes[cell.cls]? = some k) (hcl : ∃ k, vm'.classes[c]? = some k) :
    wp (findHandler.go f a (x :: t)) Q E e d acts s ↔ if vm'.assignable cell.cls c = true then Q (.found x.handlerPc) d acts (s.setVm vm') else wp (findHandler.go f a t) Q E e d acts (s.setVm vm') := by
  obtain ⟨ha, ht⟩ := hg.op (op := VmOp.resolveClass f.method.cls x.catchType) rfl
  simp only [covers] at hx
  obtain ⟨k1, hk1⟩ := hk
  obtain ⟨k2, hk2⟩ := hcl
  cases hfit : vm'.assignable cell.cls c <;> simp [findHandler.go, hx, h0, ha, ht, hsz, hcell, hobj, hk1, hk2, hfit, VmOp.dirties, VmOp.acts]
/-- what the search gives, the tables warmer behind it -/
def pj_Fd (e : Env) (s : State) (f : JFrame) (a : Addr) (h : Handler) (vm' : Vm) : Prop :=
  ∀ (Q : Handler → Pre) (E : CtlPost) (d : Bool) (acts : List Action), wp (findHandler f a) Q E e d acts s ↔ Q h d acts (s.setVm vm')
theorem pj_stepC {r : List Frame} {pc : Nat} {vm' : Vm} (hfind : pj_Fd e s f a (.found pc) vm') :
    (stepThrowing e s a (.java f :: r)).Is ((s.setVm vm').setFrames (.java { f with pc := pc, stack := [.ref a] } :: r)) [] := by
  simp only [stepThrowing, searchFrame, vmDo]
  generalize hr : Sem.go _ e false [] s = res
  obtain ⟨as, rfl, ha⟩ := Sem.eq_ok_of hr (a := Handler.found pc) (s' := s.setVm vm') (acts' := []) (by simp [hfind _ _ _ _])
  exact ⟨rfl, ha⟩
theorem pj_caught {tb : Tables} {g : JFrame} {c : Code} {below : List Frame} {target : State} (h : At s g.method c below) {pc : Nat} {vm' : Vm} (hfind : pj_Fd e ((s.setTop g).pushFrame (.throwing a)) g a (.found pc) vm')
    (hrest : Steps tb e below ((s.setVm vm').setTop { g with pc := pc, stack := [.ref a] }) target) :
    Steps tb e below ((s.setTop g).pushFrame (.throwing a)) target := by
  obtain ⟨hgo, hw⟩ := h.throwing a
  refine Steps.head hgo hw ?_
  rw [stepThread_throwing (frames_entered h.top _), (pj_stepC (s := (s.setTop g).pushFrame (.throwing a)) hfind).1]
  obtain ⟨g₀, hg⟩ := Option.isSome_iff_exists.mp h.top
  obtain ⟨r, hr⟩ := State.topJava?_eq_some.mp hg
  have e1 : (((s.setTop g).pushFrame (.throwing a)).setVm vm').setFrames (.java { g with pc := pc, stack := [.ref a] } :: s.frames.tail) = (s.setVm vm').setTop { g with pc := pc, stack := [.ref a] } := by
    have hr2 : (s.setVm vm').frames = .java g₀ :: r := hr
    rw [State.setTop_of_frames _ hr2, hr]
    show (((s.setTop g).pushFrame (.throwing a)).setFrames _).setVm vm' = _
    rw [State.pushFrame, State.setTop_of_frames _ hr, State.setFrames_setFrames, State.setFrames_setFrames]
    rfl
  rw [e1]
  exact hrest
end PJK
end
section
/-! the heap as the pure machine's store -/
def pj_T (c : Nat) : u_T := if c = 1 then (fun k => match k with
    | 0 => ("ChannelRouter", "top", "[I", true)
    | 1 => ("ChannelRouter", "bottom", "[I", true)
    | 2 => ("ChannelRouter", "laid", "LChannelRouter$Plan;", false)
    | 3 => ("ChannelRouter", "trial", "LChannelRouter$Plan;", false)
    | 4 => ("ChannelRouter", "done", "Z", false)
    | 5 => ("ChannelRouter", "ring", "[I", false)
    | 6 => ("ChannelRouter", "foundRing", "[I", false)
    | 7 => ("ChannelRouter", "ringSize", "I", false)
    | 8 => ("ChannelRouter", "foundSize", "I", false)
    | 9 => ("ChannelRouter", "lays", "I", false)
    | 10 => ("ChannelRouter", "refusals", "I", false)
    | _ => ("ChannelRouter", "level", "[[I", true))
  else if c = 2 then (fun k => match k with
    | 0 => ("ChannelRouter$Plan", "segments", "[LChannelRouter$Segment;", true)
    | 1 => ("ChannelRouter$Plan", "many", "I", false)
    | _ => ("ChannelRouter$Plan", "tracks", "I", false))
  else if c = 3 then (fun k => match k with
    | 0 => ("ChannelRouter$Segment", "net", "I", false)
    | 1 => ("ChannelRouter$Segment", "left", "I", false)
    | 2 => ("ChannelRouter$Segment", "right", "I", false)
    | 3 => ("ChannelRouter$Segment", "track", "I", false)
    | 4 => ("ChannelRouter$Segment", "touches", "I", false)
    | 5 => ("ChannelRouter$Segment", "below", "J", false)
    | _ => ("ChannelRouter$Segment", "above", "J", false))
  else (fun k => match k with
    | 0 => ("ChannelRouterModel", "thrown", "I", false)
    | 1 => ("ChannelRouterModel", "pins", "[I", true)
    | 2 => ("ChannelRouterModel", "many", "I", false)
    | 3 => ("ChannelRouterModel", "nets", "[I", true)
    | 4 => ("ChannelRouterModel", "lefts", "[I", true)
    | 5 => ("ChannelRouterModel", "rights", "[I", true)
    | 6 => ("ChannelRouterModel", "touches", "[I", true)
    | 7 => ("ChannelRouterModel", "below", "[J", true)
    | 8 => ("ChannelRouterModel", "reach", "[J", true)
    | 9 => ("ChannelRouterModel", "tracksOf", "[I", true)
    | 10 => ("ChannelRouterModel", "steps", "[I", true)
    | 11 => ("ChannelRouterModel", "laid", "Z", false)
    | 12 => ("ChannelRouterModel", "laidMany", "I", false)
    | 13 => ("ChannelRouterModel", "tracks", "I", false)
    | 14 => ("ChannelRouterModel", "laidNet", "[I", true)
    | 15 => ("ChannelRouterModel", "laidLeft", "[I", true)
    | 16 => ("ChannelRouterModel", "laidRight", "[I", true)
    | 17 => ("ChannelRouterModel", "laidTouch", "[I", true)
    | 18 => ("ChannelRouterModel", "laidTrack", "[I", true)
    | 19 => ("ChannelRouterModel", "ringSize", "I", false)
    | 20 => ("ChannelRouterModel", "ringOf", "[I", true)
    | 21 => ("ChannelRouterModel", "lays", "I", false)
    | _ => ("ChannelRouterModel", "refusals", "I", false))
/-- a field's type by its sort, coarse -/
def pj_ty (c k : Nat) : FieldType := if c = 1 then (if k ≤ 1 then .array .int else if k ≤ 3 then .object "ChannelRouter$Plan" else if k = 4 then .boolean else if k ≤ 6 then .array .int else if k ≤ 10 then .int else .array (.array .int))
  else if c = 2 then (if k = 0 then .array (.object "ChannelRouter$Segment") else .int)
  else if c = 3 then (if k ≤ 4 then .int else .long)
  else (if k = 7 then .array .long else if k = 8 then .array .long else if pj_ft 4 k = 3 then .array .int else if k = 11 then .boolean else .int)
theorem pj_nm1 : ∀ a, a < 12 → ∀ b, b < 12 → a ≠ b → (pj_T 1 a).2.1 ≠ (pj_T 1 b).2.1 := by decide +kernel
theorem pj_nm2 : ∀ a, a < 3 → ∀ b, b < 3 → a ≠ b → (pj_T 2 a).2.1 ≠ (pj_T 2 b).2.1 := by decide +kernel
theorem pj_nm3 : ∀ a, a < 7 → ∀ b, b < 7 → a ≠ b → (pj_T 3 a).2.1 ≠ (pj_T 3 b).2.1 := by decide +kernel
theorem pj_nm4 : ∀ a, a < 23 → ∀ b, b < 23 → a ≠ b → (pj_T 4 a).2.1 ≠ (pj_T 4 b).2.1 := by decide +kernel
theorem pj_nm {c : Nat} (h1 : 1 ≤ c) (h4 : c ≤ 4) : ∀ a, a < pj_nf c → ∀ b, b < pj_nf c → a ≠ b → (pj_T c a).2.1 ≠ (pj_T c b).2.1 := by
  have h : c = 1 ∨ c = 2 ∨ c = 3 ∨ c = 4 := by omega
  rcases h with rfl | rfl | rfl | rfl
  · exact pj_nm1
  · exact pj_nm2
  · exact pj_nm3
  · exact pj_nm4
theorem pj_ty_ok : ∀ c, c < 5 → 1 ≤ c → ∀ k, k < pj_nf c → parseFieldDescriptor (pj_T c k).2.2.1 = some (pj_ty c k) := by decide +kernel
theorem pj_in1 : ∀ w ∈ u_ws (pj_cn 1) (pj_T 1) 12, w ∈ lw_all := lw_in (u_ws (pj_cn 1) (pj_T 1) 12) [139, 141, 143, 145, 147, 149, 151, 153, 155, 157, 159, 161] (by decide +kernel) (by decide +kernel)
theorem pj_in2 : ∀ w ∈ u_ws (pj_cn 2) (pj_T 2) 3, w ∈ lw_all := lw_in (u_ws (pj_cn 2) (pj_T 2) 3) [118, 120, 122] (by decide +kernel) (by decide +kernel)
theorem pj_in3 : ∀ w ∈ u_ws (pj_cn 3) (pj_T 3) 7, w ∈ lw_all := lw_in (u_ws (pj_cn 3) (pj_T 3) 7) [97, 99, 101, 103, 105, 107, 109] (by decide +kernel) (by decide +kernel)
theorem pj_in4 : ∀ w ∈ u_ws (pj_cn 4) (pj_T 4) 23, w ∈ lw_all := lw_in (u_ws (pj_cn 4) (pj_T 4) 23) [524, 526, 528, 530, 532, 534, 536, 538, 540, 542, 544, 546, 548, 550, 552, 554, 556, 558, 560, 562, 564, 566, 568] (by decide +kernel) (by decide +kernel)
theorem pj_ins {c : Nat} (h1 : 1 ≤ c) (h4 : c ≤ 4) : ∀ w ∈ u_ws (pj_cn c) (pj_T c) (pj_nf c), w ∈ lw_all := by
  have h : c = 1 ∨ c = 2 ∨ c = 3 ∨ c = 4 := by omega
  rcases h with rfl | rfl | rfl | rfl
  · exact pj_in1
  · exact pj_in2
  · exact pj_in3
  · exact pj_in4
/-- addresses of ids -/
def pj_ra (a0 b o : Nat) : Nat := if o = 0 then a0 else b + (o - 1)
def pj_rv (a0 b : Nat) : Value → Value
  | .ref o => .ref (pj_ra a0 b o)
  | v => v
/-- what an array holds at a place -/
def pj_av (σ : pj_St) (c o j : Nat) : Value := if c = 5 then .int (σ.2.1 o j) else if c = 6 then .long (σ.2.2.1 o j) else pj_rf (σ.2.2.2 o j)
def pj_at (c : Nat) : FieldType := if c = 5 then .int else if c = 6 then .long else if c = 7 then .object "ChannelRouter$Segment" else .array .int
/-- the cell of id o -/
def pj_OK (a0 b L : Nat) (D : Nat → ClassId) (iS : Nat → Nat → Nat) (U : State) (σ : pj_St) (o : Nat) (H : Heap) : Prop :=
  (1 ≤ pj_kd o → pj_kd o ≤ 4 → ∃ cell : Cell, H[pj_ra a0 b o]? = some cell ∧ cell.cls = D (pj_kd o) ∧ cell.vm = .none ∧ ∀ k, k < pj_nf (pj_kd o) → cell.slots[iS (pj_kd o) k]? = some (pj_rv a0 b (pj_fv σ (pj_kd o) o k))) ∧
  (5 ≤ pj_kd o → ∃ cell : Cell, H[pj_ra a0 b o]? = some cell ∧ U.isArrayOf cell (pj_at (pj_kd o)) ∧ cell.vm ≠ .unknown ∧ (pj_kd o = 7 → va_RA U cell.cls (.object "ChannelRouter$Segment")) ∧ cell.slots.size = pj_ln L o ∧ ∀ j, j < pj_ln L o → cell.slots[j]? = some (pj_rv a0 b (pj_av σ (pj_kd o) o j)))
/-- the whole heap: the old cells as they were, the made ones as the store says -/
def pj_Wd (a0 L : Nat) (D : Nat → ClassId) (iS : Nat → Nat → Nat) (s0 U : State) (σ : pj_St) (H : Heap) : Prop :=
  H.size = s0.heap.size + pj_cnt σ.1 ∧ (∀ q, q < s0.heap.size → H[q]? = s0.heap[q]?) ∧ (a0 < s0.heap.size ∧ ∀ (q : Nat) (cell : Cell), s0.heap.size ≤ q → H[q]? = some cell → cell.vm.isStatics = false) ∧ ∀ o, o ≤ pj_cnt σ.1 → pj_OK a0 s0.heap.size L D iS U σ o H
section PJW
variable {a0 L : Nat} {D : Nat → ClassId} {iS : Nat → Nat → Nat} {s0 U : State} {σ σ' : pj_St} {H H' : Heap}
theorem pj_Wd.moved {V : State} (hvm : U.vm.Alike V.vm) (h : pj_Wd a0 L D iS s0 U σ H) : pj_Wd a0 L D iS s0 V σ H := by
  obtain ⟨h1, h2, h3, h4⟩ := h
  refine ⟨h1, h2, h3, fun o ho => ⟨(h4 o ho).1, fun hk => ?_⟩⟩
  obtain ⟨cell, q1, q2, q3, q4, q5⟩ := (h4 o ho).2 hk
  exact ⟨cell, q1, State.isArrayOf_alike hvm q2, q3, fun z => (q4 z).moved hvm, q5⟩
theorem pj_ra_lt (h : pj_Wd a0 L D iS s0 U σ H) {o : Nat} (ho : o ≤ pj_cnt σ.1) : pj_ra a0 s0.heap.size o < H.size := by
  obtain ⟨h1, -, ⟨h3, -⟩, -⟩ := h
  unfold pj_ra
  split
  · omega
  · omega
theorem pj_ra_ne {b : Nat} (hb : a0 < b) {o q : Nat} (hne : o ≠ q) : pj_ra a0 b o ≠ pj_ra a0 b q := by
  unfold pj_ra
  split <;> split <;> omega
theorem pj_ra_ge {b : Nat} {o : Nat} (h : 0 < o) : b ≤ pj_ra a0 b o := by
  unfold pj_ra
  split <;> omega
theorem pj_al_le {n : pj_N} {o : Nat} (h : pj_al n o = true) : o ≤ pj_cnt n := by
  cases n with
  | inl N => exact of_decide_eq_true h
  | inr n => have : o ≤ 147 := of_decide_eq_true h; show o ≤ 147 + n; omega
/-- two stores with the same row say the same of a cell -/
theorem pj_OK.row {o : Nat} {b : Nat} (h : pj_OK a0 b L D iS U σ o H) (hq : H'[pj_ra a0 b o]? = H[pj_ra a0 b o]?) (hI : ∀ k, σ'.2.1 o k = σ.2.1 o k) (hJ : ∀ k, σ'.2.2.1 o k = σ.2.2.1 o k) (hP : ∀ k, σ'.2.2.2 o k = σ.2.2.2 o k) : pj_OK a0 b L D iS U σ' o H' := by
  refine ⟨fun h1 h4 => ?_, fun h5 => ?_⟩
  · obtain ⟨cell, q1, q2, q3, q4⟩ := h.1 h1 h4
    refine ⟨cell, hq.trans q1, q2, q3, fun k hk => ?_⟩
    rw [q4 k hk]
    unfold pj_fv
    rw [hI, hJ, hP]
  · obtain ⟨cell, q1, q2, q3, q4, q5, q6⟩ := h.2 h5
    refine ⟨cell, hq.trans q1, q2, q3, q4, q5, fun j hj => ?_⟩
    rw [q6 j hj]
    unfold pj_av
    rw [hI, hJ, hP]
theorem pj_OK.ns {o b : Nat} (h : pj_OK a0 b L D iS U σ o H) (hk : pj_kd o ≠ 0) (cell : Cell) (hc : H[pj_ra a0 b o]? = some cell) : cell.vm.isStatics = false := by
  by_cases h4 : pj_kd o ≤ 4
  · obtain ⟨cell', q1, -, q3, -⟩ := h.1 (by omega) h4
    cases q1.symm.trans hc
    rw [q3]; rfl
  · obtain ⟨cell', q1, q2, -⟩ := h.2 (by omega)
    cases q1.symm.trans hc
    have := q2.1
    cases hv : cell.vm with
    | statics k => exact absurd hv (this k)
    | _ => rfl
/-- one cell of the made ones is changed -/
theorem pj_Wd.set (h : pj_Wd a0 L D iS s0 U σ H) {o : Nat} (hk0 : pj_kd o ≠ 0) (ho : 0 < o) (h1 : σ'.1 = σ.1) (hz : H'.size = H.size) (hq : ∀ q, q ≠ pj_ra a0 s0.heap.size o → H'[q]? = H[q]?) (hc : pj_OK a0 s0.heap.size L D iS U σ' o H')
    (hI : ∀ a k, a ≠ o → σ'.2.1 a k = σ.2.1 a k) (hJ : ∀ a k, a ≠ o → σ'.2.2.1 a k = σ.2.2.1 a k) (hP : ∀ a k, a ≠ o → σ'.2.2.2 a k = σ.2.2.2 a k) : pj_Wd a0 L D iS s0 U σ' H' := by
  obtain ⟨w1, w2, w3, w4⟩ := h
  refine ⟨by rw [hz, w1, h1], fun q hq' => ?_, ⟨w3.1, fun q cell hb hcell => ?_⟩, fun a ha => ?_⟩
  · rw [hq q (by have := pj_ra_ge (a0 := a0) (b := s0.heap.size) ho; omega)]
    exact w2 q hq'
  · by_cases e : q = pj_ra a0 s0.heap.size o
    · subst e; exact hc.ns hk0 cell hcell
    · rw [hq q e] at hcell; exact w3.2 q cell hb hcell
  · rw [h1] at ha
    by_cases e : a = o
    · subst e; exact hc
    · exact (w4 a ha).row (hq _ (pj_ra_ne w3.1 e)) (fun k => hI a k e) (fun k => hJ a k e) (fun k => hP a k e)
theorem pj_cnt_inc (n : pj_N) : pj_cnt (pj_inc n) = pj_cnt n + 1 := by
  cases n with
  | inl N =>
    show pj_cnt (if N = 146 then .inr 0 else .inl (N + 1)) = N + 1
    by_cases h : N = 146
    · rw [if_pos h, h]; rfl
    · rw [if_neg h]; rfl
  | inr n => rfl
/-- a cell more -/
theorem pj_Wd.push (h : pj_Wd a0 L D iS s0 U σ H) (hns : ∀ cell : Cell, H'[H.size]? = some cell → cell.vm.isStatics = false) (h1 : pj_cnt σ'.1 = pj_cnt σ.1 + 1) (hz : H'.size = H.size + 1) (hq : ∀ q, q < H.size → H'[q]? = H[q]?) (hc : pj_OK a0 s0.heap.size L D iS U σ' (pj_cnt σ.1 + 1) H')
    (hI : ∀ a k, a ≤ pj_cnt σ.1 → σ'.2.1 a k = σ.2.1 a k) (hJ : ∀ a k, a ≤ pj_cnt σ.1 → σ'.2.2.1 a k = σ.2.2.1 a k) (hP : ∀ a k, a ≤ pj_cnt σ.1 → σ'.2.2.2 a k = σ.2.2.2 a k) : pj_Wd a0 L D iS s0 U σ' H' := by
  have hl := fun o (ho : o ≤ pj_cnt σ.1) => pj_ra_lt h ho
  obtain ⟨w1, w2, w3, w4⟩ := h
  refine ⟨by rw [hz, w1, h1]; omega, fun q hq' => ?_, ⟨w3.1, fun q cell hb hcell => ?_⟩, fun a ha => ?_⟩
  · rw [hq q (by omega)]
    exact w2 q hq'
  · by_cases e : q < H.size
    · rw [hq q e] at hcell; exact w3.2 q cell hb hcell
    · have hl := (Array.getElem?_eq_some_iff.mp hcell).1
      have e2 : q = H.size := by omega
      subst e2
      exact hns cell hcell
  · rw [h1] at ha
    by_cases e : a = pj_cnt σ.1 + 1
    · subst e; exact hc
    · have ha' : a ≤ pj_cnt σ.1 := by omega
      exact (w4 a ha').row (hq _ (hl a ha')) (fun k => hI a k ha') (fun k => hJ a k ha') (fun k => hP a k ha')
theorem pj_ra_next (h : pj_Wd a0 L D iS s0 U σ H) : pj_ra a0 s0.heap.size (pj_cnt σ.1 + 1) = H.size := by
  unfold pj_ra
  rw [if_neg (by omega), h.1]
  omega
theorem pj_kd_big {o : Nat} (h : 147 < o) : pj_kd o = 0 := by
  unfold pj_kd
  repeat (rw [if_neg (by omega)])
/-- a thrown one: nothing is said of it -/
theorem pj_Wd.gar (h : pj_Wd a0 L D iS s0 U σ H) (hns : ∀ cell : Cell, H'[H.size]? = some cell → cell.vm.isStatics = false) (h7 : pj_al σ.1 147 = true) (hz : H'.size = H.size + 1) (hq : ∀ q, q < H.size → H'[q]? = H[q]?) : pj_Wd a0 L D iS s0 U (pj_gar σ) H' := by
  refine h.push hns (pj_cnt_inc _) hz hq ?_ (fun _ _ _ => rfl) (fun _ _ _ => rfl) (fun _ _ _ => rfl)
  have hk : pj_kd (pj_cnt σ.1 + 1) = 0 := pj_kd_big (by have := pj_al_le h7; omega)
  exact ⟨fun h1 _ => by rw [hk] at h1; omega, fun h5 => by rw [hk] at h5; omega⟩
end PJW
end
section
/-! the links, by their places in the tables; printed by gen/emit_links.py -/
theorem pj_lkp {β : Type} {l : List (Nat × β)} {a : Nat} {b : β} (h : l.lookup a = some b) : (a, b) ∈ l := by
  induction l with
  | nil => cases h
  | cons x t ih =>
    obtain ⟨u, v⟩ := x
    rw [List.lookup_cons] at h
    split at h
    · next e =>
      cases h
      have := eq_of_beq e
      subst this
      exact List.mem_cons_self
    · exact List.mem_cons_of_mem _ (ih h)
def pj_flw (g : Nat) : List Cond := (pj_fl g).map fun e => Cond.fieldLink (pj_cn g) e.1 (pj_T e.2.1 e.2.2).1 (pj_T e.2.1 e.2.2).2.1 (pj_T e.2.1 e.2.2).2.2.1
theorem pj_flw1 : ∀ w ∈ pj_flw 1, w ∈ lw_all := lw_in (pj_flw 1) [127, 128, 129, 130, 132, 133, 138, 131, 116, 117, 92, 114, 84, 94, 96, 135, 90, 86, 88, 136, 134, 137] (by decide +kernel) (by decide +kernel)
theorem pj_flw2 : ∀ w ∈ pj_flw 2, w ∈ lw_all := lw_in (pj_flw 2) [113, 115] (by decide +kernel) (by decide +kernel)
theorem pj_flw3 : ∀ w ∈ pj_flw 3, w ∈ lw_all := lw_in (pj_flw 3) [83, 85, 87, 89, 91, 93, 95] (by decide +kernel) (by decide +kernel)
theorem pj_flw4 : ∀ w ∈ pj_flw 4, w ∈ lw_all := lw_in (pj_flw 4) [502, 504, 505, 506, 507, 508, 509, 510, 511, 515, 516, 517, 518, 519, 521, 501, 512, 513, 514, 503, 520, 522, 523] (by decide +kernel) (by decide +kernel)
theorem pj_flw_in : ∀ g, ∀ w ∈ pj_flw g, w ∈ lw_all
  | 0 => fun w h => by cases h
  | 1 => pj_flw1
  | 2 => pj_flw2
  | 3 => pj_flw3
  | 4 => pj_flw4
  | _ + 5 => fun w h => by cases h
theorem pj_fl_rng0 : ∀ g, g < 5 → ∀ e ∈ pj_fl g, 1 ≤ e.2.1 ∧ e.2.1 ≤ 4 ∧ e.2.2 < pj_nf e.2.1 := by decide +kernel
theorem pj_fl_rng : ∀ g, ∀ e ∈ pj_fl g, 1 ≤ e.2.1 ∧ e.2.1 ≤ 4 ∧ e.2.2 < pj_nf e.2.1
  | 0 => pj_fl_rng0 0 (by decide)
  | 1 => pj_fl_rng0 1 (by decide)
  | 2 => pj_fl_rng0 2 (by decide)
  | 3 => pj_fl_rng0 3 (by decide)
  | 4 => pj_fl_rng0 4 (by decide)
  | _ + 5 => fun w h => by cases h
theorem pj_fr_ok {g idx cl k : Nat} (h : pj_fr g idx = some (cl, k)) : Cond.fieldLink (pj_cn g) idx (pj_T cl k).1 (pj_T cl k).2.1 (pj_T cl k).2.2.1 ∈ lw_all ∧ 1 ≤ cl ∧ cl ≤ 4 ∧ k < pj_nf cl := by
  have hm := pj_lkp h
  have := pj_fl_rng g _ hm
  exact ⟨pj_flw_in g _ (List.mem_map.mpr ⟨_, hm, rfl⟩), this⟩
/-- what a maker of an object of class c asks -/
def pj_nww (g idx c : Nat) : List Cond := [.classLink (pj_cn g) idx (pj_cn c), .instantiable (pj_cn c) (pj_nf c), .initialized (pj_cn c)]
theorem pj_nww_0_8 : ∀ w ∈ pj_nww 0 8 1, w ∈ lw_all := lw_in (pj_nww 0 8 1) [62, 63, 47] (by decide +kernel) (by decide +kernel)
theorem pj_nww_0_49 : ∀ w ∈ pj_nww 0 49 4, w ∈ lw_all := lw_in (pj_nww 0 49 4) [495, 496, 50] (by decide +kernel) (by decide +kernel)
theorem pj_nww_1_16 : ∀ w ∈ pj_nww 1 16 2, w ∈ lw_all := lw_in (pj_nww 1 16 2) [70, 71, 48] (by decide +kernel) (by decide +kernel)
theorem pj_nww_2_9 : ∀ w ∈ pj_nww 2 9 3, w ∈ lw_all := lw_in (pj_nww 2 9 3) [76, 78, 49] (by decide +kernel) (by decide +kernel)
theorem pj_cr_ok {g idx cl : Nat} (h : pj_cr g idx = some cl) (h1 : 1 ≤ cl) (h4 : cl ≤ 4) : ∀ w ∈ pj_nww g idx cl, w ∈ lw_all := by
  have hm := pj_lkp h
  have hg : g = 0 ∨ g = 1 ∨ g = 2 ∨ 3 ≤ g := by omega
  rcases hg with rfl | rfl | rfl | hg
  · simp only [pj_cl, List.mem_cons, List.not_mem_nil, or_false, Prod.mk.injEq] at hm
    rcases hm with ⟨rfl, rfl⟩ | ⟨rfl, rfl⟩ | ⟨rfl, rfl⟩ | ⟨rfl, rfl⟩ | ⟨rfl, rfl⟩
    · exact pj_nww_0_8
    · omega
    · omega
    · omega
    · exact pj_nww_0_49
  · simp only [pj_cl, List.mem_cons, List.not_mem_nil, or_false, Prod.mk.injEq] at hm
    rcases hm with ⟨rfl, rfl⟩ | ⟨rfl, rfl⟩ | ⟨rfl, rfl⟩ | ⟨rfl, rfl⟩
    · exact pj_nww_1_16
    · omega
    · omega
    · omega
  · simp only [pj_cl, List.mem_cons, List.not_mem_nil, or_false, Prod.mk.injEq] at hm
    obtain ⟨rfl, rfl⟩ := hm
    exact pj_nww_2_9
  · have : pj_cl g = [] := by match g, hg with | _ + 3, _ => rfl
    rw [this] at hm
    cases hm
theorem pj_wInt : Cond.arrayClass .int ∈ lw_all := lw_in [Cond.arrayClass .int] [112] (by decide +kernel) (by decide +kernel) _ List.mem_cons_self
theorem pj_wLong : Cond.arrayClass .long ∈ lw_all := lw_in [Cond.arrayClass .long] [571] (by decide +kernel) (by decide +kernel) _ List.mem_cons_self
theorem pj_wSeg : Cond.classLink "ChannelRouter$Plan" 9 "ChannelRouter$Segment" ∈ lw_all := pj_nww_2_9 _ List.mem_cons_self
theorem pj_wGrid : Cond.classLink "ChannelRouter" 32 "[[I" ∈ lw_all := lw_in [Cond.classLink "ChannelRouter" 32 "[[I"] [125] (by decide +kernel) (by decide +kernel) _ List.mem_cons_self
theorem pj_wK : Cond.constant "java/lang/Integer" 264 65536 ∈ lw_all := lw_in [Cond.constant "java/lang/Integer" 264 65536] [403] (by decide +kernel) (by decide +kernel) _ List.mem_cons_self
theorem pj_wK314 : Cond.constantLong "java/lang/Long" 314 6148914691236517205 ∈ lw_all := lw_in [Cond.constantLong "java/lang/Long" 314 6148914691236517205] [226] (by decide +kernel) (by decide +kernel) _ List.mem_cons_self
theorem pj_wK316 : Cond.constantLong "java/lang/Long" 316 3689348814741910323 ∈ lw_all := lw_in [Cond.constantLong "java/lang/Long" 316 3689348814741910323] [227] (by decide +kernel) (by decide +kernel) _ List.mem_cons_self
theorem pj_wK318 : Cond.constantLong "java/lang/Long" 318 1085102592571150095 ∈ lw_all := lw_in [Cond.constantLong "java/lang/Long" 318 1085102592571150095] [228] (by decide +kernel) (by decide +kernel) _ List.mem_cons_self
theorem pj_lk_ok {i : Nat} {v : Int64} (h : pj_lk i = some v) : Cond.constantLong "java/lang/Long" i v ∈ lw_all := by
  unfold pj_lk at h
  split at h
  · next e => cases h; subst e; exact pj_wK314
  · split at h
    · next e => cases h; subst e; exact pj_wK316
    · split at h
      · next e => cases h; subst e; exact pj_wK318
      · cases h
end
section
/-! the variables of a frame -/
def pj_ps (a0 b : Nat) : Nat → List Slot → List (Nat × Value)
  | _, [] => []
  | i, .val v :: t => (i, pj_rv a0 b v) :: pj_ps a0 b (i + 1) t
  | i, .second :: t => pj_ps a0 b (i + 1) t
  | i, .unset :: t => pj_ps a0 b (i + 1) t
theorem pj_rv_cat (a0 b : Nat) (v : Value) : (pj_rv a0 b v).category = v.category := by cases v <;> rfl
theorem pj_ps_mem {a0 b : Nat} : ∀ (lv : List Slot) (i : Nat) (q : Nat × Value), q ∈ pj_ps a0 b i lv ↔ ∃ k v, lv[k]? = some (.val v) ∧ q = (i + k, pj_rv a0 b v) := by
  intro lv
  induction lv with
  | nil => intro i q; simp [pj_ps]
  | cons x t ih =>
    intro i q
    have step : (∃ k v, t[k]? = some (Slot.val v) ∧ q = (i + 1 + k, pj_rv a0 b v)) → ∃ k v, (x :: t)[k]? = some (Slot.val v) ∧ q = (i + k, pj_rv a0 b v) := by
      rintro ⟨k, v, h1, h2⟩
      exact ⟨k + 1, v, by simpa using h1, by rw [h2]; congr 1; omega⟩
    have back : ∀ k v, (x :: t)[k + 1]? = some (Slot.val v) ∧ q = (i + (k + 1), pj_rv a0 b v) → ∃ k v, t[k]? = some (Slot.val v) ∧ q = (i + 1 + k, pj_rv a0 b v) := by
      rintro k v ⟨h1, h2⟩
      exact ⟨k, v, by simpa using h1, by rw [h2]; congr 1; omega⟩
    cases x with
    | val w =>
      simp only [pj_ps, List.mem_cons, ih]
      constructor
      · rintro (h | h)
        · exact ⟨0, w, by simp, by rw [h]; rfl⟩
        · exact step h
      · rintro ⟨k, v, h⟩
        cases k with
        | zero =>
          obtain ⟨h1, h2⟩ := h
          simp at h1
          subst h1
          exact Or.inl (by rw [h2]; rfl)
        | succ k => exact Or.inr (back k v h)
    | second =>
      simp only [pj_ps, ih]
      constructor
      · exact step
      · rintro ⟨k, v, h⟩
        cases k with
        | zero => simp at h
        | succ k => exact back k v h
    | unset =>
      simp only [pj_ps, ih]
      constructor
      · exact step
      · rintro ⟨k, v, h⟩
        cases k with
        | zero => simp at h
        | succ k => exact back k v h
def pj_Lv (a0 b : Nat) (lv : List Slot) (ls : Array Slot) : Prop := lv_has ls lv.length (pj_ps a0 b 0 lv)
section PJL
variable {a0 b : Nat} {lv : List Slot} {ls ls' : Array Slot}
theorem pj_ld_at {k : Nat} {v : Value} (hk : pj_ld lv k = some v) : lv[k]? = some (.val v) := by
  unfold pj_ld at hk
  split at hk
  · cases hk; assumption
  · cases hk
theorem pj_Lv.get (h : pj_Lv a0 b lv ls) {k : Nat} {v : Value} (hk : pj_ld lv k = some v) : ls[k]? = some (.val (pj_rv a0 b v)) :=
  h.2.2 (k, pj_rv a0 b v) ((pj_ps_mem lv 0 _).mpr ⟨k, v, pj_ld_at hk, by simp⟩)
theorem pj_wide_at {j : Nat} {w : Value} (hw : pj_wide lv (j + 1) = false) (h : lv[j]? = some (.val w)) : (w.category == 2) = false := by
  unfold pj_wide at hw
  simpa [h] using hw
theorem pj_Lv.put1 (_h : pj_Lv a0 b lv ls) {i : Nat} {v : Value} (hi : i < lv.length) (hw : pj_wide lv i = false)
    (h' : lv_has ls' lv.length ((i, pj_rv a0 b v) :: (pj_ps a0 b 0 lv).filter (fun q => !(q.1 == i) && !(q.1 + 1 == i && q.2.category == 2)))) : pj_Lv a0 b (lv.set i (.val v)) ls' := by
  refine ⟨by rw [h'.1]; simp, h'.2.1, fun q hq => h'.2.2 q ?_⟩
  obtain ⟨k, w, h1, rfl⟩ := (pj_ps_mem _ 0 q).mp hq
  rw [Nat.zero_add]
  by_cases e : k = i
  · subst e
    rw [List.getElem?_set_self hi] at h1
    cases h1
    exact List.mem_cons_self
  · rw [List.getElem?_set_ne (fun z => e z.symm)] at h1
    refine List.mem_cons_of_mem _ (List.mem_filter.mpr ⟨(pj_ps_mem lv 0 _).mpr ⟨k, w, h1, by simp⟩, ?_⟩)
    have e1 : (k == i) = false := by simpa using e
    simp only [e1, Bool.not_false, Bool.true_and, Bool.not_eq_true', Bool.and_eq_false_iff]
    by_cases e2 : k + 1 = i
    · subst e2
      exact Or.inr (by rw [pj_rv_cat]; exact pj_wide_at hw h1)
    · exact Or.inl (by simpa using e2)
theorem pj_Lv.drop1 (_h : pj_Lv a0 b lv ls) {i : Nat} {x : Value} (hi : i < lv.length) (hw : pj_wide lv i = false)
    (h' : lv_has ls' lv.length ((i, x) :: (pj_ps a0 b 0 lv).filter (fun q => !(q.1 == i) && !(q.1 + 1 == i && q.2.category == 2)))) : pj_Lv a0 b (lv.set i .unset) ls' := by
  refine ⟨by rw [h'.1]; simp, h'.2.1, fun q hq => h'.2.2 q ?_⟩
  obtain ⟨k, w, h1, rfl⟩ := (pj_ps_mem _ 0 q).mp hq
  rw [Nat.zero_add]
  by_cases e : k = i
  · subst e
    rw [List.getElem?_set_self hi] at h1
    cases h1
  · rw [List.getElem?_set_ne (fun z => e z.symm)] at h1
    refine List.mem_cons_of_mem _ (List.mem_filter.mpr ⟨(pj_ps_mem lv 0 _).mpr ⟨k, w, h1, by simp⟩, ?_⟩)
    have e1 : (k == i) = false := by simpa using e
    simp only [e1, Bool.not_false, Bool.true_and, Bool.not_eq_true', Bool.and_eq_false_iff]
    by_cases e2 : k + 1 = i
    · subst e2
      exact Or.inr (by rw [pj_rv_cat]; exact pj_wide_at hw h1)
    · exact Or.inl (by simpa using e2)
theorem pj_Lv.put2 (_h : pj_Lv a0 b lv ls) {i : Nat} {v : Value} (hi : i + 1 < lv.length) (hw : pj_wide lv i = false)
    (h' : lv_has ls' lv.length ((i, pj_rv a0 b v) :: (pj_ps a0 b 0 lv).filter (fun q => !(q.1 == i) && (!(q.1 == i + 1) && !(q.1 + 1 == i && q.2.category == 2))))) : pj_Lv a0 b ((lv.set i (.val v)).set (i + 1) .unset) ls' := by
  refine ⟨by rw [h'.1]; simp, h'.2.1, fun q hq => h'.2.2 q ?_⟩
  obtain ⟨k, w, h1, rfl⟩ := (pj_ps_mem _ 0 q).mp hq
  rw [Nat.zero_add]
  by_cases e3 : k = i + 1
  · subst e3
    rw [List.getElem?_set_self (by simpa using hi)] at h1
    cases h1
  · rw [List.getElem?_set_ne (fun z => e3 z.symm)] at h1
    by_cases e : k = i
    · subst e
      rw [List.getElem?_set_self (by omega)] at h1
      cases h1
      exact List.mem_cons_self
    · rw [List.getElem?_set_ne (fun z => e z.symm)] at h1
      refine List.mem_cons_of_mem _ (List.mem_filter.mpr ⟨(pj_ps_mem lv 0 _).mpr ⟨k, w, h1, by simp⟩, ?_⟩)
      have e1 : (k == i) = false := by simpa using e
      have e4 : (k == i + 1) = false := by simpa using e3
      simp only [e1, e4, Bool.not_false, Bool.true_and, Bool.not_eq_true', Bool.and_eq_false_iff]
      by_cases e2 : k + 1 = i
      · subst e2
        exact Or.inr (by rw [pj_rv_cat]; exact pj_wide_at hw h1)
      · exact Or.inl (by simpa using e2)
theorem pj_sto_of {k : Nat} {v : Value} {lv' : List Slot} (h : pj_sto lv k v = some lv') : k < lv.length ∧ pj_wide lv k = false ∧ lv' = lv.set k (.val v) := by
  unfold pj_sto at h
  split at h
  · next hc => cases h; exact ⟨hc.1, hc.2, rfl⟩
  · cases h
theorem pj_sto2_of {k : Nat} {v : Value} {lv' : List Slot} (h : pj_sto2 lv k v = some lv') : k + 1 < lv.length ∧ pj_wide lv k = false ∧ lv' = (lv.set k (.val v)).set (k + 1) .unset := by
  unfold pj_sto2 at h
  split at h
  · next hc => cases h; exact ⟨hc.1, hc.2, rfl⟩
  · cases h
/-- the variables with which a method begins -/
theorem pj_ps_unset (n i : Nat) : pj_ps a0 b i (List.replicate n Slot.unset) = [] := by
  induction n generalizing i with
  | zero => rfl
  | succ n ih => exact ih (i + 1)
theorem pj_ps_args (vs : List Value) (n i : Nat) : pj_ps a0 b i ((vs.flatMap fun v => if v.category = 2 then [Slot.val v, .unset] else [Slot.val v]) ++ List.replicate n Slot.unset) = lv_args i (vs.map (pj_rv a0 b)) := by
  induction vs generalizing i with
  | nil => exact pj_ps_unset n i
  | cons v vs ih =>
    simp only [List.flatMap_cons, List.map_cons, lv_args, pj_rv_cat]
    by_cases hc : v.category = 2
    · simp only [if_pos hc, List.cons_append, List.nil_append, pj_ps, ih, Nat.add_assoc]
    · simp only [if_neg hc, List.cons_append, List.nil_append, pj_ps, ih]
theorem pj_flat_len (vs : List Value) : (vs.flatMap fun v => if v.category = 2 then [Slot.val v, .unset] else [Slot.val v]).length = pj_wt vs := by
  induction vs with
  | nil => rfl
  | cons v vs ih =>
    simp only [List.flatMap_cons, List.length_append, ih, pj_wt, List.map_cons, List.sum_cons]
    rcases lv_cat v with h | h
    · simp [h]
    · simp [h]
theorem pj_sl_len (vs : List Value) : (lg_sl (vs.map (pj_rv a0 b))).length = pj_wt vs := by
  induction vs with
  | nil => rfl
  | cons v vs ih =>
    unfold lg_sl at ih ⊢
    simp only [List.map_cons, List.flatMap_cons, List.length_append, ih, pj_wt, List.sum_cons, pj_rv_cat]
    rcases lv_cat v with h | h
    · simp [h]
    · simp [h]
theorem pj_Lv.ent {vs : List Value} {n : Nat} (h : pj_wt vs ≤ n) : pj_Lv a0 b (pj_ent n vs) ((lg_sl (vs.map (pj_rv a0 b)) ++ List.replicate (n - (lg_sl (vs.map (pj_rv a0 b))).length) Slot.unset).toArray) := by
  have h0 := lv_entry (vs.map (pj_rv a0 b)) (n := n) (by rw [pj_sl_len]; exact h)
  have hl : (pj_ent n vs).length = n := by
    unfold pj_ent
    rw [List.length_append, List.length_replicate, pj_flat_len]
    omega
  refine ⟨by rw [hl]; exact h0.1, h0.2.1, ?_⟩
  have e : pj_ps a0 b 0 (pj_ent n vs) = lv_args 0 (vs.map (pj_rv a0 b)) := pj_ps_args vs _ 0
  rw [e]
  exact h0.2.2
end PJL
end
section
/-! the cells that are read, written and made -/
def pj_tk : FieldType → Nat
  | .long => 2
  | .boolean => 1
  | .int => 0
  | .array _ => 3
  | .object _ => 3
  | _ => 9
theorem pj_fty1 : ∀ c, c < 5 → 1 ≤ c → ∀ k, k < pj_nf c → pj_tk (pj_ty c k) = pj_ft c k := by decide +kernel
theorem pj_tk_ok (t : FieldType) : (pj_tk t = 3 → t.isReference = true) ∧ (pj_tk t = 2 → t = .long) ∧ (pj_tk t = 1 → t = .boolean) ∧ (pj_tk t = 0 → t = .int) ∧ (pj_tk t ≤ 3 ∨ pj_tk t = 9) := by
  cases t <;> simp [pj_tk, FieldType.isReference]
theorem pj_ft_le {c k : Nat} : pj_ft c k ≤ 3 := by
  unfold pj_ft
  repeat (first | omega | split)
theorem pj_fty0 (c : Nat) (hc : c < 5) (k : Nat) (hk : k < 23) (h1 : 1 ≤ c) (hn : k < pj_nf c) : (if pj_ft c k = 3 then (pj_ty c k).isReference = true else if pj_ft c k = 2 then pj_ty c k = .long else if pj_ft c k = 1 then pj_ty c k = .boolean else (pj_ft c k = 0 ∧ pj_ty c k = .int)) := by
  obtain ⟨q3, q2, q1, q0, -⟩ := pj_tk_ok (pj_ty c k)
  have q := pj_ft_le (c := c) (k := k)
  rw [pj_fty1 c hc h1 k hn] at q3 q2 q1 q0
  split
  · next e => exact q3 e
  · split
    · next e => exact q2 e
    · split
      · next e => exact q1 e
      · have e : pj_ft c k = 0 := by omega
        exact ⟨e, q0 e⟩
theorem pj_nf_le {c : Nat} : pj_nf c ≤ 23 := by
  unfold pj_nf
  split
  · omega
  · split
    · omega
    · split <;> omega
theorem pj_fin0 : ∀ c, c < 5 → ∀ k, k < 23 → 1 ≤ c → k < pj_nf c → (pj_T c k).2.2.2 = pj_fin c k ∧ (pj_T c k).1 = pj_cn c := by decide +kernel
theorem pj_narrow_ref {ty : FieldType} (h : ty.isReference = true) (q : Nat) : narrow ty (.ref q) = .ref q ∧ fits ty (.ref q) = true ∧ narrow ty .null = .null ∧ fits ty .null = true ∧ defaultValue ty = .null := by
  cases ty <;> first | (exact ⟨rfl, rfl, rfl, rfl, rfl⟩) | (cases h)
theorem pj_u2_self {α : Type} (f : Nat → Nat → α) (o k : Nat) (v : α) : pj_u2 f o k v o k = v := by simp [pj_u2]
theorem pj_u2_ne {α : Type} (f : Nat → Nat → α) {o k a j : Nat} (v : α) (h : ¬ (a = o ∧ j = k)) : pj_u2 f o k v a j = f a j := by simp only [pj_u2, if_neg h]
theorem pj_bool_ok {x : Int32} (h : x = 0 ∨ x = 1) : narrow .boolean (.int x) = .int x ∧ fits .boolean (.int x) = true := by
  rcases h with rfl | rfl
  · exact ⟨by decide +kernel, by decide +kernel⟩
  · exact ⟨by decide +kernel, by decide +kernel⟩
/-- what a store into a field does -/
theorem pj_put_ok {σ σ' : pj_St} {c o k : Nat} {v : Value} {a0 b : Nat} (h : pj_put σ c o k v = some σ') (h1 : 1 ≤ c) (h4 : c ≤ 4) (hk : k < pj_nf c) :
    (narrow (pj_ty c k) (pj_rv a0 b v) = pj_rv a0 b v ∧ fits (pj_ty c k) (pj_rv a0 b v) = true) ∧ σ'.1 = σ.1 ∧ pj_fv σ' c o k = v ∧
      (∀ a j, ¬ (a = o ∧ j = k) → σ'.2.1 a j = σ.2.1 a j) ∧ (∀ a j, ¬ (a = o ∧ j = k) → σ'.2.2.1 a j = σ.2.2.1 a j) ∧ (∀ a j, ¬ (a = o ∧ j = k) → σ'.2.2.2 a j = σ.2.2.2 a j) := by
  have hty := pj_fty0 c (by omega) k (Nat.lt_of_lt_of_le hk pj_nf_le) h1 hk
  unfold pj_put at h
  by_cases e3 : pj_ft c k = 3
  · rw [if_pos e3] at h hty
    split at h
    · cases h
      refine ⟨⟨(pj_narrow_ref hty 0).2.2.1, (pj_narrow_ref hty 0).2.2.2.1⟩, rfl, ?_, fun _ _ _ => rfl, fun _ _ _ => rfl, fun a j hne => pj_u2_ne _ _ hne⟩
      unfold pj_fv
      rw [if_pos e3]
      show pj_rf (pj_u2 _ _ _ _ _ _) = _
      rw [pj_u2_self]
      rfl
    · next q =>
      cases h
      refine ⟨⟨(pj_narrow_ref hty _).1, (pj_narrow_ref hty _).2.1⟩, rfl, ?_, fun _ _ _ => rfl, fun _ _ _ => rfl, fun a j hne => pj_u2_ne _ _ hne⟩
      unfold pj_fv
      rw [if_pos e3]
      show pj_rf (pj_u2 _ _ _ _ _ _) = _
      rw [pj_u2_self]
      rfl
    · cases h
  · rw [if_neg e3] at h hty
    by_cases e2 : pj_ft c k = 2
    · rw [if_pos e2] at h hty
      split at h
      · next x =>
        cases h
        refine ⟨?_, rfl, ?_, fun _ _ _ => rfl, fun a j hne => pj_u2_ne _ _ hne, fun _ _ _ => rfl⟩
        · rw [hty]
          exact ⟨rfl, rfl⟩
        · unfold pj_fv
          rw [if_neg e3, if_pos e2]
          show Value.long (pj_u2 _ _ _ _ _ _) = _
          rw [pj_u2_self]
      · cases h
    · rw [if_neg e2] at h hty
      split at h
      · next x =>
        split at h
        · next hc =>
          cases h
          refine ⟨?_, rfl, ?_, fun a j hne => pj_u2_ne _ _ hne, fun _ _ _ => rfl, fun _ _ _ => rfl⟩
          · by_cases e1 : pj_ft c k = 1
            · rw [if_pos e1] at hty
              rw [hty]
              exact pj_bool_ok (hc.resolve_left (by rw [e1]; decide))
            · rw [if_neg e1] at hty
              rw [hty.2]
              exact ⟨rfl, rfl⟩
          · unfold pj_fv
            rw [if_neg e3, if_neg e2]
            show Value.int (pj_u2 _ _ _ _ _ _) = _
            rw [pj_u2_self]
        · cases h
      · cases h
theorem pj_fv_cong {σ σ' : pj_St} {c o k : Nat} (h1 : σ'.2.1 o k = σ.2.1 o k) (h2 : σ'.2.2.1 o k = σ.2.2.1 o k) (h3 : σ'.2.2.2 o k = σ.2.2.2 o k) : pj_fv σ' c o k = pj_fv σ c o k := by
  unfold pj_fv
  rw [h1, h2, h3]
theorem pj_av_cong {σ σ' : pj_St} {c o k : Nat} (h1 : σ'.2.1 o k = σ.2.1 o k) (h2 : σ'.2.2.1 o k = σ.2.2.1 o k) (h3 : σ'.2.2.2 o k = σ.2.2.2 o k) : pj_av σ' c o k = pj_av σ c o k := by
  unfold pj_av
  rw [h1, h2, h3]
theorem pj_kd_pos {o c : Nat} (h : pj_kd o = c) (hc : c ≠ 5) : 0 < o := by
  cases o with
  | zero => exact absurd h.symm hc
  | succ o => omega
section PJM
variable {p : Program} {l : Launch} {e : Env} {R : Room} {s : State} {m : MethodId} {args : Array Value} {below : List Frame} {meth : Method} {c : Code} {H : Heap} {locs : List Loc} {cells slots : Nat} {Q : State → Prop}
variable {cc : ByteArray} {pc : Nat} {ls : Array Slot} {rest : List Value} {a0 L : Nat} {D : Nat → ClassId} {iS : Nat → Nat → Nat} {s0 : State} {σ σ' : pj_St}
theorem pj_apart {cl : Nat} (h1 : 1 ≤ cl) (h4 : cl ≤ 4) (hts : ∀ w ∈ lw_all, w.before args s = true) (hK : u_Kn s (pj_cn cl) (pj_T cl) (pj_nf cl) (D cl) (iS cl)) : ∀ x y, x < pj_nf cl → y < pj_nf cl → x ≠ y → iS cl x ≠ iS cl y := by
  intro x y hx hy hne
  obtain ⟨hS, -⟩ := hK
  obtain ⟨_, _, _, fa, hia, ea⟩ := hS x hx
  obtain ⟨_, _, _, fb, hib, eb⟩ := hS y hy
  rw [← ea, ← eb]
  refine u_apart (u_lays hts (pj_ins h1 h4) hx) (u_lays hts (pj_ins h1 h4) hy) hia hib ?_
  rw [(State.fieldFound?_type hia (pj_ty_ok cl (by omega) h1 x hx)).1, (State.fieldFound?_type hib (pj_ty_ok cl (by omega) h1 y hy)).1]
  exact pj_nm h1 h4 x hx y hy hne
theorem pj_Wget (hx : p.tables.exec = Jvm.exec) (hb : c.code = cc) (hts : ∀ w ∈ lw_all, w.before args s = true) {g cl k idx o : Nat} (hown : s.vm.findClass (pj_cn g) = some m.cls)
    (hK : ∀ cl, 1 ≤ cl → cl ≤ 4 → u_Kn s (pj_cn cl) (pj_T cl) (pj_nf cl) (D cl) (iS cl)) (hf : pj_fr g idx = some (cl, k)) (hkd : pj_kd o = cl) (hal : pj_al σ.1 o = true) (hW : pj_Wd a0 L D iS s0 s σ H) (hdg : decode cc pc = .ok (.getfield idx, 3))
    (kk : W p l e R s m args below meth c H locs cells slots Q (F0 m (pc + 3) ls (pj_rv a0 s0.heap.size (pj_fv σ cl o k) :: rest))) : W p l e R s m args below meth c H locs cells slots Q (F0 m pc ls (.ref (pj_ra a0 s0.heap.size o) :: rest)) := by
  obtain ⟨hlk, h1, h4, hk⟩ := pj_fr_ok hf
  subst hkd
  obtain ⟨cell, q1, q2, q3, q4⟩ := (hW.2.2.2 o (pj_al_le hal)).1 h1 h4
  obtain ⟨hS, hfc, kC, hkC, hkind⟩ := hK _ h1 h4
  obtain ⟨cf, kf, fi, f, hi, hsl⟩ := hS k hk
  refine W.getf hx hb hown (hts _ hlk) hi (u_facts hfc hkC (u_lays hts (pj_ins h1 h4) hk) hi).1 q1 (by rw [q3]; exact fun h => by cases h) (v := pj_rv a0 s0.heap.size (pj_fv σ (pj_kd o) o k)) ?_ rfl rfl hdg kk
  rw [hsl, q4 k hk]
theorem pj_Wput (hx : p.tables.exec = Jvm.exec) (hb : c.code = cc) (hts : ∀ w ∈ lw_all, w.before args s = true) {g kd2 cl k idx o : Nat} {v : Value} (hown : s.vm.findClass (pj_cn g) = some m.cls)
    (hK : ∀ cl, 1 ≤ cl → cl ≤ 4 → u_Kn s (pj_cn cl) (pj_T cl) (pj_nf cl) (D cl) (iS cl)) (hf : pj_fr g idx = some (cl, k)) (hkd : pj_kd o = cl) (hal : pj_al σ.1 o = true) (hfin : pj_fin cl k = false ∨ (kd2 = 2 ∧ g = cl)) (hin : kd2 = 2 → meth.name = "<init>")
    (hput : pj_put σ cl o k v = some σ') (hW : pj_Wd a0 L D iS s0 s σ H) (hlo : ∀ q ∈ locs, s0.heap.size ≤ q.base) (hdg : decode cc pc = .ok (.putfield idx, 3))
    (kk : ∀ (H' : Heap) (locs' : List Loc), pj_Wd a0 L D iS s0 s σ' H' → (∀ q ∈ locs', s0.heap.size ≤ q.base) → W p l e R s m args below meth c H' locs' cells slots Q (F0 m (pc + 3) ls rest)) :
    W p l e R s m args below meth c H locs cells slots Q (F0 m pc ls (pj_rv a0 s0.heap.size v :: .ref (pj_ra a0 s0.heap.size o) :: rest)) := by
  obtain ⟨hlk, h1, h4, hk⟩ := pj_fr_ok hf
  have hk23 : k < 23 := Nat.lt_of_lt_of_le hk pj_nf_le
  obtain ⟨⟨hn, hfit⟩, e1, e2, eI, eJ, eP⟩ := pj_put_ok (a0 := a0) (b := s0.heap.size) hput h1 h4 hk
  have hap := pj_apart h1 h4 hts (hK _ h1 h4)
  have ho : 0 < o := pj_kd_pos hkd (by omega)
  obtain ⟨cell, q1, q2, q3, q4⟩ := (hW.2.2.2 o (pj_al_le hal)).1 (by rw [hkd]; exact h1) (by rw [hkd]; exact h4)
  rw [hkd] at q2 q4
  obtain ⟨hS, hfc, kC, hkC, hkind⟩ := hK _ h1 h4
  obtain ⟨cf, kf, fi, f, hi, hsl⟩ := hS k hk
  have hd := pj_ty_ok cl (by omega) h1 k hk
  have hst := (u_facts hfc hkC (u_lays hts (pj_ins h1 h4) hk) hi).1
  have hlay := hts _ (pj_ins h1 h4 _ (u_in_lay hk))
  obtain ⟨hfT, hdecl⟩ := pj_fin0 cl (by omega) k hk23 h1 hk
  have fin : ∀ H' : Heap, H'[pj_ra a0 s0.heap.size o]? = some (cell.setSlot f.slot (pj_rv a0 s0.heap.size v)) → H'.size = H.size → (∀ q, q ≠ pj_ra a0 s0.heap.size o → H'[q]? = H[q]?) →
      W p l e R s m args below meth c H' (locs ++ [⟨pj_ra a0 s0.heap.size o, f.slot⟩]) cells slots Q (F0 m (pc + 3) ls rest) := by
    intro H' z1 z2 z3
    refine kk H' _ ?_ (t_lc (free := fun q => s0.heap.size ≤ q) hlo (pj_ra_ge ho))
    refine hW.set (by omega) ho e1 z2 z3 ⟨fun _ _ => ⟨_, z1, by rw [hkd]; exact q2, q3, fun j hj => ?_⟩, fun h5 => by omega⟩ (fun a j hne => eI a j (fun z => hne z.1)) (fun a j hne => eJ a j (fun z => hne z.1)) (fun a j hne => eP a j (fun z => hne z.1))
    rw [hkd] at hj ⊢
    rw [hsl]
    by_cases ejk : j = k
    · subst ejk
      rw [e2]
      have := k2_hasslot (q4 j hj)
      simp [Cell.setSlot, this]
    · rw [pj_fv_cong (eI o j (fun z => ejk z.2)) (eJ o j (fun z => ejk z.2)) (eP o j (fun z => ejk z.2)), ← q4 j hj]
      simp only [Cell.setSlot]
      rw [Array.getElem?_setIfInBounds_ne (hap k j hk hj (fun z => ejk z.symm))]
  by_cases hF : pj_fin cl k = false
  · unfold u_lay at hlay
    rw [if_neg (by rw [hfT, hF]; decide)] at hlay
    have h6 := u_store hfc hkC hkind hlay hi hd hn hfit
    exact W.putK hx hb (f := f) ⟨hown, hts _ hlk, ⟨_, _, _, hi⟩, hst⟩ (by rw [q2]; exact h6) q1 q3 (by rw [hsl]; exact k2_hasslot (q4 k hk)) rfl rfl hdg fin
  · obtain ⟨g1, g2⟩ := hfin.resolve_left hF
    subst g2
    have hF' : (pj_T g k).2.2.2 = true := by rw [hfT]; simpa using hF
    unfold u_lay at hlay
    rw [if_pos hF'] at hlay
    have hcf : m.cls = cf := by
      obtain ⟨_, _, c', _, _, _, -, -, hf', -, -, -, hown2, -⟩ := Cond.laysFinal_spec hlay
      have e1 : c' = cf := by have := hi.symm.trans hf'; simp at this; exact this.1.symm
      rw [hdecl] at hown2
      rw [← e1]; exact Option.some.inj (hown.symm.trans hown2)
    have h6 := u_fits hfc hkC hkind (Or.inr hlay) hi hd hn hfit
    exact W.putFinK hx hb hown (hts _ hlk) hi hst hcf (hin g1) (by rw [q2]; exact h6) q1 q3 (by rw [hsl]; exact k2_hasslot (q4 k hk)) rfl rfl hdg fin
theorem pj_in_of {o : Nat} {j : Int32} (h : pj_in L o j = true) : ¬ (j < 0 ∨ pj_ln L o ≤ j.toNatClampNeg) := of_decide_eq_true h
theorem pj_Wiald (hx : p.tables.exec = Jvm.exec) (hb : c.code = cc) {o : Nat} {j : Int32} (hkd : pj_kd o = 5) (hal : pj_al σ.1 o = true) (hin : pj_in L o j = true) (hW : pj_Wd a0 L D iS s0 s σ H) (hdg : decode cc pc = .ok (.iaload, 1))
    (kk : W p l e R s m args below meth c H locs cells slots Q (F0 m (pc + 1) ls (.int (σ.2.1 o j.toNatClampNeg) :: rest))) : W p l e R s m args below meth c H locs cells slots Q (F0 m pc ls (.int j :: .ref (pj_ra a0 s0.heap.size o) :: rest)) := by
  obtain ⟨cell, q1, q2, q3, q4, q5, q6⟩ := (hW.2.2.2 o (pj_al_le hal)).2 (by omega)
  have hin' := pj_in_of hin
  rw [hkd] at q2 q6
  refine W.iald hx hb q1 q2 q3 (by rw [q5]; exact hin') (v := .int (σ.2.1 o j.toNatClampNeg)) ?_ rfl rfl hdg kk
  rw [q6 _ (Nat.not_le.mp fun z => hin' (Or.inr z))]
  rfl
theorem pj_Wlald (hx : p.tables.exec = Jvm.exec) (hb : c.code = cc) {o : Nat} {j : Int32} (hkd : pj_kd o = 6) (hal : pj_al σ.1 o = true) (hin : pj_in L o j = true) (hW : pj_Wd a0 L D iS s0 s σ H) (hdg : decode cc pc = .ok (.laload, 1))
    (kk : W p l e R s m args below meth c H locs cells slots Q (F0 m (pc + 1) ls (.long (σ.2.2.1 o j.toNatClampNeg) :: rest))) : W p l e R s m args below meth c H locs cells slots Q (F0 m pc ls (.int j :: .ref (pj_ra a0 s0.heap.size o) :: rest)) := by
  obtain ⟨cell, q1, q2, q3, q4, q5, q6⟩ := (hW.2.2.2 o (pj_al_le hal)).2 (by omega)
  have hin' := pj_in_of hin
  rw [hkd] at q2 q6
  refine W.lald hx hb q1 q2 q3 (by rw [q5]; exact hin') (v := .long (σ.2.2.1 o j.toNatClampNeg)) ?_ rfl rfl hdg kk
  rw [q6 _ (Nat.not_le.mp fun z => hin' (Or.inr z))]
  rfl
theorem pj_Waald (hx : p.tables.exec = Jvm.exec) (hb : c.code = cc) {o : Nat} {j : Int32} (hkd : pj_kd o = 7 ∨ pj_kd o = 8) (hal : pj_al σ.1 o = true) (hin : pj_in L o j = true) (hW : pj_Wd a0 L D iS s0 s σ H) (hdg : decode cc pc = .ok (.aaload, 1))
    (kk : W p l e R s m args below meth c H locs cells slots Q (F0 m (pc + 1) ls (pj_rv a0 s0.heap.size (pj_rf (σ.2.2.2 o j.toNatClampNeg)) :: rest))) : W p l e R s m args below meth c H locs cells slots Q (F0 m pc ls (.int j :: .ref (pj_ra a0 s0.heap.size o) :: rest)) := by
  obtain ⟨cell, q1, q2, q3, q4, q5, q6⟩ := (hW.2.2.2 o (pj_al_le hal)).2 (by omega)
  have hin' := pj_in_of hin
  have hv : cell.slots[j.toNatClampNeg]? = some (pj_rv a0 s0.heap.size (pj_rf (σ.2.2.2 o j.toNatClampNeg))) := by
    rw [q6 _ (Nat.not_le.mp fun z => hin' (Or.inr z))]
    rcases hkd with h | h
    · rw [h]; rfl
    · rw [h]; rfl
  refine W.aald hx hb q1 q2 ?_ q3 (by rw [q5]; exact hin') hv rfl rfl hdg kk
  rcases hkd with h | h
  · rw [h]; rfl
  · rw [h]; rfl
theorem pj_Walen (hx : p.tables.exec = Jvm.exec) (hb : c.code = cc) {o : Nat} (hkd : pj_kd o = 5) (hal : pj_al σ.1 o = true) (hW : pj_Wd a0 L D iS s0 s σ H) (hdg : decode cc pc = .ok (.arraylength, 1))
    (kk : W p l e R s m args below meth c H locs cells slots Q (F0 m (pc + 1) ls (.int (nI (pj_ln L o)) :: rest))) : W p l e R s m args below meth c H locs cells slots Q (F0 m pc ls (.ref (pj_ra a0 s0.heap.size o) :: rest)) := by
  obtain ⟨cell, q1, q2, q3, q4, q5, q6⟩ := (hW.2.2.2 o (pj_al_le hal)).2 (by omega)
  exact W.alen hx hb q1 q2 (by rw [q5]; rfl) rfl rfl hdg kk
theorem pj_Wiast (hx : p.tables.exec = Jvm.exec) (hb : c.code = cc) {o : Nat} {j x : Int32} (hkd : pj_kd o = 5) (ho : 0 < o) (hal : pj_al σ.1 o = true) (hin : pj_in L o j = true) (hW : pj_Wd a0 L D iS s0 s σ H) (hlo : ∀ q ∈ locs, s0.heap.size ≤ q.base) (hdg : decode cc pc = .ok (.iastore, 1))
    (kk : ∀ (H' : Heap) (locs' : List Loc), pj_Wd a0 L D iS s0 s (σ.1, pj_u2 σ.2.1 o j.toNatClampNeg x, σ.2.2.1, σ.2.2.2) H' → (∀ q ∈ locs', s0.heap.size ≤ q.base) → W p l e R s m args below meth c H' locs' cells slots Q (F0 m (pc + 1) ls rest)) :
    W p l e R s m args below meth c H locs cells slots Q (F0 m pc ls (.int x :: .int j :: .ref (pj_ra a0 s0.heap.size o) :: rest)) := by
  obtain ⟨cell, q1, q2, q3, q4, q5, q6⟩ := (hW.2.2.2 o (pj_al_le hal)).2 (by omega)
  have hin' := pj_in_of hin
  have hq2 : s.isArrayOf cell .int := by rw [hkd] at q2; exact q2
  refine W.iast hx hb q1 hq2 q3 (by rw [q5]; exact hin') rfl rfl hdg fun H' z1 z2 z3 => ?_
  refine kk H' _ ?_ (t_lc (free := fun q => s0.heap.size ≤ q) hlo (pj_ra_ge ho))
  refine hW.set (by omega) ho rfl z2 z3 ⟨fun h1 h4 => by omega, fun h5 => ⟨_, z1, q2, q3, q4, by rw [k2_slotsz]; exact q5, fun k hk => ?_⟩⟩ (fun a k hne => pj_u2_ne _ _ fun z => hne z.1) (fun _ _ _ => rfl) (fun _ _ _ => rfl)
  rw [hkd]
  by_cases ejk : k = j.toNatClampNeg
  · subst ejk
    have hlt : j.toNatClampNeg < cell.slots.size := by rw [q5]; exact hk
    show (cell.slots.setIfInBounds _ _)[_]? = some (Value.int (pj_u2 _ _ _ _ _ _))
    rw [pj_u2_self]
    simp [hlt]
  · show (cell.slots.setIfInBounds _ _)[_]? = some (Value.int (pj_u2 _ _ _ _ _ _))
    rw [pj_u2_ne _ _ (fun z => ejk z.2), Array.getElem?_setIfInBounds_ne (fun z => ejk z.symm), q6 k hk, hkd]
    rfl
theorem pj_Wlast (hx : p.tables.exec = Jvm.exec) (hb : c.code = cc) {o : Nat} {j : Int32} {x : Int64} (hkd : pj_kd o = 6) (hal : pj_al σ.1 o = true) (hin : pj_in L o j = true) (hW : pj_Wd a0 L D iS s0 s σ H) (hlo : ∀ q ∈ locs, s0.heap.size ≤ q.base) (hdg : decode cc pc = .ok (.lastore, 1))
    (kk : ∀ (H' : Heap) (locs' : List Loc), pj_Wd a0 L D iS s0 s (σ.1, σ.2.1, pj_u2 σ.2.2.1 o j.toNatClampNeg x, σ.2.2.2) H' → (∀ q ∈ locs', s0.heap.size ≤ q.base) → W p l e R s m args below meth c H' locs' cells slots Q (F0 m (pc + 1) ls rest)) :
    W p l e R s m args below meth c H locs cells slots Q (F0 m pc ls (.long x :: .int j :: .ref (pj_ra a0 s0.heap.size o) :: rest)) := by
  have ho : 0 < o := pj_kd_pos hkd (by decide)
  obtain ⟨cell, q1, q2, q3, q4, q5, q6⟩ := (hW.2.2.2 o (pj_al_le hal)).2 (by omega)
  have hin' := pj_in_of hin
  have hq2 : s.isArrayOf cell .long := by rw [hkd] at q2; exact q2
  refine W.last hx hb q1 hq2 q3 (by rw [q5]; exact hin') rfl rfl hdg fun H' z1 z2 z3 => ?_
  refine kk H' _ ?_ (t_lc (free := fun q => s0.heap.size ≤ q) hlo (pj_ra_ge ho))
  refine hW.set (by omega) ho rfl z2 z3 ⟨fun h1 h4 => by omega, fun h5 => ⟨_, z1, q2, q3, q4, by rw [k2_slotsz]; exact q5, fun k hk => ?_⟩⟩ (fun _ _ _ => rfl) (fun a k hne => pj_u2_ne _ _ fun z => hne z.1) (fun _ _ _ => rfl)
  rw [hkd]
  by_cases ejk : k = j.toNatClampNeg
  · subst ejk
    have hlt : j.toNatClampNeg < cell.slots.size := by rw [q5]; exact hk
    show (cell.slots.setIfInBounds _ _)[_]? = some (Value.long (pj_u2 _ _ _ _ _ _))
    rw [pj_u2_self]
    simp [hlt]
  · show (cell.slots.setIfInBounds _ _)[_]? = some (Value.long (pj_u2 _ _ _ _ _ _))
    rw [pj_u2_ne _ _ (fun z => ejk z.2), Array.getElem?_setIfInBounds_ne (fun z => ejk z.symm), q6 k hk, hkd]
    rfl
theorem pj_Waast (hx : p.tables.exec = Jvm.exec) (hb : c.code = cc) (hK : ∀ cl, 1 ≤ cl → cl ≤ 4 → u_Kn s (pj_cn cl) (pj_T cl) (pj_nf cl) (D cl) (iS cl)) {o q : Nat} {j : Int32} (hkd : pj_kd o = 7) (hal : pj_al σ.1 o = true) (hin : pj_in L o j = true) (hkq : pj_kd q = 3) (halq : pj_al σ.1 q = true)
    (hW : pj_Wd a0 L D iS s0 s σ H) (hlo : ∀ q ∈ locs, s0.heap.size ≤ q.base) (hdg : decode cc pc = .ok (.aastore, 1))
    (kk : ∀ (H' : Heap) (locs' : List Loc), pj_Wd a0 L D iS s0 s (σ.1, σ.2.1, σ.2.2.1, pj_u2 σ.2.2.2 o j.toNatClampNeg (some q)) H' → (∀ q ∈ locs', s0.heap.size ≤ q.base) → W p l e R s m args below meth c H' locs' cells slots Q (F0 m (pc + 1) ls rest)) :
    W p l e R s m args below meth c H locs cells slots Q (F0 m pc ls (.ref (pj_ra a0 s0.heap.size q) :: .int j :: .ref (pj_ra a0 s0.heap.size o) :: rest)) := by
  have ho : 0 < o := pj_kd_pos hkd (by decide)
  obtain ⟨cell, q1, q2, q3, q4, q5, q6⟩ := (hW.2.2.2 o (pj_al_le hal)).2 (by omega)
  obtain ⟨cellV, g1, g2, g3, -⟩ := (hW.2.2.2 q (pj_al_le halq)).1 (by omega) (by omega)
  rw [hkq] at g2
  have hin' := pj_in_of hin
  have hcls := (hK 3 (by omega) (by omega)).2
  obtain ⟨kA, comp, k1, k2, k3, -⟩ := q4 hkd
  have hcomp : comp = D 3 := Option.some.inj (k3.symm.trans hcls.1)
  subst hcomp
  obtain ⟨kC, hkC, -⟩ := hcls.2
  refine W.aast hx hb q1 q2.1 q3 k1 k2 rfl hkC ⟨fun z => hin' (Or.inl z), by rw [q5]; exact Nat.not_le.mp fun z => hin' (Or.inr z)⟩ g1 (fun z h => by rw [g3] at h; cases h) (by rw [g2]; exact hkC) (by rw [g2]; exact va_assign hcls) rfl rfl hdg fun H' z1 z2 z3 => ?_
  refine kk H' _ ?_ (t_lc (free := fun q => s0.heap.size ≤ q) hlo (pj_ra_ge ho))
  refine hW.set (by omega) ho rfl z2 z3 ⟨fun h1 h4 => by omega, fun h5 => ⟨_, z1, q2, q3, q4, by rw [k2_slotsz]; exact q5, fun k hk => ?_⟩⟩ (fun _ _ _ => rfl) (fun _ _ _ => rfl) (fun a k hne => pj_u2_ne _ _ fun z => hne z.1)
  rw [hkd]
  by_cases ejk : k = j.toNatClampNeg
  · subst ejk
    have hlt : j.toNatClampNeg < cell.slots.size := by rw [q5]; exact hk
    show (cell.slots.setIfInBounds _ _)[_]? = some (pj_rv _ _ (pj_rf (pj_u2 _ _ _ _ _ _)))
    rw [pj_u2_self]
    simp [hlt, pj_rf, pj_rv]
  · show (cell.slots.setIfInBounds _ _)[_]? = some (pj_rv _ _ (pj_rf (pj_u2 _ _ _ _ _ _)))
    rw [pj_u2_ne _ _ (fun z => ejk z.2), Array.getElem?_setIfInBounds_ne (fun z => ejk z.symm), q6 k hk, hkd]
    rfl
theorem pj_u1_ne {α : Type} (f : Nat → Nat → α) {o a k : Nat} (v : α) (h : a ≠ o) : pj_u1 f o v a k = f a k := by simp only [pj_u1, if_neg h]
theorem pj_u1_self {α : Type} (f : Nat → Nat → α) (o k : Nat) (v : α) : pj_u1 f o v o k = v := by simp only [pj_u1, if_true]
theorem pj_new_fv {cl k : Nat} (h1 : 1 ≤ cl) (h4 : cl ≤ 4) (hk : k < pj_nf cl) : defaultValue (pj_ty cl k) = pj_rv a0 s0.heap.size (pj_fv (pj_new σ) cl (pj_cnt σ.1 + 1) k) := by
  have hty := pj_fty0 cl (by omega) k (Nat.lt_of_lt_of_le hk pj_nf_le) h1 hk
  unfold pj_fv
  by_cases e3 : pj_ft cl k = 3
  · rw [if_pos e3] at hty ⊢
    show _ = pj_rv _ _ (pj_rf (pj_u1 _ _ _ _ _))
    rw [pj_u1_self]
    exact (pj_narrow_ref hty 0).2.2.2.2
  · rw [if_neg e3] at hty ⊢
    by_cases e2 : pj_ft cl k = 2
    · rw [if_pos e2] at hty ⊢
      rw [hty]
      show _ = Value.long (pj_u1 _ _ _ _ _)
      rw [pj_u1_self]
      rfl
    · rw [if_neg e2] at hty ⊢
      show _ = Value.int (pj_u1 _ _ _ _ _)
      rw [pj_u1_self]
      by_cases e1 : pj_ft cl k = 1
      · rw [if_pos e1] at hty
        rw [hty]
        rfl
      · rw [if_neg e1] at hty
        rw [hty.2]
        rfl
theorem pj_Wd.pushNew (hW : pj_Wd a0 L D iS s0 s σ H) {H' : Heap} (hk0 : pj_kd (pj_cnt σ.1 + 1) ≠ 0) (hz : H'.size = H.size + 1) (hq : ∀ q, q < H.size → H'[q]? = H[q]?) (hc : pj_OK a0 s0.heap.size L D iS s (pj_new σ) (pj_cnt σ.1 + 1) H') : pj_Wd a0 L D iS s0 s (pj_new σ) H' :=
  hW.push (fun cell hcell => hc.ns hk0 cell (by rw [pj_ra_next hW]; exact hcell)) (pj_cnt_inc _) hz hq hc (fun a k h => pj_u1_ne _ _ (by omega)) (fun a k h => pj_u1_ne _ _ (by omega)) (fun a k h => pj_u1_ne _ _ (by omega))
theorem pj_Wnew (hx : p.tables.exec = Jvm.exec) (hb : c.code = cc) (hts : ∀ w ∈ lw_all, w.before args s = true) {g cl idx : Nat} (hown : s.vm.findClass (pj_cn g) = some m.cls)
    (hK : ∀ cl, 1 ≤ cl → cl ≤ 4 → u_Kn s (pj_cn cl) (pj_T cl) (pj_nf cl) (D cl) (iS cl)) (hf : pj_cr g idx = some cl) (h1 : 1 ≤ cl) (h4 : cl ≤ 4) (hkd : pj_kd (pj_cnt σ.1 + 1) = cl) (hcells : cells + 1 ≤ R.cells) (hslots : slots + 64 ≤ R.slots)
    (hW : pj_Wd a0 L D iS s0 s σ H) (hdg : decode cc pc = .ok (.new idx, 3))
    (kk : ∀ (H' : Heap), pj_Wd a0 L D iS s0 s (pj_new σ) H' → W p l e R s m args below meth c H' locs (cells + 1) (slots + 64) Q (F0 m (pc + 3) ls (.ref (pj_ra a0 s0.heap.size (pj_cnt σ.1 + 1)) :: rest))) :
    W p l e R s m args below meth c H locs cells slots Q (F0 m pc ls rest) := by
  have hw := pj_cr_ok hf h1 h4
  have hn : pj_nf cl ≤ 64 := Nat.le_trans pj_nf_le (by omega)
  have hKn := hK cl h1 h4
  refine W.newcK hx hb hown (hts _ (hw _ List.mem_cons_self)) (hts _ (hw _ (List.mem_cons_of_mem _ List.mem_cons_self))) (hts _ (hw _ (List.mem_cons_of_mem _ (List.mem_cons_of_mem _ List.mem_cons_self)))) rfl hdg hcells (by omega) hKn.2.1 rfl fun H1 kC hkC e1 z1 o1 => ?_
  refine W.widen (k := cells + 1) (n := slots + 64) (Nat.le_refl _) (by omega) ?_
  rw [← pj_ra_next hW]
  refine kk H1 (hW.pushNew (by omega) z1 o1 ⟨fun _ _ => ?_, fun h5 => by omega⟩)
  rw [hkd, pj_ra_next hW]
  obtain ⟨cell, b1, b2, b3, b4⟩ := u_born (pj_ty cl) hts (pj_ins h1 h4) hKn hkC e1 (pj_ty_ok cl (by omega) h1)
  refine ⟨cell, b1, b2, b3, fun k hk => ?_⟩
  rw [b4 k hk]
  show some (defaultValue (pj_ty cl k)) = _
  rw [pj_new_fv h1 h4 hk]
theorem pj_Wnewa (hx : p.tables.exec = Jvm.exec) (hb : c.code = cc) (hts : ∀ w ∈ lw_all, w.before args s = true) {t : ArrayType} {n : Int32} (hkd : (t = .int ∧ pj_kd (pj_cnt σ.1 + 1) = 5) ∨ (t = .long ∧ pj_kd (pj_cnt σ.1 + 1) = 6)) (hn : ¬ n < 0) (hN : n.toNatClampNeg = pj_ln L (pj_cnt σ.1 + 1)) (hcells : cells + 1 ≤ R.cells) (hslots : slots + 64 ≤ R.slots)
    (hW : pj_Wd a0 L D iS s0 s σ H) (hdg : decode cc pc = .ok (.newarray t, 2))
    (kk : ∀ (H' : Heap), pj_Wd a0 L D iS s0 s (pj_new σ) H' → W p l e R s m args below meth c H' locs (cells + 1) (slots + 64) Q (F0 m (pc + 2) ls (.ref (pj_ra a0 s0.heap.size (pj_cnt σ.1 + 1)) :: rest))) :
    W p l e R s m args below meth c H locs cells slots Q (F0 m pc ls (.int n :: rest)) := by
  have hln : pj_ln L (pj_cnt σ.1 + 1) ≤ 40 := by
    unfold pj_ln
    rw [if_neg (by omega)]
    repeat (first | omega | split)
  have hs1 := pj_ra_next hW
  rcases hkd with ⟨rfl, hkd⟩ | ⟨rfl, hkd⟩
  · refine W.newaK (atype := .int) hx hb (hts _ pj_wInt) rfl hdg rfl hn hN (by show pj_ln L (pj_cnt σ.1 + 1) * 4 ≤ _; omega) hcells (by omega) rfl fun H1 cA e1 z1 o1 hA => ?_
    refine W.widen (k := cells + 1) (n := slots + 64) (Nat.le_refl _) (by omega) ?_
    rw [← hs1]
    refine kk H1 (hW.pushNew (by omega) z1 o1 ⟨fun _ _ => by omega, fun _ => ?_⟩)
    rw [hkd, hs1]
    refine ⟨_, e1, hA _ _, (fun h => by cases h), (fun h => by omega), arrV_size _ _ _, fun j hj => ?_⟩
    rw [arrV_read _ _ hj]
    show some (Value.int 0) = some (Value.int (pj_u1 _ _ _ _ _))
    rw [pj_u1_self]
  · refine W.newaK (atype := .long) hx hb (hts _ pj_wLong) rfl hdg rfl hn hN (by show pj_ln L (pj_cnt σ.1 + 1) * 8 ≤ _; omega) hcells (by omega) rfl fun H1 cA e1 z1 o1 hA => ?_
    refine W.widen (k := cells + 1) (n := slots + 64) (Nat.le_refl _) (by omega) ?_
    rw [← hs1]
    refine kk H1 (hW.pushNew (by omega) z1 o1 ⟨fun _ _ => by omega, fun _ => ?_⟩)
    rw [hkd, hs1]
    refine ⟨_, e1, hA _ _, (fun h => by cases h), (fun h => by omega), arrV_size _ _ _, fun j hj => ?_⟩
    rw [arrV_read _ _ hj]
    show some (Value.long 0) = some (Value.long (pj_u1 _ _ _ _ _))
    rw [pj_u1_self]
theorem pj_Wanew (hx : p.tables.exec = Jvm.exec) (hb : c.code = cc) (hts : ∀ w ∈ lw_all, w.before args s = true) (hO : va_AO "ChannelRouter$Segment" s) {n : Int32} (hown : s.vm.findClass "ChannelRouter$Plan" = some m.cls) (hkd : pj_kd (pj_cnt σ.1 + 1) = 7) (hn : ¬ n < 0) (hN : n.toNatClampNeg = pj_ln L (pj_cnt σ.1 + 1)) (hcells : cells + 1 ≤ R.cells) (hslots : slots + 64 ≤ R.slots)
    (hW : pj_Wd a0 L D iS s0 s σ H) (hdg : decode cc pc = .ok (.anewarray 9, 3))
    (kk : ∀ (H' : Heap), pj_Wd a0 L D iS s0 s (pj_new σ) H' → W p l e R s m args below meth c H' locs (cells + 1) (slots + 64) Q (F0 m (pc + 3) ls (.ref (pj_ra a0 s0.heap.size (pj_cnt σ.1 + 1)) :: rest))) :
    W p l e R s m args below meth c H locs cells slots Q (F0 m pc ls (.int n :: rest)) := by
  have hln : pj_ln L (pj_cnt σ.1 + 1) ≤ 40 := by
    unfold pj_ln
    rw [if_neg (by omega)]
    repeat (first | omega | split)
  have hs1 := pj_ra_next hW
  refine W.anew hx hb hown (hts _ pj_wSeg) (va_AO.use hO) rfl hdg rfl hn (by omega) hcells (by omega) fun cA kA comp f1 f2 f3 f4 => ?_
  generalize hH1 : H.push ({ cls := cA, slots := Array.replicate n.toNatClampNeg .null, vm := .none } : Cell) = H1
  have z1 : H1.size = H.size + 1 := by rw [← hH1, Array.size_push]
  have e1 : H1[H.size]? = some (arrV cA n.toNatClampNeg (fun _ => .null)) := by rw [← hH1, Array.getElem?_push_size, ← arrV_new]
  have o1 : ∀ q : Nat, q < H.size → H1[q]? = H[q]? := fun q hq => by rw [← hH1, Array.getElem?_push, if_neg (Nat.ne_of_lt hq)]
  refine W.widen (k := cells + 1) (n := slots + 64) (Nat.le_refl _) (by omega) ?_
  rw [← hs1]
  refine kk H1 (hW.pushNew (by omega) z1 o1 ⟨fun _ _ => by omega, fun _ => ?_⟩)
  rw [hkd, hs1]
  refine ⟨_, e1, ⟨(fun k h => by cases h), kA, f2, comp, f3⟩, (fun h => by cases h), (fun _ => ⟨kA, comp, f2, f3, f4, f1⟩), by rw [arrV_size]; exact hN, fun j hj => ?_⟩
  rw [arrV_read _ _ (by rw [hN]; exact hj)]
  show some Value.null = some (pj_rv _ _ (pj_rf (pj_u1 _ _ _ _ _)))
  rw [pj_u1_self]
  rfl
end PJM
end
section
/-! a grid of ints -/
def pj_oc (cA : ClassId) (h k : Nat) : Cell := arrV cA 40 (fun j => if j < k then .ref (h + 1 + j) else .null)
def pj_rc (cI : ClassId) : Cell := { cls := cI, slots := Array.replicate 20 (.int 0), vm := .none }
def pj_gs (s : State) (cA cI : ClassId) : Nat → State
  | 0 => s.pushCell { cls := cA, slots := Array.replicate 40 .null, vm := .none }
  | k + 1 => ((pj_gs s cA cI k).pushCell (pj_rc cI)).setCell s.heap.size (pj_oc cA s.heap.size (k + 1))
theorem pj_oc_set (cA : ClassId) (h k : Nat) : (pj_oc cA h k).setSlot k (.ref (h + 1 + k)) = pj_oc cA h (k + 1) := by
  unfold pj_oc
  rw [arrV_store]
  congr 1
  funext j
  unfold updV
  by_cases e : j = k
  · subst e
    simp
  · by_cases e2 : j < k
    · have e3 : j < k + 1 := by omega
      simp [e, e2, e3]
    · have e3 : ¬ j < k + 1 := by omega
      simp [e, e2, e3]
theorem pj_gs_heap (s : State) (cA cI : ClassId) : ∀ k, (pj_gs s cA cI k).heap.size = s.heap.size + 1 + k ∧ (∀ q, q < s.heap.size → (pj_gs s cA cI k).heap[q]? = s.heap[q]?) ∧ (pj_gs s cA cI k).heap[s.heap.size]? = some (pj_oc cA s.heap.size k) ∧ ∀ j, j < k → (pj_gs s cA cI k).heap[s.heap.size + 1 + j]? = some (pj_rc cI) := by
  intro k
  induction k with
  | zero =>
    refine ⟨size_pushCell _ _, fun q hq => State.heap_pushCell_of_lt _ _ hq, ?_, fun j hj => by omega⟩
    show (s.pushCell _).heap[s.heap.size]? = _
    rw [State.heap_pushCell_size]
    unfold pj_oc
    rw [arrV_new]
    congr 2
  | succ k ih =>
    obtain ⟨i1, i2, i3, i4⟩ := ih
    have z : ((pj_gs s cA cI k).pushCell (pj_rc cI)).heap.size = s.heap.size + 1 + k + 1 := by rw [size_pushCell, i1]
    refine ⟨?_, fun q hq => ?_, ?_, fun j hj => ?_⟩
    · show (((pj_gs s cA cI k).pushCell (pj_rc cI)).setCell _ _).heap.size = _
      rw [size_setCell, z]; omega
    · show (((pj_gs s cA cI k).pushCell (pj_rc cI)).setCell _ _).heap[q]? = _
      rw [heapAt_setCell_ne _ (show s.heap.size ≠ q by omega), State.heap_pushCell_of_lt _ _ (show q < (pj_gs s cA cI k).heap.size by omega), i2 q hq]
    · exact heapAt_setCell_self _ (show s.heap.size < ((pj_gs s cA cI k).pushCell (pj_rc cI)).heap.size by omega)
    · show (((pj_gs s cA cI k).pushCell (pj_rc cI)).setCell _ _).heap[_]? = _
      rw [heapAt_setCell_ne _ (show s.heap.size ≠ s.heap.size + 1 + j by omega)]
      by_cases e : j = k
      · subst e
        rw [← i1]
        exact State.heap_pushCell_size _ _
      · rw [State.heap_pushCell_of_lt _ _ (show s.heap.size + 1 + j < (pj_gs s cA cI k).heap.size by omega)]
        exact i4 j (by omega)
section PJG
variable {p : Program} {l : Launch} {e : Env} {R : Room} {s : State} {m : MethodId} {args : Array Value} {below : List Frame} {meth : Method} {c : Code} {H : Heap} {locs : List Loc} {cells slots : Nat} {Q : State → Prop}
variable {cc : ByteArray} {pc : Nat} {ls : Array Slot} {rest : List Value} {a0 L : Nat} {D : Nat → ClassId} {iS : Nat → Nat → Nat} {s0 : State} {σ σ' : pj_St} {T : State}
theorem pj_gs_vm (s : State) (cA cI : ClassId) : ∀ k, (pj_gs s cA cI k).vm = s.vm ∧ (pj_gs s cA cI k).topJava? = s.topJava? := by
  intro k
  induction k with
  | zero => exact ⟨rfl, rfl⟩
  | succ k ih => exact ⟨ih.1, ih.2⟩
theorem pj_gs_stand (X : Stand p l e R s m args below meth c T locs cells slots) (cA cI : ClassId) : ∀ k, ∃ L : List Loc, (∀ q ∈ L, T.heap.size ≤ q.base) ∧ Stand p l e R s m args below meth c (pj_gs T cA cI k) (locs ++ L) (cells + 1 + k) (slots + 40 + 20 * k) := by
  intro k
  induction k with
  | zero =>
    refine ⟨[], (fun q h => by cases h), ?_⟩
    have := X.pushed { cls := cA, slots := Array.replicate 40 .null, vm := .none }
    rw [List.append_nil]
    have e1 : slots + 40 + 20 * 0 = slots + (Array.replicate 40 Value.null).size := by simp
    rw [e1]
    exact this
  | succ k ih =>
    obtain ⟨L, h1, h2⟩ := ih
    have h3 := h2.pushed (pj_rc cI)
    have hg := pj_gs_heap T cA cI k
    have hc : ((pj_gs T cA cI k).pushCell (pj_rc cI)).heap[T.heap.size]? = some (pj_oc cA T.heap.size k) := by
      rw [State.heap_pushCell_of_lt _ _ (show T.heap.size < (pj_gs T cA cI k).heap.size by omega)]; exact hg.2.2.1
    have h4 := h3.stored hc k (.ref (T.heap.size + 1 + k))
    rw [pj_oc_set] at h4
    refine ⟨L ++ [⟨T.heap.size, k⟩], t_lc (free := fun q => T.heap.size ≤ q) h1 (Nat.le_refl _), ?_⟩
    have e1 : slots + 40 + 20 * (k + 1) = slots + 40 + 20 * k + (pj_rc cI).slots.size := by simp [pj_rc]; omega
    rw [← List.append_assoc, e1]
    exact h4
theorem pj_multi_cold {Q : Unit → Pre} {E : CtlPost} {d : Bool} {acts : List Action} {f : JFrame} {index dims c : Nat} {vm' : Vm} (hs : s.topJava?.isSome) (hg : (Jvm.resolveClass f.method.cls index).Gives e.toSetting s.vm (.ok c) vm') (hr : vm'.classReady f.method.cls index c)
    (hsz : vm'.classes.size ≤ s.vm.classes.size) :
    wp (Op.multianewarray.sem index dims) Q E e d acts (s.setTop f) ↔ wp (Op.multianewarray.sem index dims) Q E e d acts ((s.setVm vm').setTop f) := by
  simp only [Op.multianewarray.sem, wp_bind']
  exact W.resolveClassAt_transfer (s := s.setTop f) (State.method?_setTop f hs) hg hr hsz
theorem pj_make1 {T : State} {cI : ClassId} {kI : Class} {cP : ClassId} (hlim : ¬ 20 > e.platform.arrayLengthLimit) (hmax : ¬ 20 * componentBytes .int > e.platform.maxHeapBytes) (hkI : T.vm.classes[cI]? = some kI) (hkindI : kI.kind = .array cP .int)
    (hc : T.heap.size < e.platform.maxCells) (hs : T.slotsUsed + 20 ≤ e.platform.maxSlots) {Q : Addr → Pre} {E : CtlPost} {d : Bool} {acts : List Action} (hq : ∀ acts, Q T.heap.size d acts (T.pushCell (pj_rc cI))) : wp (Op.multianewarray.make cI [20]) Q E e d acts T := by
  have h20 : ¬ ((20 : Int32) < 0) := by decide
  have h20n : (20 : Int32).toNatClampNeg = 20 := by decide
  rw [Op.multianewarray.make]
  simp only [wp_bind', W.ite, h20, if_false, wp_pure', W.theClass, hkI, Option.some.injEq, exists_eq_left', hkindI, h20n]
  exact W.newArray_of hkI hkindI hlim hmax hc hs rfl hq
theorem pj_multi_loop (X : Stand p l e R s m args below meth c T locs cells slots) {cA cI : ClassId} {kA kI : Class} {cP : ClassId} {tA : FieldType} (hkA : T.vm.classes[cA]? = some kA) (hkindA : kA.kind = .array cI tA) (hrefA : tA.isReference = true) (hkI : T.vm.classes[cI]? = some kI) (hkindI : kI.kind = .array cP .int)
    (hcells : cells + 41 ≤ R.cells) (hslots : slots + 840 ≤ R.slots) {f : JFrame} {Q : Addr → Pre} {E : CtlPost} {d : Bool} {acts : List Action}
    (hq : ∀ d acts, Q T.heap.size d acts ((pj_gs T cA cI 40).setTop f)) : wp (Op.multianewarray.make cA [40, 20]) Q E e d acts (T.setTop f) := by
  have hlim := Launch.admits_arrayLengthLimit X.admits
  have hmax := Launch.admits_maxHeapBytes X.admits
  have h40 : ¬ ((40 : Int32) < 0) := by decide
  have h40n : (40 : Int32).toNatClampNeg = 40 := by decide
  have h400 : ((40 : Int32) == 0) = false := by decide
  have hnull : fits tA .null = true := (pj_narrow_ref hrefA 0).2.2.2.1
  have hcb : componentBytes tA = 4 := by cases tA <;> first | rfl | (cases hrefA)
  obtain ⟨hr1, hr2⟩ := X.roomAbove (a := 1) (b := 40) (by omega) (by omega)
  rw [Op.multianewarray.make]
  simp only [wp_bind', W.ite, h40, if_false, wp_pure', W.theClass, State.vm_setTop, hkA, Option.some.injEq, exists_eq_left', hkindA, h40n, h400, Bool.false_eq_true]
  refine W.newArray_of (s := T.setTop f) hkA hkindA (by omega) (by rw [hcb]; omega) (by show T.heap.size < _; omega) (by show T.slotsUsed + _ ≤ _; omega) hnull fun acts1 => ?_
  rw [wp_bind', Std.Legacy.Range.forIn_eq_forIn_range']
  have e0 : (T.setTop f).pushCell { cls := cA, slots := Array.replicate 40 Value.null } = (pj_gs T cA cI 0).setTop f := State.pushCell_setTop _ _ _
  rw [e0]
  refine wp_forIn_inv (fun rest u => ∃ k, k ≤ 40 ∧ rest = List.range' k (40 - k) ∧ u = (pj_gs T cA cI k).setTop f) _ _ ⟨0, by omega, by rfl, rfl⟩ ?_ ?_
  · rintro x rest u d' acts' Q' ⟨k, hk, hr, rfl⟩ hn
    have hk40 : k < 40 := by
      by_cases z : k < 40
      · exact z
      · rw [show 40 - k = 0 by omega] at hr; cases hr
    rw [show 40 - k = (40 - (k + 1)) + 1 by omega, List.range'_succ] at hr
    cases hr
    obtain ⟨Lk, -, Xk⟩ := pj_gs_stand X cA cI x
    obtain ⟨r1, r2⟩ := Xk.roomAbove (a := 1) (b := 20) (by omega) (by omega)
    have hvm := pj_gs_vm T cA cI x
    have hhp := pj_gs_heap T cA cI x
    rw [wp_bind']
    refine pj_make1 (T := (pj_gs T cA cI x).setTop f) (by omega) (by show ¬ 20 * 4 > _; omega) (show (pj_gs T cA cI x).vm.classes[cI]? = some kI by rw [hvm.1]; exact hkI) hkindI (by show (pj_gs T cA cI x).heap.size < _; omega) (by show (pj_gs T cA cI x).slotsUsed + 20 ≤ _; omega) fun acts2 => ?_
    rw [State.pushCell_setTop]
    simp only [wp_bind', W.writeLoc, wp_pure']
    refine ⟨pj_oc cA T.heap.size x, ?_, (fun h => by cases h), ?_, ?_, ?_⟩
    · show ((pj_gs T cA cI x).pushCell (pj_rc cI)).heap[T.heap.size]? = _
      rw [State.heap_pushCell_of_lt _ _ (show T.heap.size < (pj_gs T cA cI x).heap.size by omega)]
      exact hhp.2.2.1
    · show x < (arrV cA 40 _).slots.size
      rw [arrV_size]; exact hk40
    · have hkk : (pj_gs T cA cI x).vm.classes[cA]? = some kA := by
        rw [hvm.1]; exact hkA
      have hfr := (pj_narrow_ref hrefA (Array.size (pj_gs T cA cI x).heap)).2.1
      show State.fitsSlot _ cA .none x _ = true
      simp [State.fitsSlot, State.slotType?, hkk, hkindA, hfr]
    · refine hn _ _ _ ⟨x + 1, by omega, rfl, ?_⟩
      have e3 : Array.size ((pj_gs T cA cI x).setTop f).heap = T.heap.size + 1 + x := hhp.1
      have e4 : Array.size (T.setTop f).heap = T.heap.size := rfl
      rw [e3, e4, pj_oc_set]
      rfl
  · rintro u d' acts' ⟨k, hk, hr, rfl⟩
    have hk40 : k = 40 := by
      by_cases z : k = 40
      · exact z
      · rw [show 40 - k = (40 - (k + 1)) + 1 by omega, List.range'_succ] at hr; cases hr
    subst hk40
    simp only [wp_pure']
    exact hq _ _
theorem pj_multi (hx : p.tables.exec = Jvm.exec) (hb : c.code = cc) (hts : ∀ w ∈ lw_all, w.before args s = true) (hO2 : (Cond.arrayOver (.array .int)).before args s = true) (hown : s.vm.findClass "ChannelRouter" = some m.cls) (hcells : cells + 41 ≤ R.cells) (hslots : slots + 840 ≤ R.slots)
    (hdg : decode cc pc = .ok (.multianewarray 32 2, 4))
    (kk : ∀ (H' : Heap) (cA cI : ClassId), H'.size = H.size + 41 → (∀ q, q < H.size → H'[q]? = H[q]?) → H'[H.size]? = some (pj_oc cA H.size 40) → (∀ j, j < 40 → H'[H.size + 1 + j]? = some (pj_rc cI)) → s.isArrayOf (pj_oc cA H.size 40) (.array .int) → s.isArrayOf (pj_rc cI) .int →
      W p l e R s m args below meth c H' locs (cells + 41) (slots + 840) Q (F0 m (pc + 4) ls (.ref H.size :: rest))) :
    W p l e R s m args below meth c H locs cells slots Q (F0 m pc ls (.int 20 :: .int 40 :: rest)) := by
  intro T hT X
  subst hT; subst hb
  have hpl : e.platform.magicAccessors = ({} : Platform).magicAccessors := by rw [X.admits.platform]
  obtain ⟨comp, cA, kA, hcomp, hidx, hkA, hkindA, hnameA⟩ := arrayOverA_spec hO2
  obtain ⟨cI, kI, cP, hcI, hkI, hkindI⟩ := Cond.arrayClass_spec (hts _ pj_wInt)
  have eI : comp = cI := Option.some.inj (hcomp.symm.trans hcI)
  subst eI
  obtain ⟨cc', hfcc, hcl⟩ := Cond.classLink_spec hown (hts _ pj_wGrid) e.platform hpl
  have eA : cA = cc' := Option.some.inj (hnameA.symm.trans hfcc)
  subst eA
  obtain ⟨hg₁, hwarm₁, hready₁⟩ := State.classEntry (e := e) X.warmed hcl
  generalize T.vm.noted m.cls 32 (.cls cA) = vm₁ at hg₁ hwarm₁ hready₁
  have hal : s.vm.Alike vm₁ := hwarm₁.alike
  obtain ⟨kI₁, hkI₁, heI⟩ := hal.2.2 _ _ hkI
  obtain ⟨kA₁, hkA₁, heA⟩ := hal.2.2 _ _ hkA
  have hkindA₁ : kA₁.kind = .array comp (.array .int) := by rw [heA]; exact hkindA
  have hkindI₁ : kI₁.kind = .array cP .int := by rw [heI]; exact hkindI
  have X₁ := X.noted hwarm₁
  obtain ⟨Lk, hLk, X₂⟩ := pj_gs_stand X₁ cA comp 40
  have X₃ := Stand.forget X₂ (fun q hq => Nat.le_trans X.same.2.1 (hLk q hq))
  obtain ⟨h1, h2, h3, h4⟩ := pj_gs_heap (T.setVm vm₁) cA comp 40
  obtain ⟨t', a1, b1⟩ := kk (pj_gs (T.setVm vm₁) cA comp 40).heap cA comp (by rw [h1]; rfl) h2 h3 h4 ⟨(fun k h => by cases h), kA, hkA, comp, hkindA⟩ ⟨(fun k h => by cases h), kI, hkI, cP, hkindI⟩ (pj_gs (T.setVm vm₁) cA comp 40) rfl (by
    have e1 : cells + 1 + 40 = cells + 41 := by omega
    have e2 : slots + 40 + 20 * 40 = slots + 840 := by omega
    rw [e1, e2] at X₃
    exact X₃)
  refine ⟨t', ?_, b1⟩
  refine Steps.instr (c := _) (by simpa using X.here) ?_
  simp only [wpRun, hx, hdg]
  show wp (Op.multianewarray.sem 32 2) _ _ _ _ _ _
  rw [pj_multi_cold (f := F0 m pc ls (Value.int 20 :: Value.int 40 :: rest)) X.here.top hg₁ hready₁ (by no_record)]
  have hst : ((T.setVm vm₁).setTop (F0 m pc ls (Value.int 20 :: Value.int 40 :: rest))).vm.classReady m.cls 32 cA := hready₁
  have hpop := fun (Q : List Value → Pre) (E : CtlPost) (d : Bool) (acts : List Action) => Op.popN_top (Q := Q) (E := E) (e := e) (d := d) (acts := acts) (s := T.setVm vm₁) (f := F0 m pc ls (Value.int 20 :: Value.int 40 :: rest)) (args := [.int 40, .int 20]) (rest := rest) X₁.here.top rfl
  simp only [List.length_cons, List.length_nil, Nat.zero_add, Nat.reduceAdd] at hpop
  simp only [Op.multianewarray.sem, wp_bind', W.resolveClassAt_ready (State.method?_setTop (F0 m pc ls (Value.int 20 :: Value.int 40 :: rest)) (show (T.setVm vm₁).topJava?.isSome from X₁.here.top)) hst, hpop, List.mapM_cons, List.mapM_nil, wp_pure']
  refine pj_multi_loop X₁ hkA₁ hkindA₁ rfl hkI₁ hkindI₁ hcells hslots fun d acts => ?_
  have htop := X₂.here.top
  simp [jvm, htop]
  exact a1
theorem pj_Wgrid (hx : p.tables.exec = Jvm.exec) (hb : c.code = cc) (hts : ∀ w ∈ lw_all, w.before args s = true) (hO2 : (Cond.arrayOver (.array .int)).before args s = true) (hown : s.vm.findClass "ChannelRouter" = some m.cls) (h89 : σ.1 = .inl 89) (hcells : cells + 41 ≤ R.cells) (hslots : slots + 64 * 41 ≤ R.slots)
    (hW : pj_Wd a0 L D iS s0 s σ H) (hdg : decode cc pc = .ok (.multianewarray 32 2, 4))
    (kk : ∀ (H' : Heap), pj_Wd a0 L D iS s0 s (pj_grid σ) H' → W p l e R s m args below meth c H' locs (cells + 41) (slots + 64 * 41) Q (F0 m (pc + 4) ls (.ref (pj_ra a0 s0.heap.size 90) :: rest))) :
    W p l e R s m args below meth c H locs cells slots Q (F0 m pc ls (.int 20 :: .int 40 :: rest)) := by
  have hsz : H.size = s0.heap.size + 89 := by rw [hW.1, h89]; rfl
  refine pj_multi hx hb hts hO2 hown hcells (by omega) hdg fun H' cA cI z1 z2 z3 z4 z5 z6 => ?_
  refine W.widen (k := cells + 41) (n := slots + 64 * 41) (Nat.le_refl _) (by omega) ?_
  have ea : pj_ra a0 s0.heap.size 90 = H.size := by rw [hsz]; rfl
  rw [← ea]
  refine kk H' ?_
  have hl := fun o (ho : o ≤ pj_cnt σ.1) => pj_ra_lt hW ho
  obtain ⟨w1, w2, w3, w4⟩ := hW
  refine ⟨?_, fun q hq => ?_, ⟨w3.1, fun q cell hb hcell => ?_⟩, fun o ho => ?_⟩
  · rw [z1, hsz]; rfl
  · rw [z2 q (by omega)]; exact w2 q hq
  · by_cases e1 : q < H.size
    · rw [z2 q e1] at hcell; exact w3.2 q cell hb hcell
    · have hl := (Array.getElem?_eq_some_iff.mp hcell).1
      by_cases e2 : q = H.size
      · subst e2
        cases z3.symm.trans hcell
        rfl
      · have e3 := z4 (q - (H.size + 1)) (by omega)
        rw [show H.size + 1 + (q - (H.size + 1)) = q by omega] at e3
        cases e3.symm.trans hcell
        rfl
  · have ho' : o ≤ 130 := ho
    by_cases e1 : o ≤ 89
    · have ho2 : o ≤ pj_cnt σ.1 := by rw [h89]; exact e1
      refine (w4 o ho2).row (z2 _ (hl o ho2)) (fun k => ?_) (fun k => ?_) (fun k => ?_)
      · show (if 90 ≤ o ∧ o ≤ 130 then _ else _) = _
        rw [if_neg (by omega)]
      · show (if 90 ≤ o ∧ o ≤ 130 then _ else _) = _
        rw [if_neg (by omega)]
      · show (if o = 90 ∧ k < 40 then _ else if 90 ≤ o ∧ o ≤ 130 then _ else _) = _
        rw [if_neg (by omega), if_neg (by omega)]
    · by_cases e2 : o = 90
      · subst e2
        refine ⟨fun _ h4 => absurd h4 (by decide), fun _ => ⟨_, by rw [ea]; exact z3, z5, (fun h => by cases h), (fun h => absurd h (by decide)), arrV_size _ _ _, fun j hj => ?_⟩⟩
        have hj' : j < 40 := hj
        show (arrV cA 40 _).slots[j]? = _
        rw [arrV_read _ _ hj', if_pos hj']
        show _ = some (pj_rv _ _ (pj_rf (if 90 = 90 ∧ j < 40 then some (91 + j) else _)))
        rw [if_pos ⟨rfl, hj'⟩]
        have er : pj_ra a0 s0.heap.size (91 + j) = H.size + 1 + j := by
          unfold pj_ra
          rw [if_neg (by omega)]
          omega
        show some (Value.ref (H.size + 1 + j)) = some (Value.ref (pj_ra a0 s0.heap.size (91 + j)))
        rw [er]
      · have hkd : pj_kd o = 5 := by
          unfold pj_kd
          repeat (first | rw [if_neg (by omega)] | rw [if_pos (by omega)])
        have hln : pj_ln L o = 20 := by
          unfold pj_ln
          repeat (first | rw [if_neg (by omega)] | rw [if_pos (by omega)])
        have er : pj_ra a0 s0.heap.size o = H.size + 1 + (o - 91) := by
          unfold pj_ra
          rw [if_neg (by omega), hsz]
          omega
        refine ⟨fun _ h4 => by omega, fun _ => ⟨_, by rw [er]; exact z4 _ (by omega), by rw [hkd]; exact z6, (fun h => by cases h), (fun h => by omega), by rw [hln]; exact Array.size_replicate, fun j hj => ?_⟩⟩
        rw [hln] at hj
        rw [hkd]
        show (Array.replicate 20 (Value.int 0))[j]? = some (Value.int (if 90 ≤ o ∧ o ≤ 130 then 0 else _))
        rw [if_pos (by omega)]
        simp [hj]
end PJG
end
section
/-! one plain step of the pure machine is one step of the machine; printed by gen/emit_step.py -/
/-- how long the instructions are (0: any) -/
def pj_len : Instr → Nat
  | .tableswitch .. => 0
  | .bipush _ | .iload _ | .lload _ | .dload _ | .aload _ | .istore _ | .astore _ | .lstore _ | .dstore _ | .newarray _ => 2
  | .sipush _ | .ldc_w _ | .ldc2_w _ | .iinc .. | .goto _ | .if_icmp .. | .ifCond .. | .ifnull _ | .getfield _ | .putfield _ | .new _ | .anewarray _ | .invokestatic _ | .invokevirtual _ | .invokespecial _ => 3
  | .multianewarray .. => 4
  | _ => 1
def pj_lok (G : pj_Mi) : Bool := G.2.2.2.all fun e => pj_len e.2.1 == 0 || e.2.2 == pj_len e.2.1
theorem pj_lok_mts : pj_mts.all pj_lok = true := by decide +kernel
theorem pj_lok_law : pj_lok gL_law = true := by decide +kernel
theorem pj_put_n {σ σ' : pj_St} {c o k : Nat} {v : Value} (h : pj_put σ c o k v = some σ') : σ'.1 = σ.1 := by
  unfold pj_put at h
  repeat' (split at h)
  all_goals (first | (cases h; done) | (cases h; rfl))
set_option maxHeartbeats 1600000 in
theorem pj_stp_mono {L : Nat} {G : pj_Mi} {i : Instr} {len pc : Nat} {lv : List Slot} {st : List Value} {σ : pj_St} {pc' : Nat} {lv' : List Slot} {st' : List Value} {σ' : pj_St} (h : pj_stp L G i len pc lv st σ = some (pc', lv', st', σ')) : pj_cnt σ.1 ≤ pj_cnt σ'.1 := by
  unfold pj_stp at h
  dsimp only at h
  repeat' (split at h)
  all_goals (first
    | (cases h; done)
    | (cases h; exact Nat.le_refl _)
    | (cases h; show _ ≤ pj_cnt (pj_inc _); rw [pj_cnt_inc]; omega)
    | (cases h; rename_i hp; rw [pj_put_n hp]; exact Nat.le_refl _)
    | (cases h; rename_i hp; obtain ⟨-, -, -, -, -, hp⟩ := hp; rw [hp]; show 89 ≤ 130; omega))
theorem pj_tg_ok {pc t : Nat} {off : Int} (h : pj_tg pc off = some t) : (pc : Int) + off = (t : Int) := by
  unfold pj_tg at h
  split at h
  · next n e => cases h; exact e
  · cases h
section PJS
variable {p : Program} {l : Launch} {e : Env} {R : Room} {s : State} {m : MethodId} {args : Array Value} {below : List Frame} {meth : Method} {c : Code} {H : Heap} {locs : List Loc} {cells slots : Nat} {Q : State → Prop}
variable {pc pc' : Nat} {ls : Array Slot} {lv lv' : List Slot} {st st' : List Value} {a0 L : Nat} {D : Nat → ClassId} {iS : Nat → Nat → Nat} {s0 : State} {σ σ' : pj_St} {G : pj_Mi} {i : Instr} {len : Nat}
/-- what a step goes on with -/
def pj_K (p : Program) (l : Launch) (e : Env) (R : Room) (s : State) (m : MethodId) (args : Array Value) (below : List Frame) (meth : Method) (c : Code) (cells slots : Nat) (Q : State → Prop) (a0 L : Nat) (D : Nat → ClassId) (iS : Nat → Nat → Nat) (s0 : State) (pc : Nat) (lv : List Slot) (st : List Value) (σ : pj_St) : Prop :=
  ∀ (H : Heap) (ls : Array Slot) (locs : List Loc), pj_Wd a0 L D iS s0 s σ H → pj_Lv a0 s0.heap.size lv ls → (∀ q ∈ locs, s0.heap.size ≤ q.base) → W p l e R s m args below meth c H locs cells slots Q (F0 m pc ls (st.map (pj_rv a0 s0.heap.size)))
theorem pj_K.same {n : Nat} (k : pj_K p l e R s m args below meth c (cells + (n - n)) (slots + 64 * (n - n)) Q a0 L D iS s0 pc lv st σ) : pj_K p l e R s m args below meth c cells slots Q a0 L D iS s0 pc lv st σ := by
  rw [Nat.sub_self, Nat.mul_zero, Nat.add_zero, Nat.add_zero] at k
  exact k
theorem pj_K.one {n : Nat} (k : pj_K p l e R s m args below meth c (cells + (n + 1 - n)) (slots + 64 * (n + 1 - n)) Q a0 L D iS s0 pc lv st σ) : pj_K p l e R s m args below meth c (cells + 1) (slots + 64) Q a0 L D iS s0 pc lv st σ := by
  rw [Nat.add_sub_cancel_left, Nat.mul_one] at k
  exact k
set_option maxHeartbeats 4000000 in
theorem pj_step (hx : p.tables.exec = Jvm.exec) (hb : c.code = G.1.2.1) (hts : ∀ w ∈ lw_all, w.before args s = true) (hown : s.vm.findClass (pj_cn G.2.1.1) = some m.cls) (hin : G.2.1.2.1 = 2 → meth.name = "<init>")
    (hK : ∀ cl, 1 ≤ cl → cl ≤ 4 → u_Kn s (pj_cn cl) (pj_T cl) (pj_nf cl) (D cl) (iS cl)) (hO : va_AO "ChannelRouter$Segment" s) (hO2 : (Cond.arrayOver (.array .int)).before args s = true)
    (hdg : decode G.1.2.1 pc = .ok (i, len)) (hlen : pj_len i = 0 ∨ len = pj_len i) (hs : pj_stp L G i len pc lv st σ = some (pc', lv', st', σ'))
    (hW : pj_Wd a0 L D iS s0 s σ H) (hL : pj_Lv a0 s0.heap.size lv ls) (hlo : ∀ q ∈ locs, s0.heap.size ≤ q.base) (hcells : cells + (pj_cnt σ'.1 - pj_cnt σ.1) ≤ R.cells) (hslots : slots + 64 * (pj_cnt σ'.1 - pj_cnt σ.1) ≤ R.slots)
    (k : pj_K p l e R s m args below meth c (cells + (pj_cnt σ'.1 - pj_cnt σ.1)) (slots + 64 * (pj_cnt σ'.1 - pj_cnt σ.1)) Q a0 L D iS s0 pc' lv' st' σ') :
    W p l e R s m args below meth c H locs cells slots Q (F0 m pc ls (st.map (pj_rv a0 s0.heap.size))) := by
  unfold pj_stp at hs
  cases i with
  | iconst n =>
    dsimp only at hs
    obtain rfl : len = 1 := hlen.resolve_left (by intro z; cases z)
    cases hs
    exact lv_iconst hx hb hdg rfl (k.same H ls locs hW hL hlo)
  | bipush n =>
    dsimp only at hs
    obtain rfl : len = 2 := hlen.resolve_left (by intro z; cases z)
    cases hs
    exact lv_bipush hx hb hdg rfl (k.same H ls locs hW hL hlo)
  | sipush n =>
    dsimp only at hs
    obtain rfl : len = 3 := hlen.resolve_left (by intro z; cases z)
    cases hs
    exact lv_sipush hx hb hdg rfl (k.same H ls locs hW hL hlo)
  | lconst n =>
    dsimp only at hs
    obtain rfl : len = 1 := hlen.resolve_left (by intro z; cases z)
    cases hs
    exact lv_lconst hx hb hdg rfl (k.same H ls locs hW hL hlo)
  | aconst_null  =>
    dsimp only at hs
    obtain rfl : len = 1 := hlen.resolve_left (by intro z; cases z)
    cases hs
    exact lv_null hx hb hdg (k.same H ls locs hW hL hlo)
  | fconst n =>
    dsimp only at hs
    obtain rfl : len = 1 := hlen.resolve_left (by intro z; cases z)
    split at hs
    · next hn =>
      cases hs
      obtain rfl : n = 0 := Fin.ext hn
      exact lv_fconst0 hx hb hdg (k.same H ls locs hW hL hlo)
    · cases hs
  | ldc_w x =>
    dsimp only at hs
    obtain rfl : len = 3 := hlen.resolve_left (by intro z; cases z)
    split at hs
    · next hn =>
      cases hs
      obtain ⟨h6, rfl⟩ := hn
      rw [h6] at hown
      exact lv_ldcw hx hb hown (hts _ pj_wK) hdg (k.same H ls locs hW hL hlo)
    · cases hs
  | ldc2_w x =>
    dsimp only at hs
    obtain rfl : len = 3 := hlen.resolve_left (by intro z; cases z)
    split at hs
    · next hn =>
      split at hs
      · next v hv =>
        cases hs
        rw [hn] at hown
        exact lv_ldc2 hx hb hown (hts _ (pj_lk_ok hv)) hdg (k.same H ls locs hW hL hlo)
      · cases hs
    · cases hs
  | iload_n q =>
    dsimp only at hs
    obtain rfl : len = 1 := hlen.resolve_left (by intro z; cases z)
    split at hs
    · next x hv =>
      cases hs
      exact lv_iload_n hx hb hdg rfl (hL.get hv) (k.same H ls locs hW hL hlo)
    · cases hs
  | iload q =>
    dsimp only at hs
    obtain rfl : len = 2 := hlen.resolve_left (by intro z; cases z)
    split at hs
    · next x hv =>
      cases hs
      exact lv_iload hx hb hdg (hL.get hv) (k.same H ls locs hW hL hlo)
    · cases hs
  | lload_n q =>
    dsimp only at hs
    obtain rfl : len = 1 := hlen.resolve_left (by intro z; cases z)
    split at hs
    · next x hv =>
      cases hs
      exact lv_lload_n hx hb hdg rfl (hL.get hv) (k.same H ls locs hW hL hlo)
    · cases hs
  | lload q =>
    dsimp only at hs
    obtain rfl : len = 2 := hlen.resolve_left (by intro z; cases z)
    split at hs
    · next x hv =>
      cases hs
      exact lv_lload hx hb hdg (hL.get hv) (k.same H ls locs hW hL hlo)
    · cases hs
  | fload_n q =>
    dsimp only at hs
    obtain rfl : len = 1 := hlen.resolve_left (by intro z; cases z)
    split at hs
    · next x hv =>
      cases hs
      exact lv_fload_n hx hb hdg rfl (hL.get hv) (k.same H ls locs hW hL hlo)
    · cases hs
  | dload q =>
    dsimp only at hs
    obtain rfl : len = 2 := hlen.resolve_left (by intro z; cases z)
    split at hs
    · next x hv =>
      cases hs
      exact lv_dload hx hb hdg (hL.get hv) (k.same H ls locs hW hL hlo)
    · cases hs
  | aload_n q =>
    dsimp only at hs
    obtain rfl : len = 1 := hlen.resolve_left (by intro z; cases z)
    split at hs
    · next x hv =>
      cases hs
      exact lv_aload_n hx hb hdg rfl (hL.get hv) (k.same H ls locs hW hL hlo)
    · next hv =>
      cases hs
      exact lv_aload_nN hx hb hdg rfl (hL.get hv) (k.same H ls locs hW hL hlo)
    · cases hs
  | aload q =>
    dsimp only at hs
    obtain rfl : len = 2 := hlen.resolve_left (by intro z; cases z)
    split at hs
    · next x hv =>
      cases hs
      exact lv_aload hx hb hdg (hL.get hv) (k.same H ls locs hW hL hlo)
    · next hv =>
      cases hs
      exact lv_aloadN hx hb hdg (hL.get hv) (k.same H ls locs hW hL hlo)
    · cases hs
  | istore_n q =>
    dsimp only at hs
    obtain rfl : len = 1 := hlen.resolve_left (by intro z; cases z)
    split at hs
    · next x r =>
      split at hs
      · next lv2 hv =>
        cases hs
        obtain ⟨g1, g2, rfl⟩ := pj_sto_of hv
        exact lv_istore_n hx hb hdg rfl hL g1 rfl fun ls' h' => k.same H ls' locs hW (hL.put1 g1 g2 h') hlo
      · cases hs
    · cases hs
  | istore q =>
    dsimp only at hs
    obtain rfl : len = 2 := hlen.resolve_left (by intro z; cases z)
    split at hs
    · next x r =>
      split at hs
      · next lv2 hv =>
        cases hs
        obtain ⟨g1, g2, rfl⟩ := pj_sto_of hv
        exact lv_istore hx hb hdg hL g1 rfl fun ls' h' => k.same H ls' locs hW (hL.put1 g1 g2 h') hlo
      · cases hs
    · cases hs
  | fstore_n q =>
    dsimp only at hs
    obtain rfl : len = 1 := hlen.resolve_left (by intro z; cases z)
    split at hs
    · next x r =>
      split at hs
      · next lv2 hv =>
        cases hs
        obtain ⟨g1, g2, rfl⟩ := pj_sto_of hv
        exact lv_fstore_n hx hb hdg rfl hL g1 rfl fun ls' h' => k.same H ls' locs hW (hL.put1 g1 g2 h') hlo
      · cases hs
    · cases hs
  | lstore_n q =>
    dsimp only at hs
    obtain rfl : len = 1 := hlen.resolve_left (by intro z; cases z)
    split at hs
    · next x r =>
      split at hs
      · next lv2 hv =>
        cases hs
        obtain ⟨g1, g2, rfl⟩ := pj_sto2_of hv
        exact lv_lstore_n hx hb hdg rfl hL g1 rfl fun ls' h' => k.same H ls' locs hW (hL.put2 g1 g2 h') hlo
      · cases hs
    · cases hs
  | lstore q =>
    dsimp only at hs
    obtain rfl : len = 2 := hlen.resolve_left (by intro z; cases z)
    split at hs
    · next x r =>
      split at hs
      · next lv2 hv =>
        cases hs
        obtain ⟨g1, g2, rfl⟩ := pj_sto2_of hv
        exact lv_lstore hx hb hdg hL g1 rfl fun ls' h' => k.same H ls' locs hW (hL.put2 g1 g2 h') hlo
      · cases hs
    · cases hs
  | dstore q =>
    dsimp only at hs
    obtain rfl : len = 2 := hlen.resolve_left (by intro z; cases z)
    split at hs
    · next x r =>
      split at hs
      · next lv2 hv =>
        cases hs
        obtain ⟨g1, g2, rfl⟩ := pj_sto2_of hv
        exact lv_dstore hx hb hdg hL g1 rfl fun ls' h' => k.same H ls' locs hW (hL.put2 g1 g2 h') hlo
      · cases hs
    · cases hs
  | astore_n q =>
    dsimp only at hs
    obtain rfl : len = 1 := hlen.resolve_left (by intro z; cases z)
    split at hs
    · next x r =>
      split at hs
      · next lv2 hv =>
        cases hs
        obtain ⟨g1, g2, rfl⟩ := pj_sto_of hv
        exact lv_astore_n hx hb hdg rfl hL g1 rfl fun ls' h' => k.same H ls' locs hW (hL.put1 g1 g2 h') hlo
      · cases hs
    · next r =>
      split at hs
      · next lv2 hv =>
        cases hs
        obtain ⟨g1, g2, rfl⟩ := pj_sto_of hv
        exact lv_astore_nN hx hb hdg rfl hL g1 rfl fun ls' h' => k.same H ls' locs hW (hL.put1 g1 g2 h') hlo
      · cases hs
    · cases hs
  | astore q =>
    dsimp only at hs
    obtain rfl : len = 2 := hlen.resolve_left (by intro z; cases z)
    split at hs
    · next x r =>
      split at hs
      · next lv2 hv =>
        cases hs
        obtain ⟨g1, g2, rfl⟩ := pj_sto_of hv
        exact lv_astore hx hb hdg hL g1 rfl fun ls' h' => k.same H ls' locs hW (hL.put1 g1 g2 h') hlo
      · cases hs
    · next r =>
      split at hs
      · next lv2 hv =>
        cases hs
        obtain ⟨g1, g2, rfl⟩ := pj_sto_of hv
        exact lv_astoreN hx hb hdg hL g1 rfl fun ls' h' => k.same H ls' locs hW (hL.put1 g1 g2 h') hlo
      · cases hs
    · cases hs
  | iinc q n =>
    dsimp only at hs
    obtain rfl : len = 3 := hlen.resolve_left (by intro z; cases z)
    split at hs
    · next x hv =>
      split at hs
      · next lv2 hs2 =>
        cases hs
        obtain ⟨g1, g2, rfl⟩ := pj_sto_of hs2
        have hm := (pj_ps_mem (a0 := a0) (b := s0.heap.size) lv 0 (q, .int x)).mpr ⟨q, .int x, pj_ld_at hv, by simp [pj_rv]⟩
        obtain ⟨kq, hkq⟩ := List.getElem?_of_mem hm
        exact lv_iinc hx hb hdg hL hkq rfl g1 rfl fun ls' h' => k.same H ls' locs hW (hL.put1 (v := .int (x + Int32.ofInt n)) g1 g2 h') hlo
      · cases hs
    · cases hs
  | iadd  =>
    dsimp only at hs
    obtain rfl : len = 1 := hlen.resolve_left (by intro z; cases z)
    split at hs
    · cases hs
      exact lv_iadd hx hb hdg (k.same H ls locs hW hL hlo)
    · cases hs
  | isub  =>
    dsimp only at hs
    obtain rfl : len = 1 := hlen.resolve_left (by intro z; cases z)
    split at hs
    · cases hs
      exact lv_isub hx hb hdg (k.same H ls locs hW hL hlo)
    · cases hs
  | imul  =>
    dsimp only at hs
    obtain rfl : len = 1 := hlen.resolve_left (by intro z; cases z)
    split at hs
    · cases hs
      exact lv_imul hx hb hdg (k.same H ls locs hW hL hlo)
    · cases hs
  | iand  =>
    dsimp only at hs
    obtain rfl : len = 1 := hlen.resolve_left (by intro z; cases z)
    split at hs
    · cases hs
      exact lv_iand hx hb hdg (k.same H ls locs hW hL hlo)
    · cases hs
  | ior  =>
    dsimp only at hs
    obtain rfl : len = 1 := hlen.resolve_left (by intro z; cases z)
    split at hs
    · cases hs
      exact lv_ior hx hb hdg (k.same H ls locs hW hL hlo)
    · cases hs
  | ixor  =>
    dsimp only at hs
    obtain rfl : len = 1 := hlen.resolve_left (by intro z; cases z)
    split at hs
    · cases hs
      exact lv_ixor hx hb hdg (k.same H ls locs hW hL hlo)
    · cases hs
  | ishl  =>
    dsimp only at hs
    obtain rfl : len = 1 := hlen.resolve_left (by intro z; cases z)
    split at hs
    · cases hs
      exact lv_ishl hx hb hdg (k.same H ls locs hW hL hlo)
    · cases hs
  | ishr  =>
    dsimp only at hs
    obtain rfl : len = 1 := hlen.resolve_left (by intro z; cases z)
    split at hs
    · cases hs
      exact lv_ishr hx hb hdg (k.same H ls locs hW hL hlo)
    · cases hs
  | ladd  =>
    dsimp only at hs
    obtain rfl : len = 1 := hlen.resolve_left (by intro z; cases z)
    split at hs
    · cases hs
      exact lv_ladd hx hb hdg (k.same H ls locs hW hL hlo)
    · cases hs
  | lsub  =>
    dsimp only at hs
    obtain rfl : len = 1 := hlen.resolve_left (by intro z; cases z)
    split at hs
    · cases hs
      exact lv_lsub hx hb hdg (k.same H ls locs hW hL hlo)
    · cases hs
  | land  =>
    dsimp only at hs
    obtain rfl : len = 1 := hlen.resolve_left (by intro z; cases z)
    split at hs
    · cases hs
      exact lv_land hx hb hdg (k.same H ls locs hW hL hlo)
    · cases hs
  | lor  =>
    dsimp only at hs
    obtain rfl : len = 1 := hlen.resolve_left (by intro z; cases z)
    split at hs
    · cases hs
      exact lv_lor hx hb hdg (k.same H ls locs hW hL hlo)
    · cases hs
  | iushr  =>
    dsimp only at hs
    obtain rfl : len = 1 := hlen.resolve_left (by intro z; cases z)
    split at hs
    · cases hs
      exact lv_iushr hx hb hdg rfl (k.same H ls locs hW hL hlo)
    · cases hs
  | lshl  =>
    dsimp only at hs
    obtain rfl : len = 1 := hlen.resolve_left (by intro z; cases z)
    split at hs
    · cases hs
      exact lv_lshl hx hb hdg rfl (k.same H ls locs hW hL hlo)
    · cases hs
  | lshr  =>
    dsimp only at hs
    obtain rfl : len = 1 := hlen.resolve_left (by intro z; cases z)
    split at hs
    · cases hs
      exact lv_lshr hx hb hdg rfl (k.same H ls locs hW hL hlo)
    · cases hs
  | lushr  =>
    dsimp only at hs
    obtain rfl : len = 1 := hlen.resolve_left (by intro z; cases z)
    split at hs
    · cases hs
      exact lv_lushr hx hb hdg rfl (k.same H ls locs hW hL hlo)
    · cases hs
  | i2l  =>
    dsimp only at hs
    obtain rfl : len = 1 := hlen.resolve_left (by intro z; cases z)
    split at hs
    · cases hs
      exact lv_i2l hx hb hdg rfl (k.same H ls locs hW hL hlo)
    · cases hs
  | l2i  =>
    dsimp only at hs
    obtain rfl : len = 1 := hlen.resolve_left (by intro z; cases z)
    split at hs
    · cases hs
      exact lv_l2i hx hb hdg rfl (k.same H ls locs hW hL hlo)
    · cases hs
  | lcmp  =>
    dsimp only at hs
    obtain rfl : len = 1 := hlen.resolve_left (by intro z; cases z)
    split at hs
    · cases hs
      exact W.lcmp hx hb hdg (k.same H ls locs hW hL hlo)
    · cases hs
  | i2f  =>
    dsimp only at hs
    obtain rfl : len = 1 := hlen.resolve_left (by intro z; cases z)
    split at hs
    · cases hs
      exact lv_i2f hx hb hdg (k.same H ls locs hW hL hlo)
    · cases hs
  | dcmp op =>
    dsimp only at hs
    obtain rfl : len = 1 := hlen.resolve_left (by intro z; cases z)
    split at hs
    · cases hs
      exact lv_dcmp hx hb hdg (k.same H ls locs hW hL hlo)
    · cases hs
  | fdiv  =>
    dsimp only at hs
    obtain rfl : len = 1 := hlen.resolve_left (by intro z; cases z)
    split at hs
    · split at hs
      · next hn =>
        cases hs
        exact lv_fdiv hx hb hdg hn (k.same H ls locs hW hL hlo)
      · cases hs
    · cases hs
  | f2d  =>
    dsimp only at hs
    obtain rfl : len = 1 := hlen.resolve_left (by intro z; cases z)
    split at hs
    · split at hs
      · next hn =>
        cases hs
        exact lv_f2d hx hb hdg hn (k.same H ls locs hW hL hlo)
      · cases hs
    · cases hs
  | dup  =>
    dsimp only at hs
    obtain rfl : len = 1 := hlen.resolve_left (by intro z; cases z)
    split at hs
    · split at hs
      · next hn =>
        cases hs
        exact lv_dup hx hb hdg (by rw [pj_rv_cat]; exact hn) (k.same H ls locs hW hL hlo)
      · cases hs
    · cases hs
  | dup_x1  =>
    dsimp only at hs
    obtain rfl : len = 1 := hlen.resolve_left (by intro z; cases z)
    split at hs
    · split at hs
      · next hn =>
        cases hs
        exact lv_dup_x1 hx hb hdg (by rw [pj_rv_cat]; exact hn.1) (by rw [pj_rv_cat]; exact hn.2) (k.same H ls locs hW hL hlo)
      · cases hs
    · cases hs
  | pop  =>
    dsimp only at hs
    obtain rfl : len = 1 := hlen.resolve_left (by intro z; cases z)
    split at hs
    · split at hs
      · next hn =>
        cases hs
        exact lv_pop hx hb hdg (by rw [pj_rv_cat]; exact hn) (k.same H ls locs hW hL hlo)
      · cases hs
    · cases hs
  | goto off =>
    dsimp only at hs
    obtain rfl : len = 3 := hlen.resolve_left (by intro z; cases z)
    split at hs
    · next t ht =>
      cases hs
      exact lv_goto hx hb hdg (pj_tg_ok ht) (k.same H ls locs hW hL hlo)
    · cases hs
  | if_icmp cnd off =>
    dsimp only at hs
    obtain rfl : len = 3 := hlen.resolve_left (by intro z; cases z)
    split at hs
    · split at hs
      · next t ht =>
        cases hs
        have k := k.same H ls locs hW hL hlo
        cases cnd with
        | eq => exact lv_icmp_eq hx hb hdg (pj_tg_ok ht) (fun hc => by simpa [pj_ic, hc] using k) (fun hc => by simpa [pj_ic, hc] using k)
        | ne => exact lv_icmp_ne hx hb hdg (pj_tg_ok ht) (fun hc => by simpa [pj_ic, hc] using k) (fun hc => by simpa [pj_ic, hc] using k)
        | lt => exact lv_icmp_lt hx hb hdg (pj_tg_ok ht) (fun hc => by simpa [pj_ic, hc] using k) (fun hc => by simpa [pj_ic, hc] using k)
        | ge => exact lv_icmp_ge hx hb hdg (pj_tg_ok ht) (fun hc => by simpa [pj_ic, hc] using k) (fun hc => by simpa [pj_ic, hc] using k)
        | gt => exact lv_icmp_gt hx hb hdg (pj_tg_ok ht) (fun hc => by simpa [pj_ic, hc] using k) (fun hc => by simpa [pj_ic, hc] using k)
        | le => exact lv_icmp_le hx hb hdg (pj_tg_ok ht) (fun hc => by simpa [pj_ic, hc] using k) (fun hc => by simpa [pj_ic, hc] using k)
      · cases hs
    · cases hs
  | ifCond cnd off =>
    dsimp only at hs
    obtain rfl : len = 3 := hlen.resolve_left (by intro z; cases z)
    split at hs
    · split at hs
      · next t ht =>
        cases hs
        have k := k.same H ls locs hW hL hlo
        cases cnd with
        | eq => exact lv_if_eq hx hb hdg (pj_tg_ok ht) (fun hc => by simpa [pj_ic, hc] using k) (fun hc => by simpa [pj_ic, hc] using k)
        | ne => exact lv_if_ne hx hb hdg (pj_tg_ok ht) (fun hc => by simpa [pj_ic, hc] using k) (fun hc => by simpa [pj_ic, hc] using k)
        | lt => exact lv_if_lt hx hb hdg (pj_tg_ok ht) (fun hc => by simpa [pj_ic, hc] using k) (fun hc => by simpa [pj_ic, hc] using k)
        | ge => exact lv_if_ge hx hb hdg (pj_tg_ok ht) (fun hc => by simpa [pj_ic, hc] using k) (fun hc => by simpa [pj_ic, hc] using k)
        | gt => exact lv_if_gt hx hb hdg (pj_tg_ok ht) (fun hc => by simpa [pj_ic, hc] using k) (fun hc => by simpa [pj_ic, hc] using k)
        | le => exact lv_if_le hx hb hdg (pj_tg_ok ht) (fun hc => by simpa [pj_ic, hc] using k) (fun hc => by simpa [pj_ic, hc] using k)
      · cases hs
    · cases hs
  | ifnull off =>
    dsimp only at hs
    obtain rfl : len = 3 := hlen.resolve_left (by intro z; cases z)
    split at hs
    · cases hs
      exact lv_ifnull hx hb hdg (k.same H ls locs hW hL hlo)
    · split at hs
      · next t ht =>
        cases hs
        exact lv_ifnullN hx hb hdg (pj_tg_ok ht) (k.same H ls locs hW hL hlo)
      · cases hs
    · cases hs
  | tableswitch d lo hi offs =>
    dsimp only at hs
    split at hs
    · split at hs
      · next hc =>
        split at hs
        · next t ht =>
          cases hs
          exact lv_tableOut hx hb hdg hc (pj_tg_ok ht) (k.same H ls locs hW hL hlo)
        · cases hs
      · next hc =>
        split at hs
        · next off ho =>
          split at hs
          · next t ht =>
            cases hs
            exact lv_tableIn hx hb hdg (fun z => hc (Or.inl z)) (fun z => hc (Or.inr z)) ho (pj_tg_ok ht) (k.same H ls locs hW hL hlo)
          · cases hs
        · cases hs
    · cases hs
  | getfield idx =>
    dsimp only at hs
    obtain rfl : len = 3 := hlen.resolve_left (by intro z; cases z)
    split at hs
    · next o r cl fk hf =>
      split at hs
      · next hc =>
        cases hs
        exact pj_Wget hx hb hts hown hK hf hc.1 hc.2 hW hdg (k.same H ls locs hW hL hlo)
      · cases hs
    · cases hs
  | putfield idx =>
    dsimp only at hs
    obtain rfl : len = 3 := hlen.resolve_left (by intro z; cases z)
    split at hs
    · next v o r cl fk hf =>
      split at hs
      · next hc =>
        split at hs
        · next σ2 hp =>
          cases hs
          have k := k
          rw [pj_put_n hp] at k
          exact pj_Wput hx hb hts hown hK hf hc.1 hc.2.1 hc.2.2 hin hp hW hlo hdg fun H' locs' hW' hlo' => k.same H' ls locs' hW' hL hlo'
        · cases hs
      · cases hs
    · cases hs
  | iaload  =>
    dsimp only at hs
    obtain rfl : len = 1 := hlen.resolve_left (by intro z; cases z)
    split at hs
    · split at hs
      · next hc =>
        cases hs
        exact pj_Wiald hx hb hc.1 hc.2.1 hc.2.2 hW hdg (k.same H ls locs hW hL hlo)
      · cases hs
    · cases hs
  | laload  =>
    dsimp only at hs
    obtain rfl : len = 1 := hlen.resolve_left (by intro z; cases z)
    split at hs
    · split at hs
      · next hc =>
        cases hs
        exact pj_Wlald hx hb hc.1 hc.2.1 hc.2.2 hW hdg (k.same H ls locs hW hL hlo)
      · cases hs
    · cases hs
  | aaload  =>
    dsimp only at hs
    obtain rfl : len = 1 := hlen.resolve_left (by intro z; cases z)
    split at hs
    · split at hs
      · next hc =>
        cases hs
        exact pj_Waald hx hb hc.1 hc.2.1 hc.2.2 hW hdg (k.same H ls locs hW hL hlo)
      · cases hs
    · cases hs
  | iastore  =>
    dsimp only at hs
    obtain rfl : len = 1 := hlen.resolve_left (by intro z; cases z)
    split at hs
    · split at hs
      · next hc =>
        cases hs
        exact pj_Wiast hx hb hc.1 hc.2.1 hc.2.2.1 hc.2.2.2 hW hlo hdg fun H' locs' hW' hlo' => k.same H' ls locs' hW' hL hlo'
      · cases hs
    · cases hs
  | lastore  =>
    dsimp only at hs
    obtain rfl : len = 1 := hlen.resolve_left (by intro z; cases z)
    split at hs
    · split at hs
      · next hc =>
        cases hs
        exact pj_Wlast hx hb hc.1 hc.2.1 hc.2.2 hW hlo hdg fun H' locs' hW' hlo' => k.same H' ls locs' hW' hL hlo'
      · cases hs
    · cases hs
  | aastore  =>
    dsimp only at hs
    obtain rfl : len = 1 := hlen.resolve_left (by intro z; cases z)
    split at hs
    · split at hs
      · next hc =>
        cases hs
        exact pj_Waast hx hb hK hc.1 hc.2.1 hc.2.2.1 hc.2.2.2.1 hc.2.2.2.2 hW hlo hdg fun H' locs' hW' hlo' => k.same H' ls locs' hW' hL hlo'
      · cases hs
    · cases hs
  | arraylength  =>
    dsimp only at hs
    obtain rfl : len = 1 := hlen.resolve_left (by intro z; cases z)
    split at hs
    · split at hs
      · next hc =>
        cases hs
        exact pj_Walen hx hb hc.1 hc.2 hW hdg (k.same H ls locs hW hL hlo)
      · cases hs
    · cases hs
  | new idx =>
    dsimp only at hs
    obtain rfl : len = 3 := hlen.resolve_left (by intro z; cases z)
    split at hs
    · next cl hf =>
      split at hs
      · next hc =>
        cases hs
        have e1 : pj_cnt (pj_new σ).1 = pj_cnt σ.1 + 1 := pj_cnt_inc σ.1
        rw [e1, Nat.add_sub_cancel_left] at hcells hslots k
        rw [Nat.mul_one] at hslots k
        exact pj_Wnew hx hb hts hown hK hf hc.1 hc.2.1 hc.2.2 hcells hslots hW hdg fun H' hW' => k H' ls locs hW' hL hlo
      · cases hs
    · cases hs
  | newarray t =>
    dsimp only at hs
    obtain rfl : len = 2 := hlen.resolve_left (by intro z; cases z)
    split at hs
    · split at hs
      · next hc =>
        cases hs
        have e1 : pj_cnt (pj_new σ).1 = pj_cnt σ.1 + 1 := pj_cnt_inc σ.1
        rw [e1, Nat.add_sub_cancel_left] at hcells hslots k
        rw [Nat.mul_one] at hslots k
        exact pj_Wnewa hx hb hts hc.1 hc.2.1 hc.2.2 hcells hslots hW hdg fun H' hW' => k H' ls locs hW' hL hlo
      · cases hs
    · cases hs
  | anewarray idx =>
    dsimp only at hs
    obtain rfl : len = 3 := hlen.resolve_left (by intro z; cases z)
    split at hs
    · split at hs
      · next hc =>
        cases hs
        have e1 : pj_cnt (pj_new σ).1 = pj_cnt σ.1 + 1 := pj_cnt_inc σ.1
        rw [e1, Nat.add_sub_cancel_left] at hcells hslots k
        rw [Nat.mul_one] at hslots k
        obtain ⟨c1, rfl, c3, c4, c5⟩ := hc
        rw [c1] at hown
        exact pj_Wanew hx hb hts hO hown c3 c4 c5 hcells hslots hW hdg fun H' hW' => k H' ls locs hW' hL hlo
      · cases hs
    · cases hs
  | multianewarray idx dm =>
    dsimp only at hs
    obtain rfl : len = 4 := hlen.resolve_left (by intro z; cases z)
    split at hs
    · split at hs
      · next hc =>
        cases hs
        obtain ⟨c1, rfl, rfl, rfl, rfl, c6⟩ := hc
        rw [c1] at hown
        have e1 : pj_cnt (pj_grid σ).1 - pj_cnt σ.1 = 41 := by rw [c6]; rfl
        rw [e1] at hcells hslots k
        exact pj_Wgrid hx hb hts hO2 hown c6 hcells hslots hW hdg fun H' hW' => k H' ls locs hW' hL hlo
      · cases hs
    · cases hs
  | _ => cases hs
end PJS
end
section
/-! the methods' words, by their places in the tables; printed by gen/emit_meth.py -/
def pj_cw (M : pj_Mi) : Cond := if M.2.2.1 = [] then .code M.1.1 M.1.2.1 M.1.2.2.1 M.1.2.2.2 else .codeWith M.1.1 M.1.2.1 M.1.2.2.1 M.1.2.2.2 M.2.2.1
def pj_mw (M : pj_Mi) : List Cond := [pj_cw M, .initialized M.1.1.cls] ++ (if M.2.1.2.1 = 0 then [.static M.1.1] else if M.2.1.2.1 = 1 then [.instanceMethod M.1.1, .selects M.1.1.cls M.1.1 M.1.1] else [.instanceMethod M.1.1])
theorem pj_mws_0 : ∀ w ∈ ([gX0_pin, gX0_lay, gX0_layAny, gX0_segment, gX0_level, gX0_upright, gX0_via, gX0_net, gX0_count, gX1_init, gX1_ring, gX1_density, gX1_kind, gX1_pins] : List pj_Mi).flatMap pj_mw, w ∈ lw_all := lw_in (([gX0_pin, gX0_lay, gX0_layAny, gX0_segment, gX0_level, gX0_upright, gX0_via, gX0_net, gX0_count, gX1_init, gX1_ring, gX1_density, gX1_kind, gX1_pins] : List pj_Mi).flatMap pj_mw) [239, 46, 238, 366, 46, 365, 436, 46, 435, 443, 46, 442, 450, 46, 449, 457, 46, 456, 472, 46, 471, 483, 46, 482, 490, 46, 489, 66, 47, 65, 167, 47, 165, 166, 171, 47, 169, 170, 175, 47, 174, 0, 179, 47, 178, 1] (by decide +kernel) (by decide +kernel)
theorem pj_mws_1 : ∀ w ∈ ([gX1_left, gX1_has, gX1_right, gX1_pairs, gX1_plan, gX1_cut, gX1_order, gX1_used, gX1_tracks, gX1_pin, gX1_among, gX1_allow, gX1_lay, gX1_noSingle] : List pj_Mi).flatMap pj_mw, w ∈ lw_all := lw_in (([gX1_left, gX1_has, gX1_right, gX1_pairs, gX1_plan, gX1_cut, gX1_order, gX1_used, gX1_tracks, gX1_pin, gX1_among, gX1_allow, gX1_lay, gX1_noSingle] : List pj_Mi).flatMap pj_mw) [183, 47, 182, 2, 187, 47, 186, 3, 191, 47, 190, 4, 198, 47, 196, 197, 202, 47, 201, 5, 206, 47, 205, 6, 218, 47, 217, 7, 232, 47, 230, 231, 236, 47, 235, 8, 321, 47, 319, 320, 324, 47, 323, 348, 47, 347, 371, 47, 369, 370, 375, 47, 374, 10] (by decide +kernel) (by decide +kernel)
theorem pj_mws_2 : ∀ w ∈ ([gX1_tried, gX1_layAll, gX1_searchRing, gX1_inRing, gX1_leading, gX1_fill, gX1_ready, gX1_draw, gX1_refuse, gX1_layAny, gX1_segment, gX1_level, gX1_upright, gX1_uprightAt] : List pj_Mi).flatMap pj_mw, w ∈ lw_all := lw_in (([gX1_tried, gX1_layAll, gX1_searchRing, gX1_inRing, gX1_leading, gX1_fill, gX1_ready, gX1_draw, gX1_refuse, gX1_layAny, gX1_segment, gX1_level, gX1_upright, gX1_uprightAt] : List pj_Mi).flatMap pj_mw) [379, 47, 378, 11, 384, 47, 383, 12, 388, 47, 387, 13, 392, 47, 391, 14, 396, 47, 395, 15, 421, 47, 420, 16, 425, 47, 424, 17, 429, 47, 428, 18, 433, 47, 432, 19, 440, 47, 438, 439, 447, 47, 445, 446, 454, 47, 452, 453, 461, 47, 459, 460, 465, 47, 464, 20] (by decide +kernel) (by decide +kernel)
theorem pj_mws_3 : ∀ w ∈ ([gX1_reach, gX1_via, gX1_joined, gX1_net, gX1_count, gX2_init, gX2_add, gX3_init, gX3_begin, gX3_touch, gX4_init, gX4_thrown, gX4_pin, gX4_in] : List pj_Mi).flatMap pj_mw, w ∈ lw_all := lw_in (([gX1_reach, gX1_via, gX1_joined, gX1_net, gX1_count, gX2_init, gX2_add, gX3_init, gX3_begin, gX3_touch, gX4_init, gX4_thrown, gX4_pin, gX4_in] : List pj_Mi).flatMap pj_mw) [469, 47, 468, 21, 476, 47, 474, 475, 480, 47, 479, 22, 487, 47, 485, 486, 494, 47, 492, 493, 74, 48, 73, 210, 48, 208, 209, 81, 49, 80, 214, 49, 212, 213, 222, 49, 220, 221, 499, 50, 498, 575, 50, 573, 574, 579, 50, 577, 578, 582, 50, 581] (by decide +kernel) (by decide +kernel)
theorem pj_mws_4 : ∀ w ∈ ([gX4_lay, gX4_anySingle, gX4_sort, gX4_pinsOf, gX4_columns, gX4_lowest, gX4_highest, gX4_fail, gX4_study, gX4_makeSegments, gX4_segmentOf, gX4_touching, gX4_noRing, gX4_inRing] : List pj_Mi).flatMap pj_mw, w ∈ lw_all := lw_in (([gX4_lay, gX4_anySingle, gX4_sort, gX4_pinsOf, gX4_columns, gX4_lowest, gX4_highest, gX4_fail, gX4_study, gX4_makeSegments, gX4_segmentOf, gX4_touching, gX4_noRing, gX4_inRing] : List pj_Mi).flatMap pj_mw) [586, 50, 584, 585, 590, 50, 589, 23, 594, 50, 593, 24, 598, 50, 597, 25, 602, 50, 601, 26, 605, 50, 604, 608, 50, 607, 612, 50, 611, 27, 616, 50, 615, 28, 620, 50, 619, 29, 624, 50, 623, 30, 628, 50, 627, 31, 632, 50, 631, 32, 636, 50, 635, 33] (by decide +kernel) (by decide +kernel)
theorem pj_mws_5 : ∀ w ∈ ([gX4_has, gX4_tellRing, gX4_countSteps, gX4_layNow, gX4_fill, gX4_nextFor, gX4_free, gX4_layAny, gX4_ring, gX4_segment, gX4_level, gX4_out, gX4_levelAt, gX4_upright] : List pj_Mi).flatMap pj_mw, w ∈ lw_all := lw_in (([gX4_has, gX4_tellRing, gX4_countSteps, gX4_layNow, gX4_fill, gX4_nextFor, gX4_free, gX4_layAny, gX4_ring, gX4_segment, gX4_level, gX4_out, gX4_levelAt, gX4_upright] : List pj_Mi).flatMap pj_mw) [639, 50, 638, 643, 50, 642, 34, 647, 50, 646, 35, 651, 50, 650, 36, 655, 50, 654, 37, 659, 50, 658, 38, 663, 50, 662, 39, 667, 50, 665, 666, 671, 50, 669, 670, 675, 50, 673, 674, 679, 50, 677, 678, 683, 50, 682, 40, 687, 50, 686, 41, 691, 50, 689, 690] (by decide +kernel) (by decide +kernel)
theorem pj_mws_6 : ∀ w ∈ ([gX4_uprightAt, gX4_lies, gX4_via, gX4_viaAt, gX4_density, gX4_pairs, gX4_net, gX4_count, gX4_vias, gX4_used, gJ7_bitCount, gJ7_numberOfTrailingZeros, gJ8_numberOfTrailingZeros, gJ10_max] : List pj_Mi).flatMap pj_mw, w ∈ lw_all := lw_in (([gX4_uprightAt, gX4_lies, gX4_via, gX4_viaAt, gX4_density, gX4_pairs, gX4_net, gX4_count, gX4_vias, gX4_used, gJ7_bitCount, gJ7_numberOfTrailingZeros, gJ8_numberOfTrailingZeros, gJ10_max] : List pj_Mi).flatMap pj_mw) [695, 50, 694, 42, 699, 50, 698, 43, 703, 50, 701, 702, 707, 50, 706, 44, 711, 50, 709, 710, 715, 50, 713, 714, 719, 50, 717, 718, 723, 50, 721, 722, 727, 50, 726, 45, 731, 50, 729, 730, 225, 58, 224, 399, 58, 398, 402, 59, 401, 194, 61, 193] (by decide +kernel) (by decide +kernel)
theorem pj_mts_w {M : pj_Mi} (hM : M ∈ pj_mts) : ∀ w ∈ pj_mw M, w ∈ lw_all := by
  have e : pj_mts = [gX0_pin, gX0_lay, gX0_layAny, gX0_segment, gX0_level, gX0_upright, gX0_via, gX0_net, gX0_count, gX1_init, gX1_ring, gX1_density, gX1_kind, gX1_pins] ++ [gX1_left, gX1_has, gX1_right, gX1_pairs, gX1_plan, gX1_cut, gX1_order, gX1_used, gX1_tracks, gX1_pin, gX1_among, gX1_allow, gX1_lay, gX1_noSingle] ++ [gX1_tried, gX1_layAll, gX1_searchRing, gX1_inRing, gX1_leading, gX1_fill, gX1_ready, gX1_draw, gX1_refuse, gX1_layAny, gX1_segment, gX1_level, gX1_upright, gX1_uprightAt] ++ [gX1_reach, gX1_via, gX1_joined, gX1_net, gX1_count, gX2_init, gX2_add, gX3_init, gX3_begin, gX3_touch, gX4_init, gX4_thrown, gX4_pin, gX4_in] ++ [gX4_lay, gX4_anySingle, gX4_sort, gX4_pinsOf, gX4_columns, gX4_lowest, gX4_highest, gX4_fail, gX4_study, gX4_makeSegments, gX4_segmentOf, gX4_touching, gX4_noRing, gX4_inRing] ++ [gX4_has, gX4_tellRing, gX4_countSteps, gX4_layNow, gX4_fill, gX4_nextFor, gX4_free, gX4_layAny, gX4_ring, gX4_segment, gX4_level, gX4_out, gX4_levelAt, gX4_upright] ++ [gX4_uprightAt, gX4_lies, gX4_via, gX4_viaAt, gX4_density, gX4_pairs, gX4_net, gX4_count, gX4_vias, gX4_used, gJ7_bitCount, gJ7_numberOfTrailingZeros, gJ8_numberOfTrailingZeros, gJ10_max] := rfl
  rw [e] at hM
  intro w hw
  simp only [List.mem_append] at hM
  rcases hM with (((((h | h) | h) | h) | h) | h) | h
  · exact pj_mws_0 w (List.mem_flatMap.mpr ⟨M, h, hw⟩)
  · exact pj_mws_1 w (List.mem_flatMap.mpr ⟨M, h, hw⟩)
  · exact pj_mws_2 w (List.mem_flatMap.mpr ⟨M, h, hw⟩)
  · exact pj_mws_3 w (List.mem_flatMap.mpr ⟨M, h, hw⟩)
  · exact pj_mws_4 w (List.mem_flatMap.mpr ⟨M, h, hw⟩)
  · exact pj_mws_5 w (List.mem_flatMap.mpr ⟨M, h, hw⟩)
  · exact pj_mws_6 w (List.mem_flatMap.mpr ⟨M, h, hw⟩)
/-- plain facts of the methods -/
def pj_mf (M : pj_Mi) : Bool := plainFor M.1.1 && decide (M.1.1.cls ≠ "java/lang/invoke/MethodHandle" ∧ M.1.1.cls ≠ "java/lang/invoke/VarHandle") && decide (M.1.1.cls = pj_cn M.2.1.1) && decide (M.2.1.2.1 = 2 → M.1.1.name = "<init>") && decide (M.1.2.2.1 ≤ 21) && decide ((parseMethodDescriptor M.1.1.desc).map (fun q => q.parameters.length) = some M.2.1.2.2) && decide (M.2.1.2.1 ≤ 2) && decide (M.2.1.2.1 = 2 → M.1.2.2.2.isNone = true)
theorem pj_mf_ok : pj_mts.all pj_mf = true := by decide +kernel
theorem pj_mf_of {M : pj_Mi} (h : M ∈ pj_mts) : plainFor M.1.1 = true ∧ (M.1.1.cls ≠ "java/lang/invoke/MethodHandle" ∧ M.1.1.cls ≠ "java/lang/invoke/VarHandle") ∧ M.1.1.cls = pj_cn M.2.1.1 ∧ (M.2.1.2.1 = 2 → M.1.1.name = "<init>") ∧ M.1.2.2.1 ≤ 21 ∧ (parseMethodDescriptor M.1.1.desc).map (fun q => q.parameters.length) = some M.2.1.2.2 ∧ M.2.1.2.1 ≤ 2 ∧ (M.2.1.2.1 = 2 → M.1.2.2.2.isNone = true) := by
  have := List.all_eq_true.mp pj_mf_ok M h
  simp only [pj_mf, Bool.and_eq_true, decide_eq_true_eq] at this
  obtain ⟨⟨⟨⟨⟨⟨⟨h1, h2⟩, h3⟩, h4⟩, h5⟩, h6⟩, h7⟩, h8⟩ := this
  exact ⟨h1, h2, h3, h4, h5, h6, h7, h8⟩
/-- links of methods -/
def pj_lw (g : Nat) (e : Nat × Nat) : Option Cond := if e.2 = 999 then some (.methodLink (pj_cn g) e.1 Lib.objectInit) else (pj_mts[e.2]?).map fun M => .methodLink (pj_cn g) e.1 M.1.1
def pj_mlw (g : Nat) : List Cond := ((pj_ml g).filter (fun e => !(g == 2 && e.1 == 17))).filterMap (pj_lw g)
theorem pj_mlw0 : ∀ w ∈ pj_mlw 0, w ∈ lw_all := lw_in (pj_mlw 0) [318, 368, 437, 444, 451, 458, 473, 484, 491, 64, 497, 237, 576, 572, 364, 583, 434, 664, 164, 668, 441, 672, 448, 676, 455, 688, 470, 700, 168, 708, 195, 712, 481, 716, 488, 720, 229, 728] (by decide +kernel) (by decide +kernel)
theorem pj_mlw1 : ∀ w ∈ pj_mlw 1, w ∈ lw_all := lw_in (pj_mlw 1) [67, 72, 184, 176, 180, 188, 322, 346, 172, 203, 215, 207, 219, 393, 389, 397, 422, 199, 385, 418, 426, 372, 376, 430, 381, 233, 466, 462, 477, 192, 223] (by decide +kernel) (by decide +kernel)
theorem pj_mlw2 : ∀ w ∈ pj_mlw 2, w ∈ lw_all := lw_in (pj_mlw 2) [75, 211] (by decide +kernel) (by decide +kernel)
theorem pj_mlw3 : ∀ w ∈ pj_mlw 3, w ∈ lw_all := lw_in (pj_mlw 3) [82] (by decide +kernel) (by decide +kernel)
theorem pj_mlw4 : ∀ w ∈ pj_mlw 4, w ∈ lw_all := lw_in (pj_mlw 4) [500, 580, 595, 599, 603, 606, 591, 621, 617, 625, 637, 644, 660, 656, 652, 633, 640, 587, 609, 613, 629, 648, 680, 684, 696, 692, 704, 724] (by decide +kernel) (by decide +kernel)
theorem pj_mlw5 : ∀ w ∈ pj_mlw 5, w ∈ lw_all := lw_in (pj_mlw 5) [400] (by decide +kernel) (by decide +kernel)
theorem pj_mlw_in : ∀ g, ∀ w ∈ pj_mlw g, w ∈ lw_all
  | 0 => pj_mlw0
  | 1 => pj_mlw1
  | 2 => pj_mlw2
  | 3 => pj_mlw3
  | 4 => pj_mlw4
  | 5 => pj_mlw5
  | _ + 6 => fun w h => by cases h
theorem pj_mr_ok {g idx k : Nat} {M : pj_Mi} (h : pj_mr g idx = some k) (hk : k ≠ 999) (hM : pj_mts[k]? = some M) (hne : ¬ (g = 2 ∧ idx = 17)) : Cond.methodLink (pj_cn g) idx M.1.1 ∈ lw_all := by
  refine pj_mlw_in g _ (List.mem_filterMap.mpr ⟨(idx, k), List.mem_filter.mpr ⟨pj_lkp h, ?_⟩, ?_⟩)
  · simp only [Bool.not_eq_true', Bool.and_eq_false_iff, beq_eq_false_iff_ne]
    by_cases e : g = 2
    · exact Or.inr fun z => hne ⟨e, z⟩
    · exact Or.inl e
  · unfold pj_lw
    rw [if_neg hk, hM]
    rfl
theorem pj_mr_obj {g idx : Nat} (h : pj_mr g idx = some 999) : Cond.methodLink (pj_cn g) idx Lib.objectInit ∈ lw_all := by
  refine pj_mlw_in g _ (List.mem_filterMap.mpr ⟨(idx, 999), List.mem_filter.mpr ⟨pj_lkp h, ?_⟩, rfl⟩)
  simp only [Bool.not_eq_true', Bool.and_eq_false_iff, beq_eq_false_iff_ne]
  by_cases e : g = 2
  · refine Or.inr fun z => ?_
    subst e; subst z
    cases h
  · exact Or.inl e
theorem pj_nest_only {g idx k : Nat} {M : pj_Mi} (h : pj_mr g idx = some k) (hM : pj_mts[k]? = some M) (hne : g = 2 ∧ idx = 17) : M = gX3_init := by
  obtain ⟨rfl, rfl⟩ := hne
  cases h
  cases hM
  rfl
theorem pj_wObjI : Cond.instanceMethod Lib.objectInit ∈ lw_all := lw_in [Cond.instanceMethod Lib.objectInit] [68] (by decide +kernel) (by decide +kernel) _ List.mem_cons_self
theorem pj_wObjC : Cond.code Lib.objectInit ⟨#[0xb1]⟩ 1 none ∈ lw_all := lw_in [Cond.code Lib.objectInit ⟨#[0xb1]⟩ 1 none] [69] (by decide +kernel) (by decide +kernel) _ List.mem_cons_self
theorem pj_cw_spec {M : pj_Mi} {args : Array Value} {s : State} (h : (pj_cw M).before args s = true) :
    ∃ m meth c, s.methodNamed? M.1.1 = some m ∧ s.vm.method? m = some meth ∧ meth.code = some c ∧ c.code = M.1.2.1 ∧ c.maxLocals = M.1.2.2.1 ∧
      c.exceptionTable.toList.map (fun h => (h.startPc, h.endPc, h.handlerPc, h.catchType)) = M.2.2.1 ∧ meth.sig.returnType = M.1.2.2.2 ∧ meth.locks = false ∧ parseMethodDescriptor M.1.1.desc = some meth.sig := by
  unfold pj_cw at h
  split at h
  · next e =>
    obtain ⟨m, hn⟩ := Cond.code_named h
    obtain ⟨meth, c, h1, h2, h3, h4, h5, h6, h7, h8⟩ := Cond.code_spec hn h
    refine ⟨m, meth, c, hn, h1, h2, h3, h4, ?_, h5, h6, h8⟩
    have : c.exceptionTable = #[] := by simpa using h7
    rw [this, e]
    rfl
  · exact Cond.codeWith_spec h
end
section
/-! words that go along with a run: the tables' own, and those of the three exceptions; printed by gen/emit_exc.py -/
theorem pj_tblAt {i : Nat} {w : Cond} (h : lw_tbl[i]? = some w) : w ∈ lw_tbl := List.mem_of_getElem? h
def pj_wok : Cond → Bool
  | .laysStatic .. => true
  | .isRef (.static ..) => true
  | .not (.castable ..) => true
  | w => w.onTables && w.keepsFace
/-- the tables are warmer, the old cells are as they were -/
def pj_Go (s0 s : State) : Prop := s0.WarmedH s.vm ∧ ∀ q : Nat, q < s0.heap.size → s.heap[q]? = s0.heap[q]?
theorem pj_wAt {args args' : Array Value} {s0 s : State} (hG : pj_Go s0 s) {w : Cond} (hk : pj_wok w = true) (h : w.before args s0 = true) : w.before args' s = true := by
  obtain ⟨hW, hH⟩ := hG
  have tab : ∀ w : Cond, w.onTables = true → w.keepsFace = true → w.before args s0 = true → w.before args' s = true := fun w h1 h2 h3 =>
    va_tabs h1 (rfl : (s0.setVm s.vm).vm = s.vm) (Cond.before_shiftedFace (State.Shifted.of_warmed hW) w h2 h3)
  have hst : ∀ (C n d : String), (Term.static C n d).eval args (s0.setVm s.vm) none [] (s0.setVm s.vm) ≠ none → (Term.static C n d).eval args' s none [] s = (Term.static C n d).eval args (s0.setVm s.vm) none [] (s0.setVm s.vm) := by
    intro C n d hne
    have hf : s.fieldNamed? C n d true = (s0.setVm s.vm).fieldNamed? C n d true := rfl
    simp only [Term.eval] at hne ⊢
    rw [hf]
    cases hfn : (s0.setVm s.vm).fieldNamed? C n d true with
    | none => rfl
    | some q =>
      obtain ⟨c1, k, slot⟩ := q
      rw [hfn] at hne
      simp only [Option.bind_eq_bind, Option.bind_some] at hne ⊢
      cases hs : k.statics with
      | none => rfl
      | some ad =>
        rw [hs] at hne
        simp only [Option.bind_some] at hne ⊢
        have : (s0.setVm s.vm).heap[ad]? = s0.heap[ad]? := rfl
        rw [this] at hne ⊢
        cases hc : s0.heap[ad]? with
        | none => rw [hc] at hne; exact absurd rfl hne
        | some cell => rw [hH ad (Array.getElem?_eq_some_iff.mp hc).1, hc]
  unfold pj_wok at hk
  split at hk
  · next o n d =>
    have h1 := Cond.before_shiftedFace (State.Shifted.of_warmed hW) (.laysStatic o n d) rfl h
    simp only [Cond.before, Cond.holds, Cond.value] at h1 ⊢
    have hf : s.fieldFound? o n d = (s0.setVm s.vm).fieldFound? o n d := rfl
    have hc : s.vm.findClass o = (s0.setVm s.vm).vm.findClass o := rfl
    rw [hf, hc]
    cases hfn : (s0.setVm s.vm).vm.findClass o with
    | none => rw [hfn] at h1; exact h1
    | some c1 =>
      rw [hfn] at h1
      cases hff : (s0.setVm s.vm).fieldFound? o n d with
      | none => rw [hff] at h1; exact h1
      | some q =>
        obtain ⟨c2, k, i2, f⟩ := q
        rw [hff] at h1
        simp only at h1 ⊢
        cases hs : k.statics with
        | none => rw [hs] at h1; exact h1
        | some ad =>
          rw [hs] at h1
          simp only [Option.bind_some] at h1 ⊢
          have : (s0.setVm s.vm).heap[ad]? = s0.heap[ad]? := rfl
          rw [this] at h1
          cases hcl : s0.heap[ad]? with
          | none => rw [hcl] at h1; cases h1
          | some cell =>
            rw [hcl] at h1
            rw [hH ad (Array.getElem?_eq_some_iff.mp hcl).1, hcl]
            exact h1
  · next C n d =>
    have h1 := Cond.before_shiftedFace (State.Shifted.of_warmed hW) (.isRef (.static C n d)) rfl h
    simp only [Cond.before, Cond.holds, Cond.value] at h1 ⊢
    rw [hst C n d (by intro z; rw [z] at h1; cases h1)]
    exact h1
  · next A B =>
    have h1 := Cond.castAtom_setVm hW.alike (.not (.castable A B)) rfl h
    exact h1
  · simp only [Bool.and_eq_true] at hk
    exact tab _ hk.1 hk.2 h
theorem pj_allAt {args args' : Array Value} {s0 s : State} (hW : s0.WarmedH s.vm) (hts : ∀ w ∈ lw_tbl, w.before args s0 = true) : ∀ w ∈ lw_all, w.before args' s = true := fun w hw =>
  word_at hW (good_of_word (List.mem_filter.mp hw).2) (hts w (lw_all_tbl hw))
def pj_ex20 : List Cond := Bundle.ownAtoms0 "ChannelRouter" 39 "java/lang/IndexOutOfBoundsException" ["java/lang/RuntimeException", "java/lang/Exception"]
def pj_ex21 : List Cond := Bundle.ownAtoms0 "ChannelRouter" 42 "java/lang/IllegalArgumentException" ["java/lang/RuntimeException", "java/lang/Exception"]
def pj_ex22 : List Cond := Bundle.ownAtoms0 "ChannelRouter" 132 "java/lang/IllegalStateException" ["java/lang/RuntimeException", "java/lang/Exception"]
def pj_exs (x : Nat) : List Cond := if x = 20 then pj_ex20 else if x = 21 then pj_ex21 else pj_ex22
theorem pj_ex_ok : pj_ex20.all pj_wok = true ∧ pj_ex21.all pj_wok = true ∧ pj_ex22.all pj_wok = true := by decide +kernel
def pj_ref2 : List Cond := [.isRef (.static Bundle.tN "UNASSIGNED_STACK" Bundle.steD), .isRef (.static Bundle.tN "SUPPRESSED_SENTINEL" Bundle.listD)]
theorem pj_ex_in : (∀ w ∈ pj_ex20, w ∈ pj_ref2 ∨ w ∈ lw_tbl) ∧ (∀ w ∈ pj_ex21, w ∈ pj_ref2 ∨ w ∈ lw_tbl) ∧ (∀ w ∈ pj_ex22, w ∈ pj_ref2 ∨ w ∈ lw_tbl) := by decide +kernel
end
section
/-! a throw of one's own, the heap kept in sight: the road of the library's ctorThrow0, with what it says of the heap -/
section PJT
variable {p : Program} {l : Launch} {e : Env} {R : Room} {s : State} {m : MethodId} {args : Array Value} {below : List Frame} {meth : Method} {c : Code} {T : State} {locs : List Loc} {cells slots : Nat}
set_option maxHeartbeats 1000000 in
theorem pj_ctor (X : Stand p l e R s m args below meth c T locs cells slots) (hexec : p.tables.exec = Jvm.exec) (htr : e.platform.stackTraces = false) {own cls : String} {names : List String} {ic : Nat}
    (hown : s.vm.findClass own = some m.cls) (hcls : Bundle.fit cls = true) (hnames : ∀ n ∈ names, Bundle.fit n = true)
    (h : ∀ a ∈ Bundle.ownAtoms0 own ic cls names, a.before args s = true)
    (hlocs : ∀ x ∈ locs, ∀ cell, s.heap[x.base]? = some cell → cell.vm.isStatics = false)
    {a : Addr} {cX : ClassId} {kX : Class} (hfX : s.vm.findClass cls = some cX) (hkX : s.vm.classes[cX]? = some kX) (hcell : T.heap[a]? = some (freshCell cX kX)) (hnew : s.heap.size ≤ a)
    {g : JFrame} (hg : g.method = m) (hsize : g.locals.size = c.maxLocals) (hlk : g.locked = none) (hent : g.entered = []) {rest : List Value} (hstack : g.stack = .ref a :: .ref a :: rest)
    (hd6 : decode c.code g.pc = .ok (.invokespecial ic, 3)) (hd9 : decode c.code (g.pc + 3) = .ok (.athrow, 1)) (hout : ∀ x ∈ c.exceptionTable.toList, covers x (g.pc + 3) = false)
    (hRf : names.length + 3 < R.frames) (hRl : 2 * g.monitorRoom + ((Value.ref a :: rest).map fun v => v.category).sum + (13 * (names.length + 1) + 41) ≤ R.locals) (hlocks : meth.locks = false) :
    ∃ (U : State) (ce : Cell) (Lx : List Loc), Steps p.tables e below (T.setTop g) U ∧ U.status = .running ∧ Ended U below (.threw a) ∧ s.WarmedH U.vm ∧ s.sameButNew ({ U with vm := s.vm } : State) (locs ++ Lx) cells slots ∧
      (∀ y ∈ Lx, y.base = a) ∧ U.heap = T.heap.setIfInBounds a ce ∧ ce.cls = cX ∧ ce.vm = .none := by
  have hpl : e.platform.magicAccessors = ({} : Platform).magicAccessors := by rw [X.admits.platform]
  have at0 : ∀ x, x ∈ Bundle.ownAtoms0 own ic cls names → x.holds args s none s [] = true := fun x hx => h x hx
  obtain ⟨TT, Z, K, KZ, Y⟩ := ThrowableC.of_atoms (args := args) (pl := e.platform) (by rw [X.admits.platform]) (by rw [X.admits.platform]) hpl (fun x hx => h x (by simp [Bundle.ownAtoms0, hx]))
  obtain ⟨P1, Ps, hlen, L1, hPs, hP1m, hl1, hl2⟩ := Bundle.chain0 (args := args) hpl Y.init0 names cls hcls hnames (fun x hx => h x (by simp [Bundle.ownAtoms0, hx]))
  have hf1 : s.vm.findClass cls = some P1.m.cls := findClass_of_methodNamed hP1m
  cases Option.some.inj (hfX.symm.trans hf1)
  obtain ⟨c1, kX', hc1, hk, hord, -, -, hn6⟩ := Cond.instantiable_spec (at0 (.instantiable cls 6) (by simp [Bundle.ownAtoms0]))
  cases Option.some.inj (hc1.symm.trans hf1)
  cases Option.some.inj (hkX.symm.trans hk)
  have sel : ∀ (y : MethodName) (my : MethodId), (Cond.selects cls y y) ∈ Bundle.ownAtoms0 own ic cls names → s.methodNamed? y = some my → (y.cls ≠ "java/lang/invoke/MethodHandle" ∧ y.cls ≠ "java/lang/invoke/VarHandle") → selectMethod e.platform s.vm P1.m.cls my = .method my := by
    intro y my hin hy hyn
    obtain ⟨c2, r2, m2, q1, q2, q3, q4, -⟩ := Cond.selects_spec (at0 _ hin)
    cases Option.some.inj (q1.symm.trans hf1)
    cases Option.some.inj (q2.symm.trans (State.methodFound?_of_named hy hyn))
    cases Option.some.inj (q3.symm.trans hy)
    rw [Launch.admits_selectMethod X.admits]; exact q4
  have hs0 := sel _ _ (by simp [Bundle.ownAtoms0]) Y.fill0 (by decide)
  have hsF := sel _ _ (by simp [Bundle.ownAtoms0]) Y.fill (by decide)
  obtain ⟨cS0, hcS0, hiss⟩ := Y.statics
  obtain ⟨u0, hu0⟩ := Cond.staticRefV Y.unassigned K.unassignedStatic K.statics hcS0 hiss (at0 (.isRef (.static Bundle.tN "UNASSIGNED_STACK" Bundle.steD)) (by simp [Bundle.ownAtoms0]))
  obtain ⟨sen, hsen⟩ := Cond.staticRefV Y.sentinel K.sentinelStatic K.statics hcS0 hiss (at0 (.isRef (.static Bundle.tN "SUPPRESSED_SENTINEL" Bundle.listD)) (by simp [Bundle.ownAtoms0]))
  obtain ⟨ci, ix, fB, hk198, hg198, ha198, hsB, -, hnB, htB, hffB⟩ := Cond.ownField (t := .object "java/lang/Object") Y.found K.cls (by decide +kernel) (at0 (.fieldLink Bundle.tN 198 Bundle.tN "backtrace" "Ljava/lang/Object;") (by simp [Bundle.ownAtoms0])) (at0 (.lays Bundle.tN Bundle.tN "backtrace" "Ljava/lang/Object;") (by simp [Bundle.ownAtoms0])) e.platform hpl
  obtain ⟨cS, hcS', heS, -, hkeep⟩ := X.same.2.2.2.2.2 TT.aS cS0 hcS0
  have hcS : T.heap[TT.aS]? = some cS := hcS'
  have hno : ∀ i, (⟨TT.aS, i⟩ : Loc) ∉ locs := fun i hm => by
    have := hlocs _ hm cS0 hcS0
    rw [hiss] at this; cases this
  have hkS : cS.vm ≠ .unknown := by
    rw [heS]; intro hu
    rw [show cS0.vm = .unknown from hu] at hiss
    cases hiss
  have hneS : TT.aS ≠ a := Nat.ne_of_lt (Nat.lt_of_lt_of_le (Array.getElem?_eq_some_iff.mp hcS0).1 hnew)
  obtain ⟨tC, dC, hdC, hdnC⟩ := Cond.laysAt hf1 hk Y.cause (at0 (.lays cls Bundle.tN "cause" "Ljava/lang/Throwable;") (by simp [Bundle.ownAtoms0]))
  obtain ⟨tS, dS, hdS, hdnS⟩ := Cond.laysAt hf1 hk Y.stack (at0 (.lays cls Bundle.tN "stackTrace" Bundle.steD) (by simp [Bundle.ownAtoms0]))
  obtain ⟨tP, dP, hdP, hdnP⟩ := Cond.laysAt hf1 hk Y.supp (at0 (.lays cls Bundle.tN "suppressedExceptions" Bundle.listD) (by simp [Bundle.ownAtoms0]))
  obtain ⟨tB, dB, hdB, hdnB⟩ := Cond.laysAt hf1 hk hffB (at0 (.lays cls Bundle.tN "backtrace" "Ljava/lang/Object;") (by simp [Bundle.ownAtoms0]))
  have bC := Cond.laysApart hdB hdC hdnB hdnC (by rw [hnB, Y.causeName]; decide)
  have bS := Cond.laysApart hdB hdS hdnB hdnS (by rw [hnB, Y.stackName]; decide)
  have bP := Cond.laysApart hdB hdP hdnB hdnP (by rw [hnB, Y.suppName]; decide)
  have hskip : SkipFacts TT e.platform s (fun u => u) u0 ((preparedCellV TT.toThrowableT (freshCell P1.m.cls kX) a u0 sen).withEntry T.cur) :=
    ⟨{ ci198 := ci, i198 := ix, fBack := fB }, ⟨hk198, hg198, ha198, hsB⟩, by
      have := fresh_default (c := P1.m.cls) tB
      rw [htB] at this
      simpa [preparedCellV, Cell.setSlot, Cell.withEntry, Array.getElem?_setIfInBounds, bC, bS, bP, bC.symm, bS.symm, bP.symm, defaultValue] using this, fun _ _ => rfl⟩
  obtain ⟨tm, mC, cdC, kC, vm₁, hnC, -, -, -, -, -, -, -, hW₁, st1⟩ := Steps.initCold (tb := p.tables) (e := e) (below := below) (s := s) (U := T) X.here hexec X.warmed hpl hown (t := Bundle.init0 cls) rfl rfl (Bundle.fit_spec hcls).2
    (at0 (.methodLink own ic (Bundle.init0 cls)) (by simp [Bundle.ownAtoms0])) (h (.instanceMethod (Bundle.init0 cls)) (by cases names <;> simp [Bundle.ownAtoms0, Bundle.chain0Atoms, Bundle.passAtoms])) (bytes := Bundle.five) (maxL := 1) (h (.code (Bundle.init0 cls) Bundle.five 1 none) (by cases names <;> simp [Bundle.ownAtoms0, Bundle.chain0Atoms, Bundle.passAtoms]))
    (f := g) hg (a := a) (rest := .ref a :: rest) hstack hd6
  cases Option.some.inj (hnC.symm.trans hP1m)
  obtain ⟨vm₂, X₂, st2⟩ := (X.noted hW₁).ctorPlainOffV hexec (g := { g with stack := .ref a :: rest }) hg hsize TT K Z KZ (P1 :: Ps)
    (fun P hP => by rcases List.mem_cons.mp hP with rfl | hP; exact L1; exact hPs P hP) ⟨hl1, hl2⟩ (u0 := u0) (sen := sen) (self := a) (cell := freshCell P1.m.cls kX) (cellS := cS)
    hcell (fun _ => by simp) (by simp) rfl rfl hs0 hsF hcS hneS hkS (by rw [hkeep _ (hno _)]; exact hu0) (by rw [hkeep _ (hno _)]; exact hsen)
    (Takes.of_laid hk hord tC (by rw [Y.causeType]; rfl)) (Takes.of_laid hk hord tS (by rw [Y.stackType]; exact fits_refV_array _ u0)) (Takes.of_laid hk hord tP (by rw [Y.suppType]; exact fits_refV_object _ sen)) Y.objLocals hskip htr [] hd6
    (by simp only [List.length_cons, hlen]; omega) (by simp only [List.length_cons, hlen]; exact hRl)
  obtain ⟨hwalk, hrun, hended, hWU, hsame⟩ := X₂.athrowLeaves hexec (g := { g with stack := .ref a :: rest, pc := g.pc + 3 }) hg hlk hent hout (a := a) (rest := rest) rfl hd9
  refine ⟨_, (preparedCellV TT.toThrowableT (freshCell P1.m.cls kX) a u0 sen).setSlot TT.fStack.slot u0.v, _, st1 _ (fun acts => ?_), hrun, hended, hWU, hsame, fun y hy => ?_, rfl, rfl, rfl⟩
  · rw [doInvoke_state]
    exact st2 _ hwalk
  · simp only [List.mem_cons, List.not_mem_nil, or_false] at hy
    rcases hy with rfl | rfl | rfl | rfl <;> rfl
end PJT
end
section
/-! ends, throws, catches; some rows printed by gen/emit_sound1.py -/
theorem pj_tO1 : Cond.arrayOver (.object "ChannelRouter$Segment") ∈ lw_tbl := pj_tblAt (i := 77) rfl
theorem pj_tO2 : Cond.arrayOver (.array .int) ∈ lw_tbl := pj_tblAt (i := 126) rfl
theorem pj_tNest : Cond.methodLinkNest "ChannelRouter$Plan" 17 gX3_init.1.1 "ChannelRouter" ∈ lw_tbl := pj_tblAt (i := 79) rfl
def pj_nwx (g idx x : Nat) : List Cond := [.classLink (pj_cn g) idx (pj_cn x), .instantiable (pj_cn x) 6, .initialized (pj_cn x)]
theorem pj_nwx_0_13 : ∀ w ∈ pj_nwx 0 13 20, w ∈ lw_all := lw_in (pj_nwx 0 13 20) [240, 326, 54] (by decide +kernel) (by decide +kernel)
theorem pj_nwx_0_15 : ∀ w ∈ pj_nwx 0 15 21, w ∈ lw_all := lw_in (pj_nwx 0 15 21) [317, 350, 57] (by decide +kernel) (by decide +kernel)
theorem pj_nwx_0_21 : ∀ w ∈ pj_nwx 0 21 22, w ∈ lw_all := lw_in (pj_nwx 0 21 22) [367, 404, 60] (by decide +kernel) (by decide +kernel)
theorem pj_nwx_1_37 : ∀ w ∈ pj_nwx 1 37 20, w ∈ lw_all := lw_in (pj_nwx 1 37 20) [325, 326, 54] (by decide +kernel) (by decide +kernel)
theorem pj_nwx_1_40 : ∀ w ∈ pj_nwx 1 40 21, w ∈ lw_all := lw_in (pj_nwx 1 40 21) [349, 350, 57] (by decide +kernel) (by decide +kernel)
theorem pj_nwx_1_130 : ∀ w ∈ pj_nwx 1 130 22, w ∈ lw_all := lw_in (pj_nwx 1 130 22) [380, 404, 60] (by decide +kernel) (by decide +kernel)
theorem pj_cr_okE {g idx cl : Nat} (h : pj_cr g idx = some cl) (h1 : 20 ≤ cl) : ∀ w ∈ pj_nwx g idx cl, w ∈ lw_all := by
  have hm := pj_lkp h
  have hg : g = 0 ∨ g = 1 ∨ g = 2 ∨ 3 ≤ g := by omega
  rcases hg with rfl | rfl | rfl | hg
  · simp only [pj_cl, List.mem_cons, List.not_mem_nil, or_false, Prod.mk.injEq] at hm
    rcases hm with ⟨rfl, rfl⟩ | ⟨rfl, rfl⟩ | ⟨rfl, rfl⟩ | ⟨rfl, rfl⟩ | ⟨rfl, rfl⟩
    · omega
    · exact pj_nwx_0_13
    · exact pj_nwx_0_15
    · exact pj_nwx_0_21
    · omega
  · simp only [pj_cl, List.mem_cons, List.not_mem_nil, or_false, Prod.mk.injEq] at hm
    rcases hm with ⟨rfl, rfl⟩ | ⟨rfl, rfl⟩ | ⟨rfl, rfl⟩ | ⟨rfl, rfl⟩
    · omega
    · exact pj_nwx_1_37
    · exact pj_nwx_1_40
    · exact pj_nwx_1_130
  · simp only [pj_cl, List.mem_cons, List.not_mem_nil, or_false, Prod.mk.injEq] at hm
    obtain ⟨rfl, rfl⟩ := hm
    omega
  · have : pj_cl g = [] := by match g, hg with | _ + 3, _ => rfl
    rw [this] at hm
    cases hm
theorem pj_AO2 {A A' : Array Value} {u U : State} (hvm : u.vm.Alike U.vm) (h : (Cond.arrayOver (.array .int)).before A u = true) : (Cond.arrayOver (.array .int)).before A' U = true := by
  obtain ⟨comp, c, k, h1, h2, h3, h4, h5⟩ := arrayOverA_spec h
  obtain ⟨k', hk', he⟩ := hvm.2.2 _ _ h3
  have hi : (U.vm.classes.findIdx? fun (x : Class) => match x.kind with | .array component _ => component == comp | _ => false) = some c := by
    rw [hvm.findIdx?_eq _ (fun _ => rfl)]
    exact h2
  have hkind : k'.kind = .array comp (.array .int) := by rw [he]; exact h4
  have f1 : U.vm.findClass (FieldType.array .int).toString = some comp := by rw [hvm.findClass]; exact h1
  have f2 : U.vm.findClass ("[" ++ (FieldType.array .int).toString) = some c := by rw [hvm.findClass]; exact h5
  unfold Cond.before Cond.holds
  simp only [Cond.value]
  rw [f1, Option.bind_some]
  refine (congrArg (fun o : Option Nat => (o.bind (fun c => (U.vm.classes[c]?).map fun (k : Class) => match k.kind with | .array _ ty => decide (ty = FieldType.array .int) && decide (U.vm.findClass ("[" ++ (FieldType.array .int).toString) = some c) | _ => false) == some true)) hi).trans ?_
  simp [hk', hkind, f2]
def pj_rm (d K : Nat) : Room := { frames := d + 6, cells := K, slots := 64 * K, locals := 40 * d + 200 }
def pj_Pc (a0 L : Nat) (D : Nat → ClassId) (iS : Nat → Nat → Nat) (s0 : State) (vs : List Value) (σ : pj_St) : Array Value → State → Prop := fun a U => a = (vs.map (pj_rv a0 s0.heap.size)).toArray ∧ s0.WarmedH U.vm ∧ pj_Wd a0 L D iS s0 U σ U.heap
def pj_Oc (a0 b : Nat) (res : pj_Rs) (o : Outcome) (t : State) : Prop := match res with
  | .inl v => o = .returned (v.map (pj_rv a0 b))
  | .inr x => (20 ≤ x ∧ x ≤ 22) ∧ ∃ (a : Nat) (cell : Cell), o = .threw a ∧ t.heap[a]? = some cell ∧ t.vm.findClass (pj_cn x) = some cell.cls ∧ cell.vm = .none
def pj_Qc (a0 L : Nat) (D : Nat → ClassId) (iS : Nat → Nat → Nat) (s0 : State) (res : pj_Rs) (σ' : pj_St) : Array Value → State → Outcome → State → Prop := fun _ _ o t => s0.WarmedH t.vm ∧ pj_Wd a0 L D iS s0 t σ' t.heap ∧ pj_Oc a0 s0.heap.size res o t
def pj_MQ (below : List Frame) (Qc : Array Value → State → Outcome → State → Prop) (a : Array Value) (s : State) (mc ms : Nat) (free : Addr → Prop) : State → Prop := fun t =>
  ∃ o, t.status = .running ∧ Ended t below o ∧ Qc a s o t ∧ ∃ L, pj_FE s t L mc ms ∧ ∀ q ∈ L, free q.base
/-- what holds of the start -/
def pj_B (l : Launch) (D : Nat → ClassId) (iS : Nat → Nat → Nat) (s0 : State) (args0 : Array Value) : Prop :=
  l.flags = flags0 ∧ (∀ w ∈ lw_tbl, w.before args0 s0 = true) ∧ (∀ w ∈ pj_ref2, w.before args0 s0 = true) ∧
  (∀ x y, 20 ≤ x → x ≤ 22 → 20 ≤ y → y ≤ 22 → x ≠ y → (Cond.not (.castable (pj_cn x) (pj_cn y))).before args0 s0 = true) ∧ ∀ cl, 1 ≤ cl → cl ≤ 4 → u_Kn s0 (pj_cn cl) (pj_T cl) (pj_nf cl) (D cl) (iS cl)
theorem pj_exAt {l : Launch} {D : Nat → ClassId} {iS : Nat → Nat → Nat} {s0 s : State} {args0 args : Array Value} (HB : pj_B l D iS s0 args0) (hG : pj_Go s0 s) {x : Nat} (h1 : 20 ≤ x) (h2 : x ≤ 22) : ∀ w ∈ pj_exs x, w.before args s = true := by
  intro w hw
  have key : ∀ E : List Cond, E.all pj_wok = true → (∀ w ∈ E, w ∈ pj_ref2 ∨ w ∈ lw_tbl) → w ∈ E → w.before args s = true := by
    intro E e1 e2 hw
    refine pj_wAt (args := args0) hG (List.all_eq_true.mp e1 w hw) ?_
    rcases e2 w hw with h | h
    · exact HB.2.2.1 w h
    · exact HB.2.1 w h
  have hx : x = 20 ∨ x = 21 ∨ x = 22 := by omega
  rcases hx with rfl | rfl | rfl
  · exact key _ pj_ex_ok.1 pj_ex_in.1 hw
  · exact key _ pj_ex_ok.2.1 pj_ex_in.2.1 hw
  · exact key _ pj_ex_ok.2.2 pj_ex_in.2.2 hw
theorem pj_cd_dec {G : pj_Mi} (hT : pj_okT G) {pc : Nat} {i : Instr} {len : Nat} (h : pj_cd G pc = some (i, len)) : decode G.1.2.1 pc = .ok (i, len) := hT (pc, i, len) (pj_lkp h)
theorem pj_cd_len {G : pj_Mi} (hT : pj_lok G = true) {pc : Nat} {i : Instr} {len : Nat} (h : pj_cd G pc = some (i, len)) : pj_len i = 0 ∨ len = pj_len i := by
  have := List.all_eq_true.mp hT (pc, i, len) (pj_lkp h)
  simpa using this
theorem pj_traces {l : Launch} {e : Env} (hf : l.flags = flags0) (ha : l.admits e) : e.platform.stackTraces = false := by
  have h1 : e.platform.stackTraces = l.stackTraces := by rw [ha.platform]
  rw [h1, Launch.stackTraces, hf]
  decide +kernel
section PJX
variable {p : Program} {l : Launch} {e : Env} {R : Room} {s : State} {m : MethodId} {args : Array Value} {below : List Frame} {meth : Method} {c : Code} {H : Heap} {locs : List Loc} {cells slots : Nat} {Q : State → Prop}
variable {pc : Nat} {ls : Array Slot} {lv : List Slot} {st : List Value} {a0 L : Nat} {D : Nat → ClassId} {iS : Nat → Nat → Nat} {s0 : State} {args0 : Array Value} {σ σ' : pj_St} {G : pj_Mi} {i : Instr} {len : Nat} {mc ms : Nat} {res : pj_Rs}
theorem pj_mono {Q' : State → Prop} {g : JFrame} (h : ∀ t, Q t → Q' t) (k : W p l e R s m args below meth c H locs cells slots Q g) : W p l e R s m args below meth c H locs cells slots Q' g := fun T hT X => by
  obtain ⟨t, a, b⟩ := k T hT X
  exact ⟨t, a, h t b⟩
theorem pj_MQ.of {Qc : Array Value → State → Outcome → State → Prop} {free : Addr → Prop} (t : State) (h : MQ below Qc args s mc ms free t) : pj_MQ below Qc args s mc ms free t := by
  obtain ⟨o, h1, h2, h3, L, hF, hL⟩ := h
  exact ⟨o, h1, h2, h3, L, ⟨hF.2.1, hF.2.2⟩, hL⟩
theorem pj_Wret (hx : p.tables.exec = Jvm.exec) (hb : c.code = G.1.2.1) (hr : meth.sig.returnType = G.1.2.2.2) (hlk : meth.locks = false) (hG : s0.WarmedH s.vm) {v : Option Value} (hret : pj_ret G i st = some v) (hdg : decode G.1.2.1 pc = .ok (i, len)) (hlen : pj_len i = 0 ∨ len = pj_len i)
    (hW : pj_Wd a0 L D iS s0 s σ H) (hlo : ∀ q ∈ locs, s0.heap.size ≤ q.base) :
    W p l e R s m args below meth c H locs cells slots (pj_MQ below (pj_Qc a0 L D iS s0 (.inl v) σ) args s cells slots (fun q => s0.heap.size ≤ q)) (F0 m pc ls (st.map (pj_rv a0 s0.heap.size))) := by
  have hq : ∀ (t : State), t.heap = H → s.WarmedH t.vm → pj_Qc a0 L D iS s0 (.inl v) σ args s (.returned (v.map (pj_rv a0 s0.heap.size))) t := fun t ht hw => ⟨State.WarmedH.trans hG hw, by rw [ht]; exact hW.moved hw.alike, rfl⟩
  unfold pj_ret at hret
  split at hret
  · next e3 =>
    cases hret
    obtain rfl : len = 1 := hlen.resolve_left (by intro z; cases z)
    exact pj_mono pj_MQ.of (W.vret hx hb (by rw [hr, e3]) hq hlo hdg (hlocks := hlk))
  · next v1 e3 =>
    cases hret
    obtain rfl : len = 1 := hlen.resolve_left (by intro z; cases z)
    exact pj_mono pj_MQ.of (W.iret hx hb (by rw [hr, e3]) hq hlo hdg (hlocks := hlk))
  · next v1 e3 =>
    split at hret
    · next hv =>
      cases hret
      obtain rfl : len = 1 := hlen.resolve_left (by intro z; cases z)
      exact pj_mono pj_MQ.of (W.zret hx hb (by rw [hr, e3]) (pj_bool_ok hv).1 hq hlo hdg (hlocks := hlk))
    · cases hret
  · next v1 e3 =>
    cases hret
    obtain rfl : len = 1 := hlen.resolve_left (by intro z; cases z)
    exact pj_mono pj_MQ.of (W.lret hx hb (by rw [hr, e3]) hq hlo hdg (hlocks := hlk))
  · next v1 e3 =>
    cases hret
    obtain rfl : len = 1 := hlen.resolve_left (by intro z; cases z)
    exact pj_mono pj_MQ.of (W.fret hx hb (by rw [hr, e3]) hq hlo hdg (hlocks := hlk))
  · next v1 n e3 =>
    cases hret
    obtain rfl : len = 1 := hlen.resolve_left (by intro z; cases z)
    exact pj_mono pj_MQ.of (W.aret hx hb (by rw [hr, e3]) (Or.inl ⟨_, rfl⟩) (Or.inr ⟨_, rfl⟩) hq hlo hdg (hlocks := hlk))
  · cases hret
theorem pj_wt_rv (st : List Value) : ((st.map (pj_rv a0 s0.heap.size)).map fun v => v.category).sum = pj_wt st := by
  unfold pj_wt
  rw [List.map_map]
  congr 1
  refine List.map_congr_left fun v _ => pj_rv_cat _ _ v
theorem pj_Wthr (HB : pj_B l D iS s0 args0) (hx : p.tables.exec = Jvm.exec) (hb : c.code = G.1.2.1) (hGo : pj_Go s0 s) (hns : ∀ (q : Nat) (cell : Cell), s0.heap.size ≤ q → s.heap[q]? = some cell → cell.vm.isStatics = false) (hts : ∀ w ∈ lw_all, w.before args s = true)
    (hown : s.vm.findClass (pj_cn G.2.1.1) = some m.cls) (hexT : c.exceptionTable.toList.map (fun h => (h.startPc, h.endPc, h.handlerPc, h.catchType)) = G.2.2.1) (hlk : meth.locks = false) (hml : ls.size = c.maxLocals) (hT : pj_okT G) {x : Nat} (hthr : pj_thr G i pc = some x)
    (hdg : decode G.1.2.1 pc = .ok (i, len)) (hlen : pj_len i = 0 ∨ len = pj_len i) (hwt : pj_wt st ≤ 8) (h7 : pj_al σ.1 147 = true) (hW : pj_Wd a0 L D iS s0 s σ H) (hlo : ∀ q ∈ locs, s0.heap.size ≤ q.base)
    (hRf : 6 ≤ R.frames) (hRl : 200 ≤ R.locals) (hce : cells + 1 ≤ R.cells) (hsl : slots + 64 ≤ R.slots) :
    W p l e R s m args below meth c H locs cells slots (pj_MQ below (pj_Qc a0 L D iS s0 (.inr x) (pj_gar σ)) args s (cells + 1) (slots + 64) (fun q => s0.heap.size ≤ q)) (F0 m pc ls (st.map (pj_rv a0 s0.heap.size))) := by
  have main : s.heap.size ≤ H.size → W p l e R s m args below meth c H locs cells slots (pj_MQ below (pj_Qc a0 L D iS s0 (.inr x) (pj_gar σ)) args s (cells + 1) (slots + 64) (fun q => s0.heap.size ≤ q)) (F0 m pc ls (st.map (pj_rv a0 s0.heap.size))) := by
    intro hsz
    unfold pj_thr at hthr
    split at hthr
    · next idx =>
      split at hthr
      · next y hy =>
        rw [Option.ite_none_right_eq_some] at hthr
        obtain ⟨hc, hxy⟩ := hthr
        · cases hxy
          obtain ⟨h20, h22, hh, hg1, c3, c4, c7⟩ := hc
          obtain rfl : len = 3 := hlen.resolve_left (by intro z; cases z)
          have hw := pj_cr_okE hy h20
          rw [hg1] at hown hw
          obtain ⟨cX, kX, hfc, hk, -⟩ := Cond.instantiable_spec (hts _ (hw _ (List.mem_cons_of_mem _ List.mem_cons_self)))
          refine W.newcK hx hb hown (hts _ (hw _ List.mem_cons_self)) (hts _ (hw _ (List.mem_cons_of_mem _ List.mem_cons_self))) (hts _ (hw _ (List.mem_cons_of_mem _ (List.mem_cons_of_mem _ List.mem_cons_self)))) rfl hdg hce (by omega) hfc rfl fun H1 kC hkC e1 z1 o1 => ?_
          refine W.widen (k := cells + 1) (n := slots + 64) (Nat.le_refl _) (by omega) ?_
          refine lv_dup hx hb (pj_cd_dec hT c3) rfl ?_
          intro T hTh X
          have hat := pj_exAt HB hGo (args := args) h20 h22
          have hctor : ∀ a ∈ Bundle.ownAtoms0 "ChannelRouter" (if x = 20 then 39 else if x = 21 then 42 else 132) (pj_cn x) ["java/lang/RuntimeException", "java/lang/Exception"], a.before args s = true := by
            have hx3 : x = 20 ∨ x = 21 ∨ x = 22 := by omega
            rcases hx3 with rfl | rfl | rfl
            · exact hat
            · exact hat
            · exact hat
          have hfit : Bundle.fit (pj_cn x) = true := by
            have hx3 : x = 20 ∨ x = 21 ∨ x = 22 := by omega
            rcases hx3 with rfl | rfl | rfl <;> decide +kernel
          have hemp : c.exceptionTable.toList = [] := by
            rw [hh] at hexT
            exact List.map_eq_nil_iff.mp hexT
          obtain ⟨U, ce, Lx, u1, u2, u3, u4, u5, u6, u7, u8, u9⟩ := pj_ctor X hx (pj_traces HB.1 X.admits) (cls := pj_cn x) hown hfit (by decide +kernel) hctor (fun q hq cell hcell => hns _ cell (hlo q hq) hcell) hfc hkC (a := H.size) (by rw [hTh]; exact e1) hsz
            (g := F0 m (pc + 3 + 1) ls (.ref H.size :: .ref H.size :: st.map (pj_rv a0 s0.heap.size))) rfl hml rfl rfl rfl (by rw [hb]; exact pj_cd_dec hT c4) (by rw [hb]; exact pj_cd_dec hT c7) (fun q hq => by rw [hemp] at hq; cases hq)
            (by show 2 + 3 < _; omega) (by
              have := pj_wt_rv (a0 := a0) (s0 := s0) st
              simp only [List.map_cons, List.sum_cons, this]
              show 2 * 0 + (1 + pj_wt st) + (13 * (2 + 1) + 41) ≤ _
              omega) hlk
          rw [hTh] at u7
          have hUs : U.heap.size = H.size + 1 := by rw [u7, Array.size_setIfInBounds, z1]
          have hUq : ∀ q, q < H.size → U.heap[q]? = H[q]? := fun q hq => by
            rw [u7, Array.getElem?_setIfInBounds_ne (by omega), o1 q hq]
          have hUc : U.heap[H.size]? = some ce := by
            rw [u7]
            simp [z1]
          refine ⟨U, u1, .threw H.size, u2, u3, ⟨State.WarmedH.trans hGo.1 u4, ?_, ⟨h20, h22⟩, H.size, ce, rfl, hUc, ?_, u9⟩, locs ++ Lx, ⟨u4, u5⟩, t_lL hlo fun q hq => ?_⟩
          · exact (hW.gar (fun cell hcell => by cases hUc.symm.trans hcell; rw [u9]; rfl) h7 hUs hUq).moved u4.alike
          · rw [u4.alike.findClass, u8]; exact hfc
          · rw [u6 q hq]
            have := hW.1
            omega
      · cases hthr
    · cases hthr
  exact fun T hTh X => main (by have := X.same.2.1; have e2 : T.heap.size = H.size := by rw [hTh]
                                exact e2 ▸ this) T hTh X
end PJX
end
section
/-! the pure machine is sound: catches, calls, runs -/
theorem pj_stp_len {L : Nat} {G : pj_Mi} {i : Instr} {len pc : Nat} {lv : List Slot} {st : List Value} {σ : pj_St} {pc' : Nat} {lv' : List Slot} {st' : List Value} {σ' : pj_St} (h : pj_stp L G i len pc lv st σ = some (pc', lv', st', σ')) : lv'.length = lv.length := by
  unfold pj_stp at h
  dsimp only at h
  repeat' (split at h)
  all_goals (first
    | (cases h; done)
    | (cases h; rfl)
    | (cases h; rename_i hp; obtain ⟨-, -, rfl⟩ := pj_sto_of hp; simp)
    | (cases h; rename_i hp; obtain ⟨-, -, rfl⟩ := pj_sto2_of hp; simp))
/-- handlers name the three exceptions -/
def pj_hok (G : pj_Mi) : Bool := G.2.2.1.all fun q => match pj_cr G.2.1.1 q.2.2.2 with
  | some y => decide (20 ≤ y ∧ y ≤ 22 ∧ q.2.2.2 ≠ 0)
  | none => false
theorem pj_hok_mts : pj_mts.all pj_hok = true := by decide +kernel
theorem pj_hok_of {G : pj_Mi} (h : pj_hok G = true) : ∀ q ∈ G.2.2.1, ∃ y, pj_cr G.2.1.1 q.2.2.2 = some y ∧ 20 ≤ y ∧ y ≤ 22 ∧ q.2.2.2 ≠ 0 := by
  intro q hq
  have := List.all_eq_true.mp h q hq
  split at this
  · next y hy => exact ⟨y, hy, of_decide_eq_true this⟩
  · cases this
section PJY
variable {p : Program} {l : Launch} {e : Env} {R : Room} {s : State} {m : MethodId} {args : Array Value} {below : List Frame} {meth : Method} {c : Code} {H : Heap} {locs : List Loc} {cells slots : Nat} {Q : State → Prop}
variable {pc : Nat} {ls : Array Slot} {lv : List Slot} {st : List Value} {a0 L : Nat} {D : Nat → ClassId} {iS : Nat → Nat → Nat} {s0 : State} {args0 : Array Value} {σ σ' : pj_St} {G : pj_Mi} {i : Instr} {len : Nat} {mc ms : Nat} {res : pj_Rs}
theorem pj_find (HB : pj_B l D iS s0 args0) (hGo : pj_Go s0 s) (hts : ∀ w ∈ lw_all, w.before args s = true) {g : Nat} {f : JFrame} (hown : s.vm.findClass (pj_cn g) = some f.method.cls) (hpl : e.platform.magicAccessors = ({} : Platform).magicAccessors) {S : State} {a : Addr} {cell : Cell} {x : Nat} (h20 : 20 ≤ x) (h22 : x ≤ 22)
    (hcell : S.heap[a]? = some cell) (hvm : cell.vm = .none) (hcls : s.vm.findClass (pj_cn x) = some cell.cls) :
    ∀ (t : List ExceptionTableEntry) (hs : List (Nat × Nat × Nat × Nat)), t.map (fun h => (h.startPc, h.endPc, h.handlerPc, h.catchType)) = hs → (∀ q ∈ hs, ∃ y, pj_cr g q.2.2.2 = some y ∧ 20 ≤ y ∧ y ≤ 22 ∧ q.2.2.2 ≠ 0) →
      ∀ (vm : Vm), s.WarmedH vm → ∀ h, pj_hd g f.pc x hs = some h → ∃ vm', s.WarmedH vm' ∧ ∀ (Q : Handler → Pre) (E : CtlPost) (d : Bool) (acts : List Action), wp (findHandler.go f a t) Q E e d acts (S.setVm vm) ↔ Q (.found h) d acts (S.setVm vm') := by
  intro t
  induction t with
  | nil =>
    intro hs e1 _ vm _ h hh
    subst e1
    cases hh
  | cons E t ih =>
    intro hs e1 hy vm hvmW h hh
    subst e1
    rw [List.map_cons, pj_hd] at hh
    obtain ⟨y, y1, y2, y3, y4⟩ := hy _ (by rw [List.map_cons]; exact List.mem_cons_self)
    by_cases hcov : E.startPc ≤ f.pc ∧ f.pc < E.endPc
    · have hcov' : covers E f.pc = true := by simp [covers, hcov]
      have hw := pj_cr_okE y1 y2
      obtain ⟨cY, hfcc, hcl⟩ := Cond.classLink_spec hown (hts _ (hw _ List.mem_cons_self)) e.platform hpl
      obtain ⟨hg₁, hwarm₁, -⟩ := State.classEntry (e := e) hvmW hcl
      have hsz : (vm.noted f.method.cls E.catchType (.cls cY)).classes.size ≤ vm.classes.size := by no_record
      generalize vm.noted f.method.cls E.catchType (.cls cY) = vm₁ at hg₁ hwarm₁ hsz
      have hal : s.vm.Alike vm₁ := hwarm₁.alike
      obtain ⟨kx, hkx, -⟩ := Vm.findClass_spec hcls
      obtain ⟨ky, hky, -⟩ := Vm.findClass_spec hfcc
      obtain ⟨kx₁, hkx₁, -⟩ := hal.2.2 _ _ hkx
      obtain ⟨ky₁, hky₁, -⟩ := hal.2.2 _ _ hky
      have step := fun (Q : Handler → Pre) (E' : CtlPost) (d : Bool) (acts : List Action) => pj_goC (e := e) (s := S.setVm vm) (f := f) (a := a) (x := E) (t := t) (c := cY) (cell := cell) (vm' := vm₁) (Q := Q) (E := E') (d := d) (acts := acts) hcov' y4 hg₁ hsz hcell (fun k hk => by rw [hvm] at hk; cases hk) ⟨kx₁, hkx₁⟩ ⟨ky₁, hky₁⟩
      by_cases exy : x = y
      · subst exy
        have hcc : cY = cell.cls := Option.some.inj (hfcc.symm.trans hcls)
        subst hcc
        have hass : vm₁.assignable cell.cls cell.cls = true := by
          rw [hal.assignable]
          obtain ⟨cC, kC, q1, q2, q3, -⟩ := Cond.instantiable_spec (hts _ (hw _ (List.mem_cons_of_mem _ List.mem_cons_self)))
          cases q1.symm.trans hcls
          exact va_assign (C := pj_cn x) ⟨hcls, kC, q2, q3⟩
        rw [if_pos ⟨hcov.1, hcov.2, y1⟩] at hh
        cases hh
        refine ⟨vm₁, hwarm₁, fun Q E' d acts => ?_⟩
        rw [step Q E' d acts, if_pos hass]
        rfl
      · have hass : vm₁.assignable cell.cls cY = false := by
          rw [hal.assignable]
          have hn := pj_wAt (args' := args) hGo rfl (HB.2.2.2.1 x y h20 h22 y2 y3 exy)
          simp only [Cond.before, Cond.holds, Cond.value, hcls, hfcc] at hn
          cases hz : s.vm.assignable cell.cls cY with
          | false => rfl
          | true => simp [hz] at hn
        rw [if_neg (fun z => exy (by have := z.2.2.symm.trans y1; exact Option.some.inj this))] at hh
        obtain ⟨vm', hw', hfin⟩ := ih _ rfl (fun q hq => hy q (by rw [List.map_cons]; exact List.mem_cons_of_mem _ hq)) vm₁ hwarm₁ h hh
        refine ⟨vm', hw', fun Q E' d acts => ?_⟩
        rw [step Q E' d acts, if_neg (by rw [hass]; decide)]
        exact hfin Q E' d acts
    · rw [if_neg (fun z => hcov ⟨z.1, z.2.1⟩)] at hh
      have hcov' : covers E f.pc = false := by
        simp only [covers, Bool.and_eq_false_iff, decide_eq_false_iff_not]
        by_cases z : E.startPc ≤ f.pc
        · exact Or.inr fun w => hcov ⟨z, w⟩
        · exact Or.inl z
      obtain ⟨vm', hw', hfin⟩ := ih _ rfl (fun q hq => hy q (by rw [List.map_cons]; exact List.mem_cons_of_mem _ hq)) vm hvmW h hh
      refine ⟨vm', hw', fun Q E' d acts => ?_⟩
      rw [W.findHandler_go_skip hcov']
      exact hfin Q E' d acts
/-- a call's first step -/
def pj_Ent (p : Program) (l : Launch) (e : Env) (R : Room) (s : State) (m : MethodId) (args : Array Value) (below : List Frame) (meth : Method) (c : Code) (T : State) (locs : List Loc) (cells slots : Nat) (g : JFrame) (rest : List Value) (mk : MethodId) (a : Array Value) : Prop :=
  ∃ vm₁, Stand p l e R s m args below meth c (T.setVm vm₁) locs cells slots ∧ ∀ tg, Steps p.tables e below (doInvoke e ((T.setVm vm₁).setTop { g with stack := rest }) [] mk a).1 tg → Steps p.tables e below (T.setTop g) tg
theorem pj_params {M : pj_Mi} (hM : M ∈ pj_mts) : ∀ sig, parseMethodDescriptor M.1.1.desc = some sig → sig.parameters.length = M.2.1.2.2 := by
  intro sig hs
  have h6 := (pj_mf_of hM).2.2.2.2.2.1
  rw [hs] at h6
  exact Option.some.inj h6
theorem pj_entS {T : State} (X : Stand p l e R s m args below meth c T locs cells slots) (hx : p.tables.exec = Jvm.exec) (hts : ∀ w ∈ lw_all, w.before args s = true) {g : Nat} (hown : s.vm.findClass (pj_cn g) = some m.cls) {idx k : Nat} {M : pj_Mi} (hk : pj_mr g idx = some k) (hk9 : k ≠ 999) (hkM : pj_mts[k]? = some M) (hkd : M.2.1.2.1 = 0)
    {as rest : List Value} (hlen : as.length = M.2.1.2.2) {mk : MethodId} (hn : s.methodNamed? M.1.1 = some mk) (hdg : decode c.code pc = .ok (.invokestatic idx, 3)) :
    pj_Ent p l e R s m args below meth c T locs cells slots (F0 m pc ls (as.reverse ++ rest)) rest mk as.toArray := by
  have hM : M ∈ pj_mts := List.mem_of_getElem? hkM
  obtain ⟨hf1, hf2, hf3, -⟩ := pj_mf_of hM
  have hw := pj_mts_w hM
  have hne : ¬ (g = 2 ∧ idx = 17) := fun z => by
    have := pj_nest_only hk hkM z
    subst this
    cases hkd
  have w0 : pj_cw M ∈ lw_all := hw _ (by simp [pj_mw])
  have w1 : Cond.initialized M.1.1.cls ∈ lw_all := hw _ (by simp [pj_mw])
  have w2 : Cond.static M.1.1 ∈ lw_all := hw _ (by simp [pj_mw, hkd])
  obtain ⟨m9, methM, cM, hn9, hmM, -, -, -, -, -, -, hsig⟩ := pj_cw_spec (hts _ w0)
  cases hn.symm.trans hn9
  obtain ⟨kP, hkP, -⟩ := className_of_methodNamed hn
  obtain ⟨vm₁, X₁, hst⟩ := X.invokestatic hx hown (hts _ (pj_mr_ok hk hk9 hkM hne)) hn hmM (Cond.static_spec hn hmM (hts _ w2)) hkP (Cond.initialized_spec (findClass_of_methodNamed hn) hkP (hts _ w1)) hf2 (g := F0 m pc ls (as.reverse ++ rest)) rfl (argsL := as) (rest := rest) (by rw [hlen, pj_params hM _ hsig]) rfl hdg
  exact ⟨vm₁, X₁, fun tg h => hst _ fun acts => by rw [doInvoke_state]; exact h⟩
theorem pj_entV {T : State} (X : Stand p l e R s m args below meth c T locs cells slots) (hx : p.tables.exec = Jvm.exec) (hts : ∀ w ∈ lw_all, w.before args s = true) {g : Nat} (hown : s.vm.findClass (pj_cn g) = some m.cls) {idx k : Nat} {M : pj_Mi} (hk : pj_mr g idx = some k) (hk9 : k ≠ 999) (hkM : pj_mts[k]? = some M) (hkd : M.2.1.2.1 = 1)
    {b : Addr} {cellB : Cell} (hcell : T.heap[b]? = some cellB) (hobj : cellB.vm = .none) (hcls : s.vm.findClass (pj_cn M.2.1.1) = some cellB.cls)
    {as rest : List Value} (hlen : as.length = M.2.1.2.2) {mk : MethodId} (hn : s.methodNamed? M.1.1 = some mk) (hdg : decode c.code pc = .ok (.invokevirtual idx, 3)) :
    pj_Ent p l e R s m args below meth c T locs cells slots (F0 m pc ls (as.reverse ++ .ref b :: rest)) rest mk (.ref b :: as).toArray := by
  have hM : M ∈ pj_mts := List.mem_of_getElem? hkM
  obtain ⟨hf1, hf2, hf3, -⟩ := pj_mf_of hM
  have hw := pj_mts_w hM
  have hne : ¬ (g = 2 ∧ idx = 17) := fun z => by
    have := pj_nest_only hk hkM z
    subst this
    cases hkd
  have w0 : pj_cw M ∈ lw_all := hw _ (by simp [pj_mw])
  have w1 : Cond.initialized M.1.1.cls ∈ lw_all := hw _ (by simp [pj_mw])
  have w2 : Cond.instanceMethod M.1.1 ∈ lw_all := hw _ (by simp [pj_mw, hkd])
  have w3 : Cond.selects M.1.1.cls M.1.1 M.1.1 ∈ lw_all := hw _ (by simp [pj_mw, hkd])
  obtain ⟨m9, methM, cM, hn9, hmM, -, -, -, -, -, -, hsig⟩ := pj_cw_spec (hts _ w0)
  cases hn.symm.trans hn9
  obtain ⟨m8, methM', hn8, hmM', hstM, habM⟩ := Cond.instanceMethod_spec (hts _ w2)
  cases hn.symm.trans hn8
  cases hmM.symm.trans hmM'
  obtain ⟨c2, r2, m2, q1, q2, q3, q4, kP, hkP, hkPi⟩ := Cond.selects_spec (hts _ w3)
  rw [hf3] at q1
  cases hcls.symm.trans q1
  cases (State.methodFound?_of_named hn hf2).symm.trans q2
  cases hn.symm.trans q3
  have hselP : selectMethod e.platform s.vm cellB.cls mk = .method mk := by rw [Launch.admits_selectMethod X.admits]; exact q4
  obtain ⟨vm₁, X₁, hst⟩ := X.invokevirtual hx hown (hts _ (pj_mr_ok hk hk9 hkM hne)) hn hmM hstM hkP hkPi hf2 (a := b) (cell := cellB) hcell
    (fun z h => by rw [hobj] at h; cases h) hselP hmM habM hkP hkPi (g := F0 m pc ls (as.reverse ++ .ref b :: rest)) rfl (argsL := as) (rest := rest) (by rw [hlen, pj_params hM _ hsig]) rfl hdg
  exact ⟨vm₁, X₁, fun tg h => hst _ fun acts => by rw [doInvoke_state]; exact h⟩
theorem pj_entI {T : State} (X : Stand p l e R s m args below meth c T locs cells slots) (hx : p.tables.exec = Jvm.exec) (hts : ∀ w ∈ lw_all, w.before args s = true) (hnest : (Cond.methodLinkNest "ChannelRouter$Plan" 17 gX3_init.1.1 "ChannelRouter").before args s = true) {g : Nat} (hown : s.vm.findClass (pj_cn g) = some m.cls) {idx k : Nat} {M : pj_Mi} (hk : pj_mr g idx = some k) (hk9 : k ≠ 999) (hkM : pj_mts[k]? = some M) (hkd : M.2.1.2.1 = 2) (hhs : M.2.2.1 = [])
    {b : Addr} {as rest : List Value} (hlen : as.length = M.2.1.2.2) {mk : MethodId} (hn : s.methodNamed? M.1.1 = some mk) (hdg : decode c.code pc = .ok (.invokespecial idx, 3)) :
    pj_Ent p l e R s m args below meth c T locs cells slots (F0 m pc ls (as.reverse ++ .ref b :: rest)) rest mk (.ref b :: as).toArray := by
  have hM : M ∈ pj_mts := List.mem_of_getElem? hkM
  obtain ⟨hf1, hf2, hf3, hf4, -, -, -, hf8⟩ := pj_mf_of hM
  have hw := pj_mts_w hM
  have w0 : pj_cw M ∈ lw_all := hw _ (by simp [pj_mw])
  have w2 : Cond.instanceMethod M.1.1 ∈ lw_all := hw _ (by simp [pj_mw, hkd])
  have hret : M.1.2.2.2 = none := by simpa using hf8 hkd
  have hc0 := hts _ w0
  unfold pj_cw at hc0
  rw [if_pos hhs, hret] at hc0
  have hpl : e.platform.magicAccessors = ({} : Platform).magicAccessors := by rw [X.admits.platform]
  have hl : ∀ sig, parseMethodDescriptor M.1.1.desc = some sig → as.length = sig.parameters.length := fun sig hs => by rw [hlen, pj_params hM _ hs]
  by_cases hne : g = 2 ∧ idx = 17
  · have e3 := pj_nest_only hk hkM hne
    subst e3
    obtain ⟨rfl, rfl⟩ := hne
    obtain ⟨mk2, _, _, _, vm₁, hn2, -, -, -, -, -, -, -, hW₁, hst⟩ := Steps.initColdArgsNest (e := e) X.here hx X.warmed hpl hown (hf4 hkd) hf2 hnest (hts _ w2) hc0 (f := F0 m pc ls (as.reverse ++ .ref b :: rest)) rfl hl rfl hdg
    cases hn.symm.trans hn2
    exact ⟨vm₁, X.noted hW₁, fun tg h => hst _ fun acts => by rw [doInvoke_state]; exact h⟩
  · obtain ⟨mk2, _, _, _, vm₁, hn2, -, -, -, -, -, -, -, hW₁, hst⟩ := Steps.initColdArgs (e := e) X.here hx X.warmed hpl hown (hf4 hkd) hf2 (hts _ (pj_mr_ok hk hk9 hkM hne)) (hts _ w2) hc0 (f := F0 m pc ls (as.reverse ++ .ref b :: rest)) rfl hl rfl hdg
    cases hn.symm.trans hn2
    exact ⟨vm₁, X.noted hW₁, fun tg h => hst _ fun acts => by rw [doInvoke_state]; exact h⟩
end PJY
end
section
/-! the pure machine is sound: the whole -/
def pj_Cx (p : Program) (s : State) (m : MethodId) (meth : Method) (c : Code) (s0 : State) (G : pj_Mi) : Prop :=
  p.tables.exec = Jvm.exec ∧ c.code = G.1.2.1 ∧ c.maxLocals = G.1.2.2.1 ∧ c.exceptionTable.toList.map (fun h => (h.startPc, h.endPc, h.handlerPc, h.catchType)) = G.2.2.1 ∧ s.vm.findClass (pj_cn G.2.1.1) = some m.cls ∧ meth.sig.returnType = G.1.2.2.2 ∧ meth.locks = false ∧
    (G.2.1.2.1 = 2 → meth.name = "<init>") ∧ meth.code = some c ∧ s.vm.method? m = some meth ∧ pj_Go s0 s ∧ ∀ (q : Nat) (cell : Cell), s0.heap.size ≤ q → s.heap[q]? = some cell → cell.vm.isStatics = false
def pj_okG (G : pj_Mi) : Prop := G ∈ pj_mts ∨ G = gL_law
theorem pj_okG.all {G : pj_Mi} (h : pj_okG G) : pj_okT G ∧ pj_lok G = true ∧ pj_hok G = true := by
  rcases h with h | rfl
  · exact ⟨pj_mts_tb G h, List.all_eq_true.mp pj_lok_mts G h, List.all_eq_true.mp pj_hok_mts G h⟩
  · exact ⟨tb_L_law, pj_lok_law, rfl⟩
def pj_SS (l : Launch) (a0 L : Nat) (D : Nat → ClassId) (iS : Nat → Nat → Nat) (s0 : State) (f : Nat) : Prop :=
  ∀ (d : Nat) (G : pj_Mi) (pc : Nat) (lv : List Slot) (st : List Value) (σ : pj_St) (res : pj_Rs) (σ' : pj_St), pj_run L f d G pc lv st σ = some (res, σ') → pj_okG G →
    pj_cnt σ.1 ≤ pj_cnt σ'.1 ∧ ∀ (p : Program) (e : Env) (R : Room) (s : State) (m : MethodId) (args : Array Value) (below : List Frame) (meth : Method) (c : Code) (H : Heap) (locs : List Loc) (cells slots mc ms : Nat) (ls : Array Slot),
      pj_Cx p s m meth c s0 G → d + 6 ≤ R.frames → 40 * d + 200 ≤ R.locals → cells + (pj_cnt σ'.1 - pj_cnt σ.1) ≤ mc → mc ≤ R.cells → slots + 64 * (pj_cnt σ'.1 - pj_cnt σ.1) ≤ ms → ms ≤ R.slots →
      pj_Wd a0 L D iS s0 s σ H → pj_Lv a0 s0.heap.size lv ls → lv.length = G.1.2.2.1 → (∀ q ∈ locs, s0.heap.size ≤ q.base) →
      W p l e R s m args below meth c H locs cells slots (pj_MQ below (pj_Qc a0 L D iS s0 res σ') args s mc ms (fun q => s0.heap.size ≤ q)) (F0 m pc ls (st.map (pj_rv a0 s0.heap.size)))
theorem pj_metOf {l : Launch} {a0 L : Nat} {D : Nat → ClassId} {iS : Nat → Nat → Nat} {s0 : State} {f : Nat} (ih : pj_SS l a0 L D iS s0 f) {d : Nat} {M : pj_Mi} {vs : List Value} {σ σ1 : pj_St} {r : pj_Rs} (hM : M ∈ pj_mts)
    (hrun : pj_run L f d M 0 (pj_ent M.1.2.2.1 vs) [] σ = some (r, σ1)) (hwt : pj_wt vs ≤ M.1.2.2.1) :
    pj_Met l M.1.1 (pj_cw M) (pj_rm d (pj_cnt σ1.1 - pj_cnt σ.1)) (pj_Pc a0 L D iS s0 vs σ) (pj_Qc a0 L D iS s0 r σ1) (pj_cnt σ1.1 - pj_cnt σ.1) (64 * (pj_cnt σ1.1 - pj_cnt σ.1)) (fun q => s0.heap.size ≤ q) := by
  obtain ⟨hf1, hf2, hf3, hf4, -⟩ := pj_mf_of hM
  refine MetFree.of_bodySF (code := M.1.2.1) (maxLocals := M.1.2.2.1) (ret := M.1.2.2.2) hf1 ?_ ?_
  · intro args s m h hn
    obtain ⟨m9, meth, c, hn9, h1, h2, h3, h4, -, h5, h6, -⟩ := pj_cw_spec (atoms_spec (ws := [pj_cw M]) h _ List.mem_cons_self)
    cases hn.symm.trans hn9
    exact ⟨meth, c, h1, h2, h3, h4, h5, h6⟩
  · intro p e s m args below meth c s₁ B hml hP _
    obtain ⟨rfl, hw0, hWd⟩ := hP
    have X0 := Stand.of_body B
    obtain ⟨m9, meth9, c9, hn9, h1, h2, h3, h4, h5, h6, h7, -⟩ := pj_cw_spec (atoms_spec (ws := [pj_cw M]) B.pre _ List.mem_cons_self)
    cases B.named.symm.trans hn9
    cases B.method.symm.trans h1
    cases X0.code.symm.trans h2
    have Cx : pj_Cx p s m meth c s0 M := ⟨B.exec, h3, h4, h5, by rw [← hf3]; exact findClass_of_methodNamed B.named, h6, h7, fun hk => by rw [(name_of_methodNamed B.named h1).1]; exact hf4 hk, h2, h1, ⟨hw0, hWd.2.1⟩, hWd.2.2.1.2⟩
    have hh0 : s₁.heap = s.heap := by rw [B.state]; rfl
    have hl : (pj_ent M.1.2.2.1 vs).length = M.1.2.2.1 := by
      unfold pj_ent
      rw [List.length_append, List.length_replicate, pj_flat_len]
      omega
    have k := (ih d M 0 _ [] σ r σ1 hrun (Or.inl hM)).2 p e (pj_rm d (pj_cnt σ1.1 - pj_cnt σ.1)) s m (vs.map (pj_rv a0 s0.heap.size)).toArray below meth c s.heap [] 0 0 _ _ _ Cx (Nat.le_refl _) (Nat.le_refl _) (by rw [Nat.zero_add]; exact Nat.le_refl _) (Nat.le_refl _) (by rw [Nat.zero_add]; exact Nat.le_refl _) (Nat.le_refl _) hWd (pj_Lv.ent hwt) hl (fun q h => by cases h)
    rw [lg_entry_eq]
    obtain ⟨t, a1, o, b1, b2, b3, b4⟩ := k s₁ hh0 X0
    exact ⟨t, o, a1, b1, b2, b3, b4⟩
section PJZ
variable {p : Program} {l : Launch} {e : Env} {R : Room} {s : State} {m : MethodId} {args : Array Value} {below : List Frame} {meth : Method} {c : Code} {H : Heap} {locs : List Loc} {cells slots : Nat} {Q : State → Prop}
variable {pc : Nat} {ls : Array Slot} {st : List Value} {a0 L : Nat} {D : Nat → ClassId} {iS : Nat → Nat → Nat} {s0 : State} {args0 : Array Value} {σ σ1 : pj_St}
theorem pj_Wcall (hG : s0.WarmedH s.vm) (hts : ∀ w ∈ lw_all, w.before args s = true) {d K : Nat} {M : pj_Mi} {vs : List Value} {r : pj_Rs} (hM : M ∈ pj_mts) (hMet : pj_Met l M.1.1 (pj_cw M) (pj_rm d K) (pj_Pc a0 L D iS s0 vs σ) (pj_Qc a0 L D iS s0 r σ1) K (64 * K) (fun q => s0.heap.size ≤ q))
    (hml : ls.size = c.maxLocals) {st0 rest : List Value} {mk : MethodId} {ig : Instr} (hdg : decode c.code pc = .ok (ig, 3)) (hwt : (rest.map fun v => v.category).sum ≤ 8) (hn : s.methodNamed? M.1.1 = some mk)
    (hent : ∀ T : State, T.heap = H → Stand p l e R s m args below meth c T locs cells slots → pj_Ent p l e R s m args below meth c T locs cells slots (F0 m pc ls st0) rest mk (vs.map (pj_rv a0 s0.heap.size)).toArray)
    (hRf : d + 1 + 6 ≤ R.frames) (hRl : 40 * (d + 1) + 200 ≤ R.locals) (hce : cells + K ≤ R.cells) (hsl : slots + 64 * K ≤ R.slots) (hW : pj_Wd a0 L D iS s0 s σ H) (hlo : ∀ q ∈ locs, s0.heap.size ≤ q.base)
    (kont : ∀ (B : State) (locs' : List Loc), Stand p l e R s m args below meth c B locs' (cells + K) (slots + 64 * K) → pj_Wd a0 L D iS s0 s σ1 B.heap → (∀ q ∈ locs', s0.heap.size ≤ q.base) →
      match r with
      | .inl v => ∃ t, Steps p.tables e below (B.setTop (F0 m (pc + 3) ls ((v.map (pj_rv a0 s0.heap.size)).toList ++ rest))) t ∧ Q t
      | .inr x => ∀ (a : Nat) (cell : Cell), 20 ≤ x → x ≤ 22 → B.heap[a]? = some cell → s.vm.findClass (pj_cn x) = some cell.cls → cell.vm = .none → ∃ t, Steps p.tables e below ((B.setTop (F0 m pc ls rest)).pushFrame (.throwing a)) t ∧ Q t) :
    W p l e R s m args below meth c H locs cells slots Q (F0 m pc ls st0) := by
  intro T hT X
  obtain ⟨hf1, hf2, hf3, hf4, hf5, -⟩ := pj_mf_of hM
  obtain ⟨vm₁, X₁, hst⟩ := hent T hT X
  have hw := pj_mts_w hM
  have w0 : pj_cw M ∈ lw_all := hw _ (by simp [pj_mw])
  have w1 : Cond.initialized M.1.1.cls ∈ lw_all := hw _ (by simp [pj_mw])
  have at1 : ∀ w ∈ lw_all, ∀ a : Array Value, w.before a (T.setVm vm₁) = true := fun w hw a => word_at X₁.warmed (good_of_word (List.mem_filter.mp hw).2) (hts w hw)
  have hn1 := X₁.named hn
  obtain ⟨m9, methM, cM, hn9, hmM, hcM, -, hlM, -⟩ := pj_cw_spec (at1 _ w0 #[])
  cases hn1.symm.trans hn9
  obtain ⟨o, t, B, Lc, hBh, hBv, XB, hLc, hQ, hTo⟩ := pj_inv X₁ hMet (g := F0 m pc ls rest) (a := (vs.map (pj_rv a0 s0.heap.size)).toArray) rfl hml hdg (by show 2 * 0 + (rest.map fun v => v.category).sum ≤ 8; omega) hn1 (at1 _ w0 _) hmM hcM hlM (at1 _ w1 _) hRf (by show 8 + (M.1.2.2.1 + 11) + (40 * d + 200) ≤ _; omega) hce hsl
    ⟨rfl, State.WarmedH.trans hG X₁.warmed, by
      have h1 : pj_Wd a0 L D iS s0 (T.setVm vm₁) σ H := hW.moved X₁.warmed.alike
      rw [← hT] at h1
      exact h1⟩
  obtain ⟨hw0, hWd, hO⟩ := hQ
  have hWB : pj_Wd a0 L D iS s0 s σ1 B.heap := by
    rw [hBh]
    refine hWd.moved ?_
    rw [← hBv]
    exact XB.warmed.alike.symm
  have k := kont B _ XB hWB (t_lL hlo hLc)
  cases r with
  | inl v =>
    have ho : o = .returned (v.map (pj_rv a0 s0.heap.size)) := hO
    subst ho
    obtain ⟨t2, s2, q2⟩ := k
    exact ⟨t2, hst _ (Steps.trans hTo s2), q2⟩
  | inr x =>
    obtain ⟨⟨h20, h22⟩, a, cell, ho, h1, h2, h3⟩ := hO
    subst ho
    obtain ⟨t2, s2, q2⟩ := k a cell h20 h22 (by rw [hBh]; exact h1) (by rw [← hBv, XB.warmed.alike.findClass] at h2; exact h2) h3
    exact ⟨t2, hst _ (Steps.trans hTo s2), q2⟩
end PJZ
theorem pj_cal_spec {G : pj_Mi} {i : Instr} {k kd : Nat} (h : pj_cal G i = some (k, kd)) : (kd = 0 ∧ ∃ idx, i = .invokestatic idx ∧ pj_mr G.2.1.1 idx = some k) ∨ (kd = 1 ∧ ∃ idx, i = .invokevirtual idx ∧ pj_mr G.2.1.1 idx = some k) ∨ (kd = 2 ∧ ∃ idx, i = .invokespecial idx ∧ pj_mr G.2.1.1 idx = some k) := by
  unfold pj_cal at h
  split at h
  · next idx =>
    cases hm : pj_mr G.2.1.1 idx with
    | none => rw [hm] at h; cases h
    | some q => rw [hm] at h; cases h; exact Or.inl ⟨rfl, idx, rfl, hm⟩
  · next idx =>
    cases hm : pj_mr G.2.1.1 idx with
    | none => rw [hm] at h; cases h
    | some q => rw [hm] at h; cases h; exact Or.inr (Or.inl ⟨rfl, idx, rfl, hm⟩)
  · next idx =>
    cases hm : pj_mr G.2.1.1 idx with
    | none => rw [hm] at h; cases h
    | some q => rw [hm] at h; cases h; exact Or.inr (Or.inr ⟨rfl, idx, rfl, hm⟩)
  · cases h
theorem pj_pop_spec {n : Nat} {st as r : List Value} (h : pj_pop n st = some (as, r)) : st = as.reverse ++ r ∧ as.length = n := by
  unfold pj_pop at h
  split at h
  · next hn =>
    cases h
    refine ⟨by rw [List.reverse_reverse, List.take_append_drop], ?_⟩
    rw [List.length_reverse, List.length_take]
    omega
  · cases h
theorem pj_ctor_hs : pj_mts.all (fun M => M.2.1.2.1 != 2 || M.2.2.1.isEmpty) = true := by decide +kernel
theorem pj_vcls : pj_mts.all (fun M => M.2.1.2.1 == 0 || (decide (1 ≤ M.2.1.1) && decide (M.2.1.1 ≤ 4))) = true := by decide +kernel
theorem pj_vcls_of {M : pj_Mi} (h : M ∈ pj_mts) (hk : M.2.1.2.1 ≠ 0) : 1 ≤ M.2.1.1 ∧ M.2.1.1 ≤ 4 := by
  have := List.all_eq_true.mp pj_vcls M h
  simp only [Bool.or_eq_true, beq_iff_eq, Bool.and_eq_true, decide_eq_true_eq] at this
  exact this.resolve_left hk
theorem pj_rcv_of {M : pj_Mi} {N : pj_N} {as : List Value} (h : pj_rcv M N as = true) (hk : M.2.1.2.1 ≠ 0) : ∃ o tl, as = .ref o :: tl ∧ pj_kd o = M.2.1.1 ∧ pj_al N o = true := by
  unfold pj_rcv at h
  rw [if_neg hk] at h
  split at h
  · next o tl => exact ⟨o, tl, rfl, of_decide_eq_true h⟩
  · cases h
set_option maxHeartbeats 2000000 in
theorem pj_sound {l : Launch} {a0 L : Nat} {D : Nat → ClassId} {iS : Nat → Nat → Nat} {s0 : State} {args0 : Array Value} (HB : pj_B l D iS s0 args0) : ∀ f, pj_SS l a0 L D iS s0 f := by
  intro f
  induction f with
  | zero =>
    intro d G pc lv st σ res σ' h
    cases h
  | succ f ih =>
    intro d G pc lv st σ res σ' h hG
    obtain ⟨hT, hLk, hHk⟩ := hG.all
    unfold pj_run at h
    cases hcd : pj_cd G pc with
    | none => rw [hcd] at h; cases h
    | some il =>
      obtain ⟨i, len⟩ := il
      rw [hcd] at h
      simp only at h
      have hdec := pj_cd_dec hT hcd
      have hlen := pj_cd_len hLk hcd
      by_cases hr : pj_isRet i = true
      · rw [if_pos hr] at h
        cases hret : pj_ret G i st with
        | none => rw [hret] at h; cases h
        | some v =>
          rw [hret] at h
          cases h
          refine ⟨Nat.le_refl _, ?_⟩
          intro p e R s m args below meth c H locs cells slots mc ms ls Cx hRf hRl hc1 hc2 hs1 hs2 hW hLv hll hlo
          obtain ⟨hx, hb, hml, hex, hown, hrt, hlk, hin, hcode, hmeth, hGo, hns⟩ := Cx
          exact W.widen (k := mc) (n := ms) (by omega) (by omega) (pj_Wret hx hb hrt hlk hGo.1 hret hdec hlen hW hlo)
      · rw [if_neg hr] at h
        cases ht : pj_thr G i pc with
        | some x =>
          rw [ht] at h
          simp only at h
          split at h
          · next hc =>
            cases h
            have e1 : pj_cnt (pj_gar σ).1 = pj_cnt σ.1 + 1 := pj_cnt_inc σ.1
            refine ⟨by omega, ?_⟩
            intro p e R s m args below meth c H locs cells slots mc ms ls Cx hRf hRl hc1 hc2 hs1 hs2 hW hLv hll hlo
            obtain ⟨hx, hb, hml, hex, hown, hrt, hlk, hin, hcode, hmeth, hGo, hns⟩ := Cx
            have hts := pj_allAt (args' := args) hGo.1 HB.2.1
            rw [e1, Nat.add_sub_cancel_left] at hc1 hs1
            refine W.widen (k := mc - 1) (n := ms - 64) (by omega) (by omega) ?_
            have k := pj_Wthr (p := p) (e := e) (R := R) (meth := meth) (below := below) (ls := ls) (cells := mc - 1) (slots := ms - 64) HB hx hb hGo hns hts hown hex hlk (by rw [hLv.1, hml, hll]) hT ht hdec hlen hc.1 hc.2 hW hlo (by omega) (by omega) (by omega) (by omega)
            rw [show mc - 1 + 1 = mc by omega, show ms - 64 + 64 = ms by omega] at k
            exact k
          · cases h
        | none =>
          rw [ht] at h
          simp only at h
          cases hk : pj_cal G i with
          | none =>
            rw [hk] at h
            simp only at h
            cases hs : pj_stp L G i len pc lv st σ with
            | none => rw [hs] at h; cases h
            | some q =>
              obtain ⟨pc', lv', st', σ1⟩ := q
              rw [hs] at h
              simp only at h
              obtain ⟨m2, k2⟩ := ih d G pc' lv' st' σ1 res σ' h hG
              have m1 := pj_stp_mono hs
              refine ⟨Nat.le_trans m1 m2, ?_⟩
              intro p e R s m args below meth c H locs cells slots mc ms ls Cx hRf hRl hc1 hc2 hs1 hs2 hW hLv hll hlo
              have Cx' := Cx
              obtain ⟨hx, hb, hml, hex, hown, hrt, hlk, hin, hcode, hmeth, hGo, hns⟩ := Cx
              have hts := pj_allAt (args' := args) hGo.1 HB.2.1
              refine pj_step hx hb hts hown hin (fun cl h1 h4 => u_Kn_moved hGo.1.alike (HB.2.2.2.2 cl h1 h4)) (va_AO.moved hGo.1.alike (va_AO.of (HB.2.1 _ pj_tO1))) (pj_AO2 hGo.1.alike (HB.2.1 _ pj_tO2)) hdec hlen hs hW hLv hlo (by omega) (by omega) ?_
              intro H' ls' locs' hW' hLv' hlo'
              exact k2 p e R s m args below meth c H' locs' _ _ mc ms ls' Cx' hRf hRl (by omega) hc2 (by omega) hs2 hW' hLv' (by rw [pj_stp_len hs]; exact hll) hlo'
          | some q =>
            obtain ⟨k, kd⟩ := q
            rw [hk] at h
            simp only at h
            by_cases h9 : k = 999
            · rw [if_pos h9] at h
              subst h9
              split at h
              · next o r =>
                split at h
                · next hc =>
                  obtain ⟨m2, k2⟩ := ih d G (pc + len) lv r σ res σ' h hG
                  refine ⟨m2, ?_⟩
                  intro p e R s m args below meth c H locs cells slots mc ms ls Cx hRf hRl hc1 hc2 hs1 hs2 hW hLv hll hlo
                  have Cx' := Cx
                  obtain ⟨hx, hb, hml, hex, hown, hrt, hlk, hin, hcode, hmeth, hGo, hns⟩ := Cx
                  have hts := pj_allAt (args' := args) hGo.1 HB.2.1
                  rcases pj_cal_spec hk with ⟨z, -⟩ | ⟨z, -⟩ | ⟨-, idx, rfl, hmr⟩
                  · omega
                  · omega
                  · obtain rfl : len = 3 := hlen.resolve_left (by intro z; cases z)
                    refine W.objInit hx hb hown (hts _ (pj_mr_obj hmr)) (hts _ pj_wObjI) (hts _ pj_wObjC) (g := F0 m pc ls (.ref (pj_ra a0 s0.heap.size o) :: r.map (pj_rv a0 s0.heap.size))) rfl (by show ls.size = _; rw [hLv.1, hml, hll]) rfl hdec (by omega) (by
                      rw [pj_wt_rv]
                      show 2 * 0 + pj_wt r + 12 ≤ _
                      omega) ?_
                    exact k2 p e R s m args below meth c H locs cells slots mc ms ls Cx' hRf hRl hc1 hc2 hs1 hs2 hW hLv hll hlo
                · cases h
              · cases h
            · rw [if_neg h9] at h
              split at h
              · next d' M hkM =>
                have hM : M ∈ pj_mts := List.mem_of_getElem? hkM
                split at h
                · next hkd =>
                  cases hp : pj_pop (M.2.1.2.2 + (if kd = 0 then 0 else 1)) st with
                  | none => rw [hp] at h; cases h
                  | some q =>
                    obtain ⟨as, r⟩ := q
                    rw [hp] at h
                    simp only at h
                    split at h
                    · next hc =>
                      obtain ⟨hrcv, hwr, hwa⟩ := hc
                      obtain ⟨hst, hal⟩ := pj_pop_spec hp
                      cases hrun : pj_run L f d' M 0 (pj_ent M.1.2.2.1 as) [] σ with
                      | none => rw [hrun] at h; cases h
                      | some q1 =>
                        obtain ⟨r1, σ1⟩ := q1
                        rw [hrun] at h
                        have m1 := (ih d' M 0 _ [] σ r1 σ1 hrun (Or.inl hM)).1
                        have hentAll : len = 3 ∧ ∀ (p : Program) (e : Env) (R : Room) (s : State) (m : MethodId) (args : Array Value) (below : List Frame) (meth : Method) (c : Code) (H : Heap) (locs : List Loc) (cells slots : Nat) (ls : Array Slot), pj_Cx p s m meth c s0 G → pj_Wd a0 L D iS s0 s σ H →
                            ∃ mk, s.methodNamed? M.1.1 = some mk ∧ ∀ T : State, T.heap = H → Stand p l e R s m args below meth c T locs cells slots → pj_Ent p l e R s m args below meth c T locs cells slots (F0 m pc ls (st.map (pj_rv a0 s0.heap.size))) (r.map (pj_rv a0 s0.heap.size)) mk (as.map (pj_rv a0 s0.heap.size)).toArray := by
                          have w0 : pj_cw M ∈ lw_all := pj_mts_w hM _ (by simp [pj_mw])
                          rcases pj_cal_spec hk with ⟨rfl, idx, rfl, hmr⟩ | ⟨rfl, idx, rfl, hmr⟩ | ⟨rfl, idx, rfl, hmr⟩
                          · obtain rfl : len = 3 := hlen.resolve_left (by intro z; cases z)
                            refine ⟨rfl, ?_⟩
                            intro p e R s m args below meth c H locs cells slots ls Cx hW
                            obtain ⟨hx, hb, hml, hex, hown, hrt, hlk, hin, hcode, hmeth, hGo, hns⟩ := Cx
                            have hts := pj_allAt (args' := args) hGo.1 HB.2.1
                            obtain ⟨mk, _, _, hn, -⟩ := pj_cw_spec (hts _ w0)
                            refine ⟨mk, hn, fun T hTh X => ?_⟩
                            rw [hst, List.map_append, List.map_reverse]
                            exact pj_entS X hx hts hown hmr h9 hkM hkd (by rw [List.length_map, hal]; rfl) hn (by rw [hb]; exact hdec)
                          · obtain rfl : len = 3 := hlen.resolve_left (by intro z; cases z)
                            refine ⟨rfl, ?_⟩
                            intro p e R s m args below meth c H locs cells slots ls Cx hW
                            obtain ⟨hx, hb, hml, hex, hown, hrt, hlk, hin, hcode, hmeth, hGo, hns⟩ := Cx
                            have hts := pj_allAt (args' := args) hGo.1 HB.2.1
                            obtain ⟨mk, _, _, hn, -⟩ := pj_cw_spec (hts _ w0)
                            refine ⟨mk, hn, fun T hTh X => ?_⟩
                            obtain ⟨o, tl, rfl, hko, halo⟩ := pj_rcv_of hrcv (by rw [hkd]; decide)
                            obtain ⟨v1, v4⟩ := pj_vcls_of hM (by rw [hkd]; decide)
                            obtain ⟨cell, c1, c2, c3, -⟩ := (hW.2.2.2 o (pj_al_le halo)).1 (by omega) (by omega)
                            have hKn := u_Kn_moved hGo.1.alike (HB.2.2.2.2 _ v1 v4)
                            have e1 : st.map (pj_rv a0 s0.heap.size) = (tl.map (pj_rv a0 s0.heap.size)).reverse ++ .ref (pj_ra a0 s0.heap.size o) :: r.map (pj_rv a0 s0.heap.size) := by
                              rw [hst]
                              simp [pj_rv]
                            rw [e1]
                            exact pj_entV X hx hts hown hmr h9 hkM hkd (by rw [hTh]; exact c1) c3 (by rw [c2, hko]; exact hKn.2.1) (by rw [List.length_map]; simpa using hal) hn (by rw [hb]; exact hdec)
                          · obtain rfl : len = 3 := hlen.resolve_left (by intro z; cases z)
                            refine ⟨rfl, ?_⟩
                            intro p e R s m args below meth c H locs cells slots ls Cx hW
                            obtain ⟨hx, hb, hml, hex, hown, hrt, hlk, hin, hcode, hmeth, hGo, hns⟩ := Cx
                            have hts := pj_allAt (args' := args) hGo.1 HB.2.1
                            obtain ⟨mk, _, _, hn, -⟩ := pj_cw_spec (hts _ w0)
                            refine ⟨mk, hn, fun T hTh X => ?_⟩
                            obtain ⟨o, tl, rfl, hko, halo⟩ := pj_rcv_of hrcv (by rw [hkd]; decide)
                            have e1 : st.map (pj_rv a0 s0.heap.size) = (tl.map (pj_rv a0 s0.heap.size)).reverse ++ .ref (pj_ra a0 s0.heap.size o) :: r.map (pj_rv a0 s0.heap.size) := by
                              rw [hst]
                              simp [pj_rv]
                            have hhs : M.2.2.1 = [] := by
                              have := List.all_eq_true.mp pj_ctor_hs M hM
                              rw [hkd] at this
                              simpa using this
                            rw [e1]
                            exact pj_entI X hx hts (va_Nw.use rfl (va_Nw.warmM hGo.1 (va_Nw.of rfl (HB.2.1 _ pj_tNest)))) hown hmr h9 hkM hkd hhs (by rw [List.length_map]; simpa using hal) hn (by rw [hb]; exact hdec)
                        obtain ⟨rfl, hentAll⟩ := hentAll
                        have hMet := pj_metOf ih hM hrun hwa
                        cases r1 with
                        | inl v =>
                          simp only at h
                          obtain ⟨m2, k2⟩ := ih (d' + 1) G (pc + 3) lv (v.toList ++ r) σ1 res σ' h hG
                          refine ⟨Nat.le_trans m1 m2, ?_⟩
                          intro p e R s m args below meth c H locs cells slots mc ms ls Cx hRf hRl hc1 hc2 hs1 hs2 hW hLv hll hlo
                          have Cx' := Cx
                          obtain ⟨hx, hb, hml, hex, hown, hrt, hlk, hin, hcode, hmeth, hGo, hns⟩ := Cx
                          have hts := pj_allAt (args' := args) hGo.1 HB.2.1
                          obtain ⟨mk, hn, hent⟩ := hentAll p e R s m args below meth c H locs cells slots ls Cx' hW
                          refine pj_Wcall hGo.1 hts hM hMet (by rw [hLv.1, hml, hll]) (by rw [hb]; exact hdec) (by rw [pj_wt_rv]; exact hwr) hn hent hRf hRl (by omega) (by omega) hW hlo ?_
                          intro B locs' XB hWB hlo'
                          have kW := k2 p e R s m args below meth c B.heap locs' (cells + (pj_cnt σ1.1 - pj_cnt σ.1)) (slots + 64 * (pj_cnt σ1.1 - pj_cnt σ.1)) mc ms ls Cx' hRf hRl (by omega) hc2 (by omega) hs2 hWB hLv hll hlo'
                          have e1 : (v.toList ++ r).map (pj_rv a0 s0.heap.size) = (v.map (pj_rv a0 s0.heap.size)).toList ++ r.map (pj_rv a0 s0.heap.size) := by cases v <;> simp
                          rw [e1] at kW
                          exact kW B rfl XB
                        | inr x =>
                          simp only at h
                          cases hh : pj_hd G.2.1.1 pc x G.2.2.1 with
                          | none =>
                            rw [hh] at h
                            simp only at h
                            split at h
                            · next hemp =>
                              cases h
                              refine ⟨m1, ?_⟩
                              intro p e R s m args below meth c H locs cells slots mc ms ls Cx hRf hRl hc1 hc2 hs1 hs2 hW hLv hll hlo
                              have Cx' := Cx
                              obtain ⟨hx, hb, hml, hex, hown, hrt, hlk, hin, hcode, hmeth, hGo, hns⟩ := Cx
                              have hts := pj_allAt (args' := args) hGo.1 HB.2.1
                              refine W.widen (k := mc - (pj_cnt σ'.1 - pj_cnt σ.1)) (n := ms - 64 * (pj_cnt σ'.1 - pj_cnt σ.1)) (by omega) (by omega) ?_
                              obtain ⟨mk, hn, hent⟩ := hentAll p e R s m args below meth c H locs (mc - (pj_cnt σ'.1 - pj_cnt σ.1)) (ms - 64 * (pj_cnt σ'.1 - pj_cnt σ.1)) ls Cx' hW
                              refine pj_Wcall hGo.1 hts hM hMet (by rw [hLv.1, hml, hll]) (by rw [hb]; exact hdec) (by rw [pj_wt_rv]; exact hwr) hn hent hRf hRl (by omega) (by omega) hW hlo ?_
                              intro B locs' XB hWB hlo'
                              intro a cell h20 h22 hcB hcl hvm
                              have hemp2 : c.exceptionTable.toList = [] := by
                                have : G.2.2.1 = [] := by simpa using hemp
                                rw [this] at hex
                                exact List.map_eq_nil_iff.mp hex
                              obtain ⟨g1, g2, g3, g4, g5⟩ := XB.leaveThrown a (g := F0 m pc ls (r.map (pj_rv a0 s0.heap.size))) rfl rfl rfl (fun q hq => by rw [hemp2] at hq; cases hq) (hlocks := hlk)
                              rw [show mc - (pj_cnt σ'.1 - pj_cnt σ.1) + (pj_cnt σ'.1 - pj_cnt σ.1) = mc by omega, show ms - 64 * (pj_cnt σ'.1 - pj_cnt σ.1) + 64 * (pj_cnt σ'.1 - pj_cnt σ.1) = ms by omega] at g5
                              refine ⟨_, g1, .threw a, g2, g3, ⟨State.WarmedH.trans hGo.1 g4, hWB.moved g4.alike, ⟨h20, h22⟩, a, cell, rfl, hcB, ?_, hvm⟩, locs', ⟨g4, g5⟩, hlo'⟩
                              rw [g4.alike.findClass]
                              exact hcl
                            · cases h
                          | some hdl =>
                            rw [hh] at h
                            simp only at h
                            have catch_ : ∀ (q w : Nat) (hq : q < lv.length ∧ pj_wide lv q = false) (hrun2 : pj_run L f (d' + 1) G (hdl + w) (lv.set q .unset) [] σ1 = some (res, σ'))
                                (row : ∀ (p : Program) (e : Env) (R : Room) (s : State) (m : MethodId) (args : Array Value) (below : List Frame) (meth : Method) (c : Code) (H : Heap) (locs : List Loc) (cells slots : Nat) (Q : State → Prop) (ls : Array Slot) (a : Nat), p.tables.exec = Jvm.exec → c.code = G.1.2.1 → pj_Lv a0 s0.heap.size lv ls →
                                  (∀ ls' : Array Slot, pj_Lv a0 s0.heap.size (lv.set q .unset) ls' → W p l e R s m args below meth c H locs cells slots Q (F0 m (hdl + w) ls' [])) → W p l e R s m args below meth c H locs cells slots Q (F0 m hdl ls [.ref a])),
                                pj_cnt σ.1 ≤ pj_cnt σ'.1 ∧ ∀ (p : Program) (e : Env) (R : Room) (s : State) (m : MethodId) (args : Array Value) (below : List Frame) (meth : Method) (c : Code) (H : Heap) (locs : List Loc) (cells slots mc ms : Nat) (ls : Array Slot),
                                  pj_Cx p s m meth c s0 G → d' + 1 + 6 ≤ R.frames → 40 * (d' + 1) + 200 ≤ R.locals → cells + (pj_cnt σ'.1 - pj_cnt σ.1) ≤ mc → mc ≤ R.cells → slots + 64 * (pj_cnt σ'.1 - pj_cnt σ.1) ≤ ms → ms ≤ R.slots →
                                  pj_Wd a0 L D iS s0 s σ H → pj_Lv a0 s0.heap.size lv ls → lv.length = G.1.2.2.1 → (∀ q ∈ locs, s0.heap.size ≤ q.base) →
                                  W p l e R s m args below meth c H locs cells slots (pj_MQ below (pj_Qc a0 L D iS s0 res σ') args s mc ms (fun q => s0.heap.size ≤ q)) (F0 m pc ls (st.map (pj_rv a0 s0.heap.size))) := by
                              intro q w hq hrun2 row
                              obtain ⟨m2, k2⟩ := ih (d' + 1) G (hdl + w) (lv.set q .unset) [] σ1 res σ' hrun2 hG
                              refine ⟨Nat.le_trans m1 m2, ?_⟩
                              intro p e R s m args below meth c H locs cells slots mc ms ls Cx hRf hRl hc1 hc2 hs1 hs2 hW hLv hll hlo
                              have Cx' := Cx
                              obtain ⟨hx, hb, hml, hex, hown, hrt, hlk, hin, hcode, hmeth, hGo, hns⟩ := Cx
                              have hts := pj_allAt (args' := args) hGo.1 HB.2.1
                              obtain ⟨mk, hn, hent⟩ := hentAll p e R s m args below meth c H locs cells slots ls Cx' hW
                              refine pj_Wcall hGo.1 hts hM hMet (by rw [hLv.1, hml, hll]) (by rw [hb]; exact hdec) (by rw [pj_wt_rv]; exact hwr) hn hent hRf hRl (by omega) (by omega) hW hlo ?_
                              intro B locs' XB hWB hlo'
                              intro a cell h20 h22 hcB hcl hvm
                              have hpl : e.platform.magicAccessors = ({} : Platform).magicAccessors := by rw [XB.admits.platform]
                              obtain ⟨vm', hw', hfd⟩ := pj_find (e := e) (args := args) HB hGo hts (f := F0 m pc ls (r.map (pj_rv a0 s0.heap.size))) hown hpl (S := (B.setTop (F0 m pc ls (r.map (pj_rv a0 s0.heap.size)))).pushFrame (.throwing a)) (a := a) h20 h22 hcB hvm hcl _ _ hex (pj_hok_of hHk) B.vm XB.warmed hdl hh
                              have hFd : pj_Fd e ((B.setTop (F0 m pc ls (r.map (pj_rv a0 s0.heap.size)))).pushFrame (.throwing a)) (F0 m pc ls (r.map (pj_rv a0 s0.heap.size))) a (.found hdl) vm' := by
                                intro Q E d acts
                                rw [W.findHandler_eq (meth := meth) (code := c) (show B.vm.method? m = some meth from XB.method') hcode]
                                exact hfd Q E d acts
                              have kW := row p e R s m args below meth c B.heap locs' (cells + (pj_cnt σ1.1 - pj_cnt σ.1)) (slots + 64 * (pj_cnt σ1.1 - pj_cnt σ.1)) _ ls a hx hb hLv fun ls' hLv' => k2 p e R s m args below meth c B.heap locs' (cells + (pj_cnt σ1.1 - pj_cnt σ.1)) (slots + 64 * (pj_cnt σ1.1 - pj_cnt σ.1)) mc ms ls' Cx' hRf hRl (by omega) hc2 (by omega) hs2 hWB hLv' (by rw [List.length_set]; exact hll) hlo'
                              obtain ⟨t, s2, q2⟩ := kW (B.setVm vm') rfl (XB.noted hw')
                              exact ⟨t, pj_caught (s := B) (g := F0 m pc ls (r.map (pj_rv a0 s0.heap.size))) XB.here hFd s2, q2⟩
                            split at h
                            · next q hcd2 =>
                              split at h
                              · next hq => exact catch_ q 1 hq h fun p e R s m args below meth c H locs cells slots Q ls a hx hb hLv kk => lv_astore_n hx hb (pj_cd_dec hT hcd2) rfl hLv hq.1 rfl fun ls' h' => kk ls' (hLv.drop1 hq.1 hq.2 h')
                              · cases h
                            · next q hcd2 =>
                              split at h
                              · next hq => exact catch_ q 2 hq h fun p e R s m args below meth c H locs cells slots Q ls a hx hb hLv kk => lv_astore hx hb (pj_cd_dec hT hcd2) hLv hq.1 rfl fun ls' h' => kk ls' (hLv.drop1 hq.1 hq.2 h')
                              · cases h
                            · cases h
                    · cases h
                · cases h
              · cases h
end
section
/-! rows of the pure machine -/
theorem pj_run_up {L : Nat} : ∀ (f : Nat) (d : Nat) (G : pj_Mi) (pc : Nat) (lv : List Slot) (st : List Value) (σ : pj_St) (r : pj_Rs × pj_St), pj_run L f d G pc lv st σ = some r → pj_run L (f + 1) d G pc lv st σ = some r := by
  intro f
  induction f with
  | zero => intro d G pc lv st σ r h; cases h
  | succ f ih =>
    intro d G pc lv st σ r h
    unfold pj_run at h
    rw [pj_run]
    cases hcd : pj_cd G pc with
    | none => rw [hcd] at h; cases h
    | some il =>
      obtain ⟨i, len⟩ := il
      rw [hcd] at h
      simp only at h ⊢
      by_cases hr : pj_isRet i = true
      · rw [if_pos hr] at h ⊢; exact h
      · rw [if_neg hr] at h ⊢
        cases ht : pj_thr G i pc with
        | some x => rw [ht] at h; exact h
        | none =>
          rw [ht] at h
          simp only at h ⊢
          cases hk : pj_cal G i with
          | none =>
            rw [hk] at h
            simp only at h ⊢
            cases hs : pj_stp L G i len pc lv st σ with
            | none => rw [hs] at h; cases h
            | some q => rw [hs] at h; exact ih _ _ _ _ _ _ _ h
          | some q =>
            obtain ⟨k, kd⟩ := q
            rw [hk] at h
            simp only at h ⊢
            by_cases h9 : k = 999
            · rw [if_pos h9] at h ⊢
              split at h
              · split at h
                · next hc => rw [if_pos hc]; exact ih _ _ _ _ _ _ _ h
                · cases h
              · cases h
            · rw [if_neg h9] at h ⊢
              split at h
              · next d' M hkM =>
                split at h
                · next hkd =>
                  rw [if_pos hkd]
                  cases hp : pj_pop (M.2.1.2.2 + (if kd = 0 then 0 else 1)) st with
                  | none => rw [hp] at h; cases h
                  | some q =>
                    obtain ⟨as, r0⟩ := q
                    rw [hp] at h
                    simp only at h ⊢
                    split at h
                    · next hc =>
                      rw [if_pos hc]
                      cases hrun : pj_run L f d' M 0 (pj_ent M.1.2.2.1 as) [] σ with
                      | none => rw [hrun] at h; cases h
                      | some q1 =>
                        obtain ⟨r1, σ1⟩ := q1
                        rw [hrun] at h
                        rw [ih _ _ _ _ _ _ _ hrun]
                        cases r1 with
                        | inl v =>
                          simp only at h ⊢
                          exact ih _ _ _ _ _ _ _ h
                        | inr x =>
                          simp only at h ⊢
                          cases hh : pj_hd G.2.1.1 pc x G.2.2.1 with
                          | none => rw [hh] at h; exact h
                          | some hdl =>
                            rw [hh] at h
                            simp only at h ⊢
                            split at h
                            · split at h
                              · next hc2 => rw [if_pos hc2]; exact ih _ _ _ _ _ _ _ h
                              · cases h
                            · split at h
                              · next hc2 => rw [if_pos hc2]; exact ih _ _ _ _ _ _ _ h
                              · cases h
                            · cases h
                    · cases h
                · cases h
              · cases h
theorem pj_run_ups {L f : Nat} (k : Nat) {d : Nat} {G : pj_Mi} {pc : Nat} {lv : List Slot} {st : List Value} {σ : pj_St} {r : pj_Rs × pj_St} (h : pj_run L f d G pc lv st σ = some r) : pj_run L (f + k) d G pc lv st σ = some r := by
  induction k with
  | zero => exact h
  | succ k ih => exact pj_run_up _ _ _ _ _ _ _ _ ih
def bI (b : Bool) : Int32 := if b then 1 else 0
/-- the arguments off the stack, read off the term -/
def pj_popn : Nat → List Value → List Value → Option (List Value × List Value)
  | 0, acc, st => some (acc, st)
  | n + 1, acc, v :: st => pj_popn n (v :: acc) st
  | _ + 1, _, [] => none
theorem pj_popn_eq : ∀ (n : Nat) (acc st as r : List Value), pj_popn n acc st = some (as, r) → n ≤ st.length ∧ as = (st.take n).reverse ++ acc ∧ r = st.drop n
  | 0, acc, st, as, r, h => by
    cases h
    exact ⟨Nat.zero_le _, rfl, rfl⟩
  | n + 1, acc, [], as, r, h => by cases h
  | n + 1, acc, v :: st, as, r, h => by
    obtain ⟨h1, h2, h3⟩ := pj_popn_eq n (v :: acc) st as r h
    refine ⟨Nat.succ_le_succ h1, ?_, h3⟩
    rw [h2, List.take_succ_cons, List.reverse_cons, List.append_assoc]
    rfl
theorem pj_popn_pop {n : Nat} {st as r : List Value} (h : pj_popn n [] st = some (as, r)) : pj_pop n st = some (as, r) := by
  obtain ⟨h1, h2, h3⟩ := pj_popn_eq n [] st as r h
  unfold pj_pop
  rw [if_pos h1, h2, h3, List.append_nil]
/-- a list of variables, read off the term -/
def pj_nrm {R : Type} : List Slot → (List Slot → R) → R
  | [], k => k []
  | x :: xs, k => pj_nrm xs (fun ys => k (x :: ys))
theorem pj_nrm_eq {R : Type} : ∀ (l : List Slot) (k : List Slot → R), pj_nrm l k = k l
  | [], _ => rfl
  | x :: xs, k => pj_nrm_eq xs (fun ys => k (x :: ys))
def pj_bn (L : Nat) (G : pj_Mi) : Nat → Nat → List Slot → List Value → pj_St → Option pj_Cf
  | 0, pc, lv, st, σ => some (pc, lv, st, σ)
  | n + 1, pc, lv, st, σ => match pj_cd G pc with
    | none => none
    | some (i, len) => if pj_isRet i = true then none else match pj_thr G i pc with
      | some _ => none
      | none => match pj_cal G i with
        | some _ => none
        | none => match pj_stp L G i len pc lv st σ with
          | some (pc', lv', st', σ') => pj_nrm lv' (fun lv2 => pj_bn L G n pc' lv2 st' σ')
          | none => none
theorem pj_bn_blk (L : Nat) (G : pj_Mi) : ∀ (n pc : Nat) (lv : List Slot) (st : List Value) (σ : pj_St), pj_bn L G n pc lv st σ = pj_blk L G n pc lv st σ
  | 0, _, _, _, _ => rfl
  | n + 1, pc, lv, st, σ => by
    unfold pj_bn pj_blk
    cases pj_cd G pc with
    | none => rfl
    | some il =>
      obtain ⟨i, len⟩ := il
      simp only
      split
      · rfl
      · cases pj_thr G i pc with
        | some x => rfl
        | none =>
          simp only
          cases pj_cal G i with
          | some x => rfl
          | none =>
            simp only
            cases pj_stp L G i len pc lv st σ with
            | none => rfl
            | some q =>
              obtain ⟨a, b, c, e⟩ := q
              simp only [pj_nrm_eq]
              exact pj_bn_blk L G n a b c e
/-- a call's callee, arguments, and the rest of the stack -/
def pj_ck (G : pj_Mi) (pc : Nat) (st : List Value) (N : pj_N) : Option (Nat × pj_Mi × List Value × List Value) := match pj_cd G pc with
  | none => none
  | some (i, len) => if pj_isRet i = true then none else match pj_thr G i pc with
    | some _ => none
    | none => match pj_cal G i with
      | none => none
      | some (k, kd) => if k = 999 then none else match pj_mts[k]? with
        | none => none
        | some M => if M.2.1.2.1 = kd then (match pj_popn (M.2.1.2.2 + (if kd = 0 then 0 else 1)) [] st with
            | some (as, r) => if pj_rcv M N as = true ∧ pj_wt r ≤ 8 ∧ pj_wt as ≤ M.1.2.2.1 then some (len, M, as, r) else none
            | none => none) else none
section EVR
variable {L d : Nat} {G : pj_Mi} {pc : Nat} {lv : List Slot} {st : List Value} {N : pj_N} {I : pj_SI} {J : pj_SJ} {P : pj_SP} {σ : pj_St} {r : pj_Rs × pj_St}
theorem ev_b (n : Nat) {pc' : Nat} {lv' : List Slot} {st' : List Value} {σ' : pj_St} (h : pj_bn L G n pc lv st σ = some (pc', lv', st', σ')) (k : pj_Ev L d G pc' lv' st' σ' r) : pj_Ev L d G pc lv st σ r := pj_Ev.blk n ((pj_bn_blk L G n pc lv st σ).symm.trans h) k
theorem ev_1 {i : Instr} {len pc' : Nat} {lv' : List Slot} {st' : List Value} {σ' : pj_St} (hc : pj_cd G pc = some (i, len)) (hr : pj_isRet i = false) (ht : pj_thr G i pc = none) (hk : pj_cal G i = none) (hs : pj_stp L G i len pc lv st σ = some (pc', lv', st', σ')) (k : pj_Ev L d G pc' lv' st' σ' r) : pj_Ev L d G pc lv st σ r := by
  obtain ⟨f, hf⟩ := k
  refine ⟨f + 1, ?_⟩
  show (match pj_cd G pc with | none => none | some (i, len) => _) = _
  rw [hc]
  simp only [hr, ht, hk, hs, hf, Bool.false_eq_true, if_false]
theorem ev_if {c : ClassFile.Cond} {off : Int} {t : Nat} (x y : Int32) (hc : pj_cd G pc = some (.if_icmp c off, 3)) (ht : pj_tg pc off = some t) (h1 : pj_ic c x y = true → pj_Ev L d G t lv st σ r) (h2 : pj_ic c x y = false → pj_Ev L d G (pc + 3) lv st σ r) : pj_Ev L d G pc lv (.int y :: .int x :: st) σ r := by
  by_cases h : pj_ic c x y = true
  · refine ev_1 hc rfl rfl rfl ?_ (h1 h)
    show (match pj_tg pc off with | some t => _ | none => none) = _
    rw [ht]
    simp only [h, if_true]
  · refine ev_1 hc rfl rfl rfl ?_ (h2 (by simpa using h))
    show (match pj_tg pc off with | some t => _ | none => none) = _
    rw [ht]
    simp only [h, if_false]
    rfl
theorem ev_if0 {c : ClassFile.Cond} {off : Int} {t : Nat} (x : Int32) (hc : pj_cd G pc = some (.ifCond c off, 3)) (ht : pj_tg pc off = some t) (h1 : pj_ic c x 0 = true → pj_Ev L d G t lv st σ r) (h2 : pj_ic c x 0 = false → pj_Ev L d G (pc + 3) lv st σ r) : pj_Ev L d G pc lv (.int x :: st) σ r := by
  by_cases h : pj_ic c x 0 = true
  · refine ev_1 hc rfl rfl rfl ?_ (h1 h)
    show (match pj_tg pc off with | some t => _ | none => none) = _
    rw [ht]
    simp only [h, if_true]
  · refine ev_1 hc rfl rfl rfl ?_ (h2 (by simpa using h))
    show (match pj_tg pc off with | some t => _ | none => none) = _
    rw [ht]
    simp only [h, if_false]
    rfl
/-! branches by small numbers -/
theorem ev_ge {off : Int} {t : Nat} (a b : Nat) (hc : pj_cd G pc = some (.if_icmp .ge off, 3)) (ht : pj_tg pc off = some t) (ha : a < 2 ^ 31) (hb : b < 2 ^ 31) (h1 : b ≤ a → pj_Ev L d G t lv st σ r) (h2 : a < b → pj_Ev L d G (pc + 3) lv st σ r) : pj_Ev L d G pc lv (.int (nI b) :: .int (nI a) :: st) σ r :=
  ev_if _ _ hc ht (fun h => h1 ((nI_leI hb ha).mp (of_decide_eq_true h))) (fun h => h2 (by
    have := of_decide_eq_false h
    rw [nI_leI hb ha] at this
    omega))
theorem ev_gt {off : Int} {t : Nat} (a b : Nat) (hc : pj_cd G pc = some (.if_icmp .gt off, 3)) (ht : pj_tg pc off = some t) (ha : a < 2 ^ 31) (hb : b < 2 ^ 31) (h1 : b < a → pj_Ev L d G t lv st σ r) (h2 : a ≤ b → pj_Ev L d G (pc + 3) lv st σ r) : pj_Ev L d G pc lv (.int (nI b) :: .int (nI a) :: st) σ r :=
  ev_if _ _ hc ht (fun h => h1 ((nI_ltI hb ha).mp (of_decide_eq_true h))) (fun h => h2 (by
    have := of_decide_eq_false h
    rw [nI_ltI hb ha] at this
    omega))
theorem ev_lt {off : Int} {t : Nat} (a b : Nat) (hc : pj_cd G pc = some (.if_icmp .lt off, 3)) (ht : pj_tg pc off = some t) (ha : a < 2 ^ 31) (hb : b < 2 ^ 31) (h1 : a < b → pj_Ev L d G t lv st σ r) (h2 : b ≤ a → pj_Ev L d G (pc + 3) lv st σ r) : pj_Ev L d G pc lv (.int (nI b) :: .int (nI a) :: st) σ r :=
  ev_if _ _ hc ht (fun h => h1 ((nI_ltI ha hb).mp (of_decide_eq_true h))) (fun h => h2 (by
    have := of_decide_eq_false h
    rw [nI_ltI ha hb] at this
    omega))
theorem ev_le {off : Int} {t : Nat} (a b : Nat) (hc : pj_cd G pc = some (.if_icmp .le off, 3)) (ht : pj_tg pc off = some t) (ha : a < 2 ^ 31) (hb : b < 2 ^ 31) (h1 : a ≤ b → pj_Ev L d G t lv st σ r) (h2 : b < a → pj_Ev L d G (pc + 3) lv st σ r) : pj_Ev L d G pc lv (.int (nI b) :: .int (nI a) :: st) σ r :=
  ev_if _ _ hc ht (fun h => h1 ((nI_leI ha hb).mp (of_decide_eq_true h))) (fun h => h2 (by
    have := of_decide_eq_false h
    rw [nI_leI ha hb] at this
    omega))
theorem ev_eq {off : Int} {t : Nat} (a b : Nat) (hc : pj_cd G pc = some (.if_icmp .eq off, 3)) (ht : pj_tg pc off = some t) (ha : a < 2 ^ 31) (hb : b < 2 ^ 31) (h1 : a = b → pj_Ev L d G t lv st σ r) (h2 : a ≠ b → pj_Ev L d G (pc + 3) lv st σ r) : pj_Ev L d G pc lv (.int (nI b) :: .int (nI a) :: st) σ r :=
  ev_if _ _ hc ht (fun h => h1 ((nI_eq ha hb).mp (of_decide_eq_true h))) (fun h => h2 (by
    have := of_decide_eq_false h
    rw [nI_eq ha hb] at this
    exact this))
theorem ev_ne {off : Int} {t : Nat} (a b : Nat) (hc : pj_cd G pc = some (.if_icmp .ne off, 3)) (ht : pj_tg pc off = some t) (ha : a < 2 ^ 31) (hb : b < 2 ^ 31) (h1 : a ≠ b → pj_Ev L d G t lv st σ r) (h2 : a = b → pj_Ev L d G (pc + 3) lv st σ r) : pj_Ev L d G pc lv (.int (nI b) :: .int (nI a) :: st) σ r :=
  ev_if _ _ hc ht (fun h => h1 (by
    have := of_decide_eq_true h
    rw [nI_eq ha hb] at this
    exact this)) (fun h => h2 (by
    have := of_decide_eq_false h
    rw [Classical.not_not, nI_eq ha hb] at this
    exact this))
theorem bI_ne (b : Bool) : bI b = 0 ↔ b = false := by cases b <;> decide
theorem ev_nz {off : Int} {t : Nat} (b : Bool) (hc : pj_cd G pc = some (.ifCond .ne off, 3)) (ht : pj_tg pc off = some t) (h1 : b = true → pj_Ev L d G t lv st σ r) (h2 : b = false → pj_Ev L d G (pc + 3) lv st σ r) : pj_Ev L d G pc lv (.int (bI b) :: st) σ r :=
  ev_if0 _ hc ht (fun h => h1 (by
    have := of_decide_eq_true h
    rw [bI_ne] at this
    simpa using this)) (fun h => h2 (by
    have := of_decide_eq_false h
    rw [Classical.not_not, bI_ne] at this
    exact this))
theorem ev_z {off : Int} {t : Nat} (b : Bool) (hc : pj_cd G pc = some (.ifCond .eq off, 3)) (ht : pj_tg pc off = some t) (h1 : b = false → pj_Ev L d G t lv st σ r) (h2 : b = true → pj_Ev L d G (pc + 3) lv st σ r) : pj_Ev L d G pc lv (.int (bI b) :: st) σ r :=
  ev_if0 _ hc ht (fun h => h1 (by
    have := of_decide_eq_true h
    rw [bI_ne] at this
    exact this)) (fun h => h2 (by
    have := of_decide_eq_false h
    rw [bI_ne] at this
    simpa using this))
/-! cells -/
theorem pj_in_n {o c : Nat} (h : c < pj_ln L o) (hc : c < 2 ^ 31) : pj_in L o (nI c) = true := decide_eq_true (by
  rintro (z | z)
  · exact nI_pos hc z
  · rw [nI_clamp hc] at z
    omega)
theorem ev_ia (o c : Nat) (v : Int32) (hv : I o c = v) (hc : pj_cd G pc = some (.iaload, 1)) (hkd : pj_kd o = 5) (hal : pj_al N o = true) (hin : c < pj_ln L o) (hL : c < 2 ^ 31) (k : pj_Ev L d G (pc + 1) lv (.int v :: st) (N, I, J, P) r) : pj_Ev L d G pc lv (.int (nI c) :: .ref o :: st) (N, I, J, P) r := by
  refine ev_1 hc rfl rfl rfl ?_ k
  show (if pj_kd o = 5 ∧ pj_al N o = true ∧ pj_in L o (nI c) = true then _ else none) = _
  rw [if_pos ⟨hkd, hal, pj_in_n hin hL⟩, nI_clamp hL, ← hv]
theorem ev_la (o c : Nat) (v : Int64) (hv : J o c = v) (hc : pj_cd G pc = some (.laload, 1)) (hkd : pj_kd o = 6) (hal : pj_al N o = true) (hin : c < pj_ln L o) (hL : c < 2 ^ 31) (k : pj_Ev L d G (pc + 1) lv (.long v :: st) (N, I, J, P) r) : pj_Ev L d G pc lv (.int (nI c) :: .ref o :: st) (N, I, J, P) r := by
  refine ev_1 hc rfl rfl rfl ?_ k
  show (if pj_kd o = 6 ∧ pj_al N o = true ∧ pj_in L o (nI c) = true then _ else none) = _
  rw [if_pos ⟨hkd, hal, pj_in_n hin hL⟩, nI_clamp hL, ← hv]
theorem ev_aa (o c q : Nat) (hv : P o c = some q) (hc : pj_cd G pc = some (.aaload, 1)) (hkd : pj_kd o = 7 ∨ pj_kd o = 8) (hal : pj_al N o = true) (hin : c < pj_ln L o) (hL : c < 2 ^ 31) (k : pj_Ev L d G (pc + 1) lv (.ref q :: st) (N, I, J, P) r) : pj_Ev L d G pc lv (.int (nI c) :: .ref o :: st) (N, I, J, P) r := by
  refine ev_1 hc rfl rfl rfl ?_ k
  show (if (pj_kd o = 7 ∨ pj_kd o = 8) ∧ pj_al N o = true ∧ pj_in L o (nI c) = true then some (pc + 1, lv, pj_rf (P o (nI c).toNatClampNeg) :: st, (N, I, J, P)) else none) = _
  rw [if_pos ⟨hkd, hal, pj_in_n hin hL⟩, nI_clamp hL, hv]
  rfl
theorem ev_is (o c : Nat) (x : Int32) (hc : pj_cd G pc = some (.iastore, 1)) (hkd : pj_kd o = 5) (ho : 0 < o) (hal : pj_al N o = true) (hin : c < pj_ln L o) (hL : c < 2 ^ 31) (k : pj_Ev L d G (pc + 1) lv st (N, pj_u2 I o c x, J, P) r) : pj_Ev L d G pc lv (.int x :: .int (nI c) :: .ref o :: st) (N, I, J, P) r := by
  refine ev_1 hc rfl rfl rfl ?_ k
  show (if pj_kd o = 5 ∧ 0 < o ∧ pj_al N o = true ∧ pj_in L o (nI c) = true then some (pc + 1, lv, st, (N, pj_u2 I o (nI c).toNatClampNeg x, J, P)) else none) = _
  rw [if_pos ⟨hkd, ho, hal, pj_in_n hin hL⟩, nI_clamp hL]
theorem ev_ls (o c : Nat) (x : Int64) (hc : pj_cd G pc = some (.lastore, 1)) (hkd : pj_kd o = 6) (hal : pj_al N o = true) (hin : c < pj_ln L o) (hL : c < 2 ^ 31) (k : pj_Ev L d G (pc + 1) lv st (N, I, pj_u2 J o c x, P) r) : pj_Ev L d G pc lv (.long x :: .int (nI c) :: .ref o :: st) (N, I, J, P) r := by
  refine ev_1 hc rfl rfl rfl ?_ k
  show (if pj_kd o = 6 ∧ pj_al N o = true ∧ pj_in L o (nI c) = true then some (pc + 1, lv, st, (N, I, pj_u2 J o (nI c).toNatClampNeg x, P)) else none) = _
  rw [if_pos ⟨hkd, hal, pj_in_n hin hL⟩, nI_clamp hL]
theorem ev_gf {idx : Nat} (o cl k : Nat) (v : Value) (hv : pj_fv (N, I, J, P) cl o k = v) (hc : pj_cd G pc = some (.getfield idx, 3)) (hf : pj_fr G.2.1.1 idx = some (cl, k)) (hkd : pj_kd o = cl) (hal : pj_al N o = true) (kk : pj_Ev L d G (pc + 3) lv (v :: st) (N, I, J, P) r) : pj_Ev L d G pc lv (.ref o :: st) (N, I, J, P) r := by
  refine ev_1 hc rfl rfl rfl ?_ kk
  show (match (Value.ref o :: st), pj_fr G.2.1.1 idx with | .ref o :: r, some (c, k) => _ | _, _ => none) = _
  rw [hf]
  show (if pj_kd o = cl ∧ pj_al N o = true then some (pc + 3, lv, pj_fv (N, I, J, P) cl o k :: st, (N, I, J, P)) else none) = _
  rw [if_pos ⟨hkd, hal⟩, hv]
theorem ev_pf {idx : Nat} (o cl k : Nat) (v : Value) (σ' : pj_St) (hp : pj_put (N, I, J, P) cl o k v = some σ') (hc : pj_cd G pc = some (.putfield idx, 3)) (hf : pj_fr G.2.1.1 idx = some (cl, k)) (hkd : pj_kd o = cl) (hal : pj_al N o = true) (hfin : pj_fin cl k = false) (kk : pj_Ev L d G (pc + 3) lv st σ' r) : pj_Ev L d G pc lv (v :: .ref o :: st) (N, I, J, P) r := by
  refine ev_1 hc rfl rfl rfl ?_ kk
  show (match (v :: Value.ref o :: st), pj_fr G.2.1.1 idx with | v :: .ref o :: r, some (c, k) => _ | _, _ => none) = _
  rw [hf]
  show (if pj_kd o = cl ∧ pj_al N o = true ∧ (pj_fin cl k = false ∨ (G.2.1.2.1 = 2 ∧ G.2.1.1 = cl)) then (match pj_put (N, I, J, P) cl o k v with | some σ' => some (pc + 3, lv, st, σ') | none => none) else none) = _
  rw [if_pos ⟨hkd, hal, Or.inl hfin⟩, hp]
/-! ends, calls -/
theorem ev_ret {i : Instr} {len : Nat} {v : Option Value} (hc : pj_cd G pc = some (i, len)) (hr : pj_isRet i = true) (hv : pj_ret G i st = some v) : pj_Ev L d G pc lv st σ (.inl v, σ) := by
  refine ⟨1, ?_⟩
  show (match pj_cd G pc with | none => none | some (i, len) => _) = _
  rw [hc]
  simp only [hr, if_true, hv]
theorem ev_thr {i : Instr} {len x : Nat} (hc : pj_cd G pc = some (i, len)) (hr : pj_isRet i = false) (ht : pj_thr G i pc = some x) (hw : Nat.ble (pj_wt st) 8 = true) (ha : pj_al σ.1 147 = true) : pj_Ev L d G pc lv st σ (.inr x, pj_gar σ) := by
  refine ⟨1, ?_⟩
  show (match pj_cd G pc with | none => none | some (i, len) => _) = _
  rw [hc]
  simp only [hr, ht, Bool.false_eq_true, if_false]
  rw [if_pos ⟨Nat.le_of_ble_eq_true hw, ha⟩]
theorem ev_run2 {f1 f2 : Nat} {d1 d2 : Nat} {G1 G2 : pj_Mi} {pc1 pc2 : Nat} {lv1 lv2 : List Slot} {st1 st2 : List Value} {σ1 σ2 : pj_St} {r1 r2 : pj_Rs × pj_St} (h1 : pj_run L f1 d1 G1 pc1 lv1 st1 σ1 = some r1) (h2 : pj_run L f2 d2 G2 pc2 lv2 st2 σ2 = some r2) :
    ∃ f, pj_run L f d1 G1 pc1 lv1 st1 σ1 = some r1 ∧ pj_run L f d2 G2 pc2 lv2 st2 σ2 = some r2 :=
  ⟨f1 + f2, pj_run_ups f2 h1, by rw [Nat.add_comm]; exact pj_run_ups f1 h2⟩
theorem pj_ck_run {f : Nat} {len : Nat} {M : pj_Mi} {as rest : List Value} (h : pj_ck G pc st σ.1 = some (len, M, as, rest)) :
    pj_run L (f + 1) (d + 1) G pc lv st σ = (match pj_run L f d M 0 (pj_ent M.1.2.2.1 as) [] σ with
      | some (.inl v, σ') => pj_run L f (d + 1) G (pc + len) lv (v.toList ++ rest) σ'
      | some (.inr x, σ') => (match pj_hd G.2.1.1 pc x G.2.2.1 with
        | some h => (match pj_cd G h with
          | some (.astore_n q, 1) => if (q : Nat) < lv.length ∧ pj_wide lv q = false then pj_run L f (d + 1) G (h + 1) (lv.set q .unset) [] σ' else none
          | some (.astore q, 2) => if q < lv.length ∧ pj_wide lv q = false then pj_run L f (d + 1) G (h + 2) (lv.set q .unset) [] σ' else none
          | _ => none)
        | none => if G.2.2.1.isEmpty = true then some (.inr x, σ') else none)
      | none => none) := by
  rw [pj_run]
  unfold pj_ck at h
  cases hcd : pj_cd G pc with
  | none => rw [hcd] at h; cases h
  | some il =>
    obtain ⟨i, len'⟩ := il
    rw [hcd] at h
    simp only at h ⊢
    by_cases hr : pj_isRet i = true
    · rw [if_pos hr] at h; cases h
    · rw [if_neg hr] at h ⊢
      cases ht : pj_thr G i pc with
      | some x => rw [ht] at h; cases h
      | none =>
        rw [ht] at h
        simp only at h ⊢
        cases hk : pj_cal G i with
        | none => rw [hk] at h; cases h
        | some q =>
          obtain ⟨k, kd⟩ := q
          rw [hk] at h
          simp only at h ⊢
          by_cases h9 : k = 999
          · rw [if_pos h9] at h; cases h
          · rw [if_neg h9] at h ⊢
            cases hM : pj_mts[k]? with
            | none => rw [hM] at h; cases h
            | some M' =>
              rw [hM] at h
              simp only at h ⊢
              split at h
              · next hkd =>
                rw [if_pos hkd]
                cases hp : pj_popn (M'.2.1.2.2 + (if kd = 0 then 0 else 1)) [] st with
                | none => rw [hp] at h; cases h
                | some q =>
                  obtain ⟨as', r0⟩ := q
                  rw [hp] at h
                  rw [pj_popn_pop hp]
                  simp only at h ⊢
                  split at h
                  · next hc =>
                    cases h
                    rw [if_pos hc]
                    rfl
                  · cases h
              · cases h
theorem ev_c {len : Nat} {M : pj_Mi} {as rest : List Value} {v : Option Value} {σ' : pj_St} (h : pj_ck G pc st σ.1 = some (len, M, as, rest)) (hcal : pj_Ev L d M 0 (pj_ent M.1.2.2.1 as) [] σ (.inl v, σ')) (k : pj_Ev L (d + 1) G (pc + len) lv (v.toList ++ rest) σ' r) : pj_Ev L (d + 1) G pc lv st σ r := by
  obtain ⟨f1, h1⟩ := hcal
  obtain ⟨f2, h2⟩ := k
  obtain ⟨f, e1, e2⟩ := ev_run2 h1 h2
  refine ⟨f + 1, ?_⟩
  rw [pj_ck_run h, e1]
  exact e2
/-- a call that throws, out of a method without handlers -/
theorem ev_cp {len : Nat} {M : pj_Mi} {as rest : List Value} {x : Nat} {σ' : pj_St} (h : pj_ck G pc st σ.1 = some (len, M, as, rest)) (hh : G.2.2.1 = []) (hcal : pj_Ev L d M 0 (pj_ent M.1.2.2.1 as) [] σ (.inr x, σ')) : pj_Ev L (d + 1) G pc lv st σ (.inr x, σ') := by
  obtain ⟨f, h1⟩ := hcal
  refine ⟨f + 1, ?_⟩
  rw [pj_ck_run h, h1, hh]
  rfl
/-- a call that throws, caught -/
theorem ev_ct {len : Nat} {M : pj_Mi} {as rest : List Value} {x hdl q w : Nat} {i : Instr} {σ' : pj_St} (h : pj_ck G pc st σ.1 = some (len, M, as, rest)) (hcal : pj_Ev L d M 0 (pj_ent M.1.2.2.1 as) [] σ (.inr x, σ')) (hh : pj_hd G.2.1.1 pc x G.2.2.1 = some hdl)
    (hi : pj_cd G hdl = some (i, w)) (hq : (w = 1 ∧ ∃ q' : Fin 4, i = .astore_n q' ∧ (q' : Nat) = q) ∨ (w = 2 ∧ i = .astore q)) (hl : q < lv.length) (hw : pj_wide lv q = false) (k : pj_Ev L (d + 1) G (hdl + w) (lv.set q .unset) [] σ' r) : pj_Ev L (d + 1) G pc lv st σ r := by
  obtain ⟨f1, h1⟩ := hcal
  obtain ⟨f2, h2⟩ := k
  obtain ⟨f, e1, e2⟩ := ev_run2 h1 h2
  refine ⟨f + 1, ?_⟩
  rw [pj_ck_run h, e1]
  simp only [hh, hi]
  rcases hq with ⟨rfl, q', rfl, rfl⟩ | ⟨rfl, rfl⟩
  · simp only
    rw [if_pos ⟨hl, hw⟩]
    exact e2
  · simp only
    rw [if_pos ⟨hl, hw⟩]
    exact e2
end EVR
theorem nI_inc (c : Nat) : nI c + Int32.ofInt 1 = nI (c + 1) := (nI_succ c).symm
theorem nI_dec (c : Nat) : nI (c + 1) + Int32.ofInt (-1) = nI c := pk_m1 c
theorem bI_add (a : Nat) (b : Bool) : nI a + bI b = nI (a + (if b then 1 else 0)) := by
  cases b
  · show nI a + nI 0 = _
    rw [nI_add]; rfl
  · show nI a + nI 1 = _
    rw [nI_add]; rfl
end
section
/-! plain facts to paste, each family by itself; over the kit's nI, lN and upd -/
/-! ===== drawers: more things than places ===== -/
theorem fb_holes : ∀ (m n : Nat) (f : Nat → Nat), (∀ i, i < n → f i < m) → (∀ i j, i < j → j < n → f i ≠ f j) → n ≤ m := by
  intro m
  induction m with
  | zero =>
    intro n f h1 _
    rcases Nat.eq_zero_or_pos n with h | h
    · omega
    · exact absurd (h1 0 h) (Nat.not_lt_zero _)
  | succ m ih =>
    intro n f h1 h2
    by_cases hx : ∃ i, i < n ∧ f i = m
    · obtain ⟨a, ha, hfa⟩ := hx
      have hg := ih (n - 1) (fun i => if i < a then f i else f (i + 1)) (by
        intro i hi
        by_cases q : i < a
        · simp only [if_pos q]
          have b1 := h1 i (by omega)
          have b2 := h2 i a q ha
          omega
        · simp only [if_neg q]
          have b1 := h1 (i + 1) (by omega)
          have b2 := h2 a (i + 1) (by omega) (by omega)
          omega) (by
        intro i j hij hj
        by_cases q : i < a
        · by_cases r : j < a
          · simp only [if_pos q, if_pos r]
            exact h2 i j hij (by omega)
          · simp only [if_pos q, if_neg r]
            exact h2 i (j + 1) (by omega) (by omega)
        · have r : ¬ j < a := by omega
          simp only [if_neg q, if_neg r]
          exact h2 (i + 1) (j + 1) (by omega) (by omega))
      omega
    · have hg := ih n f (fun i hi => by
        have b1 := h1 i hi
        have b2 : f i ≠ m := fun e => hx ⟨i, hi, e⟩
        omega) h2
      omega
/-- two of them in one place -/
theorem fb_twice {m n : Nat} {f : Nat → Nat} (h : ∀ i, i < n → f i < m) (hm : m < n) : ∃ i j, i < j ∧ j < n ∧ f i = f j := by
  refine Classical.byContradiction fun hx => ?_
  have := fb_holes m n f h (fun i j hij hj e => hx ⟨i, j, hij, hj, e⟩)
  omega
/-- as many as places, none twice: each place is taken -/
theorem fb_onto {n : Nat} {f : Nat → Nat} (h : ∀ i, i < n → f i < n) (h2 : ∀ i j, i < j → j < n → f i ≠ f j) {y : Nat} (hy : y < n) : ∃ i, i < n ∧ f i = y := by
  refine Classical.byContradiction fun hx => ?_
  have hne : ∀ i, i < n → f i ≠ y := fun i hi e => hx ⟨i, hi, e⟩
  have := fb_holes (n - 1) n (fun i => if f i < y then f i else f i - 1) (by
    intro i hi
    have b1 := h i hi
    have b2 := hne i hi
    by_cases q : f i < y
    · simp only [if_pos q]; omega
    · simp only [if_neg q]; omega) (by
    intro i j hij hj
    have b1 := hne i (by omega)
    have b2 := hne j hj
    have b3 := h2 i j hij hj
    by_cases q : f i < y
    · by_cases r : f j < y
      · simp only [if_pos q, if_pos r]; exact b3
      · simp only [if_pos q, if_neg r]; omega
    · by_cases r : f j < y
      · simp only [if_neg q, if_pos r]; omega
      · simp only [if_neg q, if_neg r]; omega)
  omega
/-! ===== how many places have a property ===== -/
def fb_ct (p : Nat → Bool) : Nat → Nat
  | 0 => 0
  | n + 1 => fb_ct p n + (if p n then 1 else 0)
theorem fb_ct_succ (p : Nat → Bool) (n : Nat) : fb_ct p (n + 1) = fb_ct p n + (if p n then 1 else 0) := rfl
theorem fb_ct_le (p : Nat → Bool) : ∀ n, fb_ct p n ≤ n
  | 0 => Nat.le_refl _
  | n + 1 => by
    have h := fb_ct_le p n
    rw [fb_ct_succ]
    split <;> omega
theorem fb_ct_step (p : Nat → Bool) (m : Nat) : ∀ n, fb_ct p m ≤ fb_ct p (m + n)
  | 0 => Nat.le_refl _
  | n + 1 => by
    have h := fb_ct_step p m n
    show fb_ct p m ≤ fb_ct p (m + n + 1)
    rw [fb_ct_succ]
    omega
theorem fb_ct_mono (p : Nat → Bool) {m n : Nat} (h : m ≤ n) : fb_ct p m ≤ fb_ct p n := by
  have := fb_ct_step p m (n - m)
  rwa [Nat.add_sub_cancel' h] at this
theorem fb_ct_cong {p q : Nat → Bool} : ∀ {n : Nat}, (∀ k, k < n → p k = q k) → fb_ct p n = fb_ct q n
  | 0, _ => rfl
  | n + 1, h => by
    rw [fb_ct_succ, fb_ct_succ, fb_ct_cong (fun k hk => h k (by omega)), h n (by omega)]
/-- one place changed -/
theorem fb_ct_out (p : Nat → Bool) (b : Bool) {i n : Nat} (h : n ≤ i) : fb_ct (fun k => if k = i then b else p k) n = fb_ct p n :=
  fb_ct_cong fun k hk => if_neg (by omega)
theorem fb_ct_upd (p : Nat → Bool) (b : Bool) {i : Nat} : ∀ {n : Nat}, i < n → fb_ct (fun k => if k = i then b else p k) n + (if p i then 1 else 0) = fb_ct p n + (if b then 1 else 0)
  | 0, h => absurd h (Nat.not_lt_zero i)
  | n + 1, h => by
    rw [fb_ct_succ, fb_ct_succ]
    rcases Nat.lt_or_ge i n with q | q
    · have := fb_ct_upd p b q
      have e : (if n = i then b else p n) = p n := if_neg (by omega)
      rw [e]
      omega
    · have e : i = n := by omega
      subst e
      rw [fb_ct_out p b (Nat.le_refl _)]
      simp only [if_true]
      omega
theorem fb_ct_sub {p q : Nat → Bool} : ∀ {n : Nat}, (∀ k, k < n → p k = true → q k = true) → fb_ct p n ≤ fb_ct q n
  | 0, _ => Nat.le_refl _
  | n + 1, h => by
    have h1 := fb_ct_sub (n := n) (p := p) (q := q) (fun k hk => h k (by omega))
    have h2 := h n (by omega)
    rw [fb_ct_succ, fb_ct_succ]
    cases hp : p n <;> cases hq : q n <;> simp_all <;> omega
theorem fb_ct_or {p q : Nat → Bool} : ∀ {n : Nat}, (∀ k, k < n → ¬ (p k = true ∧ q k = true)) → fb_ct (fun k => p k || q k) n = fb_ct p n + fb_ct q n
  | 0, _ => rfl
  | n + 1, h => by
    have h1 := fb_ct_or (n := n) (p := p) (q := q) (fun k hk => h k (by omega))
    have h2 := h n (by omega)
    rw [fb_ct_succ, fb_ct_succ, fb_ct_succ, h1]
    cases hp : p n <;> cases hq : q n <;> simp_all <;> omega
theorem fb_ct_not (p : Nat → Bool) : ∀ n, fb_ct p n + fb_ct (fun k => !p k) n = n
  | 0 => rfl
  | n + 1 => by
    have h := fb_ct_not p n
    rw [fb_ct_succ, fb_ct_succ]
    cases p n <;> simp <;> omega
theorem fb_ct_split (p : Nat → Bool) (m : Nat) : ∀ n, fb_ct p (m + n) = fb_ct p m + fb_ct (fun k => p (m + k)) n
  | 0 => rfl
  | n + 1 => by
    have h := fb_ct_split p m n
    show fb_ct p (m + n + 1) = _
    rw [fb_ct_succ, fb_ct_succ, h, Nat.add_assoc]
theorem fb_ct_zero {p : Nat → Bool} : ∀ {n : Nat}, fb_ct p n = 0 ↔ ∀ k, k < n → p k = false
  | 0 => ⟨fun _ k hk => absurd hk (Nat.not_lt_zero k), fun _ => rfl⟩
  | n + 1 => by
    have h := fb_ct_zero (p := p) (n := n)
    rw [fb_ct_succ]
    constructor
    · intro e k hk
      have e1 : fb_ct p n = 0 := by omega
      rcases Nat.lt_or_ge k n with q | q
      · exact h.mp e1 k q
      · have ek : k = n := by omega
        subst ek
        cases hp : p k
        · rfl
        · simp [hp] at e
    · intro a
      rw [h.mpr (fun k hk => a k (by omega)), a n (by omega)]
      rfl
theorem fb_ct_pos {p : Nat → Bool} {n : Nat} : 0 < fb_ct p n ↔ ∃ k, k < n ∧ p k = true := by
  constructor
  · intro h
    refine Classical.byContradiction fun hx => ?_
    have := fb_ct_zero.mpr (fun k hk => by
      cases hp : p k
      · rfl
      · exact absurd ⟨k, hk, hp⟩ hx : ∀ k, k < n → p k = false)
    omega
  · rintro ⟨k, hk, hp⟩
    rcases Nat.eq_zero_or_pos (fb_ct p n) with e | e
    · have := fb_ct_zero.mp e k hk
      rw [this] at hp
      cases hp
    · exact e
theorem fb_ct_all {p : Nat → Bool} {n : Nat} : fb_ct p n = n ↔ ∀ k, k < n → p k = true := by
  have h := fb_ct_not p n
  constructor
  · intro e k hk
    have z : fb_ct (fun k => !p k) n = 0 := by omega
    have := fb_ct_zero.mp z k hk
    cases hp : p k
    · simp [hp] at this
    · rfl
  · intro a
    have z : fb_ct (fun k => !p k) n = 0 := fb_ct_zero.mpr (fun k hk => by simp [a k hk])
    omega
/-- the k-th place with the property -/
theorem fb_ct_kth {p : Nat → Bool} {k : Nat} : ∀ {n : Nat}, k < fb_ct p n → ∃ i, i < n ∧ p i = true ∧ fb_ct p i = k
  | 0, h => absurd h (Nat.not_lt_zero k)
  | n + 1, h => by
    rcases Nat.lt_or_ge k (fb_ct p n) with q | q
    · obtain ⟨i, h1, h2⟩ := fb_ct_kth q
      exact ⟨i, by omega, h2⟩
    · rw [fb_ct_succ] at h
      cases hp : p n
      · simp [hp] at h; omega
      · simp [hp] at h
        exact ⟨n, by omega, hp, by omega⟩
theorem fb_ct_kth_one {p : Nat → Bool} {i j : Nat} (hi : p i = true) (hj : p j = true) (e : fb_ct p i = fb_ct p j) : i = j := by
  have key : ∀ a b : Nat, a < b → p a = true → fb_ct p a < fb_ct p b := by
    intro a b hab ha
    have h := fb_ct_mono p (show a + 1 ≤ b from hab)
    rw [fb_ct_succ, ha] at h
    simp at h
    omega
  rcases Nat.lt_trichotomy i j with q | q | q
  · have := key i j q hi; omega
  · exact q
  · have := key j i q hj; omega
/-! ===== sums over a range: one place changed, parts, bounds ===== -/
def fb_sm (f : Nat → Nat) : Nat → Nat
  | 0 => 0
  | n + 1 => fb_sm f n + f n
theorem fb_sm_succ (f : Nat → Nat) (n : Nat) : fb_sm f (n + 1) = fb_sm f n + f n := rfl
theorem fb_sm_cong {f g : Nat → Nat} : ∀ {n : Nat}, (∀ k, k < n → f k = g k) → fb_sm f n = fb_sm g n
  | 0, _ => rfl
  | n + 1, h => by rw [fb_sm_succ, fb_sm_succ, fb_sm_cong (fun k hk => h k (by omega)), h n (by omega)]
theorem fb_sm_out (f : Nat → Nat) (v : Nat) {i n : Nat} (h : n ≤ i) : fb_sm (fun k => if k = i then v else f k) n = fb_sm f n :=
  fb_sm_cong fun k hk => if_neg (by omega)
theorem fb_sm_upd (f : Nat → Nat) (v : Nat) {i : Nat} : ∀ {n : Nat}, i < n → fb_sm (fun k => if k = i then v else f k) n + f i = fb_sm f n + v
  | 0, h => absurd h (Nat.not_lt_zero i)
  | n + 1, h => by
    rw [fb_sm_succ, fb_sm_succ]
    rcases Nat.lt_or_ge i n with q | q
    · have := fb_sm_upd f v q
      have e : (if n = i then v else f n) = f n := if_neg (by omega)
      rw [e]
      omega
    · have e : i = n := by omega
      subst e
      rw [fb_sm_out f v (Nat.le_refl _)]
      simp only [if_true]
      omega
theorem fb_sm_add (f g : Nat → Nat) : ∀ n, fb_sm (fun k => f k + g k) n = fb_sm f n + fb_sm g n
  | 0 => rfl
  | n + 1 => by
    have h := fb_sm_add f g n
    rw [fb_sm_succ, fb_sm_succ, fb_sm_succ, h]
    omega
theorem fb_sm_le {f g : Nat → Nat} : ∀ {n : Nat}, (∀ k, k < n → f k ≤ g k) → fb_sm f n ≤ fb_sm g n
  | 0, _ => Nat.le_refl _
  | n + 1, h => by
    have h1 := fb_sm_le (n := n) (f := f) (g := g) (fun k hk => h k (by omega))
    have h2 := h n (by omega)
    rw [fb_sm_succ, fb_sm_succ]
    omega
theorem fb_sm_const (c : Nat) : ∀ n, fb_sm (fun _ => c) n = n * c
  | 0 => by rw [Nat.zero_mul]; rfl
  | n + 1 => by rw [fb_sm_succ, fb_sm_const c n, Nat.succ_mul]
theorem fb_sm_bound {f : Nat → Nat} {c n : Nat} (h : ∀ k, k < n → f k ≤ c) : fb_sm f n ≤ n * c := by
  rw [← fb_sm_const c n]
  exact fb_sm_le h
theorem fb_sm_mono (f : Nat → Nat) (m : Nat) : ∀ n, fb_sm f m ≤ fb_sm f (m + n)
  | 0 => Nat.le_refl _
  | n + 1 => by
    have h := fb_sm_mono f m n
    show fb_sm f m ≤ fb_sm f (m + n + 1)
    rw [fb_sm_succ]
    omega
theorem fb_sm_part (f : Nat → Nat) {i n : Nat} (h : i < n) : fb_sm f i + f i ≤ fb_sm f n := by
  have := fb_sm_mono f (i + 1) (n - (i + 1))
  rw [fb_sm_succ, show i + 1 + (n - (i + 1)) = n by omega] at this
  exact this
theorem fb_sm_split (f : Nat → Nat) (m : Nat) : ∀ n, fb_sm f (m + n) = fb_sm f m + fb_sm (fun k => f (m + k)) n
  | 0 => rfl
  | n + 1 => by
    have h := fb_sm_split f m n
    show fb_sm f (m + n + 1) = _
    rw [fb_sm_succ, fb_sm_succ, h, Nat.add_assoc]
theorem fb_sm_zero {f : Nat → Nat} {n : Nat} (h : fb_sm f n = 0) : ∀ k, k < n → f k = 0 := fun k hk => by
  have := fb_sm_part f hk
  omega
/-! ===== the least, the first, the best so far; that there is one alone ===== -/
theorem fb_first {p : Nat → Prop} [DecidablePred p] : ∀ {n : Nat}, (∃ i, i < n ∧ p i) → ∃ i, i < n ∧ p i ∧ ∀ j, j < i → ¬ p j
  | 0, h => by obtain ⟨i, hi, -⟩ := h; exact absurd hi (Nat.not_lt_zero i)
  | n + 1, h => by
    by_cases q : ∃ i, i < n ∧ p i
    · obtain ⟨i, h1, h2⟩ := fb_first q
      exact ⟨i, by omega, h2⟩
    · obtain ⟨i, h1, h2⟩ := h
      have e : i = n := by
        rcases Nat.lt_or_ge i n with r | r
        · exact absurd ⟨i, r, h2⟩ q
        · omega
      subst e
      exact ⟨i, by omega, h2, fun j hj hp => q ⟨j, hj, hp⟩⟩
theorem fb_first_one {p : Nat → Prop} {i j : Nat} (hi : p i) (hi2 : ∀ k, k < i → ¬ p k) (hj : p j) (hj2 : ∀ k, k < j → ¬ p k) : i = j := by
  rcases Nat.lt_trichotomy i j with q | q | q
  · exact absurd hi (hj2 i q)
  · exact q
  · exact absurd hj (hi2 j q)
theorem fb_last {p : Nat → Prop} [DecidablePred p] : ∀ {n : Nat}, (∃ i, i < n ∧ p i) → ∃ i, i < n ∧ p i ∧ ∀ j, i < j → j < n → ¬ p j
  | 0, h => by obtain ⟨i, hi, -⟩ := h; exact absurd hi (Nat.not_lt_zero i)
  | n + 1, h => by
    by_cases q : p n
    · exact ⟨n, by omega, q, fun j h1 h2 => by omega⟩
    · obtain ⟨i, h1, h2⟩ := h
      have hi : i < n := by
        rcases Nat.lt_or_ge i n with r | r
        · exact r
        · have e : i = n := by omega
          subst e
          exact absurd h2 q
      obtain ⟨i2, a1, a2, a3⟩ := fb_last (n := n) ⟨i, hi, h2⟩
      refine ⟨i2, by omega, a2, fun j b1 b2 => ?_⟩
      rcases Nat.lt_or_ge j n with r | r
      · exact a3 j b1 r
      · have e : j = n := by omega
        subst e
        exact q
end
section
/-! nets: numbers of the pins, and the router's methods that ask for them -/
def hs (p : Nat → Nat) (n c : Nat) : Bool := p c == n || p (20 + c) == n
def pinsN (p : Nat → Nat) (n : Nat) : Nat := fb_ct (fun k => p k == n) 40
/-- the first place below n, or n -/
def fi (h : Nat → Bool) : Nat → Nat
  | 0 => 0
  | n + 1 => if fi h n < n then fi h n else if h n then n else n + 1
theorem fi_char {h : Nat → Bool} : ∀ {n c : Nat}, c ≤ n → (∀ j, j < c → h j = false) → (c < n → h c = true) → fi h n = c
  | 0, c, h1, _, _ => by unfold fi; omega
  | n + 1, c, h1, h2, h3 => by
    unfold fi
    by_cases e : c < n
    · rw [fi_char (n := n) (by omega) h2 (fun _ => h3 (by omega)), if_pos e]
    · by_cases e2 : c = n
      · subst e2
        rw [fi_char (n := c) (Nat.le_refl _) h2 (fun z => by omega), if_neg (by omega), if_pos (h3 (by omega))]
      · have e3 : c = n + 1 := by omega
        subst e3
        rw [fi_char (n := n) (Nat.le_refl _) (fun j hj => h2 j (by omega)) (fun z => by omega), if_neg (by omega), if_neg (by rw [h2 n (by omega)]; decide)]
theorem fi_spec (h : Nat → Bool) : ∀ n, fi h n ≤ n ∧ (∀ j, j < fi h n → h j = false) ∧ (fi h n < n → h (fi h n) = true)
  | 0 => ⟨Nat.le_refl _, fun j hj => by unfold fi at hj; omega, fun z => by unfold fi at z; omega⟩
  | n + 1 => by
    obtain ⟨i1, i2, i3⟩ := fi_spec h n
    unfold fi
    by_cases e : fi h n < n
    · rw [if_pos e]; exact ⟨by omega, i2, fun _ => i3 e⟩
    · have e1 : fi h n = n := by omega
      rw [if_neg e]
      by_cases e2 : h n = true
      · rw [if_pos e2]; exact ⟨by omega, fun j hj => i2 j (by omega), fun _ => e2⟩
      · rw [if_neg e2]
        refine ⟨Nat.le_refl _, fun j hj => ?_, fun z => by omega⟩
        by_cases e3 : j = n
        · rw [e3]; simpa using e2
        · exact i2 j (by omega)
/-- the last place below n -/
def la (h : Nat → Bool) : Nat → Nat
  | 0 => 0
  | n + 1 => if h n then n else la h n
theorem la_char {h : Nat → Bool} : ∀ {n c : Nat}, c < n → h c = true → (∀ j, c < j → j < n → h j = false) → la h n = c
  | 0, c, h1, _, _ => by omega
  | n + 1, c, h1, h2, h3 => by
    unfold la
    by_cases e : c = n
    · subst e; rw [if_pos h2]
    · rw [if_neg (by rw [h3 n (by omega) (by omega)]; decide)]
      exact la_char (by omega) h2 (fun j hj hn => h3 j hj (by omega))
theorem la_spec {h : Nat → Bool} : ∀ {n : Nat}, (∃ c, c < n ∧ h c = true) → la h n < n ∧ h (la h n) = true ∧ ∀ j, la h n < j → j < n → h j = false
  | 0, hx => by obtain ⟨c, h1, -⟩ := hx; omega
  | n + 1, hx => by
    obtain ⟨c, h1, h2⟩ := hx
    unfold la
    by_cases e : h n = true
    · rw [if_pos e]; exact ⟨by omega, e, fun j hj hn => by omega⟩
    · rw [if_neg e]
      have hc : c < n := by
        rcases Nat.lt_or_ge c n with z | z
        · exact z
        · have : c = n := by omega
          subst this; exact absurd h2 e
      obtain ⟨i1, i2, i3⟩ := la_spec (n := n) ⟨c, hc, h2⟩
      refine ⟨by omega, i2, fun j hj hn => ?_⟩
      by_cases e3 : j = n
      · rw [e3]; simpa using e
      · exact i3 j hj (by omega)
def kindN (p : Nat → Nat) (n : Nat) : Nat := if pinsN p n < 2 then pinsN p n else if fi (hs p n) 20 = la (hs p n) 20 then 2 else 3
theorem pinsN_le (p : Nat → Nat) (n : Nat) : pinsN p n ≤ 40 := fb_ct_le _ _
theorem kindN_le (p : Nat → Nat) (n : Nat) : kindN p n ≤ 3 := by
  unfold kindN
  split
  · omega
  · split <;> omega
theorem pinsN_ex {p : Nat → Nat} {n : Nat} (h : 0 < pinsN p n) : ∃ c, c < 20 ∧ hs p n c = true := by
  obtain ⟨k, hk, hp⟩ := fb_ct_pos.mp h
  by_cases e : k < 20
  · exact ⟨k, e, by unfold hs; rw [hp]; rfl⟩
  · refine ⟨k - 20, by omega, ?_⟩
    unfold hs
    rw [show 20 + (k - 20) = k by omega, hp, Bool.or_true]
theorem pinsN_split (p : Nat → Nat) (n : Nat) : pinsN p n = fb_ct (fun k => p k == n) 20 + fb_ct (fun k => p (20 + k) == n) 20 := fb_ct_split _ 20 20
def pvX (p : Nat → Nat) (I : pj_SI) : Prop := ∀ c, c < 20 → I 2 c = nI (p c) ∧ I 3 c = nI (p (20 + c))
def pvM (p : Nat → Nat) (I : pj_SI) : Prop := ∀ k, k < 40 → I 132 k = nI (p k)
def pvB (p : Nat → Nat) : Prop := ∀ k, k < 40 → p k ≤ 9
section NETX
variable {L d n0 : Nat} {I : pj_SI} {J : pj_SJ} {pl tr rg fr : Nat} {p : Nat → Nat} {n : Nat}
theorem c_has (hp : pvX p I) (hb : pvB p) {c : Nat} (hc : c < 20) (hn : n ≤ 9) :
    pj_Ev L d gX1_has 0 [.val (.ref 1), .val (.int (nI n)), .val (.int (nI c))] [] (.inr n0, I, J, pj_PT pl tr rg fr) (.inl (some (.int (bI (hs p n c)))), (.inr n0, I, J, pj_PT pl tr rg fr)) := by
  have b1 := hb c (by omega)
  have b2 := hb (20 + c) (by omega)
  have k1 : hs p n c = true → pj_Ev L d gX1_has 20 [.val (.ref 1), .val (.int (nI n)), .val (.int (nI c))] [] (.inr n0, I, J, pj_PT pl tr rg fr) (.inl (some (.int (bI (hs p n c)))), (.inr n0, I, J, pj_PT pl tr rg fr)) := by
    intro h
    rw [h]
    refine ev_b 2 rfl ?_
    exact ev_ret rfl rfl rfl
  refine ev_b 3 rfl ?_
  refine ev_ia 2 c _ (hp c hc).1 rfl rfl rfl hc (by omega) ?_
  refine ev_b 1 rfl ?_
  refine ev_eq (p c) n rfl rfl (by omega) (by omega) (fun h => ?_) (fun h => ?_)
  · exact k1 (by unfold hs; rw [h]; simp)
  · refine ev_b 3 rfl ?_
    refine ev_ia 3 c _ (hp c hc).2 rfl rfl rfl hc (by omega) ?_
    refine ev_b 1 rfl ?_
    refine ev_ne (p (20 + c)) n rfl rfl (by omega) (by omega) (fun h2 => ?_) (fun h2 => ?_)
    · have e : hs p n c = false := by unfold hs; simp [h, h2]
      rw [e]
      refine ev_b 1 rfl ?_
      exact ev_ret rfl rfl rfl
    · exact k1 (by unfold hs; rw [h2]; simp)
theorem c_pins (hp : pvX p I) (hb : pvB p) (hn : n ≤ 9) :
    pj_Ev L d gX1_pins 0 [.val (.ref 1), .val (.int (nI n)), .unset, .unset] [] (.inr n0, I, J, pj_PT pl tr rg fr) (.inl (some (.int (nI (pinsN p n)))), (.inr n0, I, J, pj_PT pl tr rg fr)) := by
  have loop : ∀ m c (v w : Int32), c + m = 20 → w = nI c → v = nI (fb_ct (fun k => p k == n) c + fb_ct (fun k => p (20 + k) == n) c) →
      pj_Ev L d gX1_pins 4 [.val (.ref 1), .val (.int (nI n)), .val (.int v), .val (.int w)] [] (.inr n0, I, J, pj_PT pl tr rg fr) (.inl (some (.int (nI (pinsN p n)))), (.inr n0, I, J, pj_PT pl tr rg fr)) := by
    intro m
    induction m with
    | zero =>
      intro c v w hc hw hv
      have hc : c = 20 := by omega
      subst hc; subst hw
      refine ev_b 2 rfl ?_
      refine ev_ge 20 20 rfl rfl (by omega) (by omega) (fun h => ?_) (fun h => by omega)
      rw [pinsN_split, ← hv]
      refine ev_b 1 rfl ?_
      exact ev_ret rfl rfl rfl
    | succ m ih =>
      intro c v w hc hw hv
      subst hw
      have hc20 : c < 20 := by omega
      have b1 := hb c (by omega)
      have b2 := hb (20 + c) (by omega)
      have k2 : ∀ b1 b2 : Bool, (p c == n) = b1 → (p (20 + c) == n) = b2 → pj_Ev L d gX1_pins 41 [.val (.ref 1), .val (.int (nI n)), .val (.int v), .val (.int (nI c))] [.int (bI b2), .int (bI b1), .int v] (.inr n0, I, J, pj_PT pl tr rg fr) (.inl (some (.int (nI (pinsN p n)))), (.inr n0, I, J, pj_PT pl tr rg fr)) := by
        intro b1 b2 h1 h2
        refine ev_b 5 rfl ?_
        refine ih (c + 1) _ _ (by omega) (nI_inc c) ?_
        rw [hv, fb_ct_succ, fb_ct_succ, h1, h2, ← Int32.add_assoc, bI_add, bI_add]
        congr 1
        omega
      have k1 : ∀ b1 : Bool, (p c == n) = b1 → pj_Ev L d gX1_pins 26 [.val (.ref 1), .val (.int (nI n)), .val (.int v), .val (.int (nI c))] [.int (bI b1), .int v] (.inr n0, I, J, pj_PT pl tr rg fr) (.inl (some (.int (nI (pinsN p n)))), (.inr n0, I, J, pj_PT pl tr rg fr)) := by
        intro b1 h1
        refine ev_b 3 rfl ?_
        refine ev_ia 3 c _ (hp c hc20).2 rfl rfl rfl hc20 (by omega) ?_
        refine ev_b 1 rfl ?_
        refine ev_ne (p (20 + c)) n rfl rfl (by omega) (by omega) (fun h => ?_) (fun h => ?_)
        · exact ev_b 1 rfl (k2 b1 false h1 (by simpa using h))
        · exact ev_b 2 rfl (k2 b1 true h1 (by simpa using h))
      refine ev_b 2 rfl ?_
      refine ev_ge c 20 rfl rfl (by omega) (by omega) (fun h => by omega) (fun h => ?_)
      refine ev_b 4 rfl ?_
      refine ev_ia 2 c _ (hp c hc20).1 rfl rfl rfl hc20 (by omega) ?_
      refine ev_b 1 rfl ?_
      refine ev_ne (p c) n rfl rfl (by omega) (by omega) (fun h => ?_) (fun h => ?_)
      · exact ev_b 1 rfl (k1 false (by simpa using h))
      · exact ev_b 2 rfl (k1 true (by simpa using h))
  exact ev_b 4 rfl (loop 20 0 _ _ rfl rfl rfl)
theorem c_left (hp : pvX p I) (hb : pvB p) (hn : n ≤ 9) :
    pj_Ev L (d + 1) gX1_left 0 [.val (.ref 1), .val (.int (nI n)), .unset] [] (.inr n0, I, J, pj_PT pl tr rg fr) (.inl (some (.int (nI (fi (hs p n) 20)))), (.inr n0, I, J, pj_PT pl tr rg fr)) := by
  have loop : ∀ m c (w : Int32), c + m = 20 → w = nI c → (∀ j, j < c → hs p n j = false) →
      pj_Ev L (d + 1) gX1_left 2 [.val (.ref 1), .val (.int (nI n)), .val (.int w)] [] (.inr n0, I, J, pj_PT pl tr rg fr) (.inl (some (.int (nI (fi (hs p n) 20)))), (.inr n0, I, J, pj_PT pl tr rg fr)) := by
    intro m
    induction m with
    | zero =>
      intro c w hc hw hj
      have hc : c = 20 := by omega
      subst hc; subst hw
      refine ev_b 2 rfl ?_
      refine ev_ge 20 20 rfl rfl (by omega) (by omega) (fun h => ?_) (fun h => by omega)
      rw [fi_char (Nat.le_refl _) hj (fun z => by omega)]
      refine ev_b 1 rfl ?_
      exact ev_ret rfl rfl rfl
    | succ m ih =>
      intro c w hc hw hj
      subst hw
      refine ev_b 2 rfl ?_
      refine ev_ge c 20 rfl rfl (by omega) (by omega) (fun h => by omega) (fun h => ?_)
      refine ev_b 3 rfl ?_
      refine ev_c rfl (c_has (c := c) hp hb (by omega) hn) ?_
      refine ev_nz (hs p n c) rfl rfl (fun h => ?_) (fun h => ?_)
      · rw [fi_char (c := c) (by omega) hj (fun _ => h)]
        refine ev_b 1 rfl ?_
        exact ev_ret rfl rfl rfl
      · refine ev_b 2 rfl ?_
        refine ih (c + 1) _ (by omega) (nI_inc c) (fun j hjc => ?_)
        by_cases e : j = c
        · rw [e]; exact h
        · exact hj j (by omega)
  exact ev_b 2 rfl (loop 20 0 _ rfl rfl (fun j hj => by omega))
theorem c_right (hp : pvX p I) (hb : pvB p) (hn : n ≤ 9) (hex : ∃ c, c < 20 ∧ hs p n c = true) :
    pj_Ev L (d + 1) gX1_right 0 [.val (.ref 1), .val (.int (nI n)), .unset] [] (.inr n0, I, J, pj_PT pl tr rg fr) (.inl (some (.int (nI (la (hs p n) 20)))), (.inr n0, I, J, pj_PT pl tr rg fr)) := by
  obtain ⟨l1, l2, l3⟩ := la_spec hex
  have loop : ∀ c (w : Int32), c < 20 → w = nI c → (∀ j, c < j → j < 20 → hs p n j = false) →
      pj_Ev L (d + 1) gX1_right 3 [.val (.ref 1), .val (.int (nI n)), .val (.int w)] [] (.inr n0, I, J, pj_PT pl tr rg fr) (.inl (some (.int (nI (la (hs p n) 20)))), (.inr n0, I, J, pj_PT pl tr rg fr)) := by
    intro c
    induction c with
    | zero =>
      intro w hc hw hj
      subst hw
      have h0 : hs p n 0 = true := by
        by_cases e : la (hs p n) 20 = 0
        · rw [← e]; exact l2
        · rw [hj _ (by omega) l1] at l2; cases l2
      refine ev_b 1 rfl ?_
      refine ev_if0 (nI 0) rfl rfl (fun h => absurd h (by decide)) (fun _ => ?_)
      refine ev_b 3 rfl ?_
      refine ev_c rfl (c_has (c := 0) hp hb (by omega) hn) ?_
      refine ev_nz (hs p n 0) rfl rfl (fun h => ?_) (fun h => by rw [h0] at h; cases h)
      rw [la_char (c := 0) (by omega) h0 hj]
      refine ev_b 1 rfl ?_
      exact ev_ret rfl rfl rfl
    | succ c ih =>
      intro w hc hw hj
      subst hw
      refine ev_b 1 rfl ?_
      refine ev_if0 (nI (c + 1)) rfl rfl (fun h => absurd (of_decide_eq_true h) (nI_pos (by omega))) (fun _ => ?_)
      refine ev_b 3 rfl ?_
      refine ev_c rfl (c_has (c := c + 1) hp hb (by omega) hn) ?_
      refine ev_nz (hs p n (c + 1)) rfl rfl (fun h => ?_) (fun h => ?_)
      · rw [la_char (c := c + 1) (by omega) h hj]
        refine ev_b 1 rfl ?_
        exact ev_ret rfl rfl rfl
      · refine ev_b 2 rfl ?_
        refine ih _ (by omega) (nI_dec c) (fun j hjc h20 => ?_)
        by_cases e : j = c + 1
        · rw [e]; exact h
        · exact hj j (by omega) h20
  exact ev_b 2 rfl (loop 19 _ (by omega) rfl (fun j h1 h2 => by omega))
theorem c_kind (hp : pvX p I) (hb : pvB p) (hn : n ≤ 9) :
    pj_Ev L (d + 2) gX1_kind 0 [.val (.ref 1), .val (.int (nI n)), .unset] [] (.inr n0, I, J, pj_PT pl tr rg fr) (.inl (some (.int (nI (kindN p n)))), (.inr n0, I, J, pj_PT pl tr rg fr)) := by
  have hle := pinsN_le p n
  refine ev_b 2 rfl ?_
  refine ev_c rfl (c_pins hp hb hn) ?_
  refine ev_b 3 rfl ?_
  refine ev_ge (pinsN p n) 2 rfl rfl (by omega) (by omega) (fun h => ?_) (fun h => ?_)
  · have hex := pinsN_ex (p := p) (n := n) (by omega)
    have f1 := (fi_spec (hs p n) 20).1
    have l1 := (la_spec hex).1
    refine ev_b 2 rfl ?_
    refine ev_c rfl (c_left hp hb hn) ?_
    refine ev_b 2 rfl ?_
    refine ev_c rfl (c_right hp hb hn hex) ?_
    refine ev_ne (fi (hs p n) 20) (la (hs p n) 20) rfl rfl (by omega) (by omega) (fun h2 => ?_) (fun h2 => ?_)
    · have e : kindN p n = 3 := by unfold kindN; rw [if_neg (by omega), if_neg h2]
      rw [e]
      refine ev_b 1 rfl ?_
      exact ev_ret rfl rfl rfl
    · have e : kindN p n = 2 := by unfold kindN; rw [if_neg (by omega), if_pos h2]
      rw [e]
      refine ev_b 2 rfl ?_
      exact ev_ret rfl rfl rfl
  · have e : kindN p n = pinsN p n := by unfold kindN; rw [if_pos h]
    rw [e]
    refine ev_b 2 rfl ?_
    exact ev_ret rfl rfl rfl
end NETX
end
section
/-! ===== Int32 by its bits: bt x i ===== -/
def bt (x : Int32) (i : Nat) : Bool := x.toBitVec.getLsbD i
theorem b_ext {x y : Int32} (h : ∀ i, i < 32 → bt x i = bt y i) : x = y := Int32.toBitVec_inj.mp (BitVec.eq_of_getLsbD_eq (fun i hi => h i hi))
theorem b_or (x y : Int32) (i : Nat) : bt (x ||| y) i = (bt x i || bt y i) := by unfold bt; rw [Int32.toBitVec_or, BitVec.getLsbD_or]
theorem b_and (x y : Int32) (i : Nat) : bt (x &&& y) i = (bt x i && bt y i) := by unfold bt; rw [Int32.toBitVec_and, BitVec.getLsbD_and]
theorem b_xor (x y : Int32) (i : Nat) : bt (x ^^^ y) i = (bt x i ^^ bt y i) := by unfold bt; rw [Int32.toBitVec_xor, BitVec.getLsbD_xor]
theorem b_big {x : Int32} {i : Nat} (h : 32 ≤ i) : bt x i = false := BitVec.getLsbD_of_ge _ _ h
theorem b_255 (i : Nat) : bt 255 i = decide (i < 8) := by
  rcases Nat.lt_or_ge i 32 with h | h
  · exact (by decide +kernel : ∀ i, i < 32 → bt 255 i = decide (i < 8)) i h
  · rw [b_big h, decide_eq_false (by omega)]
theorem b_65535 (i : Nat) : bt 65535 i = decide (i < 16) := by
  rcases Nat.lt_or_ge i 32 with h | h
  · exact (by decide +kernel : ∀ i, i < 32 → bt 65535 i = decide (i < 16)) i h
  · rw [b_big h, decide_eq_false (by omega)]
theorem b_m1 : ∀ i, i < 32 → bt (-1) i = true := by decide +kernel
theorem b_0 (i : Nat) : bt 0 i = false := BitVec.getLsbD_zero
theorem s_l : ∀ n, n < 32 → ((nI n &&& 31).toBitVec.smod 32).toNat = n := by decide +kernel
theorem s_u : ∀ n, n < 32 → (((nI n).toUInt32 &&& Int32.toUInt32 31).toBitVec % 32).toNat = n := by decide +kernel
theorem b_shl (n : Nat) (hn : n < 32) (x : Int32) {i : Nat} (hi : i < 32) : bt (x <<< (nI n &&& 31)) i = (decide (n ≤ i) && bt x (i - n)) := by
  unfold bt
  rw [Int32.toBitVec_shiftLeft]
  show (x.toBitVec <<< ((nI n &&& 31).toBitVec.smod 32).toNat).getLsbD i = _
  rw [s_l n hn, BitVec.getLsbD_shiftLeft]
  rcases Nat.lt_or_ge i n with h | h
  · simp [h, Nat.not_le.mpr h]
  · simp [hi, h, Nat.not_lt.mpr h]
theorem b_ushr (n : Nat) (hn : n < 32) (x : Int32) (i : Nat) : bt ((x.toUInt32 >>> ((nI n).toUInt32 &&& Int32.toUInt32 31)).toInt32) i = bt x (n + i) := by
  show (x.toUInt32 >>> ((nI n).toUInt32 &&& Int32.toUInt32 31)).toBitVec.getLsbD i = x.toUInt32.toBitVec.getLsbD (n + i)
  rw [UInt32.toBitVec_shiftRight]
  show (x.toUInt32.toBitVec >>> (((nI n).toUInt32 &&& Int32.toUInt32 31).toBitVec % 32).toNat).getLsbD i = _
  rw [s_u n hn, BitVec.getLsbD_ushiftRight]
theorem b_sshr (n : Nat) (hn : n < 32) (x : Int32) {i : Nat} (hi : i < 32) : bt (x >>> (nI n &&& 31)) i = if n + i < 32 then bt x (n + i) else bt x 31 := by
  unfold bt
  rw [Int32.toBitVec_shiftRight]
  show (x.toBitVec.sshiftRight ((nI n &&& 31).toBitVec.smod 32).toNat).getLsbD i = _
  rw [s_l n hn, BitVec.getLsbD_sshiftRight, BitVec.msb_eq_getLsbD_last]
  simp [hi]
theorem b_1 (i : Nat) : bt 1 i = decide (i = 0) := by
  by_cases h : i < 32
  · have : ∀ i, i < 32 → bt 1 i = decide (i = 0) := by decide +kernel
    exact this i h
  · rw [b_big (by omega)]
    exact (decide_eq_false (by omega)).symm
theorem bt_bI (b : Bool) (i : Nat) : bt (bI b) i = (decide (i = 0) && b) := by
  cases b
  · show bt 0 i = _
    rw [b_0, Bool.and_false]
  · show bt 1 i = _
    rw [b_1, Bool.and_true]
theorem bt_sh {c : Nat} (hc : c < 32) (v : Int32) : (v >>> (nI c &&& 31)) &&& 1 = bI (bt v c) := by
  apply b_ext
  intro i hi
  rw [b_and, b_sshr c hc v hi, b_1, bt_bI]
  by_cases e : i = 0
  · subst e
    rw [if_pos (by omega)]
    simp
  · simp [e]
theorem bt_one {x i : Nat} (hx : x < 32) (hi : i < 32) : bt (1 <<< (nI x &&& 31)) i = decide (i = x) := by
  rw [b_shl x hx 1 hi, b_1]
  by_cases e : i = x
  · subst e; simp
  · by_cases e2 : x ≤ i
    · have : ¬ (i - x = 0) := by omega
      simp [e, this]
    · simp [e, e2]
/-! longs -/
def lb (v : Int64) (k : Nat) : Bool := v.toBitVec.getLsbD k
def lB (b : Bool) : Int64 := if b then 1 else 0
theorem l_ext {x y : Int64} (h : ∀ i, i < 64 → lb x i = lb y i) : x = y := Int64.toBitVec_inj.mp (BitVec.eq_of_getLsbD_eq (fun i hi => h i hi))
theorem l_or (x y : Int64) (i : Nat) : lb (x ||| y) i = (lb x i || lb y i) := by unfold lb; rw [Int64.toBitVec_or, BitVec.getLsbD_or]
theorem l_and (x y : Int64) (i : Nat) : lb (x &&& y) i = (lb x i && lb y i) := by unfold lb; rw [Int64.toBitVec_and, BitVec.getLsbD_and]
theorem l_big {x : Int64} {i : Nat} (h : 64 ≤ i) : lb x i = false := BitVec.getLsbD_of_ge _ _ h
theorem l_0 (i : Nat) : lb 0 i = false := BitVec.getLsbD_zero
theorem l_1 (i : Nat) : lb 1 i = decide (i = 0) := by
  by_cases h : i < 64
  · have : ∀ i, i < 64 → lb 1 i = decide (i = 0) := by decide +kernel
    exact this i h
  · rw [l_big (by omega)]
    exact (decide_eq_false (by omega)).symm
theorem l_tp : ∀ l, l < 64 → ((1 : Int64) <<< ((nI l).toInt64 &&& 63)).toBitVec = BitVec.twoPow 64 l := by decide +kernel
theorem lb_one {x i : Nat} (hx : x < 64) (hi : i < 64) : lb (1 <<< ((nI x).toInt64 &&& 63)) i = decide (i = x) := by
  unfold lb
  rw [l_tp x hx, BitVec.getLsbD_twoPow]
  by_cases e : i = x
  · subst e; simp [hi]
  · have : ¬ x = i := fun z => e z.symm
    simp [e, this]
theorem l_sm : ∀ n, n < 64 → (((nI n).toInt64 &&& 63).toBitVec.smod 64).toNat = n := by decide +kernel
theorem lb_lB (b : Bool) (i : Nat) : lb (lB b) i = (decide (i = 0) && b) := by
  cases b
  · show lb 0 i = _
    rw [l_0, Bool.and_false]
  · show lb 1 i = _
    rw [l_1, Bool.and_true]
theorem l_sshr {n : Nat} (hn : n < 64) (x : Int64) {i : Nat} (hi : i < 64) : lb (x >>> ((nI n).toInt64 &&& 63)) i = if n + i < 64 then lb x (n + i) else lb x 63 := by
  unfold lb
  rw [Int64.toBitVec_shiftRight, BitVec.sshiftRight_eq', l_sm n hn, BitVec.getLsbD_sshiftRight]
  have h1 : ¬ 64 ≤ i := by omega
  simp [h1, BitVec.msb_eq_getLsbD_last]
theorem lb_sh {k : Nat} (hk : k < 64) (v : Int64) : (v >>> ((nI k).toInt64 &&& 63)) &&& 1 = lB (lb v k) := by
  apply l_ext
  intro i hi
  rw [l_and, l_sshr hk v hi, l_1, lb_lB]
  by_cases e : i = 0
  · subst e
    rw [if_pos (by omega)]
    simp
  · simp [e]
theorem lg_z (x y : Int64) : lg_cmp x y = 0 ↔ x = y := by
  unfold lg_cmp
  by_cases h1 : x > y
  · rw [if_pos h1]
    constructor
    · intro h; exact absurd h (by decide)
    · intro h; subst h; exact absurd h1 (Int64.lt_irrefl)
  · rw [if_neg h1]
    by_cases h2 : x = y
    · rw [if_pos h2]; simp [h2]
    · rw [if_neg h2]
      constructor
      · intro h; exact absurd h (by decide)
      · intro h; exact absurd h h2
theorem lB_1 (b : Bool) : lB b = 1 ↔ b = true := by cases b <;> decide
theorem l_zero {x : Int64} : x = 0 ↔ ∀ i, i < 64 → lb x i = false := ⟨fun h i _ => by rw [h]; exact l_0 i, fun h => l_ext fun i hi => by rw [h i hi, l_0]⟩
end
section
/-! nets: the model's methods that ask for them -/
abbrev xS (n0 : Nat) (I : pj_SI) (J : pj_SJ) (pl tr rg fr : Nat) : pj_St := (.inr n0, I, J, pj_PT pl tr rg fr)
theorem fi_cong {h h' : Nat → Bool} : ∀ {n : Nat}, (∀ j, j < n → h j = h' j) → fi h n = fi h' n
  | 0, _ => rfl
  | n + 1, e => by
    unfold fi
    rw [fi_cong (n := n) fun j hj => e j (by omega), e n (by omega)]
theorem la_cong {h h' : Nat → Bool} : ∀ {n : Nat}, (∀ j, j < n → h j = h' j) → la h n = la h' n
  | 0, _ => rfl
  | n + 1, e => by
    unfold la
    rw [la_cong (n := n) fun j hj => e j (by omega), e n (by omega)]
/-- the columns as bits -/
def colsI (p : Nat → Nat) (n : Nat) : Nat → Int32
  | 0 => 0
  | c + 1 => if hs p n c then colsI p n c ||| (1 <<< (nI c &&& 31)) else colsI p n c
theorem colsI_bt (p : Nat → Nat) (n : Nat) : ∀ m, m ≤ 20 → ∀ i, i < 32 → bt (colsI p n m) i = (decide (i < m) && hs p n i)
  | 0, _, i, _ => by unfold colsI; rw [b_0]; simp
  | m + 1, hm, i, hi => by
    unfold colsI
    have ih := colsI_bt p n m (by omega) i hi
    by_cases h : hs p n m = true
    · rw [if_pos h, b_or, ih, bt_one (by omega) hi]
      by_cases e : i = m
      · subst e; simp [h]
      · have : i < m + 1 ↔ i < m := by omega
        simp [e, this]
    · rw [if_neg h, ih]
      by_cases e : i = m
      · subst e; simp [h]
      · have : i < m + 1 ↔ i < m := by omega
        simp [this]
section EVR2
variable {L d : Nat} {G : pj_Mi} {pc : Nat} {lv : List Slot} {st : List Value} {σ : pj_St} {r : pj_Rs × pj_St}
theorem ev_nzv {off : Int} {t : Nat} {x : Int32} (b : Bool) (hx : x = bI b) (hc : pj_cd G pc = some (.ifCond .ne off, 3)) (ht : pj_tg pc off = some t) (h1 : b = true → pj_Ev L d G t lv st σ r) (h2 : b = false → pj_Ev L d G (pc + 3) lv st σ r) : pj_Ev L d G pc lv (.int x :: st) σ r := by
  subst hx; exact ev_nz b hc ht h1 h2
theorem ev_zv {off : Int} {t : Nat} {x : Int32} (b : Bool) (hx : x = bI b) (hc : pj_cd G pc = some (.ifCond .eq off, 3)) (ht : pj_tg pc off = some t) (h1 : b = false → pj_Ev L d G t lv st σ r) (h2 : b = true → pj_Ev L d G (pc + 3) lv st σ r) : pj_Ev L d G pc lv (.int x :: st) σ r := by
  subst hx; exact ev_z b hc ht h1 h2
/-- a bit, held against 1 -/
theorem ev_ne1 {off : Int} {t : Nat} {x : Int32} (b : Bool) (hx : x = bI b) (hc : pj_cd G pc = some (.if_icmp .ne off, 3)) (ht : pj_tg pc off = some t) (h1 : b = false → pj_Ev L d G t lv st σ r) (h2 : b = true → pj_Ev L d G (pc + 3) lv st σ r) : pj_Ev L d G pc lv (.int (nI 1) :: .int x :: st) σ r := by
  subst hx
  refine ev_if _ _ hc ht (fun h => h1 ?_) (fun h => h2 ?_)
  · have := of_decide_eq_true h
    cases b
    · rfl
    · exact absurd rfl this
  · have := of_decide_eq_false h
    rw [Classical.not_not] at this
    cases b
    · exact absurd this (by decide)
    · rfl
end EVR2
theorem c_in {L d : Nat} {σ : pj_St} {a b c : Int32} : pj_Ev L d gX4_in 0 [.val (.int a), .val (.int b), .val (.int c)] [] σ (.inl (some (.int (bI (decide (b ≤ a) && decide (a ≤ c))))), σ) := by
  refine ev_b 2 rfl ?_
  refine ev_if a b rfl rfl (fun h => ?_) (fun h => ?_)
  · have h1 : ¬ b ≤ a := Int32.not_le.mpr (of_decide_eq_true h)
    rw [decide_eq_false h1, Bool.false_and]
    refine ev_b 1 rfl ?_
    exact ev_ret rfl rfl rfl
  · have h1 : b ≤ a := Int32.not_lt.mp (of_decide_eq_false h)
    refine ev_b 2 rfl ?_
    refine ev_if a c rfl rfl (fun h => ?_) (fun h => ?_)
    · have h2 : ¬ a ≤ c := Int32.not_le.mpr (of_decide_eq_true h)
      rw [decide_eq_false h2, Bool.and_false]
      refine ev_b 1 rfl ?_
      exact ev_ret rfl rfl rfl
    · have h2 : a ≤ c := Int32.not_lt.mp (of_decide_eq_false h)
      rw [decide_eq_true h1, decide_eq_true h2]
      refine ev_b 2 rfl ?_
      exact ev_ret rfl rfl rfl
section NETM
variable {L d n0 : Nat} {I : pj_SI} {J : pj_SJ} {pl tr rg fr : Nat} {p : Nat → Nat} {n : Nat}
theorem m_pinsOf (hp : pvM p I) (hb : pvB p) (hn : n ≤ 9) :
    pj_Ev L d gX4_pinsOf 0 [.val (.ref 131), .val (.int (nI n)), .unset, .unset] [] (xS n0 I J pl tr rg fr) (.inl (some (.int (nI (pinsN p n)))), xS n0 I J pl tr rg fr) := by
  have loop : ∀ m c (v w : Int32), c + m = 40 → w = nI c → v = nI (fb_ct (fun k => p k == n) c) →
      pj_Ev L d gX4_pinsOf 4 [.val (.ref 131), .val (.int (nI n)), .val (.int v), .val (.int w)] [] (xS n0 I J pl tr rg fr) (.inl (some (.int (nI (pinsN p n)))), xS n0 I J pl tr rg fr) := by
    intro m
    induction m with
    | zero =>
      intro c v w hc hw hv
      have hc : c = 40 := by omega
      subst hc; subst hw
      refine ev_b 2 rfl ?_
      refine ev_ge 40 40 rfl rfl (by omega) (by omega) (fun h => ?_) (fun h => by omega)
      subst hv
      refine ev_b 1 rfl ?_
      exact ev_ret rfl rfl rfl
    | succ m ih =>
      intro c v w hc hw hv
      subst hw
      have hc20 : c < 40 := by omega
      have b1 := hb c (by omega)
      refine ev_b 2 rfl ?_
      refine ev_ge c 40 rfl rfl (by omega) (by omega) (fun h => by omega) (fun h => ?_)
      refine ev_b 3 rfl ?_
      refine ev_ia 132 c _ (hp c hc20) rfl rfl rfl hc20 (by omega) ?_
      refine ev_b 1 rfl ?_
      refine ev_ne (p c) n rfl rfl (by omega) (by omega) (fun h => ?_) (fun h => ?_)
      · refine ev_b 4 rfl ?_
        refine ih (c + 1) _ _ (by omega) (nI_inc c) ?_
        rw [hv, fb_ct_succ, if_neg (by simpa using h)]; rfl
      · refine ev_b 7 rfl ?_
        refine ih (c + 1) _ _ (by omega) (nI_inc c) ?_
        rw [hv, fb_ct_succ, if_pos (by simpa using h)]
        exact nI_inc _
  exact ev_b 4 rfl (loop 40 0 _ _ rfl rfl rfl)
theorem m_columns (hp : pvM p I) (hb : pvB p) (hn : n ≤ 9) :
    pj_Ev L d gX4_columns 0 [.val (.ref 131), .val (.int (nI n)), .unset, .unset] [] (xS n0 I J pl tr rg fr) (.inl (some (.int (colsI p n 20))), xS n0 I J pl tr rg fr) := by
  have loop : ∀ m c (v w : Int32), c + m = 20 → w = nI c → v = colsI p n c →
      pj_Ev L d gX4_columns 4 [.val (.ref 131), .val (.int (nI n)), .val (.int v), .val (.int w)] [] (xS n0 I J pl tr rg fr) (.inl (some (.int (colsI p n 20))), xS n0 I J pl tr rg fr) := by
    intro m
    induction m with
    | zero =>
      intro c v w hc hw hv
      have hc : c = 20 := by omega
      subst hc; subst hw
      refine ev_b 2 rfl ?_
      refine ev_ge 20 20 rfl rfl (by omega) (by omega) (fun h => ?_) (fun h => by omega)
      subst hv
      refine ev_b 1 rfl ?_
      exact ev_ret rfl rfl rfl
    | succ m ih =>
      intro c v w hc hw hv
      subst hw
      have hc20 : c < 20 := by omega
      have b1 := hb c (by omega)
      have b2 := hb (20 + c) (by omega)
      have k33 : hs p n c = true → pj_Ev L d gX4_columns 33 [.val (.ref 131), .val (.int (nI n)), .val (.int v), .val (.int (nI c))] [] (xS n0 I J pl tr rg fr) (.inl (some (.int (colsI p n 20))), xS n0 I J pl tr rg fr) := by
        intro h
        refine ev_b 9 rfl ?_
        refine ih (c + 1) _ _ (by omega) (nI_inc c) ?_
        rw [colsI, if_pos h, hv]
        rfl
      refine ev_b 2 rfl ?_
      refine ev_ge c 20 rfl rfl (by omega) (by omega) (fun h => by omega) (fun h => ?_)
      refine ev_b 3 rfl ?_
      refine ev_ia 132 c _ (hp c (by omega)) rfl rfl rfl (show c < 40 by omega) (by omega) ?_
      refine ev_b 1 rfl ?_
      refine ev_eq (p c) n rfl rfl (by omega) (by omega) (fun h => ?_) (fun h => ?_)
      · exact k33 (by unfold hs; rw [h]; simp)
      · refine ev_b 5 rfl ?_
        show pj_Ev L d gX4_columns 28 _ [.int (nI 20 + nI c), .ref 132] _ _
        rw [nI_add]
        refine ev_ia 132 (20 + c) _ (hp (20 + c) (by omega)) rfl rfl rfl (show 20 + c < 40 by omega) (by omega) ?_
        refine ev_b 1 rfl ?_
        refine ev_ne (p (20 + c)) n rfl rfl (by omega) (by omega) (fun h2 => ?_) (fun h2 => ?_)
        · refine ev_b 4 rfl ?_
          refine ih (c + 1) _ _ (by omega) (nI_inc c) ?_
          have e : hs p n c = false := by unfold hs; simp [h, h2]
          rw [colsI, if_neg (by rw [e]; decide), hv]
        · exact k33 (by unfold hs; rw [h2]; simp)
  exact ev_b 4 rfl (loop 20 0 _ _ rfl rfl rfl)
theorem m_lowest {σ : pj_St} {v : Int32} (hex : ∃ c, c < 20 ∧ bt v c = true) : pj_Ev L d gX4_lowest 0 [.val (.int v), .unset] [] σ (.inl (some (.int (nI (fi (bt v) 20)))), σ) := by
  have hlt : fi (bt v) 20 < 20 := by
    obtain ⟨f1, f2, -⟩ := fi_spec (bt v) 20
    rcases Nat.lt_or_ge (fi (bt v) 20) 20 with z | z
    · exact z
    · obtain ⟨c, c1, c2⟩ := hex
      rw [f2 c (by omega)] at c2; cases c2
  have loop : ∀ m c (w : Int32), c + m = 20 → w = nI c → (∀ j, j < c → bt v j = false) → pj_Ev L d gX4_lowest 2 [.val (.int v), .val (.int w)] [] σ (.inl (some (.int (nI (fi (bt v) 20)))), σ) := by
    intro m
    induction m with
    | zero =>
      intro c w hc hw hj
      have := fi_char (n := 20) (by omega : c ≤ 20) hj (fun z => by omega)
      omega
    | succ m ih =>
      intro c w hc hw hj
      subst hw
      refine ev_b 5 rfl ?_
      refine ev_nzv (bt v c) (bt_sh (by omega) v) rfl rfl (fun h => ?_) (fun h => ?_)
      · rw [fi_char (c := c) (by omega) hj (fun _ => h)]
        refine ev_b 1 rfl ?_
        exact ev_ret rfl rfl rfl
      · refine ev_b 2 rfl ?_
        refine ih (c + 1) _ (by omega) (nI_inc c) (fun j hjc => ?_)
        by_cases e : j = c
        · rw [e]; exact h
        · exact hj j (by omega)
  exact ev_b 2 rfl (loop 20 0 _ rfl rfl (fun j hj => by omega))
theorem m_highest {σ : pj_St} {v : Int32} (hex : ∃ c, c < 20 ∧ bt v c = true) : pj_Ev L d gX4_highest 0 [.val (.int v), .unset] [] σ (.inl (some (.int (nI (la (bt v) 20)))), σ) := by
  obtain ⟨l1, l2, l3⟩ := la_spec hex
  have loop : ∀ c (w : Int32), c < 20 → w = nI c → (∀ j, c < j → j < 20 → bt v j = false) → pj_Ev L d gX4_highest 3 [.val (.int v), .val (.int w)] [] σ (.inl (some (.int (nI (la (bt v) 20)))), σ) := by
    intro c
    induction c with
    | zero =>
      intro w hc hw hj
      subst hw
      have h0 : bt v 0 = true := by
        by_cases e : la (bt v) 20 = 0
        · rw [← e]; exact l2
        · rw [hj _ (by omega) l1] at l2; cases l2
      refine ev_b 5 rfl ?_
      refine ev_nzv (bt v 0) (bt_sh (by omega) v) rfl rfl (fun h => ?_) (fun h => by rw [h0] at h; cases h)
      rw [la_char (c := 0) (by omega) h0 hj]
      refine ev_b 1 rfl ?_
      exact ev_ret rfl rfl rfl
    | succ c ih =>
      intro w hc hw hj
      subst hw
      refine ev_b 5 rfl ?_
      refine ev_nzv (bt v (c + 1)) (bt_sh (by omega) v) rfl rfl (fun h => ?_) (fun h => ?_)
      · rw [la_char (c := c + 1) (by omega) h hj]
        refine ev_b 1 rfl ?_
        exact ev_ret rfl rfl rfl
      · refine ev_b 2 rfl ?_
        refine ih _ (by omega) (nI_dec c) (fun j hjc h20 => ?_)
        by_cases e : j = c + 1
        · rw [e]; exact h
        · exact hj j (by omega) h20
  exact ev_b 2 rfl (loop 19 _ (by omega) rfl (fun j h1 h2 => by omega))
theorem cols_hs {j : Nat} (hj : j < 20) : bt (colsI p n 20) j = hs p n j := by
  rw [colsI_bt p n 20 (Nat.le_refl _) j (by omega)]
  simp [hj]
theorem cols_ex (hex : ∃ c, c < 20 ∧ hs p n c = true) : ∃ c, c < 20 ∧ bt (colsI p n 20) c = true := by
  obtain ⟨c, h1, h2⟩ := hex
  exact ⟨c, h1, by rw [cols_hs h1]; exact h2⟩
theorem m_lowestN {σ : pj_St} (hex : ∃ c, c < 20 ∧ hs p n c = true) : pj_Ev L d gX4_lowest 0 [.val (.int (colsI p n 20)), .unset] [] σ (.inl (some (.int (nI (fi (hs p n) 20)))), σ) := by
  have := m_lowest (L := L) (d := d) (σ := σ) (cols_ex hex)
  rwa [fi_cong (fun j hj => cols_hs hj)] at this
theorem m_highestN {σ : pj_St} (hex : ∃ c, c < 20 ∧ hs p n c = true) : pj_Ev L d gX4_highest 0 [.val (.int (colsI p n 20)), .unset] [] σ (.inl (some (.int (nI (la (hs p n) 20)))), σ) := by
  have := m_highest (L := L) (d := d) (σ := σ) (cols_ex hex)
  rwa [la_cong (fun j hj => cols_hs hj)] at this
theorem m_sort (hp : pvM p I) (hb : pvB p) (hn : n ≤ 9) :
    pj_Ev L (d + 1) gX4_sort 0 [.val (.ref 131), .val (.int (nI n)), .unset, .unset] [] (xS n0 I J pl tr rg fr) (.inl (some (.int (nI (kindN p n)))), xS n0 I J pl tr rg fr) := by
  have hle := pinsN_le p n
  refine ev_b 2 rfl ?_
  refine ev_c rfl (m_pinsOf hp hb hn) ?_
  refine ev_b 3 rfl ?_
  refine ev_c rfl (m_columns hp hb hn) ?_
  refine ev_b 3 rfl ?_
  refine ev_ge (pinsN p n) 2 rfl rfl (by omega) (by omega) (fun h => ?_) (fun h => ?_)
  · have hex := pinsN_ex (p := p) (n := n) (by omega)
    have f1 := (fi_spec (hs p n) 20).1
    have l1 := (la_spec hex).1
    refine ev_b 1 rfl ?_
    refine ev_c rfl (m_lowestN hex) ?_
    refine ev_b 1 rfl ?_
    refine ev_c rfl (m_highestN hex) ?_
    refine ev_ne (fi (hs p n) 20) (la (hs p n) 20) rfl rfl (by omega) (by omega) (fun h2 => ?_) (fun h2 => ?_)
    · have e : kindN p n = 3 := by unfold kindN; rw [if_neg (by omega), if_neg h2]
      rw [e]
      refine ev_b 1 rfl ?_
      exact ev_ret rfl rfl rfl
    · have e : kindN p n = 2 := by unfold kindN; rw [if_neg (by omega), if_pos h2]
      rw [e]
      refine ev_b 2 rfl ?_
      exact ev_ret rfl rfl rfl
  · have e : kindN p n = pinsN p n := by unfold kindN; rw [if_pos h]
    rw [e]
    refine ev_b 2 rfl ?_
    exact ev_ret rfl rfl rfl
end NETM
/-- a single one among the first nets -/
def anyS (p : Nat → Nat) : Nat → Bool
  | 0 => false
  | m + 1 => anyS p m || kindN p (m + 1) == 1
section NETS
variable {L d n0 : Nat} {I : pj_SI} {J : pj_SJ} {pl tr rg fr : Nat} {p : Nat → Nat}
theorem m_anySingle (hp : pvM p I) (hb : pvB p) :
    pj_Ev L (d + 2) gX4_anySingle 0 [.val (.ref 131), .unset, .unset] [] (xS n0 I J pl tr rg fr) (.inl (some (.int (bI (anyS p 9)))), xS n0 I J pl tr rg fr) := by
  have loop : ∀ m c (v w : Int32), c + m = 9 → w = nI (c + 1) → v = bI (anyS p c) →
      pj_Ev L (d + 2) gX4_anySingle 4 [.val (.ref 131), .val (.int v), .val (.int w)] [] (xS n0 I J pl tr rg fr) (.inl (some (.int (bI (anyS p 9)))), xS n0 I J pl tr rg fr) := by
    intro m
    induction m with
    | zero =>
      intro c v w hc hw hv
      have hc : c = 9 := by omega
      subst hc; subst hw; subst hv
      refine ev_b 2 rfl ?_
      refine ev_gt 10 9 rfl rfl (by omega) (by omega) (fun h => ?_) (fun h => by omega)
      refine ev_b 1 rfl ?_
      cases anyS p 9
      · exact ev_ret rfl rfl rfl
      · exact ev_ret rfl rfl rfl
    | succ m ih =>
      intro c v w hc hw hv
      subst hw; subst hv
      have k28 : ∀ b : Bool, anyS p (c + 1) = b → pj_Ev L (d + 2) gX4_anySingle 28 [.val (.ref 131), .val (.int (bI (anyS p c))), .val (.int (nI (c + 1)))] [.int (bI b)] (xS n0 I J pl tr rg fr) (.inl (some (.int (bI (anyS p 9)))), xS n0 I J pl tr rg fr) := by
        intro b h
        refine ev_b 3 rfl ?_
        exact ih (c + 1) _ _ (by omega) (nI_inc (c + 1)) (by rw [h])
      refine ev_b 2 rfl ?_
      refine ev_gt (c + 1) 9 rfl rfl (by omega) (by omega) (fun h => by omega) (fun h => ?_)
      refine ev_b 1 rfl ?_
      refine ev_nz (anyS p c) rfl rfl (fun h => ?_) (fun h => ?_)
      · exact ev_b 2 rfl (k28 true (by unfold anyS; rw [h]; rfl))
      · have hk := kindN_le p (c + 1)
        refine ev_b 2 rfl ?_
        refine ev_c rfl (m_sort hp hb (by omega)) ?_
        refine ev_b 1 rfl ?_
        refine ev_ne (kindN p (c + 1)) 1 rfl rfl (by omega) (by omega) (fun h2 => ?_) (fun h2 => ?_)
        · exact ev_b 1 rfl (k28 false (by unfold anyS; rw [h]; simpa using h2))
        · exact ev_b 2 rfl (k28 true (by unfold anyS; rw [h]; simpa using h2))
  exact ev_b 4 rfl (loop 9 0 _ _ rfl rfl rfl)
theorem c_allow {σ : pj_St} {b : Bool} (h7 : pj_al σ.1 147 = true) : pj_Ev L d gX1_allow 0 [.val (.int (bI b))] [] σ (if b then (.inl none, σ) else (.inr 21, pj_gar σ)) := by
  refine ev_b 1 rfl ?_
  refine ev_nz b rfl rfl (fun h => ?_) (fun h => ?_)
  · rw [if_pos h]
    exact ev_ret rfl rfl rfl
  · rw [if_neg (by rw [h]; decide)]
    exact ev_thr rfl rfl rfl rfl h7
theorem c_noSingle (hp : pvX p I) (hb : pvB p) :
    pj_Ev L (d + 3) gX1_noSingle 0 [.val (.ref 1), .unset] [] (xS n0 I J pl tr rg fr) (if anyS p 9 then (.inr 21, xS (n0 + 1) I J pl tr rg fr) else (.inl none, xS n0 I J pl tr rg fr)) := by
  have loop : ∀ m c (w : Int32), c + m = 9 → w = nI (c + 1) → anyS p c = false →
      pj_Ev L (d + 3) gX1_noSingle 2 [.val (.ref 1), .val (.int w)] [] (xS n0 I J pl tr rg fr) (if anyS p 9 then (.inr 21, xS (n0 + 1) I J pl tr rg fr) else (.inl none, xS n0 I J pl tr rg fr)) := by
    intro m
    induction m with
    | zero =>
      intro c w hc hw hv
      have hc : c = 9 := by omega
      subst hc; subst hw
      rw [if_neg (by rw [hv]; decide)]
      refine ev_b 2 rfl ?_
      refine ev_ge 10 10 rfl rfl (by omega) (by omega) (fun h => ?_) (fun h => by omega)
      exact ev_ret rfl rfl rfl
    | succ m ih =>
      intro c w hc hw hv
      subst hw
      have hk := kindN_le p (c + 1)
      refine ev_b 2 rfl ?_
      refine ev_ge (c + 1) 10 rfl rfl (by omega) (by omega) (fun h => by omega) (fun h => ?_)
      refine ev_b 2 rfl ?_
      refine ev_c rfl (c_kind hp hb (by omega)) ?_
      refine ev_b 1 rfl ?_
      refine ev_eq (kindN p (c + 1)) 1 rfl rfl (by omega) (by omega) (fun h2 => ?_) (fun h2 => ?_)
      · have hany : anyS p (c + 1) = true := by unfold anyS; rw [hv]; simpa using h2
        have mono : ∀ k, anyS p (c + 1 + k) = true := by
          intro k
          induction k with
          | zero => exact hany
          | succ k ihk =>
            show (anyS p (c + 1 + k) || _) = true
            rw [ihk]; rfl
        have h9 : anyS p 9 = true := by
          have := mono m
          rwa [show c + 1 + m = 9 by omega] at this
        rw [if_pos h9]
        refine ev_b 1 rfl ?_
        exact ev_cp rfl rfl (c_allow (b := false) rfl)
      · refine ev_b 2 rfl ?_
        refine ev_c rfl (c_allow (b := true) rfl) ?_
        refine ev_b 2 rfl ?_
        exact ih (c + 1) _ (by omega) (nI_inc (c + 1)) (by unfold anyS; rw [hv]; simpa using h2)
  exact ev_b 2 rfl (loop 9 0 _ rfl rfl rfl)
end NETS
end
section
/-! the small methods: guards, density, net, pin, ring -/
section SMP
variable {L d n0 : Nat} {I : pj_SI} {J : pj_SJ} {pl tr rg fr : Nat} {p : Nat → Nat} {n : Nat} {σ : pj_St}
theorem u2n {α : Type} (f : Nat → Nat → α) {o k a j : Nat} (v : α) (h : a ≠ o) : pj_u2 f o k v a j = f a j := pj_u2_ne _ _ fun z => h z.1
theorem u2k {α : Type} (f : Nat → Nat → α) {o k a j : Nat} (v : α) (h : j ≠ k) : pj_u2 f o k v a j = f a j := pj_u2_ne _ _ fun z => h z.2
theorem pvX.u (h : pvX p I) {o k : Nat} {v : Int32} (h2 : o ≠ 2) (h3 : o ≠ 3) : pvX p (pj_u2 I o k v) := fun c hc => ⟨by rw [u2n _ _ h2.symm]; exact (h c hc).1, by rw [u2n _ _ h3.symm]; exact (h c hc).2⟩
theorem pvM.u (h : pvM p I) {o k : Nat} {v : Int32} (h2 : o ≠ 132) : pvM p (pj_u2 I o k v) := fun c hc => by rw [u2n _ _ h2.symm]; exact h c hc
theorem c_among_ok {a b : Int32} (h1 : 0 ≤ a) (h2 : a < b) : pj_Ev L d gX1_among 0 [.val (.int a), .val (.int b)] [] σ (.inl none, σ) := by
  refine ev_b 1 rfl ?_
  refine ev_if0 a rfl rfl (fun h => absurd h1 (Int32.not_le.mpr (of_decide_eq_true h))) (fun _ => ?_)
  refine ev_b 2 rfl ?_
  refine ev_if a b rfl rfl (fun _ => ?_) (fun h => absurd h2 (of_decide_eq_false h))
  exact ev_ret rfl rfl rfl
theorem c_among_no {a b : Int32} (h : ¬ (0 ≤ a ∧ a < b)) (h7 : pj_al σ.1 147 = true) : pj_Ev L d gX1_among 0 [.val (.int a), .val (.int b)] [] σ (.inr 20, pj_gar σ) := by
  refine ev_b 1 rfl ?_
  refine ev_if0 a rfl rfl (fun _ => ev_thr rfl rfl rfl rfl h7) (fun h1 => ?_)
  refine ev_b 2 rfl ?_
  refine ev_if a b rfl rfl (fun h2 => absurd ⟨Int32.not_lt.mp (of_decide_eq_false h1), of_decide_eq_true h2⟩ h) (fun _ => ev_thr rfl rfl rfl rfl h7)
theorem c_max {a b : Int32} : pj_Ev L d gJ10_max 0 [.val (.int a), .val (.int b)] [] σ (.inl (some (.int (if a < b then b else a))), σ) := by
  refine ev_b 2 rfl ?_
  refine ev_if a b rfl rfl (fun h => ?_) (fun h => ?_)
  · rw [if_pos (of_decide_eq_true h)]
    refine ev_b 1 rfl ?_
    exact ev_ret rfl rfl rfl
  · rw [if_neg (of_decide_eq_false h)]
    refine ev_b 2 rfl ?_
    exact ev_ret rfl rfl rfl
/-! density -/
def dIn (p : Nat → Nat) (c k : Nat) : Bool := kindN p k == 3 && (decide (fi (hs p k) 20 ≤ c) && decide (c ≤ la (hs p k) 20))
def dcol (p : Nat → Nat) (c : Nat) : Nat → Nat
  | 0 => 0
  | m + 1 => dcol p c m + (if dIn p c (m + 1) then 1 else 0)
def densN (p : Nat → Nat) : Nat → Nat
  | 0 => 0
  | c + 1 => max (densN p c) (dcol p c 9)
theorem dcol_s (p : Nat → Nat) (c m : Nat) : dcol p c (m + 1) = dcol p c m + (if dIn p c (m + 1) then 1 else 0) := rfl
theorem densN_s (p : Nat → Nat) (c : Nat) : densN p (c + 1) = max (densN p c) (dcol p c 9) := rfl
theorem dcol_le (p : Nat → Nat) (c : Nat) : ∀ m, dcol p c m ≤ m
  | 0 => Nat.le_refl _
  | m + 1 => by
    have := dcol_le p c m
    unfold dcol
    split <;> omega
theorem densN_le (p : Nat → Nat) : ∀ c, densN p c ≤ 9
  | 0 => Nat.zero_le _
  | c + 1 => by
    have h1 := densN_le p c
    have h2 := dcol_le p c 9
    unfold densN
    omega
theorem kind3_ex (h : kindN p n = 3) : ∃ c, c < 20 ∧ hs p n c = true := by
  refine pinsN_ex ?_
  unfold kindN at h
  split at h <;> omega
theorem c_density (hp : pvX p I) (hb : pvB p) :
    pj_Ev L (d + 3) gX1_density 0 [.val (.ref 1), .unset, .unset, .unset, .unset] [] (xS n0 I J pl tr rg fr) (.inl (some (.int (nI (densN p 20)))), xS n0 I J pl tr rg fr) := by
  have outer : ∀ m c (v w : Int32) (s3 s4 : Slot), c + m = 20 → w = nI c → v = nI (densN p c) →
      pj_Ev L (d + 3) gX1_density 4 [.val (.ref 1), .val (.int v), .val (.int w), s3, s4] [] (xS n0 I J pl tr rg fr) (.inl (some (.int (nI (densN p 20)))), xS n0 I J pl tr rg fr) := by
    intro m
    induction m with
    | zero =>
      intro c v w s3 s4 hc hw hv
      have hc : c = 20 := by omega
      subst hc; subst hw; subst hv
      refine ev_b 2 rfl ?_
      refine ev_ge 20 20 rfl rfl (by omega) (by omega) (fun h => ?_) (fun h => by omega)
      refine ev_b 1 rfl ?_
      exact ev_ret rfl rfl rfl
    | succ m ih =>
      intro c v w s3 s4 hc hw hv
      subst hw; subst hv
      have inner : ∀ m2 k (x y : Int32), k + m2 = 9 → y = nI (k + 1) → x = nI (dcol p c k) →
          pj_Ev L (d + 3) gX1_density 15 [.val (.ref 1), .val (.int (nI (densN p c))), .val (.int (nI c)), .val (.int x), .val (.int y)] [] (xS n0 I J pl tr rg fr) (.inl (some (.int (nI (densN p 20)))), xS n0 I J pl tr rg fr) := by
        intro m2
        induction m2 with
        | zero =>
          intro k x y hk hy hx
          have hk : k = 9 := by omega
          subst hk; subst hy; subst hx
          have b1 := densN_le p c
          have b2 := dcol_le p c 9
          refine ev_b 2 rfl ?_
          refine ev_ge 10 10 rfl rfl (by omega) (by omega) (fun h => ?_) (fun h => by omega)
          refine ev_b 2 rfl ?_
          refine ev_c rfl c_max ?_
          refine ev_b 3 rfl ?_
          refine ih (c + 1) _ _ _ _ (by omega) (nI_inc c) ?_
          rw [densN_s]
          by_cases e : densN p c < dcol p c 9
          · rw [if_pos ((nI_ltI (by omega) (by omega)).mpr e), Nat.max_eq_right (by omega)]
          · rw [if_neg (fun z => e ((nI_ltI (by omega) (by omega)).mp z)), Nat.max_eq_left (by omega)]
        | succ m2 ih2 =>
          intro k x y hk hy hx
          subst hy; subst hx
          have b1 := kindN_le p (k + 1)
          have no : dIn p c (k + 1) = false → pj_Ev L (d + 3) gX1_density 55 [.val (.ref 1), .val (.int (nI (densN p c))), .val (.int (nI c)), .val (.int (nI (dcol p c k))), .val (.int (nI (k + 1)))] [] (xS n0 I J pl tr rg fr) (.inl (some (.int (nI (densN p 20)))), xS n0 I J pl tr rg fr) := by
            intro h
            refine ev_b 2 rfl ?_
            exact ih2 (k + 1) _ _ (by omega) (nI_inc (k + 1)) (by rw [dcol_s, h]; rfl)
          refine ev_b 2 rfl ?_
          refine ev_ge (k + 1) 10 rfl rfl (by omega) (by omega) (fun h => by omega) (fun h => ?_)
          refine ev_b 2 rfl ?_
          refine ev_c rfl (c_kind hp hb (by omega)) ?_
          refine ev_b 1 rfl ?_
          refine ev_ne (kindN p (k + 1)) 3 rfl rfl (by omega) (by omega) (fun h2 => ?_) (fun h2 => ?_)
          · exact no (by unfold dIn; simp [h2])
          · have hex := kind3_ex h2
            have f1 := (fi_spec (hs p (k + 1)) 20).1
            have l1 := (la_spec hex).1
            refine ev_b 2 rfl ?_
            refine ev_c rfl (c_left (d := d + 1) hp hb (by omega)) ?_
            refine ev_b 1 rfl ?_
            refine ev_gt (fi (hs p (k + 1)) 20) c rfl rfl (by omega) (by omega) (fun h3 => ?_) (fun h3 => ?_)
            · exact no (by unfold dIn; simp; intro _ z; omega)
            · refine ev_b 2 rfl ?_
              refine ev_c rfl (c_right (d := d + 1) hp hb (by omega) hex) ?_
              refine ev_b 1 rfl ?_
              refine ev_lt (la (hs p (k + 1)) 20) c rfl rfl (by omega) (by omega) (fun h4 => ?_) (fun h4 => ?_)
              · exact no (by unfold dIn; simp; intro _ _; omega)
              · refine ev_b 3 rfl ?_
                refine ih2 (k + 1) _ _ (by omega) (nI_inc (k + 1)) ?_
                have : dIn p c (k + 1) = true := by unfold dIn; simp [h2, h3, h4]
                rw [dcol_s, this, if_pos rfl]
                exact nI_inc _
      refine ev_b 2 rfl ?_
      refine ev_ge c 20 rfl rfl (by omega) (by omega) (fun h => by omega) (fun h => ?_)
      exact ev_b 4 rfl (inner 9 0 _ _ rfl rfl rfl)
  exact ev_b 4 rfl (outer 20 0 _ _ _ _ rfl rfl rfl)
theorem m_density (hp : pvM p I) (hb : pvB p) :
    pj_Ev L (d + 3) gX4_density 0 [.val (.ref 131), .unset, .unset, .unset, .unset, .unset] [] (xS n0 I J pl tr rg fr) (.inl (some (.int (nI (densN p 20)))), xS n0 (pj_u2 I 131 0 0) J pl tr rg fr) := by
  have hp' : pvM p (pj_u2 I 131 0 0) := hp.u (by decide)
  have outer : ∀ m c (v w : Int32) (s3 s4 s5 : Slot), c + m = 20 → w = nI c → v = nI (densN p c) →
      pj_Ev L (d + 3) gX4_density 9 [.val (.ref 131), .val (.int v), .val (.int w), s3, s4, s5] [] (xS n0 (pj_u2 I 131 0 0) J pl tr rg fr) (.inl (some (.int (nI (densN p 20)))), xS n0 (pj_u2 I 131 0 0) J pl tr rg fr) := by
    intro m
    induction m with
    | zero =>
      intro c v w s3 s4 s5 hc hw hv
      have hc : c = 20 := by omega
      subst hc; subst hw; subst hv
      refine ev_b 2 rfl ?_
      refine ev_ge 20 20 rfl rfl (by omega) (by omega) (fun h => ?_) (fun h => by omega)
      refine ev_b 1 rfl ?_
      exact ev_ret rfl rfl rfl
    | succ m ih =>
      intro c v w s3 s4 s5 hc hw hv
      subst hw; subst hv
      have inner : ∀ m2 k (x y : Int32) (s5 : Slot), k + m2 = 9 → y = nI (k + 1) → x = nI (dcol p c k) →
          pj_Ev L (d + 3) gX4_density 20 [.val (.ref 131), .val (.int (nI (densN p c))), .val (.int (nI c)), .val (.int x), .val (.int y), s5] [] (xS n0 (pj_u2 I 131 0 0) J pl tr rg fr) (.inl (some (.int (nI (densN p 20)))), xS n0 (pj_u2 I 131 0 0) J pl tr rg fr) := by
        intro m2
        induction m2 with
        | zero =>
          intro k x y s5 hk hy hx
          have hk : k = 9 := by omega
          subst hk; subst hy; subst hx
          have b1 := densN_le p c
          have b2 := dcol_le p c 9
          refine ev_b 2 rfl ?_
          refine ev_gt 10 9 rfl rfl (by omega) (by omega) (fun h => ?_) (fun h => by omega)
          refine ev_b 2 rfl ?_
          refine ev_le (dcol p c 9) (densN p c) rfl rfl (by omega) (by omega) (fun h => ?_) (fun h => ?_)
          · refine ev_b 4 rfl ?_
            refine ih (c + 1) _ _ _ _ _ (by omega) (nI_inc c) ?_
            rw [densN_s, Nat.max_eq_left h]
          · refine ev_b 5 rfl ?_
            refine ih (c + 1) _ _ _ _ _ (by omega) (nI_inc c) ?_
            rw [densN_s, Nat.max_eq_right (by omega)]
        | succ m2 ih2 =>
          intro k x y s5 hk hy hx
          subst hy; subst hx
          have b1 := kindN_le p (k + 1)
          have k67 : ∀ b : Bool, dIn p c (k + 1) = b → pj_Ev L (d + 3) gX4_density 67 [.val (.ref 131), .val (.int (nI (densN p c))), .val (.int (nI c)), .val (.int (nI (dcol p c k))), .val (.int (nI (k + 1))), s5] [.int (bI b)] (xS n0 (pj_u2 I 131 0 0) J pl tr rg fr) (.inl (some (.int (nI (densN p 20)))), xS n0 (pj_u2 I 131 0 0) J pl tr rg fr) := by
            intro b h
            refine ev_b 2 rfl ?_
            refine ev_z b rfl rfl (fun hb => ?_) (fun hb => ?_)
            · refine ev_b 4 rfl ?_
              exact ih2 (k + 1) _ _ _ (by omega) (nI_inc (k + 1)) (by rw [dcol_s, h, hb]; rfl)
            · refine ev_b 7 rfl ?_
              refine ih2 (k + 1) _ _ _ (by omega) (nI_inc (k + 1)) ?_
              rw [dcol_s, h, hb, if_pos rfl]
              exact nI_inc _
          refine ev_b 2 rfl ?_
          refine ev_gt (k + 1) 9 rfl rfl (by omega) (by omega) (fun h => by omega) (fun h => ?_)
          refine ev_b 2 rfl ?_
          refine ev_c rfl (m_sort (d := d + 1) hp' hb (by omega)) ?_
          refine ev_b 1 rfl ?_
          refine ev_ne (kindN p (k + 1)) 3 rfl rfl (by omega) (by omega) (fun h2 => ?_) (fun h2 => ?_)
          · exact ev_b 1 rfl (k67 false (by unfold dIn; simp [h2]))
          · have hex := kind3_ex h2
            have f1 := (fi_spec (hs p (k + 1)) 20).1
            have l1 := (la_spec hex).1
            refine ev_b 3 rfl ?_
            refine ev_c rfl (m_columns hp' hb (by omega)) ?_
            refine ev_c rfl (m_lowestN hex) ?_
            refine ev_b 2 rfl ?_
            refine ev_c rfl (m_columns hp' hb (by omega)) ?_
            refine ev_c rfl (m_highestN hex) ?_
            refine ev_c rfl c_in ?_
            refine ev_z _ rfl rfl (fun h3 => ?_) (fun h3 => ?_)
            · refine ev_b 1 rfl (k67 false ?_)
              rw [Bool.and_eq_false_iff, decide_eq_false_iff_not, decide_eq_false_iff_not, nI_leI (by omega) (by omega), nI_leI (by omega) (by omega)] at h3
              unfold dIn
              rcases h3 with z | z <;> simp [z]
            · refine ev_b 2 rfl (k67 true ?_)
              rw [Bool.and_eq_true, decide_eq_true_eq, decide_eq_true_eq, nI_leI (by omega) (by omega), nI_leI (by omega) (by omega)] at h3
              unfold dIn
              simp [h2, h3.1, h3.2]
      refine ev_b 2 rfl ?_
      refine ev_ge c 20 rfl rfl (by omega) (by omega) (fun h => by omega) (fun h => ?_)
      exact ev_b 4 rfl (inner 9 0 _ _ _ rfl rfl rfl)
  exact ev_b 7 (σ' := xS n0 (pj_u2 I 131 0 0) J pl tr rg fr) rfl (outer 20 0 _ _ _ _ _ rfl rfl rfl)
end SMP
end
section
/-! the small methods: out, net, pin, ring -/
section SML
variable {L d n0 : Nat} {I : pj_SI} {J : pj_SJ} {pl tr rg fr : Nat} {p : Nat → Nat} {n : Nat} {σ : pj_St}
theorem m_thrown : pj_Ev L d gX4_thrown 0 [.val (.ref 131)] [] (xS n0 I J pl tr rg fr) (.inl (some (.int (I 131 0))), xS n0 I J pl tr rg fr) := by
  refine ev_b 2 rfl ?_
  exact ev_ret rfl rfl rfl
theorem m_fail {x : Int32} : pj_Ev L d gX4_fail 0 [.val (.ref 131), .val (.int x)] [] (xS n0 I J pl tr rg fr) (.inl (some (.int 0)), xS n0 (pj_u2 I 131 0 x) J pl tr rg fr) := by
  refine ev_b 4 (σ' := xS n0 (pj_u2 I 131 0 x) J pl tr rg fr) rfl ?_
  exact ev_ret rfl rfl rfl
theorem m_out {b : Bool} : pj_Ev L d gX4_out 0 [.val (.ref 131), .val (.int (bI b))] [] (xS n0 I J pl tr rg fr) (.inl (some (.int (bI (!b)))), xS n0 (pj_u2 I 131 0 (bI (!b))) J pl tr rg fr) := by
  refine ev_b 2 rfl ?_
  refine ev_z b rfl rfl (fun h => ?_) (fun h => ?_)
  · subst h
    refine ev_b 1 rfl ?_
    refine ev_b 2 (σ' := xS n0 (pj_u2 I 131 0 (bI true)) J pl tr rg fr) rfl ?_
    refine ev_nz false rfl rfl (fun h => by cases h) (fun _ => ?_)
    refine ev_b 2 rfl ?_
    exact ev_ret rfl rfl rfl
  · subst h
    refine ev_b 2 rfl ?_
    refine ev_b 2 (σ' := xS n0 (pj_u2 I 131 0 (bI false)) J pl tr rg fr) rfl ?_
    refine ev_nz true rfl rfl (fun _ => ?_) (fun h => by cases h)
    refine ev_b 1 rfl ?_
    exact ev_ret rfl rfl rfl
/-! net -/
def netV (p : Nat → Nat) (n k : Nat) : Int32 := if k < 2 then (if kindN p n = 3 then (if k = 0 then nI (fi (hs p n) 20) else nI (la (hs p n) 20)) else -1) else if k = 2 then nI (pinsN p n) else nI (kindN p n)
theorem nI_lits {k m : Nat} (h : k < m) (hm : m < 2 ^ 31) : 0 ≤ nI k ∧ nI k < nI m := ⟨nI_pos' (by omega), (nI_ltI (by omega) hm).mpr h⟩
theorem c_net_ok (hp : pvX p I) (hb : pvB p) (h1 : 1 ≤ n) (h9 : n ≤ 9) {k : Nat} (hk : k < 4) :
    pj_Ev L (d + 3) gX1_net 0 [.val (.ref 1), .val (.int (nI n)), .val (.int (nI k)), .unset] [] (xS n0 I J pl tr rg fr) (.inl (some (.int (netV p n k))), xS n0 I J pl tr rg fr) := by
  have hkd := kindN_le p n
  have em : nI n - nI 1 = nI (n - 1) := pk_sub h1
  refine ev_b 4 rfl ?_
  refine ev_c rfl (c_among_ok (a := nI n - nI 1) (b := nI 9) (by rw [em]; exact nI_pos' (by omega)) (by rw [em]; exact (nI_ltI (by omega) (by omega)).mpr (by omega))) ?_
  refine ev_b 2 rfl ?_
  refine ev_c rfl (c_among_ok (nI_lits hk (by decide)).1 (nI_lits hk (by decide)).2) ?_
  refine ev_b 2 rfl ?_
  refine ev_c rfl (c_kind hp hb h9) ?_
  refine ev_b 3 rfl ?_
  unfold netV
  refine ev_ge k 2 rfl rfl (by omega) (by omega) (fun h => ?_) (fun h => ?_)
  · rw [if_neg (by omega)]
    refine ev_b 2 rfl ?_
    refine ev_ne k 2 rfl rfl (by omega) (by omega) (fun h2 => ?_) (fun h2 => ?_)
    · rw [if_neg h2]
      refine ev_b 1 rfl ?_
      exact ev_ret rfl rfl rfl
    · rw [if_pos h2]
      refine ev_b 2 rfl ?_
      refine ev_c rfl (c_pins hp hb h9) ?_
      refine ev_b 1 rfl ?_
      exact ev_ret rfl rfl rfl
  · rw [if_pos h]
    refine ev_b 2 rfl ?_
    refine ev_eq (kindN p n) 3 rfl rfl (by omega) (by omega) (fun h2 => ?_) (fun h2 => ?_)
    · rw [if_pos h2]
      have hex := kind3_ex h2
      refine ev_b 1 rfl ?_
      refine ev_if0 (nI k) rfl rfl (fun h3 => ?_) (fun h3 => ?_)
      · have h4 : ¬ k = 0 := fun z => by
          have := of_decide_eq_true h3
          rw [z] at this
          exact this rfl
        rw [if_neg h4]
        refine ev_b 2 rfl ?_
        refine ev_c rfl (c_right (d := d + 1) hp hb h9 hex) ?_
        exact ev_ret rfl rfl rfl
      · have h4 : k = 0 := by
          have := of_decide_eq_false h3
          rw [Classical.not_not] at this
          exact (nI_eq (by omega) (by decide)).mp this
        rw [if_pos h4]
        refine ev_b 2 rfl ?_
        refine ev_c rfl (c_left (d := d + 1) hp hb h9) ?_
        refine ev_b 1 rfl ?_
        exact ev_ret rfl rfl rfl
    · rw [if_neg h2]
      refine ev_b 2 rfl ?_
      exact ev_ret rfl rfl rfl
theorem c_net_no {a w : Int32} (h : ¬ ((∃ n, 1 ≤ n ∧ n ≤ 9 ∧ a = nI n) ∧ ∃ k, k < 4 ∧ w = nI k)) :
    pj_Ev L (d + 1) gX1_net 0 [.val (.ref 1), .val (.int a), .val (.int w), .unset] [] (xS n0 I J pl tr rg fr) (.inr 20, xS (n0 + 1) I J pl tr rg fr) := by
  refine ev_b 4 rfl ?_
  by_cases h1 : 0 ≤ a - nI 1 ∧ a - nI 1 < nI 9
  · have ha : ∃ n, 1 ≤ n ∧ n ≤ 9 ∧ a = nI n := by
      rcases pk_ix (a - nI 1) (n := 9) (by decide) with z | z | ⟨j, hj, z⟩
      · exact absurd h1.1 (Int32.not_le.mpr z)
      · exact absurd h1.2 (Int32.not_lt.mpr z)
      · refine ⟨j + 1, by omega, by omega, ?_⟩
        rw [← nI_add, ← z, Int32.sub_add_cancel]
    refine ev_c rfl (c_among_ok h1.1 h1.2) ?_
    refine ev_b 2 rfl ?_
    refine ev_cp rfl rfl (c_among_no (a := w) (b := nI 4) (fun h2 => h ⟨ha, ?_⟩) rfl)
    rcases pk_ix w (n := 4) (by decide) with z | z | ⟨j, hj, z⟩
    · exact absurd h2.1 (Int32.not_le.mpr z)
    · exact absurd h2.2 (Int32.not_lt.mpr z)
    · exact ⟨j, hj, z⟩
  · exact ev_cp rfl rfl (c_among_no h1 rfl)
/-- an int between two small ones -/
theorem inR_iff {a : Int32} {lo hi : Nat} (hl : lo ≤ hi) (hh : hi < 2 ^ 31) : (decide (nI lo ≤ a) && decide (a ≤ nI hi)) = true ↔ ∃ n, lo ≤ n ∧ n ≤ hi ∧ a = nI n := by
  rw [Bool.and_eq_true, decide_eq_true_eq, decide_eq_true_eq]
  constructor
  · rintro ⟨h1, h2⟩
    have h0 : ¬ a < 0 := fun z => by
      have h3 : nI lo < 0 := Int32.lt_of_le_of_lt h1 z
      exact nI_pos (by omega) h3
    obtain ⟨j, hj, rfl⟩ := nI_of h0
    exact ⟨j, (nI_leI (by omega) hj).mp h1, (nI_leI hj hh).mp h2, rfl⟩
  · rintro ⟨n, h1, h2, rfl⟩
    exact ⟨(nI_leI (by omega) (by omega)).mpr h1, (nI_leI (by omega) hh).mpr h2⟩
theorem inR_t {n lo hi : Nat} (h1 : lo ≤ n) (h2 : n ≤ hi) (hh : hi < 2 ^ 31) : (decide (nI lo ≤ nI n) && decide (nI n ≤ nI hi)) = true := (inR_iff (by omega) hh).mpr ⟨n, h1, h2, rfl⟩
theorem m_net_ok (hp : pvM p I) (hb : pvB p) (h1 : 1 ≤ n) (h9 : n ≤ 9) {k : Nat} (hk : k < 4) :
    pj_Ev L (d + 2) gX4_net 0 [.val (.ref 131), .val (.int (nI n)), .val (.int (nI k)), .unset] [] (xS n0 I J pl tr rg fr) (.inl (some (.int (netV p n k))), xS n0 (pj_u2 I 131 0 0) J pl tr rg fr) := by
  have hkd := kindN_le p n
  have hp' : pvM p (pj_u2 I 131 0 0) := hp.u (by decide)
  refine ev_b 4 rfl ?_
  refine ev_c rfl c_in ?_
  refine ev_zv true (congrArg bI (inR_t (lo := 1) (hi := 9) h1 h9 (by decide))) rfl rfl (fun h => by cases h) (fun _ => ?_)
  refine ev_b 3 rfl ?_
  refine ev_c rfl c_in ?_
  refine ev_zv true (congrArg bI (inR_t (lo := 0) (hi := 3) (Nat.zero_le _) (by omega) (by decide))) rfl rfl (fun h => by cases h) (fun _ => ?_)
  refine ev_b 2 rfl ?_
  refine ev_c rfl (m_out (b := true)) ?_
  refine ev_z false rfl rfl (fun _ => ?_) (fun h => by cases h)
  refine ev_b 2 rfl ?_
  refine ev_c rfl (m_sort hp' hb h9) ?_
  refine ev_b 3 rfl ?_
  unfold netV
  refine ev_ge k 2 rfl rfl (by omega) (by omega) (fun h => ?_) (fun h => ?_)
  · rw [if_neg (by omega)]
    refine ev_b 2 rfl ?_
    refine ev_ne k 2 rfl rfl (by omega) (by omega) (fun h2 => ?_) (fun h2 => ?_)
    · rw [if_neg h2]
      refine ev_b 1 rfl ?_
      exact ev_ret rfl rfl rfl
    · rw [if_pos h2]
      refine ev_b 2 rfl ?_
      refine ev_c rfl (m_pinsOf hp' hb h9) ?_
      refine ev_b 1 rfl ?_
      exact ev_ret rfl rfl rfl
  · rw [if_pos h]
    refine ev_b 2 rfl ?_
    refine ev_ge (kindN p n) 3 rfl rfl (by omega) (by omega) (fun h2 => ?_) (fun h2 => ?_)
    · have h3 : kindN p n = 3 := by omega
      rw [if_pos h3]
      have hex := kind3_ex h3
      refine ev_b 1 rfl ?_
      refine ev_if0 (nI k) rfl rfl (fun h3 => ?_) (fun h3 => ?_)
      · have h4 : ¬ k = 0 := fun z => by
          have := of_decide_eq_true h3
          rw [z] at this
          exact this rfl
        rw [if_neg h4]
        refine ev_b 2 rfl ?_
        refine ev_c rfl (m_columns hp' hb h9) ?_
        refine ev_c rfl (m_highestN hex) ?_
        exact ev_ret rfl rfl rfl
      · have h4 : k = 0 := by
          have := of_decide_eq_false h3
          rw [Classical.not_not] at this
          exact (nI_eq (by omega) (by decide)).mp this
        rw [if_pos h4]
        refine ev_b 2 rfl ?_
        refine ev_c rfl (m_columns hp' hb h9) ?_
        refine ev_c rfl (m_lowestN hex) ?_
        refine ev_b 1 rfl ?_
        exact ev_ret rfl rfl rfl
    · rw [if_neg (by omega)]
      refine ev_b 2 rfl ?_
      exact ev_ret rfl rfl rfl
theorem m_net_no {a w : Int32} (h : ¬ ((∃ n, 1 ≤ n ∧ n ≤ 9 ∧ a = nI n) ∧ ∃ k, k < 4 ∧ w = nI k)) :
    pj_Ev L (d + 1) gX4_net 0 [.val (.ref 131), .val (.int a), .val (.int w), .unset] [] (xS n0 I J pl tr rg fr) (.inl (some (.int 0)), xS n0 (pj_u2 I 131 0 1) J pl tr rg fr) := by
  have k25 : pj_Ev L (d + 1) gX4_net 25 [.val (.ref 131), .val (.int a), .val (.int w), .unset] [.int (bI false), .ref 131] (xS n0 I J pl tr rg fr) (.inl (some (.int 0)), xS n0 (pj_u2 I 131 0 1) J pl tr rg fr) := by
    refine ev_c rfl (m_out (b := false)) ?_
    refine ev_z true rfl rfl (fun h => by cases h) (fun _ => ?_)
    refine ev_b 1 rfl ?_
    exact ev_ret rfl rfl rfl
  refine ev_b 4 rfl ?_
  refine ev_c rfl c_in ?_
  refine ev_z _ rfl rfl (fun _ => ev_b 1 rfl k25) (fun h1 => ?_)
  refine ev_b 3 rfl ?_
  refine ev_c rfl c_in ?_
  refine ev_z _ rfl rfl (fun _ => ev_b 1 rfl k25) (fun h2 => ?_)
  obtain ⟨n, z1, z2, z3⟩ := (inR_iff (lo := 1) (hi := 9) (by decide) (by decide)).mp h1
  obtain ⟨k, y1, y2, y3⟩ := (inR_iff (lo := 0) (hi := 3) (by decide) (by decide)).mp h2
  exact absurd ⟨⟨n, z1, z2, z3⟩, k, by omega, y3⟩ h
/-! ring -/
theorem c_ring_ok (hrg : rg = 88 ∨ rg = 89) {rs k : Nat} (hk : k < rs) (hrs : rs ≤ 40) (h7 : I 1 7 = nI rs) :
    pj_Ev L d gX1_ring 0 [.val (.ref 1), .val (.int (nI k))] [] (xS n0 I J pl tr rg fr) (.inl (some (.int (I rg k))), xS n0 I J pl tr rg fr) := by
  refine ev_b 1 rfl ?_
  refine ev_if0 (nI k) rfl rfl (fun h => absurd (of_decide_eq_true h) (nI_pos (by omega))) (fun _ => ?_)
  refine ev_b 3 rfl ?_
  show pj_Ev L d gX1_ring 9 _ [.int (I 1 7), .int (nI k)] _ _
  rw [h7]
  refine ev_lt k rs rfl rfl (by omega) (by omega) (fun _ => ?_) (fun h => by omega)
  refine ev_b 3 rfl ?_
  rcases hrg with rfl | rfl
  · refine ev_ia 88 k _ rfl rfl rfl rfl (show k < 40 by omega) (by omega) ?_
    exact ev_ret rfl rfl rfl
  · refine ev_ia 89 k _ rfl rfl rfl rfl (show k < 40 by omega) (by omega) ?_
    exact ev_ret rfl rfl rfl
theorem c_ring_no {a : Int32} {rs : Nat} (hrs : rs ≤ 40) (h7 : I 1 7 = nI rs) (ha : a < 0 ∨ nI rs ≤ a) :
    pj_Ev L d gX1_ring 0 [.val (.ref 1), .val (.int a)] [] (xS n0 I J pl tr rg fr) (.inl (some (.int (-1))), xS n0 I J pl tr rg fr) := by
  refine ev_b 1 rfl ?_
  refine ev_if0 a rfl rfl (fun h => ?_) (fun h => ?_)
  · refine ev_b 2 rfl ?_
    exact ev_ret rfl rfl rfl
  · refine ev_b 3 rfl ?_
    show pj_Ev L d gX1_ring 9 _ [.int (I 1 7), .int a] _ _
    rw [h7]
    refine ev_if a (nI rs) rfl rfl (fun h2 => ?_) (fun _ => ?_)
    · rcases ha with z | z
      · exact absurd z (of_decide_eq_false h)
      · exact absurd (of_decide_eq_true h2) (Int32.not_lt.mpr z)
    · refine ev_b 2 rfl ?_
      exact ev_ret rfl rfl rfl
theorem m_ring_ok {rs k : Nat} (hk : k < rs) (hrs : rs ≤ 40) (h7 : I 131 19 = nI rs) :
    pj_Ev L (d + 1) gX4_ring 0 [.val (.ref 131), .val (.int (nI k))] [] (xS n0 I J pl tr rg fr) (.inl (some (.int (I 146 k))), xS n0 (pj_u2 I 131 0 0) J pl tr rg fr) := by
  refine ev_b 9 (σ' := xS n0 (pj_u2 I 131 0 0) J pl tr rg fr) rfl ?_
  show pj_Ev L (d + 1) gX4_ring 13 _ [.int (I 131 19 - nI 1), .int (nI 0), .int (nI k)] _ _
  rw [h7, pk_sub (by omega)]
  refine ev_c rfl c_in ?_
  refine ev_zv true (congrArg bI (inR_t (Nat.zero_le _) (by omega) (by omega))) rfl rfl (fun h => by cases h) (fun _ => ?_)
  refine ev_b 3 rfl ?_
  refine ev_ia 146 k (I 146 k) (u2n _ _ (by decide)) rfl rfl rfl (show k < 40 by omega) (by omega) ?_
  refine ev_b 1 rfl ?_
  exact ev_ret rfl rfl rfl
theorem m_ring_no {a : Int32} {rs : Nat} (hrs : rs ≤ 40) (h7 : I 131 19 = nI rs) (ha : a < 0 ∨ nI rs ≤ a) :
    pj_Ev L (d + 1) gX4_ring 0 [.val (.ref 131), .val (.int a)] [] (xS n0 I J pl tr rg fr) (.inl (some (.int (-1))), xS n0 (pj_u2 I 131 0 0) J pl tr rg fr) := by
  refine ev_b 9 (σ' := xS n0 (pj_u2 I 131 0 0) J pl tr rg fr) rfl ?_
  refine ev_c rfl c_in ?_
  refine ev_z _ rfl rfl (fun _ => ?_) (fun h => ?_)
  · refine ev_b 1 rfl ?_
    exact ev_ret rfl rfl rfl
  · rw [Bool.and_eq_true, decide_eq_true_eq, decide_eq_true_eq] at h
    obtain ⟨g1, g2⟩ := h
    exfalso
    rcases ha with z | z
    · exact absurd g1 (Int32.not_le.mpr z)
    · have g3 : a ≤ nI rs - nI 1 := by rw [← h7]; exact g2
      rw [Int32.le_iff_toInt_le, nI_toInt (by omega)] at z
      rw [Int32.le_iff_toInt_le, pk_sub_toInt (by omega) (by omega)] at g3
      omega
/-! pin -/
theorem c_pin_ok {c v : Nat} {b : Bool} (hc : c < 20) (hv : v ≤ 9) :
    pj_Ev L (d + 1) gX1_pin 0 [.val (.ref 1), .val (.int (nI c)), .val (.int (bI b)), .val (.int (nI v)), .unset, .unset] [] (xS n0 I J pl tr rg fr)
      (.inl (some (.int (I (if b then 2 else 3) c))), xS n0 (pj_u2 (pj_u2 I (if b then 2 else 3) c (nI v)) 1 4 0) J pl tr rg fr) := by
  refine ev_b 2 rfl ?_
  refine ev_c rfl (c_among_ok (nI_lits hc (by decide)).1 (nI_lits hc (by decide)).2) ?_
  refine ev_b 1 rfl ?_
  refine ev_if0 (nI v) rfl rfl (fun h => absurd (of_decide_eq_true h) (nI_pos (by omega))) (fun _ => ?_)
  refine ev_b 2 rfl ?_
  refine ev_ge v 10 rfl rfl (by omega) (by omega) (fun h => by omega) (fun _ => ?_)
  refine ev_b 2 rfl ?_
  refine ev_c rfl (c_allow (b := true) rfl) ?_
  refine ev_b 1 rfl ?_
  refine ev_z b rfl rfl (fun h => ?_) (fun h => ?_)
  · subst h
    refine ev_b 5 rfl ?_
    refine ev_ia 3 c _ rfl rfl rfl rfl hc (by omega) ?_
    refine ev_b 4 rfl ?_
    refine ev_is 3 c (nI v) rfl rfl (by decide) rfl hc (by omega) ?_
    refine ev_b 4 (σ' := xS n0 (pj_u2 (pj_u2 I 3 c (nI v)) 1 4 0) J pl tr rg fr) rfl ?_
    exact ev_ret rfl rfl rfl
  · subst h
    refine ev_b 6 rfl ?_
    refine ev_ia 2 c _ rfl rfl rfl rfl hc (by omega) ?_
    refine ev_b 4 rfl ?_
    refine ev_is 2 c (nI v) rfl rfl (by decide) rfl hc (by omega) ?_
    refine ev_b 4 (σ' := xS n0 (pj_u2 (pj_u2 I 2 c (nI v)) 1 4 0) J pl tr rg fr) rfl ?_
    exact ev_ret rfl rfl rfl
theorem rng_of {a : Int32} {m : Nat} (hm : m < 2 ^ 31) (h : 0 ≤ a ∧ a < nI m) : ∃ k, k < m ∧ a = nI k := by
  rcases pk_ix a hm with z | z | z
  · exact absurd h.1 (Int32.not_le.mpr z)
  · exact absurd h.2 (Int32.not_lt.mpr z)
  · exact z
theorem c_pin_1 {a x : Int32} {b : Bool} (h : ¬ ∃ c, c < 20 ∧ a = nI c) :
    pj_Ev L (d + 1) gX1_pin 0 [.val (.ref 1), .val (.int a), .val (.int (bI b)), .val (.int x), .unset, .unset] [] (xS n0 I J pl tr rg fr) (.inr 20, xS (n0 + 1) I J pl tr rg fr) := by
  refine ev_b 2 rfl ?_
  exact ev_cp rfl rfl (c_among_no (a := a) (b := nI 20) (fun z => h (rng_of (by decide) z)) rfl)
theorem c_pin_2 {c : Nat} {x : Int32} {b : Bool} (hc : c < 20) (h : ¬ ∃ v, v ≤ 9 ∧ x = nI v) :
    pj_Ev L (d + 1) gX1_pin 0 [.val (.ref 1), .val (.int (nI c)), .val (.int (bI b)), .val (.int x), .unset, .unset] [] (xS n0 I J pl tr rg fr) (.inr 21, xS (n0 + 1) I J pl tr rg fr) := by
  refine ev_b 2 rfl ?_
  refine ev_c rfl (c_among_ok (nI_lits hc (by decide)).1 (nI_lits hc (by decide)).2) ?_
  refine ev_b 1 rfl ?_
  refine ev_if0 x rfl rfl (fun _ => ?_) (fun h1 => ?_)
  · refine ev_b 1 rfl ?_
    exact ev_cp rfl rfl (c_allow (b := false) rfl)
  · refine ev_b 2 rfl ?_
    refine ev_if x (nI 10) rfl rfl (fun _ => ?_) (fun h2 => ?_)
    · refine ev_b 1 rfl ?_
      exact ev_cp rfl rfl (c_allow (b := false) rfl)
    · obtain ⟨k, k1, k2⟩ := rng_of (a := x) (m := 10) (by decide) ⟨Int32.not_lt.mp (of_decide_eq_false h1), Int32.not_le.mp (of_decide_eq_false h2)⟩
      exact absurd ⟨k, by omega, k2⟩ h
def pinMI (I : pj_SI) (at_ : Nat) (v : Int32) : pj_SI := pj_u2 (pj_u2 (pj_u2 (pj_u2 (pj_u2 I 131 0 0) 132 at_ v) 131 11 0) 131 12 0) 131 13 0
theorem m_pin_ok {c v : Nat} {b : Bool} (hc : c < 20) (hv : v ≤ 9) :
    pj_Ev L (d + 1) gX4_pin 0 [.val (.ref 131), .val (.int (nI c)), .val (.int (bI b)), .val (.int (nI v)), .unset, .unset] [] (xS n0 I J pl tr rg fr)
      (.inl (some (.int (I 132 (if b then c else 20 + c)))), xS n0 (pinMI I (if b then c else 20 + c) (nI v)) J pl tr rg fr) := by
  refine ev_b 4 rfl ?_
  refine ev_c rfl c_in ?_
  refine ev_nzv true (congrArg bI (inR_t (lo := 0) (hi := 19) (Nat.zero_le _) (by omega) (by decide))) rfl rfl (fun _ => ?_) (fun h => by cases h)
  refine ev_b 3 rfl ?_
  refine ev_c rfl c_in ?_
  refine ev_nzv true (congrArg bI (inR_t (lo := 0) (hi := 9) (Nat.zero_le _) hv (by decide))) rfl rfl (fun _ => ?_) (fun h => by cases h)
  refine ev_b 1 rfl ?_
  refine ev_b 3 (σ' := xS n0 (pj_u2 I 131 0 0) J pl tr rg fr) rfl ?_
  refine ev_if0 0 rfl rfl (fun _ => ?_) (fun h => absurd h (by decide))
  refine ev_b 1 rfl ?_
  refine ev_z b rfl rfl (fun h => ?_) (fun h => ?_)
  · subst h
    refine ev_b 3 rfl ?_
    show pj_Ev L (d + 1) gX4_pin 54 _ [.int (nI 20 + nI c)] _ _
    rw [nI_add]
    refine ev_b 4 rfl ?_
    refine ev_ia 132 (20 + c) (I 132 (20 + c)) (u2n _ _ (by decide)) rfl rfl rfl (show 20 + c < 40 by omega) (by omega) ?_
    refine ev_b 5 rfl ?_
    refine ev_is 132 (20 + c) (nI v) rfl rfl (by decide) rfl (show 20 + c < 40 by omega) (by omega) ?_
    refine ev_b 10 (σ' := xS n0 (pinMI I (20 + c) (nI v)) J pl tr rg fr) rfl ?_
    exact ev_ret rfl rfl rfl
  · subst h
    refine ev_b 2 rfl ?_
    refine ev_b 4 rfl ?_
    refine ev_ia 132 c (I 132 c) (u2n _ _ (by decide)) rfl rfl rfl (show c < 40 by omega) (by omega) ?_
    refine ev_b 5 rfl ?_
    refine ev_is 132 c (nI v) rfl rfl (by decide) rfl (show c < 40 by omega) (by omega) ?_
    refine ev_b 10 (σ' := xS n0 (pinMI I c (nI v)) J pl tr rg fr) rfl ?_
    exact ev_ret rfl rfl rfl
theorem m_pin_1 {a x : Int32} {b : Bool} (h : ¬ ∃ c, c < 20 ∧ a = nI c) :
    pj_Ev L (d + 1) gX4_pin 0 [.val (.ref 131), .val (.int a), .val (.int (bI b)), .val (.int x), .unset, .unset] [] (xS n0 I J pl tr rg fr) (.inl (some (.int 0)), xS n0 (pj_u2 I 131 0 1) J pl tr rg fr) := by
  refine ev_b 4 rfl ?_
  refine ev_c rfl c_in ?_
  refine ev_nz _ rfl rfl (fun h1 => ?_) (fun _ => ?_)
  · obtain ⟨k, k1, k2, k3⟩ := (inR_iff (lo := 0) (hi := 19) (by decide) (by decide)).mp h1
    exact absurd ⟨k, by omega, k3⟩ h
  · refine ev_b 2 rfl ?_
    refine ev_b 3 (σ' := xS n0 (pj_u2 I 131 0 1) J pl tr rg fr) rfl ?_
    refine ev_if0 1 rfl rfl (fun h => absurd h (by decide)) (fun _ => ?_)
    refine ev_b 1 rfl ?_
    exact ev_ret rfl rfl rfl
theorem m_pin_2 {c : Nat} {x : Int32} {b : Bool} (hc : c < 20) (h : ¬ ∃ v, v ≤ 9 ∧ x = nI v) :
    pj_Ev L (d + 1) gX4_pin 0 [.val (.ref 131), .val (.int (nI c)), .val (.int (bI b)), .val (.int x), .unset, .unset] [] (xS n0 I J pl tr rg fr) (.inl (some (.int 0)), xS n0 (pj_u2 I 131 0 2) J pl tr rg fr) := by
  refine ev_b 4 rfl ?_
  refine ev_c rfl c_in ?_
  refine ev_nzv true (congrArg bI (inR_t (lo := 0) (hi := 19) (Nat.zero_le _) (by omega) (by decide))) rfl rfl (fun _ => ?_) (fun h => by cases h)
  refine ev_b 3 rfl ?_
  refine ev_c rfl c_in ?_
  refine ev_nz _ rfl rfl (fun h1 => ?_) (fun _ => ?_)
  · obtain ⟨k, k1, k2, k3⟩ := (inR_iff (lo := 0) (hi := 9) (by decide) (by decide)).mp h1
    exact absurd ⟨k, k2, k3⟩ h
  · refine ev_b 2 rfl ?_
    refine ev_b 3 (σ' := xS n0 (pj_u2 I 131 0 2) J pl tr rg fr) rfl ?_
    refine ev_if0 2 rfl rfl (fun h => absurd h (by decide)) (fun _ => ?_)
    refine ev_b 1 rfl ?_
    exact ev_ret rfl rfl rfl
end SML
end
section
/-! rows for plans and segments -/
def isP (pl : Nat) : Prop := pl = 4 ∨ pl = 46
theorem isP.kd {pl : Nat} (h : isP pl) : pj_kd pl = 2 := by rcases h with rfl | rfl <;> rfl
theorem isP.kd7 {pl : Nat} (h : isP pl) : pj_kd (pl + 1) = 7 := by rcases h with rfl | rfl <;> rfl
theorem isP.kd3 {pl k : Nat} (h : isP pl) (hk : k < 40) : pj_kd (pl + 2 + k) = 3 := by
  rcases h with rfl | rfl
  · unfold pj_kd
    repeat (first | rw [if_neg (by omega)] | rw [if_pos (by omega)])
  · unfold pj_kd
    repeat (first | rw [if_neg (by omega)] | rw [if_pos (by omega)])
theorem isP.al {pl n0 k : Nat} (h : isP pl) (hk : k < 42) : pj_al (.inr n0) (pl + k) = true := decide_eq_true (by rcases h with rfl | rfl <;> omega)
theorem isP.al3 {pl n0 k : Nat} (h : isP pl) (hk : k < 40) : pj_al (.inr n0) (pl + 2 + k) = true := decide_eq_true (by rcases h with rfl | rfl <;> omega)
theorem isP.pt0 {pl a b c e : Nat} (h : isP pl) : pj_PT a b c e pl 0 = some (pl + 1) := by rcases h with rfl | rfl <;> rfl
theorem isP.pt1 {pl a b c e k : Nat} (h : isP pl) (hk : k < 40) : pj_PT a b c e (pl + 1) k = some (pl + 2 + k) := by
  rcases h with rfl | rfl
  · show (if k < 40 then some (6 + k) else none) = _
    rw [if_pos hk]
  · show (if k < 40 then some (48 + k) else none) = _
    rw [if_pos hk]
theorem isP.ln {pl L : Nat} (h : isP pl) : pj_ln L (pl + 1) = 40 := by rcases h with rfl | rfl <;> rfl
section EVP
variable {L d n0 : Nat} {G : pj_Mi} {pc : Nat} {lv : List Slot} {st : List Value} {I : pj_SI} {J : pj_SJ} {a b e f : Nat} {pl : Nat} {r : pj_Rs × pj_St} {idx : Nat}
/-- many (1), tracks (2) -/
theorem ev_gp (fld : Nat) (v : Int32) (hpl : isP pl) (hv : I pl fld = v) (hfl : fld = 1 ∨ fld = 2) (hc : pj_cd G pc = some (.getfield idx, 3)) (hf : pj_fr G.2.1.1 idx = some (2, fld)) (kk : pj_Ev L d G (pc + 3) lv (.int v :: st) (.inr n0, I, J, pj_PT a b e f) r) : pj_Ev L d G pc lv (.ref pl :: st) (.inr n0, I, J, pj_PT a b e f) r := by
  refine ev_gf pl 2 fld (.int v) ?_ hc hf hpl.kd (hpl.al (k := 0) (by decide)) kk
  rcases hfl with rfl | rfl
  · show Value.int (I pl 1) = _
    rw [hv]
  · show Value.int (I pl 2) = _
    rw [hv]
theorem ev_pp (fld : Nat) (v : Int32) (hpl : isP pl) (hfl : fld = 1 ∨ fld = 2) (hc : pj_cd G pc = some (.putfield idx, 3)) (hf : pj_fr G.2.1.1 idx = some (2, fld)) (kk : pj_Ev L d G (pc + 3) lv st (.inr n0, pj_u2 I pl fld v, J, pj_PT a b e f) r) : pj_Ev L d G pc lv (.int v :: .ref pl :: st) (.inr n0, I, J, pj_PT a b e f) r := by
  refine ev_pf pl 2 fld (.int v) _ ?_ hc hf hpl.kd (hpl.al (k := 0) (by decide)) (by rcases hfl with rfl | rfl <;> rfl) kk
  rcases hfl with rfl | rfl <;> rfl
theorem ev_ga (hpl : isP pl) (hc : pj_cd G pc = some (.getfield idx, 3)) (hf : pj_fr G.2.1.1 idx = some (2, 0)) (kk : pj_Ev L d G (pc + 3) lv (.ref (pl + 1) :: st) (.inr n0, I, J, pj_PT a b e f) r) : pj_Ev L d G pc lv (.ref pl :: st) (.inr n0, I, J, pj_PT a b e f) r := by
  refine ev_gf pl 2 0 (.ref (pl + 1)) ?_ hc hf hpl.kd (hpl.al (k := 0) (by decide)) kk
  show pj_rf (pj_PT a b e f pl 0) = _
  rw [hpl.pt0]
  rfl
theorem ev_as {k : Nat} (hpl : isP pl) (hk : k < 40) (hc : pj_cd G pc = some (.aaload, 1)) (kk : pj_Ev L d G (pc + 1) lv (.ref (pl + 2 + k) :: st) (.inr n0, I, J, pj_PT a b e f) r) : pj_Ev L d G pc lv (.int (nI k) :: .ref (pl + 1) :: st) (.inr n0, I, J, pj_PT a b e f) r :=
  ev_aa (pl + 1) k (pl + 2 + k) (hpl.pt1 hk) hc (Or.inl hpl.kd7) (hpl.al (k := 1) (by decide)) (by rw [hpl.ln]; exact hk) (by omega) kk
theorem ev_gs {k : Nat} (fld : Nat) (v : Int32) (hpl : isP pl) (hk : k < 40) (hv : I (pl + 2 + k) fld = v) (hfl : fld < 5) (hc : pj_cd G pc = some (.getfield idx, 3)) (hf : pj_fr G.2.1.1 idx = some (3, fld)) (kk : pj_Ev L d G (pc + 3) lv (.int v :: st) (.inr n0, I, J, pj_PT a b e f) r) : pj_Ev L d G pc lv (.ref (pl + 2 + k) :: st) (.inr n0, I, J, pj_PT a b e f) r := by
  refine ev_gf (pl + 2 + k) 3 fld (.int v) ?_ hc hf (hpl.kd3 hk) (hpl.al3 hk) kk
  have e : pj_ft 3 fld = 0 := by
    unfold pj_ft
    rw [if_neg (by decide), if_neg (by decide), if_pos rfl, if_pos (by omega)]
  unfold pj_fv
  rw [e, if_neg (by decide), if_neg (by decide)]
  show Value.int (I (pl + 2 + k) fld) = _
  rw [hv]
theorem ev_gsl {k : Nat} (fld : Nat) (v : Int64) (hpl : isP pl) (hk : k < 40) (hv : J (pl + 2 + k) fld = v) (hfl : fld = 5 ∨ fld = 6) (hc : pj_cd G pc = some (.getfield idx, 3)) (hf : pj_fr G.2.1.1 idx = some (3, fld)) (kk : pj_Ev L d G (pc + 3) lv (.long v :: st) (.inr n0, I, J, pj_PT a b e f) r) : pj_Ev L d G pc lv (.ref (pl + 2 + k) :: st) (.inr n0, I, J, pj_PT a b e f) r := by
  refine ev_gf (pl + 2 + k) 3 fld (.long v) ?_ hc hf (hpl.kd3 hk) (hpl.al3 hk) kk
  have e : pj_ft 3 fld = 2 := by rcases hfl with rfl | rfl <;> rfl
  unfold pj_fv
  rw [e, if_neg (by decide), if_pos rfl]
  show Value.long (J (pl + 2 + k) fld) = _
  rw [hv]
theorem ev_ps {k : Nat} (fld : Nat) (v : Int32) (hpl : isP pl) (hk : k < 40) (hfl : fld < 5) (hc : pj_cd G pc = some (.putfield idx, 3)) (hf : pj_fr G.2.1.1 idx = some (3, fld)) (kk : pj_Ev L d G (pc + 3) lv st (.inr n0, pj_u2 I (pl + 2 + k) fld v, J, pj_PT a b e f) r) : pj_Ev L d G pc lv (.int v :: .ref (pl + 2 + k) :: st) (.inr n0, I, J, pj_PT a b e f) r := by
  refine ev_pf (pl + 2 + k) 3 fld (.int v) _ ?_ hc hf (hpl.kd3 hk) (hpl.al3 hk) rfl kk
  have e : pj_ft 3 fld = 0 := by
    unfold pj_ft
    rw [if_neg (by decide), if_neg (by decide), if_pos rfl, if_pos (by omega)]
  unfold pj_put
  rw [e, if_neg (by decide), if_neg (by decide)]
  simp
theorem ev_psl {k : Nat} (fld : Nat) (v : Int64) (hpl : isP pl) (hk : k < 40) (hfl : fld = 5 ∨ fld = 6) (hc : pj_cd G pc = some (.putfield idx, 3)) (hf : pj_fr G.2.1.1 idx = some (3, fld)) (kk : pj_Ev L d G (pc + 3) lv st (.inr n0, I, pj_u2 J (pl + 2 + k) fld v, pj_PT a b e f) r) : pj_Ev L d G pc lv (.long v :: .ref (pl + 2 + k) :: st) (.inr n0, I, J, pj_PT a b e f) r := by
  refine ev_pf (pl + 2 + k) 3 fld (.long v) _ ?_ hc hf (hpl.kd3 hk) (hpl.al3 hk) rfl kk
  have e : pj_ft 3 fld = 2 := by rcases hfl with rfl | rfl <;> rfl
  unfold pj_put
  rw [e, if_neg (by decide), if_pos rfl]
/-- a call on a segment -/
theorem pj_rcv_seg {M : pj_Mi} {k : Nat} {as : List Value} (hM : M.2.1.1 = 3) (hkd : M.2.1.2.1 = 1) (hpl : isP pl) (hk : k < 40) : pj_rcv M (.inr n0) (.ref (pl + 2 + k) :: as) = true := by
  unfold pj_rcv
  rw [if_neg (by rw [hkd]; decide), hM]
  exact decide_eq_true ⟨hpl.kd3 hk, hpl.al3 hk⟩
theorem pj_rcv_plan {M : pj_Mi} {as : List Value} (hM : M.2.1.1 = 2) (hkd : M.2.1.2.1 = 1) (hpl : isP pl) : pj_rcv M (.inr n0) (.ref pl :: as) = true := by
  unfold pj_rcv
  rw [if_neg (by rw [hkd]; decide), hM]
  exact decide_eq_true ⟨hpl.kd, hpl.al (k := 0) (by decide)⟩
/-- the check of a call, the receiver apart -/
def pj_ck0 (G : pj_Mi) (pc : Nat) (st : List Value) : Option (Nat × pj_Mi × List Value × List Value) := match pj_cd G pc with
  | none => none
  | some (i, len) => if pj_isRet i = true then none else match pj_thr G i pc with
    | some _ => none
    | none => match pj_cal G i with
      | none => none
      | some (k, kd) => if k = 999 then none else match pj_mts[k]? with
        | none => none
        | some M => if M.2.1.2.1 = kd then (match pj_popn (M.2.1.2.2 + (if kd = 0 then 0 else 1)) [] st with
            | some (as, r) => if pj_wt r ≤ 8 ∧ pj_wt as ≤ M.1.2.2.1 then some (len, M, as, r) else none
            | none => none) else none
theorem pj_ck0_ck {N : pj_N} {len : Nat} {M : pj_Mi} {as rest : List Value} (h : pj_ck0 G pc st = some (len, M, as, rest)) (hr : pj_rcv M N as = true) : pj_ck G pc st N = some (len, M, as, rest) := by
  unfold pj_ck0 at h
  unfold pj_ck
  cases hcd : pj_cd G pc with
  | none => rw [hcd] at h; cases h
  | some il =>
    obtain ⟨i, len'⟩ := il
    rw [hcd] at h
    simp only at h ⊢
    by_cases hr' : pj_isRet i = true
    · rw [if_pos hr'] at h; cases h
    · rw [if_neg hr'] at h ⊢
      cases ht : pj_thr G i pc with
      | some x => rw [ht] at h; cases h
      | none =>
        rw [ht] at h
        simp only at h ⊢
        cases hk : pj_cal G i with
        | none => rw [hk] at h; cases h
        | some q =>
          obtain ⟨k, kd⟩ := q
          rw [hk] at h
          simp only at h ⊢
          by_cases h9 : k = 999
          · rw [if_pos h9] at h; cases h
          · rw [if_neg h9] at h ⊢
            cases hM : pj_mts[k]? with
            | none => rw [hM] at h; cases h
            | some M' =>
              rw [hM] at h
              simp only at h ⊢
              split at h
              · next hkd =>
                rw [if_pos hkd]
                cases hp : pj_popn (M'.2.1.2.2 + (if kd = 0 then 0 else 1)) [] st with
                | none => rw [hp] at h; cases h
                | some q =>
                  obtain ⟨as', r0⟩ := q
                  rw [hp] at h
                  simp only at h ⊢
                  split at h
                  · next hc =>
                    cases h
                    rw [if_pos ⟨hr, hc⟩]
                  · cases h
              · cases h
/-- a call on an object that is a variable -/
theorem ev_co {σ : pj_St} {len : Nat} {M : pj_Mi} {as rest : List Value} {v : Option Value} {σ' : pj_St} (h : pj_ck0 G pc st = some (len, M, as, rest)) (hr : pj_rcv M σ.1 as = true) (hcal : pj_Ev L d M 0 (pj_ent M.1.2.2.1 as) [] σ (.inl v, σ')) (k : pj_Ev L (d + 1) G (pc + len) lv (v.toList ++ rest) σ' r) : pj_Ev L (d + 1) G pc lv st σ r :=
  ev_c (pj_ck0_ck h hr) hcal k
/-- a column that a segment touches -/
theorem c_touch {k c : Nat} (hpl : isP pl) (hk : k < 40) (hc : c < 32) : pj_Ev L d gX3_touch 0 [.val (.ref (pl + 2 + k)), .val (.int (nI c))] [] (.inr n0, I, J, pj_PT a b e f) (.inl (some (.int (bI (bt (I (pl + 2 + k) 4) c)))), (.inr n0, I, J, pj_PT a b e f)) := by
  refine ev_b 1 rfl ?_
  refine ev_gs 4 _ hpl hk rfl (by decide) rfl rfl ?_
  refine ev_b 5 rfl ?_
  refine ev_ne1 (bt (I (pl + 2 + k) 4) c) (bt_sh hc _) rfl rfl (fun h => ?_) (fun h => ?_)
  · rw [h]
    refine ev_b 1 rfl ?_
    exact ev_ret rfl rfl rfl
  · rw [h]
    refine ev_b 2 rfl ?_
    exact ev_ret rfl rfl rfl
end EVP
end
section
/-! what is seen of a laid channel: the router -/
def rI (r : Nat) : Int32 := nI r - 1
theorem rI_s (t : Nat) : rI (t + 1) = nI t := nI_pred t
theorem rI_toInt {r : Nat} (h : r < 2 ^ 30) : (rI r).toInt = (r : Int) - 1 := pk_sub_toInt (a := r) (b := 1) h (by decide)
theorem rI_lt {a b : Nat} (ha : a < 2 ^ 30) (hb : b < 2 ^ 30) : rI a < rI b ↔ a < b := by
  rw [Int32.lt_iff_toInt_lt, rI_toInt ha, rI_toInt hb]; omega
theorem rI_le {a b : Nat} (ha : a < 2 ^ 30) (hb : b < 2 ^ 30) : rI a ≤ rI b ↔ a ≤ b := by
  rw [Int32.le_iff_toInt_le, rI_toInt ha, rI_toInt hb]; omega
theorem rI_eq {a b : Nat} (ha : a < 2 ^ 30) (hb : b < 2 ^ 30) : rI a = rI b ↔ a = b := by
  rw [← Int32.toInt_inj, rI_toInt ha, rI_toInt hb]; omega
theorem bI_inj {a b : Bool} : bI a = bI b ↔ a = b := by cases a <;> cases b <;> decide
theorem bI_or (a b : Bool) : bI a ||| bI b = bI (a || b) := by cases a <;> cases b <;> decide
/-- a net on a track at a column: the last segment there -/
def lev (nt lf rt tk : Nat → Nat) (t c : Nat) : Nat → Nat
  | 0 => 0
  | m + 1 => if tk m = t ∧ lf m ≤ c ∧ c ≤ rt m then nt m else lev nt lf rt tk t c m
/-- one more than the greatest (least) track of a net's segments at a column; 0: none -/
def rch (nt tk : Nat → Nat) (tc : Nat → Nat → Bool) (a c : Nat) (g : Bool) : Nat → Nat
  | 0 => 0
  | m + 1 => if nt m = a ∧ tc m c = true then (if rch nt tk tc a c g m = 0 then tk m + 1 else if decide (rch nt tk tc a c g m < tk m + 1) = g then tk m + 1 else rch nt tk tc a c g m) else rch nt tk tc a c g m
def upV (a b r R1 R2 : Nat) : Nat := if a = b then a else if a ≠ 0 ∧ r ≤ R1 then a else if b ≠ 0 ∧ R2 ≤ r then b else 0
/-- a segment of a net that touches a column lies on a track -/
def liesB (nt tk : Nat → Nat) (tc : Nat → Nat → Bool) (a c t : Nat) : Nat → Bool
  | 0 => false
  | m + 1 => liesB nt tk tc a c t m || (nt m == a && (tk m == t && tc m c))
def LX (pl : Nat) (I : pj_SI) (mn tn : Nat) (nt lf rt tk : Nat → Nat) (tc : Nat → Nat → Bool) : Prop :=
  I pl 1 = nI mn ∧ I pl 2 = nI tn ∧ (mn ≤ 40 ∧ tn ≤ 40) ∧ (∀ k, k < mn → I (pl + 2 + k) 0 = nI (nt k) ∧ I (pl + 2 + k) 1 = nI (lf k) ∧ I (pl + 2 + k) 2 = nI (rt k) ∧ I (pl + 2 + k) 3 = nI (tk k) ∧ ∀ c, c < 20 → bt (I (pl + 2 + k) 4) c = tc k c) ∧
    (∀ k, k < mn → (1 ≤ nt k ∧ nt k ≤ 9) ∧ lf k < 20 ∧ rt k < 20 ∧ tk k < tn) ∧ ∀ t, t < tn → ∀ c, c < 20 → I (91 + t) c = nI (lev nt lf rt tk t c mn)
theorem lev_le {nt lf rt tk : Nat → Nat} {t c : Nat} : ∀ {m : Nat}, (∀ k, k < m → nt k ≤ 9) → lev nt lf rt tk t c m ≤ 9
  | 0, _ => Nat.zero_le _
  | m + 1, h => by
    have := lev_le (nt := nt) (lf := lf) (rt := rt) (tk := tk) (t := t) (c := c) (m := m) fun k hk => h k (by omega)
    have h2 := h m (by omega)
    unfold lev
    split <;> omega
theorem rch_le {nt tk : Nat → Nat} {tc : Nat → Nat → Bool} {a c : Nat} {g : Bool} {tn : Nat} : ∀ {m : Nat}, (∀ k, k < m → tk k < tn) → rch nt tk tc a c g m ≤ tn
  | 0, _ => Nat.zero_le _
  | m + 1, h => by
    have := rch_le (nt := nt) (tc := tc) (a := a) (c := c) (g := g) (m := m) fun k hk => h k (by omega)
    have h2 := h m (by omega)
    unfold rch
    split
    · split
      · omega
      · split <;> omega
    · omega
section LAX
variable {L d n0 : Nat} {I : pj_SI} {J : pj_SJ} {pl tr rg fr : Nat} {p : Nat → Nat} {mn tn : Nat} {nt lf rt tk : Nat → Nat} {tc : Nat → Nat → Bool}
theorem c_tracks {dn : Bool} (hpl : isP pl) (hd : I 1 4 = bI dn) (ht : dn = true → I pl 2 = nI tn) (h0 : dn = false → tn = 0) :
    pj_Ev L d gX1_tracks 0 [.val (.ref 1)] [] (xS n0 I J pl tr rg fr) (.inl (some (.int (nI tn))), xS n0 I J pl tr rg fr) := by
  refine ev_b 2 rfl ?_
  refine ev_zv dn hd rfl rfl (fun h => ?_) (fun h => ?_)
  · rw [h0 h]
    refine ev_b 1 rfl ?_
    exact ev_ret rfl rfl rfl
  · refine ev_b 2 rfl ?_
    refine ev_gp 2 _ hpl (ht h) (Or.inr rfl) rfl rfl ?_
    refine ev_b 1 rfl ?_
    exact ev_ret rfl rfl rfl
def segV (nt lf rt tk : Nat → Nat) (k j : Nat) : Nat := if j = 0 then nt k else if j = 1 then lf k else if j = 2 then rt k else tk k
theorem c_segment_ok (hpl : isP pl) (hd : I 1 4 = bI true) (hL : LX pl I mn tn nt lf rt tk tc) {k j : Nat} (hk : k < mn) (hj : j < 4) :
    pj_Ev L (d + 1) gX1_segment 0 [.val (.ref 1), .val (.int (nI k)), .val (.int (nI j)), .unset] [] (xS n0 I J pl tr rg fr) (.inl (some (.int (nI (segV nt lf rt tk k j)))), xS n0 I J pl tr rg fr) := by
  obtain ⟨h1, h2, ⟨h3, -⟩, h4, -⟩ := hL
  obtain ⟨g1, g2, g3, g4, -⟩ := h4 k hk
  have hk40 : k < 40 := by omega
  refine ev_b 3 rfl ?_
  refine ev_zv true hd rfl rfl (fun h => by cases h) (fun _ => ?_)
  refine ev_b 2 rfl ?_
  refine ev_gp 1 _ hpl h1 (Or.inl rfl) rfl rfl ?_
  refine ev_b 1 rfl ?_
  refine ev_c rfl (c_among_ok (nI_lits hk (by omega)).1 (nI_lits hk (by omega)).2) ?_
  refine ev_b 2 rfl ?_
  refine ev_c rfl (c_among_ok (nI_lits hj (by decide)).1 (nI_lits hj (by decide)).2) ?_
  refine ev_b 2 rfl ?_
  refine ev_ga hpl rfl rfl ?_
  refine ev_b 1 rfl ?_
  refine ev_as hpl hk40 rfl ?_
  refine ev_b 2 rfl ?_
  unfold segV
  refine ev_if0 (nI j) rfl rfl (fun h => ?_) (fun h => ?_)
  · have hj0 : ¬ j = 0 := fun z => by
      have := of_decide_eq_true h
      rw [z] at this
      exact this rfl
    rw [if_neg hj0]
    refine ev_b 2 rfl ?_
    refine ev_ne j 1 rfl rfl (by omega) (by omega) (fun hj1 => ?_) (fun hj1 => ?_)
    · rw [if_neg hj1]
      refine ev_b 2 rfl ?_
      refine ev_ne j 2 rfl rfl (by omega) (by omega) (fun hj2 => ?_) (fun hj2 => ?_)
      · rw [if_neg hj2]
        refine ev_b 1 rfl ?_
        refine ev_gs 3 _ hpl hk40 g4 (by decide) rfl rfl ?_
        exact ev_ret rfl rfl rfl
      · rw [if_pos hj2]
        refine ev_b 1 rfl ?_
        refine ev_gs 2 _ hpl hk40 g3 (by decide) rfl rfl ?_
        refine ev_b 1 rfl ?_
        exact ev_ret rfl rfl rfl
    · rw [if_pos hj1]
      refine ev_b 1 rfl ?_
      refine ev_gs 1 _ hpl hk40 g2 (by decide) rfl rfl ?_
      refine ev_b 1 rfl ?_
      exact ev_ret rfl rfl rfl
  · have hj0 : j = 0 := by
      have := of_decide_eq_false h
      rw [Classical.not_not] at this
      exact (nI_eq (by omega) (by decide)).mp this
    rw [if_pos hj0]
    refine ev_b 1 rfl ?_
    refine ev_gs 0 _ hpl hk40 g1 (by decide) rfl rfl ?_
    refine ev_b 1 rfl ?_
    exact ev_ret rfl rfl rfl
theorem c_segment_no {dn : Bool} {a w : Int32} (hpl : isP pl) (hd : I 1 4 = bI dn) (hm : dn = true → I pl 1 = nI mn) (h0 : dn = false → mn = 0) (hm40 : mn ≤ 40) (h : ¬ ((∃ k, k < mn ∧ a = nI k) ∧ ∃ j, j < 4 ∧ w = nI j)) :
    pj_Ev L (d + 1) gX1_segment 0 [.val (.ref 1), .val (.int a), .val (.int w), .unset] [] (xS n0 I J pl tr rg fr) (.inr 20, xS (n0 + 1) I J pl tr rg fr) := by
  have k19 : pj_Ev L (d + 1) gX1_segment 19 [.val (.ref 1), .val (.int a), .val (.int w), .unset] [.int (nI mn), .int a] (xS n0 I J pl tr rg fr) (.inr 20, xS (n0 + 1) I J pl tr rg fr) := by
    by_cases h1 : 0 ≤ a ∧ a < nI mn
    · refine ev_c rfl (c_among_ok h1.1 h1.2) ?_
      refine ev_b 2 rfl ?_
      exact ev_cp rfl rfl (c_among_no (a := w) (b := nI 4) (fun h2 => h ⟨rng_of (by omega) h1, rng_of (by decide) h2⟩) rfl)
    · exact ev_cp rfl rfl (c_among_no h1 rfl)
  refine ev_b 3 rfl ?_
  refine ev_zv dn hd rfl rfl (fun hz => ?_) (fun hz => ?_)
  · refine ev_b 1 rfl ?_
    have e := h0 hz
    rw [e] at k19
    exact k19
  · refine ev_b 2 rfl ?_
    refine ev_gp 1 _ hpl (hm hz) (Or.inl rfl) rfl rfl ?_
    exact ev_b 1 rfl k19
/-- a row of the grid -/
theorem ev_row {G : pj_Mi} {pc : Nat} {lv : List Slot} {st : List Value} {r : pj_Rs × pj_St} {t : Nat} (ht : t < 40) (hc : pj_cd G pc = some (.aaload, 1)) (kk : pj_Ev L d G (pc + 1) lv (.ref (91 + t) :: st) (xS n0 I J pl tr rg fr) r) : pj_Ev L d G pc lv (.int (nI t) :: .ref 90 :: st) (xS n0 I J pl tr rg fr) r := by
  refine ev_aa 90 t (91 + t) ?_ hc (Or.inr rfl) rfl ht (by omega) kk
  show (if t < 40 then some (91 + t) else none) = _
  rw [if_pos ht]
theorem row_kd {t : Nat} (ht : t < 40) : pj_kd (91 + t) = 5 := by
  unfold pj_kd
  repeat (first | rw [if_neg (by omega)] | rw [if_pos (by omega)])
theorem row_ln {t : Nat} (ht : t < 40) : pj_ln L (91 + t) = 20 := by
  unfold pj_ln
  repeat (first | rw [if_neg (by omega)] | rw [if_pos (by omega)])
theorem row_al {t : Nat} (ht : t < 40) : pj_al (.inr n0) (91 + t) = true := decide_eq_true (by omega)
theorem c_level_ok (hpl : isP pl) (hd : I 1 4 = bI true) (hL : LX pl I mn tn nt lf rt tk tc) {t c : Nat} (ht : t < tn) (hc : c < 20) :
    pj_Ev L (d + 1) gX1_level 0 [.val (.ref 1), .val (.int (nI t)), .val (.int (nI c))] [] (xS n0 I J pl tr rg fr) (.inl (some (.int (nI (lev nt lf rt tk t c mn)))), xS n0 I J pl tr rg fr) := by
  obtain ⟨h1, h2, ⟨h3, h40⟩, h4, h5, h6⟩ := hL
  have ht40 : t < 40 := by omega
  refine ev_b 2 rfl ?_
  refine ev_c rfl (c_tracks hpl hd (fun _ => h2) (fun h => by cases h)) ?_
  refine ev_c rfl (c_among_ok (nI_lits ht (by omega)).1 (nI_lits ht (by omega)).2) ?_
  refine ev_b 2 rfl ?_
  refine ev_c rfl (c_among_ok (nI_lits hc (by decide)).1 (nI_lits hc (by decide)).2) ?_
  refine ev_b 3 rfl ?_
  refine ev_row ht40 rfl ?_
  refine ev_b 1 rfl ?_
  refine ev_ia (91 + t) c _ (h6 t ht c hc) rfl (row_kd ht40) (row_al ht40) (by rw [row_ln ht40]; exact hc) (by omega) ?_
  exact ev_ret rfl rfl rfl
theorem c_level_no {dn : Bool} {a w : Int32} (hpl : isP pl) (hd : I 1 4 = bI dn) (hm : dn = true → I pl 2 = nI tn) (h0 : dn = false → tn = 0) (ht40 : tn ≤ 40) (h : ¬ ((∃ k, k < tn ∧ a = nI k) ∧ ∃ j, j < 20 ∧ w = nI j)) :
    pj_Ev L (d + 1) gX1_level 0 [.val (.ref 1), .val (.int a), .val (.int w)] [] (xS n0 I J pl tr rg fr) (.inr 20, xS (n0 + 1) I J pl tr rg fr) := by
  refine ev_b 2 rfl ?_
  refine ev_c rfl (c_tracks hpl hd hm h0) ?_
  by_cases h1 : 0 ≤ a ∧ a < nI tn
  · refine ev_c rfl (c_among_ok h1.1 h1.2) ?_
    refine ev_b 2 rfl ?_
    exact ev_cp rfl rfl (c_among_no (a := w) (b := nI 20) (fun h2 => h ⟨rng_of (by omega) h1, rng_of (by decide) h2⟩) rfl)
  · exact ev_cp rfl rfl (c_among_no h1 rfl)
theorem c_reach (hpl : isP pl) (hL : LX pl I mn tn nt lf rt tk tc) {a c : Nat} {g : Bool} (ha : a ≤ 9) (hc : c < 20) :
    pj_Ev L (d + 1) gX1_reach 0 [.val (.ref 1), .val (.int (nI a)), .val (.int (nI c)), .val (.int (bI g)), .unset, .unset, .unset] [] (xS n0 I J pl tr rg fr) (.inl (some (.int (rI (rch nt tk tc a c g mn)))), xS n0 I J pl tr rg fr) := by
  obtain ⟨h1, h2, ⟨h3, h40⟩, h4, h5, h6⟩ := hL
  have loop : ∀ m k (v w : Int32) (s6 : Slot), k + m = mn → w = nI k → v = rI (rch nt tk tc a c g k) →
      pj_Ev L (d + 1) gX1_reach 6 [.val (.ref 1), .val (.int (nI a)), .val (.int (nI c)), .val (.int (bI g)), .val (.int v), .val (.int w), s6] [] (xS n0 I J pl tr rg fr) (.inl (some (.int (rI (rch nt tk tc a c g mn)))), xS n0 I J pl tr rg fr) := by
    intro m
    induction m with
    | zero =>
      intro k v w s6 hk hw hv
      have hk : k = mn := by omega
      subst hk; subst hw; subst hv
      refine ev_b 3 rfl ?_
      refine ev_gp 1 _ hpl h1 (Or.inl rfl) rfl rfl ?_
      refine ev_ge k k rfl rfl (by omega) (by omega) (fun _ => ?_) (fun h => by omega)
      refine ev_b 1 rfl ?_
      exact ev_ret rfl rfl rfl
    | succ m ih =>
      intro k v w s6 hk hw hv
      subst hw; subst hv
      have hkm : k < mn := by omega
      have hk40 : k < 40 := by omega
      obtain ⟨g1, g2, g3, g4, g5⟩ := h4 k hkm
      obtain ⟨⟨b1, b2⟩, b3, b4, b5⟩ := h5 k hkm
      have hR : rch nt tk tc a c g k ≤ tn := rch_le fun j hj => (h5 j (by omega)).2.2.2
      have no : ∀ s6 : Slot, rch nt tk tc a c g (k + 1) = rch nt tk tc a c g k → pj_Ev L (d + 1) gX1_reach 80 [.val (.ref 1), .val (.int (nI a)), .val (.int (nI c)), .val (.int (bI g)), .val (.int (rI (rch nt tk tc a c g k))), .val (.int (nI k)), s6] [] (xS n0 I J pl tr rg fr) (.inl (some (.int (rI (rch nt tk tc a c g mn)))), xS n0 I J pl tr rg fr) := by
        intro s6 h
        refine ev_b 2 rfl ?_
        exact ih (k + 1) _ _ _ (by omega) (nI_inc k) (by rw [h])
      have yes : rch nt tk tc a c g (k + 1) = tk k + 1 → pj_Ev L (d + 1) gX1_reach 73 [.val (.ref 1), .val (.int (nI a)), .val (.int (nI c)), .val (.int (bI g)), .val (.int (rI (rch nt tk tc a c g k))), .val (.int (nI k)), .val (.ref (pl + 2 + k))] [] (xS n0 I J pl tr rg fr) (.inl (some (.int (rI (rch nt tk tc a c g mn)))), xS n0 I J pl tr rg fr) := by
        intro h
        refine ev_b 1 rfl ?_
        refine ev_gs 3 _ hpl hk40 g4 (by decide) rfl rfl ?_
        refine ev_b 3 rfl ?_
        exact ih (k + 1) _ _ _ (by omega) (nI_inc k) (by rw [h, rI_s])
      refine ev_b 3 rfl ?_
      refine ev_gp 1 _ hpl h1 (Or.inl rfl) rfl rfl ?_
      refine ev_ge k mn rfl rfl (by omega) (by omega) (fun h => by omega) (fun _ => ?_)
      refine ev_b 2 rfl ?_
      refine ev_ga hpl rfl rfl ?_
      refine ev_b 1 rfl ?_
      refine ev_as hpl hk40 rfl ?_
      refine ev_b 2 rfl ?_
      refine ev_gs 0 _ hpl hk40 g1 (by decide) rfl rfl ?_
      refine ev_b 1 rfl ?_
      refine ev_ne (nt k) a rfl rfl (by omega) (by omega) (fun e1 => ?_) (fun e1 => ?_)
      · exact no _ (by rw [rch, if_neg (fun z => e1 z.1)])
      · refine ev_b 2 rfl ?_
        refine ev_co rfl (pj_rcv_seg rfl rfl hpl hk40) (c_touch hpl hk40 (by omega)) ?_
        rw [g5 c hc]
        refine ev_z (tc k c) rfl rfl (fun e2 => ?_) (fun e2 => ?_)
        · exact no _ (by rw [rch, if_neg (fun z => by rw [z.2] at e2; cases e2)])
        · have hs : rch nt tk tc a c g (k + 1) = (if rch nt tk tc a c g k = 0 then tk k + 1 else if decide (rch nt tk tc a c g k < tk k + 1) = g then tk k + 1 else rch nt tk tc a c g k) := by
            rw [rch, if_pos ⟨e1, e2⟩]
          generalize hrk : rch nt tk tc a c g k = rk at *
          refine ev_b 2 rfl ?_
          refine ev_if (rI rk) (-1) rfl rfl (fun e3 => ?_) (fun e3 => ?_)
          · have e4 : rk = 0 := (rI_eq (b := 0) (by omega) (by decide)).mp (of_decide_eq_true e3)
            exact yes (by rw [hs, if_pos e4])
          · have e4 : rk ≠ 0 := fun z => by
              have := of_decide_eq_false e3
              rw [z] at this
              exact this rfl
            obtain ⟨r', hr'⟩ : ∃ r', rk = r' + 1 := ⟨rk - 1, by omega⟩
            refine ev_b 1 rfl ?_
            refine ev_gs 3 _ hpl hk40 g4 (by decide) rfl rfl ?_
            refine ev_b 1 rfl ?_
            have k69 : ∀ b : Bool, decide (rk < tk k + 1) = b → pj_Ev L (d + 1) gX1_reach 69 [.val (.ref 1), .val (.int (nI a)), .val (.int (nI c)), .val (.int (bI g)), .val (.int (rI rk)), .val (.int (nI k)), .val (.ref (pl + 2 + k))] [.int (bI b)] (xS n0 I J pl tr rg fr) (.inl (some (.int (rI (rch nt tk tc a c g mn)))), xS n0 I J pl tr rg fr) := by
              intro b hb
              refine ev_b 1 rfl ?_
              refine ev_if (bI b) (bI g) rfl rfl (fun e5 => ?_) (fun e5 => ?_)
              · have e6 : ¬ b = g := fun z => (of_decide_eq_true e5) (by rw [z])
                exact no _ (by rw [hs, if_neg e4, hb, if_neg e6])
              · have e6 : b = g := by
                  have := of_decide_eq_false e5
                  rw [Classical.not_not] at this
                  exact bI_inj.mp this
                exact yes (by rw [hs, if_neg e4, hb, if_pos e6])
            rw [hr', rI_s] at k69 ⊢
            refine ev_le (tk k) r' rfl rfl (by omega) (by omega) (fun e5 => ?_) (fun e5 => ?_)
            · exact ev_b 1 rfl (k69 false (decide_eq_false (by omega)))
            · exact ev_b 2 rfl (k69 true (decide_eq_true (by omega)))
  exact ev_b 4 rfl (loop mn 0 _ _ _ (by omega) rfl rfl)
end LAX
end
section
/-! what is seen of a laid plan: upright, joined, via, count (the router) -/
section EVZ
variable {L d : Nat} {G : pj_Mi} {pc : Nat} {lv : List Slot} {st : List Value} {σ : pj_St} {r : pj_Rs × pj_St}
theorem ev_zn {off : Int} {t : Nat} (a : Nat) (ha : a < 2 ^ 31) (hc : pj_cd G pc = some (.ifCond .eq off, 3)) (ht : pj_tg pc off = some t) (h1 : a = 0 → pj_Ev L d G t lv st σ r) (h2 : a ≠ 0 → pj_Ev L d G (pc + 3) lv st σ r) : pj_Ev L d G pc lv (.int (nI a) :: st) σ r :=
  ev_if0 _ hc ht (fun h => h1 ((nI_eq ha (by decide)).mp (of_decide_eq_true h))) (fun h => h2 fun z => by
    have := of_decide_eq_false h
    rw [z] at this
    exact this rfl)
theorem ev_nzn {off : Int} {t : Nat} (a : Nat) (ha : a < 2 ^ 31) (hc : pj_cd G pc = some (.ifCond .ne off, 3)) (ht : pj_tg pc off = some t) (h1 : a ≠ 0 → pj_Ev L d G t lv st σ r) (h2 : a = 0 → pj_Ev L d G (pc + 3) lv st σ r) : pj_Ev L d G pc lv (.int (nI a) :: st) σ r :=
  ev_if0 _ hc ht (fun h => h1 fun z => by
    have := of_decide_eq_true h
    rw [z] at this
    exact this rfl) (fun h => h2 (by
    have := of_decide_eq_false h
    rw [Classical.not_not] at this
    exact (nI_eq ha (by decide)).mp this))
theorem ev_len {off : Int} {t : Nat} (a : Nat) (ha : a < 2 ^ 31) (hc : pj_cd G pc = some (.ifCond .le off, 3)) (ht : pj_tg pc off = some t) (h1 : a = 0 → pj_Ev L d G t lv st σ r) (h2 : a ≠ 0 → pj_Ev L d G (pc + 3) lv st σ r) : pj_Ev L d G pc lv (.int (nI a) :: st) σ r :=
  ev_if0 _ hc ht (fun h => h1 (by
    have := (nI_leI (b := 0) ha (by decide)).mp (of_decide_eq_true h)
    omega)) (fun h => h2 fun z => by
    have := of_decide_eq_false h
    rw [z] at this
    exact this (by decide))
theorem ev_ltn {off : Int} {t : Nat} (a : Nat) (ha : a < 2 ^ 31) (hc : pj_cd G pc = some (.ifCond .lt off, 3)) (ht : pj_tg pc off = some t) (h2 : pj_Ev L d G (pc + 3) lv st σ r) : pj_Ev L d G pc lv (.int (nI a) :: st) σ r :=
  ev_if0 _ hc ht (fun h => absurd (of_decide_eq_true h) (nI_pos ha)) (fun _ => h2)
theorem ev_gen {off : Int} {t : Nat} (a : Nat) (ha : a < 2 ^ 31) (hc : pj_cd G pc = some (.ifCond .ge off, 3)) (ht : pj_tg pc off = some t) (h1 : pj_Ev L d G t lv st σ r) : pj_Ev L d G pc lv (.int (nI a) :: st) σ r :=
  ev_if0 _ hc ht (fun _ => h1) (fun h => absurd (nI_pos' ha) (of_decide_eq_false h))
end EVZ
def gsum (f : Nat → Nat → Bool) : Nat → Nat
  | 0 => 0
  | t + 1 => gsum f t + fb_ct (f t) 20
theorem gsum_s (f : Nat → Nat → Bool) (t : Nat) : gsum f (t + 1) = gsum f t + fb_ct (f t) 20 := rfl
theorem gsum_le (f : Nat → Nat → Bool) : ∀ t, gsum f t ≤ 20 * t
  | 0 => Nat.le_refl _
  | t + 1 => by
    have h1 := gsum_le f t
    have h2 := fb_ct_le (f t) 20
    rw [gsum_s]
    omega
/-- the net of a column's upright piece at a row -/
def upA (p : Nat → Nat) (nt tk : Nat → Nat) (tc : Nat → Nat → Bool) (mn c r : Nat) : Nat := upV (p c) (p (20 + c)) r (rch nt tk tc (p c) c true mn) (rch nt tk tc (p (20 + c)) c false mn)
theorem upV_le {a b r R1 R2 : Nat} (h1 : a ≤ 9) (h2 : b ≤ 9) : upV a b r R1 R2 ≤ 9 := by
  unfold upV
  split
  · omega
  · split
    · omega
    · split <;> omega
def joinB (p : Nat → Nat) (nt lf rt tk : Nat → Nat) (tc : Nat → Nat → Bool) (mn t c : Nat) : Bool := decide (lev nt lf rt tk t c mn ≠ 0) && (decide (upA p nt tk tc mn c (t + 1) = lev nt lf rt tk t c mn) && liesB nt tk tc (lev nt lf rt tk t c mn) c t mn)
section UPX
variable {L d n0 : Nat} {I : pj_SI} {J : pj_SJ} {pl tr rg fr : Nat} {p : Nat → Nat} {mn tn : Nat} {nt lf rt tk : Nat → Nat} {tc : Nat → Nat → Bool}
theorem c_uprightAt (hp : pvX p I) (hb : pvB p) (hpl : isP pl) (hL : LX pl I mn tn nt lf rt tk tc) {c r : Nat} (hc : c < 20) (hr : r ≤ tn + 1) :
    pj_Ev L (d + 2) gX1_uprightAt 0 [.val (.ref 1), .val (.int (nI c)), .val (.int (rI r)), .unset, .unset] [] (xS n0 I J pl tr rg fr) (.inl (some (.int (nI (upA p nt tk tc mn c r)))), xS n0 I J pl tr rg fr) := by
  have b1 := hb c (by omega)
  have b2 := hb (20 + c) (by omega)
  have h40 : tn ≤ 40 := hL.2.2.1.2
  have hR1 : rch nt tk tc (p c) c true mn ≤ tn := rch_le fun k hk => (hL.2.2.2.2.1 k hk).2.2.2
  have hR2 : rch nt tk tc (p (20 + c)) c false mn ≤ tn := rch_le fun k hk => (hL.2.2.2.2.1 k hk).2.2.2
  refine ev_b 3 rfl ?_
  refine ev_ia 2 c _ (hp c hc).1 rfl rfl rfl hc (by omega) ?_
  refine ev_b 4 rfl ?_
  refine ev_ia 3 c _ (hp c hc).2 rfl rfl rfl hc (by omega) ?_
  refine ev_b 3 rfl ?_
  unfold upA upV
  refine ev_ne (p c) (p (20 + c)) rfl rfl (by omega) (by omega) (fun e1 => ?_) (fun e1 => ?_)
  · rw [if_neg e1]
    have k40 : ¬ (p c ≠ 0 ∧ r ≤ rch nt tk tc (p c) c true mn) → pj_Ev L (d + 2) gX1_uprightAt 40 [.val (.ref 1), .val (.int (nI c)), .val (.int (rI r)), .val (.int (nI (p c))), .val (.int (nI (p (20 + c))))] [] (xS n0 I J pl tr rg fr) (.inl (some (.int (nI (if p c ≠ 0 ∧ r ≤ rch nt tk tc (p c) c true mn then p c else if p (20 + c) ≠ 0 ∧ rch nt tk tc (p (20 + c)) c false mn ≤ r then p (20 + c) else 0)))), xS n0 I J pl tr rg fr) := by
      intro hn
      rw [if_neg hn]
      refine ev_b 1 rfl ?_
      refine ev_zn (p (20 + c)) (by omega) rfl rfl (fun e2 => ?_) (fun e2 => ?_)
      · rw [if_neg (fun z => z.1 e2)]
        refine ev_b 1 rfl ?_
        exact ev_ret rfl rfl rfl
      · refine ev_b 5 rfl ?_
        refine ev_c rfl (c_reach (g := false) hpl hL b2 hc) ?_
        refine ev_if (rI r) (rI (rch nt tk tc (p (20 + c)) c false mn)) rfl rfl (fun h => ?_) (fun h => ?_)
        · have h2 := (rI_lt (by omega) (by omega)).mp (of_decide_eq_true h)
          rw [if_neg (fun z => by omega)]
          refine ev_b 1 rfl ?_
          exact ev_ret rfl rfl rfl
        · have h2 := of_decide_eq_false h
          rw [rI_lt (by omega) (by omega)] at h2
          rw [if_pos ⟨e2, by omega⟩]
          refine ev_b 2 rfl ?_
          exact ev_ret rfl rfl rfl
    refine ev_b 1 rfl ?_
    refine ev_zn (p c) (by omega) rfl rfl (fun e2 => k40 (fun z => z.1 e2)) (fun e2 => ?_)
    refine ev_b 5 rfl ?_
    refine ev_c rfl (c_reach (g := true) hpl hL b1 hc) ?_
    refine ev_if (rI r) (rI (rch nt tk tc (p c) c true mn)) rfl rfl (fun h => ?_) (fun h => ?_)
    · have h2 := (rI_lt (by omega) (by omega)).mp (of_decide_eq_true h)
      exact k40 (fun z => by omega)
    · have h2 := of_decide_eq_false h
      rw [rI_lt (by omega) (by omega)] at h2
      rw [if_pos ⟨e2, by omega⟩]
      refine ev_b 1 rfl ?_
      exact ev_ret rfl rfl rfl
  · rw [if_pos e1]
    refine ev_b 1 rfl ?_
    exact ev_ret rfl rfl rfl
theorem c_upright_ok (hp : pvX p I) (hb : pvB p) (hpl : isP pl) (hd : I 1 4 = bI true) (hL : LX pl I mn tn nt lf rt tk tc) {c r : Nat} (hc : c < 20) (hr : r ≤ tn + 1) :
    pj_Ev L (d + 3) gX1_upright 0 [.val (.ref 1), .val (.int (nI c)), .val (.int (rI r))] [] (xS n0 I J pl tr rg fr) (.inl (some (.int (nI (upA p nt tk tc mn c r)))), xS n0 I J pl tr rg fr) := by
  have h40 : tn ≤ 40 := hL.2.2.1.2
  refine ev_b 2 rfl ?_
  refine ev_c rfl (c_among_ok (nI_lits hc (by decide)).1 (nI_lits hc (by decide)).2) ?_
  refine ev_b 5 rfl ?_
  refine ev_zv true hd rfl rfl (fun h => by cases h) (fun _ => ?_)
  refine ev_b 2 rfl ?_
  refine ev_gp 2 _ hpl hL.2.1 (Or.inr rfl) rfl rfl ?_
  refine ev_b 3 rfl ?_
  have e1 : rI r + nI 1 = nI r := by unfold rI; exact Int32.sub_add_cancel _ _
  have e2 : nI tn + nI 2 = nI (tn + 2) := nI_add _ _
  refine ev_c rfl (c_among_ok (a := rI r + nI 1) (b := nI tn + nI 2) (by rw [e1]; exact nI_pos' (by omega)) (by rw [e1, e2]; exact (nI_ltI (by omega) (by omega)).mpr (by omega))) ?_
  refine ev_b 3 rfl ?_
  refine ev_c rfl (c_uprightAt hp hb hpl hL hc hr) ?_
  exact ev_ret rfl rfl rfl
theorem c_upright_no {dn : Bool} {a w : Int32} (hpl : isP pl) (hd : I 1 4 = bI dn) (hm : dn = true → I pl 2 = nI tn) (ht40 : tn ≤ 40) (h : ¬ (dn = true ∧ (∃ c, c < 20 ∧ a = nI c) ∧ ∃ r, r ≤ tn + 1 ∧ w = rI r)) :
    pj_Ev L (d + 1) gX1_upright 0 [.val (.ref 1), .val (.int a), .val (.int w)] [] (xS n0 I J pl tr rg fr) (.inr 20, xS (n0 + 1) I J pl tr rg fr) := by
  refine ev_b 2 rfl ?_
  by_cases h1 : 0 ≤ a ∧ a < nI 20
  · refine ev_c rfl (c_among_ok h1.1 h1.2) ?_
    refine ev_b 5 rfl ?_
    refine ev_zv dn hd rfl rfl (fun hz => ?_) (fun hz => ?_)
    · refine ev_b 1 rfl ?_
      exact ev_cp rfl rfl (c_among_no (a := w + nI 1) (b := nI 0) (fun z => by
        obtain ⟨k, hk, -⟩ := rng_of (by decide) z
        omega) rfl)
    · refine ev_b 2 rfl ?_
      refine ev_gp 2 _ hpl (hm hz) (Or.inr rfl) rfl rfl ?_
      refine ev_b 3 rfl ?_
      have e2 : nI tn + nI 2 = nI (tn + 2) := nI_add _ _
      refine ev_cp rfl rfl (c_among_no (a := w + nI 1) (b := nI tn + nI 2) (fun z => h ⟨hz, rng_of (by decide) h1, ?_⟩) rfl)
      rw [e2] at z
      obtain ⟨k, hk, e⟩ := rng_of (by omega) z
      refine ⟨k, by omega, ?_⟩
      unfold rI
      rw [← e]
      exact (Int32.add_sub_cancel w (nI 1)).symm
  · exact ev_cp rfl rfl (c_among_no (a := a) (b := nI 20) h1 rfl)
theorem c_joined (hp : pvX p I) (hb : pvB p) (hpl : isP pl) (hL : LX pl I mn tn nt lf rt tk tc) {t c : Nat} (ht : t < tn) (hc : c < 20) :
    pj_Ev L (d + 3) gX1_joined 0 [.val (.ref 1), .val (.int (nI t)), .val (.int (nI c)), .unset, .unset, .unset, .unset] [] (xS n0 I J pl tr rg fr) (.inl (some (.int (bI (joinB p nt lf rt tk tc mn t c)))), xS n0 I J pl tr rg fr) := by
  obtain ⟨h1, h2, ⟨h3, h40⟩, h4, h5, h6⟩ := id hL
  have ht40 : t < 40 := by omega
  have hl9 : lev nt lf rt tk t c mn ≤ 9 := lev_le fun k hk => (h5 k hk).1.2
  have hu9 : upA p nt tk tc mn c (t + 1) ≤ 9 := upV_le (hb c (by omega)) (hb (20 + c) (by omega))
  unfold joinB
  generalize hv : lev nt lf rt tk t c mn = v at *
  have loop : ∀ m k (x w : Int32) (s6 : Slot), k + m = mn → w = nI k → x = bI (liesB nt tk tc v c t k) →
      pj_Ev L (d + 3) gX1_joined 31 [.val (.ref 1), .val (.int (nI t)), .val (.int (nI c)), .val (.int (nI v)), .val (.int x), .val (.int w), s6] [] (xS n0 I J pl tr rg fr) (.inl (some (.int (bI (liesB nt tk tc v c t mn)))), xS n0 I J pl tr rg fr) := by
    intro m
    induction m with
    | zero =>
      intro k x w s6 hk hw hx
      have hk : k = mn := by omega
      subst hk; subst hw; subst hx
      refine ev_b 3 rfl ?_
      refine ev_gp 1 _ hpl h1 (Or.inl rfl) rfl rfl ?_
      refine ev_ge k k rfl rfl (by omega) (by omega) (fun _ => ?_) (fun h => by omega)
      refine ev_b 1 rfl ?_
      cases liesB nt tk tc v c t k
      · exact ev_ret rfl rfl rfl
      · exact ev_ret rfl rfl rfl
    | succ m ih =>
      intro k x w s6 hk hw hx
      subst hw; subst hx
      have hkm : k < mn := by omega
      have hk40 : k < 40 := by omega
      obtain ⟨g1, g2, g3, g4, g5⟩ := h4 k hkm
      obtain ⟨⟨b1, b2⟩, b3, b4, b5⟩ := h5 k hkm
      have k89 : ∀ b : Bool, (nt k == v && (tk k == t && tc k c)) = b → pj_Ev L (d + 3) gX1_joined 89 [.val (.ref 1), .val (.int (nI t)), .val (.int (nI c)), .val (.int (nI v)), .val (.int (bI (liesB nt tk tc v c t k))), .val (.int (nI k)), .val (.ref (pl + 2 + k))] [.int (bI b), .int (bI (liesB nt tk tc v c t k))] (xS n0 I J pl tr rg fr) (.inl (some (.int (bI (liesB nt tk tc v c t mn)))), xS n0 I J pl tr rg fr) := by
        intro b hb
        refine ev_b 4 rfl ?_
        exact ih (k + 1) _ _ _ (by omega) (nI_inc k) (by rw [liesB, hb]; exact bI_or _ _)
      refine ev_b 3 rfl ?_
      refine ev_gp 1 _ hpl h1 (Or.inl rfl) rfl rfl ?_
      refine ev_ge k mn rfl rfl (by omega) (by omega) (fun h => by omega) (fun _ => ?_)
      refine ev_b 2 rfl ?_
      refine ev_ga hpl rfl rfl ?_
      refine ev_b 1 rfl ?_
      refine ev_as hpl hk40 rfl ?_
      refine ev_b 3 rfl ?_
      refine ev_gs 3 _ hpl hk40 g4 (by decide) rfl rfl ?_
      refine ev_b 1 rfl ?_
      refine ev_ne (tk k) t rfl rfl (by omega) (by omega) (fun e => ?_) (fun e => ?_)
      · exact ev_b 1 rfl (k89 false (by simp [e]))
      · refine ev_b 1 rfl ?_
        refine ev_gs 0 _ hpl hk40 g1 (by decide) rfl rfl ?_
        refine ev_b 1 rfl ?_
        refine ev_ne (nt k) v rfl rfl (by omega) (by omega) (fun e1 => ?_) (fun e1 => ?_)
        · exact ev_b 1 rfl (k89 false (by simp [e1]))
        · refine ev_b 2 rfl ?_
          refine ev_co rfl (pj_rcv_seg rfl rfl hpl hk40) (c_touch hpl hk40 (by omega)) ?_
          rw [g5 c hc]
          refine ev_z (tc k c) rfl rfl (fun e2 => ?_) (fun e2 => ?_)
          · exact ev_b 1 rfl (k89 false (by simp [e2]))
          · exact ev_b 2 rfl (k89 true (by simp [e, e1, e2]))
  refine ev_b 3 rfl ?_
  refine ev_row ht40 rfl ?_
  refine ev_b 1 rfl ?_
  refine ev_ia (91 + t) c (nI v) (by rw [h6 t ht c hc, hv]) rfl (row_kd ht40) (row_al ht40) (by rw [row_ln ht40]; exact hc) (by omega) ?_
  refine ev_b 2 rfl ?_
  refine ev_zn v (by omega) rfl rfl (fun e => ?_) (fun e => ?_)
  · rw [decide_eq_false (fun z => z e)]
    refine ev_b 1 rfl ?_
    exact ev_ret rfl rfl rfl
  · rw [decide_eq_true e]
    refine ev_b 3 rfl ?_
    rw [← rI_s t]
    refine ev_c rfl (c_uprightAt (r := t + 1) hp hb hpl hL hc (by omega)) ?_
    rw [rI_s t]
    refine ev_b 1 rfl ?_
    refine ev_eq (upA p nt tk tc mn c (t + 1)) v rfl rfl (by omega) (by omega) (fun e1 => ?_) (fun e1 => ?_)
    · rw [decide_eq_true e1]
      exact ev_b 4 rfl (loop mn 0 _ _ _ (by omega) rfl rfl)
    · rw [decide_eq_false e1]
      refine ev_b 1 rfl ?_
      exact ev_ret rfl rfl rfl
theorem c_via_ok (hp : pvX p I) (hb : pvB p) (hpl : isP pl) (hd : I 1 4 = bI true) (hL : LX pl I mn tn nt lf rt tk tc) {t c : Nat} (ht : t < tn) (hc : c < 20) :
    pj_Ev L (d + 4) gX1_via 0 [.val (.ref 1), .val (.int (nI t)), .val (.int (nI c))] [] (xS n0 I J pl tr rg fr) (.inl (some (.int (bI (joinB p nt lf rt tk tc mn t c)))), xS n0 I J pl tr rg fr) := by
  have h40 : tn ≤ 40 := hL.2.2.1.2
  refine ev_b 2 rfl ?_
  refine ev_c rfl (c_tracks hpl hd (fun _ => hL.2.1) (fun h => by cases h)) ?_
  refine ev_c rfl (c_among_ok (nI_lits ht (by omega)).1 (nI_lits ht (by omega)).2) ?_
  refine ev_b 2 rfl ?_
  refine ev_c rfl (c_among_ok (nI_lits hc (by decide)).1 (nI_lits hc (by decide)).2) ?_
  refine ev_b 3 rfl ?_
  refine ev_c rfl (c_joined hp hb hpl hL ht hc) ?_
  cases joinB p nt lf rt tk tc mn t c
  · exact ev_ret rfl rfl rfl
  · exact ev_ret rfl rfl rfl
theorem c_via_no {dn : Bool} {a w : Int32} (hpl : isP pl) (hd : I 1 4 = bI dn) (hm : dn = true → I pl 2 = nI tn) (h0 : dn = false → tn = 0) (ht40 : tn ≤ 40) (h : ¬ ((∃ k, k < tn ∧ a = nI k) ∧ ∃ j, j < 20 ∧ w = nI j)) :
    pj_Ev L (d + 1) gX1_via 0 [.val (.ref 1), .val (.int a), .val (.int w)] [] (xS n0 I J pl tr rg fr) (.inr 20, xS (n0 + 1) I J pl tr rg fr) := by
  refine ev_b 2 rfl ?_
  refine ev_c rfl (c_tracks hpl hd hm h0) ?_
  by_cases h1 : 0 ≤ a ∧ a < nI tn
  · refine ev_c rfl (c_among_ok h1.1 h1.2) ?_
    refine ev_b 2 rfl ?_
    exact ev_cp rfl rfl (c_among_no (a := w) (b := nI 20) (fun h2 => h ⟨rng_of (by omega) h1, rng_of (by decide) h2⟩) rfl)
  · exact ev_cp rfl rfl (c_among_no h1 rfl)
end UPX
end
section
/-! floats: a share of points is a number -/
def okD (f : FP.Core.Fmt) (d : FP.Core.Datum) : Prop := match d with
  | .nan => False
  | .inf _ => True
  | .fin _ c q => c < 2 ^ f.p ∧ q ≤ f.qmax
theorem bd_ok {f : FP.Core.Fmt} {s : Bool} {c : Nat} {q : Int} (h : c < 2 ^ f.p) : okD f (FP.Core.bound f s c q) := by
  unfold FP.Core.bound
  split
  · next hq => exact ⟨h, hq⟩
  · trivial
theorem rr_ok {f : FP.Core.Fmt} (h1 : f.tails < 2 ^ f.p) (h2 : f.qmin ≤ f.qmax) {s : Bool} {a b : Nat} {e : Int} : okD f (FP.Core.roundRatio f s a b e) := by
  unfold FP.Core.roundRatio
  split
  · exact ⟨Nat.two_pow_pos _, h2⟩
  · unfold FP.Core.roundAt FP.Core.settle
    split
    · next hc => exact bd_ok hc
    · exact bd_ok h1
theorem e32 {d : FP.Core.Datum} (h : okD FP.Core.b32 d) : (UInt32.ofNat (FP.Core.encode FP.Core.b32 d)).toNat % 2 ^ 31 ≤ 2139095040 := by
  have key : ∀ (s : Bool) (e t : Nat), e < 256 → t < 2 ^ 23 → (e = 255 → t = 0) → (UInt32.ofNat (FP.Core.assemble FP.Core.b32 s e t)).toNat % 2 ^ 31 ≤ 2139095040 := by
    intro s e t he ht h0
    rw [UInt32.toNat_ofNat']
    show ((s.toNat * 256 + e) * 2 ^ 23 + t) % 2 ^ 32 % 2 ^ 31 ≤ 2139095040
    cases s
    · show ((0 * 256 + e) * 2 ^ 23 + t) % 2 ^ 32 % 2 ^ 31 ≤ 2139095040
      omega
    · show ((1 * 256 + e) * 2 ^ 23 + t) % 2 ^ 32 % 2 ^ 31 ≤ 2139095040
      omega
  cases d with
  | nan => exact h.elim
  | inf s => exact key s 255 0 (by decide) (by decide) (fun _ => rfl)
  | fin s c q =>
    obtain ⟨h1, h2⟩ := h
    have h1 : c < 16777216 := h1
    have h2 : q ≤ 104 := h2
    show (UInt32.ofNat (if c < FP.Core.b32.tails then FP.Core.assemble FP.Core.b32 s 0 c else FP.Core.assemble FP.Core.b32 s ((q - FP.Core.b32.qmin).toNat + 1) (c - FP.Core.b32.tails))).toNat % 2 ^ 31 ≤ 2139095040
    by_cases hc : c < FP.Core.b32.tails
    · rw [if_pos hc]
      exact key s 0 c (by decide) hc (fun z => by cases z)
    · rw [if_neg hc]
      have hc : ¬ c < 8388608 := hc
      refine key s ((q - FP.Core.b32.qmin).toNat + 1) (c - FP.Core.b32.tails) ?_ ?_ ?_
      · show (q - (-149)).toNat + 1 < 256
        omega
      · show c - 8388608 < 2 ^ 23
        omega
      · intro z
        have z : (q - (-149)).toNat + 1 = 255 := z
        omega
theorem e64 {d : FP.Core.Datum} (h : okD FP.Core.b64 d) : (UInt64.ofNat (FP.Core.encode FP.Core.b64 d)).toNat % 2 ^ 63 ≤ 9218868437227405312 := by
  have key : ∀ (s : Bool) (e t : Nat), e < 2048 → t < 2 ^ 52 → (e = 2047 → t = 0) → (UInt64.ofNat (FP.Core.assemble FP.Core.b64 s e t)).toNat % 2 ^ 63 ≤ 9218868437227405312 := by
    intro s e t he ht h0
    rw [UInt64.toNat_ofNat']
    show ((s.toNat * 2048 + e) * 2 ^ 52 + t) % 2 ^ 64 % 2 ^ 63 ≤ 9218868437227405312
    cases s
    · show ((0 * 2048 + e) * 2 ^ 52 + t) % 2 ^ 64 % 2 ^ 63 ≤ 9218868437227405312
      omega
    · show ((1 * 2048 + e) * 2 ^ 52 + t) % 2 ^ 64 % 2 ^ 63 ≤ 9218868437227405312
      omega
  cases d with
  | nan => exact h.elim
  | inf s => exact key s 2047 0 (by decide) (by decide) (fun _ => rfl)
  | fin s c q =>
    obtain ⟨h1, h2⟩ := h
    have h1 : c < 9007199254740992 := h1
    have h2 : q ≤ 971 := h2
    show (UInt64.ofNat (if c < FP.Core.b64.tails then FP.Core.assemble FP.Core.b64 s 0 c else FP.Core.assemble FP.Core.b64 s ((q - FP.Core.b64.qmin).toNat + 1) (c - FP.Core.b64.tails))).toNat % 2 ^ 63 ≤ 9218868437227405312
    by_cases hc : c < FP.Core.b64.tails
    · rw [if_pos hc]
      exact key s 0 c (by decide) hc (fun z => by cases z)
    · rw [if_neg hc]
      have hc : ¬ c < 4503599627370496 := hc
      refine key s ((q - FP.Core.b64.qmin).toNat + 1) (c - FP.Core.b64.tails) ?_ ?_ ?_
      · show (q - (-1074)).toNat + 1 < 2048
        omega
      · show c - 4503599627370496 < 2 ^ 52
        omega
      · intro z
        have z : (q - (-1074)).toNat + 1 = 2047 := z
        omega
theorem m32 {x : UInt32} (h : x.toNat % 2 ^ 31 ≤ 2139095040) : x &&& 0x7fffffff ≤ 0x7f800000 := by
  rw [UInt32.le_iff_toNat_le, UInt32.toNat_and]
  have e : x.toNat &&& (0x7fffffff : UInt32).toNat = x.toNat % 2 ^ 31 := Nat.and_two_pow_sub_one_eq_mod x.toNat 31
  rw [e]
  exact h
theorem m64 {x : UInt64} (h : x.toNat % 2 ^ 63 ≤ 9218868437227405312) : x &&& 0x7fffffffffffffff ≤ 0x7ff0000000000000 := by
  rw [UInt64.le_iff_toNat_le, UInt64.toNat_and]
  have e : x.toNat &&& (0x7fffffffffffffff : UInt64).toNat = x.toNat % 2 ^ 63 := Nat.and_two_pow_sub_one_eq_mod x.toNat 63
  rw [e]
  exact h
theorem d32 {x : UInt32} (h : x.toNat % 2 ^ 31 ≤ 2139095040) : FP.Core.decode FP.Core.b32 x.toNat ≠ .nan := by
  unfold FP.Core.decode
  split
  · next he =>
    have he : x.toNat / 2 ^ 23 % 256 = 255 := he
    rw [if_pos (by
      show x.toNat % 2 ^ 23 = 0
      omega)]
    intro z; cases z
  · split
    · intro z; cases z
    · intro z; cases z
theorem d64 {x : UInt64} (h : x.toNat % 2 ^ 63 ≤ 9218868437227405312) : FP.Core.decode FP.Core.b64 x.toNat ≠ .nan := by
  unfold FP.Core.decode
  split
  · next he =>
    have he : x.toNat / 2 ^ 52 % 2048 = 2047 := he
    rw [if_pos (by
      show x.toNat % 2 ^ 52 = 0
      omega)]
    intro z; cases z
  · split
    · intro z; cases z
    · intro z; cases z
def finP (d : FP.Core.Datum) : Bool := match d with
  | .fin _ c _ => c != 0
  | _ => false
theorem i2f_pos : ∀ m, m < 801 → m ≠ 0 → finP (FP.Core.decode FP.Core.b32 (FP.i2f (nI m)).toNat) = true := by decide +kernel
theorem i2f_0 : ∃ s c q, FP.Core.decode FP.Core.b32 (FP.i2f (nI 0)).toNat = .fin s c q := ⟨false, 0, -149, by decide +kernel⟩
theorem q_ok {x y : FP.Core.Datum} (hx : ∃ s c q, x = .fin s c q) (hy : finP y = true) : okD FP.Core.b32 (FP.Core.quotient FP.Core.b32 x y) := by
  obtain ⟨s, c, q, rfl⟩ := hx
  cases y with
  | nan => cases hy
  | inf s => cases hy
  | fin t d r =>
    have hd : d ≠ 0 := by
      unfold finP at hy
      simpa using hy
    unfold FP.Core.quotient
    simp only [if_neg hd]
    exact rr_ok (by decide) (by decide)
/-- n of m points -/
theorem fd_ok {n m : Nat} (hn : n < 801) (hm : m < 801) (h0 : m ≠ 0) : (FP.fdiv (FP.i2f (nI n)) (FP.i2f (nI m))).toNat % 2 ^ 31 ≤ 2139095040 := by
  show (UInt32.ofNat (FP.Core.encode FP.Core.b32 (FP.Core.quotient FP.Core.b32 (FP.Core.decode FP.Core.b32 (FP.i2f (nI n)).toNat) (FP.Core.decode FP.Core.b32 (FP.i2f (nI m)).toNat)))).toNat % 2 ^ 31 ≤ 2139095040
  refine e32 (q_ok ?_ (i2f_pos m hm h0))
  by_cases e : n = 0
  · rw [e]; exact i2f_0
  · have := i2f_pos n hn e
    revert this
    cases FP.Core.decode FP.Core.b32 (FP.i2f (nI n)).toNat with
    | nan => intro h; cases h
    | inf s => intro h; cases h
    | fin s c q => intro _; exact ⟨s, c, q, rfl⟩
theorem f2d_ok {x : UInt32} (h : x.toNat % 2 ^ 31 ≤ 2139095040) : (FP.f2d x).toNat % 2 ^ 63 ≤ 9218868437227405312 := by
  have h' := d32 h
  unfold FP.f2d
  rw [if_neg (by
    show ¬ decide (FP.Core.decode FP.Core.b32 x.toNat = .nan) = true
    rw [decide_eq_true_eq]
    exact h')]
  show (UInt64.ofNat (FP.Core.encode FP.Core.b64 (FP.Core.round FP.Core.b64 (FP.Core.decode FP.Core.b32 x.toNat)))).toNat % 2 ^ 63 ≤ 9218868437227405312
  refine e64 ?_
  revert h'
  cases FP.Core.decode FP.Core.b32 x.toNat with
  | nan => intro h; exact absurd rfl h
  | inf s => intro _; trivial
  | fin s c q => intro _; exact rr_ok (by decide) (by decide)
theorem dcmp_self {x : UInt64} (h : x.toNat % 2 ^ 63 ≤ 9218868437227405312) : FP.dcmp x x = some .eq := by
  show FP.Core.order (FP.Core.decode FP.Core.b64 x.toNat) (FP.Core.decode FP.Core.b64 x.toNat) = some .eq
  have h' := d64 h
  revert h'
  cases FP.Core.decode FP.Core.b64 x.toNat with
  | nan => intro h; exact absurd rfl h
  | inf s =>
    intro _
    show some (compare (FP.Core.signed s 1) (FP.Core.signed s 1)) = some .eq
    cases s <;> rfl
  | fin s c q =>
    intro _
    show some (compare (FP.Core.signed s _) (FP.Core.signed s _)) = some .eq
    rw [Int.compare_eq_eq.mpr rfl]
end
section
/-! count, used (the router) -/
theorem mul20 : ∀ t, t < 41 → nI 20 * nI t = nI (20 * t) := by decide
theorem ev_fdiv {L d : Nat} {G : pj_Mi} {pc : Nat} {lv : List Slot} {st : List Value} {σ : pj_St} {r : pj_Rs × pj_St} {x y : UInt32} (hok : (FP.fdiv x y).toNat % 2 ^ 31 ≤ 2139095040) (hc : pj_cd G pc = some (.fdiv, 1)) (k : pj_Ev L d G (pc + 1) lv (.float (FP.fdiv x y) :: st) σ r) : pj_Ev L d G pc lv (.float y :: .float x :: st) σ r := by
  refine ev_1 hc rfl rfl rfl ?_ k
  show (if FP.fdiv x y &&& 0x7fffffff ≤ 0x7f800000 then some (pc + 1, lv, .float (FP.fdiv x y) :: st, σ) else none) = _
  rw [if_pos (m32 hok)]
def usedV (n t : Nat) : UInt32 := if t = 0 then FP.fconst0 else FP.fdiv (FP.i2f (nI n)) (FP.i2f (nI (20 * t)))
theorem usedV_ok {n t : Nat} (hn : n ≤ 20 * t) (ht : t ≤ 40) : (usedV n t).toNat % 2 ^ 31 ≤ 2139095040 := by
  unfold usedV
  split
  · decide
  · exact fd_ok (by omega) (by omega) (by omega)
section CNX
variable {L d n0 : Nat} {I : pj_SI} {J : pj_SJ} {pl tr rg fr : Nat} {p : Nat → Nat} {mn tn : Nat} {nt lf rt tk : Nat → Nat} {tc : Nat → Nat → Bool} {dn : Bool}
theorem c_count_ok (hp : pvX p I) (hb : pvB p) (hpl : isP pl) (hd : I 1 4 = bI dn) (hX : dn = true → LX pl I mn tn nt lf rt tk tc) (h0 : dn = false → mn = 0 ∧ tn = 0) {k : Nat} (hk : k < 6) :
    pj_Ev L (d + 4) gX1_count 0 [.val (.ref 1), .val (.int (nI k)), .unset, .unset, .unset] [] (xS n0 I J pl tr rg fr) (.inl (some (.int (if k = 0 then nI tn else if k = 1 then nI mn else if k = 2 then nI (gsum (joinB p nt lf rt tk tc mn) tn) else if k = 3 then I 1 9 else if k = 4 then I 1 10 else bI dn))), xS n0 I J pl tr rg fr) := by
  have ht40 : tn ≤ 40 := by
    cases dn with
    | true => exact (hX rfl).2.2.1.2
    | false => rw [(h0 rfl).2]; decide
  have trk : ∀ {d}, pj_Ev L d gX1_tracks 0 [.val (.ref 1)] [] (xS n0 I J pl tr rg fr) (.inl (some (.int (nI tn))), xS n0 I J pl tr rg fr) := fun {d} => c_tracks hpl hd (fun h => (hX h).2.1) (fun h => (h0 h).2)
  have k58 : ∀ (v : Int32) (s3 s4 : Slot), (k = 2 → v = nI (gsum (joinB p nt lf rt tk tc mn) tn)) → pj_Ev L (d + 4) gX1_count 58 [.val (.ref 1), .val (.int (nI k)), .val (.int v), s3, s4] [] (xS n0 I J pl tr rg fr) (.inl (some (.int (if k = 0 then nI tn else if k = 1 then nI mn else if k = 2 then nI (gsum (joinB p nt lf rt tk tc mn) tn) else if k = 3 then I 1 9 else if k = 4 then I 1 10 else bI dn))), xS n0 I J pl tr rg fr) := by
    intro v s3 s4 hv
    rcases (by omega : k = 0 ∨ k = 1 ∨ k = 2 ∨ k = 3 ∨ k = 4 ∨ k = 5) with rfl | rfl | rfl | rfl | rfl | rfl
    · refine ev_b 3 rfl ?_
      refine ev_c rfl trk ?_
      exact ev_ret rfl rfl rfl
    · refine ev_b 4 rfl ?_
      refine ev_zv dn hd rfl rfl (fun h => ?_) (fun h => ?_)
      · have e := (h0 h).1
        subst e
        refine ev_b 1 rfl ?_
        exact ev_ret rfl rfl rfl
      · refine ev_b 2 rfl ?_
        refine ev_gp 1 _ hpl (hX h).1 (Or.inl rfl) rfl rfl ?_
        refine ev_b 1 rfl ?_
        exact ev_ret rfl rfl rfl
    · rw [hv rfl]
      refine ev_b 3 rfl ?_
      exact ev_ret rfl rfl rfl
    · refine ev_b 4 rfl ?_
      exact ev_ret rfl rfl rfl
    · refine ev_b 4 rfl ?_
      exact ev_ret rfl rfl rfl
    · refine ev_b 4 rfl ?_
      refine ev_zv dn hd rfl rfl (fun h => ?_) (fun h => ?_)
      · subst h
        refine ev_b 1 rfl ?_
        exact ev_ret rfl rfl rfl
      · subst h
        refine ev_b 2 rfl ?_
        exact ev_ret rfl rfl rfl
  have outer : ∀ m t (v w : Int32) (s4 : Slot), t + m = tn → w = nI t → v = nI (gsum (joinB p nt lf rt tk tc mn) t) → (t = 0 ∨ k = 2) →
      pj_Ev L (d + 4) gX1_count 10 [.val (.ref 1), .val (.int (nI k)), .val (.int v), .val (.int w), s4] [] (xS n0 I J pl tr rg fr) (.inl (some (.int (if k = 0 then nI tn else if k = 1 then nI mn else if k = 2 then nI (gsum (joinB p nt lf rt tk tc mn) tn) else if k = 3 then I 1 9 else if k = 4 then I 1 10 else bI dn))), xS n0 I J pl tr rg fr) := by
    intro m
    induction m with
    | zero =>
      intro t v w s4 ht hw hv h2
      have ht : t = tn := by omega
      subst ht; subst hw; subst hv
      refine ev_b 2 rfl ?_
      refine ev_c rfl trk ?_
      refine ev_ge t t rfl rfl (by omega) (by omega) (fun _ => ?_) (fun h => by omega)
      exact k58 _ _ _ (fun _ => rfl)
    | succ m ih =>
      intro t v w s4 ht hw hv h2
      subst hw; subst hv
      refine ev_b 2 rfl ?_
      refine ev_c rfl trk ?_
      refine ev_ge t tn rfl rfl (by omega) (by omega) (fun h => by omega) (fun _ => ?_)
      refine ev_b 2 rfl ?_
      refine ev_ne k 2 rfl rfl (by omega) (by omega) (fun h => k58 _ _ _ (fun z => absurd z h)) (fun hk2 => ?_)
      have hdn : dn = true := by
        cases dn with
        | true => rfl
        | false => have := (h0 rfl).2; omega
      have inner : ∀ m2 c (x y : Int32), c + m2 = 20 → y = nI c → x = nI (gsum (joinB p nt lf rt tk tc mn) t + fb_ct (joinB p nt lf rt tk tc mn t) c) →
          pj_Ev L (d + 4) gX1_count 26 [.val (.ref 1), .val (.int (nI k)), .val (.int x), .val (.int (nI t)), .val (.int y)] [] (xS n0 I J pl tr rg fr) (.inl (some (.int (if k = 0 then nI tn else if k = 1 then nI mn else if k = 2 then nI (gsum (joinB p nt lf rt tk tc mn) tn) else if k = 3 then I 1 9 else if k = 4 then I 1 10 else bI dn))), xS n0 I J pl tr rg fr) := by
        intro m2
        induction m2 with
        | zero =>
          intro c x y hc hy hx
          have hc : c = 20 := by omega
          subst hc; subst hy
          refine ev_b 2 rfl ?_
          refine ev_ge 20 20 rfl rfl (by omega) (by omega) (fun _ => ?_) (fun h => by omega)
          refine ev_b 2 rfl ?_
          exact ih (t + 1) _ _ _ (by omega) (nI_inc t) hx (Or.inr hk2)
        | succ m2 ih2 =>
          intro c x y hc hy hx
          subst hy
          refine ev_b 2 rfl ?_
          refine ev_ge c 20 rfl rfl (by omega) (by omega) (fun h => by omega) (fun _ => ?_)
          refine ev_b 3 rfl ?_
          refine ev_c rfl (c_joined hp hb hpl (hX hdn) (by omega) (by omega)) ?_
          refine ev_z (joinB p nt lf rt tk tc mn t c) rfl rfl (fun e => ?_) (fun e => ?_)
          · refine ev_b 2 rfl ?_
            exact ih2 (c + 1) _ _ (by omega) (nI_inc c) (by rw [hx, fb_ct_succ, e]; rfl)
          · refine ev_b 3 rfl ?_
            refine ih2 (c + 1) _ _ (by omega) (nI_inc c) ?_
            rw [hx, fb_ct_succ, e, if_pos rfl, ← Nat.add_assoc]
            exact nI_inc _
      exact ev_b 2 rfl (inner 20 0 _ _ rfl rfl rfl)
  refine ev_b 2 rfl ?_
  refine ev_c rfl (c_among_ok (nI_lits hk (by decide)).1 (nI_lits hk (by decide)).2) ?_
  exact ev_b 4 rfl (outer tn 0 _ _ _ (by omega) rfl rfl (Or.inl rfl))
theorem c_count_no {a : Int32} (h : ¬ ∃ k, k < 6 ∧ a = nI k) :
    pj_Ev L (d + 1) gX1_count 0 [.val (.ref 1), .val (.int a), .unset, .unset, .unset] [] (xS n0 I J pl tr rg fr) (.inr 20, xS (n0 + 1) I J pl tr rg fr) := by
  refine ev_b 2 rfl ?_
  exact ev_cp rfl rfl (c_among_no (a := a) (b := nI 6) (fun z => h (rng_of (by decide) z)) rfl)
def onB (nt lf rt tk : Nat → Nat) (mn t c : Nat) : Bool := decide (lev nt lf rt tk t c mn ≠ 0)
theorem c_used (hpl : isP pl) (hd : I 1 4 = bI dn) (hX : dn = true → LX pl I mn tn nt lf rt tk tc) (h0 : dn = false → mn = 0 ∧ tn = 0) :
    pj_Ev L (d + 1) gX1_used 0 [.val (.ref 1), .unset, .unset, .unset] [] (xS n0 I J pl tr rg fr) (.inl (some (.float (usedV (gsum (onB nt lf rt tk mn) tn) tn))), xS n0 I J pl tr rg fr) := by
  have ht40 : tn ≤ 40 := by
    cases dn with
    | true => exact (hX rfl).2.2.1.2
    | false => rw [(h0 rfl).2]; decide
  have trk : ∀ {d}, pj_Ev L d gX1_tracks 0 [.val (.ref 1)] [] (xS n0 I J pl tr rg fr) (.inl (some (.int (nI tn))), xS n0 I J pl tr rg fr) := fun {d} => c_tracks hpl hd (fun h => (hX h).2.1) (fun h => (h0 h).2)
  have outer : ∀ m t (v w : Int32) (s3 : Slot), t + m = tn → w = nI t → v = nI (gsum (onB nt lf rt tk mn) t) →
      pj_Ev L (d + 1) gX1_used 4 [.val (.ref 1), .val (.int v), .val (.int w), s3] [] (xS n0 I J pl tr rg fr) (.inl (some (.float (usedV (gsum (onB nt lf rt tk mn) tn) tn))), xS n0 I J pl tr rg fr) := by
    intro m
    induction m with
    | zero =>
      intro t v w s3 ht hw hv
      have ht : t = tn := by omega
      subst ht; subst hw; subst hv
      refine ev_b 2 rfl ?_
      refine ev_c rfl trk ?_
      refine ev_ge t t rfl rfl (by omega) (by omega) (fun _ => ?_) (fun h => by omega)
      refine ev_b 1 rfl ?_
      refine ev_c rfl trk ?_
      unfold usedV
      refine ev_nzn t (by omega) rfl rfl (fun e => ?_) (fun e => ?_)
      · rw [if_neg e]
        refine ev_b 4 rfl ?_
        refine ev_c rfl trk ?_
        refine ev_b 2 rfl ?_
        have hg := gsum_le (onB nt lf rt tk mn) t
        have e2 : nI 20 * nI t = nI (20 * t) := mul20 t (by omega)
        rw [← e2]
        refine ev_fdiv ?_ rfl ?_
        · have := fd_ok (n := gsum (onB nt lf rt tk mn) t) (m := 20 * t) (by omega) (by omega) (by omega)
          rw [← e2] at this
          exact this
        · exact ev_ret rfl rfl rfl
      · rw [if_pos e]
        refine ev_b 2 rfl ?_
        exact ev_ret rfl rfl rfl
    | succ m ih =>
      intro t v w s3 ht hw hv
      subst hw; subst hv
      refine ev_b 2 rfl ?_
      refine ev_c rfl trk ?_
      refine ev_ge t tn rfl rfl (by omega) (by omega) (fun h => by omega) (fun _ => ?_)
      have hdn : dn = true := by
        cases dn with
        | true => rfl
        | false => have := (h0 rfl).2; omega
      obtain ⟨h1, h2, ⟨h3, h40⟩, h4, h5, h6⟩ := hX hdn
      have inner : ∀ m2 c (x y : Int32), c + m2 = 20 → y = nI c → x = nI (gsum (onB nt lf rt tk mn) t + fb_ct (onB nt lf rt tk mn t) c) →
          pj_Ev L (d + 1) gX1_used 14 [.val (.ref 1), .val (.int x), .val (.int (nI t)), .val (.int y)] [] (xS n0 I J pl tr rg fr) (.inl (some (.float (usedV (gsum (onB nt lf rt tk mn) tn) tn))), xS n0 I J pl tr rg fr) := by
        intro m2
        induction m2 with
        | zero =>
          intro c x y hc hy hx
          have hc : c = 20 := by omega
          subst hc; subst hy
          refine ev_b 2 rfl ?_
          refine ev_ge 20 20 rfl rfl (by omega) (by omega) (fun _ => ?_) (fun h => by omega)
          refine ev_b 2 rfl ?_
          exact ih (t + 1) _ _ _ (by omega) (nI_inc t) hx
        | succ m2 ih2 =>
          intro c x y hc hy hx
          subst hy
          have hl9 : lev nt lf rt tk t c mn ≤ 9 := lev_le fun k hk => (h5 k hk).1.2
          refine ev_b 2 rfl ?_
          refine ev_ge c 20 rfl rfl (by omega) (by omega) (fun h => by omega) (fun _ => ?_)
          refine ev_b 3 rfl ?_
          refine ev_row (by omega) rfl ?_
          refine ev_b 1 rfl ?_
          refine ev_ia (91 + t) c _ (h6 t (by omega) c (by omega)) rfl (row_kd (by omega)) (row_al (by omega)) (by rw [row_ln (by omega)]; omega) (by omega) ?_
          refine ev_zn (lev nt lf rt tk t c mn) (by omega) rfl rfl (fun e => ?_) (fun e => ?_)
          · refine ev_b 2 rfl ?_
            refine ih2 (c + 1) _ _ (by omega) (nI_inc c) ?_
            rw [hx, fb_ct_succ, if_neg (by unfold onB; simp [e])]; rfl
          · refine ev_b 3 rfl ?_
            refine ih2 (c + 1) _ _ (by omega) (nI_inc c) ?_
            rw [hx, fb_ct_succ, if_pos (by unfold onB; simp [e]), ← Nat.add_assoc]
            exact nI_inc _
      exact ev_b 2 rfl (inner 20 0 _ _ rfl rfl rfl)
  exact ev_b 4 rfl (outer tn 0 _ _ _ (by omega) rfl rfl)
end CNX
end
section
/-! what is seen (the model) -/
def LM (I : pj_SI) (mn tn : Nat) (nt lf rt tk : Nat → Nat) (tc : Nat → Nat → Bool) : Prop :=
  I 131 12 = nI mn ∧ I 131 13 = nI tn ∧ (mn ≤ 40 ∧ tn ≤ 40) ∧ (∀ k, k < mn → I 141 k = nI (nt k) ∧ I 142 k = nI (lf k) ∧ I 143 k = nI (rt k) ∧ I 145 k = nI (tk k) ∧ ∀ c, c < 20 → bt (I 144 k) c = tc k c) ∧
    (∀ k, k < mn → (1 ≤ nt k ∧ nt k ≤ 9) ∧ lf k < 20 ∧ rt k < 20 ∧ tk k < tn)
/-- a net that goes down to the bottom has a segment there -/
def LF (p : Nat → Nat) (mn : Nat) (nt : Nat → Nat) (tc : Nat → Nat → Bool) : Prop := ∀ c, c < 20 → p c ≠ p (20 + c) → p (20 + c) ≠ 0 → ∃ s, s < mn ∧ nt s = p (20 + c) ∧ tc s c = true
def topB (nt tk : Nat → Nat) (tc : Nat → Nat → Bool) (a c r mn : Nat) : Nat → Bool
  | 0 => decide (r = 0)
  | k + 1 => topB nt tk tc a c r mn k || (decide (r ≤ k + 1) && liesB nt tk tc a c k mn)
def botB (nt tk : Nat → Nat) (tc : Nat → Nat → Bool) (b c r tn mn : Nat) : Nat → Bool
  | 0 => decide (r = tn + 1)
  | k + 1 => botB nt tk tc b c r tn mn k || (decide (k + 1 ≤ r) && liesB nt tk tc b c k mn)
section LAWU
variable {nt tk : Nat → Nat} {tc : Nat → Nat → Bool}
theorem lies_iff {a c t : Nat} : ∀ {m : Nat}, liesB nt tk tc a c t m = true ↔ ∃ s, s < m ∧ nt s = a ∧ tk s = t ∧ tc s c = true
  | 0 => ⟨(fun h => by cases h), fun ⟨s, h, _⟩ => by omega⟩
  | m + 1 => by
    rw [liesB, Bool.or_eq_true, lies_iff (m := m)]
    constructor
    · rintro (⟨s, h, z⟩ | h)
      · exact ⟨s, by omega, z⟩
      · simp only [Bool.and_eq_true, beq_iff_eq] at h
        exact ⟨m, by omega, h.1, h.2.1, h.2.2⟩
    · rintro ⟨s, h, z1, z2, z3⟩
      by_cases e : s = m
      · right
        rw [← e]
        simp [z1, z2, z3]
      · exact Or.inl ⟨s, by omega, z1, z2, z3⟩
theorem rch_t {a c r : Nat} : ∀ {m : Nat}, r ≤ rch nt tk tc a c true m ↔ r = 0 ∨ ∃ s, s < m ∧ nt s = a ∧ tc s c = true ∧ r ≤ tk s + 1
  | 0 => by
    unfold rch
    constructor
    · intro h; exact Or.inl (by omega)
    · rintro (h | ⟨s, h, _⟩) <;> omega
  | m + 1 => by
    have ih := rch_t (a := a) (c := c) (r := r) (m := m)
    have ex : (∃ s, s < m + 1 ∧ nt s = a ∧ tc s c = true ∧ r ≤ tk s + 1) ↔ (∃ s, s < m ∧ nt s = a ∧ tc s c = true ∧ r ≤ tk s + 1) ∨ (nt m = a ∧ tc m c = true ∧ r ≤ tk m + 1) := by
      constructor
      · rintro ⟨s, h, z⟩
        by_cases e : s = m
        · rw [e] at z; exact Or.inr z
        · exact Or.inl ⟨s, by omega, z⟩
      · rintro (⟨s, h, z⟩ | z)
        · exact ⟨s, by omega, z⟩
        · exact ⟨m, by omega, z⟩
    rw [ex, ← or_assoc, ← ih, rch]
    by_cases h1 : nt m = a ∧ tc m c = true
    · rw [if_pos h1]
      by_cases h2 : rch nt tk tc a c true m = 0
      · rw [if_pos h2, h2]
        constructor
        · intro h; exact Or.inr ⟨h1.1, h1.2, h⟩
        · rintro (h | h)
          · omega
          · exact h.2.2
      · rw [if_neg h2]
        by_cases h3 : rch nt tk tc a c true m < tk m + 1
        · rw [if_pos (decide_eq_true h3)]
          constructor
          · intro h; exact Or.inr ⟨h1.1, h1.2, h⟩
          · rintro (h | h)
            · omega
            · exact h.2.2
        · rw [if_neg (by rw [decide_eq_false h3]; decide)]
          constructor
          · intro h; exact Or.inl h
          · rintro (h | h)
            · exact h
            · omega
    · rw [if_neg h1]
      constructor
      · intro h; exact Or.inl h
      · rintro (h | h)
        · exact h
        · exact absurd ⟨h.1, h.2.1⟩ h1
theorem rch_0 {a c : Nat} {g : Bool} : ∀ {m : Nat}, rch nt tk tc a c g m = 0 ↔ ¬ ∃ s, s < m ∧ nt s = a ∧ tc s c = true
  | 0 => ⟨fun _ ⟨s, h, _⟩ => by omega, fun _ => rfl⟩
  | m + 1 => by
    have ih := rch_0 (a := a) (c := c) (g := g) (m := m)
    rw [rch]
    by_cases h1 : nt m = a ∧ tc m c = true
    · rw [if_pos h1]
      constructor
      · intro h
        exfalso
        split at h
        · omega
        · split at h <;> omega
      · intro h
        exact absurd ⟨m, by omega, h1⟩ h
    · rw [if_neg h1, ih]
      constructor
      · rintro h ⟨s, hs, z⟩
        by_cases e : s = m
        · rw [e] at z; exact h1 z
        · exact h ⟨s, by omega, z⟩
      · rintro h ⟨s, hs, z⟩
        exact h ⟨s, by omega, z⟩
theorem rch_f {a c r : Nat} : ∀ {m : Nat}, (∃ s, s < m ∧ nt s = a ∧ tc s c = true) → (rch nt tk tc a c false m ≤ r ↔ ∃ s, s < m ∧ nt s = a ∧ tc s c = true ∧ tk s + 1 ≤ r)
  | 0, ⟨s, h, _⟩ => by omega
  | m + 1, hx => by
    have ex : (∃ s, s < m + 1 ∧ nt s = a ∧ tc s c = true ∧ tk s + 1 ≤ r) ↔ (∃ s, s < m ∧ nt s = a ∧ tc s c = true ∧ tk s + 1 ≤ r) ∨ (nt m = a ∧ tc m c = true ∧ tk m + 1 ≤ r) := by
      constructor
      · rintro ⟨s, h, z⟩
        by_cases e : s = m
        · rw [e] at z; exact Or.inr z
        · exact Or.inl ⟨s, by omega, z⟩
      · rintro (⟨s, h, z⟩ | z)
        · exact ⟨s, by omega, z⟩
        · exact ⟨m, by omega, z⟩
    rw [ex, rch]
    by_cases h1 : nt m = a ∧ tc m c = true
    · rw [if_pos h1]
      by_cases h2 : rch nt tk tc a c false m = 0
      · have hn := rch_0.mp h2
        rw [if_pos h2]
        constructor
        · intro h; exact Or.inr ⟨h1.1, h1.2, h⟩
        · rintro (⟨s, q1, q2, q3, _⟩ | h)
          · exact absurd ⟨s, q1, q2, q3⟩ hn
          · exact h.2.2
      · have hy : ∃ s, s < m ∧ nt s = a ∧ tc s c = true := Classical.not_not.mp (fun z => h2 (rch_0.mpr z))
        have ih := rch_f (a := a) (c := c) (r := r) (m := m) hy
        rw [if_neg h2, ← ih]
        by_cases h3 : rch nt tk tc a c false m < tk m + 1
        · rw [if_neg (by rw [decide_eq_true h3]; decide)]
          constructor
          · intro h; exact Or.inl h
          · rintro (h | h)
            · exact h
            · omega
        · rw [if_pos (decide_eq_false h3)]
          constructor
          · intro h; exact Or.inr ⟨h1.1, h1.2, h⟩
          · rintro (h | h)
            · omega
            · exact h.2.2
    · rw [if_neg h1]
      have hy : ∃ s, s < m ∧ nt s = a ∧ tc s c = true := by
        obtain ⟨s, hs, z⟩ := hx
        by_cases e : s = m
        · rw [e] at z; exact absurd z h1
        · exact ⟨s, by omega, z⟩
      rw [rch_f (a := a) (c := c) (r := r) (m := m) hy]
      constructor
      · intro h; exact Or.inl h
      · rintro (h | h)
        · exact h
        · exact absurd ⟨h.1, h.2.1⟩ h1
theorem topB_iff {a c r mn : Nat} : ∀ {t : Nat}, topB nt tk tc a c r mn t = true ↔ r = 0 ∨ ∃ s, s < mn ∧ nt s = a ∧ tc s c = true ∧ tk s < t ∧ r ≤ tk s + 1
  | 0 => by
    unfold topB
    rw [decide_eq_true_eq]
    constructor
    · intro h; exact Or.inl h
    · rintro (h | ⟨s, _, _, _, h, _⟩)
      · exact h
      · omega
  | t + 1 => by
    rw [topB, Bool.or_eq_true, topB_iff (t := t), Bool.and_eq_true, decide_eq_true_eq, lies_iff]
    constructor
    · rintro ((h | ⟨s, q1, q2, q3, q4, q5⟩) | ⟨h1, s, q1, q2, q3, q4⟩)
      · exact Or.inl h
      · exact Or.inr ⟨s, q1, q2, q3, by omega, q5⟩
      · exact Or.inr ⟨s, q1, q2, q4, by omega, by omega⟩
    · rintro (h | ⟨s, q1, q2, q3, q4, q5⟩)
      · exact Or.inl (Or.inl h)
      · by_cases e : tk s = t
        · exact Or.inr ⟨by omega, s, q1, q2, e, q3⟩
        · exact Or.inl (Or.inr ⟨s, q1, q2, q3, by omega, q5⟩)
theorem botB_iff {b c r tn mn : Nat} : ∀ {t : Nat}, botB nt tk tc b c r tn mn t = true ↔ r = tn + 1 ∨ ∃ s, s < mn ∧ nt s = b ∧ tc s c = true ∧ tk s < t ∧ tk s + 1 ≤ r
  | 0 => by
    unfold botB
    rw [decide_eq_true_eq]
    constructor
    · intro h; exact Or.inl h
    · rintro (h | ⟨s, _, _, _, h, _⟩)
      · exact h
      · omega
  | t + 1 => by
    rw [botB, Bool.or_eq_true, botB_iff (t := t), Bool.and_eq_true, decide_eq_true_eq, lies_iff]
    constructor
    · rintro ((h | ⟨s, q1, q2, q3, q4, q5⟩) | ⟨h1, s, q1, q2, q3, q4⟩)
      · exact Or.inl h
      · exact Or.inr ⟨s, q1, q2, q3, by omega, q5⟩
      · exact Or.inr ⟨s, q1, q2, q4, by omega, by omega⟩
    · rintro (h | ⟨s, q1, q2, q3, q4, q5⟩)
      · exact Or.inl (Or.inl h)
      · by_cases e : tk s = t
        · exact Or.inr ⟨by omega, s, q1, q2, e, q3⟩
        · exact Or.inl (Or.inr ⟨s, q1, q2, q3, by omega, q5⟩)
/-- both say the same -/
theorem up_law {p : Nat → Nat} {mn tn c r : Nat} (hF : LF p mn nt tc) (hT : ∀ k, k < mn → tk k < tn) (hc : c < 20) (hn : p c ≠ p (20 + c)) :
    upA p nt tk tc mn c r = if p c ≠ 0 ∧ topB nt tk tc (p c) c r mn tn = true then p c else if p (20 + c) ≠ 0 ∧ botB nt tk tc (p (20 + c)) c r tn mn tn = true then p (20 + c) else 0 := by
  have e1 : r ≤ rch nt tk tc (p c) c true mn ↔ topB nt tk tc (p c) c r mn tn = true := by
    rw [rch_t, topB_iff]
    constructor
    · rintro (h | ⟨s, q1, q2, q3, q4⟩)
      · exact Or.inl h
      · exact Or.inr ⟨s, q1, q2, q3, hT s q1, q4⟩
    · rintro (h | ⟨s, q1, q2, q3, _, q4⟩)
      · exact Or.inl h
      · exact Or.inr ⟨s, q1, q2, q3, q4⟩
  have e2 : p (20 + c) ≠ 0 → (rch nt tk tc (p (20 + c)) c false mn ≤ r ↔ botB nt tk tc (p (20 + c)) c r tn mn tn = true) := by
    intro h0
    have hx := hF c hc hn h0
    rw [rch_f hx, botB_iff]
    constructor
    · rintro ⟨s, q1, q2, q3, q4⟩
      exact Or.inr ⟨s, q1, q2, q3, hT s q1, q4⟩
    · rintro (h | ⟨s, q1, q2, q3, _, q4⟩)
      · obtain ⟨s, q1, q2, q3⟩ := hx
        have := hT s q1
        exact ⟨s, q1, q2, q3, by omega⟩
      · exact ⟨s, q1, q2, q3, q4⟩
  unfold upA upV
  rw [if_neg hn]
  by_cases h1 : p c ≠ 0 ∧ r ≤ rch nt tk tc (p c) c true mn
  · have h1' : p c ≠ 0 ∧ topB nt tk tc (p c) c r mn tn = true := ⟨h1.1, e1.mp h1.2⟩
    rw [if_pos h1, if_pos h1']
  · have h1' : ¬ (p c ≠ 0 ∧ topB nt tk tc (p c) c r mn tn = true) := fun z => h1 ⟨z.1, e1.mpr z.2⟩
    rw [if_neg h1, if_neg h1']
    by_cases h2 : p (20 + c) ≠ 0 ∧ rch nt tk tc (p (20 + c)) c false mn ≤ r
    · have h2' : p (20 + c) ≠ 0 ∧ botB nt tk tc (p (20 + c)) c r tn mn tn = true := ⟨h2.1, (e2 h2.1).mp h2.2⟩
      rw [if_pos h2, if_pos h2']
    · have h2' : ¬ (p (20 + c) ≠ 0 ∧ botB nt tk tc (p (20 + c)) c r tn mn tn = true) := fun z => h2 ⟨z.1, (e2 z.1).mpr z.2⟩
      rw [if_neg h2, if_neg h2']
end LAWU
end
section
/-! what is seen: the model's methods -/
section SNM
variable {L d n0 : Nat} {I : pj_SI} {J : pj_SJ} {pl tr rg fr : Nat} {p : Nat → Nat} {mn tn : Nat} {nt lf rt tk : Nat → Nat} {tc : Nat → Nat → Bool} {dn : Bool}
theorem LM.u (h : LM I mn tn nt lf rt tk tc) {v : Int32} : LM (pj_u2 I 131 0 v) mn tn nt lf rt tk tc := by
  obtain ⟨h1, h2, h3, h4, h5⟩ := h
  refine ⟨?_, ?_, h3, fun k hk => ?_, h5⟩
  · rw [u2k _ _ (by decide)]; exact h1
  · rw [u2k _ _ (by decide)]; exact h2
  · rw [u2n _ _ (by decide), u2n _ _ (by decide), u2n _ _ (by decide), u2n _ _ (by decide), u2n _ _ (by decide)]
    exact h4 k hk
theorem m_levelAt (hL : LM I mn tn nt lf rt tk tc) {t c : Nat} (ht : t < 2 ^ 31) (hc : c < 20) :
    pj_Ev L (d + 1) gX4_levelAt 0 [.val (.ref 131), .val (.int (nI t)), .val (.int (nI c)), .unset, .unset] [] (xS n0 I J pl tr rg fr) (.inl (some (.int (nI (lev nt lf rt tk t c mn)))), xS n0 I J pl tr rg fr) := by
  obtain ⟨h1, h2, ⟨h3, h40⟩, h4, h5⟩ := hL
  have loop : ∀ m k (v w : Int32), k + m = mn → w = nI k → v = nI (lev nt lf rt tk t c k) →
      pj_Ev L (d + 1) gX4_levelAt 5 [.val (.ref 131), .val (.int (nI t)), .val (.int (nI c)), .val (.int v), .val (.int w)] [] (xS n0 I J pl tr rg fr) (.inl (some (.int (nI (lev nt lf rt tk t c mn)))), xS n0 I J pl tr rg fr) := by
    intro m
    induction m with
    | zero =>
      intro k v w hk hw hv
      have hk : k = mn := by omega
      subst hk; subst hw; subst hv
      refine ev_b 3 rfl ?_
      show pj_Ev L (d + 1) gX4_levelAt 11 _ [.int (I 131 12), .int (nI k)] _ _
      rw [h1]
      refine ev_ge k k rfl rfl (by omega) (by omega) (fun _ => ?_) (fun h => by omega)
      refine ev_b 1 rfl ?_
      exact ev_ret rfl rfl rfl
    | succ m ih =>
      intro k v w hk hw hv
      subst hw; subst hv
      obtain ⟨g1, g2, g3, g4, g5⟩ := h4 k (by omega)
      obtain ⟨⟨b1, b2⟩, b3, b4, b5⟩ := h5 k (by omega)
      have hk40 : k < 40 := by omega
      have no : lev nt lf rt tk t c (k + 1) = lev nt lf rt tk t c k → pj_Ev L (d + 1) gX4_levelAt 56 [.val (.ref 131), .val (.int (nI t)), .val (.int (nI c)), .val (.int (nI (lev nt lf rt tk t c k))), .val (.int (nI k))] [] (xS n0 I J pl tr rg fr) (.inl (some (.int (nI (lev nt lf rt tk t c mn)))), xS n0 I J pl tr rg fr) := by
        intro h
        refine ev_b 4 rfl ?_
        exact ih (k + 1) _ _ (by omega) (nI_inc k) (by rw [h])
      refine ev_b 3 rfl ?_
      show pj_Ev L (d + 1) gX4_levelAt 11 _ [.int (I 131 12), .int (nI k)] _ _
      rw [h1]
      refine ev_ge k mn rfl rfl (by omega) (by omega) (fun h => by omega) (fun _ => ?_)
      refine ev_b 3 rfl ?_
      refine ev_ia 145 k _ g4 rfl rfl rfl hk40 (by omega) ?_
      refine ev_b 1 rfl ?_
      refine ev_ne (tk k) t rfl rfl (by omega) (by omega) (fun e => ?_) (fun e => ?_)
      · exact no (by rw [lev, if_neg (fun z => e z.1)])
      · refine ev_b 4 rfl ?_
        refine ev_ia 142 k _ g2 rfl rfl rfl hk40 (by omega) ?_
        refine ev_b 3 rfl ?_
        refine ev_ia 143 k _ g3 rfl rfl rfl hk40 (by omega) ?_
        refine ev_c rfl c_in ?_
        refine ev_z _ rfl rfl (fun e2 => ?_) (fun e2 => ?_)
        · rw [Bool.and_eq_false_iff, decide_eq_false_iff_not, decide_eq_false_iff_not, nI_leI (by omega) (by omega), nI_leI (by omega) (by omega)] at e2
          exact no (by rw [lev, if_neg (fun z => by omega)])
        · rw [Bool.and_eq_true, decide_eq_true_eq, decide_eq_true_eq, nI_leI (by omega) (by omega), nI_leI (by omega) (by omega)] at e2
          refine ev_b 3 rfl ?_
          refine ev_ia 141 k _ g1 rfl rfl rfl hk40 (by omega) ?_
          refine ev_b 4 rfl ?_
          exact ih (k + 1) _ _ (by omega) (nI_inc k) (by rw [lev, if_pos ⟨e, e2.1, e2.2⟩])
  exact ev_b 4 rfl (loop mn 0 _ _ (by omega) rfl rfl)
theorem m_lies (hL : LM I mn tn nt lf rt tk tc) {a c t : Nat} (ha : a ≤ 9) (hc : c < 20) (ht : t < 2 ^ 31) :
    pj_Ev L d gX4_lies 0 [.val (.ref 131), .val (.int (nI a)), .val (.int (nI c)), .val (.int (nI t)), .unset, .unset] [] (xS n0 I J pl tr rg fr) (.inl (some (.int (bI (liesB nt tk tc a c t mn)))), xS n0 I J pl tr rg fr) := by
  obtain ⟨h1, h2, ⟨h3, h40⟩, h4, h5⟩ := hL
  have loop : ∀ m k (v w : Int32), k + m = mn → w = nI k → v = bI (liesB nt tk tc a c t k) →
      pj_Ev L d gX4_lies 6 [.val (.ref 131), .val (.int (nI a)), .val (.int (nI c)), .val (.int (nI t)), .val (.int v), .val (.int w)] [] (xS n0 I J pl tr rg fr) (.inl (some (.int (bI (liesB nt tk tc a c t mn)))), xS n0 I J pl tr rg fr) := by
    intro m
    induction m with
    | zero =>
      intro k v w hk hw hv
      have hk : k = mn := by omega
      subst hk; subst hw; subst hv
      refine ev_b 3 rfl ?_
      show pj_Ev L d gX4_lies 12 _ [.int (I 131 12), .int (nI k)] _ _
      rw [h1]
      refine ev_ge k k rfl rfl (by omega) (by omega) (fun _ => ?_) (fun h => by omega)
      refine ev_b 1 rfl ?_
      cases liesB nt tk tc a c t k
      · exact ev_ret rfl rfl rfl
      · exact ev_ret rfl rfl rfl
    | succ m ih =>
      intro k v w hk hw hv
      subst hw; subst hv
      obtain ⟨g1, g2, g3, g4, g5⟩ := h4 k (by omega)
      obtain ⟨⟨b1, b2⟩, b3, b4, b5⟩ := h5 k (by omega)
      have hk40 : k < 40 := by omega
      have k62 : ∀ b : Bool, liesB nt tk tc a c t (k + 1) = b → pj_Ev L d gX4_lies 62 [.val (.ref 131), .val (.int (nI a)), .val (.int (nI c)), .val (.int (nI t)), .val (.int (bI (liesB nt tk tc a c t k))), .val (.int (nI k))] [.int (bI b)] (xS n0 I J pl tr rg fr) (.inl (some (.int (bI (liesB nt tk tc a c t mn)))), xS n0 I J pl tr rg fr) := by
        intro b h
        refine ev_b 3 rfl ?_
        exact ih (k + 1) _ _ (by omega) (nI_inc k) (by rw [h])
      refine ev_b 3 rfl ?_
      show pj_Ev L d gX4_lies 12 _ [.int (I 131 12), .int (nI k)] _ _
      rw [h1]
      refine ev_ge k mn rfl rfl (by omega) (by omega) (fun h => by omega) (fun _ => ?_)
      refine ev_b 1 rfl ?_
      refine ev_nz (liesB nt tk tc a c t k) rfl rfl (fun e0 => ?_) (fun e0 => ?_)
      · exact ev_b 2 rfl (k62 true (by rw [liesB, e0]; rfl))
      · refine ev_b 3 rfl ?_
        refine ev_ia 141 k _ g1 rfl rfl rfl hk40 (by omega) ?_
        refine ev_b 1 rfl ?_
        refine ev_ne (nt k) a rfl rfl (by omega) (by omega) (fun e => ?_) (fun e => ?_)
        · exact ev_b 1 rfl (k62 false (by rw [liesB, e0]; simp [e]))
        · refine ev_b 3 rfl ?_
          refine ev_ia 145 k _ g4 rfl rfl rfl hk40 (by omega) ?_
          refine ev_b 1 rfl ?_
          refine ev_ne (tk k) t rfl rfl (by omega) (by omega) (fun e1 => ?_) (fun e1 => ?_)
          · exact ev_b 1 rfl (k62 false (by rw [liesB, e0]; simp [e1]))
          · refine ev_b 3 rfl ?_
            refine ev_ia 144 k _ rfl rfl rfl rfl hk40 (by omega) ?_
            refine ev_b 5 rfl ?_
            refine ev_ne1 (tc k c) (by rw [← g5 c hc]; exact bt_sh (by omega) _) rfl rfl (fun e2 => ?_) (fun e2 => ?_)
            · exact ev_b 1 rfl (k62 false (by rw [liesB, e0]; simp [e2]))
            · exact ev_b 2 rfl (k62 true (by rw [liesB, e0]; simp [e, e1, e2]))
  exact ev_b 4 rfl (loop mn 0 _ _ (by omega) rfl rfl)
theorem m_uprightAt (hp : pvM p I) (hb : pvB p) (hL : LM I mn tn nt lf rt tk tc) (hF : LF p mn nt tc) {c r : Nat} (hc : c < 20) (hr : r ≤ tn + 1) :
    pj_Ev L (d + 1) gX4_uprightAt 0 [.val (.ref 131), .val (.int (nI c)), .val (.int (rI r)), .unset, .unset, .unset, .unset, .unset] [] (xS n0 I J pl tr rg fr) (.inl (some (.int (nI (upA p nt tk tc mn c r)))), xS n0 I J pl tr rg fr) := by
  obtain ⟨h1, h2, ⟨h3, h40⟩, h4, h5⟩ := id hL
  have b1 := hb c (by omega)
  have b2 := hb (20 + c) (by omega)
  refine ev_b 3 rfl ?_
  refine ev_ia 132 c _ (hp c (by omega)) rfl rfl rfl (show c < 40 by omega) (by omega) ?_
  refine ev_b 6 rfl ?_
  show pj_Ev L (d + 1) gX4_uprightAt 15 _ [.int (nI 20 + nI c), .ref 132] _ _
  rw [nI_add]
  refine ev_ia 132 (20 + c) _ (hp (20 + c) (by omega)) rfl rfl rfl (show 20 + c < 40 by omega) (by omega) ?_
  refine ev_b 3 rfl ?_
  refine ev_ne (p c) (p (20 + c)) rfl rfl (by omega) (by omega) (fun hn => ?_) (fun hn => ?_)
  · have law := up_law (r := r) hF (fun k hk => (h5 k hk).2.2.2) hc hn
    generalize hU : upA p nt tk tc mn c r = U at *
    have loop : ∀ m k (x y w : Int32), k + m = tn → w = nI k → x = bI (topB nt tk tc (p c) c r mn k) → y = bI (botB nt tk tc (p (20 + c)) c r tn mn k) →
        pj_Ev L (d + 1) gX4_uprightAt 56 [.val (.ref 131), .val (.int (nI c)), .val (.int (rI r)), .val (.int (nI (p c))), .val (.int (nI (p (20 + c)))), .val (.int x), .val (.int y), .val (.int w)] [] (xS n0 I J pl tr rg fr) (.inl (some (.int (nI U))), xS n0 I J pl tr rg fr) := by
      intro m
      induction m with
      | zero =>
        intro k x y w hk hw hx hy
        have hk : k = tn := by omega
        subst hk; subst hw; subst hx; subst hy
        refine ev_b 3 rfl ?_
        show pj_Ev L (d + 1) gX4_uprightAt 62 _ [.int (I 131 13), .int (nI k)] _ _
        rw [h2]
        refine ev_ge k k rfl rfl (by omega) (by omega) (fun _ => ?_) (fun h => by omega)
        have k143 : ¬ (p c ≠ 0 ∧ topB nt tk tc (p c) c r mn k = true) → pj_Ev L (d + 1) gX4_uprightAt 143 [.val (.ref 131), .val (.int (nI c)), .val (.int (rI r)), .val (.int (nI (p c))), .val (.int (nI (p (20 + c)))), .val (.int (bI (topB nt tk tc (p c) c r mn k))), .val (.int (bI (botB nt tk tc (p (20 + c)) c r k mn k))), .val (.int (nI k))] [] (xS n0 I J pl tr rg fr) (.inl (some (.int (nI U))), xS n0 I J pl tr rg fr) := by
          intro hn1
          rw [if_neg hn1] at law
          refine ev_b 1 rfl ?_
          refine ev_len (p (20 + c)) (by omega) rfl rfl (fun e => ?_) (fun e => ?_)
          · rw [if_neg (fun z => z.1 e)] at law
            rw [law]
            refine ev_b 1 rfl ?_
            exact ev_ret rfl rfl rfl
          · refine ev_b 1 rfl ?_
            refine ev_z _ rfl rfl (fun e2 => ?_) (fun e2 => ?_)
            · rw [if_neg (fun z => by rw [e2] at z; cases z.2)] at law
              rw [law]
              refine ev_b 1 rfl ?_
              exact ev_ret rfl rfl rfl
            · rw [if_pos ⟨e, e2⟩] at law
              rw [law]
              refine ev_b 2 rfl ?_
              exact ev_ret rfl rfl rfl
        refine ev_b 1 rfl ?_
        refine ev_len (p c) (by omega) rfl rfl (fun e => k143 (fun z => z.1 e)) (fun e => ?_)
        refine ev_b 1 rfl ?_
        refine ev_z _ rfl rfl (fun e2 => k143 (fun z => by rw [e2] at z; cases z.2)) (fun e2 => ?_)
        rw [if_pos ⟨e, e2⟩] at law
        rw [law]
        refine ev_b 2 rfl ?_
        exact ev_ret rfl rfl rfl
      | succ m ih =>
        intro k x y w hk hw hx hy
        subst hw; subst hx; subst hy
        have k122 : ∀ b b2 : Bool, topB nt tk tc (p c) c r mn (k + 1) = b → botB nt tk tc (p (20 + c)) c r tn mn (k + 1) = b2 → pj_Ev L (d + 1) gX4_uprightAt 122 [.val (.ref 131), .val (.int (nI c)), .val (.int (rI r)), .val (.int (nI (p c))), .val (.int (nI (p (20 + c)))), .val (.int (bI b)), .val (.int (bI (botB nt tk tc (p (20 + c)) c r tn mn k))), .val (.int (nI k))] [.int (bI b2)] (xS n0 I J pl tr rg fr) (.inl (some (.int (nI U))), xS n0 I J pl tr rg fr) := by
          intro b b2 g1 g2
          refine ev_b 3 rfl ?_
          exact ih (k + 1) _ _ _ (by omega) (nI_inc k) (by rw [g1]) (by rw [g2])
        have k92 : ∀ b : Bool, topB nt tk tc (p c) c r mn (k + 1) = b → pj_Ev L (d + 1) gX4_uprightAt 92 [.val (.ref 131), .val (.int (nI c)), .val (.int (rI r)), .val (.int (nI (p c))), .val (.int (nI (p (20 + c)))), .val (.int (bI (topB nt tk tc (p c) c r mn k))), .val (.int (bI (botB nt tk tc (p (20 + c)) c r tn mn k))), .val (.int (nI k))] [.int (bI b)] (xS n0 I J pl tr rg fr) (.inl (some (.int (nI U))), xS n0 I J pl tr rg fr) := by
          intro b g1
          refine ev_b 2 rfl ?_
          refine ev_nz (botB nt tk tc (p (20 + c)) c r tn mn k) rfl rfl (fun e => ?_) (fun e => ?_)
          · exact ev_b 2 rfl (k122 b true g1 (by rw [botB, e]; rfl))
          · refine ev_b 2 rfl ?_
            rw [← rI_s k]
            refine ev_if (rI (k + 1)) (rI r) rfl rfl (fun q => ?_) (fun q => ?_)
            · have q := (rI_lt (by omega) (by omega)).mp (of_decide_eq_true q)
              rw [rI_s k]
              exact ev_b 1 rfl (k122 b false g1 (by rw [botB, e, decide_eq_false (by omega)]; rfl))
            · have q := of_decide_eq_false q
              rw [rI_lt (by omega) (by omega)] at q
              rw [rI_s k]
              refine ev_b 4 rfl ?_
              refine ev_c rfl (m_lies hL b2 hc (by omega)) ?_
              refine ev_z _ rfl rfl (fun e2 => ?_) (fun e2 => ?_)
              · exact ev_b 1 rfl (k122 b false g1 (by rw [botB, e, e2, Bool.and_false]; rfl))
              · exact ev_b 2 rfl (k122 b true g1 (by rw [botB, e, e2, decide_eq_true (by omega)]; rfl))
        refine ev_b 3 rfl ?_
        show pj_Ev L (d + 1) gX4_uprightAt 62 _ [.int (I 131 13), .int (nI k)] _ _
        rw [h2]
        refine ev_ge k tn rfl rfl (by omega) (by omega) (fun h => by omega) (fun _ => ?_)
        refine ev_b 1 rfl ?_
        refine ev_nz (topB nt tk tc (p c) c r mn k) rfl rfl (fun e => ?_) (fun e => ?_)
        · exact ev_b 2 rfl (k92 true (by rw [topB, e]; rfl))
        · refine ev_b 2 rfl ?_
          rw [← rI_s k]
          refine ev_if (rI (k + 1)) (rI r) rfl rfl (fun q => ?_) (fun q => ?_)
          · have q := (rI_lt (by omega) (by omega)).mp (of_decide_eq_true q)
            rw [rI_s k]
            exact ev_b 1 rfl (k92 false (by rw [topB, e, decide_eq_false (by omega)]; rfl))
          · have q := of_decide_eq_false q
            rw [rI_lt (by omega) (by omega)] at q
            rw [rI_s k]
            refine ev_b 4 rfl ?_
            refine ev_c rfl (m_lies hL b1 hc (by omega)) ?_
            refine ev_z _ rfl rfl (fun e2 => ?_) (fun e2 => ?_)
            · exact ev_b 1 rfl (k92 false (by rw [topB, e, e2, Bool.and_false]; rfl))
            · exact ev_b 2 rfl (k92 true (by rw [topB, e, e2, decide_eq_true (by omega)]; rfl))
    have k51 : ∀ b : Bool, decide (r = tn + 1) = b → pj_Ev L (d + 1) gX4_uprightAt 51 [.val (.ref 131), .val (.int (nI c)), .val (.int (rI r)), .val (.int (nI (p c))), .val (.int (nI (p (20 + c)))), .val (.int (bI (decide (r = 0)))), .unset, .unset] [.int (bI b)] (xS n0 I J pl tr rg fr) (.inl (some (.int (nI U))), xS n0 I J pl tr rg fr) := by
      intro b hb
      exact ev_b 3 rfl (loop tn 0 _ _ _ (by omega) rfl rfl (by rw [botB, hb]))
    have k36 : ∀ b : Bool, decide (r = 0) = b → pj_Ev L (d + 1) gX4_uprightAt 36 [.val (.ref 131), .val (.int (nI c)), .val (.int (rI r)), .val (.int (nI (p c))), .val (.int (nI (p (20 + c)))), .unset, .unset, .unset] [.int (bI b)] (xS n0 I J pl tr rg fr) (.inl (some (.int (nI U))), xS n0 I J pl tr rg fr) := by
      intro b hb
      subst hb
      refine ev_b 4 rfl ?_
      show pj_Ev L (d + 1) gX4_uprightAt 43 _ [.int (I 131 13), .int (rI r)] _ _
      rw [h2, ← rI_s tn]
      refine ev_if (rI r) (rI (tn + 1)) rfl rfl (fun q => ?_) (fun q => ?_)
      · have q := of_decide_eq_true q
        rw [rI_eq (by omega) (by omega)] at q
        exact ev_b 1 rfl (k51 false (decide_eq_false q))
      · have q := of_decide_eq_false q
        rw [Classical.not_not, rI_eq (by omega) (by omega)] at q
        exact ev_b 2 rfl (k51 true (decide_eq_true q))
    refine ev_b 2 rfl ?_
    refine ev_if (rI r) (rI 0) rfl rfl (fun q => ?_) (fun q => ?_)
    · have q := of_decide_eq_true q
      rw [rI_eq (by omega) (by decide)] at q
      exact ev_b 1 rfl (k36 false (decide_eq_false q))
    · have q := of_decide_eq_false q
      rw [Classical.not_not, rI_eq (by omega) (by decide)] at q
      exact ev_b 2 rfl (k36 true (decide_eq_true q))
  · unfold upA upV
    rw [if_pos hn]
    refine ev_b 1 rfl ?_
    exact ev_ret rfl rfl rfl
theorem m_viaAt (hp : pvM p I) (hb : pvB p) (hL : LM I mn tn nt lf rt tk tc) (hF : LF p mn nt tc) {t c : Nat} (ht : t < tn) (hc : c < 20) :
    pj_Ev L (d + 2) gX4_viaAt 0 [.val (.ref 131), .val (.int (nI t)), .val (.int (nI c)), .unset] [] (xS n0 I J pl tr rg fr) (.inl (some (.int (bI (joinB p nt lf rt tk tc mn t c)))), xS n0 I J pl tr rg fr) := by
  obtain ⟨h1, h2, ⟨h3, h40⟩, h4, h5⟩ := id hL
  have hl9 : lev nt lf rt tk t c mn ≤ 9 := lev_le fun k hk => (h5 k hk).1.2
  have hu9 : upA p nt tk tc mn c (t + 1) ≤ 9 := upV_le (hb c (by omega)) (hb (20 + c) (by omega))
  refine ev_b 3 rfl ?_
  refine ev_c rfl (m_levelAt hL (by omega) hc) ?_
  refine ev_b 2 rfl ?_
  unfold joinB
  generalize hv : lev nt lf rt tk t c mn = v at *
  refine ev_len v (by omega) rfl rfl (fun e => ?_) (fun e => ?_)
  · rw [decide_eq_false (fun z => z e)]
    refine ev_b 1 rfl ?_
    exact ev_ret rfl rfl rfl
  · rw [decide_eq_true e]
    refine ev_b 3 rfl ?_
    rw [← rI_s t]
    refine ev_c rfl (m_uprightAt (r := t + 1) hp hb hL hF hc (by omega)) ?_
    rw [rI_s t]
    refine ev_b 1 rfl ?_
    refine ev_ne (upA p nt tk tc mn c (t + 1)) v rfl rfl (by omega) (by omega) (fun e1 => ?_) (fun e1 => ?_)
    · rw [decide_eq_false e1]
      refine ev_b 1 rfl ?_
      exact ev_ret rfl rfl rfl
    · rw [decide_eq_true e1]
      refine ev_b 4 rfl ?_
      refine ev_c rfl (m_lies (d := d + 1) hL hl9 hc (by omega)) ?_
      refine ev_z _ rfl rfl (fun e2 => ?_) (fun e2 => ?_)
      · rw [e2]
        refine ev_b 1 rfl ?_
        exact ev_ret rfl rfl rfl
      · rw [e2]
        refine ev_b 2 rfl ?_
        exact ev_ret rfl rfl rfl
end SNM
end
section
/-! what is seen: the model's open methods -/
section SNO
variable {L d n0 : Nat} {I : pj_SI} {J : pj_SJ} {pl tr rg fr : Nat} {p : Nat → Nat} {mn tn : Nat} {nt lf rt tk : Nat → Nat} {tc : Nat → Nat → Bool} {dn : Bool}
/-- an int below a small one -/
theorem inM_iff {a : Int32} {m : Nat} (hm : m < 2 ^ 30) : (decide (nI 0 ≤ a) && decide (a ≤ nI m - nI 1)) = true ↔ ∃ k, k < m ∧ a = nI k := by
  rw [Bool.and_eq_true, decide_eq_true_eq, decide_eq_true_eq]
  constructor
  · rintro ⟨h1, h2⟩
    have h0 : ¬ a < 0 := Int32.not_lt.mpr h1
    obtain ⟨j, hj, rfl⟩ := nI_of h0
    refine ⟨j, ?_, rfl⟩
    rw [Int32.le_iff_toInt_le, nI_toInt hj, pk_sub_toInt hm (by decide)] at h2
    omega
  · rintro ⟨k, hk, rfl⟩
    refine ⟨nI_pos' (by omega), ?_⟩
    rw [Int32.le_iff_toInt_le, nI_toInt (by omega), pk_sub_toInt hm (by decide)]
    omega
theorem inC_iff {a : Int32} : (decide (nI 0 ≤ a) && decide (a ≤ nI 19)) = true ↔ ∃ k, k < 20 ∧ a = nI k := by
  rw [inR_iff (by decide) (by decide)]
  constructor
  · rintro ⟨n, _, h, e⟩; exact ⟨n, by omega, e⟩
  · rintro ⟨n, h, e⟩; exact ⟨n, by omega, by omega, e⟩
theorem m_level_ok (hL : LM I mn tn nt lf rt tk tc) {t c : Nat} (ht : t < tn) (hc : c < 20) :
    pj_Ev L (d + 2) gX4_level 0 [.val (.ref 131), .val (.int (nI t)), .val (.int (nI c))] [] (xS n0 I J pl tr rg fr) (.inl (some (.int (nI (lev nt lf rt tk t c mn)))), xS n0 (pj_u2 I 131 0 0) J pl tr rg fr) := by
  have h40 : tn ≤ 40 := hL.2.2.1.2
  refine ev_b 7 rfl ?_
  show pj_Ev L (d + 2) gX4_level 9 _ [.int (I 131 13 - nI 1), .int (nI 0), .int (nI t), .ref 131] _ _
  rw [hL.2.1]
  refine ev_c rfl c_in ?_
  refine ev_zv true (congrArg bI ((inM_iff (by omega)).mpr ⟨t, ht, rfl⟩)) rfl rfl (fun h => by cases h) (fun _ => ?_)
  refine ev_b 3 rfl ?_
  refine ev_c rfl c_in ?_
  refine ev_zv true (congrArg bI (inC_iff.mpr ⟨c, hc, rfl⟩)) rfl rfl (fun h => by cases h) (fun _ => ?_)
  refine ev_b 2 rfl ?_
  refine ev_c rfl (m_out (b := true)) ?_
  refine ev_z false rfl rfl (fun _ => ?_) (fun h => by cases h)
  refine ev_b 3 rfl ?_
  refine ev_c rfl (m_levelAt hL.u (by omega) hc) ?_
  exact ev_ret rfl rfl rfl
theorem m_level_no (hL : LM I mn tn nt lf rt tk tc) {a w : Int32} (h : ¬ ((∃ k, k < tn ∧ a = nI k) ∧ ∃ j, j < 20 ∧ w = nI j)) :
    pj_Ev L (d + 2) gX4_level 0 [.val (.ref 131), .val (.int a), .val (.int w)] [] (xS n0 I J pl tr rg fr) (.inl (some (.int 0)), xS n0 (pj_u2 I 131 0 1) J pl tr rg fr) := by
  have h40 : tn ≤ 40 := hL.2.2.1.2
  have k30 : pj_Ev L (d + 2) gX4_level 30 [.val (.ref 131), .val (.int a), .val (.int w)] [.int (bI false), .ref 131] (xS n0 I J pl tr rg fr) (.inl (some (.int 0)), xS n0 (pj_u2 I 131 0 1) J pl tr rg fr) := by
    refine ev_c rfl (m_out (b := false)) ?_
    refine ev_z true rfl rfl (fun h => by cases h) (fun _ => ?_)
    refine ev_b 2 rfl ?_
    exact ev_ret rfl rfl rfl
  refine ev_b 7 rfl ?_
  show pj_Ev L (d + 2) gX4_level 9 _ [.int (I 131 13 - nI 1), .int (nI 0), .int a, .ref 131] _ _
  rw [hL.2.1]
  refine ev_c rfl c_in ?_
  refine ev_z _ rfl rfl (fun _ => ev_b 1 rfl k30) (fun h1 => ?_)
  refine ev_b 3 rfl ?_
  refine ev_c rfl c_in ?_
  refine ev_z _ rfl rfl (fun _ => ev_b 1 rfl k30) (fun h2 => ?_)
  exact absurd ⟨(inM_iff (by omega)).mp h1, inC_iff.mp h2⟩ h
theorem m_upright_ok (hp : pvM p I) (hb : pvB p) (hd : I 131 11 = bI true) (hL : LM I mn tn nt lf rt tk tc) (hF : LF p mn nt tc) {c r : Nat} (hc : c < 20) (hr : r ≤ tn + 1) :
    pj_Ev L (d + 2) gX4_upright 0 [.val (.ref 131), .val (.int (nI c)), .val (.int (rI r))] [] (xS n0 I J pl tr rg fr) (.inl (some (.int (nI (upA p nt tk tc mn c r)))), xS n0 (pj_u2 I 131 0 0) J pl tr rg fr) := by
  have h40 : tn ≤ 40 := hL.2.2.1.2
  have hp' : pvM p (pj_u2 I 131 0 0) := hp.u (by decide)
  refine ev_b 3 rfl ?_
  refine ev_zv true hd rfl rfl (fun h => by cases h) (fun _ => ?_)
  refine ev_b 3 rfl ?_
  refine ev_c rfl c_in ?_
  refine ev_zv true (congrArg bI (inC_iff.mpr ⟨c, hc, rfl⟩)) rfl rfl (fun h => by cases h) (fun _ => ?_)
  refine ev_b 4 rfl ?_
  show pj_Ev L (d + 2) gX4_upright 24 _ [.int (I 131 13), .int (rI 0), .int (rI r), .ref 131] _ _
  rw [hL.2.1, ← rI_s tn]
  refine ev_c rfl c_in ?_
  refine ev_zv true (congrArg bI (by rw [Bool.and_eq_true, decide_eq_true_eq, decide_eq_true_eq, rI_le (by decide) (by omega), rI_le (by omega) (by omega)]; exact ⟨Nat.zero_le _, hr⟩)) rfl rfl (fun h => by cases h) (fun _ => ?_)
  refine ev_b 2 rfl ?_
  refine ev_c rfl (m_out (b := true)) ?_
  refine ev_z false rfl rfl (fun _ => ?_) (fun h => by cases h)
  refine ev_b 3 rfl ?_
  refine ev_c rfl (m_uprightAt hp' hb hL.u hF hc hr) ?_
  exact ev_ret rfl rfl rfl
theorem m_upright_no (hd : I 131 11 = bI dn) (hL : LM I mn tn nt lf rt tk tc) {a w : Int32} (h : ¬ (dn = true ∧ (∃ c, c < 20 ∧ a = nI c) ∧ ∃ r, r ≤ tn + 1 ∧ w = rI r)) :
    pj_Ev L (d + 2) gX4_upright 0 [.val (.ref 131), .val (.int a), .val (.int w)] [] (xS n0 I J pl tr rg fr) (.inl (some (.int 0)), xS n0 (pj_u2 I 131 0 1) J pl tr rg fr) := by
  have h40 : tn ≤ 40 := hL.2.2.1.2
  have k35 : pj_Ev L (d + 2) gX4_upright 35 [.val (.ref 131), .val (.int a), .val (.int w)] [.int (bI false), .ref 131] (xS n0 I J pl tr rg fr) (.inl (some (.int 0)), xS n0 (pj_u2 I 131 0 1) J pl tr rg fr) := by
    refine ev_c rfl (m_out (b := false)) ?_
    refine ev_z true rfl rfl (fun h => by cases h) (fun _ => ?_)
    refine ev_b 2 rfl ?_
    exact ev_ret rfl rfl rfl
  refine ev_b 3 rfl ?_
  refine ev_zv dn hd rfl rfl (fun _ => ev_b 1 rfl k35) (fun hz => ?_)
  refine ev_b 3 rfl ?_
  refine ev_c rfl c_in ?_
  refine ev_z _ rfl rfl (fun _ => ev_b 1 rfl k35) (fun h1 => ?_)
  refine ev_b 4 rfl ?_
  show pj_Ev L (d + 2) gX4_upright 24 _ [.int (I 131 13), .int (rI 0), .int w, .ref 131] _ _
  rw [hL.2.1, ← rI_s tn]
  refine ev_c rfl c_in ?_
  refine ev_z _ rfl rfl (fun _ => ev_b 1 rfl k35) (fun h2 => ?_)
  refine absurd ⟨hz, inC_iff.mp h1, ?_⟩ h
  rw [Bool.and_eq_true, decide_eq_true_eq, decide_eq_true_eq, Int32.le_iff_toInt_le, Int32.le_iff_toInt_le, rI_toInt (by decide), rI_toInt (by omega)] at h2
  refine ⟨(w.toInt + 1).toNat, by omega, ?_⟩
  rw [← Int32.toInt_inj, rI_toInt (by omega)]
  omega
theorem m_via_ok (hp : pvM p I) (hb : pvB p) (hL : LM I mn tn nt lf rt tk tc) (hF : LF p mn nt tc) {t c : Nat} (ht : t < tn) (hc : c < 20) :
    pj_Ev L (d + 3) gX4_via 0 [.val (.ref 131), .val (.int (nI t)), .val (.int (nI c))] [] (xS n0 I J pl tr rg fr) (.inl (some (.int (bI (joinB p nt lf rt tk tc mn t c)))), xS n0 (pj_u2 I 131 0 0) J pl tr rg fr) := by
  have h40 : tn ≤ 40 := hL.2.2.1.2
  have hp' : pvM p (pj_u2 I 131 0 0) := hp.u (by decide)
  refine ev_b 7 rfl ?_
  show pj_Ev L (d + 3) gX4_via 9 _ [.int (I 131 13 - nI 1), .int (nI 0), .int (nI t), .ref 131] _ _
  rw [hL.2.1]
  refine ev_c rfl c_in ?_
  refine ev_zv true (congrArg bI ((inM_iff (by omega)).mpr ⟨t, ht, rfl⟩)) rfl rfl (fun h => by cases h) (fun _ => ?_)
  refine ev_b 3 rfl ?_
  refine ev_c rfl c_in ?_
  refine ev_zv true (congrArg bI (inC_iff.mpr ⟨c, hc, rfl⟩)) rfl rfl (fun h => by cases h) (fun _ => ?_)
  refine ev_b 2 rfl ?_
  refine ev_c rfl (m_out (b := true)) ?_
  refine ev_nz false rfl rfl (fun h => by cases h) (fun _ => ?_)
  refine ev_b 3 rfl ?_
  refine ev_c rfl (m_viaAt hp' hb hL.u hF ht hc) ?_
  refine ev_z _ rfl rfl (fun e2 => ?_) (fun e2 => ?_)
  · rw [e2]
    refine ev_b 1 rfl ?_
    exact ev_ret rfl rfl rfl
  · rw [e2]
    refine ev_b 2 rfl ?_
    exact ev_ret rfl rfl rfl
theorem m_via_no (hL : LM I mn tn nt lf rt tk tc) {a w : Int32} (h : ¬ ((∃ k, k < tn ∧ a = nI k) ∧ ∃ j, j < 20 ∧ w = nI j)) :
    pj_Ev L (d + 2) gX4_via 0 [.val (.ref 131), .val (.int a), .val (.int w)] [] (xS n0 I J pl tr rg fr) (.inl (some (.int 0)), xS n0 (pj_u2 I 131 0 1) J pl tr rg fr) := by
  have h40 : tn ≤ 40 := hL.2.2.1.2
  have k30 : pj_Ev L (d + 2) gX4_via 30 [.val (.ref 131), .val (.int a), .val (.int w)] [.int (bI false), .ref 131] (xS n0 I J pl tr rg fr) (.inl (some (.int 0)), xS n0 (pj_u2 I 131 0 1) J pl tr rg fr) := by
    refine ev_c rfl (m_out (b := false)) ?_
    refine ev_nz true rfl rfl (fun _ => ?_) (fun h => by cases h)
    refine ev_b 1 rfl ?_
    exact ev_ret rfl rfl rfl
  refine ev_b 7 rfl ?_
  show pj_Ev L (d + 2) gX4_via 9 _ [.int (I 131 13 - nI 1), .int (nI 0), .int a, .ref 131] _ _
  rw [hL.2.1]
  refine ev_c rfl c_in ?_
  refine ev_z _ rfl rfl (fun _ => ev_b 1 rfl k30) (fun h1 => ?_)
  refine ev_b 3 rfl ?_
  refine ev_c rfl c_in ?_
  refine ev_z _ rfl rfl (fun _ => ev_b 1 rfl k30) (fun h2 => ?_)
  exact absurd ⟨(inM_iff (by omega)).mp h1, inC_iff.mp h2⟩ h
theorem m_segment_ok (hL : LM I mn tn nt lf rt tk tc) {k j : Nat} (hk : k < mn) (hj : j < 4) :
    pj_Ev L (d + 1) gX4_segment 0 [.val (.ref 131), .val (.int (nI k)), .val (.int (nI j))] [] (xS n0 I J pl tr rg fr) (.inl (some (.int (nI (segV nt lf rt tk k j)))), xS n0 (pj_u2 I 131 0 0) J pl tr rg fr) := by
  obtain ⟨h1, h2, ⟨h3, h40⟩, h4, h5⟩ := hL
  obtain ⟨g1, g2, g3, g4, -⟩ := h4 k hk
  have hk40 : k < 40 := by omega
  refine ev_b 7 rfl ?_
  show pj_Ev L (d + 1) gX4_segment 9 _ [.int (I 131 12 - nI 1), .int (nI 0), .int (nI k), .ref 131] _ _
  rw [h1]
  refine ev_c rfl c_in ?_
  refine ev_zv true (congrArg bI ((inM_iff (by omega)).mpr ⟨k, hk, rfl⟩)) rfl rfl (fun h => by cases h) (fun _ => ?_)
  refine ev_b 3 rfl ?_
  refine ev_c rfl c_in ?_
  refine ev_zv true (congrArg bI (inR_t (lo := 0) (hi := 3) (Nat.zero_le _) (by omega) (by decide))) rfl rfl (fun h => by cases h) (fun _ => ?_)
  refine ev_b 5 (σ' := xS n0 (pj_u2 I 131 0 0) J pl tr rg fr) rfl ?_
  refine ev_len 0 (by decide) rfl rfl (fun _ => ?_) (fun h => absurd rfl h)
  refine ev_b 1 rfl ?_
  unfold segV
  refine ev_nzn j (by omega) rfl rfl (fun e => ?_) (fun e => ?_)
  · rw [if_neg e]
    refine ev_b 2 rfl ?_
    refine ev_ne j 1 rfl rfl (by omega) (by omega) (fun e1 => ?_) (fun e1 => ?_)
    · rw [if_neg e1]
      refine ev_b 2 rfl ?_
      refine ev_ne j 2 rfl rfl (by omega) (by omega) (fun e2 => ?_) (fun e2 => ?_)
      · rw [if_neg e2]
        refine ev_b 3 rfl ?_
        refine ev_ia 145 k _ ((u2n _ _ (by decide)).trans g4) rfl rfl rfl hk40 (by omega) ?_
        exact ev_ret rfl rfl rfl
      · rw [if_pos e2]
        refine ev_b 3 rfl ?_
        refine ev_ia 143 k _ ((u2n _ _ (by decide)).trans g3) rfl rfl rfl hk40 (by omega) ?_
        refine ev_b 1 rfl ?_
        exact ev_ret rfl rfl rfl
    · rw [if_pos e1]
      refine ev_b 3 rfl ?_
      refine ev_ia 142 k _ ((u2n _ _ (by decide)).trans g2) rfl rfl rfl hk40 (by omega) ?_
      refine ev_b 1 rfl ?_
      exact ev_ret rfl rfl rfl
  · rw [if_pos e]
    refine ev_b 3 rfl ?_
    refine ev_ia 141 k _ ((u2n _ _ (by decide)).trans g1) rfl rfl rfl hk40 (by omega) ?_
    refine ev_b 1 rfl ?_
    exact ev_ret rfl rfl rfl
theorem m_segment_no (hL : LM I mn tn nt lf rt tk tc) {a w : Int32} (h : ¬ ((∃ k, k < mn ∧ a = nI k) ∧ ∃ j, j < 4 ∧ w = nI j)) :
    pj_Ev L (d + 1) gX4_segment 0 [.val (.ref 131), .val (.int a), .val (.int w)] [] (xS n0 I J pl tr rg fr) (.inl (some (.int 0)), xS n0 (pj_u2 I 131 0 1) J pl tr rg fr) := by
  have h40 : mn ≤ 40 := hL.2.2.1.1
  have k29 : pj_Ev L (d + 1) gX4_segment 28 [.val (.ref 131), .val (.int a), .val (.int w)] [.ref 131] (xS n0 I J pl tr rg fr) (.inl (some (.int 0)), xS n0 (pj_u2 I 131 0 1) J pl tr rg fr) := by
    refine ev_b 4 (σ' := xS n0 (pj_u2 I 131 0 1) J pl tr rg fr) rfl ?_
    refine ev_len 1 (by decide) rfl rfl (fun h => absurd h (by decide)) (fun _ => ?_)
    refine ev_b 1 rfl ?_
    exact ev_ret rfl rfl rfl
  refine ev_b 7 rfl ?_
  show pj_Ev L (d + 1) gX4_segment 9 _ [.int (I 131 12 - nI 1), .int (nI 0), .int a, .ref 131] _ _
  rw [hL.1]
  refine ev_c rfl c_in ?_
  refine ev_z _ rfl rfl (fun _ => k29) (fun h1 => ?_)
  refine ev_b 3 rfl ?_
  refine ev_c rfl c_in ?_
  refine ev_z _ rfl rfl (fun _ => k29) (fun h2 => ?_)
  obtain ⟨k, y1, y2, y3⟩ := (inR_iff (lo := 0) (hi := 3) (by decide) (by decide)).mp h2
  exact absurd ⟨(inM_iff (by omega)).mp h1, k, by omega, y3⟩ h
theorem m_vias (hp : pvM p I) (hb : pvB p) (hL : LM I mn tn nt lf rt tk tc) (hF : 0 < tn → LF p mn nt tc) :
    pj_Ev L (d + 3) gX4_vias 0 [.val (.ref 131), .unset, .unset, .unset] [] (xS n0 I J pl tr rg fr) (.inl (some (.int (nI (gsum (joinB p nt lf rt tk tc mn) tn)))), xS n0 I J pl tr rg fr) := by
  have h40 : tn ≤ 40 := hL.2.2.1.2
  have outer : ∀ m t (v w : Int32) (s3 : Slot), t + m = tn → w = nI t → v = nI (gsum (joinB p nt lf rt tk tc mn) t) →
      pj_Ev L (d + 3) gX4_vias 4 [.val (.ref 131), .val (.int v), .val (.int w), s3] [] (xS n0 I J pl tr rg fr) (.inl (some (.int (nI (gsum (joinB p nt lf rt tk tc mn) tn)))), xS n0 I J pl tr rg fr) := by
    intro m
    induction m with
    | zero =>
      intro t v w s3 ht hw hv
      have ht : t = tn := by omega
      subst ht; subst hw; subst hv
      refine ev_b 3 rfl ?_
      show pj_Ev L (d + 3) gX4_vias 9 _ [.int (I 131 13), .int (nI t)] _ _
      rw [hL.2.1]
      refine ev_ge t t rfl rfl (by omega) (by omega) (fun _ => ?_) (fun h => by omega)
      refine ev_b 1 rfl ?_
      exact ev_ret rfl rfl rfl
    | succ m ih =>
      intro t v w s3 ht hw hv
      subst hw; subst hv
      refine ev_b 3 rfl ?_
      show pj_Ev L (d + 3) gX4_vias 9 _ [.int (I 131 13), .int (nI t)] _ _
      rw [hL.2.1]
      refine ev_ge t tn rfl rfl (by omega) (by omega) (fun h => by omega) (fun _ => ?_)
      have inner : ∀ m2 c (x y : Int32), c + m2 = 20 → y = nI c → x = nI (gsum (joinB p nt lf rt tk tc mn) t + fb_ct (joinB p nt lf rt tk tc mn t) c) →
          pj_Ev L (d + 3) gX4_vias 14 [.val (.ref 131), .val (.int x), .val (.int (nI t)), .val (.int y)] [] (xS n0 I J pl tr rg fr) (.inl (some (.int (nI (gsum (joinB p nt lf rt tk tc mn) tn)))), xS n0 I J pl tr rg fr) := by
        intro m2
        induction m2 with
        | zero =>
          intro c x y hc hy hx
          have hc : c = 20 := by omega
          subst hc; subst hy
          refine ev_b 2 rfl ?_
          refine ev_ge 20 20 rfl rfl (by omega) (by omega) (fun _ => ?_) (fun h => by omega)
          refine ev_b 2 rfl ?_
          exact ih (t + 1) _ _ _ (by omega) (nI_inc t) hx
        | succ m2 ih2 =>
          intro c x y hc hy hx
          subst hy
          refine ev_b 2 rfl ?_
          refine ev_ge c 20 rfl rfl (by omega) (by omega) (fun h => by omega) (fun _ => ?_)
          refine ev_b 3 rfl ?_
          refine ev_c rfl (m_viaAt hp hb hL (hF (by omega)) (by omega) (by omega)) ?_
          refine ev_z (joinB p nt lf rt tk tc mn t c) rfl rfl (fun e => ?_) (fun e => ?_)
          · refine ev_b 4 rfl ?_
            exact ih2 (c + 1) _ _ (by omega) (nI_inc c) (by rw [hx, fb_ct_succ, e]; rfl)
          · refine ev_b 7 rfl ?_
            refine ih2 (c + 1) _ _ (by omega) (nI_inc c) ?_
            rw [hx, fb_ct_succ, e, if_pos rfl, ← Nat.add_assoc]
            exact nI_inc _
      exact ev_b 2 rfl (inner 20 0 _ _ rfl rfl rfl)
  exact ev_b 4 rfl (outer tn 0 _ _ _ (by omega) rfl rfl)
theorem m_count_ok (hp : pvM p I) (hb : pvB p) (hd : I 131 11 = bI dn) (hL : LM I mn tn nt lf rt tk tc) (hF : 0 < tn → LF p mn nt tc) {k : Nat} (hk : k < 6) :
    pj_Ev L (d + 4) gX4_count 0 [.val (.ref 131), .val (.int (nI k))] [] (xS n0 I J pl tr rg fr) (.inl (some (.int (if k = 0 then nI tn else if k = 1 then nI mn else if k = 2 then nI (gsum (joinB p nt lf rt tk tc mn) tn) else if k = 3 then I 131 21 else if k = 4 then I 131 22 else bI dn))), xS n0 (pj_u2 I 131 0 0) J pl tr rg fr) := by
  have hp' : pvM p (pj_u2 I 131 0 0) := hp.u (by decide)
  refine ev_b 4 rfl ?_
  refine ev_c rfl c_in ?_
  have e : (decide (nI 0 ≤ nI k) && decide (nI k ≤ nI 5)) = true := inR_t (lo := 0) (hi := 5) (Nat.zero_le _) (by omega) (by decide)
  show pj_Ev L (d + 4) gX4_count 7 _ [.int (bI (decide (nI 0 ≤ nI k) && decide (nI k ≤ nI 5))), .ref 131] _ _
  rw [e]
  refine ev_c rfl (m_out (b := true)) ?_
  refine ev_z false rfl rfl (fun _ => ?_) (fun h => by cases h)
  rcases (by omega : k = 0 ∨ k = 1 ∨ k = 2 ∨ k = 3 ∨ k = 4 ∨ k = 5) with rfl | rfl | rfl | rfl | rfl | rfl
  · refine ev_b 4 rfl ?_
    rw [if_pos rfl, ← hL.2.1]
    exact ev_ret rfl rfl rfl
  · refine ev_b 4 rfl ?_
    rw [if_neg (by decide), if_pos rfl, ← hL.1]
    exact ev_ret rfl rfl rfl
  · refine ev_b 3 rfl ?_
    refine ev_c rfl (m_vias hp' hb hL.u hF) ?_
    exact ev_ret rfl rfl rfl
  · refine ev_b 4 rfl ?_
    exact ev_ret rfl rfl rfl
  · refine ev_b 4 rfl ?_
    exact ev_ret rfl rfl rfl
  · refine ev_b 4 rfl ?_
    refine ev_zv dn hd rfl rfl (fun h => ?_) (fun h => ?_)
    · subst h
      refine ev_b 1 rfl ?_
      exact ev_ret rfl rfl rfl
    · subst h
      refine ev_b 2 rfl ?_
      exact ev_ret rfl rfl rfl
theorem m_count_no {a : Int32} (h : ¬ ∃ k, k < 6 ∧ a = nI k) :
    pj_Ev L (d + 1) gX4_count 0 [.val (.ref 131), .val (.int a)] [] (xS n0 I J pl tr rg fr) (.inl (some (.int 0)), xS n0 (pj_u2 I 131 0 1) J pl tr rg fr) := by
  refine ev_b 4 rfl ?_
  refine ev_c rfl c_in ?_
  have e : (decide (nI 0 ≤ a) && decide (a ≤ nI 5)) = false := by
    rw [← Bool.not_eq_true]
    intro z
    obtain ⟨k, y1, y2, y3⟩ := (inR_iff (lo := 0) (hi := 5) (by decide) (by decide)).mp z
    exact h ⟨k, by omega, y3⟩
  show pj_Ev L (d + 1) gX4_count 7 _ [.int (bI (decide (nI 0 ≤ a) && decide (a ≤ nI 5))), .ref 131] _ _
  rw [e]
  refine ev_c rfl (m_out (b := false)) ?_
  refine ev_z true rfl rfl (fun h => by cases h) (fun _ => ?_)
  refine ev_b 1 rfl ?_
  exact ev_ret rfl rfl rfl
theorem m_used (hL : LM I mn tn nt lf rt tk tc) :
    pj_Ev L (d + 2) gX4_used 0 [.val (.ref 131), .unset, .unset, .unset] [] (xS n0 I J pl tr rg fr) (.inl (some (.float (usedV (gsum (onB nt lf rt tk mn) tn) tn))), xS n0 (pj_u2 I 131 0 0) J pl tr rg fr) := by
  have h40 : tn ≤ 40 := hL.2.2.1.2
  have hL' := hL.u (v := 0)
  have outer : ∀ m t (v w : Int32) (s3 : Slot), t + m = tn → w = nI t → v = nI (gsum (onB nt lf rt tk mn) t) →
      pj_Ev L (d + 2) gX4_used 9 [.val (.ref 131), .val (.int v), .val (.int w), s3] [] (xS n0 (pj_u2 I 131 0 0) J pl tr rg fr) (.inl (some (.float (usedV (gsum (onB nt lf rt tk mn) tn) tn))), xS n0 (pj_u2 I 131 0 0) J pl tr rg fr) := by
    intro m
    induction m with
    | zero =>
      intro t v w s3 ht hw hv
      have ht : t = tn := by omega
      subst ht; subst hw; subst hv
      refine ev_b 3 rfl ?_
      show pj_Ev L (d + 2) gX4_used 14 _ [.int (I 131 13), .int (nI t)] _ _
      rw [hL.2.1]
      refine ev_ge t t rfl rfl (by omega) (by omega) (fun _ => ?_) (fun h => by omega)
      refine ev_b 2 rfl ?_
      show pj_Ev L (d + 2) gX4_used 58 _ [.int (I 131 13)] _ _
      rw [hL.2.1]
      unfold usedV
      refine ev_nzn t (by omega) rfl rfl (fun e => ?_) (fun e => ?_)
      · rw [if_neg e]
        have hg := gsum_le (onB nt lf rt tk mn) t
        have e2 : nI 20 * nI t = nI (20 * t) := mul20 t (by omega)
        have e3 : nI 20 * (pj_u2 I 131 0 0) 131 13 = nI (20 * t) := by
          rw [← e2, ← hL'.2.1]
        rw [← e3]
        refine ev_b 11 rfl ?_
        refine ev_fdiv ?_ rfl ?_
        · have := fd_ok (n := gsum (onB nt lf rt tk mn) t) (m := 20 * t) (by omega) (by omega) (by omega)
          rw [← e3] at this
          exact this
        · exact ev_ret rfl rfl rfl
      · rw [if_pos e]
        refine ev_b 1 rfl ?_
        exact ev_ret rfl rfl rfl
    | succ m ih =>
      intro t v w s3 ht hw hv
      subst hw; subst hv
      refine ev_b 3 rfl ?_
      show pj_Ev L (d + 2) gX4_used 14 _ [.int (I 131 13), .int (nI t)] _ _
      rw [hL.2.1]
      refine ev_ge t tn rfl rfl (by omega) (by omega) (fun h => by omega) (fun _ => ?_)
      have inner : ∀ m2 c (x y : Int32), c + m2 = 20 → y = nI c → x = nI (gsum (onB nt lf rt tk mn) t + fb_ct (onB nt lf rt tk mn t) c) →
          pj_Ev L (d + 2) gX4_used 19 [.val (.ref 131), .val (.int x), .val (.int (nI t)), .val (.int y)] [] (xS n0 (pj_u2 I 131 0 0) J pl tr rg fr) (.inl (some (.float (usedV (gsum (onB nt lf rt tk mn) tn) tn))), xS n0 (pj_u2 I 131 0 0) J pl tr rg fr) := by
        intro m2
        induction m2 with
        | zero =>
          intro c x y hc hy hx
          have hc : c = 20 := by omega
          subst hc; subst hy
          refine ev_b 2 rfl ?_
          refine ev_ge 20 20 rfl rfl (by omega) (by omega) (fun _ => ?_) (fun h => by omega)
          refine ev_b 2 rfl ?_
          exact ih (t + 1) _ _ _ (by omega) (nI_inc t) hx
        | succ m2 ih2 =>
          intro c x y hc hy hx
          subst hy
          have hl9 : lev nt lf rt tk t c mn ≤ 9 := lev_le fun k hk => (hL.2.2.2.2 k hk).1.2
          refine ev_b 2 rfl ?_
          refine ev_ge c 20 rfl rfl (by omega) (by omega) (fun h => by omega) (fun _ => ?_)
          refine ev_b 3 rfl ?_
          refine ev_c rfl (m_levelAt hL' (by omega) (by omega)) ?_
          refine ev_len (lev nt lf rt tk t c mn) (by omega) rfl rfl (fun e => ?_) (fun e => ?_)
          · refine ev_b 4 rfl ?_
            refine ih2 (c + 1) _ _ (by omega) (nI_inc c) ?_
            rw [hx, fb_ct_succ, if_neg (by unfold onB; simp [e])]; rfl
          · refine ev_b 7 rfl ?_
            refine ih2 (c + 1) _ _ (by omega) (nI_inc c) ?_
            rw [hx, fb_ct_succ, if_pos (by unfold onB; simp [e]), ← Nat.add_assoc]
            exact nI_inc _
      exact ev_b 2 rfl (inner 20 0 _ _ rfl rfl rfl)
  exact ev_b 7 (σ' := xS n0 (pj_u2 I 131 0 0) J pl tr rg fr) rfl (outer tn 0 _ _ _ (by omega) rfl rfl)
end SNO
end
section
/-! the segments of a way of cutting -/
abbrev Sg : Type := Nat × Nat × Nat × Int32
def gs (l : List Sg) (k : Nat) : Sg := l.getD k (0, 0, 0, 0)
theorem gs_lt {l : List Sg} {x : Sg} {k : Nat} (h : k < l.length) : gs (l ++ [x]) k = gs l k := by
  unfold gs
  rw [List.getD_eq_getElem?_getD, List.getD_eq_getElem?_getD, List.getElem?_append_left h]
theorem gs_eq {l : List Sg} {x : Sg} : gs (l ++ [x]) l.length = x := by
  unfold gs
  rw [List.getD_eq_getElem?_getD, List.getElem?_append_right (Nat.le_refl _), Nat.sub_self]
  rfl
theorem gs_lts {l l2 : List Sg} {k : Nat} (h : k < l.length) : gs (l ++ l2) k = gs l k := by
  unfold gs
  rw [List.getD_eq_getElem?_getD, List.getD_eq_getElem?_getD, List.getElem?_append_left h]
theorem gs_mem {l : List Sg} {k : Nat} (h : k < l.length) : gs l k ∈ l := by
  unfold gs
  rw [List.getD_eq_getElem?_getD, List.getElem?_eq_getElem h]
  exact List.getElem_mem h
theorem gs_of_mem {l : List Sg} {x : Sg} (h : x ∈ l) : ∃ k, k < l.length ∧ gs l k = x := by
  obtain ⟨k, hk, e⟩ := List.getElem_of_mem h
  refine ⟨k, hk, ?_⟩
  unfold gs
  rw [List.getD_eq_getElem?_getD, List.getElem?_eq_getElem hk, e]
  rfl
/-- one more than the last column below c with a pin; 0: none -/
def bef (h : Nat → Bool) : Nat → Nat
  | 0 => 0
  | c + 1 => if h c then c + 1 else bef h c
def two (a b : Nat) : Int32 := (1 <<< (nI a &&& 31)) ||| (1 <<< (nI b &&& 31))
/-- the pieces of a net, up to a column -/
def cutL (p : Nat → Nat) (n : Nat) : Nat → List Sg
  | 0 => []
  | c + 1 => if hs p n c then (if bef (hs p n) c = 0 then cutL p n c else cutL p n c ++ [(n, bef (hs p n) c - 1, c, two (bef (hs p n) c - 1) c)]) else cutL p n c
def segsOf (p : Nat → Nat) (cuts : Bool) (n : Nat) : List Sg := if kindN p n = 3 then (if cuts then cutL p n 20 else [(n, fi (hs p n) 20, la (hs p n) 20, colsI p n 20)]) else []
def allS (p : Nat → Nat) (cuts : Bool) : Nat → List Sg
  | 0 => []
  | m + 1 => allS p cuts m ++ segsOf p cuts (m + 1)
theorem bef_le (h : Nat → Bool) : ∀ c, bef h c ≤ c
  | 0 => Nat.le_refl _
  | c + 1 => by
    have := bef_le h c
    unfold bef
    split <;> omega
theorem bef_z {h : Nat → Bool} : ∀ {c : Nat}, bef h c = 0 ↔ ∀ j, j < c → h j = false
  | 0 => ⟨(fun _ j hj => by omega), fun _ => rfl⟩
  | c + 1 => by
    unfold bef
    by_cases e : h c = true
    · rw [if_pos e]
      constructor
      · intro z; omega
      · intro z; rw [z c (by omega)] at e; cases e
    · rw [if_neg e, bef_z (c := c)]
      constructor
      · intro z j hj
        by_cases e2 : j = c
        · rw [e2]; simpa using e
        · exact z j (by omega)
      · intro z j hj; exact z j (by omega)
theorem bef_hs {h : Nat → Bool} : ∀ {c : Nat}, bef h c ≠ 0 → h (bef h c - 1) = true
  | 0, e => absurd rfl e
  | c + 1, e => by
    unfold bef at e ⊢
    by_cases q : h c = true
    · rw [if_pos q]; exact q
    · rw [if_neg q] at e ⊢; exact bef_hs e
/-- a first column -/
theorem bef_fi {h : Nat → Bool} {c : Nat} (h1 : ∀ j, j < c → h j = false) (h2 : h c = true) : bef h (c + 1) = c + 1 := by
  unfold bef
  rw [if_pos h2]
theorem cutL_fi {p : Nat → Nat} {n c : Nat} : (∀ j, j < c → hs p n j = false) → cutL p n c = [] := by
  induction c with
  | zero => intro _; rfl
  | succ c ih =>
    intro h
    unfold cutL
    rw [if_neg (by rw [h c (by omega)]; decide)]
    exact ih fun j hj => h j (by omega)
theorem cutL_fi1 {p : Nat → Nat} {n c : Nat} (h1 : ∀ j, j < c → hs p n j = false) : cutL p n (c + 1) = [] := by
  unfold cutL
  rw [bef_z.mpr h1, if_pos rfl, cutL_fi h1]
  split <;> rfl
theorem cutL_len (p : Nat → Nat) (n : Nat) : ∀ c, (cutL p n c).length ≤ fb_ct (hs p n) c
  | 0 => Nat.le_refl _
  | c + 1 => by
    have := cutL_len p n c
    rw [fb_ct_succ]
    unfold cutL
    by_cases e : hs p n c = true
    · rw [if_pos e, if_pos e]
      split
      · omega
      · rw [List.length_append]
        show (cutL p n c).length + 1 ≤ _
        omega
    · rw [if_neg e, if_neg e]; omega
theorem hs_pins (p : Nat → Nat) (n : Nat) : ∀ m, fb_ct (hs p n) m ≤ fb_ct (fun k => p k == n) m + fb_ct (fun k => p (20 + k) == n) m
  | 0 => Nat.le_refl _
  | m + 1 => by
    have := hs_pins p n m
    rw [fb_ct_succ, fb_ct_succ, fb_ct_succ]
    unfold hs
    by_cases e1 : (p m == n) = true
    · simp only [e1, Bool.true_or, if_true]
      split <;> (unfold hs at this; omega)
    · by_cases e2 : (p (20 + m) == n) = true
      · simp only [e2, Bool.or_true, if_true]
        split <;> (unfold hs at this; omega)
      · simp only [Bool.not_eq_true] at e1 e2
        simp only [e1, e2, Bool.false_or, Bool.false_eq_true, if_false]
        unfold hs at this; omega
theorem segsOf_len (p : Nat → Nat) (cuts : Bool) (n : Nat) : (segsOf p cuts n).length ≤ pinsN p n := by
  unfold segsOf
  split
  · next h3 =>
    split
    · have h1 := cutL_len p n 20
      have h2 := hs_pins p n 20
      rw [pinsN_split]
      omega
    · show 1 ≤ _
      unfold kindN at h3
      split at h3 <;> omega
  · exact Nat.zero_le _
/-- pins of the first nets -/
def psum (p : Nat → Nat) (K : Nat) : Nat → Nat
  | 0 => 0
  | m + 1 => psum p K m + fb_ct (fun k => p k == m + 1) K
theorem psum_s (p : Nat → Nat) (K : Nat) : ∀ m, psum p (K + 1) m = psum p K m + (if 1 ≤ p K ∧ p K ≤ m then 1 else 0)
  | 0 => by
    unfold psum
    rw [if_neg (by omega)]
  | m + 1 => by
    show psum p (K + 1) m + fb_ct (fun k => p k == m + 1) (K + 1) = psum p K m + fb_ct (fun k => p k == m + 1) K + _
    rw [psum_s p K m, fb_ct_succ]
    by_cases e : p K = m + 1
    · rw [if_neg (by omega), if_pos (by simpa using e), if_pos (by omega)]
      omega
    · rw [if_neg (c := (p K == m + 1) = true) (by simpa using e)]
      by_cases e2 : 1 ≤ p K ∧ p K ≤ m
      · rw [if_pos e2, if_pos (by omega)]; omega
      · rw [if_neg e2, if_neg (by omega)]; omega
theorem psum_le (p : Nat → Nat) (m : Nat) : ∀ K, psum p K m ≤ K
  | 0 => by
    have : ∀ m, psum p 0 m = 0 := fun m => by
      induction m with
      | zero => rfl
      | succ m ih => unfold psum; rw [ih]; rfl
    rw [this]; exact Nat.le_refl _
  | K + 1 => by
    have := psum_le p m K
    rw [psum_s]
    split <;> omega
theorem allS_psum (p : Nat → Nat) (cuts : Bool) : ∀ m, (allS p cuts m).length ≤ psum p 40 m
  | 0 => Nat.le_refl _
  | m + 1 => by
    have h1 := allS_psum p cuts m
    have h2 := segsOf_len p cuts (m + 1)
    unfold allS psum
    rw [List.length_append]
    unfold pinsN at h2
    omega
theorem allS_len (p : Nat → Nat) (cuts : Bool) (m : Nat) : (allS p cuts m).length ≤ 40 := Nat.le_trans (allS_psum p cuts m) (psum_le p m 40)
/-- what a segment is -/
def okS (p : Nat → Nat) (cuts : Bool) (x : Sg) : Prop := (1 ≤ x.1 ∧ x.1 ≤ 9) ∧ x.2.1 ≤ x.2.2.1 ∧ x.2.2.1 < 20 ∧ ∀ c, c < 20 → bt x.2.2.2 c = true → hs p x.1 c = true
theorem okS_mk {p : Nat → Nat} {cuts : Bool} {n a b : Nat} {t : Int32} (h1 : 1 ≤ n ∧ n ≤ 9) (h2 : a ≤ b) (h3 : b < 20) (h4 : ∀ c, c < 20 → bt t c = true → hs p n c = true) : okS p cuts (n, a, b, t) := ⟨h1, h2, h3, h4⟩
theorem two_bt {a b i : Nat} (ha : a < 32) (hb : b < 32) (hi : i < 32) : bt (two a b) i = (decide (i = a) || decide (i = b)) := by
  unfold two
  rw [b_or, bt_one ha hi, bt_one hb hi]
theorem cutL_ok {p : Nat → Nat} {n : Nat} (h1 : 1 ≤ n) (h9 : n ≤ 9) : ∀ c, c ≤ 20 → ∀ x, x ∈ cutL p n c → okS p true x
  | 0, _, x, hx => by cases hx
  | c + 1, hc, x, hx => by
    have ih := cutL_ok (p := p) h1 h9 c (by omega)
    unfold cutL at hx
    split at hx
    · next e =>
      split at hx
      · exact ih x hx
      · next e0 =>
        rcases List.mem_append.mp hx with z | z
        · exact ih x z
        · rw [List.mem_singleton] at z
          have hb := bef_le (hs p n) c
          subst z
          refine ⟨⟨h1, h9⟩, ?_, by show c < 20; omega, ?_⟩
          · show bef (hs p n) c - 1 ≤ c
            omega
          · intro k hk hbt
            have hbt : bt (two (bef (hs p n) c - 1) c) k = true := hbt
            rw [two_bt (by omega) (by omega) (by omega), Bool.or_eq_true, decide_eq_true_eq, decide_eq_true_eq] at hbt
            rcases hbt with q | q
            · rw [q]; exact bef_hs e0
            · rw [q]; exact e
    · exact ih x hx
theorem segsOf_ok {p : Nat → Nat} {cuts : Bool} {n : Nat} (h1 : 1 ≤ n) (h9 : n ≤ 9) {x : Sg} (hx : x ∈ segsOf p cuts n) : okS p cuts x := by
  unfold segsOf at hx
  split at hx
  · next h3 =>
    split at hx
    · next hc => 
      have := cutL_ok h1 h9 20 (Nat.le_refl _) x hx
      exact this
    · rw [List.mem_singleton] at hx
      have hex := kind3_ex h3
      obtain ⟨l1, l2, l3⟩ := la_spec hex
      obtain ⟨f1, f2, f3⟩ := fi_spec (hs p n) 20
      subst hx
      refine okS_mk ⟨h1, h9⟩ ?_ l1 ?_
      · rcases Nat.lt_or_ge (la (hs p n) 20) (fi (hs p n) 20) with z | z
        · rw [f2 _ z] at l2; cases l2
        · exact z
      · intro c hc hb
        rw [cols_hs hc] at hb
        exact hb
  · cases hx
theorem allS_ok {p : Nat → Nat} {cuts : Bool} : ∀ m, m ≤ 9 → ∀ x, x ∈ allS p cuts m → okS p cuts x
  | 0, _, x, hx => by cases hx
  | m + 1, hm, x, hx => by
    unfold allS at hx
    rcases List.mem_append.mp hx with z | z
    · exact allS_ok m (by omega) x z
    · exact segsOf_ok (by omega) hm z
end
section
/-! the router's plan -/
def Fr {α : Type} (S : Nat → Nat → Prop) (f f' : Nat → Nat → α) : Prop := ∀ o k, ¬ S o k → f' o k = f o k
theorem Fr.rfl' {α : Type} {S : Nat → Nat → Prop} {f : Nat → Nat → α} : Fr S f f := fun _ _ _ => rfl
theorem Fr.tr {α : Type} {S : Nat → Nat → Prop} {f g h : Nat → Nat → α} (h1 : Fr S f g) (h2 : Fr S g h) : Fr S f h := fun o k z => (h2 o k z).trans (h1 o k z)
theorem Fr.mono {α : Type} {S T : Nat → Nat → Prop} {f g : Nat → Nat → α} (h1 : Fr S f g) (h2 : ∀ o k, S o k → T o k) : Fr T f g := fun o k z => h1 o k fun q => z (h2 o k q)
theorem Fr.u {α : Type} {S : Nat → Nat → Prop} {f : Nat → Nat → α} {o k : Nat} {v : α} (h : S o k) : Fr S f (pj_u2 f o k v) := fun a b z => pj_u2_ne _ _ fun q => z (by rw [q.1, q.2]; exact h)
def TR (tr : Nat) : Nat → Nat → Prop := fun o _ => tr ≤ o ∧ o < tr + 42
theorem pvX.fr {p : Nat → Nat} {I I' : pj_SI} {tr : Nat} (h : pvX p I) (ht : isP tr) (hf : Fr (TR tr) I I') : pvX p I' := by
  have q : ∀ o, o < 4 → ∀ k, I' o k = I o k := fun o ho k => hf o k (fun z => by rcases ht with rfl | rfl <;> (unfold TR at z; omega))
  intro c hc
  rw [q 2 (by decide), q 3 (by decide)]
  exact h c hc
def begI (I : pj_SI) (s : Nat) (n a b t : Int32) : pj_SI := pj_u2 (pj_u2 (pj_u2 (pj_u2 (pj_u2 I s 0 n) s 1 a) s 2 b) s 3 (-1)) s 4 t
def begJ (J : pj_SJ) (s : Nat) : pj_SJ := pj_u2 (pj_u2 J s 5 0) s 6 0
section BEG
variable {I : pj_SI} {J : pj_SJ} {s : Nat} {n a b t : Int32}
theorem begI_ne {o k : Nat} (h : o ≠ s) : begI I s n a b t o k = I o k := by
  unfold begI
  rw [u2n _ _ h, u2n _ _ h, u2n _ _ h, u2n _ _ h, u2n _ _ h]
theorem begI_0 : begI I s n a b t s 0 = n := by
  unfold begI
  rw [u2k _ _ (by decide), u2k _ _ (by decide), u2k _ _ (by decide), u2k _ _ (by decide), pj_u2_self]
theorem begI_1 : begI I s n a b t s 1 = a := by
  unfold begI
  rw [u2k _ _ (by decide), u2k _ _ (by decide), u2k _ _ (by decide), pj_u2_self]
theorem begI_2 : begI I s n a b t s 2 = b := by
  unfold begI
  rw [u2k _ _ (by decide), u2k _ _ (by decide), pj_u2_self]
theorem begI_3 : begI I s n a b t s 3 = -1 := by
  unfold begI
  rw [u2k _ _ (by decide), pj_u2_self]
theorem begI_4 : begI I s n a b t s 4 = t := by
  unfold begI
  rw [pj_u2_self]
theorem begJ_ne {o k : Nat} (h : o ≠ s) : begJ J s o k = J o k := by
  unfold begJ
  rw [u2n _ _ h, u2n _ _ h]
theorem begJ_5 : begJ J s s 5 = 0 := by
  unfold begJ
  rw [u2k _ _ (by decide), pj_u2_self]
theorem begJ_6 : begJ J s s 6 = 0 := by
  unfold begJ
  rw [pj_u2_self]
end BEG
def SX (tr : Nat) (I : pj_SI) (J : pj_SJ) (l : List Sg) : Prop := I tr 1 = nI l.length ∧ I tr 2 = 0 ∧ ∀ k, k < l.length →
  I (tr + 2 + k) 0 = nI (gs l k).1 ∧ I (tr + 2 + k) 1 = nI (gs l k).2.1 ∧ I (tr + 2 + k) 2 = nI (gs l k).2.2.1 ∧ I (tr + 2 + k) 3 = -1 ∧ I (tr + 2 + k) 4 = (gs l k).2.2.2 ∧ J (tr + 2 + k) 5 = 0 ∧ J (tr + 2 + k) 6 = 0
section PLX
variable {L d n0 : Nat} {I : pj_SI} {J : pj_SJ} {pl tr rg fr : Nat} {p : Nat → Nat} {l : List Sg} {n a b : Nat}
theorem SX.add (h : SX tr I J l) : SX tr (begI (pj_u2 I tr 1 (nI (l.length + 1))) (tr + 2 + l.length) (nI n) (nI a) (nI b) (two a b)) (begJ J (tr + 2 + l.length)) (l ++ [(n, a, b, two a b)]) := by
  obtain ⟨h1, h0, h2⟩ := h
  refine ⟨?_, ?_, fun k hk => ?_⟩
  · rw [begI_ne (by omega), pj_u2_self, List.length_append]
    rfl
  · rw [begI_ne (by omega), u2k _ _ (by decide)]
    exact h0
  · rw [List.length_append] at hk
    have hk : k < l.length + 1 := hk
    by_cases e : k = l.length
    · subst e
      rw [gs_eq]
      exact ⟨begI_0, begI_1, begI_2, begI_3, begI_4, begJ_5, begJ_6⟩
    · have hne : tr + 2 + k ≠ tr + 2 + l.length := by omega
      rw [gs_lt (by omega), begI_ne hne, begI_ne hne, begI_ne hne, begI_ne hne, begI_ne hne, begJ_ne hne, begJ_ne hne, u2n _ _ (by omega), u2n _ _ (by omega), u2n _ _ (by omega), u2n _ _ (by omega), u2n _ _ (by omega)]
      exact h2 k (by omega)
theorem SX.setT {t t' : Int32} (h : SX tr I J (l ++ [(n, a, b, t)])) : SX tr (pj_u2 I (tr + 2 + l.length) 4 t') J (l ++ [(n, a, b, t')]) := by
  obtain ⟨h1, h0, h2⟩ := h
  refine ⟨?_, ?_, fun k hk => ?_⟩
  · rw [u2n _ _ (by omega), h1, List.length_append, List.length_append]
    rfl
  · rw [u2n _ _ (by omega)]
    exact h0
  · rw [List.length_append] at hk
    have hk : k < l.length + 1 := hk
    have := h2 k (by rw [List.length_append]; exact hk)
    by_cases e : k = l.length
    · subst e
      rw [gs_eq] at this
      rw [gs_eq, u2k _ _ (by decide), u2k _ _ (by decide), u2k _ _ (by decide), u2k _ _ (by decide), pj_u2_self]
      exact ⟨this.1, this.2.1, this.2.2.1, this.2.2.2.1, rfl, this.2.2.2.2.2⟩
    · have hne : tr + 2 + k ≠ tr + 2 + l.length := by omega
      rw [gs_lt (by omega)] at this
      rw [gs_lt (by omega), u2n _ _ hne, u2n _ _ hne, u2n _ _ hne, u2n _ _ hne, u2n _ _ hne]
      exact this
theorem c_begin {k : Nat} (ht : isP tr) (hk : k < 40) :
    pj_Ev L d gX3_begin 0 [.val (.ref (tr + 2 + k)), .val (.int (nI n)), .val (.int (nI a)), .val (.int (nI b))] [] (xS n0 I J pl tr rg fr) (.inl none, xS n0 (begI I (tr + 2 + k) (nI n) (nI a) (nI b) (two a b)) (begJ J (tr + 2 + k)) pl tr rg fr) := by
  refine ev_b 2 rfl ?_
  refine ev_ps 0 _ ht hk (by decide) rfl rfl ?_
  refine ev_b 2 rfl ?_
  refine ev_ps 1 _ ht hk (by decide) rfl rfl ?_
  refine ev_b 2 rfl ?_
  refine ev_ps 2 _ ht hk (by decide) rfl rfl ?_
  refine ev_b 2 rfl ?_
  refine ev_ps 3 _ ht hk (by decide) rfl rfl ?_
  refine ev_b 8 rfl ?_
  refine ev_ps 4 _ ht hk (by decide) rfl rfl ?_
  refine ev_b 2 rfl ?_
  refine ev_psl 5 _ ht hk (Or.inl rfl) rfl rfl ?_
  refine ev_b 2 rfl ?_
  refine ev_psl 6 _ ht hk (Or.inr rfl) rfl rfl ?_
  exact ev_ret rfl rfl rfl
theorem c_add (ht : isP tr) {m : Nat} (hm : I tr 1 = nI m) (hk : m < 40) :
    pj_Ev L (d + 1) gX2_add 0 [.val (.ref tr), .val (.int (nI n)), .val (.int (nI a)), .val (.int (nI b)), .unset] [] (xS n0 I J pl tr rg fr) (.inl (some (.ref (tr + 2 + m))), xS n0 (begI (pj_u2 I tr 1 (nI (m + 1))) (tr + 2 + m) (nI n) (nI a) (nI b) (two a b)) (begJ J (tr + 2 + m)) pl tr rg fr) := by
  refine ev_b 1 rfl ?_
  refine ev_ga ht rfl rfl ?_
  refine ev_b 2 rfl ?_
  refine ev_gp 1 _ ht hm (Or.inl rfl) rfl rfl ?_
  refine ev_b 3 rfl ?_
  refine ev_pp 1 _ ht (Or.inl rfl) rfl rfl ?_
  refine ev_as ht hk rfl ?_
  refine ev_b 5 rfl ?_
  refine ev_co rfl (pj_rcv_seg rfl rfl ht hk) (c_begin ht hk) ?_
  refine ev_b 1 rfl ?_
  rw [nI_succ m]
  exact ev_ret rfl rfl rfl
end PLX
end
section
/-! the router's cut -/
theorem cutL_s (p : Nat → Nat) (n c : Nat) : cutL p n (c + 1) = if hs p n c then (if bef (hs p n) c = 0 then cutL p n c else cutL p n c ++ [(n, bef (hs p n) c - 1, c, two (bef (hs p n) c - 1) c)]) else cutL p n c := rfl
theorem bef_s (h : Nat → Bool) (c : Nat) : bef h (c + 1) = if h c then c + 1 else bef h c := rfl
theorem cutL_up (p : Nat → Nat) (n c : Nat) : ∀ k, (cutL p n c).length ≤ (cutL p n (c + k)).length
  | 0 => Nat.le_refl _
  | k + 1 => by
    refine Nat.le_trans (cutL_up p n c k) ?_
    show _ ≤ (cutL p n (c + k + 1)).length
    rw [cutL_s]
    split
    · split
      · exact Nat.le_refl _
      · rw [List.length_append]; omega
    · exact Nat.le_refl _
theorem TR_at {tr m k : Nat} (h : m < 42) : TR tr (tr + m) k := ⟨by omega, by omega⟩
theorem Fr_beg {tr m : Nat} {I : pj_SI} {v n a b t : Int32} (hm : m < 40) : Fr (TR tr) I (begI (pj_u2 I tr 1 v) (tr + 2 + m) n a b t) := by
  intro o k z
  unfold TR at z
  rw [begI_ne (by omega), u2n _ _ (by omega)]
theorem Fr_begJ {tr m : Nat} {J : pj_SJ} (hm : m < 40) : Fr (TR tr) J (begJ J (tr + 2 + m)) := by
  intro o k z
  unfold TR at z
  rw [begJ_ne (by omega)]
section CUT
variable {L d n0 : Nat} {I : pj_SI} {J : pj_SJ} {pl tr rg fr : Nat} {p : Nat → Nat} {l : List Sg} {n : Nat}
theorem c_cut_t (hp : pvX p I) (hb : pvB p) (ht : isP tr) (hn : n ≤ 9) (h3 : kindN p n = 3) (hS : SX tr I J l) (hlen : (l ++ cutL p n 20).length ≤ 40) :
    ∃ I' J', pj_Ev L (d + 2) gX1_cut 0 [.val (.ref 1), .val (.int (nI n)), .val (.int (bI true)), .unset, .unset, .unset] [] (xS n0 I J pl tr rg fr) (.inl none, xS n0 I' J' pl tr rg fr) ∧ Fr (TR tr) I I' ∧ Fr (TR tr) J J' ∧ SX tr I' J' (l ++ cutL p n 20) := by
  have hex := kind3_ex h3
  obtain ⟨f1, f2, f3⟩ := fi_spec (hs p n) 20
  have cl := c_left (L := L) (d := d) (n0 := n0) (J := J) (pl := pl) (tr := tr) (rg := rg) (fr := fr) hp hb hn
  generalize hF : fi (hs p n) 20 = F at *
  have hF20 : F < 20 := by
    rcases Nat.lt_or_ge F 20 with z | z
    · exact z
    · obtain ⟨c, c1, c2⟩ := hex
      rw [f2 c (by omega)] at c2; cases c2
  have loop : ∀ m c (v w : Int32) (I : pj_SI) (J : pj_SJ), c + m = 20 → w = nI c → bef (hs p n) c ≠ 0 → v = nI (bef (hs p n) c - 1) → pvX p I → SX tr I J (l ++ cutL p n c) →
      ∃ I' J', pj_Ev L (d + 2) gX1_cut 35 [.val (.ref 1), .val (.int (nI n)), .val (.int (bI true)), .val (.int v), .val .null, .val (.int w)] [] (xS n0 I J pl tr rg fr) (.inl none, xS n0 I' J' pl tr rg fr) ∧ Fr (TR tr) I I' ∧ Fr (TR tr) J J' ∧ SX tr I' J' (l ++ cutL p n 20) := by
    intro m
    induction m with
    | zero =>
      intro c v w I J hc hw hb0 hv hp hS
      have hc : c = 20 := by omega
      subst hc; subst hw
      refine ⟨I, J, ?_, Fr.rfl', Fr.rfl', hS⟩
      refine ev_b 2 rfl ?_
      refine ev_ge 20 20 rfl rfl (by omega) (by omega) (fun _ => ?_) (fun h => by omega)
      exact ev_ret rfl rfl rfl
    | succ m ih =>
      intro c v w I J hc hw hb0 hv hp hS
      subst hw; subst hv
      have hbl := bef_le (hs p n) c
      by_cases hh : hs p n c = true
      · have e1 : cutL p n (c + 1) = cutL p n c ++ [(n, bef (hs p n) c - 1, c, two (bef (hs p n) c - 1) c)] := by rw [cutL_s, if_pos hh, if_neg hb0]
        have e2 : bef (hs p n) (c + 1) = c + 1 := by rw [bef_s, if_pos hh]
        have hlt : (l ++ cutL p n c).length < 40 := by
          have u := cutL_up p n (c + 1) m
          rw [show c + 1 + m = 20 by omega, e1, List.length_append] at u
          have u : (cutL p n c).length + 1 ≤ (cutL p n 20).length := u
          rw [List.length_append] at hlen ⊢
          omega
        have hS2 := hS.add (n := n) (a := bef (hs p n) c - 1) (b := c)
        rw [List.append_assoc, ← e1] at hS2
        obtain ⟨I', J', ev, g1, g2, g3⟩ := ih (c + 1) (nI c) (nI (c + 1)) _ _ (by omega) rfl (by omega) (by rw [e2]; rfl) (hp.fr ht (Fr_beg hlt)) hS2
        refine ⟨I', J', ?_, Fr.tr (Fr_beg hlt) g1, Fr.tr (Fr_begJ hlt) g2, g3⟩
        refine ev_b 2 rfl ?_
        refine ev_ge c 20 rfl rfl (by omega) (by omega) (fun h => by omega) (fun _ => ?_)
        refine ev_b 3 rfl ?_
        refine ev_c rfl (c_has (c := c) hp hb (by omega) hn) ?_
        refine ev_nz (hs p n c) rfl rfl (fun _ => ?_) (fun h => by rw [hh] at h; cases h)
        refine ev_b 1 rfl ?_
        refine ev_z true rfl rfl (fun h => by cases h) (fun _ => ?_)
        refine ev_b 5 rfl ?_
        refine ev_co rfl (pj_rcv_plan rfl rfl ht) (c_add ht hS.1 hlt) ?_
        refine ev_b 6 rfl ?_
        rw [nI_succ c] at ev
        exact ev
      · have e1 : cutL p n (c + 1) = cutL p n c := by rw [cutL_s, if_neg hh]
        have e2 : bef (hs p n) (c + 1) = bef (hs p n) c := by rw [bef_s, if_neg hh]
        obtain ⟨I', J', ev, g1, g2, g3⟩ := ih (c + 1) (nI (bef (hs p n) c - 1)) (nI (c + 1)) I J (by omega) rfl (by rw [e2]; exact hb0) (by rw [e2]) hp (by rw [e1]; exact hS)
        refine ⟨I', J', ?_, g1, g2, g3⟩
        refine ev_b 2 rfl ?_
        refine ev_ge c 20 rfl rfl (by omega) (by omega) (fun h => by omega) (fun _ => ?_)
        refine ev_b 3 rfl ?_
        refine ev_c rfl (c_has (c := c) hp hb (by omega) hn) ?_
        refine ev_nz (hs p n c) rfl rfl (fun h => absurd h hh) (fun h => ?_)
        refine ev_b 3 rfl ?_
        rw [nI_succ c] at ev
        exact ev
  have hFt := f3 hF20
  have e2 : bef (hs p n) (F + 1) = F + 1 := bef_fi f2 hFt
  obtain ⟨I', J', ev, g1, g2, g3⟩ := loop (19 - F) (F + 1) (nI F) (nI (F + 1)) I J (by omega) rfl (by omega) (by rw [e2]; rfl) hp (by rw [cutL_fi1 f2, List.append_nil]; exact hS)
  refine ⟨I', J', ?_, g1, g2, g3⟩
  refine ev_b 2 rfl ?_
  refine ev_c rfl cl ?_
  refine ev_b 2 rfl ?_
  refine ev_z true rfl rfl (fun h => by cases h) (fun _ => ?_)
  refine ev_b 7 rfl ?_
  rw [nI_succ F] at ev
  exact ev
theorem c_cut_f (hp : pvX p I) (hb : pvB p) (ht : isP tr) (hn : n ≤ 9) (h3 : kindN p n = 3) (hS : SX tr I J l) (hlen : l.length < 40) :
    ∃ I' J', pj_Ev L (d + 2) gX1_cut 0 [.val (.ref 1), .val (.int (nI n)), .val (.int (bI false)), .unset, .unset, .unset] [] (xS n0 I J pl tr rg fr) (.inl none, xS n0 I' J' pl tr rg fr) ∧ Fr (TR tr) I I' ∧ Fr (TR tr) J J' ∧ SX tr I' J' (l ++ [(n, fi (hs p n) 20, la (hs p n) 20, colsI p n 20)]) := by
  have hex := kind3_ex h3
  obtain ⟨f1, f2, f3⟩ := fi_spec (hs p n) 20
  obtain ⟨l1, l2, l3⟩ := la_spec hex
  have cl := c_left (L := L) (d := d) (n0 := n0) (J := J) (pl := pl) (tr := tr) (rg := rg) (fr := fr) hp hb hn
  have cr := c_right (L := L) (d := d) (n0 := n0) (J := J) (pl := pl) (tr := tr) (rg := rg) (fr := fr) hp hb hn hex
  have hC := colsI_bt p n 20 (Nat.le_refl _)
  generalize hCe : colsI p n 20 = C at *
  generalize hF : fi (hs p n) 20 = F at *
  generalize hLa : la (hs p n) 20 = A at *
  have hF20 : F < 20 := by
    rcases Nat.lt_or_ge F 20 with z | z
    · exact z
    · obtain ⟨c, c1, c2⟩ := hex
      rw [f2 c (by omega)] at c2; cases c2
  have hFt := f3 hF20
  have loop : ∀ m c (X w v : Int32) (I : pj_SI), c + m = 20 → w = nI c → (∀ i, i < 32 → bt X i = (decide (i = F) || decide (i = A) || (decide (i < c) && hs p n i))) → pvX p I → SX tr I (begJ J (tr + 2 + l.length)) (l ++ [(n, F, A, X)]) →
      ∃ I' J', pj_Ev L (d + 2) gX1_cut 35 [.val (.ref 1), .val (.int (nI n)), .val (.int (bI false)), .val (.int v), .val (.ref (tr + 2 + l.length)), .val (.int w)] [] (xS n0 I (begJ J (tr + 2 + l.length)) pl tr rg fr) (.inl none, xS n0 I' J' pl tr rg fr) ∧ Fr (TR tr) I I' ∧ Fr (TR tr) (begJ J (tr + 2 + l.length)) J' ∧ SX tr I' J' (l ++ [(n, F, A, C)]) := by
    intro m
    induction m with
    | zero =>
      intro c X w v I hc hw hX hp hS
      have hc : c = 20 := by omega
      subst hc; subst hw
      have e : X = C := b_ext fun i hi => by
        rw [hX i hi, hC i hi]
        by_cases q1 : i = F
        · subst q1; simp [hF20, hFt]
        · by_cases q2 : i = A
          · subst q2; simp [l1, l2]
          · simp [q1, q2]
      rw [e] at hS
      refine ⟨I, begJ J (tr + 2 + l.length), ?_, Fr.rfl', Fr.rfl', hS⟩
      refine ev_b 2 rfl ?_
      refine ev_ge 20 20 rfl rfl (by omega) (by omega) (fun _ => ?_) (fun h => by omega)
      exact ev_ret rfl rfl rfl
    | succ m ih =>
      intro c X w v I hc hw hX hp hS
      subst hw
      have h4 := (hS.2.2 l.length (by rw [List.length_append]; exact Nat.lt_succ_self _)).2.2.2.2.1
      rw [gs_eq] at h4
      have h4 : I (tr + 2 + l.length) 4 = X := h4
      by_cases hh : hs p n c = true
      · have hX2 : ∀ i, i < 32 → bt (X ||| (1 <<< (nI c &&& 31))) i = (decide (i = F) || decide (i = A) || (decide (i < c + 1) && hs p n i)) := fun i hi => by
          rw [b_or, hX i hi, bt_one (by omega) hi]
          by_cases q : i = c
          · subst q; simp [hh]
          · have : i < c + 1 ↔ i < c := by omega
            simp [q, this]
        have fr4 : Fr (TR tr) I (pj_u2 I (tr + 2 + l.length) 4 (X ||| (1 <<< (nI c &&& 31)))) := Fr.u (by rw [Nat.add_assoc]; exact TR_at (by omega))
        obtain ⟨I', J', ev, g1, g2, g3⟩ := ih (c + 1) _ (nI (c + 1)) (nI c) _ (by omega) rfl hX2 (hp.fr ht fr4) hS.setT
        refine ⟨I', J', ?_, Fr.tr fr4 g1, g2, g3⟩
        refine ev_b 2 rfl ?_
        refine ev_ge c 20 rfl rfl (by omega) (by omega) (fun h => by omega) (fun _ => ?_)
        refine ev_b 3 rfl ?_
        refine ev_c rfl (c_has (c := c) hp hb (by omega) hn) ?_
        refine ev_nz (hs p n c) rfl rfl (fun _ => ?_) (fun h => by rw [hh] at h; cases h)
        refine ev_b 1 rfl ?_
        refine ev_z false rfl rfl (fun _ => ?_) (fun h => by cases h)
        refine ev_b 2 rfl ?_
        refine ev_gs 4 _ ht hlen h4 (by decide) rfl rfl ?_
        refine ev_b 4 rfl ?_
        refine ev_ps 4 _ ht hlen (by decide) rfl rfl ?_
        refine ev_b 4 rfl ?_
        rw [nI_succ c] at ev
        exact ev
      · have hX2 : ∀ i, i < 32 → bt X i = (decide (i = F) || decide (i = A) || (decide (i < c + 1) && hs p n i)) := fun i hi => by
          rw [hX i hi]
          by_cases q : i = c
          · subst q; simp [hh]
          · have : i < c + 1 ↔ i < c := by omega
            simp [this]
        obtain ⟨I', J', ev, g1, g2, g3⟩ := ih (c + 1) X (nI (c + 1)) v I (by omega) rfl hX2 hp hS
        refine ⟨I', J', ?_, g1, g2, g3⟩
        refine ev_b 2 rfl ?_
        refine ev_ge c 20 rfl rfl (by omega) (by omega) (fun h => by omega) (fun _ => ?_)
        refine ev_b 3 rfl ?_
        refine ev_c rfl (c_has (c := c) hp hb (by omega) hn) ?_
        refine ev_nz (hs p n c) rfl rfl (fun h => absurd h hh) (fun h => ?_)
        refine ev_b 3 rfl ?_
        rw [nI_succ c] at ev
        exact ev
  have hX0 : ∀ i, i < 32 → bt (two F A) i = (decide (i = F) || decide (i = A) || (decide (i < F + 1) && hs p n i)) := fun i hi => by
    rw [two_bt (by omega) (by omega) hi]
    by_cases q : i = F
    · subst q; simp
    · by_cases q2 : i < F
      · simp [f2 i q2]
      · have : ¬ i < F + 1 := by omega
        simp [this]
  obtain ⟨I', J', ev, g1, g2, g3⟩ := loop (19 - F) (F + 1) (two F A) (nI (F + 1)) (nI F) _ (by omega) rfl hX0 (hp.fr ht (Fr_beg hlen)) (hS.add (n := n) (a := F) (b := A))
  refine ⟨I', J', ?_, Fr.tr (Fr_beg hlen) g1, Fr.tr (Fr_begJ hlen) g2, g3⟩
  refine ev_b 2 rfl ?_
  refine ev_c rfl cl ?_
  refine ev_b 2 rfl ?_
  refine ev_z false rfl rfl (fun _ => ?_) (fun h => by cases h)
  refine ev_b 6 rfl ?_
  refine ev_c rfl cr ?_
  refine ev_co rfl (pj_rcv_plan rfl rfl ht) (c_add ht hS.1 hlen) ?_
  refine ev_b 5 rfl ?_
  rw [nI_succ F] at ev
  exact ev
/-- one net -/
theorem c_cut {cuts : Bool} (hp : pvX p I) (hb : pvB p) (ht : isP tr) (hn : n ≤ 9) (h3 : kindN p n = 3) (hS : SX tr I J l) (hlen : (l ++ segsOf p cuts n).length ≤ 40) :
    ∃ I' J', pj_Ev L (d + 2) gX1_cut 0 [.val (.ref 1), .val (.int (nI n)), .val (.int (bI cuts)), .unset, .unset, .unset] [] (xS n0 I J pl tr rg fr) (.inl none, xS n0 I' J' pl tr rg fr) ∧ Fr (TR tr) I I' ∧ Fr (TR tr) J J' ∧ SX tr I' J' (l ++ segsOf p cuts n) := by
  unfold segsOf at hlen ⊢
  rw [if_pos h3] at hlen ⊢
  cases cuts with
  | true =>
    rw [if_pos rfl] at hlen ⊢
    exact c_cut_t hp hb ht hn h3 hS hlen
  | false =>
    rw [if_neg (by decide)] at hlen ⊢
    rw [List.length_append] at hlen
    have hlen : l.length + 1 ≤ 40 := hlen
    exact c_cut_f hp hb ht hn h3 hS (by omega)
end CUT
end
section
/-! the router's order, plan -/
def SI (tr : Nat) (I : pj_SI) (l : List Sg) : Prop := I tr 1 = nI l.length ∧ I tr 2 = 0 ∧ ∀ k, k < l.length →
  I (tr + 2 + k) 0 = nI (gs l k).1 ∧ I (tr + 2 + k) 1 = nI (gs l k).2.1 ∧ I (tr + 2 + k) 2 = nI (gs l k).2.2.1 ∧ I (tr + 2 + k) 3 = -1 ∧ I (tr + 2 + k) 4 = (gs l k).2.2.2
/-- below (5) and above (6) as bits -/
def JX (tr : Nat) (J : pj_SJ) (mn : Nat) (B : Nat → Nat → Bool) : Prop := ∀ x, x < mn → ∀ y, y < 64 → lb (J (tr + 2 + x) 5) y = (decide (y < mn) && B x y) ∧ lb (J (tr + 2 + x) 6) y = (decide (y < mn) && B y x)
def edgeC (p : Nat → Nat) (l : List Sg) (c a b : Nat) : Bool := ((gs l a).1 == p c && bt (gs l a).2.2.2 c) && ((gs l b).1 == p (20 + c) && bt (gs l b).2.2.2 c)
def colOk (p : Nat → Nat) (c : Nat) : Bool := p c != 0 && (p (20 + c) != 0 && p c != p (20 + c))
/-- what has to be above what, by the first columns -/
def relB (p : Nat → Nat) (l : List Sg) : Nat → Nat → Nat → Bool
  | 0, _, _ => false
  | c + 1, a, b => relB p l c a b || (colOk p c && edgeC p l c a b)
theorem SX.si {tr : Nat} {I : pj_SI} {J : pj_SJ} {l : List Sg} (h : SX tr I J l) : SI tr I l := ⟨h.1, h.2.1, fun k hk => by
  obtain ⟨q1, q2, q3, q4, q5, -⟩ := h.2.2 k hk
  exact ⟨q1, q2, q3, q4, q5⟩⟩
theorem SX.jx {tr : Nat} {I : pj_SI} {J : pj_SJ} {l : List Sg} (h : SX tr I J l) : JX tr J l.length (fun _ _ => false) := fun x hx y hy => by
  obtain ⟨-, -, -, -, -, q5, q6⟩ := h.2.2 x hx
  rw [q5, q6, l_0]
  simp
theorem JX.cong {tr mn : Nat} {J : pj_SJ} {B B' : Nat → Nat → Bool} (h : JX tr J mn B) (e : ∀ a, a < mn → ∀ b, b < mn → B a b = B' a b) : JX tr J mn B' := fun x hx y hy => by
  obtain ⟨q1, q2⟩ := h x hx y hy
  rw [q1, q2]
  by_cases z : y < mn
  · rw [e x hx y z, e y z x hx]; exact ⟨rfl, rfl⟩
  · simp [z]
theorem JX.add {tr mn x y : Nat} {J : pj_SJ} {B : Nat → Nat → Bool} (h : JX tr J mn B) (hmn : mn ≤ 40) (hx : x < mn) (hy : y < mn) :
    JX tr (pj_u2 (pj_u2 J (tr + 2 + x) 5 (J (tr + 2 + x) 5 ||| (1 <<< ((nI y).toInt64 &&& 63)))) (tr + 2 + y) 6 (J (tr + 2 + y) 6 ||| (1 <<< ((nI x).toInt64 &&& 63)))) mn (fun a b => B a b || (a == x && b == y)) := by
  intro a ha b hb
  obtain ⟨q1, q2⟩ := h a ha b hb
  constructor
  · rw [u2k _ _ (by decide)]
    by_cases e : a = x
    · subst e
      rw [pj_u2_self, l_or, q1, lb_one (by omega) hb]
      by_cases e2 : b = y
      · subst e2; simp [hy]
      · simp [beq_false_of_ne e2, e2]
    · rw [u2n _ _ (by omega), q1]
      simp [beq_false_of_ne e]
  · by_cases e : a = y
    · subst e
      rw [pj_u2_self, l_or, q2, lb_one (by omega) hb]
      by_cases e2 : b = x
      · subst e2; simp [hx]
      · simp [beq_false_of_ne e2, e2]
    · rw [u2n _ _ (by omega), u2k _ _ (by decide), q2]
      simp [beq_false_of_ne e]
section ORD
variable {L d n0 : Nat} {I : pj_SI} {J : pj_SJ} {pl tr rg fr : Nat} {p : Nat → Nat} {l : List Sg}
theorem c_order {B : Nat → Nat → Bool} (hp : pvX p I) (hb : pvB p) (ht : isP tr) (hS : SI tr I l) (h40 : l.length ≤ 40) (h9 : ∀ k, k < l.length → (gs l k).1 ≤ 9) (hJ : JX tr J l.length B) {c : Nat} (hc : c < 20) :
    ∃ J', pj_Ev L (d + 1) gX1_order 0 [.val (.ref 1), .val (.int (nI c)), .unset, .unset, .unset, .unset] [] (xS n0 I J pl tr rg fr) (.inl none, xS n0 I J' pl tr rg fr) ∧ Fr (TR tr) J J' ∧ JX tr J' l.length (fun a b => B a b || edgeC p l c a b) := by
  obtain ⟨h1, -, h2⟩ := hS
  have b1 := hb c (by omega)
  have b2 := hb (20 + c) (by omega)
  have outer : ∀ m x (w : Int32) (s3 s4 s5 : Slot) (J : pj_SJ), x + m = l.length → w = nI x → JX tr J l.length (fun a b => B a b || (decide (a < x) && edgeC p l c a b)) →
      ∃ J', pj_Ev L (d + 1) gX1_order 2 [.val (.ref 1), .val (.int (nI c)), .val (.int w), s3, s4, s5] [] (xS n0 I J pl tr rg fr) (.inl none, xS n0 I J' pl tr rg fr) ∧ Fr (TR tr) J J' ∧ JX tr J' l.length (fun a b => B a b || edgeC p l c a b) := by
    intro m
    induction m with
    | zero =>
      intro x w s3 s4 s5 J hx hw hJ
      have hx : x = l.length := by omega
      subst hx; subst hw
      refine ⟨J, ?_, Fr.rfl', hJ.cong fun a ha b hb => by simp [ha]⟩
      refine ev_b 3 rfl ?_
      refine ev_gp 1 _ ht h1 (Or.inl rfl) rfl rfl ?_
      refine ev_ge l.length l.length rfl rfl (by omega) (by omega) (fun _ => ?_) (fun h => by omega)
      exact ev_ret rfl rfl rfl
    | succ m ih =>
      intro x w s3 s4 s5 J hx hw hJ
      subst hw
      have hxm : x < l.length := by omega
      have hx40 : x < 40 := by omega
      obtain ⟨g0, g1, g2, g3, g4⟩ := h2 x hxm
      have n9 := h9 x hxm
      -- nothing at x
      have skip : ((gs l x).1 == p c && bt (gs l x).2.2.2 c) = false → ∀ (s3 s4 s5 : Slot), ∃ J', pj_Ev L (d + 1) gX1_order 132 [.val (.ref 1), .val (.int (nI c)), .val (.int (nI x)), s3, s4, s5] [] (xS n0 I J pl tr rg fr) (.inl none, xS n0 I J' pl tr rg fr) ∧ Fr (TR tr) J J' ∧ JX tr J' l.length (fun a b => B a b || edgeC p l c a b) := by
        intro hno s3 s4 s5
        obtain ⟨J', ev, q1, q2⟩ := ih (x + 1) (nI (x + 1)) s3 s4 s5 J (by omega) rfl (hJ.cong fun a ha b hb => by
          by_cases e : a = x
          · subst e
            have : edgeC p l c a b = false := by unfold edgeC; rw [hno]; rfl
            simp [this]
          · have : a < x + 1 ↔ a < x := by omega
            simp [this])
        refine ⟨J', ?_, q1, q2⟩
        refine ev_b 2 rfl ?_
        rw [nI_succ x] at ev
        exact ev
      have inner : ((gs l x).1 == p c && bt (gs l x).2.2.2 c) = true → ∀ m2 y (w : Int32) (s5 : Slot) (J : pj_SJ), y + m2 = l.length → w = nI y → JX tr J l.length (fun a b => B a b || (decide (a < x) && edgeC p l c a b) || (a == x && (decide (b < y) && edgeC p l c a b))) →
          ∃ J', pj_Ev L (d + 1) gX1_order 50 [.val (.ref 1), .val (.int (nI c)), .val (.int (nI x)), .val (.ref (tr + 2 + x)), .val (.int w), s5] [] (xS n0 I J pl tr rg fr) (.inl none, xS n0 I J' pl tr rg fr) ∧ Fr (TR tr) J J' ∧ JX tr J' l.length (fun a b => B a b || edgeC p l c a b) := by
        intro hyes m2
        induction m2 with
        | zero =>
          intro y w s5 J hy hw hJ
          have hy : y = l.length := by omega
          subst hy; subst hw
          obtain ⟨J', ev, q1, q2⟩ := ih (x + 1) (nI (x + 1)) (.val (.ref (tr + 2 + x))) (.val (.int (nI l.length))) s5 J (by omega) rfl (hJ.cong fun a ha b hb => by
            by_cases e : a = x
            · subst e
              simp [hb]
            · have : a < x + 1 ↔ a < x := by omega
              simp [this, beq_false_of_ne e])
          refine ⟨J', ?_, q1, q2⟩
          refine ev_b 3 rfl ?_
          refine ev_gp 1 _ ht h1 (Or.inl rfl) rfl rfl ?_
          refine ev_ge l.length l.length rfl rfl (by omega) (by omega) (fun _ => ?_) (fun h => by omega)
          refine ev_b 2 rfl ?_
          rw [nI_succ x] at ev
          exact ev
        | succ m2 ih2 =>
          intro y w s5 J hy hw hJ
          subst hw
          have hym : y < l.length := by omega
          have hy40 : y < 40 := by omega
          obtain ⟨k0, k1, k2, k3, k4⟩ := h2 y hym
          have ny9 := h9 y hym
          by_cases e : ((gs l y).1 == p (20 + c) && bt (gs l y).2.2.2 c) = true
          · have he : edgeC p l c x y = true := by unfold edgeC; rw [hyes, e]; rfl
            have hJ2 := (hJ.add h40 hxm hym).cong (B' := fun a b => B a b || (decide (a < x) && edgeC p l c a b) || (a == x && (decide (b < y + 1) && edgeC p l c a b))) fun a ha b hb => by
              by_cases q : a = x
              · subst q
                by_cases q2 : b = y
                · subst q2; simp [he]
                · have : b < y + 1 ↔ b < y := by omega
                  simp [beq_false_of_ne q2, this]
              · simp [beq_false_of_ne q]
            obtain ⟨J', ev, q1, q2⟩ := ih2 (y + 1) (nI (y + 1)) (.val (.ref (tr + 2 + y))) _ (by omega) rfl hJ2
            refine ⟨J', ?_, Fr.tr (Fr.tr (Fr.u (by rw [Nat.add_assoc]; exact TR_at (by omega))) (Fr.u (by rw [Nat.add_assoc]; exact TR_at (by omega)))) q1, q2⟩
            rw [Bool.and_eq_true, beq_iff_eq] at e
            refine ev_b 3 rfl ?_
            refine ev_gp 1 _ ht h1 (Or.inl rfl) rfl rfl ?_
            refine ev_ge y l.length rfl rfl (by omega) (by omega) (fun h => by omega) (fun _ => ?_)
            refine ev_b 2 rfl ?_
            refine ev_ga ht rfl rfl ?_
            refine ev_b 1 rfl ?_
            refine ev_as ht hy40 rfl ?_
            refine ev_b 2 rfl ?_
            refine ev_gs 0 _ ht hy40 k0 (by decide) rfl rfl ?_
            refine ev_b 3 rfl ?_
            refine ev_ia 3 c _ (hp c hc).2 rfl rfl rfl hc (by omega) ?_
            refine ev_ne (gs l y).1 (p (20 + c)) rfl rfl (by omega) (by omega) (fun h => absurd e.1 h) (fun _ => ?_)
            refine ev_b 2 rfl ?_
            refine ev_co rfl (pj_rcv_seg rfl rfl ht hy40) (c_touch ht hy40 (by omega)) ?_
            rw [k4, e.2]
            refine ev_nz true rfl rfl (fun _ => ?_) (fun h => by cases h)
            refine ev_b 2 rfl ?_
            refine ev_gsl 5 _ ht hx40 rfl (Or.inl rfl) rfl rfl ?_
            refine ev_b 4 rfl ?_
            refine ev_psl 5 _ ht hx40 (Or.inl rfl) rfl rfl ?_
            refine ev_b 2 rfl ?_
            refine ev_gsl 6 _ ht hy40 (u2k _ _ (by decide)) (Or.inr rfl) rfl rfl ?_
            refine ev_b 4 rfl ?_
            refine ev_psl 6 _ ht hy40 (Or.inr rfl) rfl rfl ?_
            refine ev_b 2 rfl ?_
            rw [nI_succ y] at ev
            exact ev
          · have he : edgeC p l c x y = false := by unfold edgeC; rw [hyes]; simpa using e
            obtain ⟨J', ev, q1, q2⟩ := ih2 (y + 1) (nI (y + 1)) (.val (.ref (tr + 2 + y))) J (by omega) rfl (hJ.cong fun a ha b hb => by
              by_cases q : a = x
              · subst q
                by_cases q2 : b = y
                · subst q2; simp [he]
                · have : b < y + 1 ↔ b < y := by omega
                  simp [this]
              · simp [beq_false_of_ne q])
            refine ⟨J', ?_, q1, q2⟩
            refine ev_b 3 rfl ?_
            refine ev_gp 1 _ ht h1 (Or.inl rfl) rfl rfl ?_
            refine ev_ge y l.length rfl rfl (by omega) (by omega) (fun h => by omega) (fun _ => ?_)
            refine ev_b 2 rfl ?_
            refine ev_ga ht rfl rfl ?_
            refine ev_b 1 rfl ?_
            refine ev_as ht hy40 rfl ?_
            refine ev_b 2 rfl ?_
            refine ev_gs 0 _ ht hy40 k0 (by decide) rfl rfl ?_
            refine ev_b 3 rfl ?_
            refine ev_ia 3 c _ (hp c hc).2 rfl rfl rfl hc (by omega) ?_
            rw [nI_succ y] at ev
            refine ev_ne (gs l y).1 (p (20 + c)) rfl rfl (by omega) (by omega) (fun _ => ev_b 2 rfl ev) (fun h => ?_)
            refine ev_b 2 rfl ?_
            refine ev_co rfl (pj_rcv_seg rfl rfl ht hy40) (c_touch ht hy40 (by omega)) ?_
            have e2 : bt (gs l y).2.2.2 c = false := by
              rw [h] at e
              simpa using e
            rw [k4, e2]
            refine ev_nz false rfl rfl (fun h => by cases h) (fun _ => ?_)
            exact ev_b 3 rfl ev
      have head : ∀ {J' : pj_SJ}, (¬ (gs l x).1 = p c → pj_Ev L (d + 1) gX1_order 132 [.val (.ref 1), .val (.int (nI c)), .val (.int (nI x)), .val (.ref (tr + 2 + x)), s4, s5] [] (xS n0 I J pl tr rg fr) (.inl none, xS n0 I J' pl tr rg fr)) →
          ((gs l x).1 = p c → bt (gs l x).2.2.2 c = false → pj_Ev L (d + 1) gX1_order 132 [.val (.ref 1), .val (.int (nI c)), .val (.int (nI x)), .val (.ref (tr + 2 + x)), s4, s5] [] (xS n0 I J pl tr rg fr) (.inl none, xS n0 I J' pl tr rg fr)) →
          ((gs l x).1 = p c → bt (gs l x).2.2.2 c = true → pj_Ev L (d + 1) gX1_order 47 [.val (.ref 1), .val (.int (nI c)), .val (.int (nI x)), .val (.ref (tr + 2 + x)), s4, s5] [] (xS n0 I J pl tr rg fr) (.inl none, xS n0 I J' pl tr rg fr)) →
          pj_Ev L (d + 1) gX1_order 2 [.val (.ref 1), .val (.int (nI c)), .val (.int (nI x)), s3, s4, s5] [] (xS n0 I J pl tr rg fr) (.inl none, xS n0 I J' pl tr rg fr) := by
        intro J' z1 z2 z3
        refine ev_b 3 rfl ?_
        refine ev_gp 1 _ ht h1 (Or.inl rfl) rfl rfl ?_
        refine ev_ge x l.length rfl rfl (by omega) (by omega) (fun h => by omega) (fun _ => ?_)
        refine ev_b 2 rfl ?_
        refine ev_ga ht rfl rfl ?_
        refine ev_b 1 rfl ?_
        refine ev_as ht hx40 rfl ?_
        refine ev_b 2 rfl ?_
        refine ev_gs 0 _ ht hx40 g0 (by decide) rfl rfl ?_
        refine ev_b 3 rfl ?_
        refine ev_ia 2 c _ (hp c hc).1 rfl rfl rfl hc (by omega) ?_
        refine ev_ne (gs l x).1 (p c) rfl rfl (by omega) (by omega) (fun h => z1 h) (fun h => ?_)
        refine ev_b 2 rfl ?_
        refine ev_co rfl (pj_rcv_seg rfl rfl ht hx40) (c_touch ht hx40 (by omega)) ?_
        rw [g4]
        refine ev_nz _ rfl rfl (fun q => z3 h q) (fun q => ?_)
        exact ev_b 1 rfl (z2 h q)
      by_cases e : ((gs l x).1 == p c && bt (gs l x).2.2.2 c) = true
      · obtain ⟨J', ev, q1, q2⟩ := inner e l.length 0 (nI 0) s5 J (by omega) rfl (hJ.cong fun a ha b hb => by simp)
        refine ⟨J', ?_, q1, q2⟩
        rw [Bool.and_eq_true, beq_iff_eq] at e
        refine head (fun h => absurd e.1 h) (fun _ h => by rw [e.2] at h; cases h) (fun _ _ => ?_)
        exact ev_b 2 rfl ev
      · rw [Bool.not_eq_true] at e
        obtain ⟨J', ev, q1, q2⟩ := skip e (.val (.ref (tr + 2 + x))) s4 s5
        refine ⟨J', ?_, q1, q2⟩
        refine head (fun _ => ev) (fun _ _ => ev) (fun h h2 => ?_)
        rw [h, h2] at e
        simp at e
  obtain ⟨J', ev, q1, q2⟩ := outer l.length 0 (nI 0) .unset .unset .unset J (by omega) rfl (hJ.cong fun a ha b hb => by simp)
  exact ⟨J', ev_b 2 rfl ev, q1, q2⟩
end ORD
section PLN
variable {L d n0 : Nat} {I : pj_SI} {J : pj_SJ} {pl tr rg fr : Nat} {p : Nat → Nat}
theorem c_plan {cuts : Bool} (hp : pvX p I) (hb : pvB p) (ht : isP tr) :
    ∃ I' J', pj_Ev L (d + 3) gX1_plan 0 [.val (.ref 1), .val (.int (bI cuts)), .unset] [] (xS n0 I J pl tr rg fr) (.inl none, xS n0 I' J' pl tr rg fr) ∧ Fr (TR tr) I I' ∧ Fr (TR tr) J J' ∧ SI tr I' (allS p cuts 9) ∧ JX tr J' (allS p cuts 9).length (relB p (allS p cuts 9) 20) := by
  have h40 := allS_len p cuts 9
  have h9 : ∀ k, k < (allS p cuts 9).length → (gs (allS p cuts 9) k).1 ≤ 9 := fun k hk => (allS_ok 9 (Nat.le_refl _) _ (gs_mem hk)).1.2
  -- columns
  have cols : ∀ m c (w : Int32) (I : pj_SI) (J : pj_SJ), c + m = 20 → w = nI c → pvX p I → SI tr I (allS p cuts 9) → JX tr J (allS p cuts 9).length (relB p (allS p cuts 9) c) →
      ∃ J', pj_Ev L (d + 3) gX1_plan 47 [.val (.ref 1), .val (.int (bI cuts)), .val (.int w)] [] (xS n0 I J pl tr rg fr) (.inl none, xS n0 I J' pl tr rg fr) ∧ Fr (TR tr) J J' ∧ JX tr J' (allS p cuts 9).length (relB p (allS p cuts 9) 20) := by
    generalize allS p cuts 9 = l at *
    intro m
    induction m with
    | zero =>
      intro c w I J hc hw hp hS hJ
      have hc : c = 20 := by omega
      subst hc; subst hw
      refine ⟨J, ?_, Fr.rfl', hJ⟩
      refine ev_b 2 rfl ?_
      refine ev_ge 20 20 rfl rfl (by omega) (by omega) (fun _ => ?_) (fun h => by omega)
      exact ev_ret rfl rfl rfl
    | succ m ih =>
      intro c w I J hc hw hp hS hJ
      subst hw
      have hc20 : c < 20 := by omega
      have b1 := hb c (by omega)
      have b2 := hb (20 + c) (by omega)
      by_cases hok : colOk p c = true
      · obtain ⟨J1, ev1, q1, q2⟩ := c_order (L := L) (d := d + 1) (n0 := n0) (pl := pl) (rg := rg) (fr := fr) hp hb ht hS h40 h9 hJ hc20
        obtain ⟨J', ev, q3, q4⟩ := ih (c + 1) (nI (c + 1)) I J1 (by omega) rfl hp hS (q2.cong fun a ha b hb => by
          show _ = (relB p l c a b || (colOk p c && edgeC p l c a b))
          rw [hok, Bool.true_and])
        refine ⟨J', ?_, Fr.tr q1 q3, q4⟩
        unfold colOk at hok
        simp only [Bool.and_eq_true, bne_iff_ne] at hok
        rw [nI_succ c] at ev
        refine ev_b 2 rfl ?_
        refine ev_ge c 20 rfl rfl (by omega) (by omega) (fun h => by omega) (fun _ => ?_)
        refine ev_b 3 rfl ?_
        refine ev_ia 2 c _ (hp c hc20).1 rfl rfl rfl hc20 (by omega) ?_
        refine ev_zn (p c) (by omega) rfl rfl (fun h => absurd h hok.1) (fun _ => ?_)
        refine ev_b 3 rfl ?_
        refine ev_ia 3 c _ (hp c hc20).2 rfl rfl rfl hc20 (by omega) ?_
        refine ev_zn (p (20 + c)) (by omega) rfl rfl (fun h => absurd h hok.2.1) (fun _ => ?_)
        refine ev_b 3 rfl ?_
        refine ev_ia 2 c _ (hp c hc20).1 rfl rfl rfl hc20 (by omega) ?_
        refine ev_b 3 rfl ?_
        refine ev_ia 3 c _ (hp c hc20).2 rfl rfl rfl hc20 (by omega) ?_
        refine ev_eq (p c) (p (20 + c)) rfl rfl (by omega) (by omega) (fun h => absurd h hok.2.2) (fun _ => ?_)
        refine ev_b 2 rfl ?_
        refine ev_c rfl ev1 ?_
        exact ev_b 2 rfl ev
      · obtain ⟨J', ev, q3, q4⟩ := ih (c + 1) (nI (c + 1)) I J (by omega) rfl hp hS (hJ.cong fun a ha b hb => by
          show _ = (relB p l c a b || (colOk p c && edgeC p l c a b))
          rw [Bool.not_eq_true] at hok
          rw [hok, Bool.false_and, Bool.or_false])
        refine ⟨J', ?_, q3, q4⟩
        rw [nI_succ c] at ev
        refine ev_b 2 rfl ?_
        refine ev_ge c 20 rfl rfl (by omega) (by omega) (fun h => by omega) (fun _ => ?_)
        refine ev_b 3 rfl ?_
        refine ev_ia 2 c _ (hp c hc20).1 rfl rfl rfl hc20 (by omega) ?_
        refine ev_zn (p c) (by omega) rfl rfl (fun _ => ev_b 2 rfl ev) (fun z1 => ?_)
        refine ev_b 3 rfl ?_
        refine ev_ia 3 c _ (hp c hc20).2 rfl rfl rfl hc20 (by omega) ?_
        refine ev_zn (p (20 + c)) (by omega) rfl rfl (fun _ => ev_b 2 rfl ev) (fun z2 => ?_)
        refine ev_b 3 rfl ?_
        refine ev_ia 2 c _ (hp c hc20).1 rfl rfl rfl hc20 (by omega) ?_
        refine ev_b 3 rfl ?_
        refine ev_ia 3 c _ (hp c hc20).2 rfl rfl rfl hc20 (by omega) ?_
        refine ev_eq (p c) (p (20 + c)) rfl rfl (by omega) (by omega) (fun _ => ev_b 2 rfl ev) (fun z3 => ?_)
        exact absurd (by unfold colOk; simp [z1, z2, z3]) hok
  have nets : ∀ m k (w : Int32) (I : pj_SI) (J : pj_SJ), k + m = 9 → w = nI (k + 1) → pvX p I → SX tr I J (allS p cuts k) →
      ∃ I' J', pj_Ev L (d + 3) gX1_plan 18 [.val (.ref 1), .val (.int (bI cuts)), .val (.int w)] [] (xS n0 I J pl tr rg fr) (.inl none, xS n0 I' J' pl tr rg fr) ∧ Fr (TR tr) I I' ∧ Fr (TR tr) J J' ∧ SI tr I' (allS p cuts 9) ∧ JX tr J' (allS p cuts 9).length (relB p (allS p cuts 9) 20) := by
    intro m
    induction m with
    | zero =>
      intro k w I J hk hw hp hS
      have hk : k = 9 := by omega
      subst hk; subst hw
      obtain ⟨J', ev, q1, q2⟩ := cols 20 0 (nI 0) I J rfl rfl hp hS.si (hS.jx.cong fun _ _ _ _ => rfl)
      refine ⟨I, J', ?_, Fr.rfl', q1, hS.si, q2⟩
      refine ev_b 2 rfl ?_
      refine ev_ge 10 10 rfl rfl (by omega) (by omega) (fun _ => ?_) (fun h => by omega)
      exact ev_b 2 rfl ev
    | succ m ih =>
      intro k w I J hk hw hp hS
      subst hw
      have hkd := kindN_le p (k + 1)
      have hle := allS_len p cuts (k + 1)
      by_cases h3 : kindN p (k + 1) = 3
      · obtain ⟨I1, J1, ev1, q1, q2, q3⟩ := c_cut (L := L) (d := d) (n0 := n0) (pl := pl) (rg := rg) (fr := fr) (cuts := cuts) hp hb ht (by omega) h3 hS hle
        obtain ⟨I', J', ev, q4, q5, q6⟩ := ih (k + 1) (nI (k + 1 + 1)) I1 J1 (by omega) rfl (hp.fr ht q1) q3
        refine ⟨I', J', ?_, Fr.tr q1 q4, Fr.tr q2 q5, q6⟩
        rw [nI_succ (k + 1)] at ev
        refine ev_b 2 rfl ?_
        refine ev_ge (k + 1) 10 rfl rfl (by omega) (by omega) (fun h => by omega) (fun _ => ?_)
        refine ev_b 2 rfl ?_
        refine ev_c rfl (c_kind hp hb (by omega)) ?_
        refine ev_b 1 rfl ?_
        refine ev_ne (kindN p (k + 1)) 3 rfl rfl (by omega) (by omega) (fun h => absurd h3 h) (fun _ => ?_)
        refine ev_b 3 rfl ?_
        refine ev_c rfl ev1 ?_
        exact ev_b 2 rfl ev
      · have e : allS p cuts (k + 1) = allS p cuts k := by
          show allS p cuts k ++ segsOf p cuts (k + 1) = _
          unfold segsOf
          rw [if_neg h3, List.append_nil]
        obtain ⟨I', J', ev, q4, q5, q6⟩ := ih (k + 1) (nI (k + 1 + 1)) I J (by omega) rfl hp (by rw [e]; exact hS)
        refine ⟨I', J', ?_, q4, q5, q6⟩
        rw [nI_succ (k + 1)] at ev
        refine ev_b 2 rfl ?_
        refine ev_ge (k + 1) 10 rfl rfl (by omega) (by omega) (fun h => by omega) (fun _ => ?_)
        refine ev_b 2 rfl ?_
        refine ev_c rfl (c_kind hp hb (by omega)) ?_
        refine ev_b 1 rfl ?_
        refine ev_ne (kindN p (k + 1)) 3 rfl rfl (by omega) (by omega) (fun _ => ?_) (fun h => absurd h h3)
        exact ev_b 2 rfl ev
  have hf0 : Fr (TR tr) I (pj_u2 (pj_u2 I tr 1 (nI 0)) tr 2 (nI 0)) := Fr.tr (Fr.u (TR_at (m := 0) (by decide))) (Fr.u (TR_at (m := 0) (by decide)))
  obtain ⟨I', J', ev, q4, q5, q6⟩ := nets 9 0 (nI 1) (pj_u2 (pj_u2 I tr 1 (nI 0)) tr 2 (nI 0)) J rfl rfl (hp.fr ht hf0) ⟨by rw [u2k _ _ (by decide), pj_u2_self]; rfl, pj_u2_self _ _ _ _, fun k hk => by cases hk⟩
  refine ⟨I', J', ?_, Fr.tr hf0 q4, q5, q6⟩
  refine ev_b 3 rfl ?_
  refine ev_pp 1 _ ht (Or.inl rfl) rfl rfl ?_
  refine ev_b 3 rfl ?_
  refine ev_pp 2 _ ht (Or.inr rfl) rfl rfl ?_
  exact ev_b 2 rfl ev
end PLN
end
section
/-! the model's segments -/
def TM : Nat → Nat → Prop := fun o k => (o = 131 ∧ k = 2) ∨ (133 ≤ o ∧ o ≤ 136)
def TJ : Nat → Nat → Prop := fun o _ => o = 137
def segI (I : pj_SI) (m : Nat) (n a b t : Int32) : pj_SI := pj_u2 (pj_u2 (pj_u2 (pj_u2 (pj_u2 I 133 m n) 134 m a) 135 m b) 136 m t) 131 2 (nI (m + 1))
def SM (I : pj_SI) (l : List Sg) : Prop := I 131 2 = nI l.length ∧ ∀ k, k < l.length → I 133 k = nI (gs l k).1 ∧ I 134 k = nI (gs l k).2.1 ∧ I 135 k = nI (gs l k).2.2.1 ∧ I 136 k = (gs l k).2.2.2
theorem pvM.fr {p : Nat → Nat} {I I' : pj_SI} (h : pvM p I) (hf : Fr TM I I') : pvM p I' := fun k hk => by
  rw [hf 132 k (fun z => by unfold TM at z; omega)]
  exact h k hk
theorem Fr_seg {I : pj_SI} {m : Nat} {n a b t : Int32} : Fr TM I (segI I m n a b t) := by
  unfold segI
  exact Fr.tr (Fr.tr (Fr.tr (Fr.tr (Fr.u (Or.inr ⟨by decide, by decide⟩)) (Fr.u (Or.inr ⟨by decide, by decide⟩))) (Fr.u (Or.inr ⟨by decide, by decide⟩))) (Fr.u (Or.inr ⟨by decide, by decide⟩))) (Fr.u (Or.inl ⟨rfl, rfl⟩))
theorem SM.add {I : pj_SI} {l : List Sg} {n a b : Nat} {t : Int32} (h : SM I l) : SM (segI I l.length (nI n) (nI a) (nI b) t) (l ++ [(n, a, b, t)]) := by
  obtain ⟨h1, h2⟩ := h
  unfold segI
  refine ⟨?_, fun k hk => ?_⟩
  · rw [pj_u2_self, List.length_append]
    rfl
  · rw [List.length_append] at hk
    have hk : k < l.length + 1 := hk
    by_cases e : k = l.length
    · subst e
      rw [gs_eq]
      refine ⟨?_, ?_, ?_, ?_⟩
      · rw [u2n _ _ (by decide), u2n _ _ (by decide), u2n _ _ (by decide), u2n _ _ (by decide), pj_u2_self]
      · rw [u2n _ _ (by decide), u2n _ _ (by decide), u2n _ _ (by decide), pj_u2_self]
      · rw [u2n _ _ (by decide), u2n _ _ (by decide), pj_u2_self]
      · rw [u2n _ _ (by decide), pj_u2_self]
    · rw [gs_lt (by omega)]
      obtain ⟨q1, q2, q3, q4⟩ := h2 k (by omega)
      refine ⟨?_, ?_, ?_, ?_⟩
      · rw [u2n _ _ (by decide), u2n _ _ (by decide), u2n _ _ (by decide), u2n _ _ (by decide), u2k _ _ e]; exact q1
      · rw [u2n _ _ (by decide), u2n _ _ (by decide), u2n _ _ (by decide), u2k _ _ e, u2n _ _ (by decide)]; exact q2
      · rw [u2n _ _ (by decide), u2n _ _ (by decide), u2k _ _ e, u2n _ _ (by decide), u2n _ _ (by decide)]; exact q3
      · rw [u2n _ _ (by decide), u2k _ _ e, u2n _ _ (by decide), u2n _ _ (by decide), u2n _ _ (by decide)]; exact q4
section MKS
variable {L d n0 : Nat} {I : pj_SI} {J : pj_SJ} {pl tr rg fr : Nat} {p : Nat → Nat} {l : List Sg}
theorem m_segmentOf {m : Nat} {n a b t : Int32} (hm : I 131 2 = nI m) (hk : m < 40) :
    pj_Ev L d gX4_segmentOf 0 [.val (.ref 131), .val (.int n), .val (.int a), .val (.int b), .val (.int t)] [] (xS n0 I J pl tr rg fr) (.inl none, xS n0 (segI I m n a b t) J pl tr rg fr) := by
  have e : I 131 2 + nI 1 = nI (m + 1) := by rw [hm, nI_add]
  unfold segI
  refine ev_b 5 rfl ?_
  show pj_Ev L d gX4_segmentOf 9 _ [.int n, .int (I 131 2), .ref 133] _ _
  rw [hm]
  refine ev_is 133 m n rfl rfl (by decide) rfl hk (by omega) ?_
  refine ev_b 5 rfl ?_
  show pj_Ev L d gX4_segmentOf 19 _ [.int a, .int (I 131 2), .ref 134] _ _
  rw [hm]
  refine ev_is 134 m a rfl rfl (by decide) rfl hk (by omega) ?_
  refine ev_b 5 rfl ?_
  show pj_Ev L d gX4_segmentOf 29 _ [.int b, .int (I 131 2), .ref 135] _ _
  rw [hm]
  refine ev_is 135 m b rfl rfl (by decide) rfl hk (by omega) ?_
  refine ev_b 5 rfl ?_
  show pj_Ev L d gX4_segmentOf 40 _ [.int t, .int (I 131 2), .ref 136] _ _
  rw [hm]
  refine ev_is 136 m t rfl rfl (by decide) rfl hk (by omega) ?_
  rw [← e]
  refine ev_b 6 (σ' := xS n0 (pj_u2 (pj_u2 (pj_u2 (pj_u2 (pj_u2 I 133 m n) 134 m a) 135 m b) 136 m t) 131 2 (I 131 2 + nI 1)) J pl tr rg fr) rfl ?_
  exact ev_ret rfl rfl rfl
theorem m_makeSegments {cuts : Bool} (hp : pvM p I) (hb : pvB p) :
    ∃ I', pj_Ev L (d + 2) gX4_makeSegments 0 [.val (.ref 131), .val (.int (bI cuts)), .unset, .unset, .unset, .unset] [] (xS n0 I J pl tr rg fr) (.inl none, xS n0 I' J pl tr rg fr) ∧ Fr TM I I' ∧ SM I' (allS p cuts 9) := by
  have nets : ∀ m k (w : Int32) (s3 s4 s5 : Slot) (I : pj_SI), k + m = 9 → w = nI (k + 1) → pvM p I → SM I (allS p cuts k) →
      ∃ I', pj_Ev L (d + 2) gX4_makeSegments 7 [.val (.ref 131), .val (.int (bI cuts)), .val (.int w), s3, s4, s5] [] (xS n0 I J pl tr rg fr) (.inl none, xS n0 I' J pl tr rg fr) ∧ Fr TM I I' ∧ SM I' (allS p cuts 9) := by
    intro m
    induction m with
    | zero =>
      intro k w s3 s4 s5 I hk hw hp hS
      have hk : k = 9 := by omega
      subst hk; subst hw
      refine ⟨I, ?_, Fr.rfl', hS⟩
      refine ev_b 2 rfl ?_
      refine ev_gt 10 9 rfl rfl (by omega) (by omega) (fun _ => ?_) (fun h => by omega)
      exact ev_ret rfl rfl rfl
    | succ m ih =>
      intro k w s3 s4 s5 I hk hw hp hS
      subst hw
      have hkd := kindN_le p (k + 1)
      have hle := allS_len p cuts (k + 1)
      have e0 : allS p cuts (k + 1) = allS p cuts k ++ segsOf p cuts (k + 1) := rfl
      -- out of the net
      have out : ∀ (I : pj_SI) (s3 s4 s5 : Slot), pvM p I → SM I (allS p cuts (k + 1)) → ∃ I', pj_Ev L (d + 2) gX4_makeSegments 115 [.val (.ref 131), .val (.int (bI cuts)), .val (.int (nI (k + 1))), s3, s4, s5] [] (xS n0 I J pl tr rg fr) (.inl none, xS n0 I' J pl tr rg fr) ∧ Fr TM I I' ∧ SM I' (allS p cuts 9) := by
        intro I s3 s4 s5 hp hS
        obtain ⟨I', ev, q1, q2⟩ := ih (k + 1) (nI (k + 1 + 1)) s3 s4 s5 I (by omega) rfl hp hS
        refine ⟨I', ?_, q1, q2⟩
        rw [nI_succ (k + 1)] at ev
        exact ev_b 2 rfl ev
      by_cases h3 : kindN p (k + 1) = 3
      · have hex := kind3_ex h3
        have eS : segsOf p cuts (k + 1) = if cuts then cutL p (k + 1) 20 else [(k + 1, fi (hs p (k + 1)) 20, la (hs p (k + 1)) 20, colsI p (k + 1) 20)] := by
          unfold segsOf
          rw [if_pos h3]
        cases cuts with
        | false =>
          rw [if_neg (by decide)] at eS
          rw [eS] at e0
          have hlt : (allS p false k).length < 40 := by
            rw [e0, List.length_append] at hle
            exact hle
          have hS2 := hS.add (n := k + 1) (a := fi (hs p (k + 1)) 20) (b := la (hs p (k + 1)) 20) (t := colsI p (k + 1) 20)
          rw [← e0] at hS2
          obtain ⟨I', ev, q1, q2⟩ := out _ (.val (.int (colsI p (k + 1) 20))) (.val (.int (-1))) (.val (.int 0)) (hp.fr Fr_seg) hS2
          refine ⟨I', ?_, Fr.tr Fr_seg q1, q2⟩
          refine ev_b 2 rfl ?_
          refine ev_gt (k + 1) 9 rfl rfl (by omega) (by omega) (fun h => by omega) (fun _ => ?_)
          refine ev_b 2 rfl ?_
          refine ev_c rfl (m_columns hp hb (by omega)) ?_
          refine ev_b 3 rfl ?_
          refine ev_c rfl (m_sort hp hb (by omega)) ?_
          refine ev_b 1 rfl ?_
          refine ev_ne (kindN p (k + 1)) 3 rfl rfl (by omega) (by omega) (fun h => absurd h3 h) (fun _ => ?_)
          refine ev_b 1 rfl ?_
          refine ev_nz false rfl rfl (fun h => by cases h) (fun _ => ?_)
          refine ev_b 3 rfl ?_
          refine ev_c rfl (m_lowestN hex) ?_
          refine ev_b 1 rfl ?_
          refine ev_c rfl (m_highestN hex) ?_
          refine ev_b 1 rfl ?_
          refine ev_c rfl (m_segmentOf hS.1 hlt) ?_
          refine ev_b 4 rfl ?_
          refine ev_b 2 rfl ?_
          refine ev_ge 0 20 rfl rfl (by omega) (by omega) (fun h => by omega) (fun _ => ?_)
          refine ev_b 2 rfl ?_
          refine ev_c rfl (m_sort (hp.fr Fr_seg) hb (by omega)) ?_
          refine ev_b 1 rfl ?_
          refine ev_ne (kindN p (k + 1)) 3 rfl rfl (by omega) (by omega) (fun h => absurd h3 h) (fun _ => ?_)
          refine ev_b 1 rfl ?_
          refine ev_z false rfl rfl (fun _ => ev) (fun h => by cases h)
        | true =>
          rw [if_pos rfl] at eS
          rw [eS] at e0
          have cols : ∀ m2 c (v w : Int32) (I : pj_SI), c + m2 = 20 → w = nI c → v = rI (bef (hs p (k + 1)) c) → pvM p I → SM I (allS p true k ++ cutL p (k + 1) c) →
              ∃ I', pj_Ev L (d + 2) gX4_makeSegments 52 [.val (.ref 131), .val (.int (bI true)), .val (.int (nI (k + 1))), .val (.int (colsI p (k + 1) 20)), .val (.int v), .val (.int w)] [] (xS n0 I J pl tr rg fr) (.inl none, xS n0 I' J pl tr rg fr) ∧ Fr TM I I' ∧ SM I' (allS p true 9) := by
            intro m2
            induction m2 with
            | zero =>
              intro c v w I hc hw hv hp hS
              have hc : c = 20 := by omega
              subst hc; subst hw
              rw [← e0] at hS
              obtain ⟨I', ev, q1, q2⟩ := out I (.val (.int (colsI p (k + 1) 20))) (.val (.int v)) (.val (.int (nI 20))) hp hS
              refine ⟨I', ?_, q1, q2⟩
              refine ev_b 2 rfl ?_
              exact ev_ge 20 20 rfl rfl (by omega) (by omega) (fun _ => ev) (fun h => by omega)
            | succ m2 ih2 =>
              intro c v w I hc hw hv hp hS
              subst hw; subst hv
              have hbl := bef_le (hs p (k + 1)) c
              have hc20 : c < 20 := by omega
              have head : ∀ {I' : pj_SI}, (hs p (k + 1) c = false → pj_Ev L (d + 2) gX4_makeSegments 109 [.val (.ref 131), .val (.int (bI true)), .val (.int (nI (k + 1))), .val (.int (colsI p (k + 1) 20)), .val (.int (rI (bef (hs p (k + 1)) c))), .val (.int (nI c))] [] (xS n0 I J pl tr rg fr) (.inl none, xS n0 I' J pl tr rg fr)) →
                  (hs p (k + 1) c = true → pj_Ev L (d + 2) gX4_makeSegments 82 [.val (.ref 131), .val (.int (bI true)), .val (.int (nI (k + 1))), .val (.int (colsI p (k + 1) 20)), .val (.int (rI (bef (hs p (k + 1)) c))), .val (.int (nI c))] [] (xS n0 I J pl tr rg fr) (.inl none, xS n0 I' J pl tr rg fr)) →
                  pj_Ev L (d + 2) gX4_makeSegments 52 [.val (.ref 131), .val (.int (bI true)), .val (.int (nI (k + 1))), .val (.int (colsI p (k + 1) 20)), .val (.int (rI (bef (hs p (k + 1)) c))), .val (.int (nI c))] [] (xS n0 I J pl tr rg fr) (.inl none, xS n0 I' J pl tr rg fr) := by
                intro I' z1 z2
                refine ev_b 2 rfl ?_
                refine ev_ge c 20 rfl rfl (by omega) (by omega) (fun h => by omega) (fun _ => ?_)
                refine ev_b 2 rfl ?_
                refine ev_c rfl (m_sort hp hb (by omega)) ?_
                refine ev_b 1 rfl ?_
                refine ev_ne (kindN p (k + 1)) 3 rfl rfl (by omega) (by omega) (fun h => absurd h3 h) (fun _ => ?_)
                refine ev_b 1 rfl ?_
                refine ev_z true rfl rfl (fun h => by cases h) (fun _ => ?_)
                refine ev_b 6 rfl ?_
                exact ev_ne1 (hs p (k + 1) c) (by rw [← cols_hs hc20]; exact bt_sh (by omega) _) rfl rfl z1 z2
              by_cases hh : hs p (k + 1) c = true
              · have e2 : bef (hs p (k + 1)) (c + 1) = c + 1 := by rw [bef_s, if_pos hh]
                by_cases hb0 : bef (hs p (k + 1)) c = 0
                · have e1 : cutL p (k + 1) (c + 1) = cutL p (k + 1) c := by rw [cutL_s, if_pos hh, if_pos hb0]
                  obtain ⟨I', ev, q1, q2⟩ := ih2 (c + 1) (nI c) (nI (c + 1)) I (by omega) rfl (by rw [e2, rI_s]) hp (by rw [e1]; exact hS)
                  refine ⟨I', head (fun h => by rw [hh] at h; cases h) (fun _ => ?_), q1, q2⟩
                  rw [nI_succ c] at ev
                  rw [hb0]
                  refine ev_b 1 rfl ?_
                  refine ev_if0 (rI 0) rfl rfl (fun _ => ?_) (fun h => absurd h (by decide))
                  exact ev_b 4 rfl ev
                · obtain ⟨r, hr⟩ : ∃ r, bef (hs p (k + 1)) c = r + 1 := ⟨bef (hs p (k + 1)) c - 1, by omega⟩
                  have e1 : cutL p (k + 1) (c + 1) = cutL p (k + 1) c ++ [(k + 1, r, c, two r c)] := by
                    rw [cutL_s, if_pos hh, if_neg hb0, hr]
                    rfl
                  have hlt : (allS p true k ++ cutL p (k + 1) c).length < 40 := by
                    have u := cutL_up p (k + 1) (c + 1) m2
                    rw [show c + 1 + m2 = 20 by omega, e1, List.length_append] at u
                    have u : (cutL p (k + 1) c).length + 1 ≤ (cutL p (k + 1) 20).length := u
                    rw [e0, List.length_append] at hle
                    rw [List.length_append]
                    omega
                  have hS2 := hS.add (n := k + 1) (a := r) (b := c) (t := two r c)
                  rw [List.append_assoc, ← e1] at hS2
                  obtain ⟨I', ev, q1, q2⟩ := ih2 (c + 1) (nI c) (nI (c + 1)) _ (by omega) rfl (by rw [e2, rI_s]) (hp.fr Fr_seg) hS2
                  refine ⟨I', head (fun h => by rw [hh] at h; cases h) (fun _ => ?_), Fr.tr Fr_seg q1, q2⟩
                  rw [nI_succ c] at ev
                  rw [hr, rI_s]
                  refine ev_b 1 rfl ?_
                  refine ev_ltn r (by omega) rfl rfl ?_
                  refine ev_b 11 rfl ?_
                  refine ev_c rfl (m_segmentOf hS.1 hlt) ?_
                  exact ev_b 4 rfl ev
              · have e2 : bef (hs p (k + 1)) (c + 1) = bef (hs p (k + 1)) c := by rw [bef_s, if_neg hh]
                have e1 : cutL p (k + 1) (c + 1) = cutL p (k + 1) c := by rw [cutL_s, if_neg hh]
                obtain ⟨I', ev, q1, q2⟩ := ih2 (c + 1) (rI (bef (hs p (k + 1)) c)) (nI (c + 1)) I (by omega) rfl (by rw [e2]) hp (by rw [e1]; exact hS)
                refine ⟨I', head (fun _ => ?_) (fun h => absurd h hh), q1, q2⟩
                rw [nI_succ c] at ev
                exact ev_b 2 rfl ev
          obtain ⟨I', ev, q1, q2⟩ := cols 20 0 (rI 0) (nI 0) I rfl rfl rfl hp (by
            show SM I (allS p true k ++ [])
            rw [List.append_nil]; exact hS)
          refine ⟨I', ?_, q1, q2⟩
          refine ev_b 2 rfl ?_
          refine ev_gt (k + 1) 9 rfl rfl (by omega) (by omega) (fun h => by omega) (fun _ => ?_)
          refine ev_b 2 rfl ?_
          refine ev_c rfl (m_columns hp hb (by omega)) ?_
          refine ev_b 3 rfl ?_
          refine ev_c rfl (m_sort hp hb (by omega)) ?_
          refine ev_b 1 rfl ?_
          refine ev_ne (kindN p (k + 1)) 3 rfl rfl (by omega) (by omega) (fun h => absurd h3 h) (fun _ => ?_)
          refine ev_b 1 rfl ?_
          refine ev_nz true rfl rfl (fun _ => ?_) (fun h => by cases h)
          exact ev_b 4 rfl ev
      · have eS : allS p cuts (k + 1) = allS p cuts k := by
          rw [e0]
          unfold segsOf
          rw [if_neg h3, List.append_nil]
        obtain ⟨I', ev, q1, q2⟩ := out I (.val (.int (colsI p (k + 1) 20))) (.val (.int (-1))) (.val (.int 0)) hp (by rw [eS]; exact hS)
        refine ⟨I', ?_, q1, q2⟩
        refine ev_b 2 rfl ?_
        refine ev_gt (k + 1) 9 rfl rfl (by omega) (by omega) (fun h => by omega) (fun _ => ?_)
        refine ev_b 2 rfl ?_
        refine ev_c rfl (m_columns hp hb (by omega)) ?_
        refine ev_b 3 rfl ?_
        refine ev_c rfl (m_sort hp hb (by omega)) ?_
        refine ev_b 1 rfl ?_
        refine ev_ne (kindN p (k + 1)) 3 rfl rfl (by omega) (by omega) (fun _ => ?_) (fun h => absurd h h3)
        refine ev_b 4 rfl ?_
        refine ev_b 2 rfl ?_
        refine ev_ge 0 20 rfl rfl (by omega) (by omega) (fun h => by omega) (fun _ => ?_)
        refine ev_b 2 rfl ?_
        refine ev_c rfl (m_sort hp hb (by omega)) ?_
        refine ev_b 1 rfl ?_
        exact ev_ne (kindN p (k + 1)) 3 rfl rfl (by omega) (by omega) (fun _ => ev) (fun h => absurd h h3)
  have f0 : Fr TM I (pj_u2 I 131 2 (nI 0)) := Fr.u (Or.inl ⟨rfl, rfl⟩)
  obtain ⟨I', ev, q1, q2⟩ := nets 9 0 (nI 1) .unset .unset .unset (pj_u2 I 131 2 (nI 0)) rfl rfl (hp.fr f0) ⟨pj_u2_self _ _ _ _, fun k hk => by cases hk⟩
  refine ⟨I', ?_, Fr.tr f0 q1, q2⟩
  exact ev_b 5 (σ' := xS n0 (pj_u2 I 131 2 (nI 0)) J pl tr rg fr) rfl ev
theorem m_touching (hS : SM I l) {s c a : Nat} (hs : s < l.length) (h40 : l.length ≤ 40) (h9 : (gs l s).1 ≤ 9) (hc : c < 20) (ha : a ≤ 9) :
    pj_Ev L d gX4_touching 0 [.val (.ref 131), .val (.int (nI s)), .val (.int (nI c)), .val (.int (nI a))] [] (xS n0 I J pl tr rg fr) (.inl (some (.int (bI ((gs l s).1 == a && bt (gs l s).2.2.2 c)))), xS n0 I J pl tr rg fr) := by
  obtain ⟨q1, -, -, q4⟩ := hS.2 s hs
  have hs40 : s < 40 := by omega
  refine ev_b 3 rfl ?_
  refine ev_ia 133 s _ q1 rfl rfl rfl hs40 (by omega) ?_
  refine ev_b 1 rfl ?_
  refine ev_ne (gs l s).1 a rfl rfl (by omega) (by omega) (fun h => ?_) (fun h => ?_)
  · rw [beq_false_of_ne h, Bool.false_and]
    refine ev_b 1 rfl ?_
    exact ev_ret rfl rfl rfl
  · rw [h, beq_self_eq_true, Bool.true_and]
    refine ev_b 3 rfl ?_
    refine ev_ia 136 s _ q4 rfl rfl rfl hs40 (by omega) ?_
    refine ev_b 5 rfl ?_
    refine ev_ne1 (bt (gs l s).2.2.2 c) (bt_sh (by omega) _) rfl rfl (fun z => ?_) (fun z => ?_)
    · rw [z]
      refine ev_b 1 rfl ?_
      exact ev_ret rfl rfl rfl
    · rw [z]
      refine ev_b 2 rfl ?_
      exact ev_ret rfl rfl rfl
end MKS
end
section
/-! the model's study: below as bits, and how many -/
def JM (J : pj_SJ) (mn : Nat) (B : Nat → Nat → Bool) (x : Nat) : Prop := ∀ a, a < x → ∀ y, y < 64 → lb (J 137 a) y = (decide (y < mn) && B a y)
def prs (B : Nat → Nat → Bool) (mn : Nat) : Nat → Nat := fb_sm (fun x => fb_ct (B x) mn)
section STU
variable {L d n0 : Nat} {I : pj_SI} {J : pj_SJ} {pl tr rg fr : Nat} {p : Nat → Nat} {l : List Sg}
theorem relB_s (p : Nat → Nat) (l : List Sg) (c a b : Nat) : relB p l (c + 1) a b = (relB p l c a b || (colOk p c && edgeC p l c a b)) := rfl
theorem m_study2 {cuts : Bool} (hp : pvM p I) (hb : pvB p) (hS : SM I l) (h40 : l.length ≤ 40) (h9 : ∀ k, k < l.length → (gs l k).1 ≤ 9) {s4 s5 s6 s7 s8 : Slot} :
    ∃ J', pj_Ev L (d + 1) gX4_study 9 [.val (.ref 131), .val (.int (bI cuts)), .val (.int (nI 0)), .val (.int (nI 0)), s4, s5, s6, s7, s8] [] (xS n0 I J pl tr rg fr) (.inl (some (.int (nI (prs (relB p l 20) l.length l.length)))), xS n0 I J' pl tr rg fr) ∧ Fr TJ J J' ∧ JM J' l.length (relB p l 20) l.length := by
  obtain ⟨h1, -⟩ := id hS
  generalize hR : prs (relB p l 20) l.length l.length = R
  have outer : ∀ m x (v w : Int32) (s4 s5 s6 s7 s8 : Slot) (J : pj_SJ), x + m = l.length → w = nI x → v = nI (prs (relB p l 20) l.length x) → JM J l.length (relB p l 20) x →
      ∃ J', pj_Ev L (d + 1) gX4_study 9 [.val (.ref 131), .val (.int (bI cuts)), .val (.int v), .val (.int w), s4, s5, s6, s7, s8] [] (xS n0 I J pl tr rg fr) (.inl (some (.int (nI R))), xS n0 I J' pl tr rg fr) ∧ Fr TJ J J' ∧ JM J' l.length (relB p l 20) l.length := by
    intro m
    induction m with
    | zero =>
      intro x v w s4 s5 s6 s7 s8 J hx hw hv hJ
      have hx : x = l.length := by omega
      subst hw; rw [hx] at hv hJ; rw [hR] at hv; subst hv
      refine ⟨J, ?_, Fr.rfl', hJ⟩
      refine ev_b 3 rfl ?_
      show pj_Ev L (d + 1) gX4_study 14 _ [.int (I 131 2), .int (nI x)] _ _
      rw [h1]
      refine ev_ge x l.length rfl rfl (by omega) (by omega) (fun _ => ?_) (fun h => by omega)
      refine ev_b 1 rfl ?_
      exact ev_ret rfl rfl rfl
    | succ m ih =>
      intro x v w s4 s5 s6 s7 s8 J hx hw hv hJ
      subst hw; subst hv
      have hxl : x < l.length := by omega
      have hx40 : x < 40 := by omega
      have inner : ∀ m2 y (v w : Int32) (s5 s6 s7 s8 : Slot) (J : pj_SJ), y + m2 = l.length → w = nI y → v = nI (prs (relB p l 20) l.length x + fb_ct (relB p l 20 x) y) → JM J l.length (relB p l 20) x → (∀ b, b < 64 → lb (J 137 x) b = (decide (b < y) && relB p l 20 x b)) →
          ∃ J', pj_Ev L (d + 1) gX4_study 27 [.val (.ref 131), .val (.int (bI cuts)), .val (.int v), .val (.int (nI x)), .val (.int w), s5, s6, s7, s8] [] (xS n0 I J pl tr rg fr) (.inl (some (.int (nI R))), xS n0 I J' pl tr rg fr) ∧ Fr TJ J J' ∧ JM J' l.length (relB p l 20) l.length := by
        intro m2
        induction m2 with
        | zero =>
          intro y v w s5 s6 s7 s8 J hy hw hv hJ hJx
          have hy : y = l.length := by omega
          subst hw; subst hv
          rw [hy] at hJx
          obtain ⟨J', ev, q1, q2⟩ := ih (x + 1) (nI (prs (relB p l 20) l.length (x + 1))) (nI (x + 1)) (.val (.int (nI y))) s5 s6 s7 s8 J (by omega) rfl rfl (fun a ha b hb => by
            by_cases e : a = x
            · rw [e]; exact hJx b hb
            · exact hJ a (by omega) b hb)
          refine ⟨J', ?_, q1, q2⟩
          refine ev_b 3 rfl ?_
          show pj_Ev L (d + 1) gX4_study 33 _ [.int (I 131 2), .int (nI y)] _ _
          rw [h1]
          refine ev_ge y l.length rfl rfl (by omega) (by omega) (fun _ => ?_) (fun h => by omega)
          refine ev_b 2 rfl ?_
          rw [nI_succ x] at ev
          rw [hy] at ev ⊢
          exact ev
        | succ m2 ih2 =>
          intro y v w s5 s6 s7 s8 J hy hw hv hJ hJx
          subst hw; subst hv
          have hyl : y < l.length := by omega
          have hy40 : y < 40 := by omega
          -- the end of the columns
          have done : ∀ (s6 s7 s8 : Slot), ∃ J', pj_Ev L (d + 1) gX4_study 130 [.val (.ref 131), .val (.int (bI cuts)), .val (.int (nI (prs (relB p l 20) l.length x + fb_ct (relB p l 20 x) y))), .val (.int (nI x)), .val (.int (nI y)), .val (.int (bI (relB p l 20 x y))), s6, s7, s8] [] (xS n0 I J pl tr rg fr) (.inl (some (.int (nI R))), xS n0 I J' pl tr rg fr) ∧ Fr TJ J J' ∧ JM J' l.length (relB p l 20) l.length := by
            intro s6 s7 s8
            cases hrel : relB p l 20 x y with
            | true =>
              obtain ⟨J', ev, q1, q2⟩ := ih2 (y + 1) (nI (prs (relB p l 20) l.length x + fb_ct (relB p l 20 x) (y + 1))) (nI (y + 1)) (.val (.int (bI true))) s6 s7 s8 (pj_u2 J 137 x (J 137 x ||| (1 <<< ((nI y).toInt64 &&& 63)))) (by omega) rfl rfl (fun a ha b hb => by
                rw [u2k _ _ (by omega)]; exact hJ a ha b hb) (fun b hb => by
                rw [pj_u2_self, l_or, hJx b hb, lb_one (by omega) hb]
                by_cases e : b = y
                · subst e; simp [hrel]
                · have : b < y + 1 ↔ b < y := by omega
                  simp [e, this])
              refine ⟨J', ?_, Fr.tr (Fr.u rfl) q1, q2⟩
              rw [fb_ct_succ, hrel, if_pos rfl, ← Nat.add_assoc, nI_succ, nI_succ y] at ev
              refine ev_b 4 rfl ?_
              refine ev_z true rfl rfl (fun h => by cases h) (fun _ => ?_)
              refine ev_b 3 rfl ?_
              refine ev_la 137 x _ rfl rfl rfl rfl hx40 (by omega) ?_
              refine ev_b 5 rfl ?_
              refine ev_ls 137 x _ rfl rfl rfl hx40 (by omega) ?_
              refine ev_b 1 rfl ?_
              refine ev_z true rfl rfl (fun h => by cases h) (fun _ => ?_)
              exact ev_b 7 rfl ev
            | false =>
              obtain ⟨J', ev, q1, q2⟩ := ih2 (y + 1) (nI (prs (relB p l 20) l.length x + fb_ct (relB p l 20 x) (y + 1))) (nI (y + 1)) (.val (.int (bI false))) s6 s7 s8 (pj_u2 J 137 x (J 137 x)) (by omega) rfl rfl (fun a ha b hb => by
                rw [u2k _ _ (by omega)]; exact hJ a ha b hb) (fun b hb => by
                rw [pj_u2_self, hJx b hb]
                by_cases e : b = y
                · subst e; simp [hrel]
                · have : b < y + 1 ↔ b < y := by omega
                  simp [this])
              refine ⟨J', ?_, Fr.tr (Fr.u rfl) q1, q2⟩
              rw [fb_ct_succ, hrel, if_neg (by decide), Nat.add_zero, nI_succ y] at ev
              refine ev_b 4 rfl ?_
              refine ev_z false rfl rfl (fun _ => ?_) (fun h => by cases h)
              refine ev_b 3 rfl ?_
              refine ev_la 137 x _ rfl rfl rfl rfl hx40 (by omega) ?_
              refine ev_ls 137 x _ rfl rfl rfl hx40 (by omega) ?_
              refine ev_b 1 rfl ?_
              refine ev_z false rfl rfl (fun _ => ?_) (fun h => by cases h)
              exact ev_b 4 rfl ev
          have cols : ∀ m3 c (u w : Int32) (s7 s8 : Slot), c + m3 = 20 → w = nI c → u = bI (relB p l c x y) →
              ∃ J', pj_Ev L (d + 1) gX4_study 42 [.val (.ref 131), .val (.int (bI cuts)), .val (.int (nI (prs (relB p l 20) l.length x + fb_ct (relB p l 20 x) y))), .val (.int (nI x)), .val (.int (nI y)), .val (.int u), .val (.int w), s7, s8] [] (xS n0 I J pl tr rg fr) (.inl (some (.int (nI R))), xS n0 I J' pl tr rg fr) ∧ Fr TJ J J' ∧ JM J' l.length (relB p l 20) l.length := by
            intro m3
            induction m3 with
            | zero =>
              intro c u w s7 s8 hc hw hu
              have hc : c = 20 := by omega
              subst hw; rw [hc] at hu; subst hu
              obtain ⟨J', ev, q⟩ := done (.val (.int (nI c))) s7 s8
              refine ⟨J', ?_, q⟩
              refine ev_b 2 rfl ?_
              exact ev_ge c 20 rfl rfl (by omega) (by omega) (fun _ => ev) (fun h => by omega)
            | succ m3 ih3 =>
              intro c u w s7 s8 hc hw hu
              subst hw; subst hu
              have hc20 : c < 20 := by omega
              have b1 := hb c (by omega)
              have b2 := hb (20 + c) (by omega)
              obtain ⟨J', ev, q⟩ := ih3 (c + 1) (bI (relB p l (c + 1) x y)) (nI (c + 1)) (.val (.int (nI (p c)))) (.val (.int (nI (p (20 + c))))) (by omega) rfl rfl
              refine ⟨J', ?_, q⟩
              rw [nI_succ c] at ev
              have k122 : ∀ b : Bool, relB p l (c + 1) x y = b → pj_Ev L (d + 1) gX4_study 122 [.val (.ref 131), .val (.int (bI cuts)), .val (.int (nI (prs (relB p l 20) l.length x + fb_ct (relB p l 20 x) y))), .val (.int (nI x)), .val (.int (nI y)), .val (.int (bI (relB p l c x y))), .val (.int (nI c)), .val (.int (nI (p c))), .val (.int (nI (p (20 + c))))] [.int (bI b)] (xS n0 I J pl tr rg fr) (.inl (some (.int (nI R))), xS n0 I J' pl tr rg fr) := by
                intro b h
                rw [h] at ev
                exact ev_b 3 rfl ev
              refine ev_b 2 rfl ?_
              refine ev_ge c 20 rfl rfl (by omega) (by omega) (fun h => by omega) (fun _ => ?_)
              refine ev_b 3 rfl ?_
              refine ev_ia 132 c _ (hp c (by omega)) rfl rfl rfl (show c < 40 by omega) (by omega) ?_
              refine ev_b 6 rfl ?_
              show pj_Ev L (d + 1) gX4_study 67 _ [.int (nI 20 + nI c), .ref 132] _ _
              rw [nI_add]
              refine ev_ia 132 (20 + c) _ (hp (20 + c) (by omega)) rfl rfl rfl (show 20 + c < 40 by omega) (by omega) ?_
              refine ev_b 2 rfl ?_
              refine ev_nz (relB p l c x y) rfl rfl (fun e => ?_) (fun e => ?_)
              · exact ev_b 2 rfl (k122 true (by rw [relB_s, e]; rfl))
              · refine ev_b 1 rfl ?_
                refine ev_len (p c) (by omega) rfl rfl (fun z => ?_) (fun z1 => ?_)
                · exact ev_b 1 rfl (k122 false (by rw [relB_s, e]; unfold colOk; simp [z]))
                · refine ev_b 1 rfl ?_
                  refine ev_len (p (20 + c)) (by omega) rfl rfl (fun z => ?_) (fun z2 => ?_)
                  · exact ev_b 1 rfl (k122 false (by rw [relB_s, e]; unfold colOk; simp [z]))
                  · refine ev_b 2 rfl ?_
                    refine ev_eq (p c) (p (20 + c)) rfl rfl (by omega) (by omega) (fun z => ?_) (fun z3 => ?_)
                    · exact ev_b 1 rfl (k122 false (by rw [relB_s, e]; unfold colOk; simp [z]))
                    · refine ev_b 4 rfl ?_
                      refine ev_c rfl (m_touching hS hxl h40 (h9 x hxl) hc20 b1) ?_
                      refine ev_z _ rfl rfl (fun z => ?_) (fun z4 => ?_)
                      · exact ev_b 1 rfl (k122 false (by rw [relB_s, e]; unfold edgeC; rw [z]; simp))
                      · refine ev_b 4 rfl ?_
                        refine ev_c rfl (m_touching hS hyl h40 (h9 y hyl) hc20 b2) ?_
                        refine ev_z _ rfl rfl (fun z => ?_) (fun z5 => ?_)
                        · exact ev_b 1 rfl (k122 false (by rw [relB_s, e]; unfold edgeC; rw [z]; simp))
                        · exact ev_b 2 rfl (k122 true (by rw [relB_s, e]; unfold edgeC colOk; rw [z4, z5]; simp [z1, z2, z3]))
          obtain ⟨J', ev, q⟩ := cols 20 0 (bI false) (nI 0) s7 s8 rfl rfl rfl
          refine ⟨J', ?_, q⟩
          refine ev_b 3 rfl ?_
          show pj_Ev L (d + 1) gX4_study 33 _ [.int (I 131 2), .int (nI y)] _ _
          rw [h1]
          refine ev_ge y l.length rfl rfl (by omega) (by omega) (fun h => by omega) (fun _ => ?_)
          exact ev_b 4 rfl ev
      obtain ⟨J', ev, q1, q2⟩ := inner l.length 0 (nI (prs (relB p l 20) l.length x)) (nI 0) s5 s6 s7 s8 (pj_u2 J 137 x 0) (by omega) rfl rfl (fun a ha b hb => by
        rw [u2k _ _ (by omega)]; exact hJ a ha b hb) (fun b hb => by rw [pj_u2_self, l_0]; simp)
      refine ⟨J', ?_, Fr.tr (Fr.u rfl) q1, q2⟩
      refine ev_b 3 rfl ?_
      show pj_Ev L (d + 1) gX4_study 14 _ [.int (I 131 2), .int (nI x)] _ _
      rw [h1]
      refine ev_ge x l.length rfl rfl (by omega) (by omega) (fun h => by omega) (fun _ => ?_)
      refine ev_b 4 rfl ?_
      refine ev_ls 137 x _ rfl rfl rfl hx40 (by omega) ?_
      exact ev_b 2 rfl ev
  exact outer l.length 0 (nI 0) (nI 0) s4 s5 s6 s7 s8 J (by omega) rfl rfl (fun a ha => by omega)
theorem m_study {cuts : Bool} (hp : pvM p I) (hb : pvB p) :
    ∃ I' J', pj_Ev L (d + 3) gX4_study 0 [.val (.ref 131), .val (.int (bI cuts)), .unset, .unset, .unset, .unset, .unset, .unset, .unset] [] (xS n0 I J pl tr rg fr) (.inl (some (.int (nI (prs (relB p (allS p cuts 9) 20) (allS p cuts 9).length (allS p cuts 9).length)))), xS n0 I' J' pl tr rg fr) ∧ Fr TM I I' ∧ Fr TJ J J' ∧ SM I' (allS p cuts 9) ∧ JM J' (allS p cuts 9).length (relB p (allS p cuts 9) 20) (allS p cuts 9).length := by
  have h40 := allS_len p cuts 9
  have h9 : ∀ k, k < (allS p cuts 9).length → (gs (allS p cuts 9) k).1 ≤ 9 := fun k hk => (allS_ok 9 (Nat.le_refl _) _ (gs_mem hk)).1.2
  obtain ⟨I', ev1, q1, q2⟩ := m_makeSegments (L := L) (d := d) (n0 := n0) (J := J) (pl := pl) (tr := tr) (rg := rg) (fr := fr) (cuts := cuts) hp hb
  generalize allS p cuts 9 = l at *
  obtain ⟨J', ev, q3, q4⟩ := m_study2 (L := L) (d := d + 2) (n0 := n0) (J := J) (pl := pl) (tr := tr) (rg := rg) (fr := fr) (cuts := cuts) (s4 := .unset) (s5 := .unset) (s6 := .unset) (s7 := .unset) (s8 := .unset) (hp.fr q1) hb q2 h40 h9
  refine ⟨I', J', ?_, q1, q3, q2, q4⟩
  refine ev_b 2 rfl ?_
  refine ev_c rfl ev1 ?_
  exact ev_b 4 rfl ev
end STU
end
section
/-! how many bits of a long -/
def rep (c : Nat) : Nat → Nat
  | 0 => 0
  | n + 1 => c + 256 * rep c n
def w1 (n A : Nat) : Nat := A - (A / 2 &&& rep 85 n)
def w2 (n B : Nat) : Nat := (B &&& rep 51 n) + (B / 4 &&& rep 51 n)
def w3 (n C : Nat) : Nat := (C + C / 16) &&& rep 15 n
def y1 (a : Nat) : Nat := a - (a / 2 &&& 85)
def y2 (b : Nat) : Nat := (b &&& 51) + (b / 4 &&& 51)
theorem and_sp {a m A M : Nat} (ha : a < 256) (hm : m < 256) : (a + 256 * A) &&& (m + 256 * M) = (a &&& m) + 256 * (A &&& M) := by
  have e1 : ((a + 256 * A) &&& (m + 256 * M)) % 2 ^ 8 = a &&& m := by
    rw [Nat.and_mod_two_pow, show (a + 256 * A) % 2 ^ 8 = a by omega, show (m + 256 * M) % 2 ^ 8 = m by omega]
  have e2 : ((a + 256 * A) &&& (m + 256 * M)) / 2 ^ 8 = A &&& M := by
    rw [Nat.and_div_two_pow, show (a + 256 * A) / 2 ^ 8 = A by omega, show (m + 256 * M) / 2 ^ 8 = M by omega]
  omega
theorem q85 : ∀ a, a < 256 → ∀ r, r < 2 → (a / 2 + 128 * r) &&& 85 = a / 2 &&& 85 := by decide +kernel
theorem q51 : ∀ a, a < 256 → ∀ r, r < 4 → (a / 4 + 64 * r) &&& 51 = a / 4 &&& 51 := by decide +kernel
theorem w1_s {n a A : Nat} (ha : a < 256) : w1 (n + 1) (a + 256 * A) = y1 a + 256 * w1 n A := by
  have e : (a + 256 * A) / 2 = (a / 2 + 128 * (A % 2)) + 256 * (A / 2) := by omega
  show a + 256 * A - ((a + 256 * A) / 2 &&& (85 + 256 * rep 85 n)) = (a - (a / 2 &&& 85)) + 256 * (A - (A / 2 &&& rep 85 n))
  rw [e, and_sp (by omega) (by decide), q85 a ha (A % 2) (by omega)]
  have h1 : a / 2 &&& 85 ≤ a / 2 := Nat.and_le_left
  have h2 : A / 2 &&& rep 85 n ≤ A / 2 := Nat.and_le_left
  omega
theorem w2_s {n b B : Nat} (hb : b < 256) : w2 (n + 1) (b + 256 * B) = y2 b + 256 * w2 n B := by
  have e : (b + 256 * B) / 4 = (b / 4 + 64 * (B % 4)) + 256 * (B / 4) := by omega
  show ((b + 256 * B) &&& (51 + 256 * rep 51 n)) + ((b + 256 * B) / 4 &&& (51 + 256 * rep 51 n)) = ((b &&& 51) + (b / 4 &&& 51)) + 256 * ((B &&& rep 51 n) + (B / 4 &&& rep 51 n))
  rw [e, and_sp hb (by decide), and_sp (by omega) (by decide), q51 b hb (B % 4) (by omega)]
  omega
theorem w3_s {n c C : Nat} (hc : c + c / 16 + 16 * (C % 16) < 256) : w3 (n + 1) (c + 256 * C) = (c + c / 16) % 16 + 256 * w3 n C := by
  have e : c + 256 * C + (c + 256 * C) / 16 = (c + c / 16 + 16 * (C % 16)) + 256 * (C + C / 16) := by omega
  show (c + 256 * C + (c + 256 * C) / 16) &&& (15 + 256 * rep 15 n) = _
  rw [e, and_sp hc (by decide)]
  have e2 : (c + c / 16 + 16 * (C % 16)) &&& 15 = (c + c / 16 + 16 * (C % 16)) % 2 ^ 4 := Nat.and_two_pow_sub_one_eq_mod _ 4
  rw [e2]
  unfold w3
  omega
theorem y_le : ∀ a, a < 256 → y1 a < 256 ∧ y2 (y1 a) ≤ 68 ∧ y2 (y1 a) % 16 ≤ 4 ∧ (y2 (y1 a) + y2 (y1 a) / 16) % 16 = fb_ct (Nat.testBit a) 8 ∧ fb_ct (Nat.testBit a) 8 ≤ 8 := by decide +kernel
def ww (n A : Nat) : Nat := w3 n (w2 n (w1 n A))
theorem w2_nib : ∀ n A, A < 256 ^ n → w2 n (w1 n A) % 16 ≤ 4
  | 0, A, h => by
    have : A = 0 := by simpa using h
    subst this
    decide
  | n + 1, A, h => by
    obtain ⟨h1, h2, h3, -⟩ := y_le (A % 256) (by omega)
    have e : A = A % 256 + 256 * (A / 256) := by omega
    rw [e, w1_s (by omega), w2_s h1]
    omega
theorem ww_s {n a A : Nat} (ha : a < 256) (hA : A < 256 ^ n) : ww (n + 1) (a + 256 * A) = fb_ct (Nat.testBit a) 8 + 256 * ww n A := by
  obtain ⟨h1, h2, h3, h4, -⟩ := y_le a ha
  have h5 := w2_nib n A hA
  unfold ww
  rw [w1_s ha, w2_s h1, w3_s (by omega), h4]
theorem tb_lo {a A k : Nat} (ha : a < 256) (hk : k < 8) : Nat.testBit (a + 256 * A) k = Nat.testBit a k := by
  rw [Nat.testBit_eq_decide_div_mod_eq, Nat.testBit_eq_decide_div_mod_eq]
  rcases (by omega : k = 0 ∨ k = 1 ∨ k = 2 ∨ k = 3 ∨ k = 4 ∨ k = 5 ∨ k = 6 ∨ k = 7) with rfl | rfl | rfl | rfl | rfl | rfl | rfl | rfl <;> (congr 2; omega)
theorem tb_hi {a A k : Nat} (ha : a < 256) : Nat.testBit (a + 256 * A) (8 + k) = Nat.testBit A k := by
  rw [Nat.testBit_eq_decide_div_mod_eq, Nat.testBit_eq_decide_div_mod_eq]
  have : (a + 256 * A) / 2 ^ (8 + k) = A / 2 ^ k := by
    rw [Nat.pow_add, ← Nat.div_div_eq_div_mul, show (a + 256 * A) / 2 ^ 8 = A by omega]
  rw [this]
theorem ct_s {n a A : Nat} (ha : a < 256) : fb_ct (Nat.testBit (a + 256 * A)) (8 + n) = fb_ct (Nat.testBit a) 8 + fb_ct (Nat.testBit A) n := by
  rw [fb_ct_split, fb_ct_cong (q := Nat.testBit a) (fun k hk => tb_lo ha hk), fb_ct_cong (q := Nat.testBit A) (fun k hk => tb_hi ha)]
theorem dv1 {a X : Nat} (h : a < 256) : (a + 256 * X) / 256 = X := by omega
theorem dv2 {a X : Nat} (h : a < 65536) : (a + 65536 * X) / 65536 = X := by omega
theorem dv4 {a X : Nat} (h : a < 4294967296) : (a + 4294967296 * X) / 4294967296 = X := by omega
theorem fold5 {z0 z1 z2 z3 z4 : Nat} (h0 : z0 ≤ 8) (h1 : z1 ≤ 8) (h2 : z2 ≤ 8) (h3 : z3 ≤ 8) (h4 : z4 ≤ 8) : ∃ z t u v, z0 + 256 * (z1 + 256 * (z2 + 256 * (z3 + 256 * z4))) = z ∧ t = z + z / 256 ∧ u = t + t / 65536 ∧ v = u + u / 4294967296 ∧ z < 2 ^ 60 ∧ t < 2 ^ 60 ∧ u < 2 ^ 60 ∧ v < 2 ^ 60 ∧ v % 128 = z0 + z1 + z2 + z3 + z4 := by
  refine ⟨_, (z0 + 256 * (z1 + 256 * (z2 + 256 * (z3 + 256 * z4)))) + (z1 + 256 * (z2 + 256 * (z3 + 256 * z4))), (z0 + 256 * (z1 + 256 * (z2 + 256 * (z3 + 256 * z4)))) + (z1 + 256 * (z2 + 256 * (z3 + 256 * z4))) + ((z2 + z3) + 256 * ((z3 + z4) + 256 * z4)),
    (z0 + 256 * (z1 + 256 * (z2 + 256 * (z3 + 256 * z4)))) + (z1 + 256 * (z2 + 256 * (z3 + 256 * z4))) + ((z2 + z3) + 256 * ((z3 + z4) + 256 * z4)) + z4, rfl, ?_, ?_, ?_, by omega, by omega, by omega, by omega, ?_⟩
  · rw [dv1 (by omega)]
  · have e : (z0 + 256 * (z1 + 256 * (z2 + 256 * (z3 + 256 * z4)))) + (z1 + 256 * (z2 + 256 * (z3 + 256 * z4))) = (z0 + z1 + 256 * (z1 + z2)) + 65536 * ((z2 + z3) + 256 * ((z3 + z4) + 256 * z4)) := by omega
    rw [e, dv2 (by omega)]
  · have e : (z0 + 256 * (z1 + 256 * (z2 + 256 * (z3 + 256 * z4)))) + (z1 + 256 * (z2 + 256 * (z3 + 256 * z4))) + ((z2 + z3) + 256 * ((z3 + z4) + 256 * z4)) = ((z0 + z1 + z2 + z3) + 256 * ((z1 + z2 + z3 + z4) + 256 * ((z2 + z3 + z4) + 256 * (z3 + z4)))) + 4294967296 * z4 := by omega
    rw [e, dv4 (by omega)]
  · have e : (z0 + 256 * (z1 + 256 * (z2 + 256 * (z3 + 256 * z4)))) + (z1 + 256 * (z2 + 256 * (z3 + 256 * z4))) + ((z2 + z3) + 256 * ((z3 + z4) + 256 * z4)) + z4 = (z0 + z1 + z2 + z3 + z4) + 128 * (2 * ((z1 + z2 + z3 + z4) + 256 * ((z2 + z3 + z4) + 256 * ((z3 + z4) + 256 * z4)))) := by omega
    rw [e, Nat.add_mul_mod_self_left]
    exact Nat.mod_eq_of_lt (by omega)
theorem pop_law {A : Nat} (hA : A < 2 ^ 40) : ∃ z t u v, ww 8 A = z ∧ t = z + z / 256 ∧ u = t + t / 65536 ∧ v = u + u / 4294967296 ∧ z < 2 ^ 60 ∧ t < 2 ^ 60 ∧ u < 2 ^ 60 ∧ v < 2 ^ 60 ∧ v % 128 = fb_ct (Nat.testBit A) 40 := by
  obtain ⟨a0, A1, r0, l0, g0⟩ : ∃ b B, A = b + 256 * B ∧ b < 256 ∧ B < 2 ^ 32 := ⟨A % 256, A / 256, by omega, by omega, by omega⟩
  obtain ⟨a1, A2, r1, l1, g1⟩ : ∃ b B, A1 = b + 256 * B ∧ b < 256 ∧ B < 2 ^ 24 := ⟨A1 % 256, A1 / 256, by omega, by omega, by omega⟩
  obtain ⟨a2, A3, r2, l2, g2⟩ : ∃ b B, A2 = b + 256 * B ∧ b < 256 ∧ B < 2 ^ 16 := ⟨A2 % 256, A2 / 256, by omega, by omega, by omega⟩
  obtain ⟨a3, a4, r3, l3, l4⟩ : ∃ b B, A3 = b + 256 * B ∧ b < 256 ∧ B < 256 := ⟨A3 % 256, A3 / 256, by omega, by omega, by omega⟩
  have z4 : ww 4 a4 = fb_ct (Nat.testBit a4) 8 := by
    have e := ww_s (n := 3) (a := a4) (A := 0) l4 (by decide)
    have e0 : ww 3 0 = 0 := by decide
    rw [e0] at e
    exact e
  have zz : ww 8 A = fb_ct (Nat.testBit a0) 8 + 256 * (fb_ct (Nat.testBit a1) 8 + 256 * (fb_ct (Nat.testBit a2) 8 + 256 * (fb_ct (Nat.testBit a3) 8 + 256 * fb_ct (Nat.testBit a4) 8))) := by
    rw [← z4, ← ww_s (n := 4) l3 (by omega), ← r3, ← ww_s (n := 5) l2 (by omega), ← r2, ← ww_s (n := 6) l1 (by omega), ← r1, ← ww_s (n := 7) l0 (by omega), ← r0]
  have cc : fb_ct (Nat.testBit A) 40 = fb_ct (Nat.testBit a0) 8 + (fb_ct (Nat.testBit a1) 8 + (fb_ct (Nat.testBit a2) 8 + (fb_ct (Nat.testBit a3) 8 + fb_ct (Nat.testBit a4) 8))) := by
    rw [← ct_s (n := 8) l3, ← r3, ← ct_s (n := 8 + 8) l2, ← r2, ← ct_s (n := 8 + (8 + 8)) l1, ← r1, ← ct_s (n := 8 + (8 + (8 + 8))) l0, ← r0]
  obtain ⟨z, t, u, v, q1, q2, q3, q4, q5, q6, q7, q8, q9⟩ := fold5 (y_le a0 l0).2.2.2.2 (y_le a1 l1).2.2.2.2 (y_le a2 l2).2.2.2.2 (y_le a3 l3).2.2.2.2 (y_le a4 l4).2.2.2.2
  refine ⟨z, t, u, v, zz.trans q1, q2, q3, q4, q5, q6, q7, q8, ?_⟩
  rw [q9, cc]
  omega
end
section
/-! pairs -/
def jI (A : Nat) : Int64 := Int64.ofNat A
theorem lb_jI (A i : Nat) : lb (jI A) i = (decide (i < 64) && A.testBit i) := by
  unfold lb jI
  rw [Int64.toBitVec_ofNat', BitVec.getLsbD_ofNat]
theorem jI_of (x : Int64) : jI x.toBitVec.toNat = x := l_ext fun i hi => by
  rw [lb_jI, decide_eq_true hi, Bool.true_and, BitVec.testBit_toNat]
  rfl
theorem jI_and (A B : Nat) : jI A &&& jI B = jI (A &&& B) := l_ext fun i hi => by
  rw [l_and, lb_jI, lb_jI, lb_jI, Nat.testBit_and]
  simp [hi]
theorem jI_add (A B : Nat) : jI A + jI B = jI (A + B) := (Int64.ofNat_add A B).symm
theorem jI_sub {A B : Nat} (h : B ≤ A) : jI A - jI B = jI (A - B) := by
  have e : jI A = jI (A - B) + jI B := by rw [jI_add, Nat.sub_add_cancel h]
  rw [e, Int64.add_sub_cancel]
theorem s_ul : ∀ n, n < 64 → (((nI n).toInt64.toUInt64 &&& Int64.toUInt64 63).toBitVec % 64).toNat = n := by decide +kernel
theorem jI_sh {A k : Nat} (hA : A < 2 ^ 64) (hk : k < 64) : ((jI A).toUInt64 >>> ((nI k).toInt64.toUInt64 &&& Int64.toUInt64 63)).toInt64 = jI (A / 2 ^ k) := l_ext fun i hi => by
  rw [lb_jI, decide_eq_true hi, Bool.true_and, Nat.testBit_div_two_pow]
  have e : lb ((jI A).toUInt64 >>> ((nI k).toInt64.toUInt64 &&& Int64.toUInt64 63)).toInt64 i = lb (jI A) (k + i) := by
    unfold lb
    rw [UInt64.toBitVec_toInt64, UInt64.toBitVec_shiftRight, BitVec.ushiftRight_eq', s_ul k hk, BitVec.getLsbD_ushiftRight, Int64.toBitVec_toUInt64]
  rw [e, lb_jI, Nat.add_comm k i]
  by_cases z : i + k < 64
  · simp [z]
  · rw [decide_eq_false z, Bool.false_and]
    exact (Nat.testBit_lt_two_pow (Nat.lt_of_lt_of_le hA (Nat.pow_le_pow_right (by decide) (by omega)))).symm
theorem bt_nI (A i : Nat) : bt (nI A) i = (decide (i < 32) && A.testBit i) := by
  unfold bt
  show (Int32.ofNat A).toBitVec.getLsbD i = _
  rw [Int32.toBitVec_ofNat', BitVec.getLsbD_ofNat]
theorem b_127 : ∀ i, i < 32 → bt 127 i = decide (i < 7) := by decide
theorem nI_127 (A : Nat) : nI A &&& 127 = nI (A % 128) := b_ext fun i hi => by
  rw [b_and, bt_nI, bt_nI, b_127 i hi, show (128 : Nat) = 2 ^ 7 by rfl, Nat.testBit_mod_two_pow]
  simp [hi, Bool.and_comm]
theorem jI_i (A : Nat) : (jI A).toInt32 = nI A := Int64.toInt32_ofNat
theorem rep_55 : jI (rep 85 8) = 6148914691236517205 := by decide
theorem rep_33 : jI (rep 51 8) = 3689348814741910323 := by decide
theorem rep_0f : jI (rep 15 8) = 1085102592571150095 := by decide
theorem w_le : ∀ n A, A < 256 ^ n → w2 n (w1 n A) < 256 ^ n
  | 0, A, h => by
    have : A = 0 := by simpa using h
    subst this
    decide
  | n + 1, A, h => by
    obtain ⟨h1, h2, -⟩ := y_le (A % 256) (by omega)
    have e : A = A % 256 + 256 * (A / 256) := by omega
    have e2 : 256 ^ (n + 1) = 256 * 256 ^ n := by rw [Nat.pow_succ, Nat.mul_comm]
    have ih := w_le n (A / 256) (by omega)
    rw [e, w1_s (by omega), w2_s h1, e2]
    omega
theorem c_bitCount {L d : Nat} {σ : pj_St} {x : Int64} (hx : ∀ i, 40 ≤ i → i < 64 → lb x i = false) : pj_Ev L d gJ7_bitCount 0 [.val (.long x), .unset] [] σ (.inl (some (.int (nI (fb_ct (lb x) 40)))), σ) := by
  have hb : ∀ i, x.toBitVec.toNat.testBit i = lb x i := fun i => BitVec.testBit_toNat _
  have hA : x.toBitVec.toNat < 2 ^ 40 := Nat.lt_pow_two_of_testBit _ fun i hi => by
    rw [hb]
    by_cases z : i < 64
    · exact hx i hi z
    · exact l_big (by omega)
  have hct : fb_ct (lb x) 40 = fb_ct (Nat.testBit x.toBitVec.toNat) 40 := fb_ct_cong fun k _ => (hb k).symm
  obtain ⟨z, t, u, v, q1, q2, q3, q4, q5, q6, q7, q8, q9⟩ := pop_law hA
  rw [hct, ← q9]
  have hx' := jI_of x
  generalize x.toBitVec.toNat = A at *
  subst hx'
  have wl := w_le 8 A (by omega)
  have l1 : A / 2 &&& rep 85 8 ≤ A := Nat.le_trans Nat.and_le_left (by omega)
  have e1 : jI A - (((jI A).toUInt64 >>> ((nI 1).toInt64.toUInt64 &&& Int64.toUInt64 63)).toInt64 &&& jI (rep 85 8)) = jI (w1 8 A) := by
    rw [jI_sh (by omega) (by decide), jI_and, jI_sub l1]
    rfl
  have h1 : w1 8 A < 2 ^ 64 := by
    have : w1 8 A ≤ A := Nat.sub_le _ _
    omega
  have e2 : (jI (w1 8 A) &&& jI (rep 51 8)) + (((jI (w1 8 A)).toUInt64 >>> ((nI 2).toInt64.toUInt64 &&& Int64.toUInt64 63)).toInt64 &&& jI (rep 51 8)) = jI (w2 8 (w1 8 A)) := by
    rw [jI_sh h1 (by decide), jI_and, jI_and, jI_add]
    rfl
  have e3 : (jI (w2 8 (w1 8 A)) + ((jI (w2 8 (w1 8 A))).toUInt64 >>> ((nI 4).toInt64.toUInt64 &&& Int64.toUInt64 63)).toInt64) &&& jI (rep 15 8) = jI z := by
    rw [jI_sh (Nat.lt_of_lt_of_le wl (by decide)) (by decide), jI_add, jI_and, ← q1]
    rfl
  have e4 : jI z + ((jI z).toUInt64 >>> ((nI 8).toInt64.toUInt64 &&& Int64.toUInt64 63)).toInt64 = jI t := by
    rw [jI_sh (by omega) (by decide), jI_add, q2]
  have e5 : jI t + ((jI t).toUInt64 >>> ((nI 16).toInt64.toUInt64 &&& Int64.toUInt64 63)).toInt64 = jI u := by
    rw [jI_sh (by omega) (by decide), jI_add, q3]
  have e6 : jI u + ((jI u).toUInt64 >>> ((nI 32).toInt64.toUInt64 &&& Int64.toUInt64 63)).toInt64 = jI v := by
    rw [jI_sh (by omega) (by decide), jI_add, q4]
  rw [rep_55] at e1
  rw [rep_33] at e2
  rw [rep_0f] at e3
  refine ev_b 8 (lv' := [.val (.long (jI A - (((jI A).toUInt64 >>> ((nI 1).toInt64.toUInt64 &&& Int64.toUInt64 63)).toInt64 &&& 6148914691236517205))), .unset]) rfl ?_
  rw [e1]
  refine ev_b 10 (lv' := [.val (.long ((jI (w1 8 A) &&& 3689348814741910323) + (((jI (w1 8 A)).toUInt64 >>> ((nI 2).toInt64.toUInt64 &&& Int64.toUInt64 63)).toInt64 &&& 3689348814741910323))), .unset]) rfl ?_
  rw [e2]
  refine ev_b 8 (lv' := [.val (.long ((jI (w2 8 (w1 8 A)) + ((jI (w2 8 (w1 8 A))).toUInt64 >>> ((nI 4).toInt64.toUInt64 &&& Int64.toUInt64 63)).toInt64) &&& 1085102592571150095)), .unset]) rfl ?_
  rw [e3]
  refine ev_b 6 (lv' := [.val (.long (jI z + ((jI z).toUInt64 >>> ((nI 8).toInt64.toUInt64 &&& Int64.toUInt64 63)).toInt64)), .unset]) rfl ?_
  rw [e4]
  refine ev_b 6 (lv' := [.val (.long (jI t + ((jI t).toUInt64 >>> ((nI 16).toInt64.toUInt64 &&& Int64.toUInt64 63)).toInt64)), .unset]) rfl ?_
  rw [e5]
  refine ev_b 6 (lv' := [.val (.long (jI u + ((jI u).toUInt64 >>> ((nI 32).toInt64.toUInt64 &&& Int64.toUInt64 63)).toInt64)), .unset]) rfl ?_
  rw [e6]
  have e7 : (jI v).toInt32 &&& 127 = nI (v % 128) := by rw [jI_i, nI_127]
  rw [← e7]
  refine ev_b 4 rfl ?_
  exact ev_ret rfl rfl rfl
theorem ct_cut {B : Nat → Bool} {f : Nat → Bool} {m K : Nat} (hm : m ≤ K) (h : ∀ y, y < K → f y = (decide (y < m) && B y)) : fb_ct f K = fb_ct B m := by
  rw [show K = m + (K - m) by omega, fb_ct_split, fb_ct_cong (p := f) (q := B) (fun k hk => by rw [h k (by omega)]; simp [hk])]
  have : fb_ct (fun k => f (m + k)) (K - m) = 0 := fb_ct_zero.mpr fun k hk => by
    rw [h (m + k) (by omega), decide_eq_false (by omega), Bool.false_and]
  rw [this]
  rfl
section PRS
variable {L d n0 : Nat} {I : pj_SI} {J : pj_SJ} {pl tr rg fr : Nat} {p : Nat → Nat}
theorem c_pairs {cuts : Bool} (hp : pvX p I) (hb : pvB p) (ht : isP tr) :
    ∃ I' J', pj_Ev L (d + 4) gX1_pairs 0 [.val (.ref 1), .val (.int (bI cuts)), .unset, .unset] [] (xS n0 I J pl tr rg fr) (.inl (some (.int (nI (prs (relB p (allS p cuts 9) 20) (allS p cuts 9).length (allS p cuts 9).length)))), xS n0 I' J' pl tr rg fr) ∧ Fr (TR tr) I I' ∧ Fr (TR tr) J J' := by
  have h40 := allS_len p cuts 9
  obtain ⟨I', J', ev1, q1, q2, q3, q4⟩ := c_plan (L := L) (d := d) (n0 := n0) (I := I) (J := J) (pl := pl) (tr := tr) (rg := rg) (fr := fr) (cuts := cuts) hp hb ht
  generalize hB : relB p (allS p cuts 9) 20 = B at *
  generalize allS p cuts 9 = l at *
  refine ⟨I', J', ?_, q1, q2⟩
  have loop : ∀ m k (v w : Int32), k + m = l.length → w = nI k → v = nI (prs B l.length k) →
      pj_Ev L (d + 4) gX1_pairs 9 [.val (.ref 1), .val (.int (bI cuts)), .val (.int v), .val (.int w)] [] (xS n0 I' J' pl tr rg fr) (.inl (some (.int (nI (prs B l.length l.length)))), xS n0 I' J' pl tr rg fr) := by
    intro m
    induction m with
    | zero =>
      intro k v w hk hw hv
      have hk : k = l.length := by omega
      subst hw; rw [hk] at hv; subst hv
      refine ev_b 3 rfl ?_
      refine ev_gp 1 _ ht q3.1 (Or.inl rfl) rfl rfl ?_
      refine ev_ge k l.length rfl rfl (by omega) (by omega) (fun _ => ?_) (fun h => by omega)
      refine ev_b 1 rfl ?_
      exact ev_ret rfl rfl rfl
    | succ m ih =>
      intro k v w hk hw hv
      subst hw; subst hv
      have hk40 : k < 40 := by omega
      have hbits : ∀ y, y < 64 → lb (J' (tr + 2 + k) 5) y = (decide (y < l.length) && B k y) := fun y hy => (q4 k (by omega) y hy).1
      refine ev_b 3 rfl ?_
      refine ev_gp 1 _ ht q3.1 (Or.inl rfl) rfl rfl ?_
      refine ev_ge k l.length rfl rfl (by omega) (by omega) (fun h => by omega) (fun _ => ?_)
      refine ev_b 3 rfl ?_
      refine ev_ga ht rfl rfl ?_
      refine ev_b 1 rfl ?_
      refine ev_as ht hk40 rfl ?_
      refine ev_gsl 5 _ ht hk40 rfl (Or.inl rfl) rfl rfl ?_
      refine ev_c rfl (c_bitCount (fun i h1 h2 => by rw [hbits i h2, decide_eq_false (by omega), Bool.false_and])) ?_
      refine ev_b 4 rfl ?_
      refine ih (k + 1) _ _ (by omega) (nI_inc k) ?_
      rw [ct_cut (B := B k) (m := l.length) h40 (fun y hy => hbits y (by omega)), nI_add]
      rfl
  refine ev_b 2 rfl ?_
  refine ev_c rfl ev1 ?_
  exact ev_b 4 rfl (loop l.length 0 _ _ (by omega) rfl rfl)
theorem m_pairs {cuts : Bool} (hp : pvM p I) (hb : pvB p) :
    ∃ I' J', pj_Ev L (d + 4) gX4_pairs 0 [.val (.ref 131), .val (.int (bI cuts))] [] (xS n0 I J pl tr rg fr) (.inl (some (.int (nI (prs (relB p (allS p cuts 9) 20) (allS p cuts 9).length (allS p cuts 9).length)))), xS n0 I' J' pl tr rg fr) ∧ Fr TM (pj_u2 I 131 0 0) I' ∧ Fr TJ J J' := by
  obtain ⟨I', J', ev1, q1, q2, -⟩ := m_study (L := L) (d := d) (n0 := n0) (I := pj_u2 I 131 0 0) (J := J) (pl := pl) (tr := tr) (rg := rg) (fr := fr) (cuts := cuts) (hp.u (by decide)) hb
  refine ⟨I', J', ?_, q1, q2⟩
  refine ev_b 5 (σ' := xS n0 (pj_u2 I 131 0 0) J pl tr rg fr) rfl ?_
  refine ev_c rfl ev1 ?_
  exact ev_ret rfl rfl rfl
end PRS
end
section
/-! rings: plain laws -/
def exB (f : Nat → Bool) : Nat → Bool
  | 0 => false
  | n + 1 => exB f n || f n
theorem exB_iff {f : Nat → Bool} : ∀ {n : Nat}, exB f n = true ↔ ∃ k, k < n ∧ f k = true
  | 0 => ⟨(fun h => by cases h), fun ⟨k, h, _⟩ => by omega⟩
  | n + 1 => by
    rw [exB, Bool.or_eq_true, exB_iff (n := n)]
    constructor
    · rintro (⟨k, h1, h2⟩ | h)
      · exact ⟨k, by omega, h2⟩
      · exact ⟨n, by omega, h⟩
    · rintro ⟨k, h1, h2⟩
      by_cases e : k = n
      · rw [e] at h2; exact Or.inr h2
      · exact Or.inl ⟨k, by omega, h2⟩
theorem exB_cong {f g : Nat → Bool} : ∀ {n : Nat}, (∀ k, k < n → f k = g k) → exB f n = exB g n
  | 0, _ => rfl
  | n + 1, h => by
    show (exB f n || f n) = (exB g n || g n)
    rw [exB_cong (n := n) fun k hk => h k (by omega), h n (by omega)]
/-- those from which one is come to in at most so many steps -/
def ld (R : Nat → Nat → Bool) (mn to : Nat) : Nat → Nat → Bool
  | 0, x => x == to
  | k + 1, x => ld R mn to k x || (decide (x < mn) && exB (fun y => R x y && ld R mn to k y) mn)
section RNG
variable {R : Nat → Nat → Bool} {mn to : Nat}
theorem ld_s (k x : Nat) : ld R mn to (k + 1) x = (ld R mn to k x || (decide (x < mn) && exB (fun y => R x y && ld R mn to k y) mn)) := rfl
theorem ld_up {k x : Nat} (h : ld R mn to k x = true) : ld R mn to (k + 1) x = true := by rw [ld_s, h]; rfl
theorem ld_ups {k x : Nat} (h : ld R mn to k x = true) : ∀ j, ld R mn to (k + j) x = true
  | 0 => h
  | j + 1 => ld_up (ld_ups h j)
theorem ld_le {k j x : Nat} (h : ld R mn to k x = true) (hj : k ≤ j) : ld R mn to j x = true := by
  have := ld_ups h (j - k)
  rwa [show k + (j - k) = j by omega] at this
theorem ld_edge {k x y : Nat} (hx : x < mn) (hy : y < mn) (hR : R x y = true) (h : ld R mn to k y = true) : ld R mn to (k + 1) x = true := by
  rw [ld_s, Bool.or_eq_true]
  right
  rw [decide_eq_true hx, Bool.true_and, exB_iff]
  exact ⟨y, hy, by rw [hR, h]; rfl⟩
theorem ld_lt (ht : to < mn) : ∀ {k x : Nat}, ld R mn to k x = true → x < mn
  | 0, x, h => by
    have : x = to := by simpa [ld] using h
    omega
  | k + 1, x, h => by
    rw [ld_s, Bool.or_eq_true] at h
    rcases h with h | h
    · exact ld_lt ht h
    · rw [Bool.and_eq_true, decide_eq_true_eq] at h
      exact h.1
/-- a stop -/
theorem ld_stop {k : Nat} (h : ∀ x, x < mn → ld R mn to (k + 1) x = ld R mn to k x) : ∀ j x, x < mn → ld R mn to (k + j) x = ld R mn to k x
  | 0, x, _ => rfl
  | j + 1, x, hx => by
    show ld R mn to (k + j + 1) x = _
    rw [ld_s, ld_stop h j x hx, exB_cong (g := fun y => R x y && ld R mn to k y) (fun y hy => by rw [ld_stop h j y hy]), ← ld_s, h x hx]
theorem ld_grow (ht : to < mn) : ∀ k, (∃ j, j < k ∧ ∀ x, x < mn → ld R mn to (j + 1) x = ld R mn to j x) ∨ k + 1 ≤ fb_ct (ld R mn to k) mn
  | 0 => Or.inr (fb_ct_pos.mpr ⟨to, ht, by simp [ld]⟩)
  | k + 1 => by
    rcases ld_grow ht k with ⟨j, hj, h⟩ | h
    · exact Or.inl ⟨j, by omega, h⟩
    · by_cases e : ∀ x, x < mn → ld R mn to (k + 1) x = ld R mn to k x
      · exact Or.inl ⟨k, by omega, e⟩
      · right
        obtain ⟨x, hx, hne⟩ : ∃ x, x < mn ∧ ld R mn to (k + 1) x ≠ ld R mn to k x := Classical.byContradiction fun z => e fun x hx => Classical.byContradiction fun q => z ⟨x, hx, q⟩
        have h0 : ld R mn to k x = false := by
          cases hk : ld R mn to k x with
          | false => rfl
          | true => exact absurd (by rw [hk, ld_up hk]) hne
        have h1 : ld R mn to (k + 1) x = true := by
          cases hk : ld R mn to (k + 1) x with
          | true => rfl
          | false => exact absurd (by rw [hk, h0]) hne
        have u := fb_ct_upd (ld R mn to k) true hx
        rw [h0] at u
        have s := fb_ct_sub (p := fun q => if q = x then true else ld R mn to k q) (q := ld R mn to (k + 1)) (n := mn) fun q hq hp => by
          by_cases e : q = x
          · rw [e]; exact h1
          · rw [if_neg e] at hp
            exact ld_up hp
        simp only [Bool.false_eq_true, if_false, if_true] at u
        omega
theorem ld_last (ht : to < mn) {k x : Nat} (hx : x < mn) (h : ld R mn to k x = true) : ld R mn to (mn - 1) x = true := by
  rcases ld_grow (R := R) ht mn with ⟨j, hj, hs⟩ | h2
  · by_cases e : k ≤ j
    · exact ld_le h (by omega)
    · have := ld_stop hs (k - j) x hx
      rw [show j + (k - j) = k by omega] at this
      rw [this] at h
      exact ld_le h (by omega)
  · have := fb_ct_le (ld R mn to mn) mn
    omega
theorem ld_trans {a : Nat} {m : Nat} : ∀ {n z : Nat}, ld R mn a n z = true → ld R mn to m a = true → ld R mn to (n + m) z = true
  | 0, z, h, h2 => by
    have : z = a := by simpa [ld] using h
    rw [this, Nat.zero_add]; exact h2
  | n + 1, z, h, h2 => by
    rw [ld_s, Bool.or_eq_true] at h
    rcases h with h | h
    · have := ld_trans h h2
      exact ld_le this (by omega)
    · rw [Bool.and_eq_true, decide_eq_true_eq, exB_iff] at h
      obtain ⟨hz, y, hy, hh⟩ := h
      rw [Bool.and_eq_true] at hh
      have := ld_edge hz hy hh.1 (ld_trans hh.2 h2)
      exact ld_le this (by omega)
/-- in a ring -/
def inR (R : Nat → Nat → Bool) (mn s : Nat) : Bool := exB (fun y => R s y && ld R mn s mn y) mn
theorem inR_iff' {s : Nat} (hs : s < mn) : inR R mn s = true ↔ ∃ z n, z < mn ∧ R s z = true ∧ ld R mn s n z = true := by
  unfold inR
  rw [exB_iff]
  constructor
  · rintro ⟨y, hy, h⟩
    rw [Bool.and_eq_true] at h
    exact ⟨y, mn, hy, h.1, h.2⟩
  · rintro ⟨z, n, hz, h1, h2⟩
    exact ⟨z, hz, by rw [h1, ld_le (ld_last hs hz h2) (Nat.sub_le _ _)]; rfl⟩
/-! joining bits -/
def wr (R : Nat → Nat → Bool) : Nat → Nat → Nat → Bool
  | 0, x, y => R x y
  | k + 1, x, y => wr R k x y || (wr R k x k && wr R k k y)
theorem wr_s (k x y : Nat) : wr R (k + 1) x y = (wr R k x y || (wr R k x k && wr R k k y)) := rfl
theorem wr_piv (k y : Nat) : wr R (k + 1) k y = wr R k k y := by
  rw [wr_s]
  cases wr R k k y <;> simp
theorem wr_T : ∀ k j x y, j < k → wr R k x j = true → wr R k j y = true → wr R k x y = true
  | 0, j, x, y, hj, _, _ => by omega
  | k + 1, j, x, y, hj, h1, h2 => by
    have T := wr_T k
    by_cases e : j = k
    · subst e
      rw [wr_piv] at h2
      rw [wr_s, Bool.or_eq_true, Bool.and_eq_true] at h1
      have h3 : wr R j x j = true := by
        rcases h1 with h | h
        · exact h
        · exact h.1
      rw [wr_s, h3, h2]; simp
    · have hj : j < k := by omega
      rw [wr_s, Bool.or_eq_true, Bool.and_eq_true] at h1 h2 ⊢
      rcases h1 with h1 | h1
      · rcases h2 with h2 | h2
        · exact Or.inl (T j x y hj h1 h2)
        · exact Or.inr ⟨T j x k hj h1 h2.1, h2.2⟩
      · rcases h2 with h2 | h2
        · exact Or.inr ⟨h1.1, T j k y hj h1.2 h2⟩
        · exact Or.inr ⟨h1.1, h2.2⟩
theorem wr_R {x y : Nat} (h : R x y = true) : ∀ k, wr R k x y = true
  | 0 => h
  | k + 1 => by rw [wr_s, wr_R h k]; rfl
theorem wr_sound : ∀ k, k ≤ mn → ∀ x y, x < mn → y < mn → wr R k x y = true → ∃ z n, z < mn ∧ R x z = true ∧ ld R mn y n z = true
  | 0, _, x, y, hx, hy, h => ⟨y, 0, hy, h, by simp [ld]⟩
  | k + 1, hk, x, y, hx, hy, h => by
    have ih := wr_sound k (by omega)
    rw [wr_s, Bool.or_eq_true, Bool.and_eq_true] at h
    rcases h with h | ⟨h1, h2⟩
    · exact ih x y hx hy h
    · obtain ⟨z, n, hz, e1, e2⟩ := ih x k hx (by omega) h1
      obtain ⟨z', n', hz', f1, f2⟩ := ih k y (by omega) hy h2
      exact ⟨z, n + (n' + 1), hz, e1, ld_trans e2 (ld_edge (by omega) hz' f1 f2)⟩
theorem wr_comp {s : Nat} : ∀ n z, ld R mn s n z = true → z = s ∨ wr R mn z s = true
  | 0, z, h => Or.inl (by simpa [ld] using h)
  | n + 1, z, h => by
    rw [ld_s, Bool.or_eq_true] at h
    rcases h with h | h
    · exact wr_comp n z h
    · rw [Bool.and_eq_true, decide_eq_true_eq, exB_iff] at h
      obtain ⟨hz, y, hy, hh⟩ := h
      rw [Bool.and_eq_true] at hh
      rcases wr_comp n y hh.2 with e | e
      · rw [e] at hh; exact Or.inr (wr_R hh.1 mn)
      · exact Or.inr (wr_T mn y z s hy (wr_R hh.1 mn) e)
theorem wr_inR {s : Nat} (hs : s < mn) : wr R mn s s = inR R mn s := by
  rw [Bool.eq_iff_iff, inR_iff' hs]
  constructor
  · intro h
    exact wr_sound mn (Nat.le_refl _) s s hs hs h
  · rintro ⟨z, n, hz, h1, h2⟩
    rcases wr_comp n z h2 with e | e
    · rw [e] at h1; exact wr_R h1 mn
    · exact wr_T mn z s s hz (wr_R h1 mn) e
/-! how far -/
def dsx (R : Nat → Nat → Bool) (mn to x : Nat) : Nat := if fi (fun k => ld R mn to k x) mn < mn then fi (fun k => ld R mn to k x) mn else 100
theorem ds_of {k x : Nat} (hk : k < mn) (h : ld R mn to k x = true) (h2 : ∀ j, j < k → ld R mn to j x = false) : dsx R mn to x = k := by
  have := fi_char (h := fun k => ld R mn to k x) (n := mn) (c := k) (by omega) h2 (fun _ => h)
  unfold dsx
  rw [this, if_pos hk]
theorem ds_no {x : Nat} (h : ∀ k, k < mn → ld R mn to k x = false) : dsx R mn to x = 100 := by
  have := fi_char (h := fun k => ld R mn to k x) (n := mn) (c := mn) (Nat.le_refl _) h (fun z => by omega)
  unfold dsx
  rw [this, if_neg (by omega)]
theorem ds_le {k x : Nat} (hk : k < mn) (h : ld R mn to k x = true) : dsx R mn to x ≤ k ∧ ld R mn to (dsx R mn to x) x = true := by
  obtain ⟨f1, f2, f3⟩ := fi_spec (fun k => ld R mn to k x) mn
  have hle : fi (fun k => ld R mn to k x) mn ≤ k := by
    rcases Nat.lt_or_ge k (fi (fun k => ld R mn to k x) mn) with z | z
    · rw [f2 k z] at h; cases h
    · exact z
  unfold dsx
  rw [if_pos (by omega)]
  exact ⟨hle, f3 (by omega)⟩
theorem ds_cases (x : Nat) : (dsx R mn to x < mn ∧ ld R mn to (dsx R mn to x) x = true ∧ ∀ j, j < dsx R mn to x → ld R mn to j x = false) ∨ (dsx R mn to x = 100 ∧ ∀ k, k < mn → ld R mn to k x = false) := by
  obtain ⟨f1, f2, f3⟩ := fi_spec (fun k => ld R mn to k x) mn
  unfold dsx
  by_cases e : fi (fun k => ld R mn to k x) mn < mn
  · left
    rw [if_pos e]
    exact ⟨e, f3 e, f2⟩
  · right
    rw [if_neg e]
    exact ⟨rfl, fun k hk => f2 k (by omega)⟩
/-! the next one of a ring -/
def good (R : Nat → Nat → Bool) (mn s at' : Nat) (k : Nat) : Bool := exB (fun y => R at' y && ld R mn s k y) mn
def kk (R : Nat → Nat → Bool) (mn s at' : Nat) : Nat := fi (good R mn s at') mn
def nxt (R : Nat → Nat → Bool) (mn s at' : Nat) : Nat := fi (fun y => R at' y && ld R mn s (kk R mn s at') y) mn
theorem good_last {s a k : Nat} (hs : s < mn) (h : good R mn s a k = true) : good R mn s a (mn - 1) = true := by
  unfold good at h ⊢
  rw [exB_iff] at h ⊢
  obtain ⟨y, hy, hh⟩ := h
  rw [Bool.and_eq_true] at hh
  exact ⟨y, hy, by rw [hh.1, ld_last hs hy hh.2]; rfl⟩
theorem kk_spec {s a k : Nat} (hs : s < mn) (h : good R mn s a k = true) : kk R mn s a < mn ∧ good R mn s a (kk R mn s a) = true ∧ ∀ j, j < kk R mn s a → good R mn s a j = false := by
  have hl := good_last hs h
  obtain ⟨f1, f2, f3⟩ := fi_spec (good R mn s a) mn
  have hlt : fi (good R mn s a) mn < mn := by
    rcases Nat.lt_or_ge (fi (good R mn s a) mn) mn with z | z
    · exact z
    · rw [f2 (mn - 1) (by omega)] at hl; cases hl
  exact ⟨hlt, f3 hlt, f2⟩
theorem kk_le {s a k : Nat} (hk : k < mn) (h : good R mn s a k = true) : kk R mn s a ≤ k := by
  obtain ⟨f1, f2, f3⟩ := fi_spec (good R mn s a) mn
  rcases Nat.lt_or_ge k (fi (good R mn s a) mn) with z | z
  · rw [f2 k z] at h; cases h
  · exact z
theorem nxt_spec {s a k : Nat} (hs : s < mn) (h : good R mn s a k = true) : nxt R mn s a < mn ∧ R a (nxt R mn s a) = true ∧ ld R mn s (kk R mn s a) (nxt R mn s a) = true ∧ ∀ j, j < nxt R mn s a → (R a j && ld R mn s (kk R mn s a) j) = false := by
  obtain ⟨k1, k2, k3⟩ := kk_spec hs h
  obtain ⟨f1, f2, f3⟩ := fi_spec (fun y => R a y && ld R mn s (kk R mn s a) y) mn
  have hlt : fi (fun y => R a y && ld R mn s (kk R mn s a) y) mn < mn := by
    rcases Nat.lt_or_ge (fi (fun y => R a y && ld R mn s (kk R mn s a) y) mn) mn with z | z
    · exact z
    · unfold good at k2
      rw [exB_iff] at k2
      obtain ⟨y, hy, hh⟩ := k2
      have := f2 y (by omega)
      rw [hh] at this; cases this
  have q := f3 hlt
  rw [Bool.and_eq_true] at q
  exact ⟨hlt, q.1, q.2, f2⟩
theorem nxt_good {s a k : Nat} (hs : s < mn) (h : good R mn s a k = true) : nxt R mn s a = s ∨ (∃ k', good R mn s (nxt R mn s a) k' = true ∧ kk R mn s (nxt R mn s a) < kk R mn s a) := by
  obtain ⟨k1, k2, k3⟩ := kk_spec hs h
  obtain ⟨n1, n2, n3, n4⟩ := nxt_spec hs h
  generalize hn : nxt R mn s a = y at *
  cases hk : kk R mn s a with
  | zero =>
    rw [hk] at n3
    left
    simpa [ld] using n3
  | succ k' =>
    rw [hk] at n3
    rw [ld_s, Bool.or_eq_true] at n3
    rcases n3 with n3 | n3
    · exfalso
      have := k3 k' (by omega)
      unfold good at this
      have e : exB (fun y => R a y && ld R mn s k' y) mn = true := exB_iff.mpr ⟨y, n1, by rw [n2, n3]; rfl⟩
      rw [e] at this; cases this
    · right
      rw [Bool.and_eq_true] at n3
      have hg : good R mn s y k' = true := n3.2
      have := kk_le (by omega : k' < mn) hg
      exact ⟨k', hg, by omega⟩
/-- the lowest of those nearest: one only -/
theorem nxt_only {s a k b : Nat} (hs : s < mn) (h : good R mn s a k = true) (hm : mn ≤ 40) (hb : b < mn) (hR : R a b = true) (hmin : ∀ y, y < mn → R a y = true → dsx R mn s b ≤ dsx R mn s y ∧ (dsx R mn s y = dsx R mn s b → b ≤ y)) : b = nxt R mn s a := by
  obtain ⟨k1, k2, k3⟩ := kk_spec hs h
  obtain ⟨n1, n2, n3, n4⟩ := nxt_spec hs h
  have dge : ∀ y, y < mn → R a y = true → kk R mn s a ≤ dsx R mn s y := by
    intro y hy hRy
    rcases ds_cases (R := R) (mn := mn) (to := s) y with ⟨q1, q2, q3⟩ | ⟨q1, q2⟩
    · rcases Nat.lt_or_ge (dsx R mn s y) (kk R mn s a) with z | z
      · have := k3 _ z
        have e : good R mn s a (dsx R mn s y) = true := exB_iff.mpr ⟨y, hy, by rw [hRy, q2]; rfl⟩
        rw [e] at this; cases this
      · exact z
    · omega
  have dn := ds_le k1 n3
  have e1 : dsx R mn s (nxt R mn s a) = kk R mn s a := by
    have := dge _ n1 n2
    omega
  have e2 := hmin _ n1 n2
  have e3 := dge b hb hR
  have e4 : dsx R mn s b = kk R mn s a := by omega
  have hle := e2.2 (by omega)
  rcases Nat.lt_or_ge b (nxt R mn s a) with z | z
  · have := n4 b z
    have e5 : ld R mn s (kk R mn s a) b = true := by
      rcases ds_cases (R := R) (mn := mn) (to := s) b with ⟨q1, q2, q3⟩ | ⟨q1, q2⟩
      · rw [e4] at q2; exact q2
      · omega
    rw [hR, e5] at this; cases this
  · omega
/-- the ring, from its lowest -/
def rq (R : Nat → Nat → Bool) (mn s : Nat) : Nat → Nat
  | 0 => s
  | i + 1 => nxt R mn s (rq R mn s i)
def rsz (R : Nat → Nat → Bool) (mn s : Nat) : Nat := fi (fun i => rq R mn s (i + 1) == s) mn + 1
end RNG
end
section
/-! the lowest bit of a long -/
theorem nt_le4 : ∀ k, k < 32 → decide (nI (2 ^ k - 1) ≤ nI 4) = decide (k ≤ 2) := by decide
theorem nt_le16 : ∀ k, k < 32 → decide (nI (2 ^ k - 1) ≤ nI 16) = decide (k ≤ 4) := by decide
theorem nt_le256 : ∀ k, k < 32 → decide (nI (2 ^ k - 1) ≤ nI 256) = decide (k ≤ 8) := by decide
theorem nt_le65536 : ∀ k, k < 32 → decide (nI (2 ^ k - 1) ≤ nI 65536) = decide (k ≤ 16) := by decide
theorem nt_gt : ∀ k, k < 32 → decide ((0 : Int32) < nI (2 ^ k - 1)) = decide (1 ≤ k) := by decide
theorem nt_s1 : ∀ k, k < 32 → 1 ≤ k → ((nI (2 ^ k - 1)).toUInt32 >>> ((nI 1).toUInt32 &&& Int32.toUInt32 31)).toInt32 = nI (2 ^ (k - 1) - 1) := by decide
theorem nt_s2 : ∀ k, k < 32 → 2 ≤ k → ((nI (2 ^ k - 1)).toUInt32 >>> ((nI 2).toUInt32 &&& Int32.toUInt32 31)).toInt32 = nI (2 ^ (k - 2) - 1) := by decide
theorem nt_s4 : ∀ k, k < 32 → 4 ≤ k → ((nI (2 ^ k - 1)).toUInt32 >>> ((nI 4).toUInt32 &&& Int32.toUInt32 31)).toInt32 = nI (2 ^ (k - 4) - 1) := by decide
theorem nt_s8 : ∀ k, k < 32 → 8 ≤ k → ((nI (2 ^ k - 1)).toUInt32 >>> ((nI 8).toUInt32 &&& Int32.toUInt32 31)).toInt32 = nI (2 ^ (k - 8) - 1) := by decide
theorem nt_s16 : ∀ k, k < 32 → 16 ≤ k → ((nI (2 ^ k - 1)).toUInt32 >>> ((nI 16).toUInt32 &&& Int32.toUInt32 31)).toInt32 = nI (2 ^ (k - 16) - 1) := by decide
section NTZ
variable {L d : Nat} {σ : pj_St}
theorem nt74 {k m : Nat} (h1 : 1 ≤ k) (h2 : k ≤ 2) : pj_Ev L d gJ8_numberOfTrailingZeros 74 [.val (.int (nI (2 ^ k - 1))), .val (.int (nI m))] [] σ (.inl (some (.int (nI (m + k - 1)))), σ) := by
  have e : nI m + ((nI (2 ^ k - 1)).toUInt32 >>> ((nI 1).toUInt32 &&& Int32.toUInt32 31)).toInt32 = nI (m + k - 1) := by
    rw [nt_s1 k (by omega) h1, nI_add]
    rcases (by omega : k = 1 ∨ k = 2) with rfl | rfl
    · rfl
    · rfl
  rw [← e]
  refine ev_b 5 rfl ?_
  exact ev_ret rfl rfl rfl
theorem nt62 {k m : Nat} (h1 : 1 ≤ k) (h2 : k ≤ 4) : pj_Ev L d gJ8_numberOfTrailingZeros 62 [.val (.int (nI (2 ^ k - 1))), .val (.int (nI m))] [] σ (.inl (some (.int (nI (m + k - 1)))), σ) := by
  refine ev_b 2 rfl ?_
  refine ev_if (nI (2 ^ k - 1)) (nI 4) rfl rfl (fun h => ?_) (fun h => ?_)
  · have h : decide (nI (2 ^ k - 1) ≤ nI 4) = true := h
    rw [nt_le4 k (by omega), decide_eq_true_eq] at h
    exact nt74 h1 h
  · have h : decide (nI (2 ^ k - 1) ≤ nI 4) = false := h
    rw [nt_le4 k (by omega), decide_eq_false_iff_not] at h
    refine ev_b 5 (lv' := [.val (.int ((nI (2 ^ k - 1)).toUInt32 >>> ((nI 2).toUInt32 &&& Int32.toUInt32 31)).toInt32), .val (.int (nI m + nI 2))]) rfl ?_
    rw [nt_s2 k (by omega) (by omega), nI_add]
    have := nt74 (L := L) (d := d) (σ := σ) (k := k - 2) (m := m + 2) (by omega) (by omega)
    rw [show m + 2 + (k - 2) - 1 = m + k - 1 by omega] at this
    exact this
theorem nt49 {k m : Nat} (h1 : 1 ≤ k) (h2 : k ≤ 8) : pj_Ev L d gJ8_numberOfTrailingZeros 49 [.val (.int (nI (2 ^ k - 1))), .val (.int (nI m))] [] σ (.inl (some (.int (nI (m + k - 1)))), σ) := by
  refine ev_b 2 rfl ?_
  refine ev_if (nI (2 ^ k - 1)) (nI 16) rfl rfl (fun h => ?_) (fun h => ?_)
  · have h : decide (nI (2 ^ k - 1) ≤ nI 16) = true := h
    rw [nt_le16 k (by omega), decide_eq_true_eq] at h
    exact nt62 h1 h
  · have h : decide (nI (2 ^ k - 1) ≤ nI 16) = false := h
    rw [nt_le16 k (by omega), decide_eq_false_iff_not] at h
    refine ev_b 5 (lv' := [.val (.int ((nI (2 ^ k - 1)).toUInt32 >>> ((nI 4).toUInt32 &&& Int32.toUInt32 31)).toInt32), .val (.int (nI m + nI 4))]) rfl ?_
    rw [nt_s4 k (by omega) (by omega), nI_add]
    have := nt62 (L := L) (d := d) (σ := σ) (k := k - 4) (m := m + 4) (by omega) (by omega)
    rw [show m + 4 + (k - 4) - 1 = m + k - 1 by omega] at this
    exact this
theorem nt34 {k m : Nat} (h1 : 1 ≤ k) (h2 : k ≤ 16) : pj_Ev L d gJ8_numberOfTrailingZeros 34 [.val (.int (nI (2 ^ k - 1))), .val (.int (nI m))] [] σ (.inl (some (.int (nI (m + k - 1)))), σ) := by
  refine ev_b 2 rfl ?_
  refine ev_if (nI (2 ^ k - 1)) (nI 256) rfl rfl (fun h => ?_) (fun h => ?_)
  · have h : decide (nI (2 ^ k - 1) ≤ nI 256) = true := h
    rw [nt_le256 k (by omega), decide_eq_true_eq] at h
    exact nt49 h1 h
  · have h : decide (nI (2 ^ k - 1) ≤ nI 256) = false := h
    rw [nt_le256 k (by omega), decide_eq_false_iff_not] at h
    refine ev_b 5 (lv' := [.val (.int ((nI (2 ^ k - 1)).toUInt32 >>> ((nI 8).toUInt32 &&& Int32.toUInt32 31)).toInt32), .val (.int (nI m + nI 8))]) rfl ?_
    rw [nt_s8 k (by omega) (by omega), nI_add]
    have := nt49 (L := L) (d := d) (σ := σ) (k := k - 8) (m := m + 8) (by omega) (by omega)
    rw [show m + 8 + (k - 8) - 1 = m + k - 1 by omega] at this
    exact this
theorem nt8 {k : Nat} (h2 : k < 32) {s1 : Slot} : pj_Ev L d gJ8_numberOfTrailingZeros 8 [.val (.int (nI (2 ^ k - 1))), s1] [] σ (.inl (some (.int (nI k))), σ) := by
  refine ev_b 1 rfl ?_
  refine ev_if0 (nI (2 ^ k - 1)) rfl rfl (fun h => ?_) (fun h => ?_)
  · have h : decide ((0 : Int32) < nI (2 ^ k - 1)) = true := h
    rw [nt_gt k h2, decide_eq_true_eq] at h
    refine ev_b 4 rfl ?_
    refine ev_if (nI (2 ^ k - 1)) (nI 65536) rfl rfl (fun z => ?_) (fun z => ?_)
    · have z : decide (nI (2 ^ k - 1) ≤ nI 65536) = true := z
      rw [nt_le65536 k (by omega), decide_eq_true_eq] at z
      have := nt34 (L := L) (d := d) (σ := σ) (k := k) (m := 1) h z
      rw [show 1 + k - 1 = k by omega] at this
      exact this
    · have z : decide (nI (2 ^ k - 1) ≤ nI 65536) = false := z
      rw [nt_le65536 k (by omega), decide_eq_false_iff_not] at z
      refine ev_b 5 (lv' := [.val (.int ((nI (2 ^ k - 1)).toUInt32 >>> ((nI 16).toUInt32 &&& Int32.toUInt32 31)).toInt32), .val (.int (nI 1 + nI 16))]) rfl ?_
      rw [nt_s16 k (by omega) (by omega), nI_add]
      have := nt34 (L := L) (d := d) (σ := σ) (k := k - 16) (m := 1 + 16) (by omega) (by omega)
      rw [show 1 + 16 + (k - 16) - 1 = k by omega] at this
      exact this
  · have h : decide ((0 : Int32) < nI (2 ^ k - 1)) = false := h
    rw [nt_gt k h2, decide_eq_false_iff_not] at h
    have : k = 0 := by omega
    subst this
    refine ev_b 3 rfl ?_
    exact ev_ret rfl rfl rfl
theorem low_law {i : Int32} {k : Nat} (hk : k < 32) (hb : bt i k = true) (hl : ∀ j, j < k → bt i j = false) : (i ^^^ (-1)) &&& (i - nI 1) = nI (2 ^ k - 1) := by
  have hbits : ∀ j, i.toBitVec.toNat.testBit j = bt i j := fun j => BitVec.testBit_toNat _
  have hi : nI i.toBitVec.toNat = i := b_ext fun j hj => by rw [bt_nI, decide_eq_true hj, Bool.true_and, hbits]
  have hlt : i.toBitVec.toNat < 2 ^ 32 := BitVec.isLt _
  generalize i.toBitVec.toNat = A at *
  -- A = 2^k * q, q odd
  have hmod : A % 2 ^ k = 0 := Nat.eq_of_testBit_eq fun j => by
    rw [Nat.testBit_mod_two_pow, Nat.zero_testBit]
    by_cases z : j < k
    · rw [hbits, hl j z, Bool.and_false]
    · simp [z]
  have hA : A = 2 ^ k * (A / 2 ^ k) := by
    have := Nat.div_add_mod A (2 ^ k)
    omega
  have hq : (A / 2 ^ k) % 2 = 1 := by
    have := hbits k
    rw [hb, Nat.testBit_eq_decide_div_mod_eq, decide_eq_true_eq] at this
    exact this
  generalize hQ : A / 2 ^ k = q at *
  have hpos : 0 < 2 ^ k := Nat.two_pow_pos k
  obtain ⟨m, hm⟩ : ∃ m, q = 2 * m + 1 := ⟨q / 2, by omega⟩
  have hA1 : A - 1 = 2 ^ k * (2 * m) + (2 ^ k - 1) := by
    rw [hA, hm, Nat.mul_add, Nat.mul_one]
    omega
  have hge : 1 ≤ A := by
    rw [hA, hm, Nat.mul_add, Nat.mul_one]
    omega
  have hs : i - nI 1 = nI (A - 1) := by rw [← hi]; exact pk_sub hge
  apply b_ext
  intro j hj
  rw [hs, b_and, b_xor, b_m1 j hj, bt_nI, bt_nI, decide_eq_true hj, Bool.true_and, Bool.true_and, Nat.testBit_two_pow_sub_one, ← hbits, hA1, Nat.testBit_two_pow_mul_add _ (by omega)]
  by_cases z : j < k
  · rw [if_pos z, Nat.testBit_two_pow_sub_one, hbits, hl j z]
    simp [z]
  · rw [if_neg z, hA, hm, Nat.testBit_two_pow_mul]
    rw [decide_eq_false z, decide_eq_true (by omega : k ≤ j), Bool.true_and]
    generalize j - k = t
    cases t with
    | zero =>
      rw [Nat.testBit_zero, Nat.testBit_zero]
      have e1 : 2 * m % 2 = 0 := by omega
      have e2 : (2 * m + 1) % 2 = 1 := by omega
      rw [e1, e2]; rfl
    | succ t =>
      rw [Nat.testBit_succ, Nat.testBit_succ]
      have e1 : 2 * m / 2 = m := by omega
      have e2 : (2 * m + 1) / 2 = m := by omega
      rw [e1, e2]
      cases m.testBit t <;> rfl
theorem c_ntzI {i : Int32} {k : Nat} (hk : k < 32) (hb : bt i k = true) (hl : ∀ j, j < k → bt i j = false) : pj_Ev L d gJ8_numberOfTrailingZeros 0 [.val (.int i), .unset] [] σ (.inl (some (.int (nI k))), σ) := by
  refine ev_b 8 (lv' := [.val (.int ((i ^^^ (-1)) &&& (i - nI 1))), .unset]) rfl ?_
  rw [low_law hk hb hl]
  exact nt8 hk
theorem bt_l2i (v : Int64) {j : Nat} (hj : j < 32) : bt v.toInt32 j = lb v j := by
  unfold bt lb
  rw [Int64.toBitVec_toInt32, BitVec.getLsbD_signExtend]
  have : j < 64 := by omega
  simp [hj, this]
theorem lb_ush {v : Int64} {k i : Nat} (hk : k < 64) : lb (v.toUInt64 >>> ((nI k).toInt64.toUInt64 &&& Int64.toUInt64 63)).toInt64 i = lb v (k + i) := by
  unfold lb
  rw [UInt64.toBitVec_toInt64, UInt64.toBitVec_shiftRight, BitVec.ushiftRight_eq', s_ul k hk, BitVec.getLsbD_ushiftRight, Int64.toBitVec_toUInt64]
theorem c_ntzL {v : Int64} {k : Nat} (hk : k < 64) (hb : lb v k = true) (hl : ∀ j, j < k → lb v j = false) : pj_Ev L (d + 1) gJ7_numberOfTrailingZeros 0 [.val (.long v), .unset, .unset] [] σ (.inl (some (.int (nI k))), σ) := by
  refine ev_b 4 rfl ?_
  by_cases h32 : k < 32
  · have hne : ¬ v.toInt32 = 0 := fun z => by
      have := bt_l2i v h32
      rw [z, hb, b_0] at this
      cases this
    refine ev_if0 v.toInt32 rfl rfl (fun _ => ?_) (fun h => absurd (Classical.not_not.mp (of_decide_eq_false h)) hne)
    refine ev_b 1 rfl ?_
    refine ev_c rfl (c_ntzI h32 (by rw [bt_l2i v h32]; exact hb) (fun j hj => by rw [bt_l2i v (by omega)]; exact hl j hj)) ?_
    exact ev_ret rfl rfl rfl
  · have he : v.toInt32 = 0 := b_ext fun j hj => by rw [bt_l2i v hj, b_0]; exact hl j (by omega)
    refine ev_if0 v.toInt32 rfl rfl (fun h => absurd he (of_decide_eq_true h)) (fun _ => ?_)
    refine ev_b 5 rfl ?_
    have hbit : ∀ j, j < 32 → bt (v.toUInt64 >>> ((nI 32).toInt64.toUInt64 &&& Int64.toUInt64 63)).toInt64.toInt32 j = lb v (32 + j) := fun j hj => by rw [bt_l2i _ hj, lb_ush (by decide)]
    refine ev_c rfl (c_ntzI (i := (v.toUInt64 >>> ((nI 32).toInt64.toUInt64 &&& Int64.toUInt64 63)).toInt64.toInt32) (k := k - 32) (by omega) (by rw [hbit _ (by omega), show 32 + (k - 32) = k by omega]; exact hb) (fun j hj => by rw [hbit j (by omega)]; exact hl _ (by omega))) ?_
    have e : nI 32 + nI (k - 32) = nI k := by rw [nI_add, show 32 + (k - 32) = k by omega]
    rw [← e]
    refine ev_b 2 rfl ?_
    exact ev_ret rfl rfl rfl
end NTZ
end
section
/-! the router's search for a ring -/
def isR (fr : Nat) : Prop := fr = 88 ∨ fr = 89
theorem isR.kd {fr : Nat} (h : isR fr) : pj_kd fr = 5 := by rcases h with rfl | rfl <;> rfl
theorem isR.al {fr n0 : Nat} (h : isR fr) : pj_al (.inr n0) fr = true := by rcases h with rfl | rfl <;> rfl
theorem isR.ln {fr L : Nat} (h : isR fr) : pj_ln L fr = 40 := by rcases h with rfl | rfl <;> rfl
theorem isR.pos {fr : Nat} (h : isR fr) : 0 < fr := by rcases h with rfl | rfl <;> decide
def SF (fr : Nat) : Nat → Nat → Prop := fun o k => (o = 1 ∧ k = 8) ∨ o = fr
section SRX
variable {L d n0 : Nat} {I : pj_SI} {J : pj_SJ} {pl tr rg fr : Nat} {mn : Nat} {B : Nat → Nat → Bool}
theorem land_bits {x st to : Nat} {v : Int64} (hJ : JX tr J mn B) (hx : x < mn) (hv : ∀ y, y < 64 → lb v y = ld B mn to st y) {y : Nat} (hy : y < 64) : lb (J (tr + 2 + x) 5 &&& v) y = (decide (y < mn) && (B x y && ld B mn to st y)) := by
  rw [l_and, (hJ x hx y hy).1, hv y hy, Bool.and_assoc]
theorem land_z {x st to : Nat} {v : Int64} (hmn : mn ≤ 40) (hJ : JX tr J mn B) (hx : x < mn) (hv : ∀ y, y < 64 → lb v y = ld B mn to st y) : (J (tr + 2 + x) 5 &&& v = 0) ↔ exB (fun y => B x y && ld B mn to st y) mn = false := by
  rw [l_zero, ← Bool.not_eq_true, exB_iff]
  constructor
  · rintro h ⟨y, hy, hh⟩
    have := h y (by omega)
    rw [land_bits hJ hx hv (by omega), hh, decide_eq_true hy] at this
    cases this
  · intro h y hy
    rw [land_bits hJ hx hv hy]
    by_cases z : y < mn
    · rw [decide_eq_true z, Bool.true_and]
      cases hb : (B x y && ld B mn to st y) with
      | false => rfl
      | true => exact absurd ⟨y, z, hb⟩ h
    · rw [decide_eq_false z, Bool.false_and]
theorem c_leading (ht : isP tr) (h1 : I tr 1 = nI mn) (hmn : mn ≤ 40) (hJ : JX tr J mn B) {to st : Nat} (hto : to < mn) (hst : st < 2 ^ 31) :
    ∃ v, pj_Ev L d gX1_leading 0 [.val (.ref 1), .val (.int (nI to)), .val (.int (nI st)), .unset, .unset, .unset, .unset, .unset, .unset] [] (xS n0 I J pl tr rg fr) (.inl (some (.long v)), xS n0 I J pl tr rg fr) ∧ ∀ y, y < 64 → lb v y = ld B mn to st y := by
  have outer : ∀ m k (w : Int32) (set : Int64) (s6 s8 : Slot), k + m = st → w = nI k → (∀ y, y < 64 → lb set y = ld B mn to k y) →
      ∃ v, pj_Ev L d gX1_leading 7 [.val (.ref 1), .val (.int (nI to)), .val (.int (nI st)), .val (.long set), .unset, .val (.int w), s6, .unset, s8] [] (xS n0 I J pl tr rg fr) (.inl (some (.long v)), xS n0 I J pl tr rg fr) ∧ ∀ y, y < 64 → lb v y = ld B mn to st y := by
    intro m
    induction m with
    | zero =>
      intro k w set s6 s8 hk hw hs
      have hk : k = st := by omega
      subst hk; subst hw
      refine ⟨set, ?_, hs⟩
      refine ev_b 2 rfl ?_
      refine ev_ge k k rfl rfl hst hst (fun _ => ?_) (fun h => by omega)
      refine ev_b 1 rfl ?_
      exact ev_ret rfl rfl rfl
    | succ m ih =>
      intro k w set s6 s8 hk hw hs
      subst hw
      have inner : ∀ m2 x (w : Int32) (more : Int64), x + m2 = mn → w = nI x → (∀ y, y < 64 → lb more y = (ld B mn to k y || (decide (y < x) && exB (fun z => B y z && ld B mn to k z) mn))) →
          ∃ v, pj_Ev L d gX1_leading 19 [.val (.ref 1), .val (.int (nI to)), .val (.int (nI st)), .val (.long set), .unset, .val (.int (nI k)), .val (.long more), .unset, .val (.int w)] [] (xS n0 I J pl tr rg fr) (.inl (some (.long v)), xS n0 I J pl tr rg fr) ∧ ∀ y, y < 64 → lb v y = ld B mn to st y := by
        intro m2
        induction m2 with
        | zero =>
          intro x w more hx hw hm
          have hx : x = mn := by omega
          subst hw; rw [hx] at hm
          obtain ⟨v, ev, q⟩ := ih (k + 1) (nI (k + 1)) more (.val (.long more)) (.val (.int (nI x))) (by omega) rfl (fun y hy => by rw [hm y hy, ld_s])
          refine ⟨v, ?_, q⟩
          rw [nI_succ k] at ev
          refine ev_b 3 rfl ?_
          refine ev_gp 1 _ ht h1 (Or.inl rfl) rfl rfl ?_
          refine ev_ge x mn rfl rfl (by omega) (by omega) (fun _ => ?_) (fun h => by omega)
          exact ev_b 4 rfl ev
        | succ m2 ih2 =>
          intro x w more hx hw hm
          subst hw
          have hxm : x < mn := by omega
          have hx40 : x < 40 := by omega
          have hz := land_z hmn hJ hxm hs
          by_cases e : exB (fun z => B x z && ld B mn to k z) mn = true
          · obtain ⟨v, ev, q⟩ := ih2 (x + 1) (nI (x + 1)) (more ||| (1 <<< ((nI x).toInt64 &&& 63))) (by omega) rfl (fun y hy => by
              rw [l_or, hm y hy, lb_one (by omega) hy]
              by_cases z : y = x
              · subst z; simp [e]
              · have : y < x + 1 ↔ y < x := by omega
                simp [z, this])
            refine ⟨v, ?_, q⟩
            rw [nI_succ x] at ev
            refine ev_b 3 rfl ?_
            refine ev_gp 1 _ ht h1 (Or.inl rfl) rfl rfl ?_
            refine ev_ge x mn rfl rfl (by omega) (by omega) (fun h => by omega) (fun _ => ?_)
            refine ev_b 2 rfl ?_
            refine ev_ga ht rfl rfl ?_
            refine ev_b 1 rfl ?_
            refine ev_as ht hx40 rfl ?_
            refine ev_gsl 5 _ ht hx40 rfl (Or.inl rfl) rfl rfl ?_
            refine ev_b 4 rfl ?_
            refine ev_if0 (lg_cmp (J (tr + 2 + x) 5 &&& set) 0) rfl rfl (fun h => ?_) (fun _ => ?_)
            · have := hz.mp ((lg_z _ _).mp (of_decide_eq_true h))
              rw [e] at this; cases this
            · exact ev_b 8 rfl ev
          · rw [Bool.not_eq_true] at e
            obtain ⟨v, ev, q⟩ := ih2 (x + 1) (nI (x + 1)) more (by omega) rfl (fun y hy => by
              rw [hm y hy]
              by_cases z : y = x
              · subst z; simp [e]
              · have : y < x + 1 ↔ y < x := by omega
                simp [this])
            refine ⟨v, ?_, q⟩
            rw [nI_succ x] at ev
            refine ev_b 3 rfl ?_
            refine ev_gp 1 _ ht h1 (Or.inl rfl) rfl rfl ?_
            refine ev_ge x mn rfl rfl (by omega) (by omega) (fun h => by omega) (fun _ => ?_)
            refine ev_b 2 rfl ?_
            refine ev_ga ht rfl rfl ?_
            refine ev_b 1 rfl ?_
            refine ev_as ht hx40 rfl ?_
            refine ev_gsl 5 _ ht hx40 rfl (Or.inl rfl) rfl rfl ?_
            refine ev_b 4 rfl ?_
            refine ev_if0 (lg_cmp (J (tr + 2 + x) 5 &&& set) 0) rfl rfl (fun _ => ?_) (fun h => ?_)
            · exact ev_b 2 rfl ev
            · exact absurd ((lg_z _ _).mpr (hz.mpr e)) (of_decide_eq_false h)
      obtain ⟨v, ev, q⟩ := inner mn 0 (nI 0) set (by omega) rfl (fun y hy => by rw [hs y hy]; simp)
      refine ⟨v, ?_, q⟩
      refine ev_b 2 rfl ?_
      refine ev_ge k st rfl rfl (by omega) hst (fun h => by omega) (fun _ => ?_)
      exact ev_b 4 rfl ev
  obtain ⟨v, ev, q⟩ := outer st 0 (nI 0) (1 <<< ((nI to).toInt64 &&& 63)) .unset .unset (by omega) rfl (fun y hy => by
    rw [lb_one (by omega) hy]
    rw [Bool.eq_iff_iff]
    simp [ld])
  exact ⟨v, ev_b 6 rfl ev, q⟩
theorem c_inRing (ht : isP tr) (h1 : I tr 1 = nI mn) (hmn : mn ≤ 40) (hJ : JX tr J mn B) {s : Nat} (hs : s < mn) :
    pj_Ev L (d + 1) gX1_inRing 0 [.val (.ref 1), .val (.int (nI s)), .unset, .unset] [] (xS n0 I J pl tr rg fr) (.inl (some (.int (bI (inR B mn s)))), xS n0 I J pl tr rg fr) := by
  have hs40 : s < 40 := by omega
  obtain ⟨v, ev, q⟩ := c_leading (L := L) (d := d) (n0 := n0) (pl := pl) (rg := rg) (fr := fr) ht h1 hmn hJ hs (show mn < 2 ^ 31 by omega)
  have hz := land_z hmn hJ hs q
  refine ev_b 4 rfl ?_
  refine ev_gp 1 _ ht h1 (Or.inl rfl) rfl rfl ?_
  refine ev_c rfl ev ?_
  refine ev_b 3 rfl ?_
  refine ev_ga ht rfl rfl ?_
  refine ev_b 1 rfl ?_
  refine ev_as ht hs40 rfl ?_
  refine ev_gsl 5 _ ht hs40 rfl (Or.inl rfl) rfl rfl ?_
  refine ev_b 4 rfl ?_
  unfold inR
  refine ev_if0 (lg_cmp (J (tr + 2 + s) 5 &&& v) 0) rfl rfl (fun h => ?_) (fun h => ?_)
  · rw [hz.mp ((lg_z _ _).mp (of_decide_eq_true h))]
    refine ev_b 1 rfl ?_
    exact ev_ret rfl rfl rfl
  · have e : exB (fun y => B s y && ld B mn s mn y) mn = true := by
      rw [← Bool.not_eq_false]
      intro z
      exact (of_decide_eq_false h) ((lg_z _ _).mpr (hz.mpr z))
    rw [e]
    refine ev_b 2 rfl ?_
    exact ev_ret rfl rfl rfl
theorem c_searchRing_no (ht : isP tr) (h1 : I tr 1 = nI mn) (hmn : mn ≤ 40) (hJ : JX tr J mn B) (hno : ∀ s, s < mn → inR B mn s = false) :
    pj_Ev L (d + 2) gX1_searchRing 0 [.val (.ref 1), .unset, .unset, .unset, .unset, .unset] [] (xS n0 I J pl tr rg fr) (.inl none, xS n0 I J pl tr rg fr) := by
  have loop : ∀ m s (w : Int32), s + m = mn → w = nI s →
      pj_Ev L (d + 2) gX1_searchRing 2 [.val (.ref 1), .val (.int w), .unset, .unset, .unset, .unset] [] (xS n0 I J pl tr rg fr) (.inl none, xS n0 I J pl tr rg fr) := by
    intro m
    induction m with
    | zero =>
      intro s w hs hw
      have hs : s = mn := by omega
      subst hw
      refine ev_b 3 rfl ?_
      refine ev_gp 1 _ ht h1 (Or.inl rfl) rfl rfl ?_
      refine ev_ge s mn rfl rfl (by omega) (by omega) (fun _ => ?_) (fun h => by omega)
      refine ev_b 3 rfl ?_
      refine ev_gp 1 _ ht h1 (Or.inl rfl) rfl rfl ?_
      refine ev_ne s mn rfl rfl (by omega) (by omega) (fun h => absurd hs h) (fun _ => ?_)
      exact ev_ret rfl rfl rfl
    | succ m ih =>
      intro s w hs hw
      subst hw
      refine ev_b 3 rfl ?_
      refine ev_gp 1 _ ht h1 (Or.inl rfl) rfl rfl ?_
      refine ev_ge s mn rfl rfl (by omega) (by omega) (fun h => by omega) (fun _ => ?_)
      refine ev_b 2 rfl ?_
      refine ev_c rfl (c_inRing ht h1 hmn hJ (by omega)) ?_
      rw [hno s (by omega)]
      refine ev_nz false rfl rfl (fun h => by cases h) (fun _ => ?_)
      refine ev_b 2 rfl ?_
      exact ih (s + 1) _ (by omega) (nI_inc s)
  exact ev_b 2 rfl (loop mn 0 _ (by omega) rfl)
theorem c_searchRing_yes (ht : isP tr) (hfr : isR fr) (h1 : I tr 1 = nI mn) (hmn : mn ≤ 40) (hJ : JX tr J mn B) {s : Nat} (hs : s < mn) (hyes : inR B mn s = true) (hlow : ∀ j, j < s → inR B mn j = false) :
    ∃ I', pj_Ev L (d + 2) gX1_searchRing 0 [.val (.ref 1), .unset, .unset, .unset, .unset, .unset] [] (xS n0 I J pl tr rg fr) (.inr 22, xS (n0 + 1) I' J pl tr rg fr) ∧ Fr (SF fr) I I' ∧ I' 1 8 = nI (rsz B mn s) ∧ rsz B mn s ≤ mn ∧ ∀ k, k < rsz B mn s → I' fr k = nI (rq B mn s k) := by
  have htr : tr ≠ 1 ∧ tr ≠ fr := by rcases ht with rfl | rfl <;> rcases hfr with rfl | rfl <;> decide
  have hfr1 : fr ≠ 1 := by rcases hfr with rfl | rfl <;> decide
  have ring : ∀ m i (I : pj_SI) (s3 s4 : Slot), kk B mn s (rq B mn s i) ≤ m → (∃ k, good B mn s (rq B mn s i) k = true) → rq B mn s i < mn → i + kk B mn s (rq B mn s i) + 1 ≤ mn → (∀ j, j < i → rq B mn s (j + 1) ≠ s) → I tr 1 = nI mn → I 1 8 = nI i → (∀ j, j < i → I fr j = nI (rq B mn s j)) →
      ∃ I', pj_Ev L (d + 2) gX1_searchRing 46 [.val (.ref 1), .val (.int (nI s)), .val (.int (nI (rq B mn s i))), s3, s4, .unset] [] (xS n0 I J pl tr rg fr) (.inr 22, xS (n0 + 1) I' J pl tr rg fr) ∧ Fr (SF fr) I I' ∧ I' 1 8 = nI (rsz B mn s) ∧ rsz B mn s ≤ mn ∧ ∀ k, k < rsz B mn s → I' fr k = nI (rq B mn s k) := by
    intro m
    induction m with
    | zero =>
      intro i I s3 s4 hk hg hat hi hne h1 h8 hr
      obtain ⟨k0, hg⟩ := hg
      obtain ⟨k1, k2, k3⟩ := kk_spec hs hg
      obtain ⟨n1, n2, n3, n4⟩ := nxt_spec hs hg
      have hrq : rq B mn s (i + 1) = nxt B mn s (rq B mn s i) := rfl
      have hend : nxt B mn s (rq B mn s i) = s := by
        have e : kk B mn s (rq B mn s i) = 0 := by omega
        rw [e] at n3
        simpa [ld] using n3
      have hsz : rsz B mn s = i + 1 := by
        unfold rsz
        rw [fi_char (c := i) (by omega) (fun j hj => beq_false_of_ne (hne j hj)) (fun _ => by rw [hrq, hend, beq_self_eq_true])]
      generalize hA : rq B mn s i = a at *
      have ha40 : a < 40 := by omega
      have hI2 : Fr (SF fr) I (pj_u2 (pj_u2 I 1 8 (nI (i + 1))) fr i (nI a)) := Fr.tr (Fr.u (Or.inl ⟨rfl, rfl⟩)) (Fr.u (Or.inr rfl))
      refine ⟨pj_u2 (pj_u2 I 1 8 (nI (i + 1))) fr i (nI a), ?_, hI2, ?_, by omega, ?_⟩
      · have e1 : I 1 8 + nI 1 = nI (i + 1) := by rw [h8, nI_add]
        refine ev_b 10 (σ' := xS n0 (pj_u2 I 1 8 (I 1 8 + nI 1)) J pl tr rg fr) rfl ?_
        show pj_Ev L (d + 2) gX1_searchRing 62 _ [.int (nI a), .int (I 1 8), .ref fr] _ _
        rw [e1, h8]
        refine ev_is fr i (nI a) rfl hfr.kd hfr.pos hfr.al (by rw [hfr.ln]; omega) (by omega) ?_
        have h1' : (pj_u2 (pj_u2 I 1 8 (nI (i + 1))) fr i (nI a)) tr 1 = nI mn := by rw [u2n _ _ htr.2, u2n _ _ htr.1]; exact h1
        obtain ⟨v, ev, q⟩ := c_leading (L := L) (d := d + 1) (n0 := n0) (pl := pl) (rg := rg) (fr := fr) (st := 0) ht h1' hmn hJ hs (by decide)
        have hz := land_z hmn hJ hat q
        have e0 : kk B mn s a = 0 := by omega
        rw [e0] at k2 n4
        refine ev_b 4 rfl ?_
        refine ev_ga ht rfl rfl ?_
        refine ev_b 1 rfl ?_
        refine ev_as ht ha40 rfl ?_
        refine ev_gsl 5 _ ht ha40 rfl (Or.inl rfl) rfl rfl ?_
        refine ev_b 1 rfl ?_
        refine ev_b 4 rfl ?_
        refine ev_c rfl ev ?_
        refine ev_b 3 rfl ?_
        refine ev_if0 (lg_cmp (J (tr + 2 + a) 5 &&& v) 0) rfl rfl (fun _ => ?_) (fun h => ?_)
        · refine ev_b 4 rfl ?_
          refine ev_c rfl ev ?_
          refine ev_b 1 rfl ?_
          refine ev_c rfl (c_ntzL (v := J (tr + 2 + a) 5 &&& v) (k := s) (by omega) (by
            rw [land_bits hJ hat q (by omega), decide_eq_true hs, Bool.true_and]
            rw [hend] at n2 n3
            rw [e0] at n3
            rw [n2, n3]; rfl) (fun j hj => by
            rw [land_bits hJ hat q (by omega)]
            rw [hend] at n4
            rw [n4 j hj, Bool.and_false])) ?_
          refine ev_b 3 rfl ?_
          refine ev_ne s s rfl rfl (by omega) (by omega) (fun h => absurd rfl h) (fun _ => ?_)
          exact ev_thr rfl rfl rfl rfl rfl
        · have := (lg_z _ _).mp (Classical.not_not.mp (of_decide_eq_false h))
          have := hz.mp this
          unfold good at k2
          rw [k2] at this; cases this
      · rw [hsz, u2n _ _ (fun z => hfr1 z.symm), pj_u2_self]
      · intro k hk
        rw [hsz] at hk
        by_cases e : k = i
        · rw [e, pj_u2_self, hA]
        · rw [u2k _ _ e, u2n _ _ hfr1]
          exact hr k (by omega)
    | succ m ih =>
      intro i I s3 s4 hk hg hat hi hne h1 h8 hr
      obtain ⟨k0, hg⟩ := hg
      obtain ⟨k1, k2, k3⟩ := kk_spec hs hg
      obtain ⟨n1, n2, n3, n4⟩ := nxt_spec hs hg
      have hgo := nxt_good hs hg
      have hrq : rq B mn s (i + 1) = nxt B mn s (rq B mn s i) := rfl
      have hsz0 : nxt B mn s (rq B mn s i) = s → rsz B mn s = i + 1 := fun hend => by
        unfold rsz
        rw [fi_char (c := i) (by omega) (fun j hj => beq_false_of_ne (hne j hj)) (fun _ => by rw [hrq, hend, beq_self_eq_true])]
      have ih1 := ih (i + 1)
      rw [hrq] at ih1
      have hrqi : ∀ j, j < i + 1 → j ≠ i → j < i := fun j h1 h2 => by omega
      generalize hA : rq B mn s i = a at *
      have ha40 : a < 40 := by omega
      have hI2 : Fr (SF fr) I (pj_u2 (pj_u2 I 1 8 (nI (i + 1))) fr i (nI a)) := Fr.tr (Fr.u (Or.inl ⟨rfl, rfl⟩)) (Fr.u (Or.inr rfl))
      have h1' : (pj_u2 (pj_u2 I 1 8 (nI (i + 1))) fr i (nI a)) tr 1 = nI mn := by rw [u2n _ _ htr.2, u2n _ _ htr.1]; exact h1
      have h8' : (pj_u2 (pj_u2 I 1 8 (nI (i + 1))) fr i (nI a)) 1 8 = nI (i + 1) := by rw [u2n _ _ (fun z => hfr1 z.symm), pj_u2_self]
      have hr' : ∀ k, k < i + 1 → (pj_u2 (pj_u2 I 1 8 (nI (i + 1))) fr i (nI a)) fr k = nI (rq B mn s k) := by
        intro k hk
        by_cases e : k = i
        · rw [e, pj_u2_self, hA]
        · rw [u2k _ _ e, u2n _ _ hfr1]
          exact hr k (by omega)
      -- what comes after the next one is known
      have rest : ∃ I', (∀ (s3 s4 : Slot), pj_Ev L (d + 2) gX1_searchRing 111 [.val (.ref 1), .val (.int (nI s)), .val (.int (nI a)), .val (.int (nI (kk B mn s a))), .val (.long (J (tr + 2 + a) 5)), .unset] [.int (nI (nxt B mn s a))] (xS n0 (pj_u2 (pj_u2 I 1 8 (nI (i + 1))) fr i (nI a)) J pl tr rg fr) (.inr 22, xS (n0 + 1) I' J pl tr rg fr)) ∧ Fr (SF fr) (pj_u2 (pj_u2 I 1 8 (nI (i + 1))) fr i (nI a)) I' ∧ I' 1 8 = nI (rsz B mn s) ∧ rsz B mn s ≤ mn ∧ ∀ k, k < rsz B mn s → I' fr k = nI (rq B mn s k) := by
        by_cases hend : nxt B mn s a = s
        · refine ⟨pj_u2 (pj_u2 I 1 8 (nI (i + 1))) fr i (nI a), fun s3 s4 => ?_, Fr.rfl', by rw [hsz0 hend]; exact h8', by rw [hsz0 hend]; omega, fun k hk => hr' k (by rw [hsz0 hend] at hk; exact hk)⟩
          rw [hend]
          refine ev_b 3 rfl ?_
          refine ev_ne s s rfl rfl (by omega) (by omega) (fun h => absurd rfl h) (fun _ => ?_)
          exact ev_thr rfl rfl rfl rfl rfl
        · rcases hgo with h | ⟨k', g1, g2⟩
          · exact absurd h hend
          · obtain ⟨I', ev, q1, q2⟩ := ih1 _ (.val (.int (nI (kk B mn s a)))) (.val (.long (J (tr + 2 + a) 5))) (by omega) ⟨k', g1⟩ n1 (by omega) (fun j hj => by
              by_cases e : j = i
              · rw [e, hrq]; exact hend
              · exact hne j (by omega)) h1' h8' hr'
            refine ⟨I', fun s3 s4 => ?_, q1, q2⟩
            refine ev_b 3 rfl ?_
            exact ev_ne (nxt B mn s a) s rfl rfl (by omega) (by omega) (fun _ => ev) (fun h => absurd h hend)
      obtain ⟨I', evr, q1, q2⟩ := rest
      refine ⟨I', ?_, Fr.tr hI2 q1, q2⟩
      have e1 : I 1 8 + nI 1 = nI (i + 1) := by rw [h8, nI_add]
      refine ev_b 10 (σ' := xS n0 (pj_u2 I 1 8 (I 1 8 + nI 1)) J pl tr rg fr) rfl ?_
      show pj_Ev L (d + 2) gX1_searchRing 62 _ [.int (nI a), .int (I 1 8), .ref fr] _ _
      rw [e1, h8]
      refine ev_is fr i (nI a) rfl hfr.kd hfr.pos hfr.al (by rw [hfr.ln]; omega) (by omega) ?_
      have steps : ∀ m st (w : Int32), st + m = kk B mn s a → w = nI st →
          pj_Ev L (d + 2) gX1_searchRing 79 [.val (.ref 1), .val (.int (nI s)), .val (.int (nI a)), .val (.int w), .val (.long (J (tr + 2 + a) 5)), .unset] [] (xS n0 (pj_u2 (pj_u2 I 1 8 (nI (i + 1))) fr i (nI a)) J pl tr rg fr) (.inr 22, xS (n0 + 1) I' J pl tr rg fr) := by
        intro m
        induction m with
        | zero =>
          intro st w hst hw
          have hst : st = kk B mn s a := by omega
          subst hw
          obtain ⟨v, ev, q⟩ := c_leading (L := L) (d := d + 1) (n0 := n0) (pl := pl) (rg := rg) (fr := fr) (st := st) ht h1' hmn hJ hs (by omega)
          have hz := land_z hmn hJ hat q
          rw [hst] at ev q hz ⊢
          refine ev_b 4 rfl ?_
          refine ev_c rfl ev ?_
          refine ev_b 3 rfl ?_
          refine ev_if0 (lg_cmp (J (tr + 2 + a) 5 &&& v) 0) rfl rfl (fun _ => ?_) (fun h => ?_)
          · refine ev_b 4 rfl ?_
            refine ev_c rfl ev ?_
            refine ev_b 1 rfl ?_
            refine ev_c rfl (c_ntzL (v := J (tr + 2 + a) 5 &&& v) (k := nxt B mn s a) (by omega) (by
              rw [land_bits hJ hat q (by omega), decide_eq_true n1, Bool.true_and, n2, n3]; rfl) (fun j hj => by
              rw [land_bits hJ hat q (by omega), n4 j hj, Bool.and_false])) ?_
            exact evr .unset .unset
          · have := (lg_z _ _).mp (Classical.not_not.mp (of_decide_eq_false h))
            have := hz.mp this
            unfold good at k2
            rw [k2] at this; cases this
        | succ m ihs =>
          intro st w hst hw
          subst hw
          obtain ⟨v, ev, q⟩ := c_leading (L := L) (d := d + 1) (n0 := n0) (pl := pl) (rg := rg) (fr := fr) (st := st) ht h1' hmn hJ hs (by omega)
          have hz := land_z hmn hJ hat q
          refine ev_b 4 rfl ?_
          refine ev_c rfl ev ?_
          refine ev_b 3 rfl ?_
          refine ev_if0 (lg_cmp (J (tr + 2 + a) 5 &&& v) 0) rfl rfl (fun h => ?_) (fun _ => ?_)
          · exact absurd ((lg_z _ _).mpr (hz.mpr (k3 st (by omega)))) (of_decide_eq_true h)
          · refine ev_b 2 rfl ?_
            exact ihs (st + 1) _ (by omega) (nI_inc st)
      refine ev_b 4 rfl ?_
      refine ev_ga ht rfl rfl ?_
      refine ev_b 1 rfl ?_
      refine ev_as ht ha40 rfl ?_
      refine ev_gsl 5 _ ht ha40 rfl (Or.inl rfl) rfl rfl ?_
      refine ev_b 1 rfl ?_
      exact steps (kk B mn s a) 0 _ (by omega) rfl
  have hg0 : good B mn s s mn = true := hyes
  have hk0 := (kk_spec hs hg0).1
  obtain ⟨I', ev, q1, q2⟩ := ring mn 0 (pj_u2 I 1 8 (nI 0)) .unset .unset (by
    show kk B mn s s ≤ mn
    omega) ⟨mn, hg0⟩ hs (by
    show 0 + kk B mn s s + 1 ≤ mn
    omega) (fun j hj => by omega) (by rw [u2n _ _ htr.1]; exact h1) (pj_u2_self _ _ _ _) (fun j hj => by omega)
  refine ⟨I', ?_, Fr.tr (Fr.u (Or.inl ⟨rfl, rfl⟩)) q1, q2⟩
  have loop : ∀ m t (w : Int32), t + m = s → w = nI t →
      pj_Ev L (d + 2) gX1_searchRing 2 [.val (.ref 1), .val (.int w), .unset, .unset, .unset, .unset] [] (xS n0 I J pl tr rg fr) (.inr 22, xS (n0 + 1) I' J pl tr rg fr) := by
    intro m
    induction m with
    | zero =>
      intro t w hts hw
      have hts : t = s := by omega
      subst hw; rw [hts]
      refine ev_b 3 rfl ?_
      refine ev_gp 1 _ ht h1 (Or.inl rfl) rfl rfl ?_
      refine ev_ge s mn rfl rfl (by omega) (by omega) (fun h => by omega) (fun _ => ?_)
      refine ev_b 2 rfl ?_
      refine ev_c rfl (c_inRing ht h1 hmn hJ hs) ?_
      rw [hyes]
      refine ev_nz true rfl rfl (fun _ => ?_) (fun h => by cases h)
      refine ev_b 3 rfl ?_
      refine ev_gp 1 _ ht h1 (Or.inl rfl) rfl rfl ?_
      refine ev_ne s mn rfl rfl (by omega) (by omega) (fun _ => ?_) (fun h => by omega)
      exact ev_b 5 (σ' := xS n0 (pj_u2 I 1 8 (nI 0)) J pl tr rg fr) rfl ev
    | succ m ih =>
      intro t w hts hw
      subst hw
      refine ev_b 3 rfl ?_
      refine ev_gp 1 _ ht h1 (Or.inl rfl) rfl rfl ?_
      refine ev_ge t mn rfl rfl (by omega) (by omega) (fun h => by omega) (fun _ => ?_)
      refine ev_b 2 rfl ?_
      refine ev_c rfl (c_inRing ht h1 hmn hJ (by omega)) ?_
      rw [hlow t (by omega)]
      refine ev_nz false rfl rfl (fun h => by cases h) (fun _ => ?_)
      refine ev_b 2 rfl ?_
      exact ih (t + 1) _ (by omega) (nI_inc t)
  exact ev_b 2 rfl (loop s 0 _ (by omega) rfl)
end SRX
end
section
/-! the model's rings: joining bits -/
theorem m_has {L d : Nat} {σ : pj_St} {v : Int64} {k : Nat} (hk : k < 64) : pj_Ev L d gX4_has 0 [.val (.long v), .unset, .val (.int (nI k))] [] σ (.inl (some (.int (bI (lb v k)))), σ) := by
  have e := lb_sh hk v
  refine ev_b 7 rfl ?_
  refine ev_if0 (lg_cmp ((v >>> ((nI k).toInt64 &&& 63)) &&& 1) 1) rfl rfl (fun h => ?_) (fun h => ?_)
  · have h := of_decide_eq_true h
    rw [lg_z, e, lB_1, Bool.not_eq_true] at h
    rw [h]
    refine ev_b 1 rfl ?_
    exact ev_ret rfl rfl rfl
  · have h := of_decide_eq_false h
    rw [Classical.not_not, lg_z, e, lB_1] at h
    rw [h]
    refine ev_b 2 rfl ?_
    exact ev_ret rfl rfl rfl
def TW : Nat → Nat → Prop := fun o _ => o = 138
def JW (J : pj_SJ) (mn : Nat) (f : Nat → Nat → Bool) : Prop := ∀ a, a < mn → ∀ y, y < 64 → lb (J 138 a) y = (decide (y < mn) && f a y)
def lowR (B : Nat → Nat → Bool) (mn : Nat) : Nat := if fi (inR B mn) mn < mn then fi (inR B mn) mn + 1 else 0
theorem nI_m1 (x : Nat) : nI x + Int32.ofInt (-1) = rI x := by
  unfold rI
  rw [Int32.sub_eq_add_neg]
  rfl
section MRG
variable {L d n0 : Nat} {I : pj_SI} {J : pj_SJ} {pl tr rg fr : Nat} {mn : Nat} {B : Nat → Nat → Bool}
theorem m_inRing (h1 : I 131 2 = nI mn) (hmn : mn ≤ 40) (hJ : JM J mn B mn) :
    ∃ J', pj_Ev L (d + 1) gX4_inRing 0 [.val (.ref 131), .unset, .unset] [] (xS n0 I J pl tr rg fr) (.inl (some (.int (rI (lowR B mn)))), xS n0 I J' pl tr rg fr) ∧ Fr TW J J' := by
  -- the lowest in a ring
  have last : ∀ x (v w : Int32) (J : pj_SJ) (r : Nat), x ≤ mn → w = rI x → v = rI r → JW J mn (wr B mn) → ((r = 0 ∧ ∀ j, x ≤ j → j < mn → inR B mn j = false) ∨ (∃ s, r = s + 1 ∧ x ≤ s ∧ s < mn ∧ inR B mn s = true ∧ ∀ j, x ≤ j → j < s → inR B mn j = false)) →
      pj_Ev L (d + 1) gX4_inRing 110 [.val (.ref 131), .val (.int v), .val (.int w)] [] (xS n0 I J pl tr rg fr) (.inl (some (.int (rI (lowR B mn)))), xS n0 I J pl tr rg fr) := by
    intro x
    induction x with
    | zero =>
      intro v w J r hx hw hv hJW hr
      subst hw; subst hv
      have e : lowR B mn = r := by
        unfold lowR
        rcases hr with ⟨r0, h⟩ | ⟨s, rs, _, hs, h1, h2⟩
        · rw [fi_char (c := mn) (Nat.le_refl _) (fun j hj => h j (Nat.zero_le _) hj) (fun z => by omega), if_neg (by omega), r0]
        · rw [fi_char (c := s) (by omega) (fun j hj => h2 j (Nat.zero_le _) hj) (fun _ => h1), if_pos hs, rs]
      rw [e]
      refine ev_b 1 rfl ?_
      refine ev_if0 (rI 0) rfl rfl (fun _ => ?_) (fun h => absurd h (by decide))
      refine ev_b 1 rfl ?_
      exact ev_ret rfl rfl rfl
    | succ x ih =>
      intro v w J r hx hw hv hJW hr
      subst hw; subst hv
      have hx40 : x < 40 := by omega
      rw [rI_s]
      refine ev_b 1 rfl ?_
      refine ev_ltn x (by omega) rfl rfl ?_
      refine ev_b 3 rfl ?_
      refine ev_la 138 x _ rfl rfl rfl rfl hx40 (by omega) ?_
      refine ev_b 1 rfl ?_
      refine ev_c rfl (m_has (k := x) (by omega)) ?_
      have hb : lb (J 138 x) x = inR B mn x := by
        rw [hJW x (by omega) x (by omega), decide_eq_true (by omega), Bool.true_and, wr_inR (by omega)]
      rw [hb]
      refine ev_z _ rfl rfl (fun e => ?_) (fun e => ?_)
      · refine ev_b 4 rfl ?_
        refine ih _ _ J r (by omega) (nI_m1 x) rfl hJW ?_
        rcases hr with ⟨r0, h⟩ | ⟨s, rs, hxs, hs, h1, h2⟩
        · refine Or.inl ⟨r0, fun j hj1 hj2 => ?_⟩
          by_cases q : j = x
          · rw [q]; exact e
          · exact h j (by omega) hj2
        · refine Or.inr ⟨s, rs, by omega, hs, h1, fun j hj1 hj2 => ?_⟩
          by_cases q : j = x
          · rw [q]; exact e
          · exact h2 j (by omega) hj2
      · refine ev_b 5 rfl ?_
        refine ih _ _ J (x + 1) (by omega) (nI_m1 x) (rI_s x).symm hJW ?_
        exact Or.inr ⟨x, rfl, Nat.le_refl _, by omega, e, fun j hj1 hj2 => by omega⟩
  have fin : ∀ (J : pj_SJ) (s1 s2 : Slot), JW J mn (wr B mn) → pj_Ev L (d + 1) gX4_inRing 101 [.val (.ref 131), s1, s2] [] (xS n0 I J pl tr rg fr) (.inl (some (.int (rI (lowR B mn)))), xS n0 I J pl tr rg fr) := by
    intro J s1 s2 hJW
    refine ev_b 7 (lv' := [.val (.ref 131), .val (.int (-1)), .val (.int (I 131 2 - nI 1))]) rfl ?_
    refine last mn _ _ J 0 (Nat.le_refl _) (by rw [h1]; rfl) rfl hJW (Or.inl ⟨rfl, fun j hj1 hj2 => by omega⟩)
  have piv : ∀ m k (w : Int32) (s2 : Slot) (J : pj_SJ), k + m = mn → w = nI k → JW J mn (wr B k) →
      ∃ J', pj_Ev L (d + 1) gX4_inRing 30 [.val (.ref 131), .val (.int w), s2] [] (xS n0 I J pl tr rg fr) (.inl (some (.int (rI (lowR B mn)))), xS n0 I J' pl tr rg fr) ∧ Fr TW J J' := by
    intro m
    induction m with
    | zero =>
      intro k w s2 J hk hw hJW
      have hk : k = mn := by omega
      subst hw; rw [hk] at hJW ⊢
      refine ⟨J, ?_, Fr.rfl'⟩
      refine ev_b 3 rfl ?_
      show pj_Ev L (d + 1) gX4_inRing 35 _ [.int (I 131 2), .int (nI mn)] _ _
      rw [h1]
      refine ev_ge mn mn rfl rfl (by omega) (by omega) (fun _ => ?_) (fun h => by omega)
      exact fin J _ _ hJW
    | succ m ih =>
      intro k w s2 J hk hw hJW
      subst hw
      have hk40 : k < 40 := by omega
      have inner : ∀ m2 x (w : Int32) (J : pj_SJ), x + m2 = mn → w = nI x → (∀ a, a < mn → ∀ y, y < 64 → lb (J 138 a) y = (decide (y < mn) && (if a < x then wr B (k + 1) a y else wr B k a y))) →
          ∃ J', pj_Ev L (d + 1) gX4_inRing 40 [.val (.ref 131), .val (.int (nI k)), .val (.int w)] [] (xS n0 I J pl tr rg fr) (.inl (some (.int (rI (lowR B mn)))), xS n0 I J' pl tr rg fr) ∧ Fr TW J J' := by
        intro m2
        induction m2 with
        | zero =>
          intro x w J hx hw hJx
          have hx : x = mn := by omega
          subst hw
          obtain ⟨J', ev, q⟩ := ih (k + 1) (nI (k + 1)) (.val (.int (nI x))) J (by omega) rfl (fun a ha y hy => by rw [hJx a ha y hy, if_pos (by omega)])
          refine ⟨J', ?_, q⟩
          rw [nI_succ k] at ev
          refine ev_b 3 rfl ?_
          show pj_Ev L (d + 1) gX4_inRing 45 _ [.int (I 131 2), .int (nI x)] _ _
          rw [h1]
          refine ev_ge x mn rfl rfl (by omega) (by omega) (fun _ => ?_) (fun h => by omega)
          exact ev_b 2 rfl ev
        | succ m2 ih2 =>
          intro x w J hx hw hJx
          subst hw
          have hxm : x < mn := by omega
          have hx40 : x < 40 := by omega
          have hxb : ∀ y, y < 64 → lb (J 138 x) y = (decide (y < mn) && wr B k x y) := fun y hy => by rw [hJx x hxm y hy, if_neg (by omega)]
          have hkb : ∀ y, y < 64 → lb (J 138 k) y = (decide (y < mn) && wr B k k y) := fun y hy => by
            rw [hJx k (by omega) y hy]
            split
            · rw [wr_piv]
            · rfl
          have hh : lb (J 138 x) k = wr B k x k := by rw [hxb k (by omega), decide_eq_true (by omega), Bool.true_and]
          have step : ∀ (v : Int64), (∀ y, y < 64 → lb v y = (decide (y < mn) && wr B (k + 1) x y)) → ∃ J', pj_Ev L (d + 1) gX4_inRing 88 [.val (.ref 131), .val (.int (nI k)), .val (.int (nI x))] [.long v, .int (nI x), .ref 138] (xS n0 I J pl tr rg fr) (.inl (some (.int (rI (lowR B mn)))), xS n0 I J' pl tr rg fr) ∧ Fr TW J J' := by
            intro v hv
            obtain ⟨J', ev, q⟩ := ih2 (x + 1) (nI (x + 1)) (pj_u2 J 138 x v) (by omega) rfl (fun a ha y hy => by
              by_cases e : a = x
              · rw [e, pj_u2_self, hv y hy, if_pos (by omega)]
              · rw [u2k _ _ e, hJx a ha y hy]
                by_cases z : a < x
                · rw [if_pos z, if_pos (by omega)]
                · rw [if_neg z, if_neg (by omega)])
            refine ⟨J', ?_, Fr.tr (Fr.u rfl) q⟩
            rw [nI_succ x] at ev
            refine ev_ls 138 x v rfl rfl rfl hx40 (by omega) ?_
            exact ev_b 2 rfl ev
          cases hw2 : wr B k x k with
          | true =>
            obtain ⟨J', ev, q⟩ := step (J 138 x ||| J 138 k) (fun y hy => by
              rw [l_or, hxb y hy, hkb y hy, wr_s, hw2, Bool.true_and, ← Bool.and_or_distrib_left])
            refine ⟨J', ?_, q⟩
            refine ev_b 3 rfl ?_
            show pj_Ev L (d + 1) gX4_inRing 45 _ [.int (I 131 2), .int (nI x)] _ _
            rw [h1]
            refine ev_ge x mn rfl rfl (by omega) (by omega) (fun h => by omega) (fun _ => ?_)
            refine ev_b 6 rfl ?_
            refine ev_la 138 x _ rfl rfl rfl rfl hx40 (by omega) ?_
            refine ev_b 1 rfl ?_
            refine ev_c rfl (m_has (k := k) (by omega)) ?_
            rw [hh, hw2]
            refine ev_z true rfl rfl (fun h => by cases h) (fun _ => ?_)
            refine ev_b 3 rfl ?_
            refine ev_la 138 x _ rfl rfl rfl rfl hx40 (by omega) ?_
            refine ev_b 3 rfl ?_
            refine ev_la 138 k _ rfl rfl rfl rfl hk40 (by omega) ?_
            exact ev_b 2 rfl ev
          | false =>
            obtain ⟨J', ev, q⟩ := step (J 138 x) (fun y hy => by
              rw [hxb y hy, wr_s, hw2, Bool.false_and, Bool.or_false])
            refine ⟨J', ?_, q⟩
            refine ev_b 3 rfl ?_
            show pj_Ev L (d + 1) gX4_inRing 45 _ [.int (I 131 2), .int (nI x)] _ _
            rw [h1]
            refine ev_ge x mn rfl rfl (by omega) (by omega) (fun h => by omega) (fun _ => ?_)
            refine ev_b 6 rfl ?_
            refine ev_la 138 x _ rfl rfl rfl rfl hx40 (by omega) ?_
            refine ev_b 1 rfl ?_
            refine ev_c rfl (m_has (k := k) (by omega)) ?_
            rw [hh, hw2]
            refine ev_z false rfl rfl (fun _ => ?_) (fun h => by cases h)
            refine ev_b 3 rfl ?_
            refine ev_la 138 x _ rfl rfl rfl rfl hx40 (by omega) ?_
            exact ev
      obtain ⟨J', ev, q⟩ := inner mn 0 (nI 0) J (by omega) rfl (fun a ha y hy => by rw [hJW a ha y hy, if_neg (by omega)])
      refine ⟨J', ?_, q⟩
      refine ev_b 3 rfl ?_
      show pj_Ev L (d + 1) gX4_inRing 35 _ [.int (I 131 2), .int (nI k)] _ _
      rw [h1]
      refine ev_ge k mn rfl rfl (by omega) (by omega) (fun h => by omega) (fun _ => ?_)
      exact ev_b 2 rfl ev
  have first : ∀ m x (w : Int32) (J : pj_SJ), x + m = mn → w = nI x → JM J mn B mn → (∀ a, a < x → ∀ y, y < 64 → lb (J 138 a) y = (decide (y < mn) && B a y)) →
      ∃ J', pj_Ev L (d + 1) gX4_inRing 2 [.val (.ref 131), .val (.int w), .unset] [] (xS n0 I J pl tr rg fr) (.inl (some (.int (rI (lowR B mn)))), xS n0 I J' pl tr rg fr) ∧ Fr TW J J' := by
    intro m
    induction m with
    | zero =>
      intro x w J hx hw hJ hJx
      have hx : x = mn := by omega
      subst hw
      obtain ⟨J', ev, q⟩ := piv mn 0 (nI 0) .unset J (by omega) rfl (fun a ha y hy => hJx a (by omega) y hy)
      refine ⟨J', ?_, q⟩
      refine ev_b 3 rfl ?_
      show pj_Ev L (d + 1) gX4_inRing 7 _ [.int (I 131 2), .int (nI x)] _ _
      rw [h1]
      refine ev_ge x mn rfl rfl (by omega) (by omega) (fun _ => ?_) (fun h => by omega)
      exact ev_b 2 rfl ev
    | succ m ih =>
      intro x w J hx hw hJ hJx
      subst hw
      have hx40 : x < 40 := by omega
      obtain ⟨J', ev, q⟩ := ih (x + 1) (nI (x + 1)) (pj_u2 J 138 x (J 137 x)) (by omega) rfl (fun a ha y hy => by rw [u2n _ _ (by decide)]; exact hJ a ha y hy) (fun a ha y hy => by
        by_cases e : a = x
        · rw [e, pj_u2_self]; exact hJ x (by omega) y hy
        · rw [u2k _ _ e]; exact hJx a (by omega) y hy)
      refine ⟨J', ?_, Fr.tr (Fr.u rfl) q⟩
      rw [nI_succ x] at ev
      refine ev_b 3 rfl ?_
      show pj_Ev L (d + 1) gX4_inRing 7 _ [.int (I 131 2), .int (nI x)] _ _
      rw [h1]
      refine ev_ge x mn rfl rfl (by omega) (by omega) (fun h => by omega) (fun _ => ?_)
      refine ev_b 6 rfl ?_
      refine ev_la 137 x _ rfl rfl rfl rfl hx40 (by omega) ?_
      refine ev_ls 138 x _ rfl rfl rfl hx40 (by omega) ?_
      exact ev_b 2 rfl ev
  obtain ⟨J', ev, q⟩ := first mn 0 (nI 0) J (by omega) rfl hJ (fun a ha => by omega)
  exact ⟨J', ev_b 2 rfl ev, q⟩
end MRG
end
section
/-! the model's steps, the ring told -/
def TS : Nat → Nat → Prop := fun o _ => o = 140
def CS (I : pj_SI) (mn : Nat) (st : Nat → Nat) : Prop := ∀ x, x < mn → I 140 x = nI (st x)
def K1 (R : Nat → Nat → Bool) (mn to : Nat) (st : Nat → Nat) : Prop := ∀ x, x < mn → st x ≤ 100 ∧ (st x = 100 ∨ ld R mn to (st x) x = true)
def K2 (R : Nat → Nat → Bool) (mn to T : Nat) (st : Nat → Nat) : Prop := ∀ t, t ≤ T → ∀ x, x < mn → ld R mn to t x = true → st x ≤ t
def up1 (st : Nat → Nat) (x v : Nat) : Nat → Nat := fun k => if k = x then v else st k
theorem up1_eq (st : Nat → Nat) (x v : Nat) : up1 st x v x = v := if_pos rfl
theorem up1_ne {st : Nat → Nat} {x v k : Nat} (h : k ≠ x) : up1 st x v k = st k := if_neg h
theorem up1_le {st : Nat → Nat} {x v : Nat} (h : v ≤ st x) (k : Nat) : up1 st x v k ≤ st k := by
  unfold up1
  split
  · next e => rw [e]; exact h
  · exact Nat.le_refl _
theorem K_ds {R : Nat → Nat → Bool} {mn to : Nat} {st : Nat → Nat} (hmn : mn ≤ 40) (hto : to < mn) (h1 : K1 R mn to st) (h2 : K2 R mn to mn st) {x : Nat} (hx : x < mn) : st x = dsx R mn to x := by
  obtain ⟨a1, a2⟩ := h1 x hx
  rcases ds_cases (R := R) (mn := mn) (to := to) x with ⟨q1, q2, q3⟩ | ⟨q1, q2⟩
  · have hle := h2 _ (by omega) x hx q2
    rcases a2 with a2 | a2
    · omega
    · rcases Nat.lt_or_ge (st x) (dsx R mn to x) with z | z
      · rw [q3 _ z] at a2; cases a2
      · omega
  · rcases a2 with a2 | a2
    · rw [a2, q1]
    · have := ld_last hto hx a2
      rw [q2 _ (by omega)] at this; cases this
section CST
variable {L d n0 : Nat} {I : pj_SI} {J : pj_SJ} {pl tr rg fr : Nat} {mn : Nat} {B : Nat → Nat → Bool}
theorem CS.u {st : Nat → Nat} {x v : Nat} (h : CS I mn st) : CS (pj_u2 I 140 x (nI v)) mn (up1 st x v) := fun k hk => by
  by_cases e : k = x
  · rw [e, pj_u2_self, up1_eq]
  · rw [u2k _ _ e, up1_ne e]; exact h k hk
theorem m_countSteps (h1 : I 131 2 = nI mn) (hmn : mn ≤ 40) (hJ : JM J mn B mn) {to : Nat} (hto : to < mn) :
    ∃ I', pj_Ev L (d + 1) gX4_countSteps 0 [.val (.ref 131), .val (.int (nI to)), .unset, .unset, .unset, .unset] [] (xS n0 I J pl tr rg fr) (.inl none, xS n0 I' J pl tr rg fr) ∧ Fr TS I I' ∧ CS I' mn (dsx B mn to) := by
  have turns : ∀ m T (w : Int32) (s3 s4 s5 : Slot) (I : pj_SI) (st : Nat → Nat), T + m = mn → w = nI T → I 131 2 = nI mn → CS I mn st → K1 B mn to st → K2 B mn to T st →
      ∃ I', pj_Ev L (d + 1) gX4_countSteps 35 [.val (.ref 131), .val (.int (nI to)), .val (.int w), s3, s4, s5] [] (xS n0 I J pl tr rg fr) (.inl none, xS n0 I' J pl tr rg fr) ∧ Fr TS I I' ∧ CS I' mn (dsx B mn to) := by
    intro m
    induction m with
    | zero =>
      intro T w s3 s4 s5 I st hT hw h1 hC k1 k2
      have hT : T = mn := by omega
      subst hw; rw [hT] at k2 ⊢
      refine ⟨I, ?_, Fr.rfl', fun x hx => by rw [hC x hx, K_ds hmn hto k1 k2 hx]⟩
      refine ev_b 3 rfl ?_
      show pj_Ev L (d + 1) gX4_countSteps 40 _ [.int (I 131 2), .int (nI mn)] _ _
      rw [h1]
      refine ev_ge mn mn rfl rfl (by omega) (by omega) (fun _ => ?_) (fun h => by omega)
      exact ev_ret rfl rfl rfl
    | succ m ih =>
      intro T w s3 s4 s5 I st hT hw h1 hC k1 k2
      subst hw
      have xs : ∀ m2 x (w : Int32) (s4 s5 : Slot) (I : pj_SI) (st : Nat → Nat), x + m2 = mn → w = nI x → I 131 2 = nI mn → CS I mn st → K1 B mn to st → K2 B mn to T st → (∀ a, a < x → ld B mn to (T + 1) a = true → st a ≤ T + 1) →
          ∃ I', pj_Ev L (d + 1) gX4_countSteps 45 [.val (.ref 131), .val (.int (nI to)), .val (.int (nI T)), .val (.int w), s4, s5] [] (xS n0 I J pl tr rg fr) (.inl none, xS n0 I' J pl tr rg fr) ∧ Fr TS I I' ∧ CS I' mn (dsx B mn to) := by
        intro m2
        induction m2 with
        | zero =>
          intro x w s4 s5 I st hx hw h1 hC k1 k2 kx
          have hx : x = mn := by omega
          subst hw
          obtain ⟨I', ev, q⟩ := ih (T + 1) (nI (T + 1)) (.val (.int (nI x))) s4 s5 I st (by omega) rfl h1 hC k1 (fun t ht a ha hl => by
            by_cases e : t = T + 1
            · rw [e] at hl ⊢; exact kx a (by omega) hl
            · exact k2 t (by omega) a ha hl)
          refine ⟨I', ?_, q⟩
          rw [nI_succ T] at ev
          refine ev_b 3 rfl ?_
          show pj_Ev L (d + 1) gX4_countSteps 50 _ [.int (I 131 2), .int (nI x)] _ _
          rw [h1]
          refine ev_ge x mn rfl rfl (by omega) (by omega) (fun _ => ?_) (fun h => by omega)
          exact ev_b 2 rfl ev
        | succ m2 ih2 =>
          intro x w s4 s5 I st hx hw h1 hC k1 k2 kx
          subst hw
          have hxm : x < mn := by omega
          have hx40 : x < 40 := by omega
          have ys : ∀ m3 y (w : Int32) (s5 : Slot) (I : pj_SI) (st : Nat → Nat), y + m3 = mn → w = nI y → I 131 2 = nI mn → CS I mn st → K1 B mn to st → K2 B mn to T st → (∀ a, a < x → ld B mn to (T + 1) a = true → st a ≤ T + 1) → (∀ b, b < y → B x b = true → ld B mn to T b = true → st x ≤ T + 1) →
              ∃ I', pj_Ev L (d + 1) gX4_countSteps 56 [.val (.ref 131), .val (.int (nI to)), .val (.int (nI T)), .val (.int (nI x)), .val (.int w), s5] [] (xS n0 I J pl tr rg fr) (.inl none, xS n0 I' J pl tr rg fr) ∧ Fr TS I I' ∧ CS I' mn (dsx B mn to) := by
            intro m3
            induction m3 with
            | zero =>
              intro y w s5 I st hy hw h1 hC k1 k2 kx ky
              have hy : y = mn := by omega
              subst hw
              obtain ⟨I', ev, q⟩ := ih2 (x + 1) (nI (x + 1)) (.val (.int (nI y))) s5 I st (by omega) rfl h1 hC k1 k2 (fun a ha hl => by
                by_cases e : a = x
                · rw [e] at hl ⊢
                  rw [ld_s, Bool.or_eq_true] at hl
                  rcases hl with hl | hl
                  · have := k2 T (Nat.le_refl _) x hxm hl
                    omega
                  · rw [Bool.and_eq_true, exB_iff] at hl
                    obtain ⟨-, b, hb, hh⟩ := hl
                    rw [Bool.and_eq_true] at hh
                    exact ky b (by omega) hh.1 hh.2
                · exact kx a (by omega) hl)
              refine ⟨I', ?_, q⟩
              rw [nI_succ x] at ev
              refine ev_b 3 rfl ?_
              show pj_Ev L (d + 1) gX4_countSteps 62 _ [.int (I 131 2), .int (nI y)] _ _
              rw [h1]
              refine ev_ge y mn rfl rfl (by omega) (by omega) (fun _ => ?_) (fun h => by omega)
              exact ev_b 2 rfl ev
            | succ m3 ih3 =>
              intro y w s5 I st hy hw h1 hC k1 k2 kx ky
              subst hw
              have hym : y < mn := by omega
              have hy40 : y < 40 := by omega
              have sx := (k1 x hxm).1
              have sy := (k1 y hym).1
              have hbit : lb (J 137 x) y = B x y := by rw [hJ x hxm y (by omega), decide_eq_true hym, Bool.true_and]
              -- the store of a value
              have sto : ∀ (v : Nat) (s5 : Slot), v ≤ st x → K1 B mn to (up1 st x v) → (B x y = true → ld B mn to T y = true → v ≤ T + 1) →
                  ∃ I', pj_Ev L (d + 1) gX4_countSteps 132 [.val (.ref 131), .val (.int (nI to)), .val (.int (nI T)), .val (.int (nI x)), .val (.int (nI y)), s5] [.int (nI v), .int (nI x), .ref 140] (xS n0 I J pl tr rg fr) (.inl none, xS n0 I' J pl tr rg fr) ∧ Fr TS I I' ∧ CS I' mn (dsx B mn to) := by
                intro v s5 hv hk1 hvy
                have hle := up1_le (st := st) (x := x) hv
                obtain ⟨I', ev, q1, q2⟩ := ih3 (y + 1) (nI (y + 1)) s5 (pj_u2 I 140 x (nI v)) (up1 st x v) (by omega) rfl (by rw [u2n _ _ (by decide)]; exact h1) hC.u hk1 (fun t ht a ha hl => Nat.le_trans (hle a) (k2 t ht a ha hl)) (fun a ha hl => Nat.le_trans (hle a) (kx a ha hl)) (fun b hb h3 h4 => by
                  by_cases e : b = y
                  · rw [e] at h3 h4
                    rw [up1_eq]; exact hvy h3 h4
                  · exact Nat.le_trans (hle x) (ky b (by omega) h3 h4))
                refine ⟨I', ?_, Fr.tr (Fr.u rfl) q1, q2⟩
                rw [nI_succ y] at ev
                refine ev_is 140 x (nI v) rfl rfl (by decide) rfl hx40 (by omega) ?_
                exact ev_b 2 rfl ev
              have keep : K1 B mn to (up1 st x (st x)) := by
                have : up1 st x (st x) = st := by
                  funext k
                  unfold up1
                  split
                  · next e => rw [e]
                  · rfl
                rw [this]; exact k1
              have head : ∀ {I' : pj_SI}, (∀ b : Bool, (b = true ↔ B x y = true ∧ st y + 1 < st x) → pj_Ev L (d + 1) gX4_countSteps 102 [.val (.ref 131), .val (.int (nI to)), .val (.int (nI T)), .val (.int (nI x)), .val (.int (nI y)), s5] [.int (bI b)] (xS n0 I J pl tr rg fr) (.inl none, xS n0 I' J pl tr rg fr)) →
                  pj_Ev L (d + 1) gX4_countSteps 56 [.val (.ref 131), .val (.int (nI to)), .val (.int (nI T)), .val (.int (nI x)), .val (.int (nI y)), s5] [] (xS n0 I J pl tr rg fr) (.inl none, xS n0 I' J pl tr rg fr) := by
                intro I' k102
                refine ev_b 3 rfl ?_
                show pj_Ev L (d + 1) gX4_countSteps 62 _ [.int (I 131 2), .int (nI y)] _ _
                rw [h1]
                refine ev_ge y mn rfl rfl (by omega) (by omega) (fun h => by omega) (fun _ => ?_)
                refine ev_b 3 rfl ?_
                refine ev_la 137 x _ rfl rfl rfl rfl hx40 (by omega) ?_
                refine ev_b 1 rfl ?_
                refine ev_c rfl (m_has (k := y) (by omega)) ?_
                rw [hbit]
                refine ev_z _ rfl rfl (fun e => ?_) (fun e => ?_)
                · exact ev_b 1 rfl (k102 false ⟨(fun z => by cases z), fun z => by rw [e] at z; cases z.1⟩)
                · refine ev_b 3 rfl ?_
                  refine ev_ia 140 y _ (hC y hym) rfl rfl rfl hy40 (by omega) ?_
                  refine ev_b 5 rfl ?_
                  refine ev_ia 140 x _ (hC x hxm) rfl rfl rfl hx40 (by omega) ?_
                  show pj_Ev L (d + 1) gX4_countSteps 94 _ [.int (nI (st x)), .int (nI (st y) + nI 1)] _ _
                  rw [nI_add]
                  refine ev_ge (st y + 1) (st x) rfl rfl (by omega) (by omega) (fun z => ?_) (fun z => ?_)
                  · exact ev_b 1 rfl (k102 false ⟨(fun z => by cases z), fun q => by omega⟩)
                  · exact ev_b 2 rfl (k102 true ⟨fun _ => ⟨e, z⟩, fun _ => rfl⟩)
              by_cases hn : B x y = true ∧ st y + 1 < st x
              · obtain ⟨I', ev, q⟩ := sto (st y + 1) (.val (.int (bI true))) (by omega) (fun a ha => by
                  by_cases e : a = x
                  · rw [e, up1_eq]
                    refine ⟨by omega, Or.inr ?_⟩
                    rcases (k1 y hym).2 with z | z
                    · omega
                    · exact ld_edge hxm hym hn.1 z
                  · rw [up1_ne e]; exact k1 a ha) (fun _ h4 => by
                  have := k2 T (Nat.le_refl _) y hym h4
                  omega)
                refine ⟨I', head (fun b hb => ?_), q⟩
                have : b = true := hb.mpr hn
                subst this
                refine ev_b 5 rfl ?_
                refine ev_z true rfl rfl (fun h => by cases h) (fun _ => ?_)
                refine ev_b 3 rfl ?_
                refine ev_ia 140 y _ (hC y hym) rfl rfl rfl hy40 (by omega) ?_
                rw [← nI_add] at ev
                exact ev_b 3 rfl ev
              · obtain ⟨I', ev, q⟩ := sto (st x) (.val (.int (bI false))) (Nat.le_refl _) keep (fun h3 h4 => by
                  have := k2 T (Nat.le_refl _) y hym h4
                  have : ¬ st y + 1 < st x := fun z => hn ⟨h3, z⟩
                  omega)
                refine ⟨I', head (fun b hb => ?_), q⟩
                have : b = false := by
                  cases b with
                  | false => rfl
                  | true => exact absurd (hb.mp rfl) hn
                subst this
                refine ev_b 5 rfl ?_
                refine ev_z false rfl rfl (fun _ => ?_) (fun h => by cases h)
                refine ev_b 3 rfl ?_
                exact ev_ia 140 x _ (hC x hxm) rfl rfl rfl hx40 (by omega) ev
          obtain ⟨I', ev, q⟩ := ys mn 0 (nI 0) s5 I st (by omega) rfl h1 hC k1 k2 kx (fun b hb => by omega)
          refine ⟨I', ?_, q⟩
          refine ev_b 3 rfl ?_
          show pj_Ev L (d + 1) gX4_countSteps 50 _ [.int (I 131 2), .int (nI x)] _ _
          rw [h1]
          refine ev_ge x mn rfl rfl (by omega) (by omega) (fun h => by omega) (fun _ => ?_)
          exact ev_b 2 rfl ev
      obtain ⟨I', ev, q⟩ := xs mn 0 (nI 0) s4 s5 I st (by omega) rfl h1 hC k1 k2 (fun a ha => by omega)
      refine ⟨I', ?_, q⟩
      refine ev_b 3 rfl ?_
      show pj_Ev L (d + 1) gX4_countSteps 40 _ [.int (I 131 2), .int (nI T)] _ _
      rw [h1]
      refine ev_ge T mn rfl rfl (by omega) (by omega) (fun h => by omega) (fun _ => ?_)
      exact ev_b 2 rfl ev
  have first : ∀ m x (w : Int32) (I : pj_SI), x + m = mn → w = nI x → I 131 2 = nI mn → (∀ a, a < x → I 140 a = nI (if a = to then 0 else 100)) →
      ∃ I', pj_Ev L (d + 1) gX4_countSteps 2 [.val (.ref 131), .val (.int (nI to)), .val (.int w), .unset, .unset, .unset] [] (xS n0 I J pl tr rg fr) (.inl none, xS n0 I' J pl tr rg fr) ∧ Fr TS I I' ∧ CS I' mn (dsx B mn to) := by
    intro m
    induction m with
    | zero =>
      intro x w I hx hw h1 hI
      have hx : x = mn := by omega
      subst hw
      obtain ⟨I', ev, q⟩ := turns mn 0 (nI 0) .unset .unset .unset I (fun a => if a = to then 0 else 100) (by omega) rfl h1 (fun a ha => hI a (by omega)) (fun a ha => by
        show (if a = to then 0 else 100) ≤ 100 ∧ ((if a = to then 0 else 100) = 100 ∨ ld B mn to (if a = to then 0 else 100) a = true)
        by_cases e : a = to
        · rw [if_pos e]
          exact ⟨by decide, Or.inr (by rw [e]; simp [ld])⟩
        · rw [if_neg e]
          exact ⟨Nat.le_refl _, Or.inl rfl⟩) (fun t ht a ha hl => by
        have ht : t = 0 := by omega
        rw [ht] at hl
        have : a = to := by simpa [ld] using hl
        show (if a = to then 0 else 100) ≤ t
        rw [if_pos this]; exact Nat.zero_le _)
      refine ⟨I', ?_, q⟩
      refine ev_b 3 rfl ?_
      show pj_Ev L (d + 1) gX4_countSteps 7 _ [.int (I 131 2), .int (nI x)] _ _
      rw [h1]
      refine ev_ge x mn rfl rfl (by omega) (by omega) (fun _ => ?_) (fun h => by omega)
      exact ev_b 2 rfl ev
    | succ m ih =>
      intro x w I hx hw h1 hI
      subst hw
      have hx40 : x < 40 := by omega
      obtain ⟨I', ev, q1, q2⟩ := ih (x + 1) (nI (x + 1)) (pj_u2 I 140 x (nI (if x = to then 0 else 100))) (by omega) rfl (by rw [u2n _ _ (by decide)]; exact h1) (fun a ha => by
        by_cases e : a = x
        · rw [e, pj_u2_self]
        · rw [u2k _ _ e]; exact hI a (by omega))
      refine ⟨I', ?_, Fr.tr (Fr.u rfl) q1, q2⟩
      rw [nI_succ x] at ev
      refine ev_b 3 rfl ?_
      show pj_Ev L (d + 1) gX4_countSteps 7 _ [.int (I 131 2), .int (nI x)] _ _
      rw [h1]
      refine ev_ge x mn rfl rfl (by omega) (by omega) (fun h => by omega) (fun _ => ?_)
      refine ev_b 5 rfl ?_
      refine ev_ne x to rfl rfl (by omega) (by omega) (fun e => ?_) (fun e => ?_)
      · rw [if_neg e] at ev
        refine ev_b 1 rfl ?_
        refine ev_is 140 x (nI 100) rfl rfl (by decide) rfl hx40 (by omega) ?_
        exact ev_b 2 rfl ev
      · rw [if_pos e] at ev
        refine ev_b 2 rfl ?_
        refine ev_is 140 x (nI 0) rfl rfl (by decide) rfl hx40 (by omega) ?_
        exact ev_b 2 rfl ev
  obtain ⟨I', ev, q⟩ := first mn 0 (nI 0) I (by omega) rfl h1 (fun a ha => by omega)
  exact ⟨I', ev_b 2 rfl ev, q⟩
end CST
end
section
/-! the model tells the ring -/
def TT : Nat → Nat → Prop := fun o k => o = 140 ∨ o = 146 ∨ (o = 131 ∧ k = 19)
section TEL
variable {L d n0 : Nat} {I : pj_SI} {J : pj_SJ} {pl tr rg fr : Nat} {mn : Nat} {B : Nat → Nat → Bool}
theorem tell_look (h1 : I 131 2 = nI mn) (hmn : mn ≤ 40) (hJ : JM J mn B mn) {s a : Nat} (hs : s < mn) (ha : a < mn) (hC : CS I mn (dsx B mn s)) (hg : ∃ k, good B mn s a k = true) {x3 : Int32} {s6 : Slot} {r : pj_Rs × pj_St}
    (fin : ∀ (s5 s6 : Slot), pj_Ev L (d + 2) gX4_tellRing 116 [.val (.ref 131), .val (.int (nI s)), .val (.int (nI a)), .val (.int x3), .val (.int (nI (nxt B mn s a))), s5, s6] [] (xS n0 I J pl tr rg fr) r) :
    pj_Ev L (d + 2) gX4_tellRing 44 [.val (.ref 131), .val (.int (nI s)), .val (.int (nI a)), .val (.int x3), .val (.int (rI 0)), .val (.int (nI 0)), s6] [] (xS n0 I J pl tr rg fr) r := by
  obtain ⟨k0, hg⟩ := hg
  have ha40 : a < 40 := by omega
  have dle : ∀ x, dsx B mn s x ≤ 100 := fun x => by
    rcases ds_cases (R := B) (mn := mn) (to := s) x with ⟨q1, -, -⟩ | ⟨q1, -⟩ <;> omega
  have look : ∀ m y (w : Int32) (b : Nat) (s6 : Slot), y + m = mn → w = nI y → ((b = 0 ∧ ∀ q, q < y → B a q = false) ∨ (∃ q, b = q + 1 ∧ q < y ∧ B a q = true ∧ ∀ z, z < y → B a z = true → dsx B mn s q ≤ dsx B mn s z ∧ (dsx B mn s z = dsx B mn s q → q ≤ z))) →
      pj_Ev L (d + 2) gX4_tellRing 44 [.val (.ref 131), .val (.int (nI s)), .val (.int (nI a)), .val (.int x3), .val (.int (rI b)), .val (.int w), s6] [] (xS n0 I J pl tr rg fr) r := by
    intro m
    induction m with
    | zero =>
      intro y w b s6 hy hw hb
      have hy : y = mn := by omega
      subst hw
      have hnx : b = nxt B mn s a + 1 := by
        rcases hb with ⟨-, h⟩ | ⟨q, hq, hq1, hq2, hq3⟩
        · obtain ⟨n1, n2, -⟩ := nxt_spec hs hg
          rw [h _ (by omega)] at n2; cases n2
        · rw [hq, nxt_only (b := q) hs hg hmn (by omega) hq2 (fun z hz hB => hq3 z (by omega) hB)]
      rw [hnx, rI_s]
      refine ev_b 3 rfl ?_
      show pj_Ev L (d + 2) gX4_tellRing 50 _ [.int (I 131 2), .int (nI y)] _ _
      rw [h1]
      refine ev_ge y mn rfl rfl (by omega) (by omega) (fun _ => ?_) (fun h => by omega)
      exact fin _ _
    | succ m ih =>
      intro y w b s6 hy hw hb
      subst hw
      have hym : y < mn := by omega
      have hy40 : y < 40 := by omega
      have hbit : lb (J 137 a) y = B a y := by rw [hJ a ha y (by omega), decide_eq_true hym, Bool.true_and]
      have dy := dle y
      -- no better one
      have no : (B a y = false ∨ ∃ q, b = q + 1 ∧ q < y ∧ dsx B mn s q ≤ dsx B mn s y) → pj_Ev L (d + 2) gX4_tellRing 93 [.val (.ref 131), .val (.int (nI s)), .val (.int (nI a)), .val (.int x3), .val (.int (rI b)), .val (.int (nI y)), s6] [] (xS n0 I J pl tr rg fr) r := by
        intro h
        refine ev_b 1 rfl ?_
        refine ev_b 2 rfl ?_
        refine ev_z false rfl rfl (fun _ => ?_) (fun h => by cases h)
        refine ev_b 4 rfl ?_
        refine ih (y + 1) _ b _ (by omega) (nI_inc y) ?_
        rcases hb with ⟨b0, hb⟩ | ⟨q, hq, hq1, hq2, hq3⟩
        · rcases h with h | ⟨q, hq, -⟩
          · refine Or.inl ⟨b0, fun z hz => ?_⟩
            by_cases e : z = y
            · rw [e]; exact h
            · exact hb z (by omega)
          · omega
        · refine Or.inr ⟨q, hq, by omega, hq2, fun z hz hB => ?_⟩
          by_cases e : z = y
          · rw [e] at hB ⊢
            rcases h with h | ⟨q', hq', hq4, hq5⟩
            · rw [h] at hB; cases hB
            · have : q' = q := by omega
              rw [this] at hq5
              exact ⟨hq5, fun _ => by omega⟩
          · exact hq3 z (by omega) hB
      have yes : B a y = true → (b = 0 ∨ ∃ q, b = q + 1 ∧ dsx B mn s y < dsx B mn s q) → pj_Ev L (d + 2) gX4_tellRing 89 [.val (.ref 131), .val (.int (nI s)), .val (.int (nI a)), .val (.int x3), .val (.int (rI b)), .val (.int (nI y)), s6] [] (xS n0 I J pl tr rg fr) r := by
        intro hB h
        refine ev_b 2 rfl ?_
        refine ev_b 2 rfl ?_
        refine ev_z true rfl rfl (fun h => by cases h) (fun _ => ?_)
        refine ev_b 2 rfl ?_
        have hlast := ih (y + 1) (nI y + Int32.ofInt 1) (y + 1) (.val (.int (bI true))) (by omega) (nI_inc y) (Or.inr ⟨y, rfl, by omega, hB, fun z hz hz2 => by
          by_cases e : z = y
          · rw [e]; exact ⟨Nat.le_refl _, fun _ => Nat.le_refl _⟩
          · rcases hb with ⟨b0, hb⟩ | ⟨q, hq, hq1, hq2, hq3⟩
            · rw [hb z (by omega)] at hz2; cases hz2
            · have q3 := hq3 z (by omega) hz2
              rcases h with h | ⟨q', hq', hlt⟩
              · omega
              · have : q' = q := by omega
                rw [this] at hlt
                exact ⟨by omega, fun _ => by omega⟩⟩)
        rw [rI_s] at hlast
        exact ev_b 3 rfl hlast
      refine ev_b 3 rfl ?_
      show pj_Ev L (d + 2) gX4_tellRing 50 _ [.int (I 131 2), .int (nI y)] _ _
      rw [h1]
      refine ev_ge y mn rfl rfl (by omega) (by omega) (fun h => by omega) (fun _ => ?_)
      refine ev_b 3 rfl ?_
      refine ev_la 137 a _ rfl rfl rfl rfl ha40 (by omega) ?_
      refine ev_b 1 rfl ?_
      refine ev_c rfl (m_has (k := y) (by omega)) ?_
      rw [hbit]
      refine ev_z _ rfl rfl (fun e => no (Or.inl e)) (fun e => ?_)
      rcases hb with ⟨b0, hb⟩ | ⟨q, hq, hq1, hq2, hq3⟩
      · subst b0
        refine ev_b 1 rfl ?_
        refine ev_if0 (rI 0) rfl rfl (fun _ => yes e (Or.inl rfl)) (fun h => absurd h (by decide))
      · subst hq
        rw [rI_s] at no yes ⊢
        have dq := dle q
        refine ev_b 1 rfl ?_
        refine ev_ltn q (by omega) rfl rfl ?_
        refine ev_b 3 rfl ?_
        refine ev_ia 140 y _ (hC y hym) rfl rfl rfl hy40 (by omega) ?_
        refine ev_b 3 rfl ?_
        refine ev_ia 140 q _ (hC q (by omega)) rfl rfl rfl (show q < 40 by omega) (by omega) ?_
        exact ev_ge (dsx B mn s y) (dsx B mn s q) rfl rfl (by omega) (by omega) (fun h => no (Or.inr ⟨q, rfl, hq1, h⟩)) (fun h => yes e (Or.inr ⟨q, rfl, h⟩))
  exact look mn 0 _ 0 s6 (by omega) rfl (Or.inl ⟨rfl, fun q hq => by omega⟩)
theorem m_tellRing (h1 : I 131 2 = nI mn) (hmn : mn ≤ 40) (hJ : JM J mn B mn) {s : Nat} (hs : s < mn) (hyes : inR B mn s = true) :
    ∃ I', pj_Ev L (d + 2) gX4_tellRing 0 [.val (.ref 131), .val (.int (nI s)), .unset, .unset, .unset, .unset, .unset] [] (xS n0 I J pl tr rg fr) (.inl none, xS n0 I' J pl tr rg fr) ∧ Fr TT I I' ∧ I' 131 19 = nI (rsz B mn s) ∧ ∀ k, k < rsz B mn s → I' 146 k = nI (rq B mn s k) := by
  have ring : ∀ m i (I : pj_SI), kk B mn s (rq B mn s i) < m → (∃ k, good B mn s (rq B mn s i) k = true) → rq B mn s i < mn → i + kk B mn s (rq B mn s i) + 1 ≤ mn → (∀ j, j < i → rq B mn s (j + 1) ≠ s) → I 131 2 = nI mn → CS I mn (dsx B mn s) → I 131 19 = nI i → (∀ j, j < i → I 146 j = nI (rq B mn s j)) →
      ∃ I', (∀ (s4 s5 s6 : Slot), pj_Ev L (d + 2) gX4_tellRing 14 [.val (.ref 131), .val (.int (nI s)), .val (.int (nI (rq B mn s i))), .val (.int (bI true)), s4, s5, s6] [] (xS n0 I J pl tr rg fr) (.inl none, xS n0 I' J pl tr rg fr)) ∧ Fr TT I I' ∧ I' 131 19 = nI (rsz B mn s) ∧ ∀ k, k < rsz B mn s → I' 146 k = nI (rq B mn s k) := by
    intro m
    induction m with
    | zero => intro i I hk; omega
    | succ m ih =>
      intro i I hk hg hat hi hne h1 hC h8 hr
      obtain ⟨k0, hg⟩ := hg
      obtain ⟨n1, n2, n3, n4⟩ := nxt_spec hs hg
      have hgo := nxt_good hs hg
      have hrq : rq B mn s (i + 1) = nxt B mn s (rq B mn s i) := rfl
      have hsz0 : nxt B mn s (rq B mn s i) = s → rsz B mn s = i + 1 := fun hend => by
        unfold rsz
        rw [fi_char (c := i) (by omega) (fun j hj => beq_false_of_ne (hne j hj)) (fun _ => by rw [hrq, hend, beq_self_eq_true])]
      have ih1 := ih (i + 1)
      rw [hrq] at ih1
      generalize hA : rq B mn s i = a at *
      have ha40 : a < 40 := by omega
      have hI2 : Fr TT I (pj_u2 (pj_u2 I 146 i (nI a)) 131 19 (nI (i + 1))) := Fr.tr (Fr.u (Or.inr (Or.inl rfl))) (Fr.u (Or.inr (Or.inr ⟨rfl, rfl⟩)))
      have h1' : (pj_u2 (pj_u2 I 146 i (nI a)) 131 19 (nI (i + 1))) 131 2 = nI mn := by rw [u2k _ _ (by decide), u2n _ _ (by decide)]; exact h1
      have hC' : CS (pj_u2 (pj_u2 I 146 i (nI a)) 131 19 (nI (i + 1))) mn (dsx B mn s) := fun x hx => by rw [u2n _ _ (by decide), u2n _ _ (by decide)]; exact hC x hx
      have h8' : (pj_u2 (pj_u2 I 146 i (nI a)) 131 19 (nI (i + 1))) 131 19 = nI (i + 1) := pj_u2_self _ _ _ _
      have hr' : ∀ k, k < i + 1 → (pj_u2 (pj_u2 I 146 i (nI a)) 131 19 (nI (i + 1))) 146 k = nI (rq B mn s k) := by
        intro k hk
        by_cases e : k = i
        · rw [e, u2n _ _ (by decide), pj_u2_self, hA]
        · rw [u2n _ _ (by decide), u2k _ _ e]
          exact hr k (by omega)
      have rest : ∃ I', (∀ (s5 s6 : Slot), pj_Ev L (d + 2) gX4_tellRing 116 [.val (.ref 131), .val (.int (nI s)), .val (.int (nI a)), .val (.int (bI true)), .val (.int (nI (nxt B mn s a))), s5, s6] [] (xS n0 (pj_u2 (pj_u2 I 146 i (nI a)) 131 19 (nI (i + 1))) J pl tr rg fr) (.inl none, xS n0 I' J pl tr rg fr)) ∧ Fr TT (pj_u2 (pj_u2 I 146 i (nI a)) 131 19 (nI (i + 1))) I' ∧ I' 131 19 = nI (rsz B mn s) ∧ ∀ k, k < rsz B mn s → I' 146 k = nI (rq B mn s k) := by
        by_cases hend : nxt B mn s a = s
        · refine ⟨_, fun s5 s6 => ?_, Fr.rfl', by rw [hsz0 hend]; exact h8', fun k hk => hr' k (by rw [hsz0 hend] at hk; exact hk)⟩
          rw [hend]
          refine ev_b 4 rfl ?_
          refine ev_eq s s rfl rfl (by omega) (by omega) (fun _ => ?_) (fun h => absurd rfl h)
          refine ev_b 3 rfl ?_
          refine ev_b 1 rfl ?_
          refine ev_z false rfl rfl (fun _ => ?_) (fun h => by cases h)
          exact ev_ret rfl rfl rfl
        · rcases hgo with h | ⟨k', g1, g2⟩
          · exact absurd h hend
          · obtain ⟨I', ev, q1, q2⟩ := ih1 (pj_u2 (pj_u2 I 146 i (nI a)) 131 19 (nI (i + 1))) (by omega) ⟨k', g1⟩ n1 (by omega) (fun j hj => by
              by_cases e : j = i
              · rw [e, hrq]; exact hend
              · exact hne j (by omega)) h1' hC' h8' hr'
            refine ⟨I', fun s5 s6 => ?_, q1, q2⟩
            refine ev_b 4 rfl ?_
            refine ev_eq (nxt B mn s a) s rfl rfl (by omega) (by omega) (fun h => absurd h hend) (fun _ => ?_)
            exact ev_b 4 rfl (ev _ _ _)
      obtain ⟨I', evr, q1, q2⟩ := rest
      refine ⟨I', fun s4 s5 s6 => ?_, Fr.tr hI2 q1, q2⟩
      have e1 : I 131 19 + nI 1 = nI (i + 1) := by rw [h8, nI_add]
      refine ev_b 1 rfl ?_
      refine ev_z true rfl rfl (fun h => by cases h) (fun _ => ?_)
      refine ev_b 5 rfl ?_
      show pj_Ev L (d + 2) gX4_tellRing 27 _ [.int (nI a), .int (I 131 19), .ref 146] _ _
      rw [h8]
      refine ev_is 146 i (nI a) rfl rfl (by decide) rfl (show i < 40 by omega) (by omega) ?_
      refine ev_b 10 (σ' := xS n0 (pj_u2 (pj_u2 I 146 i (nI a)) 131 19 (I 131 19 + nI 1)) J pl tr rg fr) rfl ?_
      rw [e1]
      exact tell_look h1' hmn hJ hs hat hC' ⟨k0, hg⟩ evr
  obtain ⟨I1, ev1, f1, f2⟩ := m_countSteps (L := L) (d := d) (n0 := n0) (pl := pl) (tr := tr) (rg := rg) (fr := fr) h1 hmn hJ hs
  have h1' : I1 131 2 = nI mn := by rw [f1 131 2 (fun z => by unfold TS at z; omega)]; exact h1
  have hg0 : good B mn s s mn = true := hyes
  have hk0 := (kk_spec hs hg0).1
  obtain ⟨I', ev, q1, q2⟩ := ring mn 0 (pj_u2 I1 131 19 (nI 0)) hk0 ⟨mn, hg0⟩ hs (by
    show 0 + kk B mn s s + 1 ≤ mn
    omega) (fun j hj => by omega) (by rw [u2k _ _ (by decide)]; exact h1') (fun x hx => by rw [u2n _ _ (by decide)]; exact f2 x hx) (pj_u2_self _ _ _ _) (fun j hj => by omega)
  refine ⟨I', ?_, Fr.tr (f1.mono fun o k z => Or.inl z) (Fr.tr (Fr.u (Or.inr (Or.inr ⟨rfl, rfl⟩))) q1), q2⟩
  refine ev_b 2 rfl ?_
  refine ev_c rfl ev1 ?_
  exact ev_b 7 (σ' := xS n0 (pj_u2 I1 131 19 (nI 0)) J pl tr rg fr) rfl (ev _ _ _)
def TN : Nat → Nat → Prop := fun o k => o = 140 ∨ o = 146 ∨ (o = 131 ∧ (k = 19 ∨ k = 22 ∨ k = 0))
theorem m_noRing_t (h1 : I 131 2 = nI mn) (hmn : mn ≤ 40) (hJ : JM J mn B mn) (hno : ∀ s, s < mn → inR B mn s = false) :
    ∃ J', pj_Ev L (d + 3) gX4_noRing 0 [.val (.ref 131), .unset] [] (xS n0 I J pl tr rg fr) (.inl (some (.int 1)), xS n0 I J' pl tr rg fr) ∧ Fr TW J J' := by
  obtain ⟨J', ev, q⟩ := m_inRing (L := L) (d := d + 1) (n0 := n0) (pl := pl) (tr := tr) (rg := rg) (fr := fr) h1 hmn hJ
  refine ⟨J', ?_, q⟩
  have e : lowR B mn = 0 := by
    unfold lowR
    rw [fi_char (c := mn) (Nat.le_refl _) hno (fun z => by omega), if_neg (by omega)]
  rw [e] at ev
  refine ev_b 1 rfl ?_
  refine ev_c rfl ev ?_
  refine ev_b 2 rfl ?_
  refine ev_if0 (rI 0) rfl rfl (fun h => absurd h (by decide)) (fun _ => ?_)
  refine ev_b 1 rfl ?_
  exact ev_ret rfl rfl rfl
theorem m_noRing_f (h1 : I 131 2 = nI mn) (hmn : mn ≤ 40) (hJ : JM J mn B mn) {s : Nat} (hs : s < mn) (hyes : inR B mn s = true) (hlow : ∀ j, j < s → inR B mn j = false) :
    ∃ I' J', pj_Ev L (d + 3) gX4_noRing 0 [.val (.ref 131), .unset] [] (xS n0 I J pl tr rg fr) (.inl (some (.int 0)), xS n0 I' J' pl tr rg fr) ∧ Fr TN I I' ∧ Fr TW J J' ∧ I' 131 19 = nI (rsz B mn s) ∧ (∀ k, k < rsz B mn s → I' 146 k = nI (rq B mn s k)) ∧ I' 131 22 = I 131 22 + 1 ∧ I' 131 0 = 2 := by
  obtain ⟨J', ev, q⟩ := m_inRing (L := L) (d := d + 1) (n0 := n0) (pl := pl) (tr := tr) (rg := rg) (fr := fr) h1 hmn hJ
  have hJ' : JM J' mn B mn := fun a ha y hy => by rw [q 137 a (fun z => by unfold TW at z; omega)]; exact hJ a ha y hy
  obtain ⟨I1, ev1, f1, f2, f3⟩ := m_tellRing (L := L) (d := d) (n0 := n0) (pl := pl) (tr := tr) (rg := rg) (fr := fr) h1 hmn hJ' hs hyes
  have e : lowR B mn = s + 1 := by
    unfold lowR
    rw [fi_char (c := s) (by omega) hlow (fun _ => hyes), if_pos hs]
  have h22 : I1 131 22 = I 131 22 := f1 131 22 (fun z => by unfold TT at z; omega)
  rw [e, rI_s] at ev
  refine ⟨pj_u2 (pj_u2 I1 131 22 (I1 131 22 + nI 1)) 131 0 2, J', ?_, Fr.tr (f1.mono fun o k z => ?_) (Fr.tr (Fr.u (Or.inr (Or.inr ⟨rfl, Or.inr (Or.inl rfl)⟩))) (Fr.u (Or.inr (Or.inr ⟨rfl, Or.inr (Or.inr rfl)⟩)))), q, ?_, ?_, ?_, pj_u2_self _ _ _ _⟩
  · refine ev_b 1 rfl ?_
    refine ev_c rfl ev ?_
    refine ev_b 2 rfl ?_
    refine ev_gen s (by omega) rfl rfl ?_
    refine ev_b 2 rfl ?_
    refine ev_c rfl ev1 ?_
    refine ev_b 10 (σ' := xS n0 (pj_u2 (pj_u2 I1 131 22 (I1 131 22 + nI 1)) 131 0 2) J' pl tr rg fr) rfl ?_
    exact ev_ret rfl rfl rfl
  · unfold TT at z
    unfold TN
    omega
  · rw [u2k _ _ (by decide), u2k _ _ (by decide)]; exact f2
  · intro k hk
    rw [u2n _ _ (by decide), u2n _ _ (by decide)]; exact f3 k hk
  · rw [u2k _ _ (by decide), pj_u2_self, h22]
    rfl
end TEL
end
section
/-! filling tracks: plain laws -/
def fitsB (l : List Sg) (la y : Nat) : Bool := la == 0 || (decide ((gs l (la - 1)).2.2.1 < (gs l y).2.1) || ((gs l y).2.1 == (gs l (la - 1)).2.2.1 && (gs l y).1 == (gs l (la - 1)).1))
def rdyB (R : Nat → Nat → Bool) (mn : Nat) (f : Nat → Nat) (T y : Nat) : Bool := f y == 0 && !exB (fun x => R x y && (f x == 0 || f x == T + 1)) mn
abbrev Fs : Type := (Nat → Nat) × Nat × Nat
def cand (l : List Sg) (R : Nat → Nat → Bool) (T : Nat) (s : Fs) (P : Nat) : Bool := decide (P % 64 < l.length) && ((gs l (P % 64)).2.1 == P / 64 && (rdyB R l.length s.1 T (P % 64) && fitsB l s.2.1 (P % 64)))
def plc (T : Nat) (s : Fs) (y : Nat) : Fs := (up1 s.1 y (T + 1), y + 1, s.2.2 + 1)
def stp (l : List Sg) (R : Nat → Nat → Bool) (T : Nat) (P : Nat) (s : Fs) : Fs := if cand l R T s P then plc T s (P % 64) else s
def sc (l : List Sg) (R : Nat → Nat → Bool) (T : Nat) : Nat → Nat → Fs → Fs
  | 0, _, s => s
  | m + 1, P, s => sc l R T m (P + 1) (stp l R T P s)
section FIL
variable {l : List Sg} {R : Nat → Nat → Bool} {T : Nat}
theorem sc_s (m P : Nat) (s : Fs) : sc l R T (m + 1) P s = sc l R T m (P + 1) (stp l R T P s) := rfl
theorem sc_skip {s : Fs} : ∀ {j m P : Nat}, (∀ Q, P ≤ Q → Q < P + j → cand l R T s Q = false) → sc l R T (j + m) P s = sc l R T m (P + j) s
  | 0, m, P, _ => by rw [Nat.zero_add, Nat.add_zero]
  | j + 1, m, P, h => by
    rw [show j + 1 + m = (j + m) + 1 by omega, sc_s]
    have e : stp l R T P s = s := by
      unfold stp
      rw [h P (Nat.le_refl _) (by omega)]
      rfl
    rw [e, sc_skip (j := j) (P := P + 1) (fun Q h1 h2 => h Q (by omega) (by omega)), show P + 1 + j = P + (j + 1) by omega]
theorem sc_none {s : Fs} {m P : Nat} (h : ∀ Q, P ≤ Q → Q < P + m → cand l R T s Q = false) : sc l R T m P s = s := by
  have := sc_skip (m := 0) h
  rwa [Nat.add_zero] at this
theorem sc_first {s : Fs} {m P Q : Nat} (h1 : P ≤ Q) (h2 : Q < P + m) (h : ∀ Q', P ≤ Q' → Q' < Q → cand l R T s Q' = false) (hc : cand l R T s Q = true) : sc l R T m P s = sc l R T (P + m - Q - 1) (Q + 1) (plc T s (Q % 64)) := by
  have e := sc_skip (l := l) (R := R) (T := T) (s := s) (j := Q - P) (m := P + m - Q) (P := P) (fun Q' a b => h Q' a (by omega))
  rw [show Q - P + (P + m - Q) = m by omega, show P + (Q - P) = Q by omega] at e
  rw [e, show P + m - Q = (P + m - Q - 1) + 1 by omega, sc_s]
  congr 1
  unfold stp
  rw [hc]
  rfl
theorem sc_n : ∀ (m P : Nat) (s : Fs), s.2.2 ≤ (sc l R T m P s).2.2
  | 0, _, _ => Nat.le_refl _
  | m + 1, P, s => by
    refine Nat.le_trans ?_ (sc_n m (P + 1) (stp l R T P s))
    unfold stp
    split
    · exact Nat.le_succ _
    · exact Nat.le_refl _
/-- what stays true on a track -/
def FI (mn T c : Nat) (s : Fs) : Prop := (∀ x, x < mn → s.1 x ≤ T + 1) ∧ fb_ct (fun k => s.1 k != 0) mn = c + s.2.2 ∧ s.2.1 ≤ mn
theorem FI_stp {c P : Nat} {s : Fs} (h : FI l.length T c s) : FI l.length T c (stp l R T P s) := by
  unfold stp
  by_cases e : cand l R T s P = true
  · rw [if_pos e]
    unfold cand rdyB at e
    simp only [Bool.and_eq_true, decide_eq_true_eq, beq_iff_eq] at e
    obtain ⟨e1, -, ⟨e2, -⟩, -⟩ := e
    obtain ⟨h1, h2, h3⟩ := h
    refine ⟨fun x hx => ?_, ?_, ?_⟩
    · show up1 s.1 (P % 64) (T + 1) x ≤ T + 1
      unfold up1
      split
      · exact Nat.le_refl _
      · exact h1 x hx
    · have u := fb_ct_upd (fun k => s.1 k != 0) true e1
      have e3 : (s.1 (P % 64) != 0) = false := by rw [e2]; rfl
      rw [e3] at u
      simp only [Bool.false_eq_true, if_false, if_true] at u
      have e4 : fb_ct (fun k => up1 s.1 (P % 64) (T + 1) k != 0) l.length = fb_ct (fun k => if k = P % 64 then true else s.1 k != 0) l.length := fb_ct_cong fun k _ => by
        unfold up1
        by_cases z : k = P % 64
        · rw [if_pos z, if_pos z]; rfl
        · rw [if_neg z, if_neg z]
      show fb_ct (fun k => up1 s.1 (P % 64) (T + 1) k != 0) l.length = c + (s.2.2 + 1)
      omega
    · show P % 64 + 1 ≤ l.length
      omega
  · rw [if_neg e]; exact h
theorem FI_sc {c : Nat} : ∀ (m P : Nat) (s : Fs), FI l.length T c s → FI l.length T c (sc l R T m P s)
  | 0, _, _, h => h
  | m + 1, P, s, h => FI_sc m (P + 1) _ (FI_stp h)
/-- one of those without a track has all above it on tracks, if there is no ring -/
theorem first_free {mn : Nat} {f : Nat → Nat} (hno : ∀ s, s < mn → inR R mn s = false) (h : ∃ y, y < mn ∧ f y = 0) : ∃ y, y < mn ∧ f y = 0 ∧ ∀ x, x < mn → R x y = true → f x ≠ 0 := by
  refine Classical.byContradiction fun hc => ?_
  have step : ∀ y, y < mn → f y = 0 → ∃ x, x < mn ∧ f x = 0 ∧ R x y = true := fun y hy hf => Classical.byContradiction fun z => hc ⟨y, hy, hf, fun x hx hR h0 => z ⟨x, hx, h0, hR⟩⟩
  obtain ⟨y0, hy0, hf0⟩ := h
  -- a walk up
  have walk : ∃ g : Nat → Nat, ∀ i, g i < mn ∧ f (g i) = 0 ∧ R (g (i + 1)) (g i) = true := by
    let pr : (y : { y : Nat // y < mn ∧ f y = 0 }) → { x : Nat // x < mn ∧ f x = 0 } := fun y => ⟨Classical.choose (step y.1 y.2.1 y.2.2), (Classical.choose_spec (step y.1 y.2.1 y.2.2)).1, (Classical.choose_spec (step y.1 y.2.1 y.2.2)).2.1⟩
    let g : Nat → { y : Nat // y < mn ∧ f y = 0 } := fun i => Nat.rec ⟨y0, hy0, hf0⟩ (fun _ y => pr y) i
    refine ⟨fun i => (g i).1, fun i => ⟨(g i).2.1, (g i).2.2, ?_⟩⟩
    exact (Classical.choose_spec (step (g i).1 (g i).2.1 (g i).2.2)).2.2
  obtain ⟨g, hg⟩ := walk
  obtain ⟨i, j, hij, -, he⟩ := fb_twice (m := mn) (n := mn + 1) (f := g) (fun i _ => (hg i).1) (Nat.lt_succ_self _)
  have lead : ∀ k, ld R mn (g i) k (g (i + k)) = true := fun k => by
    induction k with
    | zero => simp [ld]
    | succ k ih => exact ld_edge (hg (i + (k + 1))).1 (hg (i + k)).1 (hg (i + k)).2.2 ih
  have hr : inR R mn (g i) = true := by
    rw [inR_iff' (hg i).1]
    obtain ⟨k, hk⟩ : ∃ k, j = i + (k + 1) := ⟨j - i - 1, by omega⟩
    refine ⟨g (i + k), k, (hg _).1, ?_, lead k⟩
    rw [he, hk]
    exact (hg (i + k)).2.2
  rw [hno _ (hg i).1] at hr
  cases hr
/-- a track -/
def scF (l : List Sg) (R : Nat → Nat → Bool) (T : Nat) (f : Nat → Nat) : Fs := sc l R T 1280 0 (f, 0, 0)
theorem scF_eq (f : Nat → Nat) : scF l R T f = sc l R T 1280 0 (f, 0, 0) := by unfold scF; exact Eq.refl _
/-- a track takes one at least -/
theorem sc_pos {f : Nat → Nat} (hno : ∀ s, s < l.length → inR R l.length s = false) (h40 : l.length ≤ 40) (hlf : ∀ y, y < l.length → (gs l y).2.1 < 20) (hf : ∀ x, x < l.length → f x ≤ T) (h : ∃ y, y < l.length ∧ f y = 0) : 0 < (scF l R T f).2.2 := by
  rw [scF_eq]
  obtain ⟨y, hy, hy0, hya⟩ := first_free hno h
  have hlf' := hlf y hy
  have hc : cand l R T (f, 0, 0) ((gs l y).2.1 * 64 + y) = true := by
    have e1 : ((gs l y).2.1 * 64 + y) % 64 = y := by omega
    have e2 : ((gs l y).2.1 * 64 + y) / 64 = (gs l y).2.1 := by omega
    unfold cand
    rw [e1, e2, decide_eq_true hy, beq_self_eq_true]
    unfold rdyB fitsB
    have e3 : exB (fun x => R x y && (f x == 0 || f x == T + 1)) l.length = false := by
      rw [← Bool.not_eq_true, exB_iff]
      rintro ⟨x, hx, hh⟩
      rw [Bool.and_eq_true, Bool.or_eq_true, beq_iff_eq, beq_iff_eq] at hh
      have := hya x hx hh.1
      have := hf x hx
      omega
    show (true && (true && ((f y == 0 && !exB (fun x => R x y && (f x == 0 || f x == T + 1)) l.length) && ((0 : Nat) == 0 || _)))) = true
    rw [e3, hy0]
    rfl
  obtain ⟨Q, hQ, hQc, hQl⟩ := fb_first (p := fun Q => cand l R T (f, 0, 0) Q = true) (n := 1280) ⟨(gs l y).2.1 * 64 + y, by omega, hc⟩
  rw [sc_first (P := 0) (Q := Q) (Nat.zero_le _) (by omega) (fun Q' _ h2 => by have := hQl Q' h2; simpa using this) hQc]
  have hn := sc_n (l := l) (R := R) (T := T) (0 + 1280 - Q - 1) (Q + 1) (plc T (f, 0, 0) (Q % 64))
  have h1 : (plc T (f, 0, 0) (Q % 64)).2.2 = 1 := rfl
  omega
/-- track after track -/
def trkS (r : (Nat → Nat) × Nat) (q : Fs) : (Nat → Nat) × Nat := (q.1, r.2 + q.2.2)
theorem trkS_1 (r : (Nat → Nat) × Nat) (q : Fs) : (trkS r q).1 = q.1 := rfl
theorem trkS_2 (r : (Nat → Nat) × Nat) (q : Fs) : (trkS r q).2 = r.2 + q.2.2 := rfl
def trk (l : List Sg) (R : Nat → Nat → Bool) : Nat → (Nat → Nat) × Nat
  | 0 => (fun _ => 0, 0)
  | T + 1 => trkS (trk l R T) (scF l R T (trk l R T).1)
theorem trk_1 (T : Nat) : (trk l R (T + 1)).1 = (scF l R T (trk l R T).1).1 := trkS_1 _ _
theorem trk_2 (T : Nat) : (trk l R (T + 1)).2 = (trk l R T).2 + (scF l R T (trk l R T).1).2.2 := trkS_2 _ _
theorem trk_inv : ∀ T, (∀ x, x < l.length → (trk l R T).1 x ≤ T) ∧ fb_ct (fun k => (trk l R T).1 k != 0) l.length = (trk l R T).2
  | 0 => ⟨fun x hx => Nat.le_refl _, fb_ct_zero.mpr fun k hk => rfl⟩
  | T + 1 => by
    obtain ⟨h1, h2⟩ := trk_inv T
    have fi0 : FI l.length T (trk l R T).2 ((trk l R T).1, 0, 0) := ⟨fun x hx => Nat.le_succ_of_le (h1 x hx), h2, Nat.zero_le _⟩
    have g := FI_sc (R := R) 1280 0 _ fi0
    rw [← scF_eq] at g
    rw [trk_1, trk_2]
    generalize scF l R T (trk l R T).1 = q at g ⊢
    exact ⟨g.1, g.2.1⟩
theorem trk_le (T : Nat) : (trk l R T).2 ≤ l.length := by
  rw [← (trk_inv T).2]
  exact fb_ct_le _ _
theorem trk_all {T : Nat} (h : (trk l R T).2 = l.length) : ∀ k, k < l.length → (trk l R T).1 k ≠ 0 := by
  intro k hk
  have := (trk_inv (l := l) (R := R) T).2
  rw [h] at this
  have := fb_ct_all.mp this k hk
  simpa using this
theorem trk_up (hno : ∀ s, s < l.length → inR R l.length s = false) (h40 : l.length ≤ 40) (hlf : ∀ y, y < l.length → (gs l y).2.1 < 20) {T : Nat} (h : (trk l R T).2 < l.length) : (trk l R T).2 < (trk l R (T + 1)).2 := by
  obtain ⟨h1, h2⟩ := trk_inv (l := l) (R := R) T
  have hex : ∃ y, y < l.length ∧ (trk l R T).1 y = 0 := Classical.byContradiction fun z => by
    have : fb_ct (fun k => (trk l R T).1 k != 0) l.length = l.length := fb_ct_all.mpr fun k hk => by
      have : (trk l R T).1 k ≠ 0 := fun q => z ⟨k, hk, q⟩
      simpa using this
    omega
  have := sc_pos (T := T) hno h40 hlf h1 hex
  rw [trk_2]
  omega
theorem trk_ge (hno : ∀ s, s < l.length → inR R l.length s = false) (h40 : l.length ≤ 40) (hlf : ∀ y, y < l.length → (gs l y).2.1 < 20) : ∀ T, (∀ t, t < T → (trk l R t).2 ≠ l.length) → T ≤ (trk l R T).2
  | 0, _ => Nat.zero_le _
  | T + 1, h => by
    have ih := trk_ge hno h40 hlf T fun t ht => h t (by omega)
    have hlt : (trk l R T).2 < l.length := by
      have := trk_le (l := l) (R := R) T
      have := h T (by omega)
      omega
    have := trk_up hno h40 hlf hlt
    omega
/-- how many tracks -/
def tnN (l : List Sg) (R : Nat → Nat → Bool) : Nat := fi (fun T => (trk l R T).2 == l.length) 41
theorem tnN_of (hno : ∀ s, s < l.length → inR R l.length s = false) (h40 : l.length ≤ 40) (hlf : ∀ y, y < l.length → (gs l y).2.1 < 20) {T : Nat} (h1 : (trk l R T).2 = l.length) (h2 : ∀ t, t < T → (trk l R t).2 ≠ l.length) : tnN l R = T ∧ T ≤ 40 := by
  have := trk_ge hno h40 hlf T h2
  have hT : T ≤ 40 := by omega
  refine ⟨?_, hT⟩
  unfold tnN
  exact fi_char (by omega) (fun j hj => beq_false_of_ne (h2 j hj)) (fun _ => by rw [h1, beq_self_eq_true])
end FIL
end
section
/-! the router fills a track -/
def SQ (tr : Nat) (I : pj_SI) (l : List Sg) (f : Nat → Nat) (T : Nat) : Prop := I tr 1 = nI l.length ∧ I tr 2 = nI T ∧ ∀ k, k < l.length →
  I (tr + 2 + k) 0 = nI (gs l k).1 ∧ I (tr + 2 + k) 1 = nI (gs l k).2.1 ∧ I (tr + 2 + k) 2 = nI (gs l k).2.2.1 ∧ I (tr + 2 + k) 3 = rI (f k) ∧ I (tr + 2 + k) 4 = (gs l k).2.2.2
theorem SQ.set {tr : Nat} {I : pj_SI} {l : List Sg} {f : Nat → Nat} {T y v : Nat} (h : SQ tr I l f T) : SQ tr (pj_u2 I (tr + 2 + y) 3 (rI v)) l (up1 f y v) T := by
  obtain ⟨h1, h2, h3⟩ := h
  refine ⟨by rw [u2n _ _ (by omega)]; exact h1, by rw [u2n _ _ (by omega)]; exact h2, fun k hk => ?_⟩
  obtain ⟨q0, q1, q2, q3, q4⟩ := h3 k hk
  refine ⟨by rw [u2k _ _ (by decide)]; exact q0, by rw [u2k _ _ (by decide)]; exact q1, by rw [u2k _ _ (by decide)]; exact q2, ?_, by rw [u2k _ _ (by decide)]; exact q4⟩
  by_cases e : k = y
  · rw [e, pj_u2_self, up1_eq]
  · rw [u2n _ _ (by omega), up1_ne e]; exact q3
def lastV (tr : Nat) : Nat → Value
  | 0 => .null
  | q + 1 => .ref (tr + 2 + q)
section FLX
variable {L d n0 : Nat} {I : pj_SI} {J : pj_SJ} {pl tr rg fr : Nat} {l : List Sg} {R : Nat → Nat → Bool} {f : Nat → Nat} {T : Nat}
theorem c_ready (ht : isP tr) (h40 : l.length ≤ 40) (hT : T ≤ 40) (hS : SQ tr I l f T) (hJ : JX tr J l.length R) (hf : ∀ x, x < l.length → f x ≤ T + 1) {y : Nat} (hy : y < l.length) :
    pj_Ev L d gX1_ready 0 [.val (.ref 1), .val (.ref (tr + 2 + y)), .val (.int (nI T)), .unset, .unset] [] (xS n0 I J pl tr rg fr) (.inl (some (.int (bI (rdyB R l.length f T y)))), xS n0 I J pl tr rg fr) := by
  have hy40 : y < 40 := by omega
  obtain ⟨h1, h2, h3⟩ := hS
  have hfy := hf y hy
  have loop : ∀ m k (w : Int32) (s4 : Slot), k + m = l.length → w = nI k → exB (fun x => R x y && (f x == 0 || f x == T + 1)) k = false →
      pj_Ev L d gX1_ready 12 [.val (.ref 1), .val (.ref (tr + 2 + y)), .val (.int (nI T)), .val (.int w), s4] [] (xS n0 I J pl tr rg fr) (.inl (some (.int (bI (!exB (fun x => R x y && (f x == 0 || f x == T + 1)) l.length)))), xS n0 I J pl tr rg fr) := by
    intro m
    induction m with
    | zero =>
      intro k w s4 hk hw he
      have hk : k = l.length := by omega
      subst hw; rw [hk] at he; rw [he]
      refine ev_b 3 rfl ?_
      refine ev_gp 1 _ ht h1 (Or.inl rfl) rfl rfl ?_
      refine ev_ge k l.length rfl rfl (by omega) (by omega) (fun _ => ?_) (fun h => by omega)
      refine ev_b 1 rfl ?_
      exact ev_ret rfl rfl rfl
    | succ m ih =>
      intro k w s4 hk hw he
      subst hw
      have hkl : k < l.length := by omega
      have hk40 : k < 40 := by omega
      have hfk := hf k hkl
      obtain ⟨-, -, -, q3, -⟩ := h3 k hkl
      have hbit : lb (J (tr + 2 + y) 6) k = R k y := by rw [(hJ y hy k (by omega)).2, decide_eq_true hkl, Bool.true_and]
      have no : (R k y && (f k == 0 || f k == T + 1)) = false → pj_Ev L d gX1_ready 67 [.val (.ref 1), .val (.ref (tr + 2 + y)), .val (.int (nI T)), .val (.int (nI k)), .val (.ref (tr + 2 + k))] [] (xS n0 I J pl tr rg fr) (.inl (some (.int (bI (!exB (fun x => R x y && (f x == 0 || f x == T + 1)) l.length)))), xS n0 I J pl tr rg fr) := by
        intro h
        refine ev_b 2 rfl ?_
        exact ih (k + 1) _ _ (by omega) (nI_inc k) (by
          show (exB (fun x => R x y && (f x == 0 || f x == T + 1)) k || (R k y && (f k == 0 || f k == T + 1))) = false
          rw [he, h]; rfl)
      have yes : (R k y && (f k == 0 || f k == T + 1)) = true → pj_Ev L d gX1_ready 65 [.val (.ref 1), .val (.ref (tr + 2 + y)), .val (.int (nI T)), .val (.int (nI k)), .val (.ref (tr + 2 + k))] [] (xS n0 I J pl tr rg fr) (.inl (some (.int (bI (!exB (fun x => R x y && (f x == 0 || f x == T + 1)) l.length)))), xS n0 I J pl tr rg fr) := by
        intro h
        have e : exB (fun x => R x y && (f x == 0 || f x == T + 1)) l.length = true := exB_iff.mpr ⟨k, hkl, h⟩
        rw [e]
        refine ev_b 1 rfl ?_
        exact ev_ret rfl rfl rfl
      refine ev_b 3 rfl ?_
      refine ev_gp 1 _ ht h1 (Or.inl rfl) rfl rfl ?_
      refine ev_ge k l.length rfl rfl (by omega) (by omega) (fun h => by omega) (fun _ => ?_)
      refine ev_b 2 rfl ?_
      refine ev_ga ht rfl rfl ?_
      refine ev_b 1 rfl ?_
      refine ev_as ht hk40 rfl ?_
      refine ev_b 2 rfl ?_
      refine ev_gsl 6 _ ht hy40 rfl (Or.inr rfl) rfl rfl ?_
      refine ev_b 6 rfl ?_
      refine ev_if0 (lg_cmp ((J (tr + 2 + y) 6 >>> ((nI k).toInt64 &&& 63)) &&& 1) 1) rfl rfl (fun h => ?_) (fun h => ?_)
      · have h := of_decide_eq_true h
        rw [lg_z, lb_sh (by omega), lB_1, hbit, Bool.not_eq_true] at h
        exact no (by rw [h]; rfl)
      · have h := of_decide_eq_false h
        rw [Classical.not_not, lg_z, lb_sh (by omega), lB_1, hbit] at h
        refine ev_b 1 rfl ?_
        refine ev_gs 3 _ ht hk40 q3 (by decide) rfl rfl ?_
        refine ev_b 1 rfl ?_
        refine ev_if (rI (f k)) (rI 0) rfl rfl (fun z => ?_) (fun z => ?_)
        · have z := (rI_eq (by omega) (by decide)).mp (of_decide_eq_true z)
          exact yes (by rw [h, z]; rfl)
        · have z := of_decide_eq_false z
          rw [rI_eq (by omega) (by decide)] at z
          refine ev_b 1 rfl ?_
          refine ev_gs 3 _ ht hk40 q3 (by decide) rfl rfl ?_
          refine ev_b 1 rfl ?_
          rw [← rI_s T] at no yes ⊢
          refine ev_if (rI (f k)) (rI (T + 1)) rfl rfl (fun q => ?_) (fun q => ?_)
          · have q := of_decide_eq_true q
            rw [rI_eq (by omega) (by omega)] at q
            exact no (by rw [beq_false_of_ne z, beq_false_of_ne q]; simp)
          · have q := of_decide_eq_false q
            rw [Classical.not_not, rI_eq (by omega) (by omega)] at q
            exact yes (by rw [h, q]; simp)
  obtain ⟨-, -, -, q3, -⟩ := h3 y hy
  unfold rdyB
  refine ev_b 1 rfl ?_
  refine ev_gs 3 _ ht hy40 q3 (by decide) rfl rfl ?_
  refine ev_b 1 rfl ?_
  refine ev_if (rI (f y)) (rI 0) rfl rfl (fun z => ?_) (fun z => ?_)
  · have z := (rI_eq (by omega) (by decide)).mp (of_decide_eq_true z)
    rw [z, beq_self_eq_true, Bool.true_and]
    exact ev_b 2 rfl (loop l.length 0 _ _ (by omega) rfl rfl)
  · have z := of_decide_eq_false z
    rw [rI_eq (by omega) (by decide)] at z
    rw [beq_false_of_ne z, Bool.false_and]
    refine ev_b 1 rfl ?_
    exact ev_ret rfl rfl rfl
theorem c_fill (ht : isP tr) (h40 : l.length ≤ 40) (hT : T ≤ 40) (hok : ∀ k, k < l.length → (gs l k).1 ≤ 9 ∧ (gs l k).2.1 < 20 ∧ (gs l k).2.2.1 < 20) (hS : SQ tr I l f T) (hJ : JX tr J l.length R) {cc : Nat} (hF : FI l.length T cc (f, 0, 0)) :
    ∃ I', pj_Ev L (d + 1) gX1_fill 0 [.val (.ref 1), .val (.int (nI T)), .unset, .unset, .unset, .unset, .unset, .unset] [] (xS n0 I J pl tr rg fr) (.inl (some (.int (nI (scF l R T f).2.2))), xS n0 I' J pl tr rg fr) ∧ Fr (TR tr) I I' ∧ SQ tr I' l (scF l R T f).1 T := by
  rw [scF_eq]
  generalize hE : sc l R T 1280 0 (f, 0, 0) = E
  have outer : ∀ m c (w : Int32) (I : pj_SI) (s : Fs), c + m = 20 → w = nI c → SQ tr I l s.1 T → FI l.length T cc s → sc l R T (1280 - c * 64) (c * 64) s = E →
      ∃ I', (∀ (s5 s6 s7 : Slot), pj_Ev L (d + 1) gX1_fill 7 [.val (.ref 1), .val (.int (nI T)), .val (lastV tr s.2.1), .val (.int (nI s.2.2)), .val (.int w), s5, s6, s7] [] (xS n0 I J pl tr rg fr) (.inl (some (.int (nI E.2.2))), xS n0 I' J pl tr rg fr)) ∧ Fr (TR tr) I I' ∧ SQ tr I' l E.1 T := by
    intro m
    induction m with
    | zero =>
      intro c w I s hc hw hS hF hsc
      have hc : c = 20 := by omega
      subst hw; rw [hc] at hsc ⊢
      have hsc : s = E := hsc
      subst hsc
      refine ⟨I, fun s5 s6 s7 => ?_, Fr.rfl', hS⟩
      refine ev_b 2 rfl ?_
      refine ev_ge 20 20 rfl rfl (by omega) (by omega) (fun _ => ?_) (fun h => by omega)
      refine ev_b 1 rfl ?_
      exact ev_ret rfl rfl rfl
    | succ m ih =>
      intro c w I s hc hw hS hF hsc
      subst hw
      have inner : ∀ m2 k (w : Int32) (I : pj_SI) (s : Fs), k + m2 = l.length → w = nI k → SQ tr I l s.1 T → FI l.length T cc s → sc l R T (1280 - (c * 64 + k)) (c * 64 + k) s = E →
          ∃ I', (∀ (s6 s7 : Slot), pj_Ev L (d + 1) gX1_fill 17 [.val (.ref 1), .val (.int (nI T)), .val (lastV tr s.2.1), .val (.int (nI s.2.2)), .val (.int (nI c)), .val (.int w), s6, s7] [] (xS n0 I J pl tr rg fr) (.inl (some (.int (nI E.2.2))), xS n0 I' J pl tr rg fr)) ∧ Fr (TR tr) I I' ∧ SQ tr I' l E.1 T := by
        intro m2
        induction m2 with
        | zero =>
          intro k w I s hk hw hS hF hsc
          have hk : k = l.length := by omega
          subst hw
          have e : sc l R T (1280 - (c * 64 + k)) (c * 64 + k) s = sc l R T (1280 - (c + 1) * 64) ((c + 1) * 64) s := by
            have := sc_skip (l := l) (R := R) (T := T) (s := s) (j := 64 - k) (m := 1280 - (c + 1) * 64) (P := c * 64 + k) (fun Q h1 h2 => by
              unfold cand
              rw [decide_eq_false (by omega), Bool.false_and])
            rw [show 64 - k + (1280 - (c + 1) * 64) = 1280 - (c * 64 + k) by omega, show c * 64 + k + (64 - k) = (c + 1) * 64 by omega] at this
            exact this
          rw [e] at hsc
          obtain ⟨I', ev, q1, q2⟩ := ih (c + 1) (nI (c + 1)) I s (by omega) rfl hS hF hsc
          refine ⟨I', fun s6 s7 => ?_, q1, q2⟩
          rw [nI_succ c] at ev
          refine ev_b 3 rfl ?_
          refine ev_gp 1 _ ht hS.1 (Or.inl rfl) rfl rfl ?_
          refine ev_ge k l.length rfl rfl (by omega) (by omega) (fun _ => ?_) (fun h => by omega)
          exact ev_b 2 rfl (ev _ _ _)
        | succ m2 ih2 =>
          intro k w I s hk hw hS hF hsc
          subst hw
          have hkl : k < l.length := by omega
          have hk40 : k < 40 := by omega
          obtain ⟨q0, q1, q2, q3, q4⟩ := hS.2.2 k hkl
          obtain ⟨o1, o2, o3⟩ := hok k hkl
          have eM : (c * 64 + k) % 64 = k := by omega
          have eD : (c * 64 + k) / 64 = c := by omega
          have eS : sc l R T (1280 - (c * 64 + k)) (c * 64 + k) s = sc l R T (1280 - (c * 64 + (k + 1))) (c * 64 + (k + 1)) (stp l R T (c * 64 + k) s) := by
            rw [show 1280 - (c * 64 + k) = (1280 - (c * 64 + (k + 1))) + 1 by omega, sc_s]
            rfl
          rw [eS] at hsc
          have hF2 := FI_stp (R := R) (P := c * 64 + k) hF
          have eC : cand l R T s (c * 64 + k) = ((gs l k).2.1 == c && (rdyB R l.length s.1 T k && fitsB l s.2.1 k)) := by
            unfold cand
            rw [eM, eD, decide_eq_true hkl, Bool.true_and]
          have rdy := c_ready (L := L) (d := d) (n0 := n0) (pl := pl) (rg := rg) (fr := fr) ht h40 hT hS hJ hF.1 hkl
          -- up to the question whether it fits
          have head : ∀ {I' : pj_SI}, (((gs l k).2.1 == c && rdyB R l.length s.1 T k) = false → ∀ (s7 : Slot), pj_Ev L (d + 1) gX1_fill 131 [.val (.ref 1), .val (.int (nI T)), .val (lastV tr s.2.1), .val (.int (nI s.2.2)), .val (.int (nI c)), .val (.int (nI k)), .val (.ref (tr + 2 + k)), s7] [] (xS n0 I J pl tr rg fr) (.inl (some (.int (nI E.2.2))), xS n0 I' J pl tr rg fr)) →
              ((gs l k).2.1 = c → rdyB R l.length s.1 T k = true → ∀ (s7 : Slot), pj_Ev L (d + 1) gX1_fill 109 [.val (.ref 1), .val (.int (nI T)), .val (lastV tr s.2.1), .val (.int (nI s.2.2)), .val (.int (nI c)), .val (.int (nI k)), .val (.ref (tr + 2 + k)), s7] [.int (bI (fitsB l s.2.1 k))] (xS n0 I J pl tr rg fr) (.inl (some (.int (nI E.2.2))), xS n0 I' J pl tr rg fr)) →
              ∀ (s6 s7 : Slot), pj_Ev L (d + 1) gX1_fill 17 [.val (.ref 1), .val (.int (nI T)), .val (lastV tr s.2.1), .val (.int (nI s.2.2)), .val (.int (nI c)), .val (.int (nI k)), s6, s7] [] (xS n0 I J pl tr rg fr) (.inl (some (.int (nI E.2.2))), xS n0 I' J pl tr rg fr) := by
            intro I' z1 z2 s6 s7
            refine ev_b 3 rfl ?_
            refine ev_gp 1 _ ht hS.1 (Or.inl rfl) rfl rfl ?_
            refine ev_ge k l.length rfl rfl (by omega) (by omega) (fun h => by omega) (fun _ => ?_)
            refine ev_b 2 rfl ?_
            refine ev_ga ht rfl rfl ?_
            refine ev_b 1 rfl ?_
            refine ev_as ht hk40 rfl ?_
            refine ev_b 2 rfl ?_
            refine ev_gs 1 _ ht hk40 q1 (by decide) rfl rfl ?_
            refine ev_b 1 rfl ?_
            refine ev_ne (gs l k).2.1 c rfl rfl (by omega) (by omega) (fun h => z1 (by rw [beq_false_of_ne h]; rfl) _) (fun h => ?_)
            refine ev_b 3 rfl ?_
            refine ev_c rfl rdy ?_
            refine ev_nz _ rfl rfl (fun h2 => ?_) (fun h2 => ?_)
            · have fin := z2 h h2 s7
              have hla := hF.2.2
              revert fin
              unfold fitsB
              cases hl : s.2.1 with
              | zero =>
                intro fin
                refine ev_b 4 rfl ?_
                exact fin
              | succ q =>
                intro fin
                rw [hl] at hla
                have hq : q < l.length := by omega
                have hq40 : q < 40 := by omega
                obtain ⟨p0, p1, p2, p3, p4⟩ := hS.2.2 q hq
                obtain ⟨r1, r2, r3⟩ := hok q hq
                simp only [Nat.add_sub_cancel] at fin
                refine ev_b 2 rfl ?_
                refine ev_b 1 rfl ?_
                refine ev_gs 1 _ ht hk40 q1 (by decide) rfl rfl ?_
                refine ev_b 1 rfl ?_
                refine ev_gs 2 _ ht hq40 p2 (by decide) rfl rfl ?_
                refine ev_gt (gs l k).2.1 (gs l q).2.2.1 rfl rfl (by omega) (by omega) (fun h3 => ?_) (fun h3 => ?_)
                · rw [decide_eq_true h3, Bool.true_or, Bool.or_true] at fin
                  exact ev_b 2 rfl fin
                · rw [decide_eq_false (by omega), Bool.false_or] at fin
                  refine ev_b 1 rfl ?_
                  refine ev_gs 1 _ ht hk40 q1 (by decide) rfl rfl ?_
                  refine ev_b 1 rfl ?_
                  refine ev_gs 2 _ ht hq40 p2 (by decide) rfl rfl ?_
                  refine ev_ne (gs l k).2.1 (gs l q).2.2.1 rfl rfl (by omega) (by omega) (fun h4 => ?_) (fun h4 => ?_)
                  · rw [beq_false_of_ne h4, Bool.false_and] at fin
                    exact ev_b 1 rfl fin
                  · rw [h4, beq_self_eq_true, Bool.true_and] at fin
                    refine ev_b 1 rfl ?_
                    refine ev_gs 0 _ ht hk40 q0 (by decide) rfl rfl ?_
                    refine ev_b 1 rfl ?_
                    refine ev_gs 0 _ ht hq40 p0 (by decide) rfl rfl ?_
                    refine ev_ne (gs l k).1 (gs l q).1 rfl rfl (by omega) (by omega) (fun h5 => ?_) (fun h5 => ?_)
                    · rw [beq_false_of_ne h5] at fin
                      exact ev_b 1 rfl fin
                    · rw [h5, beq_self_eq_true, Bool.or_true] at fin
                      exact ev_b 2 rfl fin
            · exact ev_b 1 rfl (z1 (by rw [h2, Bool.and_false]) _)
          by_cases hc2 : cand l R T s (c * 64 + k) = true
          · have e2 : stp l R T (c * 64 + k) s = plc T s k := by
              unfold stp
              rw [hc2, eM]
              rfl
            rw [e2] at hsc hF2
            obtain ⟨I', ev, g1, g2⟩ := ih2 (k + 1) (nI (k + 1)) (pj_u2 I (tr + 2 + k) 3 (rI (T + 1))) (plc T s k) (by omega) rfl hS.set hF2 hsc
            refine ⟨I', ?_, Fr.tr (Fr.u (by rw [Nat.add_assoc]; exact TR_at (by omega))) g1, g2⟩
            rw [nI_succ k, rI_s] at ev
            rw [eC, Bool.and_eq_true, Bool.and_eq_true] at hc2
            refine head (fun h => by rw [hc2.1, hc2.2.1] at h; cases h) (fun h1 h2 s7 => ?_)
            rw [hc2.2.2]
            refine ev_b 2 rfl ?_
            refine ev_nz true rfl rfl (fun _ => ?_) (fun h => by cases h)
            refine ev_b 2 rfl ?_
            refine ev_ps 3 _ ht hk40 (by decide) rfl rfl ?_
            refine ev_b 5 (lv' := [.val (.ref 1), .val (.int (nI T)), .val (.ref (tr + 2 + k)), .val (.int (nI s.2.2 + 1)), .val (.int (nI c)), .val (.int (nI k + 1)), .val (.ref (tr + 2 + k)), .val (.int (bI true))]) rfl ?_
            rw [show (plc T s k).2.2 = s.2.2 + 1 by rfl, nI_succ s.2.2] at ev
            exact ev _ _
          · have e2 : stp l R T (c * 64 + k) s = s := by
              unfold stp
              rw [if_neg hc2]
            rw [e2] at hsc
            rw [Bool.not_eq_true] at hc2
            obtain ⟨I', ev, g1, g2⟩ := ih2 (k + 1) (nI (k + 1)) I s (by omega) rfl hS hF hsc
            refine ⟨I', ?_, g1, g2⟩
            rw [nI_succ k] at ev
            refine head (fun _ s7 => ?_) (fun h1 h2 s7 => ?_)
            · exact ev_b 2 rfl (ev _ _)
            · rw [eC, h1, h2, beq_self_eq_true, Bool.true_and, Bool.true_and] at hc2
              rw [hc2]
              refine ev_b 2 rfl ?_
              refine ev_nz false rfl rfl (fun h => by cases h) (fun _ => ?_)
              exact ev_b 3 rfl (ev _ _)
      obtain ⟨I', ev, q⟩ := inner l.length 0 (nI 0) I s (by omega) rfl hS hF hsc
      refine ⟨I', fun s5 s6 s7 => ?_, q⟩
      refine ev_b 2 rfl ?_
      refine ev_ge c 20 rfl rfl (by omega) (by omega) (fun h => by omega) (fun _ => ?_)
      exact ev_b 2 rfl (ev _ _)
  obtain ⟨I', ev, q⟩ := outer 20 0 (nI 0) I (f, 0, 0) rfl rfl hS hF hE
  exact ⟨I', ev_b 6 rfl (ev _ _ _), q⟩
end FLX
end
section
/-! the model fills tracks -/
def T9 : Nat → Nat → Prop := fun o _ => o = 139
def SMf (I : pj_SI) (l : List Sg) (f : Nat → Nat) : Prop := SM I l ∧ ∀ k, k < l.length → I 139 k = rI (f k)
theorem SMf.set {I : pj_SI} {l : List Sg} {f : Nat → Nat} {y v : Nat} (h : SMf I l f) : SMf (pj_u2 I 139 y (rI v)) l (up1 f y v) := by
  obtain ⟨⟨h1, h2⟩, h3⟩ := h
  refine ⟨⟨by rw [u2n _ _ (by decide)]; exact h1, fun k hk => ?_⟩, fun k hk => ?_⟩
  · obtain ⟨q1, q2, q3, q4⟩ := h2 k hk
    exact ⟨by rw [u2n _ _ (by decide)]; exact q1, by rw [u2n _ _ (by decide)]; exact q2, by rw [u2n _ _ (by decide)]; exact q3, by rw [u2n _ _ (by decide)]; exact q4⟩
  · by_cases e : k = y
    · rw [e, pj_u2_self, up1_eq]
    · rw [u2k _ _ e, up1_ne e]; exact h3 k hk
section FLM
variable {L d n0 : Nat} {I : pj_SI} {J : pj_SJ} {pl tr rg fr : Nat} {l : List Sg} {R : Nat → Nat → Bool} {f : Nat → Nat} {T : Nat}
theorem m_free (h40 : l.length ≤ 40) (hT : T ≤ 40) (hS : SMf I l f) (hJ : JM J l.length R l.length) (hf : ∀ x, x < l.length → f x ≤ T + 1) {y : Nat} (hy : y < l.length) :
    pj_Ev L (d + 1) gX4_free 0 [.val (.ref 131), .val (.int (nI y)), .val (.int (nI T)), .unset, .unset] [] (xS n0 I J pl tr rg fr) (.inl (some (.int (bI (rdyB R l.length f T y)))), xS n0 I J pl tr rg fr) := by
  obtain ⟨⟨h1, h2⟩, h3⟩ := hS
  have hfy := hf y hy
  have loop : ∀ m k (w : Int32) (b : Bool), k + m = l.length → w = nI k → b = (f y == 0 && !exB (fun x => R x y && (f x == 0 || f x == T + 1)) k) →
      pj_Ev L (d + 1) gX4_free 18 [.val (.ref 131), .val (.int (nI y)), .val (.int (nI T)), .val (.int (bI b)), .val (.int w)] [] (xS n0 I J pl tr rg fr) (.inl (some (.int (bI (rdyB R l.length f T y)))), xS n0 I J pl tr rg fr) := by
    intro m
    induction m with
    | zero =>
      intro k w b hk hw hb
      have hk : k = l.length := by omega
      subst hw; rw [hk] at hb
      have e : b = rdyB R l.length f T y := hb
      rw [← e]
      refine ev_b 3 rfl ?_
      show pj_Ev L (d + 1) gX4_free 24 _ [.int (I 131 2), .int (nI k)] _ _
      rw [h1]
      refine ev_ge k l.length rfl rfl (by omega) (by omega) (fun _ => ?_) (fun h => by omega)
      refine ev_b 1 rfl ?_
      cases b
      · exact ev_ret rfl rfl rfl
      · exact ev_ret rfl rfl rfl
    | succ m ih =>
      intro k w b hk hw hb
      subst hw
      have hkl : k < l.length := by omega
      have hk40 : k < 40 := by omega
      have hfk := hf k hkl
      have hbit : lb (J 137 k) y = R k y := by rw [hJ k hkl y (by omega), decide_eq_true hy, Bool.true_and]
      have go : ∀ b' : Bool, b' = (b && !(R k y && (f k == 0 || f k == T + 1))) → pj_Ev L (d + 1) gX4_free 67 [.val (.ref 131), .val (.int (nI y)), .val (.int (nI T)), .val (.int (bI b)), .val (.int (nI k))] [.int (bI b')] (xS n0 I J pl tr rg fr) (.inl (some (.int (bI (rdyB R l.length f T y)))), xS n0 I J pl tr rg fr) := by
        intro b' hb'
        refine ev_b 3 rfl ?_
        refine ih (k + 1) _ b' (by omega) (nI_inc k) ?_
        rw [hb', hb]
        show _ = (f y == 0 && !(exB (fun x => R x y && (f x == 0 || f x == T + 1)) k || (R k y && (f k == 0 || f k == T + 1))))
        rw [Bool.not_or, Bool.and_assoc]
      refine ev_b 3 rfl ?_
      show pj_Ev L (d + 1) gX4_free 24 _ [.int (I 131 2), .int (nI k)] _ _
      rw [h1]
      refine ev_ge k l.length rfl rfl (by omega) (by omega) (fun h => by omega) (fun _ => ?_)
      refine ev_b 1 rfl ?_
      refine ev_z b rfl rfl (fun e => ?_) (fun e => ?_)
      · exact ev_b 1 rfl (go false (by rw [e]; rfl))
      · refine ev_b 3 rfl ?_
        refine ev_la 137 k _ rfl rfl rfl rfl hk40 (by omega) ?_
        refine ev_b 1 rfl ?_
        refine ev_c rfl (m_has (k := y) (by omega)) ?_
        rw [hbit]
        refine ev_z _ rfl rfl (fun e2 => ?_) (fun e2 => ?_)
        · exact ev_b 2 rfl (go true (by rw [e, e2]; rfl))
        · refine ev_b 3 rfl ?_
          refine ev_ia 139 k _ (h3 k hkl) rfl rfl rfl hk40 (by omega) ?_
          refine ev_b 4 (st' := [.int (rI T), .int (rI 1), .int (rI (f k))]) rfl ?_
          refine ev_c rfl c_in ?_
          refine ev_z _ rfl rfl (fun e3 => ?_) (fun e3 => ?_)
          · rw [Bool.and_eq_false_iff, decide_eq_false_iff_not, decide_eq_false_iff_not, rI_le (by decide) (by omega), rI_le (by omega) (by omega)] at e3
            have e4 : (f k == 0 || f k == T + 1) = true := by
              rw [Bool.or_eq_true, beq_iff_eq, beq_iff_eq]; omega
            exact ev_b 1 rfl (go false (by rw [e, e2, e4]; rfl))
          · rw [Bool.and_eq_true, decide_eq_true_eq, decide_eq_true_eq, rI_le (by decide) (by omega), rI_le (by omega) (by omega)] at e3
            have e4 : (f k == 0 || f k == T + 1) = false := by
              rw [beq_false_of_ne (by omega), beq_false_of_ne (by omega)]; rfl
            exact ev_b 2 rfl (go true (by rw [e, e2, e4]; rfl))
  refine ev_b 3 rfl ?_
  refine ev_ia 139 y _ (h3 y hy) rfl rfl rfl (show y < 40 by omega) (by omega) ?_
  refine ev_if0 (rI (f y)) rfl rfl (fun z => ?_) (fun z => ?_)
  · have z : decide (rI 1 ≤ rI (f y)) = true := z
    rw [decide_eq_true_eq, rI_le (by decide) (by omega)] at z
    refine ev_b 4 (lv' := [.val (.ref 131), .val (.int (nI y)), .val (.int (nI T)), .val (.int (bI false)), .val (.int (nI 0))]) rfl ?_
    exact loop l.length 0 _ false (by omega) rfl (by rw [beq_false_of_ne (by omega)]; rfl)
  · have z : decide (rI 1 ≤ rI (f y)) = false := z
    rw [decide_eq_false_iff_not, rI_le (by decide) (by omega)] at z
    refine ev_b 5 (lv' := [.val (.ref 131), .val (.int (nI y)), .val (.int (nI T)), .val (.int (bI true)), .val (.int (nI 0))]) rfl ?_
    have z0 : f y = 0 := by omega
    exact loop l.length 0 _ true (by omega) rfl (by rw [z0]; rfl)
def posN (l : List Sg) (y : Nat) : Nat := (gs l y).2.1 * 64 + y
theorem cand_pos {s : Fs} {y : Nat} (hy : y < l.length) (h40 : l.length ≤ 40) : cand l R T s (posN l y) = (rdyB R l.length s.1 T y && fitsB l s.2.1 y) := by
  unfold cand posN
  rw [show ((gs l y).2.1 * 64 + y) % 64 = y by omega, show ((gs l y).2.1 * 64 + y) / 64 = (gs l y).2.1 by omega, decide_eq_true hy, beq_self_eq_true]
  rfl
theorem cand_is {s : Fs} {Q : Nat} (h : cand l R T s Q = true) : Q % 64 < l.length ∧ posN l (Q % 64) = Q := by
  unfold cand at h
  rw [Bool.and_eq_true, Bool.and_eq_true, decide_eq_true_eq, beq_iff_eq] at h
  refine ⟨h.1, ?_⟩
  unfold posN
  rw [h.2.1]
  omega
def nfSpec (l : List Sg) (R : Nat → Nat → Bool) (T : Nat) (s : Fs) (P b : Nat) : Prop := (b = 0 ∧ ∀ Q, P ≤ Q → cand l R T s Q = false) ∨ (∃ q, b = q + 1 ∧ q < l.length ∧ P ≤ posN l q ∧ cand l R T s (posN l q) = true ∧ ∀ Q, P ≤ Q → Q < posN l q → cand l R T s Q = false)
theorem m_nextFor (h40 : l.length ≤ 40) (hT : T ≤ 40) (hok : ∀ k, k < l.length → (gs l k).1 ≤ 9 ∧ (gs l k).2.1 < 20 ∧ (gs l k).2.2.1 < 20) {s : Fs} {cc : Nat} (hS : SMf I l s.1) (hJ : JM J l.length R l.length) (hF : FI l.length T cc s) {bA aF P : Nat} (hbA : bA ≤ 40) (haF : aF ≤ 40) (hlat : ∀ y, y < l.length → ((bA < (gs l y).2.1 + 1 ∨ ((gs l y).2.1 + 1 = bA ∧ aF < y + 1)) ↔ P ≤ posN l y)) :
    ∃ b, pj_Ev L (d + 2) gX4_nextFor 0 [.val (.ref 131), .val (.int (nI T)), .val (.int (rI s.2.1)), .val (.int (rI bA)), .val (.int (rI aF)), .unset, .unset, .unset, .unset] [] (xS n0 I J pl tr rg fr) (.inl (some (.int (rI b))), xS n0 I J pl tr rg fr) ∧ nfSpec l R T s P b := by
  obtain ⟨⟨h1, h2⟩, h3⟩ := id hS
  have hla := hF.2.2
  have hcp0 := fun y (hy : y < l.length) => cand_pos (R := R) (T := T) (s := s) hy h40
  have hrdy := fun y (hy : y < l.length) => m_free (L := L) (d := d) (n0 := n0) (pl := pl) (tr := tr) (rg := rg) (fr := fr) h40 hT hS hJ hF.1 hy
  generalize hlaE : s.2.1 = la at hla hcp0 ⊢
  have loop : ∀ y (w : Int32) (b : Nat), y ≤ l.length → w = rI y → ((b = 0 ∧ ∀ z, y ≤ z → z < l.length → P ≤ posN l z → cand l R T s (posN l z) = false) ∨ (∃ q, b = q + 1 ∧ y ≤ q ∧ q < l.length ∧ P ≤ posN l q ∧ cand l R T s (posN l q) = true ∧ ∀ z, y ≤ z → z < l.length → P ≤ posN l z → cand l R T s (posN l z) = true → posN l q ≤ posN l z)) →
      ∃ b', (∀ (s7 s8 : Slot), pj_Ev L (d + 2) gX4_nextFor 11 [.val (.ref 131), .val (.int (nI T)), .val (.int (rI la)), .val (.int (rI bA)), .val (.int (rI aF)), .val (.int (rI b)), .val (.int w), s7, s8] [] (xS n0 I J pl tr rg fr) (.inl (some (.int (rI b'))), xS n0 I J pl tr rg fr)) ∧ nfSpec l R T s P b' := by
    intro y
    induction y with
    | zero =>
      intro w b hy hw hb
      subst hw
      refine ⟨b, fun s7 s8 => ?_, ?_⟩
      · refine ev_b 1 rfl ?_
        refine ev_if0 (rI 0) rfl rfl (fun _ => ?_) (fun h => absurd h (by decide))
        refine ev_b 1 rfl ?_
        exact ev_ret rfl rfl rfl
      · rcases hb with ⟨b0, hb⟩ | ⟨q, hq, -, hq1, hq2, hq3, hq4⟩
        · refine Or.inl ⟨b0, fun Q hQ => ?_⟩
          rw [← Bool.not_eq_true]
          intro hc
          obtain ⟨c1, c2⟩ := cand_is hc
          have := hb _ (Nat.zero_le _) c1 (by rw [c2]; exact hQ)
          rw [c2, hc] at this; cases this
        · refine Or.inr ⟨q, hq, hq1, hq2, hq3, fun Q hQ hQ2 => ?_⟩
          rw [← Bool.not_eq_true]
          intro hc
          obtain ⟨c1, c2⟩ := cand_is hc
          have := hq4 _ (Nat.zero_le _) c1 (by rw [c2]; exact hQ) (by rw [c2]; exact hc)
          rw [c2] at this
          omega
    | succ y ih =>
      intro w b hy hw hb
      subst hw
      have hyl : y < l.length := by omega
      have hy40 : y < 40 := by omega
      obtain ⟨p1, p2, p3, p4⟩ := h2 y hyl
      obtain ⟨o1, o2, o3⟩ := hok y hyl
      have hL := hlat y hyl
      have hcp := hcp0 y hyl
      -- the best so far is b''
      have go : ∀ b'' : Nat, ((b'' = b ∧ ¬ (P ≤ posN l y ∧ cand l R T s (posN l y) = true ∧ (b = 0 ∨ ∃ q, b = q + 1 ∧ (gs l y).2.1 ≤ (gs l q).2.1))) ∨ (b'' = y + 1 ∧ P ≤ posN l y ∧ cand l R T s (posN l y) = true ∧ (b = 0 ∨ ∃ q, b = q + 1 ∧ (gs l y).2.1 ≤ (gs l q).2.1))) →
          ∃ b', (∀ (s7 s8 : Slot), pj_Ev L (d + 2) gX4_nextFor 157 [.val (.ref 131), .val (.int (nI T)), .val (.int (rI la)), .val (.int (rI bA)), .val (.int (rI aF)), .val (.int (rI b'')), .val (.int (nI y)), s7, s8] [] (xS n0 I J pl tr rg fr) (.inl (some (.int (rI b'))), xS n0 I J pl tr rg fr)) ∧ nfSpec l R T s P b' := by
        intro b'' hbb
        obtain ⟨b', ev, q⟩ := ih (rI y) b'' (by omega) rfl (by
          rcases hbb with ⟨e, hn⟩ | ⟨e, hP, hC, hle⟩
          · rw [e]
            rcases hb with ⟨b0, hb⟩ | ⟨q, hq, hq0, hq1, hq2, hq3, hq4⟩
            · refine Or.inl ⟨b0, fun z hz hz2 hz3 => ?_⟩
              by_cases e2 : z = y
              · rw [e2] at hz3 ⊢
                rw [← Bool.not_eq_true]
                intro hc
                exact hn ⟨hz3, hc, Or.inl b0⟩
              · exact hb z (by omega) hz2 hz3
            · refine Or.inr ⟨q, hq, by omega, hq1, hq2, hq3, fun z hz hz2 hz3 hz4 => ?_⟩
              by_cases e2 : z = y
              · rw [e2] at hz3 hz4 ⊢
                have : ¬ (gs l y).2.1 ≤ (gs l q).2.1 := fun h => hn ⟨hz3, hz4, Or.inr ⟨q, hq, h⟩⟩
                unfold posN
                omega
              · exact hq4 z (by omega) hz2 hz3 hz4
          · refine Or.inr ⟨y, e, Nat.le_refl _, hyl, hP, hC, fun z hz hz2 hz3 hz4 => ?_⟩
            by_cases e2 : z = y
            · rw [e2]; exact Nat.le_refl _
            · rcases hb with ⟨b0, hb⟩ | ⟨q, hq, hq0, hq1, hq2, hq3, hq4⟩
              · rw [hb z (by omega) hz2 hz3] at hz4; cases hz4
              · have h5 := hq4 z (by omega) hz2 hz3 hz4
                rcases hle with hle | ⟨q', hq', hle⟩
                · omega
                · have : q' = q := by omega
                  rw [this] at hle
                  unfold posN at h5 ⊢
                  omega)
        refine ⟨b', fun s7 s8 => ?_, q⟩
        refine ev_b 2 rfl ?_
        rw [← nI_m1 y] at ev
        exact ev _ _
      -- which one
      have walk : ∀ {b' : Nat}, (¬ (P ≤ posN l y ∧ cand l R T s (posN l y) = true ∧ (b = 0 ∨ ∃ q, b = q + 1 ∧ (gs l y).2.1 ≤ (gs l q).2.1)) → ∀ (s7 s8 : Slot), pj_Ev L (d + 2) gX4_nextFor 157 [.val (.ref 131), .val (.int (nI T)), .val (.int (rI la)), .val (.int (rI bA)), .val (.int (rI aF)), .val (.int (rI b)), .val (.int (nI y)), s7, s8] [] (xS n0 I J pl tr rg fr) (.inl (some (.int (rI b'))), xS n0 I J pl tr rg fr)) →
          (P ≤ posN l y ∧ cand l R T s (posN l y) = true ∧ (b = 0 ∨ ∃ q, b = q + 1 ∧ (gs l y).2.1 ≤ (gs l q).2.1) → ∀ (s7 s8 : Slot), pj_Ev L (d + 2) gX4_nextFor 153 [.val (.ref 131), .val (.int (nI T)), .val (.int (rI la)), .val (.int (rI bA)), .val (.int (rI aF)), .val (.int (rI b)), .val (.int (nI y)), s7, s8] [] (xS n0 I J pl tr rg fr) (.inl (some (.int (rI b'))), xS n0 I J pl tr rg fr)) →
          ∀ (s7 s8 : Slot), pj_Ev L (d + 2) gX4_nextFor 11 [.val (.ref 131), .val (.int (nI T)), .val (.int (rI la)), .val (.int (rI bA)), .val (.int (rI aF)), .val (.int (rI b)), .val (.int (rI (y + 1))), s7, s8] [] (xS n0 I J pl tr rg fr) (.inl (some (.int (rI b'))), xS n0 I J pl tr rg fr) := by
        intro b' zn zy s7 s8
        have k109 : ∀ (bl : Bool) (s8 : Slot), (bl = true ↔ P ≤ posN l y) → pj_Ev L (d + 2) gX4_nextFor 109 [.val (.ref 131), .val (.int (nI T)), .val (.int (rI la)), .val (.int (rI bA)), .val (.int (rI aF)), .val (.int (rI b)), .val (.int (nI y)), .val (.int (bI bl)), s8] [.int (bI (fitsB l la y))] (xS n0 I J pl tr rg fr) (.inl (some (.int (rI b'))), xS n0 I J pl tr rg fr) := by
          intro bl s8 hbl
          refine ev_b 2 rfl ?_
          refine ev_z bl rfl rfl (fun e => zn (fun z => by rw [hbl.mpr z.1] at e; cases e) _ _) (fun e => ?_)
          have hP := hbl.mp e
          refine ev_b 1 rfl ?_
          refine ev_z (fitsB l la y) rfl rfl (fun e2 => zn (fun z => by rw [hcp, e2, Bool.and_false] at z; cases z.2.1) _ _) (fun e2 => ?_)
          refine ev_b 3 rfl ?_
          refine ev_c rfl (hrdy y hyl) ?_
          refine ev_z _ rfl rfl (fun e3 => zn (fun z => by rw [hcp, e3, Bool.false_and] at z; cases z.2.1) _ _) (fun e3 => ?_)
          have hC : cand l R T s (posN l y) = true := by rw [hcp, e2, e3]; rfl
          rcases hb with ⟨b0, hb⟩ | ⟨q, hq, hq0, hq1, hq2, hq3, hq4⟩
          · subst b0
            refine ev_b 1 rfl ?_
            exact ev_if0 (rI 0) rfl rfl (fun _ => zy ⟨hP, hC, Or.inl rfl⟩ _ _) (fun h => absurd h (by decide))
          · subst hq
            have oq := (hok q hq1).2.1
            rw [rI_s] at zn zy ⊢
            refine ev_b 1 rfl ?_
            refine ev_ltn q (by omega) rfl rfl ?_
            refine ev_b 3 rfl ?_
            refine ev_ia 134 y _ p2 rfl rfl rfl hy40 (by omega) ?_
            refine ev_b 3 rfl ?_
            refine ev_ia 134 q _ (h2 q hq1).2.1 rfl rfl rfl (show q < 40 by omega) (by omega) ?_
            refine ev_gt (gs l y).2.1 (gs l q).2.1 rfl rfl (by omega) (by omega) (fun h => zn (fun z => ?_) _ _) (fun h => zy ⟨hP, hC, Or.inr ⟨q, rfl, h⟩⟩ _ _)
            rcases z.2.2 with z | ⟨q', hq', z⟩
            · omega
            · have : q' = q := by omega
              rw [this] at z
              omega
        have k50 : ∀ (bl : Bool) (s7 s8 : Slot), (bl = true ↔ P ≤ posN l y) → pj_Ev L (d + 2) gX4_nextFor 50 [.val (.ref 131), .val (.int (nI T)), .val (.int (rI la)), .val (.int (rI bA)), .val (.int (rI aF)), .val (.int (rI b)), .val (.int (nI y)), s7, s8] [.int (bI bl)] (xS n0 I J pl tr rg fr) (.inl (some (.int (rI b'))), xS n0 I J pl tr rg fr) := by
          intro bl s7 s8 hbl
          have fin := k109 bl s8 hbl
          clear k109 zn zy go ih
          unfold fitsB at fin
          refine ev_b 2 rfl ?_
          cases la with
          | zero =>
            refine ev_if0 (rI 0) rfl rfl (fun _ => ?_) (fun h => absurd h (by decide))
            exact ev_b 2 rfl fin
          | succ q =>
            have hq : q < l.length := by omega
            have hq40 : q < 40 := by omega
            obtain ⟨r1, r2, r3⟩ := hok q hq
            obtain ⟨t1, t2, t3, t4⟩ := h2 q hq
            simp only [Nat.add_sub_cancel] at fin
            rw [rI_s] at fin ⊢
            refine ev_ltn q (by omega) rfl rfl ?_
            refine ev_b 3 rfl ?_
            refine ev_ia 134 y _ p2 rfl rfl rfl hy40 (by omega) ?_
            refine ev_b 3 rfl ?_
            refine ev_ia 135 q _ t3 rfl rfl rfl hq40 (by omega) ?_
            refine ev_gt (gs l y).2.1 (gs l q).2.2.1 rfl rfl (by omega) (by omega) (fun h3 => ?_) (fun h3 => ?_)
            · rw [decide_eq_true h3, Bool.true_or, Bool.or_true] at fin
              exact ev_b 2 rfl fin
            · rw [decide_eq_false (by omega), Bool.false_or] at fin
              refine ev_b 3 rfl ?_
              refine ev_ia 134 y _ p2 rfl rfl rfl hy40 (by omega) ?_
              refine ev_b 3 rfl ?_
              refine ev_ia 135 q _ t3 rfl rfl rfl hq40 (by omega) ?_
              refine ev_ne (gs l y).2.1 (gs l q).2.2.1 rfl rfl (by omega) (by omega) (fun h4 => ?_) (fun h4 => ?_)
              · rw [beq_false_of_ne h4, Bool.false_and] at fin
                exact ev_b 1 rfl fin
              · rw [h4, beq_self_eq_true, Bool.true_and] at fin
                refine ev_b 3 rfl ?_
                refine ev_ia 133 y _ p1 rfl rfl rfl hy40 (by omega) ?_
                refine ev_b 3 rfl ?_
                refine ev_ia 133 q _ t1 rfl rfl rfl hq40 (by omega) ?_
                refine ev_ne (gs l y).1 (gs l q).1 rfl rfl (by omega) (by omega) (fun h5 => ?_) (fun h5 => ?_)
                · rw [beq_false_of_ne h5] at fin
                  exact ev_b 1 rfl fin
                · rw [h5, beq_self_eq_true, Bool.or_true] at fin
                  exact ev_b 2 rfl fin
        rw [rI_s]
        refine ev_b 1 rfl ?_
        refine ev_ltn y (by omega) rfl rfl ?_
        refine ev_b 3 rfl ?_
        refine ev_ia 134 y _ p2 rfl rfl rfl hy40 (by omega) ?_
        refine ev_b 1 rfl ?_
        refine ev_if (nI (gs l y).2.1) (rI bA) rfl rfl (fun h => ?_) (fun h => ?_)
        · have h : rI bA < nI (gs l y).2.1 := of_decide_eq_true h
          rw [← rI_s, rI_lt (by omega) (by omega)] at h
          exact ev_b 2 rfl (k50 true _ _ ⟨fun _ => hL.mp (Or.inl h), fun _ => rfl⟩)
        · have h : ¬ rI bA < nI (gs l y).2.1 := of_decide_eq_false h
          rw [← rI_s, rI_lt (by omega) (by omega)] at h
          refine ev_b 3 rfl ?_
          refine ev_ia 134 y _ p2 rfl rfl rfl hy40 (by omega) ?_
          refine ev_b 1 rfl ?_
          refine ev_if (nI (gs l y).2.1) (rI bA) rfl rfl (fun h3 => ?_) (fun h3 => ?_)
          · have h3 := of_decide_eq_true h3
            rw [← rI_s, rI_eq (by omega) (by omega)] at h3
            exact ev_b 1 rfl (k50 false _ _ ⟨(fun z => by cases z), fun z => by
              rcases hL.mpr z with q | q
              · exact absurd q h
              · exact absurd q.1 h3⟩)
          · have h3 := of_decide_eq_false h3
            rw [Classical.not_not, ← rI_s, rI_eq (by omega) (by omega)] at h3
            refine ev_b 2 rfl ?_
            refine ev_if (nI y) (rI aF) rfl rfl (fun h4 => ?_) (fun h4 => ?_)
            · have h4 : nI y ≤ rI aF := of_decide_eq_true h4
              rw [← rI_s, rI_le (by omega) (by omega)] at h4
              exact ev_b 1 rfl (k50 false _ _ ⟨(fun z => by cases z), fun z => by
                rcases hL.mpr z with q | q
                · exact absurd q h
                · omega⟩)
            · have h4 : ¬ nI y ≤ rI aF := of_decide_eq_false h4
              rw [← rI_s, rI_le (by omega) (by omega)] at h4
              exact ev_b 2 rfl (k50 true _ _ ⟨fun _ => hL.mp (Or.inr ⟨h3, by omega⟩), fun _ => rfl⟩)
      by_cases hyes : P ≤ posN l y ∧ cand l R T s (posN l y) = true ∧ (b = 0 ∨ ∃ q, b = q + 1 ∧ (gs l y).2.1 ≤ (gs l q).2.1)
      · obtain ⟨b', ev, q⟩ := go (y + 1) (Or.inr ⟨rfl, hyes⟩)
        rw [rI_s] at ev
        refine ⟨b', walk (fun h => absurd hyes h) (fun _ s7 s8 => ?_), q⟩
        exact ev_b 2 rfl (ev _ _)
      · obtain ⟨b', ev, q⟩ := go b (Or.inl ⟨rfl, hyes⟩)
        exact ⟨b', walk (fun _ s7 s8 => ev s7 s8) (fun h => absurd h hyes), q⟩
  obtain ⟨b', ev, q⟩ := loop l.length (rI l.length) 0 (Nat.le_refl _) rfl (Or.inl ⟨rfl, fun z h1 h2 => by omega⟩)
  refine ⟨b', ?_, q⟩
  refine ev_b 7 (lv' := [.val (.ref 131), .val (.int (nI T)), .val (.int (rI la)), .val (.int (rI bA)), .val (.int (rI aF)), .val (.int (rI 0)), .val (.int (I 131 2 - nI 1)), .unset, .unset]) rfl ?_
  rw [h1]
  exact ev _ _
end FLM
end
section
/-! the model lays -/
section LYM
variable {L d n0 : Nat} {I : pj_SI} {J : pj_SJ} {pl tr rg fr : Nat} {l : List Sg} {R : Nat → Nat → Bool}
theorem m_fill (h40 : l.length ≤ 40) (hok : ∀ k, k < l.length → (gs l k).1 ≤ 9 ∧ (gs l k).2.1 < 20 ∧ (gs l k).2.2.1 < 20) (hno : ∀ s, s < l.length → inR R l.length s = false) (hS : SM I l) (hJ : JM J l.length R l.length) :
    ∃ I', pj_Ev L (d + 3) gX4_fill 0 [.val (.ref 131), .unset, .unset, .unset, .unset] [] (xS n0 I J pl tr rg fr) (.inl (some (.int (nI (tnN l R)))), xS n0 I' J pl tr rg fr) ∧ Fr T9 I I' ∧ SMf I' l (trk l R (tnN l R)).1 ∧ (trk l R (tnN l R)).2 = l.length ∧ tnN l R ≤ 40 := by
  have hlf : ∀ y, y < l.length → (gs l y).2.1 < 20 := fun y hy => (hok y hy).2.1
  have inner : ∀ (Q0 : pj_SI → Prop) (T cc : Nat) (E : Fs), T ≤ 40 → ∀ m P (s : Fs) (b : Nat) (I : pj_SI), 1280 - P ≤ m → P ≤ 1280 → sc l R T (1280 - P) P s = E → FI l.length T cc s → SMf I l s.1 → nfSpec l R T s P b →
      (∀ I', Fr T9 I I' → SMf I' l E.1 → ∃ I'', (∀ (s3 s4 : Slot), pj_Ev L (d + 3) gX4_fill 84 [.val (.ref 131), .val (.int (nI (cc + E.2.2))), .val (.int (nI T)), s3, s4] [] (xS n0 I' J pl tr rg fr) (.inl (some (.int (nI (tnN l R)))), xS n0 I'' J pl tr rg fr)) ∧ Q0 I'') →
      ∃ I'', (∀ (s3 : Slot), pj_Ev L (d + 3) gX4_fill 47 [.val (.ref 131), .val (.int (nI (cc + s.2.2))), .val (.int (nI T)), s3, .val (.int (rI b))] [] (xS n0 I J pl tr rg fr) (.inl (some (.int (nI (tnN l R)))), xS n0 I'' J pl tr rg fr)) ∧ Q0 I'' := by
    intro Q0 T cc E hT m
    induction m with
    | zero =>
      intro P s b I hm hP hsc hF hS hb hk
      have hP : P = 1280 := by omega
      rw [hP] at hsc
      have hsc : s = E := hsc
      rcases hb with ⟨b0, hb⟩ | ⟨q, hq, hq1, hq2, hq3, hq4⟩
      · subst hsc
        obtain ⟨I'', ev, q⟩ := hk I Fr.rfl' hS
        refine ⟨I'', fun s3 => ?_, q⟩
        rw [b0]
        refine ev_b 1 rfl ?_
        exact ev_if0 (rI 0) rfl rfl (fun _ => ev _ _) (fun h => absurd h (by decide))
      · have := hlf q hq1
        unfold posN at hq2
        omega
    | succ m ih =>
      intro P s b I hm hP hsc hF hS hb hk
      rcases hb with ⟨b0, hb⟩ | ⟨q, hq, hq1, hq2, hq3, hq4⟩
      · rw [sc_none (fun Q h1 h2 => hb Q h1)] at hsc
        subst hsc
        obtain ⟨I'', ev, q⟩ := hk I Fr.rfl' hS
        refine ⟨I'', fun s3 => ?_, q⟩
        rw [b0]
        refine ev_b 1 rfl ?_
        exact ev_if0 (rI 0) rfl rfl (fun _ => ev _ _) (fun h => absurd h (by decide))
      · have hlq := hlf q hq1
        have hq40 : q < 40 := by omega
        have hQ : posN l q < 1280 := by unfold posN; omega
        have hmod : posN l q % 64 = q := by unfold posN; omega
        rw [sc_first (Q := posN l q) hq2 (by omega) hq4 hq3, hmod, show P + (1280 - P) - posN l q - 1 = 1280 - (posN l q + 1) by omega] at hsc
        have hF2 : FI l.length T cc (plc T s q) := by
          have := FI_stp (R := R) (P := posN l q) hF
          unfold stp at this
          rw [hq3, hmod] at this
          exact this
        have fr1 : Fr T9 I (pj_u2 I 139 q (rI (T + 1))) := Fr.u rfl
        have hS2 : SMf (pj_u2 I 139 q (rI (T + 1))) l (plc T s q).1 := hS.set
        obtain ⟨b', evn, hb'⟩ := m_nextFor (L := L) (d := d) (n0 := n0) (pl := pl) (tr := tr) (rg := rg) (fr := fr) (T := T) (s := plc T s q) (bA := (gs l q).2.1 + 1) (aF := q + 1) (P := posN l q + 1) h40 hT hok hS2 hJ hF2 (by omega) (by omega) (fun y hy => by unfold posN; omega)
        obtain ⟨I'', ev, qq⟩ := ih (posN l q + 1) (plc T s q) b' (pj_u2 I 139 q (rI (T + 1))) (by omega) (by omega) hsc hF2 hS2 hb' (fun I' f1 f2 => hk I' (Fr.tr fr1 f1) f2)
        refine ⟨I'', fun s3 => ?_, qq⟩
        rw [show (plc T s q).2.2 = s.2.2 + 1 by rfl, ← Nat.add_assoc, nI_succ (cc + s.2.2)] at ev
        rw [show (plc T s q).2.1 = q + 1 by rfl, rI_s, rI_s] at evn
        rw [rI_s] at ev evn hS2
        rw [hq, rI_s]
        refine ev_b 1 rfl ?_
        refine ev_ltn q (by omega) rfl rfl ?_
        refine ev_b 4 rfl ?_
        refine ev_is 139 q (nI T) rfl rfl (by decide) rfl hq40 (by omega) ?_
        refine ev_b 9 rfl ?_
        refine ev_ia 134 q _ ((u2n _ _ (by decide)).trans (hS.1.2 q hq1).2.1) rfl rfl rfl hq40 (by omega) ?_
        refine ev_b 1 rfl ?_
        refine ev_c rfl evn ?_
        exact ev_b 2 rfl (ev _)
  have outer : ∀ m T (I : pj_SI), l.length - (trk l R T).2 ≤ m → (∀ t, t < T → (trk l R t).2 ≠ l.length) → SMf I l (trk l R T).1 →
      ∃ I', (∀ (s3 s4 : Slot), pj_Ev L (d + 3) gX4_fill 27 [.val (.ref 131), .val (.int (nI (trk l R T).2)), .val (.int (nI T)), s3, s4] [] (xS n0 I J pl tr rg fr) (.inl (some (.int (nI (tnN l R)))), xS n0 I' J pl tr rg fr)) ∧ (Fr T9 I I' ∧ SMf I' l (trk l R (tnN l R)).1 ∧ (trk l R (tnN l R)).2 = l.length ∧ tnN l R ≤ 40) := by
    intro m
    induction m with
    | zero =>
      intro T I hm hne hS
      have hle := trk_le (l := l) (R := R) T
      have he : (trk l R T).2 = l.length := by omega
      obtain ⟨e1, e2⟩ := tnN_of hno h40 hlf he hne
      rw [e1]
      refine ⟨I, fun s3 s4 => ?_, Fr.rfl', hS, he, e2⟩
      refine ev_b 3 rfl ?_
      show pj_Ev L (d + 3) gX4_fill 32 _ [.int (I 131 2), .int (nI (trk l R T).2)] _ _
      rw [hS.1.1, he]
      refine ev_ge l.length l.length rfl rfl (by omega) (by omega) (fun _ => ?_) (fun h => by omega)
      refine ev_b 1 rfl ?_
      exact ev_ret rfl rfl rfl
    | succ m ih =>
      intro T I hm hne hS
      have hle := trk_le (l := l) (R := R) T
      by_cases he : (trk l R T).2 = l.length
      · obtain ⟨e1, e2⟩ := tnN_of hno h40 hlf he hne
        rw [e1]
        refine ⟨I, fun s3 s4 => ?_, Fr.rfl', hS, he, e2⟩
        refine ev_b 3 rfl ?_
        show pj_Ev L (d + 3) gX4_fill 32 _ [.int (I 131 2), .int (nI (trk l R T).2)] _ _
        rw [hS.1.1, he]
        refine ev_ge l.length l.length rfl rfl (by omega) (by omega) (fun _ => ?_) (fun h => by omega)
        refine ev_b 1 rfl ?_
        exact ev_ret rfl rfl rfl
      · have hup := trk_up hno h40 hlf (T := T) (by omega)
        have hge := trk_ge hno h40 hlf T hne
        have hT : T ≤ 40 := by omega
        obtain ⟨i1, i2⟩ := trk_inv (l := l) (R := R) T
        have fi0 : FI l.length T (trk l R T).2 ((trk l R T).1, 0, 0) := ⟨fun x hx => Nat.le_succ_of_le (i1 x hx), i2, Nat.zero_le _⟩
        obtain ⟨b, evn, hb⟩ := m_nextFor (L := L) (d := d) (n0 := n0) (pl := pl) (tr := tr) (rg := rg) (fr := fr) (T := T) (s := ((trk l R T).1, 0, 0)) (bA := 0) (aF := 0) (P := 0) h40 hT hok hS hJ fi0 (by omega) (by omega) (fun y hy => ⟨fun _ => Nat.zero_le _, fun _ => Or.inl (Nat.succ_pos _)⟩)
        obtain ⟨I'', ev, qq⟩ := inner (fun I'' => Fr T9 I I'' ∧ SMf I'' l (trk l R (tnN l R)).1 ∧ (trk l R (tnN l R)).2 = l.length ∧ tnN l R ≤ 40) T (trk l R T).2 (scF l R T (trk l R T).1) hT 1280 0 ((trk l R T).1, 0, 0) b I (by omega) (by omega) (scF_eq _).symm fi0 hS hb (fun I' f1 f2 => by
          rw [← trk_1] at f2
          obtain ⟨I'', ev, g1, g2⟩ := ih (T + 1) I' (by omega) (fun t ht => by
            by_cases e : t = T
            · rw [e]; exact he
            · exact hne t (by omega)) f2
          refine ⟨I'', fun s3 s4 => ?_, Fr.tr f1 g1, g2⟩
          rw [← trk_2]
          rw [nI_succ T] at ev
          exact ev_b 2 rfl (ev _ _))
        refine ⟨I'', fun s3 s4 => ?_, qq⟩
        refine ev_b 3 rfl ?_
        show pj_Ev L (d + 3) gX4_fill 32 _ [.int (I 131 2), .int (nI (trk l R T).2)] _ _
        rw [hS.1.1]
        refine ev_ge (trk l R T).2 l.length rfl rfl (by omega) (by omega) (fun h => by omega) (fun _ => ?_)
        refine ev_b 7 rfl ?_
        refine ev_c rfl evn ?_
        exact ev_b 1 rfl (ev _)
  have first : ∀ m k (w : Int32) (I : pj_SI), k + m = l.length → w = nI k → SM I l → (∀ j, j < k → I 139 j = rI 0) →
      ∃ I', pj_Ev L (d + 3) gX4_fill 6 [.val (.ref 131), .val (.int (nI 0)), .val (.int (nI 0)), .val (.int w), .unset] [] (xS n0 I J pl tr rg fr) (.inl (some (.int (nI (tnN l R)))), xS n0 I' J pl tr rg fr) ∧ (Fr T9 I I' ∧ SMf I' l (trk l R (tnN l R)).1 ∧ (trk l R (tnN l R)).2 = l.length ∧ tnN l R ≤ 40) := by
    intro m
    induction m with
    | zero =>
      intro k w I hk hw hS h9
      have hk : k = l.length := by omega
      subst hw
      obtain ⟨I', ev, q⟩ := outer l.length 0 I (Nat.sub_le _ _) (fun t ht => by omega) ⟨hS, fun j hj => h9 j (by omega)⟩
      refine ⟨I', ?_, q⟩
      refine ev_b 3 rfl ?_
      show pj_Ev L (d + 3) gX4_fill 11 _ [.int (I 131 2), .int (nI k)] _ _
      rw [hS.1]
      exact ev_ge k l.length rfl rfl (by omega) (by omega) (fun _ => ev _ _) (fun h => by omega)
    | succ m ih =>
      intro k w I hk hw hS h9
      subst hw
      have hk40 : k < 40 := by omega
      have hS2 : SM (pj_u2 I 139 k (rI 0)) l := ⟨by rw [u2n _ _ (by decide)]; exact hS.1, fun j hj => by
        rw [u2n _ _ (by decide), u2n _ _ (by decide), u2n _ _ (by decide), u2n _ _ (by decide)]; exact hS.2 j hj⟩
      obtain ⟨I', ev, q1, q2⟩ := ih (k + 1) (nI (k + 1)) (pj_u2 I 139 k (rI 0)) (by omega) rfl hS2 (fun j hj => by
        by_cases e : j = k
        · rw [e, pj_u2_self]
        · rw [u2k _ _ e]; exact h9 j (by omega))
      refine ⟨I', ?_, Fr.tr (Fr.u rfl) q1, q2⟩
      rw [nI_succ k] at ev
      refine ev_b 3 rfl ?_
      show pj_Ev L (d + 3) gX4_fill 11 _ [.int (I 131 2), .int (nI k)] _ _
      rw [hS.1]
      refine ev_ge k l.length rfl rfl (by omega) (by omega) (fun h => by omega) (fun _ => ?_)
      refine ev_b 4 rfl ?_
      refine ev_is 139 k (rI 0) rfl rfl (by decide) rfl hk40 (by omega) ?_
      exact ev_b 2 rfl ev
  obtain ⟨I', ev, q⟩ := first l.length 0 (nI 0) I (by omega) rfl hS (fun j hj => by omega)
  exact ⟨I', ev_b 6 rfl ev, q⟩
def TL : Nat → Nat → Prop := fun o k => o = 139 ∨ (141 ≤ o ∧ o ≤ 145) ∨ (o = 131 ∧ (k = 11 ∨ k = 12 ∨ k = 13 ∨ k = 21))
def cpI (I : pj_SI) (k : Nat) (a b c e g : Int32) : pj_SI := pj_u2 (pj_u2 (pj_u2 (pj_u2 (pj_u2 I 141 k a) 142 k b) 143 k c) 144 k e) 145 k g
theorem m_layNow (h40 : l.length ≤ 40) (hok : ∀ k, k < l.length → (1 ≤ (gs l k).1 ∧ (gs l k).1 ≤ 9) ∧ (gs l k).2.1 < 20 ∧ (gs l k).2.2.1 < 20) (hno : ∀ s, s < l.length → inR R l.length s = false) (hS : SM I l) (hJ : JM J l.length R l.length) :
    ∃ I', pj_Ev L (d + 4) gX4_layNow 0 [.val (.ref 131), .unset] [] (xS n0 I J pl tr rg fr) (.inl (some (.int (nI (tnN l R)))), xS n0 I' J pl tr rg fr) ∧ Fr TL I I' ∧ LM I' l.length (tnN l R) (fun k => (gs l k).1) (fun k => (gs l k).2.1) (fun k => (gs l k).2.2.1) (fun k => (trk l R (tnN l R)).1 k - 1) (fun k c => bt (gs l k).2.2.2 c) ∧ I' 131 11 = 1 ∧ I' 131 21 = I 131 21 + 1 := by
  obtain ⟨I1, ev1, f1, f2, f3, f4⟩ := m_fill (L := L) (d := d) (n0 := n0) (pl := pl) (tr := tr) (rg := rg) (fr := fr) h40 (fun k hk => ⟨(hok k hk).1.2, (hok k hk).2⟩) hno hS hJ
  have hall := trk_all (l := l) (R := R) f3
  have hle := (trk_inv (l := l) (R := R) (tnN l R)).1
  have h21 : I1 131 21 = I 131 21 := f1 131 21 (fun z => by unfold T9 at z; omega)
  generalize tnN l R = tn at *
  generalize (trk l R tn).1 = f at *
  have loop : ∀ m k (w : Int32) (I2 : pj_SI), k + m = l.length → w = nI k → SMf I2 l f → I2 131 11 = 1 → I2 131 12 = nI l.length → I2 131 13 = nI tn → I2 131 21 = I 131 21 → (∀ j, j < k → I2 141 j = nI (gs l j).1 ∧ I2 142 j = nI (gs l j).2.1 ∧ I2 143 j = nI (gs l j).2.2.1 ∧ I2 145 j = rI (f j) ∧ I2 144 j = (gs l j).2.2.2) →
      ∃ I', pj_Ev L (d + 4) gX4_layNow 23 [.val (.ref 131), .val (.int w)] [] (xS n0 I2 J pl tr rg fr) (.inl (some (.int (nI tn))), xS n0 I' J pl tr rg fr) ∧ Fr TL I2 I' ∧ LM I' l.length tn (fun k => (gs l k).1) (fun k => (gs l k).2.1) (fun k => (gs l k).2.2.1) (fun k => f k - 1) (fun k c => bt (gs l k).2.2.2 c) ∧ I' 131 11 = 1 ∧ I' 131 21 = I 131 21 + 1 := by
    intro m
    induction m with
    | zero =>
      intro k w I2 hk hw hS h11 h12 h13 h21 hcp
      have hk : k = l.length := by omega
      subst hw
      have e21 : I2 131 21 + nI 1 = I 131 21 + 1 := by rw [h21]; rfl
      refine ⟨pj_u2 I2 131 21 (I2 131 21 + nI 1), ?_, Fr.u (Or.inr (Or.inr ⟨rfl, Or.inr (Or.inr (Or.inr rfl))⟩)), ?_, ?_, ?_⟩
      · refine ev_b 3 rfl ?_
        show pj_Ev L (d + 4) gX4_layNow 28 _ [.int (I2 131 2), .int (nI k)] _ _
        rw [hS.1.1]
        refine ev_ge k l.length rfl rfl (by omega) (by omega) (fun _ => ?_) (fun h => by omega)
        refine ev_b 8 (σ' := xS n0 (pj_u2 I2 131 21 (I2 131 21 + nI 1)) J pl tr rg fr) rfl ?_
        rw [← h13]
        exact ev_ret rfl rfl rfl
      · refine ⟨by rw [u2k _ _ (by decide)]; exact h12, by rw [u2k _ _ (by decide)]; exact h13, ⟨h40, f4⟩, fun j hj => ?_, fun j hj => ?_⟩
        · obtain ⟨c1, c2, c3, c4, c5⟩ := hcp j (by omega)
          have hj0 := hall j hj
          rw [u2n _ _ (by decide), u2n _ _ (by decide), u2n _ _ (by decide), u2n _ _ (by decide), u2n _ _ (by decide)]
          refine ⟨c1, c2, c3, ?_, fun c hc => by rw [c5]⟩
          rw [c4]
          show rI (f j) = nI (f j - 1)
          obtain ⟨r, hr⟩ : ∃ r, f j = r + 1 := ⟨f j - 1, by omega⟩
          rw [hr, rI_s]
          rfl
        · obtain ⟨o1, o2, o3⟩ := hok j hj
          refine ⟨o1, o2, o3, ?_⟩
          have hj0 := hall j hj
          have := hle j hj
          show f j - 1 < tn
          omega
      · rw [u2k _ _ (by decide)]; exact h11
      · rw [pj_u2_self]; exact e21
    | succ m ih =>
      intro k w I2 hk hw hS h11 h12 h13 h21 hcp
      subst hw
      have hkl : k < l.length := by omega
      have hk40 : k < 40 := by omega
      obtain ⟨⟨s1, s2⟩, s3⟩ := id hS
      obtain ⟨p1, p2, p3, p4⟩ := s2 k hkl
      have hne : ∀ o j, o < 141 → cpI I2 k (nI (gs l k).1) (nI (gs l k).2.1) (nI (gs l k).2.2.1) (gs l k).2.2.2 (rI (f k)) o j = I2 o j := fun o j ho => by
        unfold cpI
        rw [u2n _ _ (by omega), u2n _ _ (by omega), u2n _ _ (by omega), u2n _ _ (by omega), u2n _ _ (by omega)]
      have hfr : Fr TL I2 (cpI I2 k (nI (gs l k).1) (nI (gs l k).2.1) (nI (gs l k).2.2.1) (gs l k).2.2.2 (rI (f k))) := fun o j z => by
        unfold cpI
        have hz : ¬ (141 ≤ o ∧ o ≤ 145) := fun q => z (Or.inr (Or.inl q))
        rw [u2n _ _ (by omega), u2n _ _ (by omega), u2n _ _ (by omega), u2n _ _ (by omega), u2n _ _ (by omega)]
      obtain ⟨I', ev, q1, q2⟩ := ih (k + 1) (nI (k + 1)) (cpI I2 k (nI (gs l k).1) (nI (gs l k).2.1) (nI (gs l k).2.2.1) (gs l k).2.2.2 (rI (f k))) (by omega) rfl
        ⟨⟨by rw [hne _ _ (by decide)]; exact s1, fun j hj => by rw [hne _ _ (by decide), hne _ _ (by decide), hne _ _ (by decide), hne _ _ (by decide)]; exact s2 j hj⟩, fun j hj => by rw [hne _ _ (by decide)]; exact s3 j hj⟩
        (by rw [hne _ _ (by decide)]; exact h11) (by rw [hne _ _ (by decide)]; exact h12) (by rw [hne _ _ (by decide)]; exact h13) (by rw [hne _ _ (by decide)]; exact h21) (fun j hj => by
          unfold cpI
          by_cases e : j = k
          · rw [e]
            refine ⟨?_, ?_, ?_, ?_, ?_⟩
            · rw [u2n _ _ (by decide), u2n _ _ (by decide), u2n _ _ (by decide), u2n _ _ (by decide), pj_u2_self]
            · rw [u2n _ _ (by decide), u2n _ _ (by decide), u2n _ _ (by decide), pj_u2_self]
            · rw [u2n _ _ (by decide), u2n _ _ (by decide), pj_u2_self]
            · rw [pj_u2_self]
            · rw [u2n _ _ (by decide), pj_u2_self]
          · obtain ⟨c1, c2, c3, c4, c5⟩ := hcp j (by omega)
            refine ⟨?_, ?_, ?_, ?_, ?_⟩ <;> (rw [u2k _ _ e, u2k _ _ e, u2k _ _ e, u2k _ _ e, u2k _ _ e]; assumption))
      refine ⟨I', ?_, Fr.tr hfr q1, q2⟩
      rw [nI_succ k] at ev
      refine ev_b 3 rfl ?_
      show pj_Ev L (d + 4) gX4_layNow 28 _ [.int (I2 131 2), .int (nI k)] _ _
      rw [s1]
      refine ev_ge k l.length rfl rfl (by omega) (by omega) (fun h => by omega) (fun _ => ?_)
      refine ev_b 6 rfl ?_
      refine ev_ia 133 k _ p1 rfl rfl rfl hk40 (by omega) ?_
      refine ev_is 141 k _ rfl rfl (by decide) rfl hk40 (by omega) ?_
      refine ev_b 6 rfl ?_
      refine ev_ia 134 k _ ((u2n _ _ (by decide)).trans p2) rfl rfl rfl hk40 (by omega) ?_
      refine ev_is 142 k _ rfl rfl (by decide) rfl hk40 (by omega) ?_
      refine ev_b 6 rfl ?_
      refine ev_ia 135 k _ ((u2n _ _ (by decide)).trans ((u2n _ _ (by decide)).trans p3)) rfl rfl rfl hk40 (by omega) ?_
      refine ev_is 143 k _ rfl rfl (by decide) rfl hk40 (by omega) ?_
      refine ev_b 6 rfl ?_
      refine ev_ia 136 k _ ((u2n _ _ (by decide)).trans ((u2n _ _ (by decide)).trans ((u2n _ _ (by decide)).trans p4))) rfl rfl rfl hk40 (by omega) ?_
      refine ev_is 144 k _ rfl rfl (by decide) rfl hk40 (by omega) ?_
      refine ev_b 6 rfl ?_
      refine ev_ia 139 k _ ((u2n _ _ (by decide)).trans ((u2n _ _ (by decide)).trans ((u2n _ _ (by decide)).trans ((u2n _ _ (by decide)).trans (s3 k hkl))))) rfl rfl rfl hk40 (by omega) ?_
      refine ev_is 145 k _ rfl rfl (by decide) rfl hk40 (by omega) ?_
      exact ev_b 2 rfl ev
  have e2 : (pj_u2 (pj_u2 I1 131 13 (nI tn)) 131 11 1) 131 2 = nI l.length := by rw [u2k _ _ (by decide), u2k _ _ (by decide)]; exact f2.1.1
  have hne : ∀ o j, o ≠ 131 ∨ j = 2 ∨ j = 21 → (pj_u2 (pj_u2 (pj_u2 I1 131 13 (nI tn)) 131 11 1) 131 12 (nI l.length)) o j = I1 o j := fun o j ho => by
    rw [pj_u2_ne _ _ (by omega), pj_u2_ne _ _ (by omega), pj_u2_ne _ _ (by omega)]
  obtain ⟨I', ev, q1, q2⟩ := loop l.length 0 (nI 0) (pj_u2 (pj_u2 (pj_u2 I1 131 13 (nI tn)) 131 11 1) 131 12 (nI l.length)) (by omega) rfl
    ⟨⟨by rw [hne _ _ (by decide)]; exact f2.1.1, fun j hj => by rw [hne _ _ (by omega), hne _ _ (by omega), hne _ _ (by omega), hne _ _ (by omega)]; exact f2.1.2 j hj⟩, fun j hj => by rw [hne _ _ (by omega)]; exact f2.2 j hj⟩
    (by rw [u2k _ _ (by decide), pj_u2_self]) (pj_u2_self _ _ _ _) (by rw [u2k _ _ (by decide), u2k _ _ (by decide), pj_u2_self]) (by rw [hne _ _ (by decide)]; exact h21) (fun j hj => by omega)
  refine ⟨I', ?_, Fr.tr (f1.mono fun o k z => Or.inl z) (Fr.tr (Fr.tr (Fr.tr (Fr.u (Or.inr (Or.inr ⟨rfl, Or.inr (Or.inr (Or.inl rfl))⟩))) (Fr.u (Or.inr (Or.inr ⟨rfl, Or.inl rfl⟩)))) (Fr.u (Or.inr (Or.inr ⟨rfl, Or.inr (Or.inl rfl)⟩)))) q1), q2⟩
  refine ev_b 2 rfl ?_
  refine ev_c rfl ev1 ?_
  rw [← e2] at ev
  exact ev_b 10 (σ' := xS n0 (pj_u2 (pj_u2 (pj_u2 I1 131 13 (nI tn)) 131 11 1) 131 12 ((pj_u2 (pj_u2 I1 131 13 (nI tn)) 131 11 1) 131 2)) J pl tr rg fr) rfl ev
end LYM
end
section
/-! the router draws -/
def TG : Nat → Nat → Prop := fun o _ => 91 ≤ o ∧ o ≤ 130
theorem lev_s (nt lf rt tk : Nat → Nat) (t c m : Nat) : lev nt lf rt tk t c (m + 1) = if tk m = t ∧ lf m ≤ c ∧ c ≤ rt m then nt m else lev nt lf rt tk t c m := rfl
/-- what a laid plan holds, the grid apart -/
def LY (pl : Nat) (I : pj_SI) (mn tn : Nat) (nt lf rt tk : Nat → Nat) : Prop :=
  I pl 1 = nI mn ∧ I pl 2 = nI tn ∧ (mn ≤ 40 ∧ tn ≤ 40) ∧ (∀ k, k < mn → I (pl + 2 + k) 0 = nI (nt k) ∧ I (pl + 2 + k) 1 = nI (lf k) ∧ I (pl + 2 + k) 2 = nI (rt k) ∧ I (pl + 2 + k) 3 = nI (tk k)) ∧
    (∀ k, k < mn → (1 ≤ nt k ∧ nt k ≤ 9) ∧ lf k < 20 ∧ rt k < 20 ∧ tk k < tn)
section DRW
variable {L d n0 : Nat} {I : pj_SI} {J : pj_SJ} {pl tr rg fr : Nat} {mn tn : Nat} {nt lf rt tk : Nat → Nat}
theorem LY_fr {I' : pj_SI} (hpl : isP pl) (h : LY pl I mn tn nt lf rt tk) (hf : Fr TG I I') : LY pl I' mn tn nt lf rt tk := by
  obtain ⟨h1, h2, h3, h4, h5⟩ := h
  have q : ∀ o k, o < 88 → I' o k = I o k := fun o k ho => hf o k (fun z => by unfold TG at z; omega)
  have hp : pl ≤ 46 := by rcases hpl with rfl | rfl <;> decide
  refine ⟨by rw [q _ _ (by omega)]; exact h1, by rw [q _ _ (by omega)]; exact h2, h3, fun k hk => ?_, h5⟩
  rw [q _ _ (by omega), q _ _ (by omega), q _ _ (by omega), q _ _ (by omega)]
  exact h4 k hk
theorem c_draw (hpl : isP pl) (hY : LY pl I mn tn nt lf rt tk) :
    ∃ I', pj_Ev L d gX1_draw 0 [.val (.ref 1), .unset, .unset, .unset] [] (xS n0 I J pl tr rg fr) (.inl none, xS n0 I' J pl tr rg fr) ∧ Fr TG I I' ∧ ∀ t, t < tn → ∀ c, c < 20 → I' (91 + t) c = nI (lev nt lf rt tk t c mn) := by
  have segs : ∀ m k (w : Int32) (I : pj_SI), k + m = mn → w = nI k → LY pl I mn tn nt lf rt tk → (∀ t, t < tn → ∀ c, c < 20 → I (91 + t) c = nI (lev nt lf rt tk t c k)) →
      ∃ I', (∀ (s2 s3 : Slot), pj_Ev L d gX1_draw 44 [.val (.ref 1), .val (.int w), s2, s3] [] (xS n0 I J pl tr rg fr) (.inl none, xS n0 I' J pl tr rg fr)) ∧ Fr TG I I' ∧ ∀ t, t < tn → ∀ c, c < 20 → I' (91 + t) c = nI (lev nt lf rt tk t c mn) := by
    intro m
    induction m with
    | zero =>
      intro k w I hk hw hY hG
      have hk : k = mn := by omega
      subst hw
      refine ⟨I, fun s2 s3 => ?_, Fr.rfl', by rw [hk] at hG; exact hG⟩
      refine ev_b 3 rfl ?_
      refine ev_gp 1 _ hpl hY.1 (Or.inl rfl) rfl rfl ?_
      have := hY.2.2.1.1
      refine ev_ge k mn rfl rfl (by omega) (by omega) (fun _ => ?_) (fun h => by omega)
      exact ev_ret rfl rfl rfl
    | succ m ih =>
      intro k w I hk hw hY hG
      subst hw
      obtain ⟨h1, h2, ⟨h3, h40⟩, h4, h5⟩ := id hY
      have hkm : k < mn := by omega
      have hk40 : k < 40 := by omega
      obtain ⟨⟨b1, b2⟩, b3, b4, b5⟩ := h5 k hkm
      have cols : ∀ m2 c (w : Int32) (I : pj_SI), c + m2 = max (rt k + 1) (lf k) → lf k ≤ c → w = nI c → LY pl I mn tn nt lf rt tk → (∀ t, t < tn → ∀ x, x < 20 → I (91 + t) x = nI (if tk k = t ∧ lf k ≤ x ∧ x ≤ rt k ∧ x < c then nt k else lev nt lf rt tk t x k)) →
          ∃ I', (pj_Ev L d gX1_draw 70 [.val (.ref 1), .val (.int (nI k)), .val (.ref (pl + 2 + k)), .val (.int w)] [] (xS n0 I J pl tr rg fr) (.inl none, xS n0 I' J pl tr rg fr)) ∧ Fr TG I I' ∧ ∀ t, t < tn → ∀ c, c < 20 → I' (91 + t) c = nI (lev nt lf rt tk t c mn) := by
        intro m2
        induction m2 with
        | zero =>
          intro c w I hc hlc hw hY hG
          subst hw
          have hgt : rt k < c := by omega
          obtain ⟨I', ev, q1, q2⟩ := ih (k + 1) (nI (k + 1)) I (by omega) rfl hY (fun t ht x hx => by
            rw [hG t ht x hx, lev_s]
            by_cases e : tk k = t ∧ lf k ≤ x ∧ x ≤ rt k
            · rw [if_pos ⟨e.1, e.2.1, e.2.2, by omega⟩, if_pos e]
            · rw [if_neg (fun z => e ⟨z.1, z.2.1, z.2.2.1⟩), if_neg e])
          refine ⟨I', ?_, q1, q2⟩
          rw [nI_succ k] at ev
          refine ev_b 2 rfl ?_
          refine ev_gs 2 _ hpl hk40 (hY.2.2.2.1 k hkm).2.2.1 (by decide) rfl rfl ?_
          refine ev_gt c (rt k) rfl rfl (by omega) (by omega) (fun _ => ?_) (fun h => by omega)
          exact ev_b 2 rfl (ev _ _)
        | succ m2 ih2 =>
          intro c w I hc hlc hw hY hG
          subst hw
          have hle : c ≤ rt k := by omega
          obtain ⟨g1, g2, g3, g4⟩ := hY.2.2.2.1 k hkm
          have ht40 : tk k < 40 := by omega
          have hfr : Fr TG I (pj_u2 I (91 + tk k) c (nI (nt k))) := Fr.u ⟨by omega, by omega⟩
          obtain ⟨I', ev, q1, q2⟩ := ih2 (c + 1) (nI (c + 1)) (pj_u2 I (91 + tk k) c (nI (nt k))) (by omega) (by omega) rfl (LY_fr hpl hY hfr) (fun t ht x hx => by
            by_cases e : t = tk k
            · rw [e]
              by_cases e2 : x = c
              · rw [e2, pj_u2_self, if_pos ⟨rfl, hlc, hle, by omega⟩]
              · rw [u2k _ _ e2, hG (tk k) b5 x hx]
                by_cases z : tk k = tk k ∧ lf k ≤ x ∧ x ≤ rt k ∧ x < c
                · rw [if_pos z, if_pos ⟨rfl, z.2.1, z.2.2.1, by omega⟩]
                · rw [if_neg z, if_neg (fun q => z ⟨rfl, q.2.1, q.2.2.1, by omega⟩)]
            · rw [u2n _ _ (by omega), hG t ht x hx, if_neg (fun z => e z.1.symm), if_neg (fun z => e z.1.symm)])
          refine ⟨I', ?_, Fr.tr hfr q1, q2⟩
          rw [nI_succ c] at ev
          refine ev_b 2 rfl ?_
          refine ev_gs 2 _ hpl hk40 g3 (by decide) rfl rfl ?_
          refine ev_gt c (rt k) rfl rfl (by omega) (by omega) (fun h => by omega) (fun _ => ?_)
          refine ev_b 3 rfl ?_
          refine ev_gs 3 _ hpl hk40 g4 (by decide) rfl rfl ?_
          refine ev_row ht40 rfl ?_
          refine ev_b 2 rfl ?_
          refine ev_gs 0 _ hpl hk40 g1 (by decide) rfl rfl ?_
          refine ev_is (91 + tk k) c (nI (nt k)) rfl (row_kd ht40) (by omega) (row_al ht40) (by rw [row_ln ht40]; omega) (by omega) ?_
          exact ev_b 2 rfl ev
      obtain ⟨I', ev, q⟩ := cols (max (rt k + 1) (lf k) - lf k) (lf k) (nI (lf k)) I (by omega) (Nat.le_refl _) rfl hY (fun t ht x hx => by
        rw [hG t ht x hx, if_neg (fun z => by omega)])
      refine ⟨I', fun s2 s3 => ?_, q⟩
      refine ev_b 3 rfl ?_
      refine ev_gp 1 _ hpl h1 (Or.inl rfl) rfl rfl ?_
      refine ev_ge k mn rfl rfl (by omega) (by omega) (fun h => by omega) (fun _ => ?_)
      refine ev_b 2 rfl ?_
      refine ev_ga hpl rfl rfl ?_
      refine ev_b 1 rfl ?_
      refine ev_as hpl hk40 rfl ?_
      refine ev_b 2 rfl ?_
      refine ev_gs 1 _ hpl hk40 (h4 k hkm).2.1 (by decide) rfl rfl ?_
      exact ev_b 1 rfl ev
  have rows : ∀ m t (w : Int32) (I : pj_SI), t + m = tn → w = nI t → LY pl I mn tn nt lf rt tk → (∀ t', t' < t → ∀ c, c < 20 → I (91 + t') c = nI 0) →
      ∃ I', (∀ (s2 : Slot), pj_Ev L d gX1_draw 2 [.val (.ref 1), .val (.int w), s2, .unset] [] (xS n0 I J pl tr rg fr) (.inl none, xS n0 I' J pl tr rg fr)) ∧ Fr TG I I' ∧ ∀ t, t < tn → ∀ c, c < 20 → I' (91 + t) c = nI (lev nt lf rt tk t c mn) := by
    intro m
    induction m with
    | zero =>
      intro t w I ht hw hY hG
      have ht : t = tn := by omega
      subst hw
      have := hY.2.2.1.2
      obtain ⟨I', ev, q⟩ := segs mn 0 (nI 0) I (by omega) rfl hY (fun t' ht' c hc => hG t' (by omega) c hc)
      refine ⟨I', fun s2 => ?_, q⟩
      refine ev_b 3 rfl ?_
      refine ev_gp 2 _ hpl hY.2.1 (Or.inr rfl) rfl rfl ?_
      refine ev_ge t tn rfl rfl (by omega) (by omega) (fun _ => ?_) (fun h => by omega)
      exact ev_b 2 rfl (ev _ _)
    | succ m ih =>
      intro t w I ht hw hY hG
      subst hw
      have h40 := hY.2.2.1.2
      have ht40 : t < 40 := by omega
      have cols : ∀ m2 c (w : Int32) (I : pj_SI), c + m2 = 20 → w = nI c → LY pl I mn tn nt lf rt tk → (∀ t', t' < t → ∀ c, c < 20 → I (91 + t') c = nI 0) → (∀ x, x < c → I (91 + t) x = nI 0) →
          ∃ I', (pj_Ev L d gX1_draw 15 [.val (.ref 1), .val (.int (nI t)), .val (.int w), .unset] [] (xS n0 I J pl tr rg fr) (.inl none, xS n0 I' J pl tr rg fr)) ∧ Fr TG I I' ∧ ∀ t, t < tn → ∀ c, c < 20 → I' (91 + t) c = nI (lev nt lf rt tk t c mn) := by
        intro m2
        induction m2 with
        | zero =>
          intro c w I hc hw hY hG hc0
          have hc : c = 20 := by omega
          subst hw
          obtain ⟨I', ev, q⟩ := ih (t + 1) (nI (t + 1)) I (by omega) rfl hY (fun t' ht' x hx => by
            by_cases e : t' = t
            · rw [e]; exact hc0 x (by omega)
            · exact hG t' (by omega) x hx)
          refine ⟨I', ?_, q⟩
          rw [nI_succ t] at ev
          refine ev_b 2 rfl ?_
          refine ev_ge c 20 rfl rfl (by omega) (by omega) (fun _ => ?_) (fun h => by omega)
          exact ev_b 2 rfl (ev _)
        | succ m2 ih2 =>
          intro c w I hc hw hY hG hc0
          subst hw
          have hfr : Fr TG I (pj_u2 I (91 + t) c (nI 0)) := Fr.u ⟨by omega, by omega⟩
          obtain ⟨I', ev, q1, q2⟩ := ih2 (c + 1) (nI (c + 1)) (pj_u2 I (91 + t) c (nI 0)) (by omega) rfl (LY_fr hpl hY hfr) (fun t' ht' x hx => by rw [u2n _ _ (by omega)]; exact hG t' ht' x hx) (fun x hx => by
            by_cases e : x = c
            · rw [e, pj_u2_self]
            · rw [u2k _ _ e]; exact hc0 x (by omega))
          refine ⟨I', ?_, Fr.tr hfr q1, q2⟩
          rw [nI_succ c] at ev
          refine ev_b 2 rfl ?_
          refine ev_ge c 20 rfl rfl (by omega) (by omega) (fun h => by omega) (fun _ => ?_)
          refine ev_b 3 rfl ?_
          refine ev_row ht40 rfl ?_
          refine ev_b 2 rfl ?_
          refine ev_is (91 + t) c (nI 0) rfl (row_kd ht40) (by omega) (row_al ht40) (by rw [row_ln ht40]; omega) (by omega) ?_
          exact ev_b 2 rfl ev
      obtain ⟨I', ev, q⟩ := cols 20 0 (nI 0) I rfl rfl hY hG (fun x hx => by omega)
      refine ⟨I', fun s2 => ?_, q⟩
      refine ev_b 3 rfl ?_
      refine ev_gp 2 _ hpl hY.2.1 (Or.inr rfl) rfl rfl ?_
      refine ev_ge t tn rfl rfl (by omega) (by omega) (fun h => by omega) (fun _ => ?_)
      exact ev_b 2 rfl ev
  obtain ⟨I', ev, q⟩ := rows tn 0 (nI 0) I (by omega) rfl hY (fun t' ht' => by omega)
  exact ⟨I', ev_b 2 rfl (ev _), q⟩
end DRW
end
section
/-! the router lays -/
theorem PT_lay (pl tr rg fr : Nat) : pj_u2 (pj_u2 (pj_PT pl tr rg fr) 1 2 (some tr)) 1 3 (some pl) = pj_PT tr pl rg fr := by
  funext o k
  by_cases h1 : o = 1
  · subst h1
    by_cases h3 : k = 3
    · subst h3; rfl
    · rw [u2k _ _ h3]
      by_cases h2 : k = 2
      · subst h2; rfl
      · rw [u2k _ _ h2]
        unfold pj_PT
        rw [if_pos rfl, if_pos rfl, if_neg h2, if_neg h2, if_neg h3, if_neg h3]
  · rw [u2n _ _ h1, u2n _ _ h1]
    unfold pj_PT
    rw [if_neg h1, if_neg h1]
theorem PT_ring (pl tr rg fr : Nat) : pj_u2 (pj_u2 (pj_PT pl tr rg fr) 1 5 (some fr)) 1 6 (some rg) = pj_PT pl tr fr rg := by
  funext o k
  by_cases h1 : o = 1
  · subst h1
    by_cases h3 : k = 6
    · subst h3; rfl
    · rw [u2k _ _ h3]
      by_cases h2 : k = 5
      · subst h2; rfl
      · rw [u2k _ _ h2]
        unfold pj_PT
        rw [if_pos rfl, if_pos rfl, if_neg h2, if_neg h2, if_neg h3, if_neg h3]
  · rw [u2n _ _ h1, u2n _ _ h1]
    unfold pj_PT
    rw [if_neg h1, if_neg h1]
def TA (tr : Nat) : Nat → Nat → Prop := fun o k => (tr ≤ o ∧ o < tr + 42) ∨ (91 ≤ o ∧ o ≤ 130) ∨ (o = 1 ∧ (k = 4 ∨ k = 9))
/-- the numbers of a laid list -/
def LXl (pl : Nat) (I : pj_SI) (l : List Sg) (R : Nat → Nat → Bool) : Prop := LX pl I l.length (tnN l R) (fun k => (gs l k).1) (fun k => (gs l k).2.1) (fun k => (gs l k).2.2.1) (fun k => (trk l R (tnN l R)).1 k - 1) (fun k c => bt (gs l k).2.2.2 c)
def LMl (I : pj_SI) (l : List Sg) (R : Nat → Nat → Bool) : Prop := LM I l.length (tnN l R) (fun k => (gs l k).1) (fun k => (gs l k).2.1) (fun k => (gs l k).2.2.1) (fun k => (trk l R (tnN l R)).1 k - 1) (fun k c => bt (gs l k).2.2.2 c)
section LAY
variable {L d n0 : Nat} {I : pj_SI} {J : pj_SJ} {pl tr rg fr : Nat} {p : Nat → Nat} {l : List Sg} {R : Nat → Nat → Bool}
theorem c_tracksLoop {cuts : Bool} (ht : isP tr) (hpl : isP pl) (hne : pl ≠ tr) (h40 : l.length ≤ 40) (hok : ∀ k, k < l.length → (1 ≤ (gs l k).1 ∧ (gs l k).1 ≤ 9) ∧ (gs l k).2.1 < 20 ∧ (gs l k).2.2.1 < 20) (hno : ∀ s, s < l.length → inR R l.length s = false) (hJ : JX tr J l.length R) :
    ∀ m T (I : pj_SI), l.length - (trk l R T).2 ≤ m → (∀ t, t < T → (trk l R t).2 ≠ l.length) → SQ tr I l (trk l R T).1 T →
      ∃ I', pj_Ev L (d + 2) gX1_layAll 17 [.val (.ref 1), .val (.int (bI cuts)), .val (.int (nI (l.length - (trk l R T).2))), .unset] [] (xS n0 I J pl tr rg fr) (.inl (some (.int (nI (tnN l R)))), xS n0 I' J tr pl rg fr) ∧ Fr (TA tr) I I' ∧ LXl tr I' l R ∧ I' 1 4 = 1 ∧ I' 1 9 = I 1 9 + 1 := by
  have hlf : ∀ y, y < l.length → (gs l y).2.1 < 20 := fun y hy => (hok y hy).2.1
  have htr1 : 4 ≤ tr ∧ tr ≤ 46 := by rcases ht with rfl | rfl <;> decide
  have fin : ∀ T (I : pj_SI), (trk l R T).2 = l.length → (∀ t, t < T → (trk l R t).2 ≠ l.length) → SQ tr I l (trk l R T).1 T →
      ∃ I', pj_Ev L (d + 2) gX1_layAll 51 [.val (.ref 1), .val (.int (bI cuts)), .val (.int (nI (l.length - (trk l R T).2))), .unset] [] (xS n0 I J pl tr rg fr) (.inl (some (.int (nI (tnN l R)))), xS n0 I' J tr pl rg fr) ∧ Fr (TA tr) I I' ∧ LXl tr I' l R ∧ I' 1 4 = 1 ∧ I' 1 9 = I 1 9 + 1 := by
    intro T I he hne' hS
    obtain ⟨e1, e2⟩ := tnN_of hno h40 hlf he hne'
    have hall := trk_all (l := l) (R := R) he
    have hle := (trk_inv (l := l) (R := R) T).1
    unfold LXl
    rw [e1]
    obtain ⟨h1, h2, h3⟩ := hS
    have q : ∀ o k, 2 ≤ o → (pj_u2 (pj_u2 I 1 4 1) 1 9 (I 1 9 + nI 1)) o k = I o k := fun o k ho => by rw [u2n _ _ (by omega), u2n _ _ (by omega)]
    have hY : LY tr (pj_u2 (pj_u2 I 1 4 1) 1 9 (I 1 9 + nI 1)) l.length T (fun k => (gs l k).1) (fun k => (gs l k).2.1) (fun k => (gs l k).2.2.1) (fun k => (trk l R T).1 k - 1) := by
      refine ⟨by rw [q _ _ (by omega)]; exact h1, by rw [q _ _ (by omega)]; exact h2, ⟨h40, e2⟩, fun k hk => ?_, fun k hk => ?_⟩
      · obtain ⟨q0, q1, q2, q3, q4⟩ := h3 k hk
        rw [q _ _ (by omega), q _ _ (by omega), q _ _ (by omega), q _ _ (by omega)]
        refine ⟨q0, q1, q2, ?_⟩
        rw [q3]
        have hk0 := hall k hk
        obtain ⟨r, hr⟩ : ∃ r, (trk l R T).1 k = r + 1 := ⟨(trk l R T).1 k - 1, by omega⟩
        show rI ((trk l R T).1 k) = nI ((trk l R T).1 k - 1)
        rw [hr, rI_s]
        rfl
      · obtain ⟨o1, o2, o3⟩ := hok k hk
        refine ⟨o1, o2, o3, ?_⟩
        have hk0 := hall k hk
        have := hle k hk
        show (trk l R T).1 k - 1 < T
        omega
    obtain ⟨I', ev, f1, f2⟩ := c_draw (L := L) (d := d + 1) (n0 := n0) (J := J) (tr := pl) (rg := rg) (fr := fr) ht hY
    have hY2 := LY_fr ht hY f1
    have qg : ∀ o k, o < 91 → I' o k = (pj_u2 (pj_u2 I 1 4 1) 1 9 (I 1 9 + nI 1)) o k := fun o k ho => f1 o k (fun z => by unfold TG at z; omega)
    refine ⟨I', ?_, ?_, ?_, ?_, ?_⟩
    · refine ev_b 20 (σ' := (.inr n0, pj_u2 (pj_u2 I 1 4 1) 1 9 (I 1 9 + nI 1), J, pj_u2 (pj_u2 (pj_PT pl tr rg fr) 1 2 (some tr)) 1 3 (some pl))) rfl ?_
      rw [PT_lay]
      refine ev_c rfl ev ?_
      refine ev_b 2 rfl ?_
      refine ev_gp 2 _ ht hY2.2.1 (Or.inr rfl) rfl rfl ?_
      exact ev_ret rfl rfl rfl
    · exact Fr.tr (Fr.tr (Fr.u (Or.inr (Or.inr ⟨rfl, Or.inl rfl⟩))) (Fr.u (Or.inr (Or.inr ⟨rfl, Or.inr rfl⟩)))) (f1.mono fun o k z => Or.inr (Or.inl z))
    · obtain ⟨y1, y2, y3, y4, y5⟩ := hY2
      refine ⟨y1, y2, y3, fun k hk => ?_, y5, f2⟩
      obtain ⟨z0, z1, z2, z3⟩ := y4 k hk
      refine ⟨z0, z1, z2, z3, fun c hc => ?_⟩
      rw [qg _ _ (by omega), q _ _ (by omega), (h3 k hk).2.2.2.2]
    · rw [qg _ _ (by decide), u2k _ _ (by decide), pj_u2_self]
    · rw [qg _ _ (by decide), pj_u2_self]
      rfl
  intro m
  induction m with
  | zero =>
    intro T I hm hne' hS
    have hle := trk_le (l := l) (R := R) T
    have he : (trk l R T).2 = l.length := by omega
    obtain ⟨I', ev, q⟩ := fin T I he hne' hS
    refine ⟨I', ?_, q⟩
    refine ev_b 1 rfl ?_
    exact ev_len (l.length - (trk l R T).2) (by omega) rfl rfl (fun _ => ev) (fun h => by omega)
  | succ m ih =>
    intro T I hm hne' hS
    have hle := trk_le (l := l) (R := R) T
    by_cases he : (trk l R T).2 = l.length
    · obtain ⟨I', ev, q⟩ := fin T I he hne' hS
      refine ⟨I', ?_, q⟩
      refine ev_b 1 rfl ?_
      exact ev_len (l.length - (trk l R T).2) (by omega) rfl rfl (fun _ => ev) (fun h => by omega)
    · have hup := trk_up hno h40 hlf (T := T) (by omega)
      have hge := trk_ge hno h40 hlf T hne'
      have hT : T ≤ 40 := by omega
      obtain ⟨i1, i2⟩ := trk_inv (l := l) (R := R) T
      have fi0 : FI l.length T (trk l R T).2 ((trk l R T).1, 0, 0) := ⟨fun x hx => Nat.le_succ_of_le (i1 x hx), i2, Nat.zero_le _⟩
      obtain ⟨I1, ev1, f1, f2⟩ := c_fill (L := L) (d := d) (n0 := n0) (pl := pl) (rg := rg) (fr := fr) ht h40 hT (fun k hk => ⟨(hok k hk).1.2, (hok k hk).2⟩) hS hJ fi0
      have e2 := trk_2 (l := l) (R := R) T
      have hle2 := trk_le (l := l) (R := R) (T + 1)
      rw [← trk_1] at f2
      have hS2 : SQ tr (pj_u2 I1 tr 2 (nI T + nI 1)) l (trk l R (T + 1)).1 (T + 1) := by
        obtain ⟨h1, h2, h3⟩ := f2
        refine ⟨by rw [u2k _ _ (by decide)]; exact h1, by rw [pj_u2_self, nI_add], fun k hk => ?_⟩
        rw [u2n _ _ (by omega), u2n _ _ (by omega), u2n _ _ (by omega), u2n _ _ (by omega), u2n _ _ (by omega)]
        exact h3 k hk
      obtain ⟨I', ev, g1, g2, g3, g4⟩ := ih (T + 1) _ (by omega) (fun t ht => by
        by_cases e : t = T
        · rw [e]; exact he
        · exact hne' t (by omega)) hS2
      have h19 : (pj_u2 I1 tr 2 (nI T + nI 1)) 1 9 = I 1 9 := by
        rw [u2n _ _ (by omega)]
        exact f1 1 9 (fun z => by unfold TR at z; omega)
      refine ⟨I', ?_, Fr.tr (Fr.tr (f1.mono fun o k z => Or.inl z) (Fr.u (Or.inl ⟨Nat.le_refl _, by omega⟩))) g1, g2, g3, by rw [g4, h19]⟩
      have hT1 : I tr 2 = nI T := hS.2.1
      refine ev_b 1 rfl ?_
      refine ev_len (l.length - (trk l R T).2) (by omega) rfl rfl (fun h => by omega) (fun _ => ?_)
      refine ev_b 4 rfl ?_
      refine ev_gp 2 _ ht hT1 (Or.inr rfl) rfl rfl ?_
      refine ev_c rfl ev1 ?_
      have esub : nI (l.length - (trk l R T).2) - nI (scF l R T (trk l R T).1).2.2 = nI (l.length - (trk l R (T + 1)).2) := by
        have e : l.length - (trk l R T).2 - (scF l R T (trk l R T).1).2.2 = l.length - (trk l R (T + 1)).2 := by omega
        rw [pk_sub (by omega), e]
      refine ev_b 5 (lv' := [.val (.ref 1), .val (.int (bI cuts)), .val (.int (nI (l.length - (trk l R T).2) - nI (scF l R T (trk l R T).1).2.2)), .unset]) rfl ?_
      rw [esub]
      refine ev_gp 2 _ ht f2.2.1 (Or.inr rfl) rfl rfl ?_
      refine ev_b 2 rfl ?_
      refine ev_pp 2 _ ht (Or.inr rfl) rfl rfl ?_
      exact ev_b 1 rfl ev
end LAY
end
section
/-! lay, layAny (the router) -/
def sgL (p : Nat → Nat) (cuts : Bool) : List Sg := allS p cuts 9
def sgR (p : Nat → Nat) (cuts : Bool) : Nat → Nat → Bool := relB p (allS p cuts 9) 20
theorem sgL_40 (p : Nat → Nat) (cuts : Bool) : (sgL p cuts).length ≤ 40 := allS_len p cuts 9
theorem sgL_ok (p : Nat → Nat) (cuts : Bool) : ∀ k, k < (sgL p cuts).length → (1 ≤ (gs (sgL p cuts) k).1 ∧ (gs (sgL p cuts) k).1 ≤ 9) ∧ (gs (sgL p cuts) k).2.1 < 20 ∧ (gs (sgL p cuts) k).2.2.1 < 20 := fun k hk => by
  obtain ⟨q1, q2, q3, -⟩ := allS_ok (p := p) (cuts := cuts) 9 (Nat.le_refl _) _ (gs_mem hk)
  exact ⟨q1, Nat.lt_of_le_of_lt q2 q3, q3⟩
/-- no ring -/
def noR (p : Nat → Nat) (cuts : Bool) : Prop := ∀ s, s < (sgL p cuts).length → inR (sgR p cuts) (sgL p cuts).length s = false
/-- s is the lowest in a ring -/
def loR (p : Nat → Nat) (cuts : Bool) (s : Nat) : Prop := s < (sgL p cuts).length ∧ inR (sgR p cuts) (sgL p cuts).length s = true ∧ ∀ j, j < s → inR (sgR p cuts) (sgL p cuts).length j = false
theorem ring_or (p : Nat → Nat) (cuts : Bool) : noR p cuts ∨ ∃ s, loR p cuts s := by
  by_cases h : ∃ s, s < (sgL p cuts).length ∧ inR (sgR p cuts) (sgL p cuts).length s = true
  · obtain ⟨s, h1, h2, h3⟩ := fb_first (p := fun s => inR (sgR p cuts) (sgL p cuts).length s = true) h
    exact Or.inr ⟨s, h1, h2, fun j hj => by simpa using h3 j hj⟩
  · refine Or.inl fun s hs => ?_
    rw [← Bool.not_eq_true]
    exact fun z => h ⟨s, hs, z⟩
/-- the ring, told -/
def rgS (p : Nat → Nat) (cuts : Bool) (s : Nat) : Nat := rsz (sgR p cuts) (sgL p cuts).length s
def rgQ (p : Nat → Nat) (cuts : Bool) (s : Nat) : Nat → Nat := rq (sgR p cuts) (sgL p cuts).length s
/-- what a try may touch -/
def TY (tr fr : Nat) : Nat → Nat → Prop := fun o k => (tr ≤ o ∧ o < tr + 42) ∨ (91 ≤ o ∧ o ≤ 130) ∨ (o = 1 ∧ (k = 4 ∨ k = 8 ∨ k = 9)) ∨ o = fr
/-- and one that fails -/
def TQ (tr fr : Nat) : Nat → Nat → Prop := fun o k => (tr ≤ o ∧ o < tr + 42) ∨ (o = 1 ∧ k = 8) ∨ o = fr
section LAX2
variable {L d n0 : Nat} {I : pj_SI} {J : pj_SJ} {pl tr rg fr : Nat} {p : Nat → Nat} {cuts : Bool}
theorem c_layAll_ok (hp : pvX p I) (hb : pvB p) (ht : isP tr) (hpl : isP pl) (hne : pl ≠ tr) (hno : noR p cuts) :
    ∃ I' J', pj_Ev L (d + 4) gX1_layAll 0 [.val (.ref 1), .val (.int (bI cuts)), .unset, .unset] [] (xS n0 I J pl tr rg fr) (.inl (some (.int (nI (tnN (sgL p cuts) (sgR p cuts))))), xS n0 I' J' tr pl rg fr) ∧ Fr (TA tr) I I' ∧ Fr (TR tr) J J' ∧ LXl tr I' (sgL p cuts) (sgR p cuts) ∧ I' 1 4 = 1 ∧ I' 1 9 = I 1 9 + 1 := by
  have htr1 : 4 ≤ tr ∧ tr ≤ 46 := by rcases ht with rfl | rfl <;> decide
  obtain ⟨I1, J1, ev1, f1, f2, f3, f4⟩ := c_plan (L := L) (d := d) (n0 := n0) (I := I) (J := J) (pl := pl) (rg := rg) (fr := fr) (cuts := cuts) hp hb ht
  change SI tr I1 (sgL p cuts) at f3
  change JX tr J1 (sgL p cuts).length (sgR p cuts) at f4
  have h40 := sgL_40 p cuts
  have hok := sgL_ok p cuts
  unfold noR at hno
  generalize sgL p cuts = l at *
  generalize sgR p cuts = R at *
  have hS : SQ tr I1 l (trk l R 0).1 0 := ⟨f3.1, f3.2.1, fun k hk => by
    obtain ⟨q0, q1, q2, q3, q4⟩ := f3.2.2 k hk
    exact ⟨q0, q1, q2, q3, q4⟩⟩
  obtain ⟨I', ev, g1, g2, g3, g4⟩ := c_tracksLoop (L := L) (d := d + 2) (n0 := n0) (rg := rg) (fr := fr) (cuts := cuts) ht hpl hne h40 hok hno f4 l.length 0 I1 (Nat.sub_le _ _) (fun t ht => by omega) hS
  have h19 : I1 1 9 = I 1 9 := f1 1 9 (fun z => by unfold TR at z; omega)
  refine ⟨I', J1, ?_, Fr.tr (f1.mono fun o k z => Or.inl z) g1, f2, g2, g3, by rw [g4, h19]⟩
  refine ev_b 2 rfl ?_
  refine ev_c rfl ev1 ?_
  refine ev_b 1 rfl ?_
  refine ev_c rfl (c_searchRing_no ht f3.1 h40 f4 hno) ?_
  refine ev_b 2 rfl ?_
  refine ev_gp 1 _ ht f3.1 (Or.inl rfl) rfl rfl ?_
  exact ev_b 1 rfl ev
theorem c_layAll_no (hp : pvX p I) (hb : pvB p) (ht : isP tr) (hfr : isR fr) {s : Nat} (hs : loR p cuts s) :
    ∃ I' J', pj_Ev L (d + 4) gX1_layAll 0 [.val (.ref 1), .val (.int (bI cuts)), .unset, .unset] [] (xS n0 I J pl tr rg fr) (.inr 22, xS (n0 + 1) I' J' pl tr rg fr) ∧ Fr (TQ tr fr) I I' ∧ Fr (TR tr) J J' ∧ I' 1 4 = I 1 4 ∧ I' 1 9 = I 1 9 ∧ I' 1 8 = nI (rgS p cuts s) ∧ rgS p cuts s ≤ 40 ∧ ∀ k, k < rgS p cuts s → I' fr k = nI (rgQ p cuts s k) := by
  have htr1 : 4 ≤ tr ∧ tr ≤ 46 := by rcases ht with rfl | rfl <;> decide
  have hfr1 : 88 ≤ fr ∧ fr ≤ 89 := by rcases hfr with rfl | rfl <;> decide
  obtain ⟨I1, J1, ev1, f1, f2, f3, f4⟩ := c_plan (L := L) (d := d) (n0 := n0) (I := I) (J := J) (pl := pl) (rg := rg) (fr := fr) (cuts := cuts) hp hb ht
  change SI tr I1 (sgL p cuts) at f3
  change JX tr J1 (sgL p cuts).length (sgR p cuts) at f4
  have h40 := sgL_40 p cuts
  obtain ⟨s1, s2, s3⟩ := hs
  obtain ⟨I', ev, g1, g2, g3, g4⟩ := c_searchRing_yes (L := L) (d := d + 1) (n0 := n0) (pl := pl) (rg := rg) ht hfr f3.1 h40 f4 s1 s2 s3
  have q1 : ∀ k, k ≠ 8 → I' 1 k = I 1 k := fun k hk => by
    rw [g1 1 k (fun z => by unfold SF at z; omega), f1 1 k (fun z => by unfold TR at z; omega)]
  refine ⟨I', J1, ?_, Fr.tr (f1.mono fun o k z => Or.inl z) (g1.mono fun o k z => ?_), f2, q1 4 (by decide), q1 9 (by decide), g2, Nat.le_trans g3 h40, g4⟩
  · refine ev_b 2 rfl ?_
    refine ev_c rfl ev1 ?_
    refine ev_b 1 rfl ?_
    exact ev_cp rfl rfl ev
  · unfold SF at z
    unfold TQ
    omega
theorem c_tried_ok (hp : pvX p I) (hb : pvB p) (ht : isP tr) (hpl : isP pl) (hne : pl ≠ tr) (hno : noR p cuts) :
    ∃ I' J', pj_Ev L (d + 5) gX1_tried 0 [.val (.ref 1), .val (.int (bI cuts)), .unset] [] (xS n0 I J pl tr rg fr) (.inl (some (.int (nI (tnN (sgL p cuts) (sgR p cuts))))), xS n0 I' J' tr pl rg fr) ∧ Fr (TA tr) I I' ∧ Fr (TR tr) J J' ∧ LXl tr I' (sgL p cuts) (sgR p cuts) ∧ I' 1 4 = 1 ∧ I' 1 9 = I 1 9 + 1 := by
  obtain ⟨I', J', ev, q⟩ := c_layAll_ok (L := L) (d := d) (n0 := n0) (I := I) (J := J) (rg := rg) (fr := fr) hp hb ht hpl hne hno
  refine ⟨I', J', ?_, q⟩
  refine ev_b 2 rfl ?_
  refine ev_c rfl ev ?_
  exact ev_ret rfl rfl rfl
theorem c_tried_no (hp : pvX p I) (hb : pvB p) (ht : isP tr) (hfr : isR fr) {s : Nat} (hs : loR p cuts s) :
    ∃ I' J', pj_Ev L (d + 5) gX1_tried 0 [.val (.ref 1), .val (.int (bI cuts)), .unset] [] (xS n0 I J pl tr rg fr) (.inl (some (.int (-1))), xS (n0 + 1) I' J' pl tr rg fr) ∧ Fr (TQ tr fr) I I' ∧ Fr (TR tr) J J' ∧ I' 1 4 = I 1 4 ∧ I' 1 9 = I 1 9 ∧ I' 1 8 = nI (rgS p cuts s) ∧ rgS p cuts s ≤ 40 ∧ ∀ k, k < rgS p cuts s → I' fr k = nI (rgQ p cuts s k) := by
  obtain ⟨I', J', ev, q⟩ := c_layAll_no (L := L) (d := d) (n0 := n0) (I := I) (J := J) (pl := pl) (rg := rg) hp hb ht hfr hs
  refine ⟨I', J', ?_, q⟩
  refine ev_b 2 rfl ?_
  refine ev_ct rfl ev rfl rfl (Or.inl ⟨rfl, 2, rfl, rfl⟩) (Nat.lt_succ_self 2) rfl ?_
  refine ev_b 1 rfl ?_
  exact ev_ret rfl rfl rfl
theorem c_refuse :
    pj_Ev L d gX1_refuse 0 [.val (.ref 1), .unset] [] (xS n0 I J pl tr rg fr) (.inr 22, xS (n0 + 1) (pj_u2 (pj_u2 I 1 7 (I 1 8)) 1 10 (I 1 10 + nI 1)) J pl tr fr rg) := by
  refine ev_b 20 (σ' := (.inr n0, pj_u2 (pj_u2 I 1 7 (I 1 8)) 1 10 (I 1 10 + nI 1), J, pj_u2 (pj_u2 (pj_PT pl tr rg fr) 1 5 (some fr)) 1 6 (some rg))) rfl ?_
  rw [PT_ring]
  exact ev_thr rfl rfl rfl rfl rfl
end LAX2
end
section
/-! lay, layAny: both -/
/-- what a refused lay leaves of the router's numbers -/
def rfI (I : pj_SI) : pj_SI := pj_u2 (pj_u2 I 1 7 (I 1 8)) 1 10 (I 1 10 + nI 1)
section LC
variable {L d n0 : Nat} {I : pj_SI} {J : pj_SJ} {pl tr rg fr : Nat} {p : Nat → Nat} {cuts : Bool}
theorem c_lay_single (hp : pvX p I) (hb : pvB p) (h : anyS p 9 = true) :
    pj_Ev L (d + 6) gX1_lay 0 [.val (.ref 1), .val (.int (bI cuts)), .unset] [] (xS n0 I J pl tr rg fr) (.inr 21, xS (n0 + 1) I J pl tr rg fr) := by
  have := c_noSingle (L := L) (d := d + 2) (n0 := n0) (J := J) (pl := pl) (tr := tr) (rg := rg) (fr := fr) hp hb
  rw [if_pos h] at this
  refine ev_b 1 rfl ?_
  exact ev_cp rfl rfl this
theorem c_lay_ok (hp : pvX p I) (hb : pvB p) (ht : isP tr) (hpl : isP pl) (hne : pl ≠ tr) (h : anyS p 9 = false) (hno : noR p cuts) :
    ∃ I' J', pj_Ev L (d + 6) gX1_lay 0 [.val (.ref 1), .val (.int (bI cuts)), .unset] [] (xS n0 I J pl tr rg fr) (.inl (some (.int (nI (tnN (sgL p cuts) (sgR p cuts))))), xS n0 I' J' tr pl rg fr) ∧ Fr (TA tr) I I' ∧ Fr (TR tr) J J' ∧ LXl tr I' (sgL p cuts) (sgR p cuts) ∧ I' 1 4 = 1 ∧ I' 1 9 = I 1 9 + 1 := by
  have hs := c_noSingle (L := L) (d := d + 2) (n0 := n0) (J := J) (pl := pl) (tr := tr) (rg := rg) (fr := fr) hp hb
  rw [if_neg (by rw [h]; decide)] at hs
  obtain ⟨I', J', ev, q1, q2, q3, q4⟩ := c_tried_ok (L := L) (d := d) (n0 := n0) (I := I) (J := J) (rg := rg) (fr := fr) hp hb ht hpl hne hno
  refine ⟨I', J', ?_, q1, q2, q3, q4⟩
  have h40 : tnN (sgL p cuts) (sgR p cuts) ≤ 40 := q3.2.2.1.2
  generalize tnN (sgL p cuts) (sgR p cuts) = tn at *
  refine ev_b 1 rfl ?_
  refine ev_c rfl hs ?_
  refine ev_b 2 rfl ?_
  refine ev_c rfl ev ?_
  refine ev_b 3 rfl ?_
  refine ev_if (nI tn) (rI 0) rfl rfl (fun _ => ?_) (fun z => ?_)
  · refine ev_b 1 rfl ?_
    exact ev_ret rfl rfl rfl
  · have z := of_decide_eq_false z
    rw [Classical.not_not, ← rI_s, rI_eq (by omega) (by decide)] at z
    omega
theorem c_lay_ring (hp : pvX p I) (hb : pvB p) (ht : isP tr) (hfr : isR fr) (h : anyS p 9 = false) {s : Nat} (hs : loR p cuts s) :
    ∃ I' J', pj_Ev L (d + 6) gX1_lay 0 [.val (.ref 1), .val (.int (bI cuts)), .unset] [] (xS n0 I J pl tr rg fr) (.inr 22, xS (n0 + 2) (rfI I') J' pl tr fr rg) ∧ Fr (TQ tr fr) I I' ∧ Fr (TR tr) J J' ∧ I' 1 4 = I 1 4 ∧ I' 1 9 = I 1 9 ∧ I' 1 8 = nI (rgS p cuts s) ∧ rgS p cuts s ≤ 40 ∧ ∀ k, k < rgS p cuts s → I' fr k = nI (rgQ p cuts s k) := by
  have hs' := c_noSingle (L := L) (d := d + 2) (n0 := n0) (J := J) (pl := pl) (tr := tr) (rg := rg) (fr := fr) hp hb
  rw [if_neg (by rw [h]; decide)] at hs'
  obtain ⟨I', J', ev, q⟩ := c_tried_no (L := L) (d := d) (n0 := n0) (I := I) (J := J) (pl := pl) (rg := rg) hp hb ht hfr hs
  refine ⟨I', J', ?_, q⟩
  refine ev_b 1 rfl ?_
  refine ev_c rfl hs' ?_
  refine ev_b 2 rfl ?_
  refine ev_c rfl ev ?_
  refine ev_b 3 rfl ?_
  refine ev_if (rI 0) (rI 0) rfl rfl (fun z => absurd z (by decide)) (fun _ => ?_)
  refine ev_b 1 rfl ?_
  exact ev_cp rfl rfl c_refuse
theorem c_any_single (hp : pvX p I) (hb : pvB p) (h : anyS p 9 = true) :
    pj_Ev L (d + 6) gX1_layAny 0 [.val (.ref 1), .unset] [] (xS n0 I J pl tr rg fr) (.inr 21, xS (n0 + 1) I J pl tr rg fr) := by
  have := c_noSingle (L := L) (d := d + 2) (n0 := n0) (J := J) (pl := pl) (tr := tr) (rg := rg) (fr := fr) hp hb
  rw [if_pos h] at this
  refine ev_b 1 rfl ?_
  exact ev_cp rfl rfl this
theorem c_any_1 (hp : pvX p I) (hb : pvB p) (ht : isP tr) (hpl : isP pl) (hne : pl ≠ tr) (h : anyS p 9 = false) (hno : noR p false) :
    ∃ I' J', pj_Ev L (d + 6) gX1_layAny 0 [.val (.ref 1), .unset] [] (xS n0 I J pl tr rg fr) (.inl (some (.int (nI (tnN (sgL p false) (sgR p false))))), xS n0 I' J' tr pl rg fr) ∧ Fr (TA tr) I I' ∧ Fr (TR tr) J J' ∧ LXl tr I' (sgL p false) (sgR p false) ∧ I' 1 4 = 1 ∧ I' 1 9 = I 1 9 + 1 := by
  have hs := c_noSingle (L := L) (d := d + 2) (n0 := n0) (J := J) (pl := pl) (tr := tr) (rg := rg) (fr := fr) hp hb
  rw [if_neg (by rw [h]; decide)] at hs
  obtain ⟨I', J', ev, q1, q2, q3, q4⟩ := c_tried_ok (L := L) (d := d) (n0 := n0) (I := I) (J := J) (rg := rg) (fr := fr) hp hb ht hpl hne hno
  refine ⟨I', J', ?_, q1, q2, q3, q4⟩
  have h40 : tnN (sgL p false) (sgR p false) ≤ 40 := q3.2.2.1.2
  generalize tnN (sgL p false) (sgR p false) = tn at *
  refine ev_b 1 rfl ?_
  refine ev_c rfl hs ?_
  refine ev_b 2 rfl ?_
  refine ev_c rfl ev ?_
  refine ev_b 3 rfl ?_
  refine ev_if (nI tn) (rI 0) rfl rfl (fun z => ?_) (fun _ => ?_)
  · have z := of_decide_eq_true z
    rw [← rI_s, rI_eq (by omega) (by decide)] at z
    omega
  · refine ev_b 1 rfl ?_
    exact ev_ret rfl rfl rfl
/-- the first try leaves all that the second asks for -/
theorem pvX.ty {I' : pj_SI} (hp : pvX p I) (ht : isP tr) (hfr : isR fr) (hf : Fr (TQ tr fr) I I') : pvX p I' := by
  have q : ∀ o, 2 ≤ o → o < 4 → ∀ k, I' o k = I o k := fun o ho ho2 k => hf o k (fun z => by rcases ht with rfl | rfl <;> rcases hfr with rfl | rfl <;> (unfold TQ at z; omega))
  intro c hc
  rw [q 2 (by decide) (by decide), q 3 (by decide) (by decide)]
  exact hp c hc
theorem c_any_2 (hp : pvX p I) (hb : pvB p) (ht : isP tr) (hpl : isP pl) (hfr : isR fr) (hne : pl ≠ tr) (h : anyS p 9 = false) {s : Nat} (hs : loR p false s) (hno : noR p true) :
    ∃ I' J', pj_Ev L (d + 6) gX1_layAny 0 [.val (.ref 1), .unset] [] (xS n0 I J pl tr rg fr) (.inl (some (.int (nI (1000 + tnN (sgL p true) (sgR p true))))), xS (n0 + 1) I' J' tr pl rg fr) ∧ Fr (TY tr fr) I I' ∧ Fr (TR tr) J J' ∧ LXl tr I' (sgL p true) (sgR p true) ∧ I' 1 4 = 1 ∧ I' 1 9 = I 1 9 + 1 := by
  have hs' := c_noSingle (L := L) (d := d + 2) (n0 := n0) (J := J) (pl := pl) (tr := tr) (rg := rg) (fr := fr) hp hb
  rw [if_neg (by rw [h]; decide)] at hs'
  obtain ⟨I1, J1, ev1, g1, g2, g3, g4, -⟩ := c_tried_no (L := L) (d := d) (n0 := n0) (I := I) (J := J) (pl := pl) (rg := rg) hp hb ht hfr hs
  obtain ⟨I', J', ev, q1, q2, q3, q4, q5⟩ := c_tried_ok (L := L) (d := d) (n0 := n0 + 1) (I := I1) (J := J1) (rg := rg) (fr := fr) (hp.ty ht hfr g1) hb ht hpl hne hno
  refine ⟨I', J', ?_, Fr.tr (g1.mono fun o k z => by unfold TQ at z; unfold TY; omega) (q1.mono fun o k z => ?_), Fr.tr g2 q2, q3, q4, by rw [q5, g4]⟩
  · have h40 : tnN (sgL p true) (sgR p true) ≤ 40 := q3.2.2.1.2
    generalize tnN (sgL p true) (sgR p true) = tn at *
    refine ev_b 1 rfl ?_
    refine ev_c rfl hs' ?_
    refine ev_b 2 rfl ?_
    refine ev_c rfl ev1 ?_
    refine ev_b 3 rfl ?_
    refine ev_if (rI 0) (rI 0) rfl rfl (fun _ => ?_) (fun z => absurd z (by decide))
    refine ev_b 2 rfl ?_
    refine ev_c rfl ev ?_
    refine ev_b 3 rfl ?_
    refine ev_if (nI tn) (rI 0) rfl rfl (fun _ => ?_) (fun z => ?_)
    · have e : nI 1000 + nI tn = nI (1000 + tn) := nI_add _ _
      rw [← e]
      refine ev_b 3 rfl ?_
      exact ev_ret rfl rfl rfl
    · have z := of_decide_eq_false z
      rw [Classical.not_not, ← rI_s, rI_eq (by omega) (by decide)] at z
      omega
  · unfold TA at z
    unfold TY
    omega
theorem c_any_ring (hp : pvX p I) (hb : pvB p) (ht : isP tr) (hfr : isR fr) (h : anyS p 9 = false) {s s2 : Nat} (hs : loR p false s) (hs2 : loR p true s2) :
    ∃ I' J', pj_Ev L (d + 6) gX1_layAny 0 [.val (.ref 1), .unset] [] (xS n0 I J pl tr rg fr) (.inr 22, xS (n0 + 3) (rfI I') J' pl tr fr rg) ∧ Fr (TQ tr fr) I I' ∧ Fr (TR tr) J J' ∧ I' 1 4 = I 1 4 ∧ I' 1 9 = I 1 9 ∧ I' 1 8 = nI (rgS p true s2) ∧ rgS p true s2 ≤ 40 ∧ ∀ k, k < rgS p true s2 → I' fr k = nI (rgQ p true s2 k) := by
  have hs' := c_noSingle (L := L) (d := d + 2) (n0 := n0) (J := J) (pl := pl) (tr := tr) (rg := rg) (fr := fr) hp hb
  rw [if_neg (by rw [h]; decide)] at hs'
  obtain ⟨I1, J1, ev1, g1, g2, g3, g4, -⟩ := c_tried_no (L := L) (d := d) (n0 := n0) (I := I) (J := J) (pl := pl) (rg := rg) hp hb ht hfr hs
  obtain ⟨I', J', ev, q1, q2, q3, q4, q5⟩ := c_tried_no (L := L) (d := d) (n0 := n0 + 1) (I := I1) (J := J1) (pl := pl) (rg := rg) (hp.ty ht hfr g1) hb ht hfr hs2
  refine ⟨I', J', ?_, Fr.tr g1 q1, Fr.tr g2 q2, by rw [q3, g3], by rw [q4, g4], q5⟩
  refine ev_b 1 rfl ?_
  refine ev_c rfl hs' ?_
  refine ev_b 2 rfl ?_
  refine ev_c rfl ev1 ?_
  refine ev_b 3 rfl ?_
  refine ev_if (rI 0) (rI 0) rfl rfl (fun _ => ?_) (fun z => absurd z (by decide))
  refine ev_b 2 rfl ?_
  refine ev_c rfl ev ?_
  refine ev_b 3 rfl ?_
  refine ev_if (rI 0) (rI 0) rfl rfl (fun z => absurd z (by decide)) (fun _ => ?_)
  refine ev_b 1 rfl ?_
  exact ev_cp rfl rfl c_refuse
end LC
end
section
/-! lay, layAny: the model -/
/-- what the model's lay may touch -/
def TZ : Nat → Nat → Prop := fun o k => (133 ≤ o ∧ o ≤ 136) ∨ o = 139 ∨ o = 140 ∨ (141 ≤ o ∧ o ≤ 145) ∨ (o = 131 ∧ (k = 0 ∨ k = 2 ∨ k = 11 ∨ k = 12 ∨ k = 13 ∨ k = 21))
/-- and a refused one -/
def TF : Nat → Nat → Prop := fun o k => (133 ≤ o ∧ o ≤ 136) ∨ o = 140 ∨ o = 146 ∨ (o = 131 ∧ (k = 0 ∨ k = 2 ∨ k = 19 ∨ k = 22))
def TK : Nat → Nat → Prop := fun o _ => o = 137 ∨ o = 138
section LM2
variable {L d n0 : Nat} {I : pj_SI} {J : pj_SJ} {pl tr rg fr : Nat} {p : Nat → Nat} {cuts : Bool}
theorem m_lay_single (hp : pvM p I) (hb : pvB p) (h : anyS p 9 = true) :
    pj_Ev L (d + 5) gX4_lay 0 [.val (.ref 131), .val (.int (bI cuts)), .unset] [] (xS n0 I J pl tr rg fr) (.inl (some (.int 0)), xS n0 (pj_u2 (pj_u2 I 131 0 0) 131 0 1) J pl tr rg fr) := by
  refine ev_b 4 (σ' := xS n0 (pj_u2 I 131 0 0) J pl tr rg fr) rfl ?_
  refine ev_c rfl (m_anySingle (d := d + 2) (hp.u (by decide)) hb) ?_
  rw [h]
  refine ev_z true rfl rfl (fun h => by cases h) (fun _ => ?_)
  refine ev_b 2 rfl ?_
  refine ev_c rfl m_fail ?_
  exact ev_ret rfl rfl rfl
theorem m_any_single (hp : pvM p I) (hb : pvB p) (h : anyS p 9 = true) :
    pj_Ev L (d + 5) gX4_layAny 0 [.val (.ref 131), .unset] [] (xS n0 I J pl tr rg fr) (.inl (some (.int 0)), xS n0 (pj_u2 (pj_u2 I 131 0 0) 131 0 1) J pl tr rg fr) := by
  refine ev_b 4 (σ' := xS n0 (pj_u2 I 131 0 0) J pl tr rg fr) rfl ?_
  refine ev_c rfl (m_anySingle (d := d + 2) (hp.u (by decide)) hb) ?_
  rw [h]
  refine ev_z true rfl rfl (fun h => by cases h) (fun _ => ?_)
  refine ev_b 2 rfl ?_
  refine ev_c rfl m_fail ?_
  exact ev_ret rfl rfl rfl
/-- study, with the names of the lists -/
theorem m_studyL (hp : pvM p I) (hb : pvB p) :
    ∃ I' J', pj_Ev L (d + 3) gX4_study 0 [.val (.ref 131), .val (.int (bI cuts)), .unset, .unset, .unset, .unset, .unset, .unset, .unset] [] (xS n0 I J pl tr rg fr) (.inl (some (.int (nI (prs (sgR p cuts) (sgL p cuts).length (sgL p cuts).length)))), xS n0 I' J' pl tr rg fr) ∧ Fr TM I I' ∧ Fr TJ J J' ∧ SM I' (sgL p cuts) ∧ JM J' (sgL p cuts).length (sgR p cuts) (sgL p cuts).length := m_study hp hb
theorem m_lay_ok (hp : pvM p I) (hb : pvB p) (h : anyS p 9 = false) (hno : noR p cuts) :
    ∃ I' J', pj_Ev L (d + 5) gX4_lay 0 [.val (.ref 131), .val (.int (bI cuts)), .unset] [] (xS n0 I J pl tr rg fr) (.inl (some (.int (nI (tnN (sgL p cuts) (sgR p cuts))))), xS n0 I' J' pl tr rg fr) ∧ Fr TZ I I' ∧ Fr TK J J' ∧ LMl I' (sgL p cuts) (sgR p cuts) ∧ I' 131 0 = 0 ∧ I' 131 11 = 1 ∧ I' 131 21 = I 131 21 + 1 := by
  obtain ⟨I1, J1, ev1, f1, f2, f3, f4⟩ := m_studyL (L := L) (d := d + 1) (n0 := n0) (I := pj_u2 I 131 0 0) (J := J) (pl := pl) (tr := tr) (rg := rg) (fr := fr) (cuts := cuts) (hp.u (by decide)) hb
  have h40 := sgL_40 p cuts
  have hok := sgL_ok p cuts
  unfold noR at hno
  generalize sgL p cuts = l at *
  generalize sgR p cuts = R at *
  obtain ⟨J2, ev2, g1⟩ := m_noRing_t (L := L) (d := d + 1) (n0 := n0) (pl := pl) (tr := tr) (rg := rg) (fr := fr) f3.1 h40 f4 hno
  have f4' : JM J2 l.length R l.length := fun a ha y hy => by rw [g1 137 a (fun z => by unfold TW at z; omega)]; exact f4 a ha y hy
  obtain ⟨I', ev3, k1, k2, k3, k4⟩ := m_layNow (L := L) (d := d) (n0 := n0) (pl := pl) (tr := tr) (rg := rg) (fr := fr) h40 hok hno f3 f4'
  have e0 : I1 131 0 = 0 := by rw [f1 131 0 (fun z => by unfold TM at z; omega), pj_u2_self]
  have e21 : I1 131 21 = I 131 21 := by rw [f1 131 21 (fun z => by unfold TM at z; omega), u2k _ _ (by decide)]
  refine ⟨I', J2, ?_, ?_, ?_, k2, by rw [k1 131 0 (fun z => by unfold TL at z; omega)]; exact e0, k3, by rw [k4, e21]⟩
  · refine ev_b 4 (σ' := xS n0 (pj_u2 I 131 0 0) J pl tr rg fr) rfl ?_
    refine ev_c rfl (m_anySingle (d := d + 2) (hp.u (by decide)) hb) ?_
    rw [h]
    refine ev_z false rfl rfl (fun _ => ?_) (fun h => by cases h)
    refine ev_b 2 rfl ?_
    refine ev_c rfl ev1 ?_
    refine ev_b 2 rfl ?_
    refine ev_c rfl ev2 ?_
    refine ev_z true rfl rfl (fun h => by cases h) (fun _ => ?_)
    refine ev_b 1 rfl ?_
    refine ev_c rfl ev3 ?_
    refine ev_b 1 rfl ?_
    exact ev_ret rfl rfl rfl
  · refine Fr.tr (Fr.tr (Fr.u (by unfold TZ; omega)) (f1.mono fun o k z => ?_)) (k1.mono fun o k z => ?_)
    · unfold TM at z; unfold TZ; omega
    · unfold TL at z; unfold TZ; omega
  · exact Fr.tr (f2.mono fun o k z => Or.inl z) (g1.mono fun o k z => Or.inr z)
theorem m_lay_ring (hp : pvM p I) (hb : pvB p) (h : anyS p 9 = false) {s : Nat} (hs : loR p cuts s) :
    ∃ I' J', pj_Ev L (d + 5) gX4_lay 0 [.val (.ref 131), .val (.int (bI cuts)), .unset] [] (xS n0 I J pl tr rg fr) (.inl (some (.int 0)), xS n0 I' J' pl tr rg fr) ∧ Fr TF I I' ∧ Fr TK J J' ∧ I' 131 0 = 2 ∧ I' 131 19 = nI (rgS p cuts s) ∧ (∀ k, k < rgS p cuts s → I' 146 k = nI (rgQ p cuts s k)) ∧ I' 131 22 = I 131 22 + 1 := by
  obtain ⟨I1, J1, ev1, f1, f2, f3, f4⟩ := m_studyL (L := L) (d := d + 1) (n0 := n0) (I := pj_u2 I 131 0 0) (J := J) (pl := pl) (tr := tr) (rg := rg) (fr := fr) (cuts := cuts) (hp.u (by decide)) hb
  have h40 := sgL_40 p cuts
  obtain ⟨s1, s2, s3⟩ := hs
  unfold rgS rgQ
  generalize sgL p cuts = l at *
  generalize sgR p cuts = R at *
  obtain ⟨I', J2, ev2, k1, k2, k3, k4, k5, k6⟩ := m_noRing_f (L := L) (d := d + 1) (n0 := n0) (pl := pl) (tr := tr) (rg := rg) (fr := fr) f3.1 h40 f4 s1 s2 s3
  have e22 : I1 131 22 = I 131 22 := by rw [f1 131 22 (fun z => by unfold TM at z; omega), u2k _ _ (by decide)]
  refine ⟨I', J2, ?_, ?_, ?_, k6, k3, k4, by rw [k5, e22]⟩
  · refine ev_b 4 (σ' := xS n0 (pj_u2 I 131 0 0) J pl tr rg fr) rfl ?_
    refine ev_c rfl (m_anySingle (d := d + 2) (hp.u (by decide)) hb) ?_
    rw [h]
    refine ev_z false rfl rfl (fun _ => ?_) (fun h => by cases h)
    refine ev_b 2 rfl ?_
    refine ev_c rfl ev1 ?_
    refine ev_b 2 rfl ?_
    refine ev_c rfl ev2 ?_
    refine ev_z false rfl rfl (fun _ => ?_) (fun h => by cases h)
    refine ev_b 1 rfl ?_
    exact ev_ret rfl rfl rfl
  · refine Fr.tr (Fr.tr (Fr.u (by unfold TF; omega)) (f1.mono fun o k z => ?_)) (k1.mono fun o k z => ?_)
    · unfold TM at z; unfold TF; omega
    · unfold TN at z; unfold TF; omega
  · exact Fr.tr (f2.mono fun o k z => Or.inl z) (k2.mono fun o k z => Or.inr z)
theorem m_any_1 (hp : pvM p I) (hb : pvB p) (h : anyS p 9 = false) (hno : noR p false) :
    ∃ I' J', pj_Ev L (d + 5) gX4_layAny 0 [.val (.ref 131), .unset] [] (xS n0 I J pl tr rg fr) (.inl (some (.int (nI (tnN (sgL p false) (sgR p false))))), xS n0 I' J' pl tr rg fr) ∧ Fr TZ I I' ∧ Fr TK J J' ∧ LMl I' (sgL p false) (sgR p false) ∧ I' 131 0 = 0 ∧ I' 131 11 = 1 ∧ I' 131 21 = I 131 21 + 1 := by
  obtain ⟨I1, J1, ev1, f1, f2, f3, f4⟩ := m_studyL (L := L) (d := d + 1) (n0 := n0) (I := pj_u2 I 131 0 0) (J := J) (pl := pl) (tr := tr) (rg := rg) (fr := fr) (cuts := false) (hp.u (by decide)) hb
  have h40 := sgL_40 p false
  have hok := sgL_ok p false
  unfold noR at hno
  generalize sgL p false = l at *
  generalize sgR p false = R at *
  obtain ⟨J2, ev2, g1⟩ := m_inRing (L := L) (d := d + 3) (n0 := n0) (pl := pl) (tr := tr) (rg := rg) (fr := fr) f3.1 h40 f4
  have e : lowR R l.length = 0 := by
    unfold lowR
    rw [fi_char (c := l.length) (Nat.le_refl _) hno (fun z => by omega), if_neg (by omega)]
  rw [e] at ev2
  have f4' : JM J2 l.length R l.length := fun a ha y hy => by rw [g1 137 a (fun z => by unfold TW at z; omega)]; exact f4 a ha y hy
  obtain ⟨I', ev3, k1, k2, k3, k4⟩ := m_layNow (L := L) (d := d) (n0 := n0) (pl := pl) (tr := tr) (rg := rg) (fr := fr) h40 hok hno f3 f4'
  have e0 : I1 131 0 = 0 := by rw [f1 131 0 (fun z => by unfold TM at z; omega), pj_u2_self]
  have e21 : I1 131 21 = I 131 21 := by rw [f1 131 21 (fun z => by unfold TM at z; omega), u2k _ _ (by decide)]
  refine ⟨I', J2, ?_, ?_, ?_, k2, by rw [k1 131 0 (fun z => by unfold TL at z; omega)]; exact e0, k3, by rw [k4, e21]⟩
  · refine ev_b 4 (σ' := xS n0 (pj_u2 I 131 0 0) J pl tr rg fr) rfl ?_
    refine ev_c rfl (m_anySingle (d := d + 2) (hp.u (by decide)) hb) ?_
    rw [h]
    refine ev_z false rfl rfl (fun _ => ?_) (fun h => by cases h)
    refine ev_b 2 rfl ?_
    refine ev_c rfl ev1 ?_
    refine ev_b 2 rfl ?_
    refine ev_c rfl ev2 ?_
    refine ev_if0 (rI 0) rfl rfl (fun z => absurd z (by decide)) (fun _ => ?_)
    refine ev_b 1 rfl ?_
    refine ev_c rfl ev3 ?_
    exact ev_ret rfl rfl rfl
  · refine Fr.tr (Fr.tr (Fr.u (by unfold TZ; omega)) (f1.mono fun o k z => ?_)) (k1.mono fun o k z => ?_)
    · unfold TM at z; unfold TZ; omega
    · unfold TL at z; unfold TZ; omega
  · exact Fr.tr (f2.mono fun o k z => Or.inl z) (g1.mono fun o k z => Or.inr z)
/-- the first half of layAny, when there is a ring -/
theorem m_any_head (hp : pvM p I) (hb : pvB p) (h : anyS p 9 = false) {s : Nat} (hs : loR p false s) :
    ∃ I1 J1, Fr TM (pj_u2 I 131 0 0) I1 ∧ Fr TK J J1 ∧ ∀ {r : pj_Rs × pj_St}, (∀ (s1 : Slot), pj_Ev L (d + 5) gX4_layAny 36 [.val (.ref 131), s1] [] (xS n0 I1 J1 pl tr rg fr) r) → pj_Ev L (d + 5) gX4_layAny 0 [.val (.ref 131), .unset] [] (xS n0 I J pl tr rg fr) r := by
  obtain ⟨I1, J1, ev1, f1, f2, f3, f4⟩ := m_studyL (L := L) (d := d + 1) (n0 := n0) (I := pj_u2 I 131 0 0) (J := J) (pl := pl) (tr := tr) (rg := rg) (fr := fr) (cuts := false) (hp.u (by decide)) hb
  have h40 := sgL_40 p false
  obtain ⟨s1, s2, s3⟩ := hs
  generalize sgL p false = l at *
  generalize sgR p false = R at *
  obtain ⟨J2, ev2, g1⟩ := m_inRing (L := L) (d := d + 3) (n0 := n0) (pl := pl) (tr := tr) (rg := rg) (fr := fr) f3.1 h40 f4
  have e : lowR R l.length = s + 1 := by
    unfold lowR
    rw [fi_char (c := s) (by omega) s3 (fun _ => s2), if_pos s1]
  rw [e, rI_s] at ev2
  refine ⟨I1, J2, f1, Fr.tr (f2.mono fun o k z => Or.inl z) (g1.mono fun o k z => Or.inr z), fun {r} k36 => ?_⟩
  refine ev_b 4 (σ' := xS n0 (pj_u2 I 131 0 0) J pl tr rg fr) rfl ?_
  refine ev_c rfl (m_anySingle (d := d + 2) (hp.u (by decide)) hb) ?_
  rw [h]
  refine ev_z false rfl rfl (fun _ => ?_) (fun h => by cases h)
  refine ev_b 2 rfl ?_
  refine ev_c rfl ev1 ?_
  refine ev_b 2 rfl ?_
  refine ev_c rfl ev2 ?_
  exact ev_gen s (by omega) rfl rfl (k36 _)
theorem m_any_2 (hp : pvM p I) (hb : pvB p) (h : anyS p 9 = false) {s : Nat} (hs : loR p false s) (hno : noR p true) :
    ∃ I' J', pj_Ev L (d + 5) gX4_layAny 0 [.val (.ref 131), .unset] [] (xS n0 I J pl tr rg fr) (.inl (some (.int (nI (1000 + tnN (sgL p true) (sgR p true))))), xS n0 I' J' pl tr rg fr) ∧ Fr TZ I I' ∧ Fr TK J J' ∧ LMl I' (sgL p true) (sgR p true) ∧ I' 131 0 = 0 ∧ I' 131 11 = 1 ∧ I' 131 21 = I 131 21 + 1 := by
  obtain ⟨I0, J0, a1, a2, go⟩ := m_any_head (L := L) (d := d) (n0 := n0) (I := I) (J := J) (pl := pl) (tr := tr) (rg := rg) (fr := fr) hp hb h hs
  have hp0 : pvM p I0 := pvM.fr (hp.u (by decide)) a1
  obtain ⟨I1, J1, ev1, f1, f2, f3, f4⟩ := m_studyL (L := L) (d := d + 1) (n0 := n0) (I := I0) (J := J0) (pl := pl) (tr := tr) (rg := rg) (fr := fr) (cuts := true) hp0 hb
  have h40 := sgL_40 p true
  have hok := sgL_ok p true
  unfold noR at hno
  generalize sgL p true = l at *
  generalize sgR p true = R at *
  obtain ⟨J2, ev2, g1⟩ := m_noRing_t (L := L) (d := d + 1) (n0 := n0) (pl := pl) (tr := tr) (rg := rg) (fr := fr) f3.1 h40 f4 hno
  have f4' : JM J2 l.length R l.length := fun a ha y hy => by rw [g1 137 a (fun z => by unfold TW at z; omega)]; exact f4 a ha y hy
  obtain ⟨I', ev3, k1, k2, k3, k4⟩ := m_layNow (L := L) (d := d) (n0 := n0) (pl := pl) (tr := tr) (rg := rg) (fr := fr) h40 hok hno f3 f4'
  have e0 : I1 131 0 = 0 := by rw [f1 131 0 (fun z => by unfold TM at z; omega), a1 131 0 (fun z => by unfold TM at z; omega), pj_u2_self]
  have e21 : I1 131 21 = I 131 21 := by rw [f1 131 21 (fun z => by unfold TM at z; omega), a1 131 21 (fun z => by unfold TM at z; omega), u2k _ _ (by decide)]
  refine ⟨I', J2, go fun s1 => ?_, ?_, ?_, k2, by rw [k1 131 0 (fun z => by unfold TL at z; omega)]; exact e0, k3, by rw [k4, e21]⟩
  · refine ev_b 2 rfl ?_
    refine ev_c rfl ev1 ?_
    refine ev_b 2 rfl ?_
    refine ev_c rfl ev2 ?_
    refine ev_z true rfl rfl (fun h => by cases h) (fun _ => ?_)
    refine ev_b 2 rfl ?_
    refine ev_c rfl ev3 ?_
    have e : nI 1000 + nI (tnN l R) = nI (1000 + tnN l R) := nI_add _ _
    rw [← e]
    generalize tnN l R = tn
    refine ev_b 2 rfl ?_
    exact ev_ret rfl rfl rfl
  · refine Fr.tr (Fr.tr (Fr.tr (Fr.u (by unfold TZ; omega)) (a1.mono fun o k z => ?_)) (f1.mono fun o k z => ?_)) (k1.mono fun o k z => ?_)
    · unfold TM at z; unfold TZ; omega
    · unfold TM at z; unfold TZ; omega
    · unfold TL at z; unfold TZ; omega
  · exact Fr.tr a2 (Fr.tr (f2.mono fun o k z => Or.inl z) (g1.mono fun o k z => Or.inr z))
theorem m_any_ring (hp : pvM p I) (hb : pvB p) (h : anyS p 9 = false) {s s2 : Nat} (hs : loR p false s) (hs2 : loR p true s2) :
    ∃ I' J', pj_Ev L (d + 5) gX4_layAny 0 [.val (.ref 131), .unset] [] (xS n0 I J pl tr rg fr) (.inl (some (.int 0)), xS n0 I' J' pl tr rg fr) ∧ Fr TF I I' ∧ Fr TK J J' ∧ I' 131 0 = 2 ∧ I' 131 19 = nI (rgS p true s2) ∧ (∀ k, k < rgS p true s2 → I' 146 k = nI (rgQ p true s2 k)) ∧ I' 131 22 = I 131 22 + 1 := by
  obtain ⟨I0, J0, a1, a2, go⟩ := m_any_head (L := L) (d := d) (n0 := n0) (I := I) (J := J) (pl := pl) (tr := tr) (rg := rg) (fr := fr) hp hb h hs
  have hp0 : pvM p I0 := pvM.fr (hp.u (by decide)) a1
  obtain ⟨I1, J1, ev1, f1, f2, f3, f4⟩ := m_studyL (L := L) (d := d + 1) (n0 := n0) (I := I0) (J := J0) (pl := pl) (tr := tr) (rg := rg) (fr := fr) (cuts := true) hp0 hb
  have h40 := sgL_40 p true
  obtain ⟨s1, s2', s3⟩ := hs2
  unfold rgS rgQ
  generalize sgL p true = l at *
  generalize sgR p true = R at *
  obtain ⟨I', J2, ev2, k1, k2, k3, k4, k5, k6⟩ := m_noRing_f (L := L) (d := d + 1) (n0 := n0) (pl := pl) (tr := tr) (rg := rg) (fr := fr) f3.1 h40 f4 s1 s2' s3
  have e22 : I1 131 22 = I 131 22 := by rw [f1 131 22 (fun z => by unfold TM at z; omega), a1 131 22 (fun z => by unfold TM at z; omega), u2k _ _ (by decide)]
  refine ⟨I', J2, go fun s1 => ?_, ?_, ?_, k6, k3, k4, by rw [k5, e22]⟩
  · refine ev_b 2 rfl ?_
    refine ev_c rfl ev1 ?_
    refine ev_b 2 rfl ?_
    refine ev_c rfl ev2 ?_
    refine ev_z false rfl rfl (fun _ => ?_) (fun h => by cases h)
    refine ev_b 1 rfl ?_
    exact ev_ret rfl rfl rfl
  · refine Fr.tr (Fr.tr (Fr.tr (Fr.u (by unfold TF; omega)) (a1.mono fun o k z => ?_)) (f1.mono fun o k z => ?_)) (k1.mono fun o k z => ?_)
    · unfold TM at z; unfold TF; omega
    · unfold TM at z; unfold TF; omega
    · unfold TN at z; unfold TF; omega
  · exact Fr.tr a2 (Fr.tr (f2.mono fun o k z => Or.inl z) (k2.mono fun o k z => Or.inr z))
end LM2
end
section
/-! a net that goes down has a segment there -/
theorem ct_one {f : Nat → Bool} {c : Nat} : ∀ {n : Nat}, (∀ k, k < n → f k = true → k = c) → fb_ct f n ≤ 1
  | 0, _ => Nat.zero_le _
  | n + 1, h => by
    rw [fb_ct_succ]
    by_cases e : f n = true
    · have hn := h n (by omega) e
      have : fb_ct f n = 0 := fb_ct_zero.mpr fun k hk => by
        rw [← Bool.not_eq_true]
        intro z
        have := h k (by omega) z
        omega
      rw [if_pos e, this]
      exact Nat.le_refl _
    · rw [if_neg e]
      exact ct_one fun k hk => h k (by omega)
theorem anyS_no {p : Nat → Nat} : ∀ {m : Nat}, anyS p m = false → ∀ n, 1 ≤ n → n ≤ m → kindN p n ≠ 1
  | 0, _, n, h1, h2 => by omega
  | m + 1, h, n, h1, h2 => by
    have h : (anyS p m || kindN p (m + 1) == 1) = false := h
    rw [Bool.or_eq_false_iff] at h
    by_cases e : n = m + 1
    · rw [e]
      intro z
      rw [z] at h
      exact absurd h.2 (by decide)
    · exact anyS_no h.1 n h1 (by omega)
theorem kind_long {p : Nat → Nat} {c : Nat} (hc : c < 20) (hb : pvB p) (hs1 : anyS p 9 = false) (hne : p c ≠ p (20 + c)) (h0 : p (20 + c) ≠ 0) : kindN p (p (20 + c)) = 3 := by
  have hk1 := anyS_no hs1 (p (20 + c)) (by omega) (hb (20 + c) (by omega))
  generalize hB : p (20 + c) = b at *
  have hhs : hs p b c = true := by unfold hs; rw [hB]; simp
  unfold kindN at hk1 ⊢
  have hpos : 0 < pinsN p b := fb_ct_pos.mpr ⟨20 + c, by omega, by rw [hB]; simp⟩
  by_cases h2 : pinsN p b < 2
  · rw [if_pos h2] at hk1
    omega
  · rw [if_neg h2, if_neg]
    intro he
    obtain ⟨f1, f2, f3⟩ := fi_spec (hs p b) 20
    obtain ⟨l1, l2, l3⟩ := la_spec (h := hs p b) (n := 20) ⟨c, hc, hhs⟩
    rw [← he] at l1 l2 l3
    generalize fi (hs p b) 20 = F at *
    have only : ∀ k, k < 20 → hs p b k = true → k = c := by
      have key : ∀ k, k < 20 → hs p b k = true → k = F := fun k hk hh => by
        rcases Nat.lt_trichotomy k F with z | z | z
        · rw [f2 k z] at hh; cases hh
        · exact z
        · rw [l3 k z hk] at hh; cases hh
      intro k hk hh
      rw [key k hk hh, ← key c hc hhs]
    have e1 : fb_ct (fun k => p k == b) 20 = 0 := fb_ct_zero.mpr fun k hk => by
      rw [← Bool.not_eq_true]
      intro z
      have := only k hk (by unfold hs; rw [z]; rfl)
      subst this
      exact hne (by simpa using z)
    have e2 : fb_ct (fun k => p (20 + k) == b) 20 ≤ 1 := ct_one (c := c) fun k hk z => only k hk (by unfold hs; rw [z, Bool.or_true])
    rw [pinsN_split] at h2
    omega
theorem cutL_net {p : Nat → Nat} {n : Nat} : ∀ c x, x ∈ cutL p n c → x.1 = n
  | 0, x, hx => by cases hx
  | c + 1, x, hx => by
    rw [cutL_s] at hx
    split at hx
    · split at hx
      · exact cutL_net c x hx
      · rcases List.mem_append.mp hx with z | z
        · exact cutL_net c x z
        · rw [List.mem_singleton] at z
          rw [z]
    · exact cutL_net c x hx
theorem cut_touch {p : Nat → Nat} {n c : Nat} : ∀ C, C ≤ 20 → c < C → hs p n c = true → (∃ j, j < C ∧ j ≠ c ∧ hs p n j = true) → ∃ x, x ∈ cutL p n C ∧ bt x.2.2.2 c = true
  | 0, _, hc, _, _ => by omega
  | C + 1, hC, hc, hh, hx => by
    have hbl := bef_le (hs p n) C
    by_cases e : hs p n C = true
    · have hb0 : bef (hs p n) C ≠ 0 := by
        intro z
        have z := bef_z.mp z
        obtain ⟨j, hj, hjc, hjh⟩ := hx
        by_cases e2 : c = C
        · rw [z j (by omega)] at hjh; cases hjh
        · rw [z c (by omega)] at hh; cases hh
      have hcut : cutL p n (C + 1) = cutL p n C ++ [(n, bef (hs p n) C - 1, C, two (bef (hs p n) C - 1) C)] := by rw [cutL_s, if_pos e, if_neg hb0]
      have new : c = C ∨ c = bef (hs p n) C - 1 → ∃ x, x ∈ cutL p n (C + 1) ∧ bt x.2.2.2 c = true := by
        intro h
        refine ⟨(n, bef (hs p n) C - 1, C, two (bef (hs p n) C - 1) C), by rw [hcut]; exact List.mem_append.mpr (Or.inr (List.mem_singleton.mpr rfl)), ?_⟩
        show bt (two (bef (hs p n) C - 1) C) c = true
        rw [two_bt (by omega) (by omega) (by omega), Bool.or_eq_true, decide_eq_true_eq, decide_eq_true_eq]
        rcases h with h | h
        · exact Or.inr h
        · exact Or.inl h
      by_cases e2 : c = C
      · exact new (Or.inl e2)
      · by_cases e3 : ∃ j, j < C ∧ j ≠ c ∧ hs p n j = true
        · obtain ⟨x, hx1, hx2⟩ := cut_touch C (by omega) (by omega) hh e3
          exact ⟨x, by rw [hcut]; exact List.mem_append.mpr (Or.inl hx1), hx2⟩
        · refine new (Or.inr ?_)
          have hb := bef_hs hb0
          refine Classical.byContradiction fun z => e3 ⟨bef (hs p n) C - 1, by omega, fun q => z q.symm, hb⟩
    · have hcut : cutL p n (C + 1) = cutL p n C := by rw [cutL_s, if_neg e]
      rw [hcut]
      obtain ⟨j, hj, hjc, hjh⟩ := hx
      have hjC : j ≠ C := fun z => e (by rw [← z]; exact hjh)
      have hcC : c ≠ C := fun z => e (by rw [← z]; exact hh)
      exact cut_touch C (by omega) (by omega) hh ⟨j, by omega, hjc, hjh⟩
theorem allS_mem {p : Nat → Nat} {cuts : Bool} {n : Nat} (h1 : 1 ≤ n) {x : Sg} (hx : x ∈ segsOf p cuts n) : ∀ m, n ≤ m → x ∈ allS p cuts m
  | 0, h => by omega
  | m + 1, h => by
    show x ∈ allS p cuts m ++ segsOf p cuts (m + 1)
    rw [List.mem_append]
    by_cases e : n = m + 1
    · rw [e] at hx; exact Or.inr hx
    · exact Or.inl (allS_mem h1 hx m (by omega))
theorem long_seg {p : Nat → Nat} {cuts : Bool} {n c : Nat} (hc : c < 20) (h3 : kindN p n = 3) (hh : hs p n c = true) : ∃ x, x ∈ segsOf p cuts n ∧ x.1 = n ∧ bt x.2.2.2 c = true := by
  have hex := kind3_ex h3
  unfold segsOf
  rw [if_pos h3]
  cases cuts with
  | false =>
    rw [if_neg (by decide)]
    refine ⟨_, List.mem_singleton.mpr rfl, rfl, ?_⟩
    have := cols_hs (p := p) (n := n) hc
    rw [hh] at this
    exact this
  | true =>
    rw [if_pos rfl]
    obtain ⟨f1, f2, f3⟩ := fi_spec (hs p n) 20
    obtain ⟨l1, l2, l3⟩ := la_spec hex
    have hne : fi (hs p n) 20 ≠ la (hs p n) 20 := by
      intro z
      unfold kindN at h3
      rw [if_pos z] at h3
      split at h3 <;> omega
    generalize fi (hs p n) 20 = F at *
    generalize la (hs p n) 20 = A at *
    have hF : F < 20 := by
      rcases Nat.lt_or_ge F 20 with z | z
      · exact z
      · rw [f2 A (by omega)] at l2; cases l2
    obtain ⟨x, hx1, hx2⟩ := cut_touch (p := p) (n := n) (c := c) 20 (Nat.le_refl _) hc hh (by
      by_cases e : c = F
      · exact ⟨A, l1, fun z => hne (by rw [z]; exact e.symm), l2⟩
      · exact ⟨F, hF, fun z => e z.symm, f3 hF⟩)
    exact ⟨x, hx1, cutL_net 20 x hx1, hx2⟩
theorem LF_of {p : Nat → Nat} {cuts : Bool} (hb : pvB p) (hs1 : anyS p 9 = false) : LF p (sgL p cuts).length (fun k => (gs (sgL p cuts) k).1) (fun k c => bt (gs (sgL p cuts) k).2.2.2 c) := by
  intro c hc hne h0
  have h3 := kind_long hc hb hs1 hne h0
  have hh : hs p (p (20 + c)) c = true := by unfold hs; simp
  obtain ⟨x, hx1, hx2, hx3⟩ := long_seg (cuts := cuts) hc h3 hh
  have hm := allS_mem (by omega) hx1 9 (hb (20 + c) (by omega))
  obtain ⟨k, hk, e⟩ := gs_of_mem hm
  refine ⟨k, hk, ?_, ?_⟩
  · show (gs (allS p cuts 9) k).1 = _
    rw [e]; exact hx2
  · show bt (gs (allS p cuts 9) k).2.2.2 c = true
    rw [e]; exact hx3
end
section
/-! the law's wrappers -/
section WRP
variable {L d n0 n1 : Nat} {I I' : pj_SI} {J J' : pj_SJ} {pl tr rg fr pl' tr' rg' fr' : Nat}
theorem w_pin_ok {a0 : Int32} {a1 : Int32} {a2 : Int32} {v : Int32} (h : pj_Ev L d gX1_pin 0 [.val (.ref 1), .val (.int a0), .val (.int a1), .val (.int a2), .unset, .unset] [] (xS n0 I J pl tr rg fr) (.inl (some (.int v)), xS n1 I' J' pl' tr' rg' fr')) :
    pj_Ev L (d + 1) gX0_pin 0 [.val (.ref 1), .val (.int a0), .val (.int a1), .val (.int a2), .val (.ref 147), .unset] [] (xS n0 I J pl tr rg fr) (.inl (some (.int 0)), xS n1 I' (pj_u2 J' 147 0 v.toInt64) pl' tr' rg' fr') := by
  refine ev_b 6 rfl ?_
  refine ev_c rfl h ?_
  refine ev_b 1 rfl ?_
  refine ev_ls 147 0 _ rfl rfl rfl (Nat.lt_succ_self 0) (by decide) ?_
  refine ev_b 2 rfl ?_
  exact ev_ret rfl rfl rfl
theorem w_pin_1 {a0 : Int32} {a1 : Int32} {a2 : Int32} (h : pj_Ev L d gX1_pin 0 [.val (.ref 1), .val (.int a0), .val (.int a1), .val (.int a2), .unset, .unset] [] (xS n0 I J pl tr rg fr) (.inr 20, xS n1 I' J' pl' tr' rg' fr')) :
    pj_Ev L (d + 1) gX0_pin 0 [.val (.ref 1), .val (.int a0), .val (.int a1), .val (.int a2), .val (.ref 147), .unset] [] (xS n0 I J pl tr rg fr) (.inl (some (.int 1)), xS n1 I' J' pl' tr' rg' fr') := by
  refine ev_b 6 rfl ?_
  refine ev_ct rfl h rfl rfl (Or.inr ⟨rfl, rfl⟩) (Nat.lt_succ_self 5) rfl ?_
  refine ev_b 1 rfl ?_
  exact ev_ret rfl rfl rfl
theorem w_pin_2 {a0 : Int32} {a1 : Int32} {a2 : Int32} (h : pj_Ev L d gX1_pin 0 [.val (.ref 1), .val (.int a0), .val (.int a1), .val (.int a2), .unset, .unset] [] (xS n0 I J pl tr rg fr) (.inr 21, xS n1 I' J' pl' tr' rg' fr')) :
    pj_Ev L (d + 1) gX0_pin 0 [.val (.ref 1), .val (.int a0), .val (.int a1), .val (.int a2), .val (.ref 147), .unset] [] (xS n0 I J pl tr rg fr) (.inl (some (.int 2)), xS n1 I' J' pl' tr' rg' fr') := by
  refine ev_b 6 rfl ?_
  refine ev_ct rfl h rfl rfl (Or.inr ⟨rfl, rfl⟩) (Nat.lt_succ_self 5) rfl ?_
  refine ev_b 1 rfl ?_
  exact ev_ret rfl rfl rfl
theorem w_lay_ok {a0 : Int32} {v : Int32} (h : pj_Ev L d gX1_lay 0 [.val (.ref 1), .val (.int a0), .unset] [] (xS n0 I J pl tr rg fr) (.inl (some (.int v)), xS n1 I' J' pl' tr' rg' fr')) :
    pj_Ev L (d + 1) gX0_lay 0 [.val (.ref 1), .val (.int a0), .val (.ref 147), .unset] [] (xS n0 I J pl tr rg fr) (.inl (some (.int 0)), xS n1 I' (pj_u2 J' 147 0 v.toInt64) pl' tr' rg' fr') := by
  refine ev_b 4 rfl ?_
  refine ev_c rfl h ?_
  refine ev_b 1 rfl ?_
  refine ev_ls 147 0 _ rfl rfl rfl (Nat.lt_succ_self 0) (by decide) ?_
  refine ev_b 2 rfl ?_
  exact ev_ret rfl rfl rfl
theorem w_lay_1 {a0 : Int32} (h : pj_Ev L d gX1_lay 0 [.val (.ref 1), .val (.int a0), .unset] [] (xS n0 I J pl tr rg fr) (.inr 21, xS n1 I' J' pl' tr' rg' fr')) :
    pj_Ev L (d + 1) gX0_lay 0 [.val (.ref 1), .val (.int a0), .val (.ref 147), .unset] [] (xS n0 I J pl tr rg fr) (.inl (some (.int 1)), xS n1 I' J' pl' tr' rg' fr') := by
  refine ev_b 4 rfl ?_
  refine ev_ct rfl h rfl rfl (Or.inl ⟨rfl, 3, rfl, rfl⟩) (Nat.lt_succ_self 3) rfl ?_
  refine ev_b 1 rfl ?_
  exact ev_ret rfl rfl rfl
theorem w_lay_2 {a0 : Int32} (h : pj_Ev L d gX1_lay 0 [.val (.ref 1), .val (.int a0), .unset] [] (xS n0 I J pl tr rg fr) (.inr 22, xS n1 I' J' pl' tr' rg' fr')) :
    pj_Ev L (d + 1) gX0_lay 0 [.val (.ref 1), .val (.int a0), .val (.ref 147), .unset] [] (xS n0 I J pl tr rg fr) (.inl (some (.int 2)), xS n1 I' J' pl' tr' rg' fr') := by
  refine ev_b 4 rfl ?_
  refine ev_ct rfl h rfl rfl (Or.inl ⟨rfl, 3, rfl, rfl⟩) (Nat.lt_succ_self 3) rfl ?_
  refine ev_b 1 rfl ?_
  exact ev_ret rfl rfl rfl
theorem w_layAny_ok {v : Int32} (h : pj_Ev L d gX1_layAny 0 [.val (.ref 1), .unset] [] (xS n0 I J pl tr rg fr) (.inl (some (.int v)), xS n1 I' J' pl' tr' rg' fr')) :
    pj_Ev L (d + 1) gX0_layAny 0 [.val (.ref 1), .val (.ref 147), .unset] [] (xS n0 I J pl tr rg fr) (.inl (some (.int 0)), xS n1 I' (pj_u2 J' 147 0 v.toInt64) pl' tr' rg' fr') := by
  refine ev_b 3 rfl ?_
  refine ev_c rfl h ?_
  refine ev_b 1 rfl ?_
  refine ev_ls 147 0 _ rfl rfl rfl (Nat.lt_succ_self 0) (by decide) ?_
  refine ev_b 2 rfl ?_
  exact ev_ret rfl rfl rfl
theorem w_layAny_1 (h : pj_Ev L d gX1_layAny 0 [.val (.ref 1), .unset] [] (xS n0 I J pl tr rg fr) (.inr 21, xS n1 I' J' pl' tr' rg' fr')) :
    pj_Ev L (d + 1) gX0_layAny 0 [.val (.ref 1), .val (.ref 147), .unset] [] (xS n0 I J pl tr rg fr) (.inl (some (.int 1)), xS n1 I' J' pl' tr' rg' fr') := by
  refine ev_b 3 rfl ?_
  refine ev_ct rfl h rfl rfl (Or.inl ⟨rfl, 2, rfl, rfl⟩) (Nat.lt_succ_self 2) rfl ?_
  refine ev_b 1 rfl ?_
  exact ev_ret rfl rfl rfl
theorem w_layAny_2 (h : pj_Ev L d gX1_layAny 0 [.val (.ref 1), .unset] [] (xS n0 I J pl tr rg fr) (.inr 22, xS n1 I' J' pl' tr' rg' fr')) :
    pj_Ev L (d + 1) gX0_layAny 0 [.val (.ref 1), .val (.ref 147), .unset] [] (xS n0 I J pl tr rg fr) (.inl (some (.int 2)), xS n1 I' J' pl' tr' rg' fr') := by
  refine ev_b 3 rfl ?_
  refine ev_ct rfl h rfl rfl (Or.inl ⟨rfl, 2, rfl, rfl⟩) (Nat.lt_succ_self 2) rfl ?_
  refine ev_b 1 rfl ?_
  exact ev_ret rfl rfl rfl
theorem w_segment_ok {a0 : Int32} {a1 : Int32} {v : Int32} (h : pj_Ev L d gX1_segment 0 [.val (.ref 1), .val (.int a0), .val (.int a1), .unset] [] (xS n0 I J pl tr rg fr) (.inl (some (.int v)), xS n1 I' J' pl' tr' rg' fr')) :
    pj_Ev L (d + 1) gX0_segment 0 [.val (.ref 1), .val (.int a0), .val (.int a1), .val (.ref 147), .unset] [] (xS n0 I J pl tr rg fr) (.inl (some (.int 0)), xS n1 I' (pj_u2 J' 147 0 v.toInt64) pl' tr' rg' fr') := by
  refine ev_b 5 rfl ?_
  refine ev_c rfl h ?_
  refine ev_b 1 rfl ?_
  refine ev_ls 147 0 _ rfl rfl rfl (Nat.lt_succ_self 0) (by decide) ?_
  refine ev_b 2 rfl ?_
  exact ev_ret rfl rfl rfl
theorem w_segment_1 {a0 : Int32} {a1 : Int32} (h : pj_Ev L d gX1_segment 0 [.val (.ref 1), .val (.int a0), .val (.int a1), .unset] [] (xS n0 I J pl tr rg fr) (.inr 20, xS n1 I' J' pl' tr' rg' fr')) :
    pj_Ev L (d + 1) gX0_segment 0 [.val (.ref 1), .val (.int a0), .val (.int a1), .val (.ref 147), .unset] [] (xS n0 I J pl tr rg fr) (.inl (some (.int 1)), xS n1 I' J' pl' tr' rg' fr') := by
  refine ev_b 5 rfl ?_
  refine ev_ct rfl h rfl rfl (Or.inr ⟨rfl, rfl⟩) (Nat.lt_succ_self 4) rfl ?_
  refine ev_b 1 rfl ?_
  exact ev_ret rfl rfl rfl
theorem w_level_ok {a0 : Int32} {a1 : Int32} {v : Int32} (h : pj_Ev L d gX1_level 0 [.val (.ref 1), .val (.int a0), .val (.int a1)] [] (xS n0 I J pl tr rg fr) (.inl (some (.int v)), xS n1 I' J' pl' tr' rg' fr')) :
    pj_Ev L (d + 1) gX0_level 0 [.val (.ref 1), .val (.int a0), .val (.int a1), .val (.ref 147), .unset] [] (xS n0 I J pl tr rg fr) (.inl (some (.int 0)), xS n1 I' (pj_u2 J' 147 0 v.toInt64) pl' tr' rg' fr') := by
  refine ev_b 5 rfl ?_
  refine ev_c rfl h ?_
  refine ev_b 1 rfl ?_
  refine ev_ls 147 0 _ rfl rfl rfl (Nat.lt_succ_self 0) (by decide) ?_
  refine ev_b 2 rfl ?_
  exact ev_ret rfl rfl rfl
theorem w_level_1 {a0 : Int32} {a1 : Int32} (h : pj_Ev L d gX1_level 0 [.val (.ref 1), .val (.int a0), .val (.int a1)] [] (xS n0 I J pl tr rg fr) (.inr 20, xS n1 I' J' pl' tr' rg' fr')) :
    pj_Ev L (d + 1) gX0_level 0 [.val (.ref 1), .val (.int a0), .val (.int a1), .val (.ref 147), .unset] [] (xS n0 I J pl tr rg fr) (.inl (some (.int 1)), xS n1 I' J' pl' tr' rg' fr') := by
  refine ev_b 5 rfl ?_
  refine ev_ct rfl h rfl rfl (Or.inr ⟨rfl, rfl⟩) (Nat.lt_succ_self 4) rfl ?_
  refine ev_b 1 rfl ?_
  exact ev_ret rfl rfl rfl
theorem w_upright_ok {a0 : Int32} {a1 : Int32} {v : Int32} (h : pj_Ev L d gX1_upright 0 [.val (.ref 1), .val (.int a0), .val (.int a1)] [] (xS n0 I J pl tr rg fr) (.inl (some (.int v)), xS n1 I' J' pl' tr' rg' fr')) :
    pj_Ev L (d + 1) gX0_upright 0 [.val (.ref 1), .val (.int a0), .val (.int a1), .val (.ref 147), .unset] [] (xS n0 I J pl tr rg fr) (.inl (some (.int 0)), xS n1 I' (pj_u2 J' 147 0 v.toInt64) pl' tr' rg' fr') := by
  refine ev_b 5 rfl ?_
  refine ev_c rfl h ?_
  refine ev_b 1 rfl ?_
  refine ev_ls 147 0 _ rfl rfl rfl (Nat.lt_succ_self 0) (by decide) ?_
  refine ev_b 2 rfl ?_
  exact ev_ret rfl rfl rfl
theorem w_upright_1 {a0 : Int32} {a1 : Int32} (h : pj_Ev L d gX1_upright 0 [.val (.ref 1), .val (.int a0), .val (.int a1)] [] (xS n0 I J pl tr rg fr) (.inr 20, xS n1 I' J' pl' tr' rg' fr')) :
    pj_Ev L (d + 1) gX0_upright 0 [.val (.ref 1), .val (.int a0), .val (.int a1), .val (.ref 147), .unset] [] (xS n0 I J pl tr rg fr) (.inl (some (.int 1)), xS n1 I' J' pl' tr' rg' fr') := by
  refine ev_b 5 rfl ?_
  refine ev_ct rfl h rfl rfl (Or.inr ⟨rfl, rfl⟩) (Nat.lt_succ_self 4) rfl ?_
  refine ev_b 1 rfl ?_
  exact ev_ret rfl rfl rfl
theorem w_via_ok {a0 : Int32} {a1 : Int32} {b : Bool} (h : pj_Ev L d gX1_via 0 [.val (.ref 1), .val (.int a0), .val (.int a1)] [] (xS n0 I J pl tr rg fr) (.inl (some (.int (bI b))), xS n1 I' J' pl' tr' rg' fr')) :
    pj_Ev L (d + 1) gX0_via 0 [.val (.ref 1), .val (.int a0), .val (.int a1), .val (.ref 147), .unset] [] (xS n0 I J pl tr rg fr) (.inl (some (.int 0)), xS n1 I' (pj_u2 J' 147 0 (lB b)) pl' tr' rg' fr') := by
  refine ev_b 5 rfl ?_
  refine ev_c rfl h ?_
  refine ev_z b rfl rfl (fun e => ?_) (fun e => ?_)
  · subst e
    refine ev_b 1 rfl ?_
    refine ev_ls 147 0 _ rfl rfl rfl (Nat.lt_succ_self 0) (by decide) ?_
    refine ev_b 2 rfl ?_
    exact ev_ret rfl rfl rfl
  · subst e
    refine ev_b 2 rfl ?_
    refine ev_ls 147 0 _ rfl rfl rfl (Nat.lt_succ_self 0) (by decide) ?_
    refine ev_b 2 rfl ?_
    exact ev_ret rfl rfl rfl
theorem w_via_1 {a0 : Int32} {a1 : Int32} (h : pj_Ev L d gX1_via 0 [.val (.ref 1), .val (.int a0), .val (.int a1)] [] (xS n0 I J pl tr rg fr) (.inr 20, xS n1 I' J' pl' tr' rg' fr')) :
    pj_Ev L (d + 1) gX0_via 0 [.val (.ref 1), .val (.int a0), .val (.int a1), .val (.ref 147), .unset] [] (xS n0 I J pl tr rg fr) (.inl (some (.int 1)), xS n1 I' J' pl' tr' rg' fr') := by
  refine ev_b 5 rfl ?_
  refine ev_ct rfl h rfl rfl (Or.inr ⟨rfl, rfl⟩) (Nat.lt_succ_self 4) rfl ?_
  refine ev_b 1 rfl ?_
  exact ev_ret rfl rfl rfl
theorem w_net_ok {a0 : Int32} {a1 : Int32} {v : Int32} (h : pj_Ev L d gX1_net 0 [.val (.ref 1), .val (.int a0), .val (.int a1), .unset] [] (xS n0 I J pl tr rg fr) (.inl (some (.int v)), xS n1 I' J' pl' tr' rg' fr')) :
    pj_Ev L (d + 1) gX0_net 0 [.val (.ref 1), .val (.int a0), .val (.int a1), .val (.ref 147), .unset] [] (xS n0 I J pl tr rg fr) (.inl (some (.int 0)), xS n1 I' (pj_u2 J' 147 0 v.toInt64) pl' tr' rg' fr') := by
  refine ev_b 5 rfl ?_
  refine ev_c rfl h ?_
  refine ev_b 1 rfl ?_
  refine ev_ls 147 0 _ rfl rfl rfl (Nat.lt_succ_self 0) (by decide) ?_
  refine ev_b 2 rfl ?_
  exact ev_ret rfl rfl rfl
theorem w_net_1 {a0 : Int32} {a1 : Int32} (h : pj_Ev L d gX1_net 0 [.val (.ref 1), .val (.int a0), .val (.int a1), .unset] [] (xS n0 I J pl tr rg fr) (.inr 20, xS n1 I' J' pl' tr' rg' fr')) :
    pj_Ev L (d + 1) gX0_net 0 [.val (.ref 1), .val (.int a0), .val (.int a1), .val (.ref 147), .unset] [] (xS n0 I J pl tr rg fr) (.inl (some (.int 1)), xS n1 I' J' pl' tr' rg' fr') := by
  refine ev_b 5 rfl ?_
  refine ev_ct rfl h rfl rfl (Or.inr ⟨rfl, rfl⟩) (Nat.lt_succ_self 4) rfl ?_
  refine ev_b 1 rfl ?_
  exact ev_ret rfl rfl rfl
theorem w_count_ok {a0 : Int32} {v : Int32} (h : pj_Ev L d gX1_count 0 [.val (.ref 1), .val (.int a0), .unset, .unset, .unset] [] (xS n0 I J pl tr rg fr) (.inl (some (.int v)), xS n1 I' J' pl' tr' rg' fr')) :
    pj_Ev L (d + 1) gX0_count 0 [.val (.ref 1), .val (.int a0), .val (.ref 147), .unset] [] (xS n0 I J pl tr rg fr) (.inl (some (.int 0)), xS n1 I' (pj_u2 J' 147 0 v.toInt64) pl' tr' rg' fr') := by
  refine ev_b 4 rfl ?_
  refine ev_c rfl h ?_
  refine ev_b 1 rfl ?_
  refine ev_ls 147 0 _ rfl rfl rfl (Nat.lt_succ_self 0) (by decide) ?_
  refine ev_b 2 rfl ?_
  exact ev_ret rfl rfl rfl
theorem w_count_1 {a0 : Int32} (h : pj_Ev L d gX1_count 0 [.val (.ref 1), .val (.int a0), .unset, .unset, .unset] [] (xS n0 I J pl tr rg fr) (.inr 20, xS n1 I' J' pl' tr' rg' fr')) :
    pj_Ev L (d + 1) gX0_count 0 [.val (.ref 1), .val (.int a0), .val (.ref 147), .unset] [] (xS n0 I J pl tr rg fr) (.inl (some (.int 1)), xS n1 I' J' pl' tr' rg' fr') := by
  refine ev_b 4 rfl ?_
  refine ev_ct rfl h rfl rfl (Or.inl ⟨rfl, 3, rfl, rfl⟩) (Nat.lt_succ_self 3) rfl ?_
  refine ev_b 1 rfl ?_
  exact ev_ret rfl rfl rfl
end WRP
end
section
/-! the law's invariant; tails of its cases -/
set_option maxRecDepth 100000
def INV (xs : Nat → Int32) (I : pj_SI) (pl rg : Nat) : Prop := ∃ (p : Nat → Nat) (dn : Bool) (rs mn tn : Nat) (nt lf rt tk : Nat → Nat) (tc : Nat → Nat → Bool), (∀ k, I 0 k = xs k) ∧ (pvX p I ∧ pvM p I ∧ pvB p) ∧ (I 1 4 = bI dn ∧ I 131 11 = bI dn) ∧ (I 1 9 = I 131 21 ∧ I 1 10 = I 131 22) ∧ (rs ≤ 40 ∧ I 1 7 = nI rs ∧ I 131 19 = nI rs ∧ ∀ k, k < rs → I rg k = I 146 k) ∧ LM I mn tn nt lf rt tk tc ∧ (dn = true → LX pl I mn tn nt lf rt tk tc ∧ LF p mn nt tc) ∧ (dn = false → mn = 0 ∧ tn = 0)
def SHP (pl tr rg fr : Nat) : Prop := ((pl = 4 ∧ tr = 46) ∨ (pl = 46 ∧ tr = 4)) ∧ ((rg = 88 ∧ fr = 89) ∨ (rg = 89 ∧ fr = 88))
def GG (L pc : Nat) (lv : List Slot) (st : List Value) (σ : pj_St) : Prop := ∃ σ', pj_Ev L 15 gL_law pc lv st σ (.inl (some (.int 1)), σ') ∧ pj_cnt σ'.1 ≤ 10000
abbrev lvL (i : Nat) (s5 s6 s7 s8 : Slot) : List Slot := [.val (.ref 0), .val (.ref 1), .val (.ref 131), .val (.ref 147), .val (.int (nI i)), s5, s6, s7, s8]
section TAI
variable {L n0 i c : Nat} {I : pj_SI} {J : pj_SJ} {pl tr rg fr : Nat} {s7 s8 : Slot} {v : Int32}
theorem tl_pin (hc : c < 3) (hk : I 131 0 = nI c) (hv : c = 0 → J 147 0 = v.toInt64) (k : GG L 841 (lvL i (.val (.int (nI c))) (.val (.int v)) s7 s8) [] (xS n0 I J pl tr rg fr)) : GG L 169 (lvL i (.val (.int (nI c))) (.val (.int v)) s7 s8) [] (xS n0 I J pl tr rg fr) := by
  obtain ⟨σ', ev, hcn⟩ := k
  refine ⟨σ', ?_, hcn⟩
  refine ev_b 1 rfl ?_
  refine ev_c rfl m_thrown ?_
  rw [hk]
  refine ev_b 1 rfl ?_
  refine ev_eq c c rfl rfl (by omega) (by omega) (fun _ => ?_) (fun h => absurd rfl h)
  refine ev_b 1 rfl ?_
  refine ev_nzn c (by omega) rfl rfl (fun _ => ev_b 1 rfl ev) (fun h => ?_)
  refine ev_b 2 rfl ?_
  refine ev_la 147 0 _ (hv h) rfl rfl rfl (Nat.lt_succ_self 0) (by decide) ?_
  refine ev_b 3 rfl ?_
  refine ev_if0 (lg_cmp v.toInt64 v.toInt64) rfl rfl (fun _ => ev_b 1 rfl ev) (fun h => ?_)
  exact absurd ((lg_z _ _).mpr rfl) (of_decide_eq_false h)
theorem tl_lay (hc : c < 3) (hk : I 131 0 = nI c) (hv : c = 0 → J 147 0 = v.toInt64) (k : GG L 841 (lvL i (.val (.int (nI c))) (.val (.int v)) s7 s8) [] (xS n0 I J pl tr rg fr)) : GG L 241 (lvL i (.val (.int (nI c))) (.val (.int v)) s7 s8) [] (xS n0 I J pl tr rg fr) := by
  obtain ⟨σ', ev, hcn⟩ := k
  refine ⟨σ', ?_, hcn⟩
  refine ev_b 1 rfl ?_
  refine ev_c rfl m_thrown ?_
  rw [hk]
  refine ev_b 1 rfl ?_
  refine ev_eq c c rfl rfl (by omega) (by omega) (fun _ => ?_) (fun h => absurd rfl h)
  refine ev_b 1 rfl ?_
  refine ev_nzn c (by omega) rfl rfl (fun _ => ev_b 1 rfl ev) (fun h => ?_)
  refine ev_b 2 rfl ?_
  refine ev_la 147 0 _ (hv h) rfl rfl rfl (Nat.lt_succ_self 0) (by decide) ?_
  refine ev_b 3 rfl ?_
  refine ev_if0 (lg_cmp v.toInt64 v.toInt64) rfl rfl (fun _ => ev_b 1 rfl ev) (fun h => ?_)
  exact absurd ((lg_z _ _).mpr rfl) (of_decide_eq_false h)
theorem tl_any (hc : c < 3) (hk : I 131 0 = nI c) (hv : c = 0 → J 147 0 = v.toInt64) (k : GG L 841 (lvL i (.val (.int (nI c))) (.val (.int v)) s7 s8) [] (xS n0 I J pl tr rg fr)) : GG L 285 (lvL i (.val (.int (nI c))) (.val (.int v)) s7 s8) [] (xS n0 I J pl tr rg fr) := by
  obtain ⟨σ', ev, hcn⟩ := k
  refine ⟨σ', ?_, hcn⟩
  refine ev_b 1 rfl ?_
  refine ev_c rfl m_thrown ?_
  rw [hk]
  refine ev_b 1 rfl ?_
  refine ev_eq c c rfl rfl (by omega) (by omega) (fun _ => ?_) (fun h => absurd rfl h)
  refine ev_b 1 rfl ?_
  refine ev_nzn c (by omega) rfl rfl (fun _ => ev_b 1 rfl ev) (fun h => ?_)
  refine ev_b 2 rfl ?_
  refine ev_la 147 0 _ (hv h) rfl rfl rfl (Nat.lt_succ_self 0) (by decide) ?_
  refine ev_b 3 rfl ?_
  refine ev_if0 (lg_cmp v.toInt64 v.toInt64) rfl rfl (fun _ => ev_b 1 rfl ev) (fun h => ?_)
  exact absurd ((lg_z _ _).mpr rfl) (of_decide_eq_false h)
theorem tl_seg (hc : c < 3) (hk : I 131 0 = nI c) (hv : c = 0 → J 147 0 = v.toInt64) (k : GG L 841 (lvL i (.val (.int (nI c))) (.val (.int v)) s7 s8) [] (xS n0 I J pl tr rg fr)) : GG L 378 (lvL i (.val (.int (nI c))) (.val (.int v)) s7 s8) [] (xS n0 I J pl tr rg fr) := by
  obtain ⟨σ', ev, hcn⟩ := k
  refine ⟨σ', ?_, hcn⟩
  refine ev_b 1 rfl ?_
  refine ev_c rfl m_thrown ?_
  rw [hk]
  refine ev_b 1 rfl ?_
  refine ev_eq c c rfl rfl (by omega) (by omega) (fun _ => ?_) (fun h => absurd rfl h)
  refine ev_b 1 rfl ?_
  refine ev_nzn c (by omega) rfl rfl (fun _ => ev_b 1 rfl ev) (fun h => ?_)
  refine ev_b 2 rfl ?_
  refine ev_la 147 0 _ (hv h) rfl rfl rfl (Nat.lt_succ_self 0) (by decide) ?_
  refine ev_b 3 rfl ?_
  refine ev_if0 (lg_cmp v.toInt64 v.toInt64) rfl rfl (fun _ => ev_b 1 rfl ev) (fun h => ?_)
  exact absurd ((lg_z _ _).mpr rfl) (of_decide_eq_false h)
theorem tl_lev (hc : c < 3) (hk : I 131 0 = nI c) (hv : c = 0 → J 147 0 = v.toInt64) (k : GG L 841 (lvL i (.val (.int (nI c))) (.val (.int v)) s7 s8) [] (xS n0 I J pl tr rg fr)) : GG L 446 (lvL i (.val (.int (nI c))) (.val (.int v)) s7 s8) [] (xS n0 I J pl tr rg fr) := by
  obtain ⟨σ', ev, hcn⟩ := k
  refine ⟨σ', ?_, hcn⟩
  refine ev_b 1 rfl ?_
  refine ev_c rfl m_thrown ?_
  rw [hk]
  refine ev_b 1 rfl ?_
  refine ev_eq c c rfl rfl (by omega) (by omega) (fun _ => ?_) (fun h => absurd rfl h)
  refine ev_b 1 rfl ?_
  refine ev_nzn c (by omega) rfl rfl (fun _ => ev_b 1 rfl ev) (fun h => ?_)
  refine ev_b 2 rfl ?_
  refine ev_la 147 0 _ (hv h) rfl rfl rfl (Nat.lt_succ_self 0) (by decide) ?_
  refine ev_b 3 rfl ?_
  refine ev_if0 (lg_cmp v.toInt64 v.toInt64) rfl rfl (fun _ => ev_b 1 rfl ev) (fun h => ?_)
  exact absurd ((lg_z _ _).mpr rfl) (of_decide_eq_false h)
theorem tl_upr (hc : c < 3) (hk : I 131 0 = nI c) (hv : c = 0 → J 147 0 = v.toInt64) (k : GG L 841 (lvL i (.val (.int (nI c))) (.val (.int v)) s7 s8) [] (xS n0 I J pl tr rg fr)) : GG L 514 (lvL i (.val (.int (nI c))) (.val (.int v)) s7 s8) [] (xS n0 I J pl tr rg fr) := by
  obtain ⟨σ', ev, hcn⟩ := k
  refine ⟨σ', ?_, hcn⟩
  refine ev_b 1 rfl ?_
  refine ev_c rfl m_thrown ?_
  rw [hk]
  refine ev_b 1 rfl ?_
  refine ev_eq c c rfl rfl (by omega) (by omega) (fun _ => ?_) (fun h => absurd rfl h)
  refine ev_b 1 rfl ?_
  refine ev_nzn c (by omega) rfl rfl (fun _ => ev_b 1 rfl ev) (fun h => ?_)
  refine ev_b 2 rfl ?_
  refine ev_la 147 0 _ (hv h) rfl rfl rfl (Nat.lt_succ_self 0) (by decide) ?_
  refine ev_b 3 rfl ?_
  refine ev_if0 (lg_cmp v.toInt64 v.toInt64) rfl rfl (fun _ => ev_b 1 rfl ev) (fun h => ?_)
  exact absurd ((lg_z _ _).mpr rfl) (of_decide_eq_false h)
theorem tl_net (hc : c < 3) (hk : I 131 0 = nI c) (hv : c = 0 → J 147 0 = v.toInt64) (k : GG L 841 (lvL i (.val (.int (nI c))) (.val (.int v)) s7 s8) [] (xS n0 I J pl tr rg fr)) : GG L 711 (lvL i (.val (.int (nI c))) (.val (.int v)) s7 s8) [] (xS n0 I J pl tr rg fr) := by
  obtain ⟨σ', ev, hcn⟩ := k
  refine ⟨σ', ?_, hcn⟩
  refine ev_b 1 rfl ?_
  refine ev_c rfl m_thrown ?_
  rw [hk]
  refine ev_b 1 rfl ?_
  refine ev_eq c c rfl rfl (by omega) (by omega) (fun _ => ?_) (fun h => absurd rfl h)
  refine ev_b 1 rfl ?_
  refine ev_nzn c (by omega) rfl rfl (fun _ => ev_b 1 rfl ev) (fun h => ?_)
  refine ev_b 2 rfl ?_
  refine ev_la 147 0 _ (hv h) rfl rfl rfl (Nat.lt_succ_self 0) (by decide) ?_
  refine ev_b 3 rfl ?_
  refine ev_if0 (lg_cmp v.toInt64 v.toInt64) rfl rfl (fun _ => ev_b 1 rfl ev) (fun h => ?_)
  exact absurd ((lg_z _ _).mpr rfl) (of_decide_eq_false h)
theorem tl_cnt (hc : c < 3) (hk : I 131 0 = nI c) (hv : c = 0 → J 147 0 = v.toInt64) (k : GG L 841 (lvL i (.val (.int (nI c))) (.val (.int v)) s7 s8) [] (xS n0 I J pl tr rg fr)) : GG L 767 (lvL i (.val (.int (nI c))) (.val (.int v)) s7 s8) [] (xS n0 I J pl tr rg fr) := by
  obtain ⟨σ', ev, hcn⟩ := k
  refine ⟨σ', ?_, hcn⟩
  refine ev_b 1 rfl ?_
  refine ev_c rfl m_thrown ?_
  rw [hk]
  refine ev_b 1 rfl ?_
  refine ev_eq c c rfl rfl (by omega) (by omega) (fun _ => ?_) (fun h => absurd rfl h)
  refine ev_b 1 rfl ?_
  refine ev_nzn c (by omega) rfl rfl (fun _ => ev_b 1 rfl ev) (fun h => ?_)
  refine ev_b 2 rfl ?_
  refine ev_la 147 0 _ (hv h) rfl rfl rfl (Nat.lt_succ_self 0) (by decide) ?_
  refine ev_b 3 rfl ?_
  refine ev_if0 (lg_cmp v.toInt64 v.toInt64) rfl rfl (fun _ => ev_b 1 rfl ev) (fun h => ?_)
  exact absurd ((lg_z _ _).mpr rfl) (of_decide_eq_false h)
end TAI
end
section
/-! the law's cases: those that only look -/
set_option maxRecDepth 100000
theorem INV.u {xs : Nat → Int32} {I : pj_SI} {pl rg : Nat} {v : Int32} (hs : ∃ tr fr, SHP pl tr rg fr) (h : INV xs I pl rg) : INV xs (pj_u2 I 131 0 v) pl rg := by
  obtain ⟨p, dn, rs, mn, tn, nt, lf, rt, tk, tc, h0, ⟨h1, h2, h3⟩, ⟨h4, h5⟩, ⟨h6, h7⟩, ⟨h8, h9, h10, h11⟩, h12, h13, h14⟩ := h
  obtain ⟨tr, fr, hs⟩ := hs
  have hpl : pl = 4 ∨ pl = 46 := by rcases hs.1 with z | z <;> omega
  have hrg : rg = 88 ∨ rg = 89 := by rcases hs.2 with z | z <;> omega
  have q : ∀ o k, o ≠ 131 → (pj_u2 I 131 0 v) o k = I o k := fun o k ho => u2n _ _ ho
  have q1 : ∀ k, k ≠ 0 → (pj_u2 I 131 0 v) 131 k = I 131 k := fun k hk => u2k _ _ hk
  refine ⟨p, dn, rs, mn, tn, nt, lf, rt, tk, tc, fun k => by rw [q _ _ (by decide)]; exact h0 k, ⟨h1.u (by decide) (by decide), h2.u (by decide), h3⟩, ⟨by rw [q _ _ (by decide)]; exact h4, by rw [q1 _ (by decide)]; exact h5⟩, ⟨by rw [q _ _ (by decide), q1 _ (by decide)]; exact h6, by rw [q _ _ (by decide), q1 _ (by decide)]; exact h7⟩, ⟨h8, by rw [q _ _ (by decide)]; exact h9, by rw [q1 _ (by decide)]; exact h10, fun k hk => by rw [q _ _ (by omega), q _ _ (by decide)]; exact h11 k hk⟩, h12.u, fun hd => ?_, h14⟩
  obtain ⟨⟨g1, g2, g3, g4, g5, g6⟩, hF⟩ := h13 hd
  refine ⟨⟨by rw [q _ _ (by omega)]; exact g1, by rw [q _ _ (by omega)]; exact g2, g3, fun k hk => ?_, g5, fun t ht c hc => ?_⟩, hF⟩
  · rw [q _ _ (by omega), q _ _ (by omega), q _ _ (by omega), q _ _ (by omega), q _ _ (by omega)]
    exact g4 k hk
  · rw [q _ _ (by omega)]
    exact g6 t ht c hc
/-- a word of the script -/
theorem ev_sc {L d i : Nat} {G : pj_Mi} {pc : Nat} {lv : List Slot} {st : List Value} {n0 : Nat} {I : pj_SI} {J : pj_SJ} {P : pj_SP} {r : pj_Rs × pj_St} {xs : Nat → Int32} (k : Nat) (hx : ∀ k, I 0 k = xs k) (hL : L ≤ 256) (hk : i + k < L) (hc : pj_cd G pc = some (.iaload, 1)) (kk : pj_Ev L d G (pc + 1) lv (.int (xs (i + k)) :: st) (.inr n0, I, J, P) r) : pj_Ev L d G pc lv (.int (nI i + nI k) :: .ref 0 :: st) (.inr n0, I, J, P) r := by
  rw [nI_add]
  exact ev_ia 0 (i + k) _ (hx _) hc rfl rfl (show i + k < L from hk) (by omega) kk
theorem SHP_pl {pl tr rg fr : Nat} (h : SHP pl tr rg fr) : isP pl := by rcases h.1 with z | z <;> (unfold isP; omega)
theorem SHP_tr {pl tr rg fr : Nat} (h : SHP pl tr rg fr) : isP tr := by rcases h.1 with z | z <;> (unfold isP; omega)
theorem SHP_rg {pl tr rg fr : Nat} (h : SHP pl tr rg fr) : isR rg := by rcases h.2 with z | z <;> (unfold isR; omega)
theorem SHP_fr {pl tr rg fr : Nat} (h : SHP pl tr rg fr) : isR fr := by rcases h.2 with z | z <;> (unfold isR; omega)
theorem SHP_ne {pl tr rg fr : Nat} (h : SHP pl tr rg fr) : pl ≠ tr := by rcases h.1 with z | z <;> omega
/-- what goes on after a case -/
def KK (L : Nat) (xs : Nat → Int32) (i n0 : Nat) : Prop := ∀ (n1 : Nat) (I' : pj_SI) (J' : pj_SJ) (pl' tr' rg' fr' : Nat) (s5 s6 s7 s8 : Slot), n1 ≤ n0 + 3 → SHP pl' tr' rg' fr' → INV xs I' pl' rg' → GG L 841 (lvL i s5 s6 s7 s8) [] (xS n1 I' J' pl' tr' rg' fr')
section CAS
variable {L n0 i : Nat} {I : pj_SI} {J : pj_SJ} {pl tr rg fr : Nat} {s5 s6 s7 s8 : Slot} {xs : Nat → Int32}
theorem cs_seg (hI : INV xs I pl rg) (hs : SHP pl tr rg fr) (hL : L ≤ 256) (hi : i + 3 < L) (K : KK L xs i n0) : GG L 341 (lvL i s5 s6 s7 s8) [] (xS n0 I J pl tr rg fr) := by
  obtain ⟨p, dn, rs, mn, tn, nt, lf, rt, tk, tc, h0, ⟨h1, h2, h3⟩, ⟨h4, h5⟩, ⟨h6, h7⟩, ⟨h8, h9, h10, h11⟩, h12, h13, h14⟩ := id hI
  have hu := fun v => INV.u (v := v) ⟨tr, fr, hs⟩ hI
  have hpl := SHP_pl hs
  have walk : ∀ (c n1 : Nat) (v : Int32) (J' : pj_SJ), c < 3 → n1 ≤ n0 + 3 → (c = 0 → J' 147 0 = v.toInt64) →
      pj_Ev L 14 gX0_segment 0 [.val (.ref 1), .val (.int (xs (i + 1))), .val (.int (xs (i + 2))), .val (.ref 147), .unset] [] (xS n0 I J pl tr rg fr) (.inl (some (.int (nI c))), xS n1 I J' pl tr rg fr) →
      pj_Ev L 14 gX4_segment 0 [.val (.ref 131), .val (.int (xs (i + 1))), .val (.int (xs (i + 2)))] [] (xS n1 I J' pl tr rg fr) (.inl (some (.int v)), xS n1 (pj_u2 I 131 0 (nI c)) J' pl tr rg fr) → GG L 341 (lvL i s5 s6 s7 s8) [] (xS n0 I J pl tr rg fr) := by
    intro c n1 v J' hc hn hv e1 e2
    obtain ⟨σ', ev, hcn⟩ := tl_seg (L := L) (i := i) (c := c) (v := v) (n0 := n1) (I := pj_u2 I 131 0 (nI c)) (J := J') (pl := pl) (tr := tr) (rg := rg) (fr := fr) (s7 := s7) (s8 := s8) hc (pj_u2_self _ _ _ _) hv (K n1 _ J' pl tr rg fr _ _ _ _ hn hs (hu _))
    refine ⟨σ', ?_, hcn⟩
    refine ev_b 5 rfl ?_
    refine ev_sc 1 h0 hL (by omega) rfl ?_
    refine ev_b 4 rfl ?_
    refine ev_sc 2 h0 hL (by omega) rfl ?_
    refine ev_b 1 rfl ?_
    refine ev_c rfl e1 ?_
    refine ev_b 6 rfl ?_
    refine ev_sc 1 h0 hL (by omega) rfl ?_
    refine ev_b 4 rfl ?_
    refine ev_sc 2 h0 hL (by omega) rfl ?_
    refine ev_c rfl e2 ?_
    exact ev_b 1 rfl ev
  by_cases hyes : (∃ k, k < mn ∧ xs (i + 1) = nI k) ∧ ∃ j, j < 4 ∧ xs (i + 2) = nI j
  · obtain ⟨⟨k, hk, ha⟩, j, hj, hw⟩ := hyes
    have hd : dn = true := by
      cases dn with
      | true => rfl
      | false => have := (h14 rfl).1; omega
    subst hd
    have c1 := c_segment_ok (L := L) (d := 12) (n0 := n0) (J := J) (tr := tr) (rg := rg) (fr := fr) hpl h4 (h13 rfl).1 hk hj
    have c2 := m_segment_ok (L := L) (d := 13) (n0 := n0) (J := pj_u2 J 147 0 (nI (segV nt lf rt tk k j)).toInt64) (pl := pl) (tr := tr) (rg := rg) (fr := fr) h12 hk hj
    rw [← ha, ← hw] at c1 c2
    exact walk 0 n0 _ _ (by decide) (by omega) (fun _ => pj_u2_self _ _ _ _) (w_segment_ok c1) c2
  · exact walk 1 (n0 + 1) 0 J (by decide) (by omega) (fun z => absurd z (by decide)) (w_segment_1 (c_segment_no hpl h4 (fun h => (h13 h).1.1) (fun h => (h14 h).1) h12.2.2.1.1 hyes)) (m_segment_no h12 hyes)
theorem cs_lev (hI : INV xs I pl rg) (hs : SHP pl tr rg fr) (hL : L ≤ 256) (hi : i + 3 < L) (K : KK L xs i n0) : GG L 409 (lvL i s5 s6 s7 s8) [] (xS n0 I J pl tr rg fr) := by
  obtain ⟨p, dn, rs, mn, tn, nt, lf, rt, tk, tc, h0, ⟨h1, h2, h3⟩, ⟨h4, h5⟩, ⟨h6, h7⟩, ⟨h8, h9, h10, h11⟩, h12, h13, h14⟩ := id hI
  have hu := fun v => INV.u (v := v) ⟨tr, fr, hs⟩ hI
  have hpl := SHP_pl hs
  have walk : ∀ (c n1 : Nat) (v : Int32) (J' : pj_SJ), c < 3 → n1 ≤ n0 + 3 → (c = 0 → J' 147 0 = v.toInt64) →
      pj_Ev L 14 gX0_level 0 [.val (.ref 1), .val (.int (xs (i + 1))), .val (.int (xs (i + 2))), .val (.ref 147), .unset] [] (xS n0 I J pl tr rg fr) (.inl (some (.int (nI c))), xS n1 I J' pl tr rg fr) →
      pj_Ev L 14 gX4_level 0 [.val (.ref 131), .val (.int (xs (i + 1))), .val (.int (xs (i + 2)))] [] (xS n1 I J' pl tr rg fr) (.inl (some (.int v)), xS n1 (pj_u2 I 131 0 (nI c)) J' pl tr rg fr) → GG L 409 (lvL i s5 s6 s7 s8) [] (xS n0 I J pl tr rg fr) := by
    intro c n1 v J' hc hn hv e1 e2
    obtain ⟨σ', ev, hcn⟩ := tl_lev (L := L) (i := i) (c := c) (v := v) (n0 := n1) (I := pj_u2 I 131 0 (nI c)) (J := J') (pl := pl) (tr := tr) (rg := rg) (fr := fr) (s7 := s7) (s8 := s8) hc (pj_u2_self _ _ _ _) hv (K n1 _ J' pl tr rg fr _ _ _ _ hn hs (hu _))
    refine ⟨σ', ?_, hcn⟩
    refine ev_b 5 rfl ?_
    refine ev_sc 1 h0 hL (by omega) rfl ?_
    refine ev_b 4 rfl ?_
    refine ev_sc 2 h0 hL (by omega) rfl ?_
    refine ev_b 1 rfl ?_
    refine ev_c rfl e1 ?_
    refine ev_b 6 rfl ?_
    refine ev_sc 1 h0 hL (by omega) rfl ?_
    refine ev_b 4 rfl ?_
    refine ev_sc 2 h0 hL (by omega) rfl ?_
    refine ev_c rfl e2 ?_
    exact ev_b 1 rfl ev
  by_cases hyes : (∃ k, k < tn ∧ xs (i + 1) = nI k) ∧ ∃ j, j < 20 ∧ xs (i + 2) = nI j
  · obtain ⟨⟨k, hk, ha⟩, j, hj, hw⟩ := hyes
    have hd : dn = true := by
      cases dn with
      | true => rfl
      | false => have := (h14 rfl).2; omega
    subst hd
    have c1 := c_level_ok (L := L) (d := 12) (n0 := n0) (J := J) (tr := tr) (rg := rg) (fr := fr) hpl h4 (h13 rfl).1 hk hj
    have c2 := m_level_ok (L := L) (d := 12) (n0 := n0) (J := pj_u2 J 147 0 (nI (lev nt lf rt tk k j mn)).toInt64) (pl := pl) (tr := tr) (rg := rg) (fr := fr) h12 hk hj
    rw [← ha, ← hw] at c1 c2
    exact walk 0 n0 _ _ (by decide) (by omega) (fun _ => pj_u2_self _ _ _ _) (w_level_ok c1) c2
  · exact walk 1 (n0 + 1) 0 J (by decide) (by omega) (fun z => absurd z (by decide)) (w_level_1 (c_level_no hpl h4 (fun h => (h13 h).1.2.1) (fun h => (h14 h).2) h12.2.2.1.2 hyes)) (m_level_no (d := 12) h12 hyes)
theorem cs_upr (hI : INV xs I pl rg) (hs : SHP pl tr rg fr) (hL : L ≤ 256) (hi : i + 3 < L) (K : KK L xs i n0) : GG L 477 (lvL i s5 s6 s7 s8) [] (xS n0 I J pl tr rg fr) := by
  obtain ⟨p, dn, rs, mn, tn, nt, lf, rt, tk, tc, h0, ⟨h1, h2, h3⟩, ⟨h4, h5⟩, ⟨h6, h7⟩, ⟨h8, h9, h10, h11⟩, h12, h13, h14⟩ := id hI
  have hu := fun v => INV.u (v := v) ⟨tr, fr, hs⟩ hI
  have hpl := SHP_pl hs
  have walk : ∀ (c n1 : Nat) (v : Int32) (J' : pj_SJ), c < 3 → n1 ≤ n0 + 3 → (c = 0 → J' 147 0 = v.toInt64) →
      pj_Ev L 14 gX0_upright 0 [.val (.ref 1), .val (.int (xs (i + 1))), .val (.int (xs (i + 2))), .val (.ref 147), .unset] [] (xS n0 I J pl tr rg fr) (.inl (some (.int (nI c))), xS n1 I J' pl tr rg fr) →
      pj_Ev L 14 gX4_upright 0 [.val (.ref 131), .val (.int (xs (i + 1))), .val (.int (xs (i + 2)))] [] (xS n1 I J' pl tr rg fr) (.inl (some (.int v)), xS n1 (pj_u2 I 131 0 (nI c)) J' pl tr rg fr) → GG L 477 (lvL i s5 s6 s7 s8) [] (xS n0 I J pl tr rg fr) := by
    intro c n1 v J' hc hn hv e1 e2
    obtain ⟨σ', ev, hcn⟩ := tl_upr (L := L) (i := i) (c := c) (v := v) (n0 := n1) (I := pj_u2 I 131 0 (nI c)) (J := J') (pl := pl) (tr := tr) (rg := rg) (fr := fr) (s7 := s7) (s8 := s8) hc (pj_u2_self _ _ _ _) hv (K n1 _ J' pl tr rg fr _ _ _ _ hn hs (hu _))
    refine ⟨σ', ?_, hcn⟩
    refine ev_b 5 rfl ?_
    refine ev_sc 1 h0 hL (by omega) rfl ?_
    refine ev_b 4 rfl ?_
    refine ev_sc 2 h0 hL (by omega) rfl ?_
    refine ev_b 1 rfl ?_
    refine ev_c rfl e1 ?_
    refine ev_b 6 rfl ?_
    refine ev_sc 1 h0 hL (by omega) rfl ?_
    refine ev_b 4 rfl ?_
    refine ev_sc 2 h0 hL (by omega) rfl ?_
    refine ev_c rfl e2 ?_
    exact ev_b 1 rfl ev
  by_cases hyes : dn = true ∧ (∃ c, c < 20 ∧ xs (i + 1) = nI c) ∧ ∃ r, r ≤ tn + 1 ∧ xs (i + 2) = rI r
  · obtain ⟨hd, ⟨k, hk, ha⟩, j, hj, hw⟩ := hyes
    subst hd
    have c1 := c_upright_ok (L := L) (d := 10) (n0 := n0) (J := J) (tr := tr) (rg := rg) (fr := fr) h1 h3 hpl h4 (h13 rfl).1 hk hj
    have c2 := m_upright_ok (L := L) (d := 12) (n0 := n0) (J := pj_u2 J 147 0 (nI (upA p nt tk tc mn k j)).toInt64) (pl := pl) (tr := tr) (rg := rg) (fr := fr) h2 h3 h5 h12 (h13 rfl).2 hk hj
    rw [← ha, ← hw] at c1 c2
    exact walk 0 n0 _ _ (by decide) (by omega) (fun _ => pj_u2_self _ _ _ _) (w_upright_ok c1) c2
  · exact walk 1 (n0 + 1) 0 J (by decide) (by omega) (fun z => absurd z (by decide)) (w_upright_1 (c_upright_no hpl h4 (fun h => (h13 h).1.2.1) h12.2.2.1.2 hyes)) (m_upright_no (d := 12) h5 h12 hyes)
theorem cs_net (hI : INV xs I pl rg) (hs : SHP pl tr rg fr) (hL : L ≤ 256) (hi : i + 3 < L) (K : KK L xs i n0) : GG L 674 (lvL i s5 s6 s7 s8) [] (xS n0 I J pl tr rg fr) := by
  obtain ⟨p, dn, rs, mn, tn, nt, lf, rt, tk, tc, h0, ⟨h1, h2, h3⟩, ⟨h4, h5⟩, ⟨h6, h7⟩, ⟨h8, h9, h10, h11⟩, h12, h13, h14⟩ := id hI
  have hu := fun v => INV.u (v := v) ⟨tr, fr, hs⟩ hI
  have hpl := SHP_pl hs
  have walk : ∀ (c n1 : Nat) (v : Int32) (J' : pj_SJ), c < 3 → n1 ≤ n0 + 3 → (c = 0 → J' 147 0 = v.toInt64) →
      pj_Ev L 14 gX0_net 0 [.val (.ref 1), .val (.int (xs (i + 1))), .val (.int (xs (i + 2))), .val (.ref 147), .unset] [] (xS n0 I J pl tr rg fr) (.inl (some (.int (nI c))), xS n1 I J' pl tr rg fr) →
      pj_Ev L 14 gX4_net 0 [.val (.ref 131), .val (.int (xs (i + 1))), .val (.int (xs (i + 2))), .unset] [] (xS n1 I J' pl tr rg fr) (.inl (some (.int v)), xS n1 (pj_u2 I 131 0 (nI c)) J' pl tr rg fr) → GG L 674 (lvL i s5 s6 s7 s8) [] (xS n0 I J pl tr rg fr) := by
    intro c n1 v J' hc hn hv e1 e2
    obtain ⟨σ', ev, hcn⟩ := tl_net (L := L) (i := i) (c := c) (v := v) (n0 := n1) (I := pj_u2 I 131 0 (nI c)) (J := J') (pl := pl) (tr := tr) (rg := rg) (fr := fr) (s7 := s7) (s8 := s8) hc (pj_u2_self _ _ _ _) hv (K n1 _ J' pl tr rg fr _ _ _ _ hn hs (hu _))
    refine ⟨σ', ?_, hcn⟩
    refine ev_b 5 rfl ?_
    refine ev_sc 1 h0 hL (by omega) rfl ?_
    refine ev_b 4 rfl ?_
    refine ev_sc 2 h0 hL (by omega) rfl ?_
    refine ev_b 1 rfl ?_
    refine ev_c rfl e1 ?_
    refine ev_b 6 rfl ?_
    refine ev_sc 1 h0 hL (by omega) rfl ?_
    refine ev_b 4 rfl ?_
    refine ev_sc 2 h0 hL (by omega) rfl ?_
    refine ev_c rfl e2 ?_
    exact ev_b 1 rfl ev
  by_cases hyes : (∃ n, 1 ≤ n ∧ n ≤ 9 ∧ xs (i + 1) = nI n) ∧ ∃ k, k < 4 ∧ xs (i + 2) = nI k
  · obtain ⟨⟨k, hk, hk9, ha⟩, j, hj, hw⟩ := hyes
    have c1 := c_net_ok (L := L) (d := 10) (n0 := n0) (J := J) (pl := pl) (tr := tr) (rg := rg) (fr := fr) h1 h3 hk hk9 hj
    have c2 := m_net_ok (L := L) (d := 12) (n0 := n0) (J := pj_u2 J 147 0 (netV p k j).toInt64) (pl := pl) (tr := tr) (rg := rg) (fr := fr) h2 h3 hk hk9 hj
    rw [← ha, ← hw] at c1 c2
    exact walk 0 n0 _ _ (by decide) (by omega) (fun _ => pj_u2_self _ _ _ _) (w_net_ok c1) c2
  · exact walk 1 (n0 + 1) 0 J (by decide) (by omega) (fun z => absurd z (by decide)) (w_net_1 (c_net_no hyes)) (m_net_no (d := 13) hyes)
end CAS
end
section
/-! the law's cases: count, ring, density, pairs, via, used -/
set_option maxRecDepth 100000
/-- what may change and leave the invariant -/
def FREE (tr fr : Nat) : Nat → Nat → Prop := fun o k => (tr ≤ o ∧ o < tr + 42) ∨ o = fr ∨ (o = 1 ∧ k = 8) ∨ (o = 131 ∧ (k = 0 ∨ k = 2)) ∨ (133 ≤ o ∧ o ≤ 136) ∨ o = 139 ∨ o = 140
theorem INV_fr {xs : Nat → Int32} {I I' : pj_SI} {pl tr rg fr : Nat} (hs : SHP pl tr rg fr) (hf : Fr (FREE tr fr) I I') (h : INV xs I pl rg) : INV xs I' pl rg := by
  obtain ⟨p, dn, rs, mn, tn, nt, lf, rt, tk, tc, h0, ⟨h1, h2, h3⟩, ⟨h4, h5⟩, ⟨h6, h7⟩, ⟨h8, h9, h10, h11⟩, h12, h13, h14⟩ := h
  obtain ⟨hp, hr⟩ := hs
  have q : ∀ o k, ¬ ((tr ≤ o ∧ o < tr + 42) ∨ o = fr ∨ (o = 1 ∧ k = 8) ∨ (o = 131 ∧ (k = 0 ∨ k = 2)) ∨ (133 ≤ o ∧ o ≤ 136) ∨ o = 139 ∨ o = 140) → I' o k = I o k := fun o k z => hf o k z
  refine ⟨p, dn, rs, mn, tn, nt, lf, rt, tk, tc, fun k => by rw [q _ _ (by omega)]; exact h0 k, ⟨fun c hc => by rw [q _ _ (by omega), q _ _ (by omega)]; exact h1 c hc, fun k hk => by rw [q _ _ (by omega)]; exact h2 k hk, h3⟩, ⟨by rw [q _ _ (by omega)]; exact h4, by rw [q _ _ (by omega)]; exact h5⟩, ⟨by rw [q _ _ (by omega), q _ _ (by omega)]; exact h6, by rw [q _ _ (by omega), q _ _ (by omega)]; exact h7⟩, ⟨h8, by rw [q _ _ (by omega)]; exact h9, by rw [q _ _ (by omega)]; exact h10, fun k hk => by rw [q _ _ (by omega), q _ _ (by omega)]; exact h11 k hk⟩, ?_, fun hd => ?_, h14⟩
  · obtain ⟨g1, g2, g3, g4, g5⟩ := h12
    refine ⟨by rw [q _ _ (by omega)]; exact g1, by rw [q _ _ (by omega)]; exact g2, g3, fun k hk => ?_, g5⟩
    rw [q _ _ (by omega), q _ _ (by omega), q _ _ (by omega), q _ _ (by omega), q _ _ (by omega)]
    exact g4 k hk
  · obtain ⟨⟨g1, g2, g3, g4, g5, g6⟩, hF⟩ := h13 hd
    refine ⟨⟨by rw [q _ _ (by omega)]; exact g1, by rw [q _ _ (by omega)]; exact g2, g3, fun k hk => ?_, g5, fun t ht c hc => ?_⟩, hF⟩
    · rw [q _ _ (by omega), q _ _ (by omega), q _ _ (by omega), q _ _ (by omega), q _ _ (by omega)]
      exact g4 k hk
    · rw [q _ _ (by omega)]
      exact g6 t ht c hc
theorem ev_f2d {L d : Nat} {G : pj_Mi} {pc : Nat} {lv : List Slot} {st : List Value} {σ : pj_St} {r : pj_Rs × pj_St} {x : UInt32} (hok : x.toNat % 2 ^ 31 ≤ 2139095040) (hc : pj_cd G pc = some (.f2d, 1)) (k : pj_Ev L d G (pc + 1) lv (.double (FP.f2d x) :: st) σ r) : pj_Ev L d G pc lv (.float x :: st) σ r := by
  refine ev_1 hc rfl rfl rfl ?_ k
  show (if FP.f2d x &&& 0x7fffffffffffffff ≤ 0x7ff0000000000000 then some (pc + 1, lv, .double (FP.f2d x) :: st, σ) else none) = _
  rw [if_pos (m64 (f2d_ok hok))]
section CAS2
variable {L n0 i : Nat} {I : pj_SI} {J : pj_SJ} {pl tr rg fr : Nat} {s5 s6 s7 s8 : Slot} {xs : Nat → Int32}
theorem cs_cnt (hI : INV xs I pl rg) (hs : SHP pl tr rg fr) (hL : L ≤ 256) (hi : i + 3 < L) (K : KK L xs i n0) : GG L 742 (lvL i s5 s6 s7 s8) [] (xS n0 I J pl tr rg fr) := by
  obtain ⟨p, dn, rs, mn, tn, nt, lf, rt, tk, tc, h0, ⟨h1, h2, h3⟩, ⟨h4, h5⟩, ⟨h6, h7⟩, ⟨h8, h9, h10, h11⟩, h12, h13, h14⟩ := id hI
  have hu := fun v => INV.u (v := v) ⟨tr, fr, hs⟩ hI
  have hpl := SHP_pl hs
  have walk : ∀ (c n1 : Nat) (v : Int32) (J' : pj_SJ), c < 3 → n1 ≤ n0 + 3 → (c = 0 → J' 147 0 = v.toInt64) →
      pj_Ev L 14 gX0_count 0 [.val (.ref 1), .val (.int (xs (i + 1))), .val (.ref 147), .unset] [] (xS n0 I J pl tr rg fr) (.inl (some (.int (nI c))), xS n1 I J' pl tr rg fr) →
      pj_Ev L 14 gX4_count 0 [.val (.ref 131), .val (.int (xs (i + 1)))] [] (xS n1 I J' pl tr rg fr) (.inl (some (.int v)), xS n1 (pj_u2 I 131 0 (nI c)) J' pl tr rg fr) → GG L 742 (lvL i s5 s6 s7 s8) [] (xS n0 I J pl tr rg fr) := by
    intro c n1 v J' hc hn hv e1 e2
    obtain ⟨σ', ev, hcn⟩ := tl_cnt (L := L) (i := i) (c := c) (v := v) (n0 := n1) (I := pj_u2 I 131 0 (nI c)) (J := J') (pl := pl) (tr := tr) (rg := rg) (fr := fr) (s7 := s7) (s8 := s8) hc (pj_u2_self _ _ _ _) hv (K n1 _ J' pl tr rg fr _ _ _ _ hn hs (hu _))
    refine ⟨σ', ?_, hcn⟩
    refine ev_b 5 rfl ?_
    refine ev_sc 1 h0 hL (by omega) rfl ?_
    refine ev_b 1 rfl ?_
    refine ev_c rfl e1 ?_
    refine ev_b 6 rfl ?_
    refine ev_sc 1 h0 hL (by omega) rfl ?_
    refine ev_c rfl e2 ?_
    exact ev_b 1 rfl ev
  by_cases hyes : ∃ k, k < 6 ∧ xs (i + 1) = nI k
  · obtain ⟨k, hk, ha⟩ := hyes
    have hF : 0 < tn → LF p mn nt tc := fun h => by
      cases dn with
      | true => exact (h13 rfl).2
      | false => have := (h14 rfl).2; omega
    have c1 := c_count_ok (L := L) (d := 9) (n0 := n0) (J := J) (tr := tr) (rg := rg) (fr := fr) h1 h3 hpl h4 (fun h => (h13 h).1) h14 hk
    have c2 := fun J' => m_count_ok (L := L) (d := 10) (n0 := n0) (J := J') (pl := pl) (tr := tr) (rg := rg) (fr := fr) h2 h3 h5 h12 hF hk
    rw [← h6, ← h7] at c2
    rw [← ha] at c1 c2
    exact walk 0 n0 _ _ (by decide) (by omega) (fun _ => pj_u2_self _ _ _ _) (w_count_ok c1) (c2 _)
  · exact walk 1 (n0 + 1) 0 J (by decide) (by omega) (fun z => absurd z (by decide)) (w_count_1 (c_count_no hyes)) (m_count_no (d := 13) hyes)
theorem cs_ring (hI : INV xs I pl rg) (hs : SHP pl tr rg fr) (hL : L ≤ 256) (hi : i + 3 < L) (K : KK L xs i n0) : GG L 316 (lvL i s5 s6 s7 s8) [] (xS n0 I J pl tr rg fr) := by
  obtain ⟨p, dn, rs, mn, tn, nt, lf, rt, tk, tc, h0, ⟨h1, h2, h3⟩, ⟨h4, h5⟩, ⟨h6, h7⟩, ⟨h8, h9, h10, h11⟩, h12, h13, h14⟩ := id hI
  obtain ⟨σ', ev, hcn⟩ := K n0 (pj_u2 I 131 0 0) J pl tr rg fr s5 s6 s7 s8 (by omega) hs (INV.u ⟨tr, fr, hs⟩ hI)
  have walk : ∀ v : Int32, pj_Ev L 14 gX1_ring 0 [.val (.ref 1), .val (.int (xs (i + 1)))] [] (xS n0 I J pl tr rg fr) (.inl (some (.int v)), xS n0 I J pl tr rg fr) →
      pj_Ev L 14 gX4_ring 0 [.val (.ref 131), .val (.int (xs (i + 1)))] [] (xS n0 I J pl tr rg fr) (.inl (some (.int v)), xS n0 (pj_u2 I 131 0 0) J pl tr rg fr) → GG L 316 (lvL i s5 s6 s7 s8) [] (xS n0 I J pl tr rg fr) := by
    intro v e1 e2
    refine ⟨σ', ?_, hcn⟩
    refine ev_b 5 rfl ?_
    refine ev_sc 1 h0 hL (by omega) rfl ?_
    refine ev_c rfl e1 ?_
    refine ev_b 5 rfl ?_
    refine ev_sc 1 h0 hL (by omega) rfl ?_
    refine ev_c rfl e2 ?_
    refine ev_if v v rfl rfl (fun _ => ev) (fun z => absurd rfl (of_decide_eq_false (p := v = v) z))
  rcases pk_ix (xs (i + 1)) (n := rs) (by omega) with z | z | ⟨k, hk, ha⟩
  · exact walk (-1) (c_ring_no h8 h9 (Or.inl z)) (m_ring_no (d := 13) h8 h10 (Or.inl z))
  · exact walk (-1) (c_ring_no h8 h9 (Or.inr z)) (m_ring_no (d := 13) h8 h10 (Or.inr z))
  · have c1 := c_ring_ok (L := L) (d := 14) (n0 := n0) (J := J) (pl := pl) (tr := tr) (fr := fr) (SHP_rg hs) hk h8 h9
    have c2 := m_ring_ok (L := L) (d := 13) (n0 := n0) (J := J) (pl := pl) (tr := tr) (rg := rg) (fr := fr) hk h8 h10
    rw [h11 k hk, ← ha] at c1
    rw [← ha] at c2
    exact walk _ c1 c2
theorem cs_den (hI : INV xs I pl rg) (hs : SHP pl tr rg fr) (K : KK L xs i n0) : GG L 620 (lvL i s5 s6 s7 s8) [] (xS n0 I J pl tr rg fr) := by
  obtain ⟨p, dn, rs, mn, tn, nt, lf, rt, tk, tc, h0, ⟨h1, h2, h3⟩, ⟨h4, h5⟩, ⟨h6, h7⟩, ⟨h8, h9, h10, h11⟩, h12, h13, h14⟩ := id hI
  obtain ⟨σ', ev, hcn⟩ := K n0 (pj_u2 I 131 0 0) J pl tr rg fr s5 s6 s7 s8 (by omega) hs (INV.u ⟨tr, fr, hs⟩ hI)
  have c1 := c_density (L := L) (d := 11) (n0 := n0) (J := J) (pl := pl) (tr := tr) (rg := rg) (fr := fr) h1 h3
  have c2 := m_density (L := L) (d := 11) (n0 := n0) (J := J) (pl := pl) (tr := tr) (rg := rg) (fr := fr) h2 h3
  generalize densN p 20 = v at c1 c2
  refine ⟨σ', ?_, hcn⟩
  refine ev_b 1 rfl ?_
  refine ev_c rfl c1 ?_
  refine ev_b 1 rfl ?_
  refine ev_c rfl c2 ?_
  exact ev_if (nI v) (nI v) rfl rfl (fun _ => ev) (fun z => absurd rfl (of_decide_eq_false (p := nI v = nI v) z))
/-- a word of the script as a boolean -/
theorem ev_bool {L d : Nat} {G : pj_Mi} {pc t : Nat} {lv : List Slot} {st : List Value} {σ : pj_St} {r : pj_Rs × pj_St} {off : Int} (x : Int32) (hc : pj_cd G pc = some (.ifCond .eq off, 3)) (ht : pj_tg pc off = some t) (h0 : decide (x ≠ 0) = false → pj_Ev L d G t lv st σ r) (h1 : decide (x ≠ 0) = true → pj_Ev L d G (pc + 3) lv st σ r) : pj_Ev L d G pc lv (.int x :: st) σ r :=
  ev_if0 x hc ht (fun z => h0 (decide_eq_false fun q => q (of_decide_eq_true (p := x = 0) z))) (fun z => h1 (decide_eq_true (of_decide_eq_false (p := x = 0) z)))
theorem cs_prs (hI : INV xs I pl rg) (hs : SHP pl tr rg fr) (hL : L ≤ 256) (hi : i + 3 < L) (K : KK L xs i n0) : GG L 633 (lvL i s5 s6 s7 s8) [] (xS n0 I J pl tr rg fr) := by
  obtain ⟨p, dn, rs, mn, tn, nt, lf, rt, tk, tc, h0, ⟨h1, h2, h3⟩, -⟩ := id hI
  obtain ⟨I1, J1, e1, f1, -⟩ := c_pairs (L := L) (d := 10) (n0 := n0) (I := I) (J := J) (pl := pl) (rg := rg) (fr := fr) (cuts := decide (xs (i + 1) ≠ 0)) h1 h3 (SHP_tr hs)
  have hI1 : INV xs I1 pl rg := INV_fr hs (f1.mono fun o k z => Or.inl z) hI
  have h01 : ∀ k, I1 0 k = xs k := by
    obtain ⟨_, _, _, _, _, _, _, _, _, _, q, -⟩ := hI1
    exact q
  have h2' : pvM p I1 := fun k hk => by
    rw [f1 132 k (fun z => by have := SHP_tr hs; unfold TR at z; rcases this with q | q <;> omega)]
    exact h2 k hk
  obtain ⟨I2, J2, e2, f2, -⟩ := m_pairs (L := L) (d := 10) (n0 := n0) (I := I1) (J := J1) (pl := pl) (tr := tr) (rg := rg) (fr := fr) (cuts := decide (xs (i + 1) ≠ 0)) h2' h3
  have hI2 : INV xs I2 pl rg := INV_fr hs (f2.mono fun o k z => by unfold TM at z; unfold FREE; omega) (INV.u ⟨tr, fr, hs⟩ hI1)
  obtain ⟨σ', ev, hcn⟩ := K n0 I2 J2 pl tr rg fr s5 s6 s7 s8 (by omega) hs hI2
  refine ⟨σ', ?_, hcn⟩
  generalize prs _ _ _ = v at e1 e2
  have k651 : pj_Ev L 15 gL_law 651 (lvL i s5 s6 s7 s8) [.int (nI v)] (xS n0 I1 J1 pl tr rg fr) (.inl (some (.int 1)), σ') := by
    refine ev_b 5 rfl ?_
    refine ev_sc 1 h01 hL (by omega) rfl ?_
    refine ev_bool _ rfl rfl (fun z => ?_) (fun z => ?_)
    · rw [z] at e2
      refine ev_b 1 rfl ?_
      refine ev_c rfl e2 ?_
      exact ev_if (nI v) (nI v) rfl rfl (fun _ => ev) (fun z => absurd rfl (of_decide_eq_false (p := nI v = nI v) z))
    · rw [z] at e2
      refine ev_b 2 rfl ?_
      refine ev_c rfl e2 ?_
      exact ev_if (nI v) (nI v) rfl rfl (fun _ => ev) (fun z => absurd rfl (of_decide_eq_false (p := nI v = nI v) z))
  refine ev_b 5 rfl ?_
  refine ev_sc 1 h0 hL (by omega) rfl ?_
  refine ev_bool _ rfl rfl (fun z => ?_) (fun z => ?_)
  · rw [z] at e1
    refine ev_b 1 rfl ?_
    exact ev_c rfl e1 k651
  · rw [z] at e1
    refine ev_b 2 rfl ?_
    exact ev_c rfl e1 k651
theorem cs_use (hI : INV xs I pl rg) (hs : SHP pl tr rg fr) (K : KK L xs i n0) : GG L 798 (lvL i s5 s6 s7 s8) [] (xS n0 I J pl tr rg fr) := by
  obtain ⟨p, dn, rs, mn, tn, nt, lf, rt, tk, tc, h0, ⟨h1, h2, h3⟩, ⟨h4, h5⟩, ⟨h6, h7⟩, ⟨h8, h9, h10, h11⟩, h12, h13, h14⟩ := id hI
  have c1 := c_used (L := L) (d := 13) (n0 := n0) (J := J) (tr := tr) (rg := rg) (fr := fr) (SHP_pl hs) h4 (fun h => (h13 h).1) h14
  have c2 := m_used (L := L) (d := 12) (n0 := n0) (J := J) (pl := pl) (tr := tr) (rg := rg) (fr := fr) h12
  have hok := usedV_ok (gsum_le (onB nt lf rt tk mn) tn) h12.2.2.1.2
  generalize usedV (gsum (onB nt lf rt tk mn) tn) tn = x at c1 c2 hok
  obtain ⟨σ', ev, hcn⟩ := K n0 (pj_u2 I 131 0 0) J pl tr rg fr (.val (.double (FP.f2d x))) .unset (.val (.double (FP.f2d x))) .unset (by omega) hs (INV.u ⟨tr, fr, hs⟩ hI)
  refine ⟨σ', ?_, hcn⟩
  refine ev_b 1 rfl ?_
  refine ev_c rfl c1 ?_
  refine ev_f2d hok rfl ?_
  refine ev_b 2 rfl ?_
  refine ev_c rfl c2 ?_
  refine ev_f2d hok rfl ?_
  refine ev_b 4 rfl ?_
  rw [dcmp_self (f2d_ok hok)]
  refine ev_if0 0 rfl rfl (fun _ => ?_) (fun z => absurd z (by decide))
  exact ev_b 1 rfl ev
end CAS2
end
section
/-! the law's cases: via, pin, lay, layAny -/
set_option maxRecDepth 100000
theorem LX_fr {pl : Nat} {I I' : pj_SI} {mn tn : Nat} {nt lf rt tk : Nat → Nat} {tc : Nat → Nat → Bool} (hpl : isP pl) (q : ∀ o k, (pl ≤ o ∧ o < pl + 42) ∨ (91 ≤ o ∧ o ≤ 130) → I' o k = I o k) (h : LX pl I mn tn nt lf rt tk tc) : LX pl I' mn tn nt lf rt tk tc := by
  obtain ⟨g1, g2, g3, g4, g5, g6⟩ := h
  refine ⟨by rw [q _ _ (by omega)]; exact g1, by rw [q _ _ (by omega)]; exact g2, g3, fun k hk => ?_, g5, fun t ht c hc => ?_⟩
  · rw [q _ _ (by omega), q _ _ (by omega), q _ _ (by omega), q _ _ (by omega), q _ _ (by omega)]
    exact g4 k hk
  · rw [q _ _ (by omega)]
    exact g6 t ht c hc
section CAS3
variable {L n0 i : Nat} {I : pj_SI} {J : pj_SJ} {pl tr rg fr : Nat} {s5 s6 s7 s8 : Slot} {xs : Nat → Int32}
theorem tl_via {c : Nat} {b : Bool} (hc : c < 3) (hk : I 131 0 = nI c) (hv : c = 0 → J 147 0 = lB b) (k : GG L 841 (lvL i (.val (.int (nI c))) (.val (.int (bI b))) s7 s8) [] (xS n0 I J pl tr rg fr)) : GG L 582 (lvL i (.val (.int (nI c))) (.val (.int (bI b))) s7 s8) [] (xS n0 I J pl tr rg fr) := by
  obtain ⟨σ', ev, hcn⟩ := k
  refine ⟨σ', ?_, hcn⟩
  refine ev_b 1 rfl ?_
  refine ev_c rfl m_thrown ?_
  rw [hk]
  refine ev_b 1 rfl ?_
  refine ev_eq c c rfl rfl (by omega) (by omega) (fun _ => ?_) (fun h => absurd rfl h)
  refine ev_b 1 rfl ?_
  refine ev_nzn c (by omega) rfl rfl (fun _ => ev_b 1 rfl ev) (fun h => ?_)
  refine ev_b 2 rfl ?_
  refine ev_la 147 0 _ (hv h) rfl rfl rfl (Nat.lt_succ_self 0) (by decide) ?_
  refine ev_b 1 rfl ?_
  refine ev_z b rfl rfl (fun e => ?_) (fun e => ?_)
  · subst e
    refine ev_b 2 rfl ?_
    refine ev_if0 (lg_cmp (lB false) 0) rfl rfl (fun _ => ev_b 1 rfl ev) (fun h => absurd h (by decide))
  · subst e
    refine ev_b 3 rfl ?_
    refine ev_if0 (lg_cmp (lB true) 1) rfl rfl (fun _ => ev_b 1 rfl ev) (fun h => absurd h (by decide))
theorem cs_via (hI : INV xs I pl rg) (hs : SHP pl tr rg fr) (hL : L ≤ 256) (hi : i + 3 < L) (K : KK L xs i n0) : GG L 545 (lvL i s5 s6 s7 s8) [] (xS n0 I J pl tr rg fr) := by
  obtain ⟨p, dn, rs, mn, tn, nt, lf, rt, tk, tc, h0, ⟨h1, h2, h3⟩, ⟨h4, h5⟩, ⟨h6, h7⟩, ⟨h8, h9, h10, h11⟩, h12, h13, h14⟩ := id hI
  have hu := fun v => INV.u (v := v) ⟨tr, fr, hs⟩ hI
  have hpl := SHP_pl hs
  have walk : ∀ (c n1 : Nat) (b : Bool) (J' : pj_SJ), c < 3 → n1 ≤ n0 + 3 → (c = 0 → J' 147 0 = lB b) →
      pj_Ev L 14 gX0_via 0 [.val (.ref 1), .val (.int (xs (i + 1))), .val (.int (xs (i + 2))), .val (.ref 147), .unset] [] (xS n0 I J pl tr rg fr) (.inl (some (.int (nI c))), xS n1 I J' pl tr rg fr) →
      pj_Ev L 14 gX4_via 0 [.val (.ref 131), .val (.int (xs (i + 1))), .val (.int (xs (i + 2)))] [] (xS n1 I J' pl tr rg fr) (.inl (some (.int (bI b))), xS n1 (pj_u2 I 131 0 (nI c)) J' pl tr rg fr) → GG L 545 (lvL i s5 s6 s7 s8) [] (xS n0 I J pl tr rg fr) := by
    intro c n1 b J' hc hn hv e1 e2
    obtain ⟨σ', ev, hcn⟩ := tl_via (L := L) (i := i) (c := c) (b := b) (n0 := n1) (I := pj_u2 I 131 0 (nI c)) (J := J') (pl := pl) (tr := tr) (rg := rg) (fr := fr) (s7 := s7) (s8 := s8) hc (pj_u2_self _ _ _ _) hv (K n1 _ J' pl tr rg fr _ _ _ _ hn hs (hu _))
    refine ⟨σ', ?_, hcn⟩
    refine ev_b 5 rfl ?_
    refine ev_sc 1 h0 hL (by omega) rfl ?_
    refine ev_b 4 rfl ?_
    refine ev_sc 2 h0 hL (by omega) rfl ?_
    refine ev_b 1 rfl ?_
    refine ev_c rfl e1 ?_
    refine ev_b 6 rfl ?_
    refine ev_sc 1 h0 hL (by omega) rfl ?_
    refine ev_b 4 rfl ?_
    refine ev_sc 2 h0 hL (by omega) rfl ?_
    refine ev_c rfl e2 ?_
    exact ev_b 1 rfl ev
  by_cases hyes : (∃ k, k < tn ∧ xs (i + 1) = nI k) ∧ ∃ j, j < 20 ∧ xs (i + 2) = nI j
  · obtain ⟨⟨k, hk, ha⟩, j, hj, hw⟩ := hyes
    have hd : dn = true := by
      cases dn with
      | true => rfl
      | false => have := (h14 rfl).2; omega
    subst hd
    have c1 := c_via_ok (L := L) (d := 9) (n0 := n0) (J := J) (tr := tr) (rg := rg) (fr := fr) h1 h3 hpl h4 (h13 rfl).1 hk hj
    have c2 := fun J' => m_via_ok (L := L) (d := 11) (n0 := n0) (J := J') (pl := pl) (tr := tr) (rg := rg) (fr := fr) h2 h3 h12 (h13 rfl).2 hk hj
    rw [← ha, ← hw] at c1 c2
    exact walk 0 n0 _ _ (by decide) (by omega) (fun _ => pj_u2_self _ _ _ _) (w_via_ok c1) (c2 _)
  · exact walk 1 (n0 + 1) false J (by decide) (by omega) (fun z => absurd z (by decide)) (w_via_1 (c_via_no hpl h4 (fun h => (h13 h).1.2.1) (fun h => (h14 h).2) h12.2.2.1.2 hyes)) (m_via_no (d := 12) h12 hyes)
end CAS3
end
section
/-! the law's cases: pin, lay, layAny -/
set_option maxRecDepth 100000
section CAS4
variable {L n0 i : Nat} {I : pj_SI} {J : pj_SJ} {pl tr rg fr : Nat} {s5 s6 s7 s8 : Slot} {xs : Nat → Int32}
theorem INV_pin {c v : Nat} {b : Bool} (hs : SHP pl tr rg fr) (hI : INV xs I pl rg) (hc : c < 20) (hv : v ≤ 9) : INV xs (pinMI (pj_u2 (pj_u2 I (if b then 2 else 3) c (nI v)) 1 4 0) (if b then c else 20 + c) (nI v)) pl rg := by
  obtain ⟨p, dn, rs, mn, tn, nt, lf, rt, tk, tc, h0, ⟨h1, h2, h3⟩, ⟨h4, h5⟩, ⟨h6, h7⟩, ⟨h8, h9, h10, h11⟩, h12, h13, h14⟩ := hI
  obtain ⟨hp, hr⟩ := hs
  have hb2 : (if b then 2 else 3) = 2 ∧ (if b then c else 20 + c) = c ∨ (if b then 2 else 3) = 3 ∧ (if b then c else 20 + c) = 20 + c := by
    cases b
    · exact Or.inr ⟨rfl, rfl⟩
    · exact Or.inl ⟨rfl, rfl⟩
  generalize hR : (if b then 2 else 3) = R at *
  generalize hA : (if b then c else 20 + c) = A at *
  have q : ∀ o k, ¬ (o = R ∧ k = c) → ¬ (o = 1 ∧ k = 4) → ¬ (o = 131 ∧ (k = 0 ∨ k = 11 ∨ k = 12 ∨ k = 13)) → ¬ (o = 132 ∧ k = A) → (pinMI (pj_u2 (pj_u2 I R c (nI v)) 1 4 0) A (nI v)) o k = I o k := fun o k z1 z2 z3 z4 => by
    unfold pinMI
    rw [pj_u2_ne _ _ (by omega), pj_u2_ne _ _ (by omega), pj_u2_ne _ _ (by omega), pj_u2_ne _ _ (by omega), pj_u2_ne _ _ (by omega), pj_u2_ne _ _ (by omega), pj_u2_ne _ _ (by omega)]
  have qR : (pinMI (pj_u2 (pj_u2 I R c (nI v)) 1 4 0) A (nI v)) R c = nI v := by
    unfold pinMI
    rw [pj_u2_ne _ _ (by omega), pj_u2_ne _ _ (by omega), pj_u2_ne _ _ (by omega), pj_u2_ne _ _ (by omega), pj_u2_ne _ _ (by omega), pj_u2_ne _ _ (by omega), pj_u2_self]
  have qA : (pinMI (pj_u2 (pj_u2 I R c (nI v)) 1 4 0) A (nI v)) 132 A = nI v := by
    unfold pinMI
    rw [pj_u2_ne _ _ (by omega), pj_u2_ne _ _ (by omega), pj_u2_ne _ _ (by omega), pj_u2_self]
  refine ⟨up1 p A v, false, rs, 0, 0, nt, lf, rt, tk, tc, fun k => by rw [q _ _ (by omega) (by omega) (by omega) (by omega)]; exact h0 k, ⟨fun x hx => ?_, fun k hk => ?_, fun k hk => ?_⟩, ⟨?_, ?_⟩, ⟨by rw [q _ _ (by omega) (by omega) (by omega) (by omega), q _ _ (by omega) (by omega) (by omega) (by omega)]; exact h6, by rw [q _ _ (by omega) (by omega) (by omega) (by omega), q _ _ (by omega) (by omega) (by omega) (by omega)]; exact h7⟩, ⟨h8, by rw [q _ _ (by omega) (by omega) (by omega) (by omega)]; exact h9, by rw [q _ _ (by omega) (by omega) (by omega) (by omega)]; exact h10, fun k hk => by rw [q _ _ (by omega) (by omega) (by omega) (by omega), q _ _ (by omega) (by omega) (by omega) (by omega)]; exact h11 k hk⟩, ⟨?_, ?_, ⟨by decide, by decide⟩, fun k hk => by omega, fun k hk => by omega⟩, fun z => (by cases z), fun _ => ⟨rfl, rfl⟩⟩
  · obtain ⟨g1, g2⟩ := h1 x hx
    rcases hb2 with ⟨e1, e2⟩ | ⟨e1, e2⟩
    · constructor
      · by_cases e : x = c
        · rw [e, ← e1, qR, ← e2, up1_eq]
        · rw [q _ _ (by omega) (by omega) (by omega) (by omega), up1_ne (by omega)]; exact g1
      · rw [q _ _ (by omega) (by omega) (by omega) (by omega), up1_ne (by omega)]; exact g2
    · constructor
      · rw [q _ _ (by omega) (by omega) (by omega) (by omega), up1_ne (by omega)]; exact g1
      · by_cases e : x = c
        · rw [e, ← e1, qR, ← e2, up1_eq]
        · rw [q _ _ (by omega) (by omega) (by omega) (by omega), up1_ne (by omega)]; exact g2
  · by_cases e : k = A
    · rw [e, qA, up1_eq]
    · rw [q _ _ (by omega) (by omega) (by omega) (by omega), up1_ne e]; exact h2 k hk
  · unfold up1
    split
    · exact hv
    · exact h3 k hk
  · unfold pinMI
    rw [pj_u2_ne _ _ (by omega), pj_u2_ne _ _ (by omega), pj_u2_ne _ _ (by omega), pj_u2_ne _ _ (by omega), pj_u2_ne _ _ (by omega), pj_u2_self]
    rfl
  · unfold pinMI
    rw [pj_u2_ne _ _ (by omega), pj_u2_ne _ _ (by omega), pj_u2_self]
    rfl
  · unfold pinMI
    rw [pj_u2_ne _ _ (by omega), pj_u2_self]
    rfl
  · unfold pinMI
    rw [pj_u2_self]
    rfl
theorem cs_pin (hI : INV xs I pl rg) (hs : SHP pl tr rg fr) (hL : L ≤ 256) (hi : i + 3 < L) (K : KK L xs i n0) : GG L 104 (lvL i s5 s6 s7 s8) [] (xS n0 I J pl tr rg fr) := by
  obtain ⟨p, dn, rs, mn, tn, nt, lf, rt, tk, tc, h0, ⟨h1, h2, h3⟩, -⟩ := id hI
  have hu := fun v => INV.u (v := v) ⟨tr, fr, hs⟩ hI
  have walk : ∀ (c n1 : Nat) (v : Int32) (I1 I2 : pj_SI) (J' : pj_SJ), c < 3 → n1 ≤ n0 + 3 → (∀ k, I1 0 k = xs k) → INV xs I2 pl rg → I2 131 0 = nI c → (c = 0 → J' 147 0 = v.toInt64) →
      pj_Ev L 14 gX0_pin 0 [.val (.ref 1), .val (.int (xs (i + 1))), .val (.int (bI (decide (xs (i + 2) ≠ 0)))), .val (.int (xs (i + 3))), .val (.ref 147), .unset] [] (xS n0 I J pl tr rg fr) (.inl (some (.int (nI c))), xS n1 I1 J' pl tr rg fr) →
      pj_Ev L 14 gX4_pin 0 [.val (.ref 131), .val (.int (xs (i + 1))), .val (.int (bI (decide (xs (i + 2) ≠ 0)))), .val (.int (xs (i + 3))), .unset, .unset] [] (xS n1 I1 J' pl tr rg fr) (.inl (some (.int v)), xS n1 I2 J' pl tr rg fr) → GG L 104 (lvL i s5 s6 s7 s8) [] (xS n0 I J pl tr rg fr) := by
    intro c n1 v I1 I2 J' hc hn h01 hI2 hk hv e1 e2
    obtain ⟨σ', ev, hcn⟩ := tl_pin (L := L) (i := i) (c := c) (v := v) (n0 := n1) (I := I2) (J := J') (pl := pl) (tr := tr) (rg := rg) (fr := fr) (s7 := s7) (s8 := s8) hc hk hv (K n1 _ J' pl tr rg fr _ _ _ _ hn hs hI2)
    refine ⟨σ', ?_, hcn⟩
    have k2 : ∀ (s6 : Slot), pj_Ev L 15 gL_law 158 (lvL i (.val (.int (nI c))) s6 s7 s8) [.int (bI (decide (xs (i + 2) ≠ 0))), .int (xs (i + 1)), .ref 131] (xS n1 I1 J' pl tr rg fr) (.inl (some (.int 1)), σ') := by
      intro s6
      refine ev_b 4 rfl ?_
      refine ev_sc 3 h01 hL (by omega) rfl ?_
      refine ev_c rfl e2 ?_
      exact ev_b 1 rfl ev
    have k1 : pj_Ev L 15 gL_law 125 (lvL i s5 s6 s7 s8) [.int (bI (decide (xs (i + 2) ≠ 0))), .int (xs (i + 1)), .ref 1] (xS n0 I J pl tr rg fr) (.inl (some (.int 1)), σ') := by
      refine ev_b 4 rfl ?_
      refine ev_sc 3 h0 hL (by omega) rfl ?_
      refine ev_b 1 rfl ?_
      refine ev_c rfl e1 ?_
      refine ev_b 6 rfl ?_
      refine ev_sc 1 h01 hL (by omega) rfl ?_
      refine ev_b 4 rfl ?_
      refine ev_sc 2 h01 hL (by omega) rfl ?_
      refine ev_bool _ rfl rfl (fun z => ?_) (fun z => ?_)
      · rw [z] at k2
        exact ev_b 1 rfl (k2 _)
      · rw [z] at k2
        exact ev_b 2 rfl (k2 _)
    refine ev_b 5 rfl ?_
    refine ev_sc 1 h0 hL (by omega) rfl ?_
    refine ev_b 4 rfl ?_
    refine ev_sc 2 h0 hL (by omega) rfl ?_
    refine ev_bool _ rfl rfl (fun z => ?_) (fun z => ?_)
    · rw [z] at k1
      exact ev_b 1 rfl k1
    · rw [z] at k1
      exact ev_b 2 rfl k1
  by_cases ha : ∃ c, c < 20 ∧ xs (i + 1) = nI c
  · obtain ⟨c, hc, ha⟩ := ha
    by_cases hw : ∃ v, v ≤ 9 ∧ xs (i + 3) = nI v
    · obtain ⟨v, hv, hw⟩ := hw
      generalize hB : decide (xs (i + 2) ≠ 0) = b at walk
      have hval : I (if b then 2 else 3) c = nI (p (if b then c else 20 + c)) := by
        cases b
        · exact (h1 c hc).2
        · exact (h1 c hc).1
      have hval2 : (pj_u2 (pj_u2 I (if b then 2 else 3) c (nI v)) 1 4 0) 132 (if b then c else 20 + c) = nI (p (if b then c else 20 + c)) := by
        rw [u2n _ _ (by decide), u2n _ _ (by cases b <;> decide)]
        exact h2 _ (by cases b <;> simp <;> omega)
      have h01 : ∀ k, (pj_u2 (pj_u2 I (if b then 2 else 3) c (nI v)) 1 4 0) 0 k = xs k := fun k => by
        rw [u2n _ _ (by decide), u2n _ _ (by cases b <;> decide)]
        exact h0 k
      have c1 := c_pin_ok (L := L) (d := 12) (n0 := n0) (I := I) (J := J) (pl := pl) (tr := tr) (rg := rg) (fr := fr) (b := b) hc hv
      have c2 := fun J' => m_pin_ok (L := L) (d := 13) (n0 := n0) (I := pj_u2 (pj_u2 I (if b then 2 else 3) c (nI v)) 1 4 0) (J := J') (pl := pl) (tr := tr) (rg := rg) (fr := fr) (b := b) hc hv
      have hin := INV_pin (b := b) hs hI hc hv
      have h131 : (pinMI (pj_u2 (pj_u2 I (if b then 2 else 3) c (nI v)) 1 4 0) (if b then c else 20 + c) (nI v)) 131 0 = nI 0 := by
        unfold pinMI
        rw [u2k _ _ (by decide), u2k _ _ (by decide), u2k _ _ (by decide), u2n _ _ (by decide), pj_u2_self]
        rfl
      rw [hval] at c1
      rw [hval2] at c2
      generalize (pinMI (pj_u2 (pj_u2 I (if b then 2 else 3) c (nI v)) 1 4 0) (if b then c else 20 + c) (nI v)) = I2 at *
      generalize (pj_u2 (pj_u2 I (if b then 2 else 3) c (nI v)) 1 4 0) = I1 at *
      generalize p (if b then c else 20 + c) = w at *
      rw [← ha, ← hw] at c1 c2
      exact walk 0 n0 _ I1 I2 _ (by decide) (by omega) h01 hin h131 (fun _ => pj_u2_self _ _ _ _) (w_pin_ok c1) (c2 _)
    · have c1 := c_pin_2 (L := L) (d := 12) (n0 := n0) (I := I) (J := J) (pl := pl) (tr := tr) (rg := rg) (fr := fr) (b := decide (xs (i + 2) ≠ 0)) hc hw
      have c2 := m_pin_2 (L := L) (d := 13) (n0 := n0 + 1) (I := I) (J := J) (pl := pl) (tr := tr) (rg := rg) (fr := fr) (b := decide (xs (i + 2) ≠ 0)) hc hw
      rw [← ha] at c1 c2
      exact walk 2 (n0 + 1) 0 I _ J (by decide) (by omega) h0 (hu _) (pj_u2_self _ _ _ _) (fun z => absurd z (by decide)) (w_pin_2 c1) c2
  · exact walk 1 (n0 + 1) 0 I _ J (by decide) (by omega) h0 (hu _) (pj_u2_self _ _ _ _) (fun z => absurd z (by decide)) (w_pin_1 (c_pin_1 (d := 12) ha)) (m_pin_1 (d := 13) ha)
end CAS4
end
section
/-! the law's cases: lay, layAny -/
set_option maxRecDepth 100000
section CAS5
variable {L n0 i : Nat} {I I1 I2 : pj_SI} {J : pj_SJ} {pl tr rg fr : Nat} {s5 s6 s7 s8 : Slot} {xs : Nat → Int32} {p : Nat → Nat}
/-- the pins and the rest -/
def CORE (xs : Nat → Int32) (I : pj_SI) (rg : Nat) (p : Nat → Nat) : Prop := (∀ k, I 0 k = xs k) ∧ (pvX p I ∧ pvM p I ∧ pvB p) ∧ (I 1 9 = I 131 21 ∧ I 1 10 = I 131 22) ∧ ∃ rs, rs ≤ 40 ∧ I 1 7 = nI rs ∧ I 131 19 = nI rs ∧ ∀ k, k < rs → I rg k = I 146 k
theorem INV_lay {cuts : Bool} (hs : SHP pl tr rg fr) (hC : CORE xs I rg p) (hany : anyS p 9 = false) (hf : Fr (TY tr fr) I I1) (hX : LXl tr I1 (sgL p cuts) (sgR p cuts)) (hd : I1 1 4 = 1) (h9 : I1 1 9 = I 1 9 + 1) (hg : Fr TZ I1 I2) (hM : LMl I2 (sgL p cuts) (sgR p cuts)) (h11 : I2 131 11 = 1) (h21 : I2 131 21 = I1 131 21 + 1) : INV xs I2 tr rg := by
  obtain ⟨h0, ⟨h1, h2, h3⟩, ⟨h6, h7⟩, rs, r1, r2, r3, r4⟩ := hC
  have hF := LF_of (cuts := cuts) h3 hany
  have htr := SHP_tr hs
  obtain ⟨hp, hr⟩ := hs
  have q1 : ∀ o k, ¬ ((tr ≤ o ∧ o < tr + 42) ∨ (91 ≤ o ∧ o ≤ 130) ∨ (o = 1 ∧ (k = 4 ∨ k = 8 ∨ k = 9)) ∨ o = fr) → I1 o k = I o k := fun o k z => hf o k z
  have q2 : ∀ o k, ¬ ((133 ≤ o ∧ o ≤ 136) ∨ o = 139 ∨ o = 140 ∨ (141 ≤ o ∧ o ≤ 145) ∨ (o = 131 ∧ (k = 0 ∨ k = 2 ∨ k = 11 ∨ k = 12 ∨ k = 13 ∨ k = 21))) → I2 o k = I1 o k := fun o k z => hg o k z
  have q : ∀ o k, ¬ ((tr ≤ o ∧ o < tr + 42) ∨ (91 ≤ o ∧ o ≤ 130) ∨ (o = 1 ∧ (k = 4 ∨ k = 8 ∨ k = 9)) ∨ o = fr) → ¬ ((133 ≤ o ∧ o ≤ 136) ∨ o = 139 ∨ o = 140 ∨ (141 ≤ o ∧ o ≤ 145) ∨ (o = 131 ∧ (k = 0 ∨ k = 2 ∨ k = 11 ∨ k = 12 ∨ k = 13 ∨ k = 21))) → I2 o k = I o k := fun o k z1 z2 => (q2 o k z2).trans (q1 o k z1)
  refine ⟨p, true, rs, (sgL p cuts).length, tnN (sgL p cuts) (sgR p cuts), _, _, _, _, _, fun k => by rw [q _ _ (by omega) (by omega)]; exact h0 k, ⟨fun c hc => by rw [q _ _ (by omega) (by omega), q _ _ (by omega) (by omega)]; exact h1 c hc, fun k hk => by rw [q _ _ (by omega) (by omega)]; exact h2 k hk, h3⟩, ⟨by rw [q2 _ _ (by omega)]; exact hd, h11⟩, ⟨?_, ?_⟩, ⟨r1, by rw [q _ _ (by omega) (by omega)]; exact r2, by rw [q _ _ (by omega) (by omega)]; exact r3, fun k hk => by rw [q _ _ (by omega) (by omega), q _ _ (by omega) (by omega)]; exact r4 k hk⟩, hM, fun _ => ⟨LX_fr htr (fun o k z => q2 o k (by omega)) hX, hF⟩, fun z => (by cases z)⟩
  · rw [q2 _ _ (by omega), h9, h21, q1 131 21 (by omega), h6]
  · rw [q _ _ (by omega) (by omega), q _ _ (by omega) (by omega)]; exact h7
theorem INV_ring {S : Nat} {Q : Nat → Nat} {I' : pj_SI} (hs : SHP pl tr rg fr) (hI : INV xs I pl rg) (hf : Fr (TQ tr fr) I I') (h8 : I' 1 8 = nI S) (hS : S ≤ 40) (hQ : ∀ k, k < S → I' fr k = nI (Q k)) (hg : Fr TF (rfI I') I2) (h19 : I2 131 19 = nI S) (hQ2 : ∀ k, k < S → I2 146 k = nI (Q k)) (h22 : I2 131 22 = (rfI I') 131 22 + 1) : INV xs I2 pl fr := by
  obtain ⟨p, dn, rs, mn, tn, nt, lf, rt, tk, tc, h0, ⟨h1, h2, h3⟩, ⟨h4, h5⟩, ⟨h6, h7⟩, -, h12, h13, h14⟩ := hI
  have hpl := SHP_pl hs
  obtain ⟨hp, hr⟩ := hs
  have q1 : ∀ o k, ¬ ((tr ≤ o ∧ o < tr + 42) ∨ (o = 1 ∧ k = 8) ∨ o = fr) → I' o k = I o k := fun o k z => hf o k z
  have qr : ∀ o k, ¬ (o = 1 ∧ (k = 7 ∨ k = 10)) → (rfI I') o k = I' o k := fun o k z => by
    unfold rfI
    rw [pj_u2_ne _ _ (by omega), pj_u2_ne _ _ (by omega)]
  have q2 : ∀ o k, ¬ ((133 ≤ o ∧ o ≤ 136) ∨ o = 140 ∨ o = 146 ∨ (o = 131 ∧ (k = 0 ∨ k = 2 ∨ k = 19 ∨ k = 22))) → I2 o k = (rfI I') o k := fun o k z => hg o k z
  have q : ∀ o k, ¬ ((tr ≤ o ∧ o < tr + 42) ∨ (o = 1 ∧ k = 8) ∨ o = fr) → ¬ (o = 1 ∧ (k = 7 ∨ k = 10)) → ¬ ((133 ≤ o ∧ o ≤ 136) ∨ o = 140 ∨ o = 146 ∨ (o = 131 ∧ (k = 0 ∨ k = 2 ∨ k = 19 ∨ k = 22))) → I2 o k = I o k := fun o k z1 z2 z3 => (q2 o k z3).trans ((qr o k z2).trans (q1 o k z1))
  have e7 : (rfI I') 1 7 = I' 1 8 := by unfold rfI; rw [u2k _ _ (by decide), pj_u2_self]
  have e10 : (rfI I') 1 10 = I' 1 10 + nI 1 := by unfold rfI; rw [pj_u2_self]
  refine ⟨p, dn, S, mn, tn, nt, lf, rt, tk, tc, fun k => by rw [q _ _ (by omega) (by omega) (by omega)]; exact h0 k, ⟨fun c hc => by rw [q _ _ (by omega) (by omega) (by omega), q _ _ (by omega) (by omega) (by omega)]; exact h1 c hc, fun k hk => by rw [q _ _ (by omega) (by omega) (by omega)]; exact h2 k hk, h3⟩, ⟨by rw [q _ _ (by omega) (by omega) (by omega)]; exact h4, by rw [q _ _ (by omega) (by omega) (by omega)]; exact h5⟩, ⟨?_, ?_⟩, ⟨hS, by rw [q2 _ _ (by omega), e7]; exact h8, h19, fun k hk => by rw [q2 _ _ (by omega), qr _ _ (by omega), hQ k hk, hQ2 k hk]⟩, ?_, fun hd => ?_, h14⟩
  · rw [q _ _ (by omega) (by omega) (by omega), q _ _ (by omega) (by omega) (by omega)]; exact h6
  · rw [q2 1 10 (by omega), e10, h22, qr 131 22 (by omega), q1 1 10 (by omega), q1 131 22 (by omega), h7]
    rfl
  · obtain ⟨g1, g2, g3, g4, g5⟩ := h12
    refine ⟨by rw [q _ _ (by omega) (by omega) (by omega)]; exact g1, by rw [q _ _ (by omega) (by omega) (by omega)]; exact g2, g3, fun k hk => ?_, g5⟩
    rw [q _ _ (by omega) (by omega) (by omega), q _ _ (by omega) (by omega) (by omega), q _ _ (by omega) (by omega) (by omega), q _ _ (by omega) (by omega) (by omega), q _ _ (by omega) (by omega) (by omega)]
    exact g4 k hk
  · exact ⟨LX_fr hpl (fun o k z => q _ _ (by rcases hpl with e | e <;> omega) (by omega) (by omega)) (h13 hd).1, (h13 hd).2⟩
theorem SHP_lay (hs : SHP pl tr rg fr) : SHP tr pl rg fr := ⟨by rcases hs.1 with z | z <;> omega, hs.2⟩
theorem SHP_ring (hs : SHP pl tr rg fr) : SHP pl tr fr rg := ⟨hs.1, by rcases hs.2 with z | z <;> omega⟩
theorem INV_core (hI : INV xs I pl rg) : ∃ p, CORE xs I rg p := by
  obtain ⟨p, dn, rs, mn, tn, nt, lf, rt, tk, tc, h0, h1, -, h6, ⟨h8, h9, h10, h11⟩, -⟩ := hI
  exact ⟨p, h0, h1, h6, rs, h8, h9, h10, h11⟩
/-- pins after a frame -/
theorem core_pM (hC : CORE xs I rg p) (q : ∀ k, I1 132 k = I 132 k) : pvM p I1 := fun k hk => by rw [q k]; exact hC.2.1.2.1 k hk
theorem cs_lay (hI : INV xs I pl rg) (hs : SHP pl tr rg fr) (hL : L ≤ 256) (hi : i + 3 < L) (K : KK L xs i n0) : GG L 200 (lvL i s5 s6 s7 s8) [] (xS n0 I J pl tr rg fr) := by
  obtain ⟨p, hC⟩ := INV_core hI
  have hu := fun v => INV.u (v := v) ⟨tr, fr, hs⟩ hI
  obtain ⟨h0, ⟨h1, h2, h3⟩, -⟩ := id hC
  have hsp := id hs
  obtain ⟨hp, hr⟩ := hsp
  have walk : ∀ (c n1 : Nat) (v : Int32) (I1 I2 : pj_SI) (J1 J2 : pj_SJ) (pl' tr' rg' fr' : Nat), c < 3 → n1 ≤ n0 + 3 → (∀ k, I1 0 k = xs k) → SHP pl' tr' rg' fr' → INV xs I2 pl' rg' → I2 131 0 = nI c → (c = 0 → J2 147 0 = v.toInt64) →
      pj_Ev L 14 gX0_lay 0 [.val (.ref 1), .val (.int (bI (decide (xs (i + 1) ≠ 0)))), .val (.ref 147), .unset] [] (xS n0 I J pl tr rg fr) (.inl (some (.int (nI c))), xS n1 I1 J1 pl' tr' rg' fr') →
      pj_Ev L 14 gX4_lay 0 [.val (.ref 131), .val (.int (bI (decide (xs (i + 1) ≠ 0)))), .unset] [] (xS n1 I1 J1 pl' tr' rg' fr') (.inl (some (.int v)), xS n1 I2 J2 pl' tr' rg' fr') → GG L 200 (lvL i s5 s6 s7 s8) [] (xS n0 I J pl tr rg fr) := by
    intro c n1 v I1 I2 J1 J2 pl' tr' rg' fr' hc hn h01 hs' hI2 hk hv e1 e2
    obtain ⟨σ', ev, hcn⟩ := tl_lay (L := L) (i := i) (c := c) (v := v) (n0 := n1) (I := I2) (J := J2) (pl := pl') (tr := tr') (rg := rg') (fr := fr') (s7 := s7) (s8 := s8) hc hk hv (K n1 _ J2 pl' tr' rg' fr' _ _ _ _ hn hs' hI2)
    refine ⟨σ', ?_, hcn⟩
    have k1 : ∀ s6 : Slot, pj_Ev L 15 gL_law 219 (lvL i s5 s6 s7 s8) [.int (nI c)] (xS n1 I1 J1 pl' tr' rg' fr') (.inl (some (.int 1)), σ') := by
      intro s6
      refine ev_b 6 rfl ?_
      refine ev_sc 1 h01 hL (by omega) rfl ?_
      refine ev_bool _ rfl rfl (fun z => ?_) (fun z => ?_)
      · rw [z] at e2
        refine ev_b 1 rfl ?_
        refine ev_c rfl e2 ?_
        exact ev_b 1 rfl ev
      · rw [z] at e2
        refine ev_b 2 rfl ?_
        refine ev_c rfl e2 ?_
        exact ev_b 1 rfl ev
    refine ev_b 5 rfl ?_
    refine ev_sc 1 h0 hL (by omega) rfl ?_
    refine ev_bool _ rfl rfl (fun z => ?_) (fun z => ?_)
    · rw [z] at e1
      refine ev_b 2 rfl ?_
      exact ev_c rfl e1 (k1 _)
    · rw [z] at e1
      refine ev_b 3 rfl ?_
      exact ev_c rfl e1 (k1 _)
  generalize decide (xs (i + 1) ≠ 0) = cuts at walk
  cases hany : anyS p 9 with
  | true =>
    refine walk 1 (n0 + 1) 0 I _ J J pl tr rg fr (by decide) (by omega) h0 hs (INV.u ⟨tr, fr, hs⟩ (hu 0)) (pj_u2_self _ _ _ _) (fun z => absurd z (by decide)) (w_lay_1 (c_lay_single (d := 7) h1 h3 hany)) (m_lay_single (d := 9) h2 h3 hany)
  | false =>
    rcases ring_or p cuts with hno | ⟨s, hlo⟩
    · obtain ⟨I1, J1, e1, f1, f2, f3, f4, f5⟩ := c_lay_ok (L := L) (d := 7) (n0 := n0) (I := I) (J := J) (rg := rg) (fr := fr) (cuts := cuts) h1 h3 (SHP_tr hs) (SHP_pl hs) (SHP_ne hs) hany hno
      have q1 : ∀ o k, ¬ ((tr ≤ o ∧ o < tr + 42) ∨ (91 ≤ o ∧ o ≤ 130) ∨ (o = 1 ∧ (k = 4 ∨ k = 9))) → I1 o k = I o k := fun o k z => f1 o k z
      have e1 := w_lay_ok e1
      obtain ⟨I2, J2, e2, g1, g2, g3, g4, g5, g6⟩ := m_lay_ok (L := L) (d := 9) (n0 := n0) (I := I1) (J := pj_u2 J1 147 0 (nI (tnN (sgL p cuts) (sgR p cuts))).toInt64) (pl := tr) (tr := pl) (rg := rg) (fr := fr) (cuts := cuts) (core_pM hC (fun k => q1 _ _ (by omega))) h3 hany hno
      refine walk 0 n0 _ I1 I2 _ J2 tr pl rg fr (by decide) (by omega) (fun k => by rw [q1 _ _ (by omega)]; exact h0 k) (SHP_lay hs) (INV_lay (cuts := cuts) hs hC hany (f1.mono fun o k z => by unfold TA at z; unfold TY; omega) f3 f4 f5 g1 g3 g5 g6) g4 (fun _ => ?_) e1 e2
      rw [g2 147 0 (fun z => by unfold TK at z; omega), pj_u2_self]
    · obtain ⟨I1, J1, e1, f1, f2, f3, f4, f5, f6, f7⟩ := c_lay_ring (L := L) (d := 7) (n0 := n0) (I := I) (J := J) (pl := pl) (rg := rg) (cuts := cuts) h1 h3 (SHP_tr hs) (SHP_fr hs) hany hlo
      have q1 : ∀ o k, ¬ ((tr ≤ o ∧ o < tr + 42) ∨ (o = 1 ∧ k = 8) ∨ o = fr) → I1 o k = I o k := fun o k z => f1 o k z
      have qr : ∀ o k, o ≠ 1 → (rfI I1) o k = I1 o k := fun o k z => by unfold rfI; rw [u2n _ _ z, u2n _ _ z]
      obtain ⟨I2, J2, e2, g1, g2, g3, g4, g5, g6⟩ := m_lay_ring (L := L) (d := 9) (n0 := n0 + 2) (I := rfI I1) (J := J1) (pl := pl) (tr := tr) (rg := fr) (fr := rg) (cuts := cuts) (core_pM hC (fun k => by rw [qr _ _ (by decide)]; exact q1 _ _ (by omega))) h3 hany hlo
      exact walk 2 (n0 + 2) 0 _ I2 _ J2 pl tr fr rg (by decide) (by omega) (fun k => by rw [qr _ _ (by decide), q1 _ _ (by omega)]; exact h0 k) (SHP_ring hs) (INV_ring hs hI f1 f5 f6 f7 g1 g4 g5 g6) g3 (fun z => absurd z (by decide)) (w_lay_2 e1) e2
end CAS5
end
section
/-! the law's case layAny, and its loop -/
set_option maxRecDepth 100000
section CAS6
variable {L n0 i : Nat} {I I1 I2 : pj_SI} {J : pj_SJ} {pl tr rg fr : Nat} {s5 s6 s7 s8 : Slot} {xs : Nat → Int32} {p : Nat → Nat}
theorem cs_any (hI : INV xs I pl rg) (hs : SHP pl tr rg fr) (K : KK L xs i n0) : GG L 272 (lvL i s5 s6 s7 s8) [] (xS n0 I J pl tr rg fr) := by
  obtain ⟨p, hC⟩ := INV_core hI
  have hu := fun v => INV.u (v := v) ⟨tr, fr, hs⟩ hI
  obtain ⟨h0, ⟨h1, h2, h3⟩, -⟩ := id hC
  have hsp := id hs
  obtain ⟨hp, hr⟩ := hsp
  have walk : ∀ (c n1 : Nat) (v : Int32) (I1 I2 : pj_SI) (J1 J2 : pj_SJ) (pl' tr' rg' fr' : Nat), c < 3 → n1 ≤ n0 + 3 → SHP pl' tr' rg' fr' → INV xs I2 pl' rg' → I2 131 0 = nI c → (c = 0 → J2 147 0 = v.toInt64) →
      pj_Ev L 14 gX0_layAny 0 [.val (.ref 1), .val (.ref 147), .unset] [] (xS n0 I J pl tr rg fr) (.inl (some (.int (nI c))), xS n1 I1 J1 pl' tr' rg' fr') →
      pj_Ev L 14 gX4_layAny 0 [.val (.ref 131), .unset] [] (xS n1 I1 J1 pl' tr' rg' fr') (.inl (some (.int v)), xS n1 I2 J2 pl' tr' rg' fr') → GG L 272 (lvL i s5 s6 s7 s8) [] (xS n0 I J pl tr rg fr) := by
    intro c n1 v I1 I2 J1 J2 pl' tr' rg' fr' hc hn hs' hI2 hk hv e1 e2
    obtain ⟨σ', ev, hcn⟩ := tl_any (L := L) (i := i) (c := c) (v := v) (n0 := n1) (I := I2) (J := J2) (pl := pl') (tr := tr') (rg := rg') (fr := fr') (s7 := s7) (s8 := s8) hc hk hv (K n1 _ J2 pl' tr' rg' fr' _ _ _ _ hn hs' hI2)
    refine ⟨σ', ?_, hcn⟩
    refine ev_b 2 rfl ?_
    refine ev_c rfl e1 ?_
    refine ev_b 2 rfl ?_
    refine ev_c rfl e2 ?_
    exact ev_b 1 rfl ev
  cases hany : anyS p 9 with
  | true =>
    refine walk 1 (n0 + 1) 0 I _ J J pl tr rg fr (by decide) (by omega) hs (INV.u ⟨tr, fr, hs⟩ (hu 0)) (pj_u2_self _ _ _ _) (fun z => absurd z (by decide)) (w_layAny_1 (c_any_single (d := 7) h1 h3 hany)) (m_any_single (d := 9) h2 h3 hany)
  | false =>
    rcases ring_or p false with hno | ⟨s, hlo⟩
    · obtain ⟨I1, J1, e1, f1, f2, f3, f4, f5⟩ := c_any_1 (L := L) (d := 7) (n0 := n0) (I := I) (J := J) (rg := rg) (fr := fr) h1 h3 (SHP_tr hs) (SHP_pl hs) (SHP_ne hs) hany hno
      have q1 : ∀ o k, ¬ ((tr ≤ o ∧ o < tr + 42) ∨ (91 ≤ o ∧ o ≤ 130) ∨ (o = 1 ∧ (k = 4 ∨ k = 9))) → I1 o k = I o k := fun o k z => f1 o k z
      have e1 := w_layAny_ok e1
      obtain ⟨I2, J2, e2, g1, g2, g3, g4, g5, g6⟩ := m_any_1 (L := L) (d := 9) (n0 := n0) (I := I1) (J := pj_u2 J1 147 0 (nI (tnN (sgL p false) (sgR p false))).toInt64) (pl := tr) (tr := pl) (rg := rg) (fr := fr) (core_pM hC (fun k => q1 _ _ (by omega))) h3 hany hno
      refine walk 0 n0 _ I1 I2 _ J2 tr pl rg fr (by decide) (by omega) (SHP_lay hs) (INV_lay (cuts := false) hs hC hany (f1.mono fun o k z => by unfold TA at z; unfold TY; omega) f3 f4 f5 g1 g3 g5 g6) g4 (fun _ => ?_) e1 e2
      rw [g2 147 0 (fun z => by unfold TK at z; omega), pj_u2_self]
    · rcases ring_or p true with hno2 | ⟨s2, hlo2⟩
      · obtain ⟨I1, J1, e1, f1, f2, f3, f4, f5⟩ := c_any_2 (L := L) (d := 7) (n0 := n0) (I := I) (J := J) (rg := rg) h1 h3 (SHP_tr hs) (SHP_pl hs) (SHP_fr hs) (SHP_ne hs) hany hlo hno2
        have q1 : ∀ o k, ¬ ((tr ≤ o ∧ o < tr + 42) ∨ (91 ≤ o ∧ o ≤ 130) ∨ (o = 1 ∧ (k = 4 ∨ k = 8 ∨ k = 9)) ∨ o = fr) → I1 o k = I o k := fun o k z => f1 o k z
        have e1 := w_layAny_ok e1
        obtain ⟨I2, J2, e2, g1, g2, g3, g4, g5, g6⟩ := m_any_2 (L := L) (d := 9) (n0 := n0 + 1) (I := I1) (J := pj_u2 J1 147 0 (nI (1000 + tnN (sgL p true) (sgR p true))).toInt64) (pl := tr) (tr := pl) (rg := rg) (fr := fr) (core_pM hC (fun k => q1 _ _ (by omega))) h3 hany hlo hno2
        refine walk 0 (n0 + 1) _ I1 I2 _ J2 tr pl rg fr (by decide) (by omega) (SHP_lay hs) (INV_lay (cuts := true) hs hC hany f1 f3 f4 f5 g1 g3 g5 g6) g4 (fun _ => ?_) e1 e2
        rw [g2 147 0 (fun z => by unfold TK at z; omega), pj_u2_self]
      · obtain ⟨I1, J1, e1, f1, f2, f3, f4, f5, f6, f7⟩ := c_any_ring (L := L) (d := 7) (n0 := n0) (I := I) (J := J) (pl := pl) (rg := rg) h1 h3 (SHP_tr hs) (SHP_fr hs) hany hlo hlo2
        have q1 : ∀ o k, ¬ ((tr ≤ o ∧ o < tr + 42) ∨ (o = 1 ∧ k = 8) ∨ o = fr) → I1 o k = I o k := fun o k z => f1 o k z
        have qr : ∀ o k, o ≠ 1 → (rfI I1) o k = I1 o k := fun o k z => by unfold rfI; rw [u2n _ _ z, u2n _ _ z]
        obtain ⟨I2, J2, e2, g1, g2, g3, g4, g5, g6⟩ := m_any_ring (L := L) (d := 9) (n0 := n0 + 3) (I := rfI I1) (J := J1) (pl := pl) (tr := tr) (rg := fr) (fr := rg) (core_pM hC (fun k => by rw [qr _ _ (by decide)]; exact q1 _ _ (by omega))) h3 hany hlo hlo2
        exact walk 2 (n0 + 3) 0 _ I2 _ J2 pl tr fr rg (by decide) (by omega) (SHP_ring hs) (INV_ring hs hI f1 f5 f6 f7 g1 g4 g5 g6) g3 (fun z => absurd z (by decide)) (w_layAny_2 e1) e2
end CAS6
theorem b_15 : ∀ i, i < 32 → bt 15 i = decide (i < 4) := by decide
theorem and_15 (x : Int32) : ∃ k, k < 16 ∧ x &&& 15 = nI k := by
  have hi : nI x.toBitVec.toNat = x := b_ext fun j hj => by
    rw [bt_nI, decide_eq_true hj, Bool.true_and]
    exact BitVec.testBit_toNat _
  refine ⟨x.toBitVec.toNat % 16, by omega, ?_⟩
  generalize x.toBitVec.toNat = A at *
  subst hi
  exact b_ext fun i hi => by
    rw [b_and, bt_nI, bt_nI, b_15 i hi, show (16 : Nat) = 2 ^ 4 by rfl, Nat.testBit_mod_two_pow]
    simp [hi, Bool.and_comm]
theorem law_loop {L : Nat} {xs : Nat → Int32} (hL : L ≤ 256) : ∀ m i n0 (I : pj_SI) (J : pj_SJ) (pl tr rg fr : Nat) (s5 s6 s7 s8 : Slot), L ≤ i + 4 * m → i ≤ 400 → n0 + 3 * m ≤ 1000 → SHP pl tr rg fr → INV xs I pl rg → GG L 23 (lvL i s5 s6 s7 s8) [] (xS n0 I J pl tr rg fr) := by
  intro m
  induction m with
  | zero =>
    intro i n0 I J pl tr rg fr s5 s6 s7 s8 hm hi hn hs hI
    refine ⟨xS n0 I J pl tr rg fr, ?_, ?_⟩
    · refine ev_b 5 (st' := [.int (nI L - nI 4), .int (nI i)]) rfl ?_
      refine ev_if (nI i) (nI L - nI 4) rfl rfl (fun _ => ?_) (fun h => ?_)
      · refine ev_b 1 rfl ?_
        exact ev_ret rfl rfl rfl
      · have h : ¬ nI L - nI 4 < nI i := of_decide_eq_false h
        rw [Int32.lt_iff_toInt_lt, nI_toInt (by omega), pk_sub_toInt (by omega) (by decide)] at h
        omega
    · show 147 + n0 ≤ 10000
      omega
  | succ m ih =>
    intro i n0 I J pl tr rg fr s5 s6 s7 s8 hm hi hn hs hI
    by_cases hlt : i + 4 ≤ L
    · have K : KK L xs i n0 := by
        intro n1 I' J' pl' tr' rg' fr' s5 s6 s7 s8 hn1 hs' hI'
        obtain ⟨σ', ev, hcn⟩ := ih (i + 4) n1 I' J' pl' tr' rg' fr' s5 s6 s7 s8 (by omega) (by omega) (by omega) hs' hI'
        refine ⟨σ', ?_, hcn⟩
        refine ev_b 2 (lv' := [.val (.ref 0), .val (.ref 1), .val (.ref 131), .val (.ref 147), .val (.int (nI i + nI 4)), s5, s6, s7, s8]) rfl ?_
        rw [nI_add]
        exact ev
      have h0 : ∀ k, I 0 k = xs k := by
        obtain ⟨_, _, _, _, _, _, _, _, _, _, q, -⟩ := hI
        exact q
      obtain ⟨k, hk, hx⟩ := and_15 (xs i)
      have go : ∀ t, (∀ σ', pj_Ev L 15 gL_law t (lvL i s5 s6 s7 s8) [] (xS n0 I J pl tr rg fr) (.inl (some (.int 1)), σ') → pj_Ev L 15 gL_law 39 (lvL i s5 s6 s7 s8) [.int (nI k)] (xS n0 I J pl tr rg fr) (.inl (some (.int 1)), σ')) → GG L t (lvL i s5 s6 s7 s8) [] (xS n0 I J pl tr rg fr) → GG L 23 (lvL i s5 s6 s7 s8) [] (xS n0 I J pl tr rg fr) := by
        intro t hsw hg
        obtain ⟨σ', ev, hcn⟩ := hg
        refine ⟨σ', ?_, hcn⟩
        refine ev_b 5 (st' := [.int (nI L - nI 4), .int (nI i)]) rfl ?_
        refine ev_if (nI i) (nI L - nI 4) rfl rfl (fun h => ?_) (fun _ => ?_)
        · have h : nI L - nI 4 < nI i := of_decide_eq_true h
          rw [Int32.lt_iff_toInt_lt, nI_toInt (by omega), pk_sub_toInt (by omega) (by decide)] at h
          omega
        · refine ev_b 2 rfl ?_
          refine ev_ia 0 i _ (h0 i) rfl rfl rfl (show i < L by omega) (by omega) ?_
          refine ev_b 2 (st' := [.int (xs i &&& 15)]) rfl ?_
          rw [hx]
          exact hsw σ' ev
      rcases (by omega : k = 0 ∨ k = 1 ∨ k = 2 ∨ k = 3 ∨ k = 4 ∨ k = 5 ∨ k = 6 ∨ k = 7 ∨ k = 8 ∨ k = 9 ∨ k = 10 ∨ k = 11 ∨ k = 12 ∨ k = 13 ∨ k = 14 ∨ k = 15) with rfl | rfl | rfl | rfl | rfl | rfl | rfl | rfl | rfl | rfl | rfl | rfl | rfl | rfl | rfl | rfl
      · exact go 104 (fun σ' ev => ev_b 1 rfl ev) (cs_pin hI hs hL (by omega) K)
      · exact go 200 (fun σ' ev => ev_b 1 rfl ev) (cs_lay hI hs hL (by omega) K)
      · exact go 272 (fun σ' ev => ev_b 1 rfl ev) (cs_any hI hs K)
      · exact go 316 (fun σ' ev => ev_b 1 rfl ev) (cs_ring hI hs hL (by omega) K)
      · exact go 341 (fun σ' ev => ev_b 1 rfl ev) (cs_seg hI hs hL (by omega) K)
      · exact go 409 (fun σ' ev => ev_b 1 rfl ev) (cs_lev hI hs hL (by omega) K)
      · exact go 477 (fun σ' ev => ev_b 1 rfl ev) (cs_upr hI hs hL (by omega) K)
      · exact go 545 (fun σ' ev => ev_b 1 rfl ev) (cs_via hI hs hL (by omega) K)
      · exact go 620 (fun σ' ev => ev_b 1 rfl ev) (cs_den hI hs K)
      · exact go 633 (fun σ' ev => ev_b 1 rfl ev) (cs_prs hI hs hL (by omega) K)
      · exact go 674 (fun σ' ev => ev_b 1 rfl ev) (cs_net hI hs hL (by omega) K)
      · exact go 742 (fun σ' ev => ev_b 1 rfl ev) (cs_cnt hI hs hL (by omega) K)
      · exact go 798 (fun σ' ev => ev_b 1 rfl ev) (cs_use hI hs K)
      · exact go 841 (fun σ' ev => ev_b 1 rfl ev) (K n0 I J pl tr rg fr s5 s6 s7 s8 (by omega) hs hI)
      · exact go 841 (fun σ' ev => ev_b 1 rfl ev) (K n0 I J pl tr rg fr s5 s6 s7 s8 (by omega) hs hI)
      · exact go 841 (fun σ' ev => ev_b 1 rfl ev) (K n0 I J pl tr rg fr s5 s6 s7 s8 (by omega) hs hI)
    · refine ⟨xS n0 I J pl tr rg fr, ?_, ?_⟩
      · refine ev_b 5 (st' := [.int (nI L - nI 4), .int (nI i)]) rfl ?_
        refine ev_if (nI i) (nI L - nI 4) rfl rfl (fun _ => ?_) (fun h => ?_)
        · refine ev_b 1 rfl ?_
          exact ev_ret rfl rfl rfl
        · have h : ¬ nI L - nI 4 < nI i := of_decide_eq_false h
          rw [Int32.lt_iff_toInt_lt, nI_toInt (by omega), pk_sub_toInt (by omega) (by decide)] at h
          omega
      · show 147 + n0 ≤ 10000
        omega
end
section
/-! the makers -/
set_option maxRecDepth 100000
def I0 (xs : Nat → Int32) : pj_SI := fun o k => if o = 0 then xs k else 0
def J0 : pj_SJ := fun _ _ => 0
theorem new_eq {xs : Nat → Int32} {N : Nat} {P : pj_SP} (hN : N < 146) (hP : ∀ o k, N < o → P o k = none) : pj_new (.inl N, I0 xs, J0, P) = (.inl (N + 1), I0 xs, J0, P) := by
  unfold pj_new
  have e1 : pj_inc (.inl N) = .inl (N + 1) := by
    show (if N = 146 then (.inr 0 : pj_N) else .inl (N + 1)) = _
    rw [if_neg (by omega)]
  have e2 : pj_u1 (I0 xs) (N + 1) 0 = I0 xs := by
    funext a b
    unfold pj_u1
    split
    · next h => rw [h]; unfold I0; rw [if_neg (by omega)]
    · rfl
  have e3 : pj_u1 J0 (N + 1) 0 = J0 := by
    funext a b
    unfold pj_u1
    split
    · rfl
    · rfl
  have e4 : pj_u1 P (N + 1) none = P := by
    funext a b
    unfold pj_u1
    split
    · next h => rw [h, hP _ _ (by omega)]
    · rfl
  show (pj_inc (.inl N), pj_u1 (I0 xs) (N + 1) 0, pj_u1 J0 (N + 1) 0, pj_u1 P (N + 1) none) = _
  rw [e1, e2, e3, e4]
section MKR
variable {L d : Nat} {G : pj_Mi} {pc len : Nat} {lv : List Slot} {st : List Value} {σ : pj_St} {r : pj_Rs × pj_St} {xs : Nat → Int32} {N : Nat} {P : pj_SP}
/-- Object's own maker -/
theorem ev_obj {i : Instr} {o : Nat} (hc : pj_cd G pc = some (i, len)) (hr : pj_isRet i = false) (ht : pj_thr G i pc = none) (hk : pj_cal G i = some (999, 2)) (hw : pj_wt st ≤ 8) (k : pj_Ev L d G (pc + len) lv st σ r) : pj_Ev L d G pc lv (.ref o :: st) σ r := by
  obtain ⟨f, hf⟩ := k
  refine ⟨f + 1, ?_⟩
  show (match pj_cd G pc with | none => none | some (i, len) => _) = _
  rw [hc]
  simp only [hr, ht, hk, hf, Bool.false_eq_true, if_false, if_true, true_and]
  rw [if_pos hw]
theorem ev_new {idx c : Nat} (hc : pj_cd G pc = some (.new idx, 3)) (hcr : pj_cr G.2.1.1 idx = some c) (ht : pj_thr G (.new idx) pc = none) (h1 : 1 ≤ c) (h4 : c ≤ 4) (hkd : pj_kd (N + 1) = c) (hN : N < 146) (hP : ∀ o k, N < o → P o k = none) (k : pj_Ev L d G (pc + 3) lv (.ref (N + 1) :: st) (.inl (N + 1), I0 xs, J0, P) r) : pj_Ev L d G pc lv st (.inl N, I0 xs, J0, P) r := by
  rw [← new_eq hN hP] at k
  refine ev_1 hc rfl ht rfl ?_ k
  show (match pj_cr G.2.1.1 idx with | some c => if 1 ≤ c ∧ c ≤ 4 ∧ pj_kd (N + 1) = c then _ else none | none => none) = _
  rw [hcr]
  simp only
  rw [if_pos ⟨h1, h4, hkd⟩]
  rfl
theorem c_seg_init {o : Nat} : pj_Ev L d gX3_init 0 [.val (.ref o)] [] σ (.inl none, σ) := by
  refine ev_b 1 rfl ?_
  refine ev_obj rfl rfl rfl rfl (by decide) ?_
  exact ev_ret rfl rfl rfl
end MKR
end
section
/-! a plan is made -/
set_option maxRecDepth 100000
def PPk (q : Nat) (P : pj_SP) (m : Nat) : pj_SP := fun o j => if o = q + 1 ∧ j < m then some (q + 2 + j) else pj_u2 P q 0 (some (q + 1)) o j
section MKP
variable {L d : Nat} {xs : Nat → Int32} {P : pj_SP} {q : Nat}
theorem PPk_none {m : Nat} (hP : ∀ o k, q < o → P o k = none) : ∀ o k, q + 1 + m < o → PPk q P m o k = none := fun o k ho => by
  unfold PPk
  rw [if_neg (by omega), u2n _ _ (by omega)]
  exact hP o k (by omega)
theorem PPk_s {m : Nat} : pj_u2 (PPk q P m) (q + 1) m (some (q + 2 + m)) = PPk q P (m + 1) := by
  funext o j
  by_cases h1 : o = q + 1
  · by_cases h2 : j = m
    · rw [h1, h2, pj_u2_self]
      unfold PPk
      rw [if_pos ⟨rfl, by omega⟩]
    · rw [u2k _ _ h2]
      unfold PPk
      by_cases h3 : j < m
      · rw [if_pos ⟨h1, h3⟩, if_pos ⟨h1, by omega⟩]
      · rw [if_neg (fun z => h3 z.2), if_neg (fun z => by omega)]
  · rw [u2n _ _ h1]
    unfold PPk
    rw [if_neg (fun z => h1 z.1), if_neg (fun z => h1 z.1)]
theorem c_plan_init (hq : isP q) (hP : ∀ o k, q < o → P o k = none) (hP0 : ∀ k, P (q + 1) k = none) :
    pj_Ev L (d + 1) gX2_init 0 [.val (.ref q), .unset] [] (.inl q, I0 xs, J0, P) (.inl none, (.inl (q + 41), I0 xs, J0, PPk q P 40)) := by
  have hq46 : q ≤ 46 := by rcases hq with rfl | rfl <;> decide
  have alq : ∀ m, pj_al (.inl (q + m)) q = true := fun m => decide_eq_true (by omega)
  have loop : ∀ m k (w : Int32), k + m = 40 → w = nI k → pj_Ev L (d + 1) gX2_init 15 [.val (.ref q), .val (.int w)] [] (.inl (q + 1 + k), I0 xs, J0, PPk q P k) (.inl none, (.inl (q + 41), I0 xs, J0, PPk q P 40)) := by
    intro m
    induction m with
    | zero =>
      intro k w hk hw
      have hk : k = 40 := by omega
      subst hw; subst hk
      refine ev_b 2 rfl ?_
      refine ev_ge 40 40 rfl rfl (by omega) (by omega) (fun _ => ?_) (fun h => by omega)
      exact ev_ret rfl rfl rfl
    | succ m ih =>
      intro k w hk hw
      subst hw
      refine ev_b 2 rfl ?_
      refine ev_ge k 40 rfl rfl (by omega) (by omega) (fun h => by omega) (fun _ => ?_)
      refine ev_b 1 rfl ?_
      refine ev_gf q 2 0 (.ref (q + 1)) ?_ rfl rfl hq.kd (decide_eq_true (by omega)) ?_
      · show pj_rf (PPk q P k q 0) = _
        unfold PPk
        rw [if_neg (by omega), pj_u2_self]
        rfl
      refine ev_b 1 rfl ?_
      have hkd : pj_kd (q + 1 + k + 1) = 3 := by
        rw [show q + 1 + k + 1 = q + 2 + k by omega]
        exact hq.kd3 (by omega)
      refine ev_new (c := 3) rfl rfl rfl (by decide) (by decide) hkd (by omega) (PPk_none hP) ?_
      refine ev_b 1 rfl ?_
      refine ev_co rfl ?_ c_seg_init ?_
      · show decide (pj_kd (q + 1 + k + 1) = 3 ∧ pj_al (.inl (q + 1 + k + 1)) (q + 1 + k + 1) = true) = true
        exact decide_eq_true ⟨hkd, decide_eq_true (Nat.le_refl _)⟩
      refine ev_1 (i := .aastore) (len := 1) rfl rfl rfl rfl (pc' := 34) (lv' := [.val (.ref q), .val (.int (nI k))]) (st' := []) (σ' := (.inl (q + 1 + (k + 1)), I0 xs, J0, PPk q P (k + 1))) ?_ ?_
      · show (if pj_kd (q + 1) = 7 ∧ pj_al (.inl (q + 1 + k + 1)) (q + 1) = true ∧ pj_in L (q + 1) (nI k) = true ∧ pj_kd (q + 1 + k + 1) = 3 ∧ pj_al (.inl (q + 1 + k + 1)) (q + 1 + k + 1) = true then (some (34, [.val (.ref q), .val (.int (nI k))], [], ((.inl (q + 1 + k + 1) : pj_N), I0 xs, J0, pj_u2 (PPk q P k) (q + 1) (nI k).toNatClampNeg (some (q + 1 + k + 1)))) : Option pj_Cf) else none) = _
        rw [if_pos ⟨hq.kd7, decide_eq_true (by omega), pj_in_n (by rw [hq.ln]; omega) (by omega), hkd, decide_eq_true (Nat.le_refl _)⟩, nI_clamp (by omega), show q + 1 + k + 1 = q + 2 + k by omega, PPk_s, show q + 2 + k = q + 1 + (k + 1) by omega]
      · refine ev_b 2 rfl ?_
        exact ih (k + 1) _ (by omega) (nI_inc k)
  refine ev_b 1 rfl ?_
  refine ev_obj rfl rfl rfl rfl (by decide) ?_
  refine ev_b 2 rfl ?_
  have e0 := loop 40 0 (nI 0) rfl rfl
  have eP : PPk q P 0 = pj_u2 P q 0 (some (q + 1)) := by
    funext o j
    unfold PPk
    rw [if_neg (by omega)]
  rw [eP, Nat.add_zero] at e0
  refine ev_1 (i := .anewarray 9) (len := 3) rfl rfl rfl rfl (pc' := 10) (lv' := [.val (.ref q), .unset]) (st' := [.ref (q + 1), .ref q]) (σ' := (.inl (q + 1), I0 xs, J0, P)) ?_ ?_
  · rw [← new_eq (xs := xs) (by omega) hP]
    show (if (2 : Nat) = 2 ∧ (9 : Nat) = 9 ∧ pj_kd (q + 1) = 7 ∧ ¬ nI 40 < 0 ∧ (nI 40).toNatClampNeg = pj_ln L (q + 1) then (some (10, [.val (.ref q), .unset], [.ref (q + 1), .ref q], pj_new (.inl q, I0 xs, J0, P)) : Option pj_Cf) else none) = _
    rw [if_pos ⟨rfl, rfl, hq.kd7, by decide, by rw [hq.ln]; rfl⟩]
  · refine ev_1 (i := .putfield 11) (len := 3) rfl rfl rfl rfl (pc' := 13) (lv' := [.val (.ref q), .unset]) (st' := []) (σ' := (.inl (q + 1), I0 xs, J0, pj_u2 P q 0 (some (q + 1)))) ?_ ?_
    · show (if pj_kd q = 2 ∧ pj_al (.inl (q + 1)) q = true ∧ (pj_fin 2 0 = false ∨ ((2 : Nat) = 2 ∧ (2 : Nat) = 2)) then (some (13, [.val (.ref q), .unset], [], ((.inl (q + 1) : pj_N), I0 xs, J0, pj_u2 P q 0 (some (q + 1)))) : Option pj_Cf) else none) = _
      rw [if_pos ⟨hq.kd, alq 1, Or.inr ⟨rfl, rfl⟩⟩]
    · exact ev_b 2 rfl e0
end MKP
end
section
/-! the router and the model are made -/
set_option maxRecDepth 100000
def NN (N : Nat) (P : pj_SP) : Prop := ∀ o k, N < o → P o k = none
theorem NN.up {N M : Nat} {P : pj_SP} (h : NN N P) (hm : N ≤ M) : NN M P := fun o k ho => h o k (by omega)
theorem NN.u {N a b : Nat} {v : Option Nat} {P : pj_SP} (h : NN N P) (ha : a ≤ N) : NN N (pj_u2 P a b v) := fun o k ho => by
  rw [u2n _ _ (by omega)]; exact h o k ho
section MKI
variable {L d : Nat} {G : pj_Mi} {pc : Nat} {lv : List Slot} {st : List Value} {r : pj_Rs × pj_St} {xs : Nat → Int32} {N : Nat} {P : pj_SP}
theorem ev_na {t : ClassFile.ArrayType} {n : Nat} (hc : pj_cd G pc = some (.newarray t, 2)) (ht : (t = .int ∧ pj_kd (N + 1) = 5) ∨ (t = .long ∧ pj_kd (N + 1) = 6)) (hn : n < 2 ^ 31) (hl : pj_ln L (N + 1) = n) (hN : N < 146) (hP : NN N P) (k : pj_Ev L d G (pc + 2) lv (.ref (N + 1) :: st) (.inl (N + 1), I0 xs, J0, P) r) : pj_Ev L d G pc lv (.int (nI n) :: st) (.inl N, I0 xs, J0, P) r := by
  rw [← new_eq hN hP] at k
  refine ev_1 hc rfl rfl rfl ?_ k
  show (if ((t = .int ∧ pj_kd (N + 1) = 5) ∨ (t = .long ∧ pj_kd (N + 1) = 6)) ∧ ¬ nI n < 0 ∧ (nI n).toNatClampNeg = pj_ln L (N + 1) then (some (pc + 2, lv, .ref (N + 1) :: st, pj_new (.inl N, I0 xs, J0, P)) : Option pj_Cf) else none) = _
  rw [if_pos ⟨ht, nI_pos hn, by rw [nI_clamp hn, hl]⟩]
end MKI
def P0 : pj_SP := fun _ _ => none
def p4 : pj_SP := pj_u2 (PPk 4 (pj_u2 (pj_u2 P0 1 0 (some 2)) 1 1 (some 3)) 40) 1 2 (some 4)
def p8 : pj_SP := pj_u2 (pj_u2 (pj_u2 (PPk 46 p4 40) 1 3 (some 46)) 1 5 (some 88)) 1 6 (some 89)
def p9 : pj_SP := fun a b => if a = 90 ∧ b < 40 then some (91 + b) else if 90 ≤ a ∧ a ≤ 130 then none else p8 a b
def p10 : pj_SP := pj_u2 p9 1 11 (some 90)
theorem nn_0 : NN 1 P0 := fun _ _ _ => rfl
theorem nn_3 : NN 3 (pj_u2 (pj_u2 P0 1 0 (some 2)) 1 1 (some 3)) := ((nn_0.u (by decide)).u (by decide)).up (by decide)
theorem nn_4 : NN 45 p4 := NN.u (fun o k ho => PPk_none (nn_3.up (by decide)) o k (by omega)) (by decide)
theorem nn_8 : NN 89 p8 := (((NN.u (fun o k ho => PPk_none (nn_4.up (by decide)) o k (by omega)) (by decide : 1 ≤ 87)).u (by decide)).u (by decide)).up (by decide)
theorem grid_I (xs : Nat → Int32) : (fun a b => if 90 ≤ a ∧ a ≤ 130 then 0 else I0 xs a b) = I0 xs := by
  funext a b
  split
  · next h => unfold I0; rw [if_neg (by omega)]
  · rfl
theorem grid_J : (fun a b => if 90 ≤ a ∧ a ≤ 130 then 0 else J0 a b) = J0 := by
  funext a b
  split <;> rfl
theorem c_router_init {L d : Nat} {xs : Nat → Int32} : pj_Ev L (d + 2) gX1_init 0 [.val (.ref 1)] [] (.inl 1, I0 xs, J0, P0) (.inl none, (.inl 130, I0 xs, J0, p10)) := by
  refine ev_b 1 rfl ?_
  refine ev_obj rfl rfl rfl rfl (by decide) ?_
  refine ev_b 2 rfl ?_
  refine ev_na (n := 20) rfl (Or.inl ⟨rfl, rfl⟩) (by decide) rfl (by decide) nn_0 ?_
  refine ev_b 3 rfl ?_
  refine ev_na (n := 20) rfl (Or.inl ⟨rfl, rfl⟩) (by decide) rfl (by decide) ((nn_0.u (by decide)).up (by decide)) ?_
  refine ev_b 2 rfl ?_
  refine ev_new (c := 2) rfl rfl rfl (by decide) (by decide) rfl (by decide) nn_3 ?_
  refine ev_b 1 rfl ?_
  refine ev_c rfl (c_plan_init (Or.inl rfl) (nn_3.up (by decide)) (fun k => nn_3 5 k (by decide))) ?_
  refine ev_b 2 rfl ?_
  refine ev_new (c := 2) rfl rfl rfl (by decide) (by decide) rfl (by decide) nn_4 ?_
  refine ev_b 1 rfl ?_
  refine ev_c rfl (c_plan_init (Or.inr rfl) (nn_4.up (by decide)) (fun k => nn_4 47 k (by decide))) ?_
  refine ev_b 3 rfl ?_
  refine ev_na (n := 40) rfl (Or.inl ⟨rfl, rfl⟩) (by decide) rfl (by decide) (NN.u (fun o k ho => PPk_none (nn_4.up (by decide)) o k (by omega)) (by decide)) ?_
  refine ev_b 3 rfl ?_
  refine ev_na (n := 40) rfl (Or.inl ⟨rfl, rfl⟩) (by decide) rfl (by decide) ((((NN.u (fun o k ho => PPk_none (nn_4.up (by decide)) o k (by omega)) (by decide : 1 ≤ 87)).u (by decide))).up (by decide)) ?_
  refine ev_b 4 rfl ?_
  have k67 : pj_Ev L (d + 2) gX1_init 67 [.val (.ref 1)] [.ref 90, .ref 1] (.inl 130, I0 xs, J0, p9) (.inl none, (.inl 130, I0 xs, J0, p10)) := by
    refine ev_b 1 rfl ?_
    exact ev_ret rfl rfl rfl
  have e : pj_grid (.inl 89, I0 xs, J0, p8) = (.inl 130, I0 xs, J0, p9) := by
    show ((.inl 130 : pj_N), (fun a b => if 90 ≤ a ∧ a ≤ 130 then 0 else I0 xs a b), (fun a b => if 90 ≤ a ∧ a ≤ 130 then 0 else J0 a b), p9) = _
    rw [grid_I, grid_J]
  rw [← e] at k67
  exact ev_b 1 rfl k67
end
section
/-! the model is made; the law begins -/
set_option maxRecDepth 100000
theorem nn_10 : NN 131 p10 := NN.u (fun o k ho => by
  unfold p9
  rw [if_neg (by omega), if_neg (by omega)]
  exact nn_8 o k (by omega)) (by decide)
def m0 : pj_SP := pj_u2 p10 131 1 (some 132)
theorem nm0 : NN 132 m0 := (NN.u nn_10 (by decide)).up (by decide)
def m1 : pj_SP := pj_u2 m0 131 3 (some 133)
theorem nm1 : NN 133 m1 := (NN.u nm0 (by decide)).up (by decide)
def m2 : pj_SP := pj_u2 m1 131 4 (some 134)
theorem nm2 : NN 134 m2 := (NN.u nm1 (by decide)).up (by decide)
def m3 : pj_SP := pj_u2 m2 131 5 (some 135)
theorem nm3 : NN 135 m3 := (NN.u nm2 (by decide)).up (by decide)
def m4 : pj_SP := pj_u2 m3 131 6 (some 136)
theorem nm4 : NN 136 m4 := (NN.u nm3 (by decide)).up (by decide)
def m5 : pj_SP := pj_u2 m4 131 7 (some 137)
theorem nm5 : NN 137 m5 := (NN.u nm4 (by decide)).up (by decide)
def m6 : pj_SP := pj_u2 m5 131 8 (some 138)
theorem nm6 : NN 138 m6 := (NN.u nm5 (by decide)).up (by decide)
def m7 : pj_SP := pj_u2 m6 131 9 (some 139)
theorem nm7 : NN 139 m7 := (NN.u nm6 (by decide)).up (by decide)
def m8 : pj_SP := pj_u2 m7 131 10 (some 140)
theorem nm8 : NN 140 m8 := (NN.u nm7 (by decide)).up (by decide)
def m9 : pj_SP := pj_u2 m8 131 14 (some 141)
theorem nm9 : NN 141 m9 := (NN.u nm8 (by decide)).up (by decide)
def m10 : pj_SP := pj_u2 m9 131 15 (some 142)
theorem nm10 : NN 142 m10 := (NN.u nm9 (by decide)).up (by decide)
def m11 : pj_SP := pj_u2 m10 131 16 (some 143)
theorem nm11 : NN 143 m11 := (NN.u nm10 (by decide)).up (by decide)
def m12 : pj_SP := pj_u2 m11 131 17 (some 144)
theorem nm12 : NN 144 m12 := (NN.u nm11 (by decide)).up (by decide)
def m13 : pj_SP := pj_u2 m12 131 18 (some 145)
theorem nm13 : NN 145 m13 := (NN.u nm12 (by decide)).up (by decide)
def m14 : pj_SP := pj_u2 m13 131 20 (some 146)
theorem nm14 : NN 146 m14 := (NN.u nm13 (by decide)).up (by decide)
theorem c_model_init {L d : Nat} {xs : Nat → Int32} : pj_Ev L d gX4_init 0 [.val (.ref 131)] [] (.inl 131, I0 xs, J0, p10) (.inl none, (.inl 146, I0 xs, J0, m14)) := by
  refine ev_b 1 rfl ?_
  refine ev_obj rfl rfl rfl rfl (by decide) ?_
  refine ev_b 2 rfl ?_
  refine ev_na (n := 40) (N := 131) (P := p10) rfl (Or.inl ⟨rfl, rfl⟩) (by decide) rfl (by decide) nn_10 ?_
  refine ev_b 3 (σ' := (.inl 132, I0 xs, J0, m0)) rfl ?_
  refine ev_na (n := 40) (N := 132) (P := m0) rfl (Or.inl ⟨rfl, rfl⟩) (by decide) rfl (by decide) nm0 ?_
  refine ev_b 3 (σ' := (.inl 133, I0 xs, J0, m1)) rfl ?_
  refine ev_na (n := 40) (N := 133) (P := m1) rfl (Or.inl ⟨rfl, rfl⟩) (by decide) rfl (by decide) nm1 ?_
  refine ev_b 3 (σ' := (.inl 134, I0 xs, J0, m2)) rfl ?_
  refine ev_na (n := 40) (N := 134) (P := m2) rfl (Or.inl ⟨rfl, rfl⟩) (by decide) rfl (by decide) nm2 ?_
  refine ev_b 3 (σ' := (.inl 135, I0 xs, J0, m3)) rfl ?_
  refine ev_na (n := 40) (N := 135) (P := m3) rfl (Or.inl ⟨rfl, rfl⟩) (by decide) rfl (by decide) nm3 ?_
  refine ev_b 3 (σ' := (.inl 136, I0 xs, J0, m4)) rfl ?_
  refine ev_na (n := 40) (N := 136) (P := m4) rfl (Or.inr ⟨rfl, rfl⟩) (by decide) rfl (by decide) nm4 ?_
  refine ev_b 3 (σ' := (.inl 137, I0 xs, J0, m5)) rfl ?_
  refine ev_na (n := 40) (N := 137) (P := m5) rfl (Or.inr ⟨rfl, rfl⟩) (by decide) rfl (by decide) nm5 ?_
  refine ev_b 3 (σ' := (.inl 138, I0 xs, J0, m6)) rfl ?_
  refine ev_na (n := 40) (N := 138) (P := m6) rfl (Or.inl ⟨rfl, rfl⟩) (by decide) rfl (by decide) nm6 ?_
  refine ev_b 3 (σ' := (.inl 139, I0 xs, J0, m7)) rfl ?_
  refine ev_na (n := 40) (N := 139) (P := m7) rfl (Or.inl ⟨rfl, rfl⟩) (by decide) rfl (by decide) nm7 ?_
  refine ev_b 3 (σ' := (.inl 140, I0 xs, J0, m8)) rfl ?_
  refine ev_na (n := 40) (N := 140) (P := m8) rfl (Or.inl ⟨rfl, rfl⟩) (by decide) rfl (by decide) nm8 ?_
  refine ev_b 3 (σ' := (.inl 141, I0 xs, J0, m9)) rfl ?_
  refine ev_na (n := 40) (N := 141) (P := m9) rfl (Or.inl ⟨rfl, rfl⟩) (by decide) rfl (by decide) nm9 ?_
  refine ev_b 3 (σ' := (.inl 142, I0 xs, J0, m10)) rfl ?_
  refine ev_na (n := 40) (N := 142) (P := m10) rfl (Or.inl ⟨rfl, rfl⟩) (by decide) rfl (by decide) nm10 ?_
  refine ev_b 3 (σ' := (.inl 143, I0 xs, J0, m11)) rfl ?_
  refine ev_na (n := 40) (N := 143) (P := m11) rfl (Or.inl ⟨rfl, rfl⟩) (by decide) rfl (by decide) nm11 ?_
  refine ev_b 3 (σ' := (.inl 144, I0 xs, J0, m12)) rfl ?_
  refine ev_na (n := 40) (N := 144) (P := m12) rfl (Or.inl ⟨rfl, rfl⟩) (by decide) rfl (by decide) nm12 ?_
  refine ev_b 3 (σ' := (.inl 145, I0 xs, J0, m13)) rfl ?_
  refine ev_na (n := 40) (N := 145) (P := m13) rfl (Or.inl ⟨rfl, rfl⟩) (by decide) rfl (by decide) nm13 ?_
  refine ev_b 1 (σ' := (.inl 146, I0 xs, J0, m14)) rfl ?_
  exact ev_ret rfl rfl rfl
end
section
/-! the law begins -/
set_option maxRecDepth 100000
theorem nn_10b : NN 130 p10 := NN.u (fun o k ho => by
  unfold p9
  rw [if_neg (by omega), if_neg (by omega)]
  exact nn_8 o k (by omega)) (by decide)
theorem PT_eq : m14 = pj_PT 4 46 88 89 := by
  funext o k
  unfold m14 m13 m12 m11 m10 m9 m8 m7 m6 m5 m4 m3 m2 m1 m0 p10 p9 p8 p4 PPk P0 pj_u2 pj_PT
  by_cases h1 : o = 1
  · subst h1
    simp
    repeat' split
    all_goals first | rfl | omega
  · by_cases h131 : o = 131
    · subst h131
      by_cases e1 : k = 1
      · subst e1; rfl
      by_cases e3 : k = 3
      · subst e3; rfl
      by_cases e4 : k = 4
      · subst e4; rfl
      by_cases e5 : k = 5
      · subst e5; rfl
      by_cases e6 : k = 6
      · subst e6; rfl
      by_cases e7 : k = 7
      · subst e7; rfl
      by_cases e8 : k = 8
      · subst e8; rfl
      by_cases e9 : k = 9
      · subst e9; rfl
      by_cases e10 : k = 10
      · subst e10; rfl
      by_cases e14 : k = 14
      · subst e14; rfl
      by_cases e15 : k = 15
      · subst e15; rfl
      by_cases e16 : k = 16
      · subst e16; rfl
      by_cases e17 : k = 17
      · subst e17; rfl
      by_cases e18 : k = 18
      · subst e18; rfl
      by_cases e20 : k = 20
      · subst e20; rfl
      simp [e1, e3, e4, e5, e6, e7, e8, e9, e10, e14, e15, e16, e17, e18, e20]
    · simp [h1, h131]
      repeat' split
      all_goals first | rfl | omega | (exfalso; omega) | (congr 1; omega)
theorem new_147 {xs : Nat → Int32} : pj_new (.inl 146, I0 xs, J0, m14) = (.inr 0, I0 xs, J0, m14) := by
  have e2 : pj_u1 (I0 xs) 147 0 = I0 xs := by
    funext a b
    unfold pj_u1
    split
    · next h => rw [h]; rfl
    · rfl
  have e3 : pj_u1 J0 147 0 = J0 := by
    funext a b
    unfold pj_u1
    split <;> rfl
  have e4 : pj_u1 m14 147 none = m14 := by
    funext a b
    unfold pj_u1
    split
    · next h => rw [h, nm14 147 b (by decide)]
    · rfl
  show ((.inr 0 : pj_N), pj_u1 (I0 xs) 147 0, pj_u1 J0 147 0, pj_u1 m14 147 none) = _
  rw [e2, e3, e4]
theorem inv_0 (xs : Nat → Int32) : INV xs (I0 xs) 4 88 := ⟨fun _ => 0, false, 0, 0, 0, fun _ => 0, fun _ => 0, fun _ => 0, fun _ => 0, fun _ _ => false, fun _ => rfl, ⟨fun _ _ => ⟨rfl, rfl⟩, fun _ _ => rfl, fun _ _ => Nat.zero_le _⟩, ⟨rfl, rfl⟩, ⟨rfl, rfl⟩, ⟨Nat.zero_le _, rfl, rfl, fun k hk => by omega⟩, ⟨rfl, rfl, ⟨Nat.zero_le _, Nat.zero_le _⟩, fun k hk => by omega, fun k hk => by omega⟩, fun z => (by cases z), fun _ => ⟨rfl, rfl⟩⟩
theorem pj_law (L : Nat) (xs : Nat → Int32) (hL : L ≤ 256) : ∃ σ', pj_Ev L 15 gL_law 0 (pj_ent 9 [.ref 0]) [] (.inl 0, fun o k => if o = 0 then xs k else 0, fun _ _ => 0, fun _ _ => none) (.inl (some (.int 1)), σ') ∧ pj_cnt σ'.1 ≤ 10000 := by
  obtain ⟨σ', ev, hcn⟩ := law_loop (xs := xs) hL 64 0 0 (I0 xs) J0 4 46 88 89 .unset .unset .unset .unset (by omega) (by omega) (by omega) ⟨Or.inl ⟨rfl, rfl⟩, Or.inl ⟨rfl, rfl⟩⟩ (inv_0 xs)
  refine ⟨σ', ?_, hcn⟩
  show pj_Ev L 15 gL_law 0 [.val (.ref 0), .unset, .unset, .unset, .unset, .unset, .unset, .unset, .unset] [] (.inl 0, I0 xs, J0, P0) _
  refine ev_new (c := 1) rfl rfl rfl (by decide) (by decide) rfl (by decide) (fun _ _ _ => rfl) ?_
  refine ev_b 1 rfl ?_
  refine ev_c rfl c_router_init ?_
  refine ev_b 1 rfl ?_
  refine ev_new (N := 130) (c := 4) rfl rfl rfl (by decide) (by decide) rfl (by decide) nn_10b ?_
  refine ev_b 1 rfl ?_
  refine ev_c rfl c_model_init ?_
  refine ev_b 2 rfl ?_
  unfold xS at ev
  rw [← PT_eq] at ev
  have k19 : pj_Ev L 15 gL_law 19 [.val (.ref 0), .val (.ref 1), .val (.ref 131), .unset, .unset, .unset, .unset, .unset, .unset] [.ref 147] (.inr 0, I0 xs, J0, m14) (.inl (some (.int 1)), σ') := ev_b 3 rfl ev
  rw [← new_147] at k19
  exact ev_b 1 rfl k19
end
section
/-! THE CLAIM OUT OF ONE WALK OF THE LAW'S BODY. Your part is whole_start (and what it stands on); all else here is the same for every law, but numbers. -/
def R_law : String := "ChannelRouterLaw"
def lw_P (b : Addr) (xs : List Int32) (args : Array Value) (s : State) : Prop := args = #[.ref b] ∧ s.IntsAt b xs ∧ xs.length ≤ 256 ∧ (Jvm.Cond.and given_1 narrow_1).before args s = true
def lw_Q (_ : Array Value) (s : State) (o : Outcome) (t : State) : Prop := o = .returned (some (.int 1)) ∧ Framed s o t [] 708382 6886990
def lw_Z (below : List Frame) (a : Array Value) (s : State) : State → Prop := fun t => ∃ o, t.status = .running ∧ Ended t below o ∧ lw_Q a s o t
/-- the law's own end, with 1 on the stack, nothing written that was there before, its room as the claim has it -/
theorem lw_ret {p : Program} {l : Launch} {e : Env} {s : State} {m : MethodId} {below : List Frame} {meth : Method} {c : Code} {b : Nat} (hx : p.tables.exec = Jvm.exec) (hb : c.code = code) (hr : meth.sig.returnType = ret) (hlocks : meth.locks = false) {pc : Nat} {H : Heap} {ls : Array Slot} (hdg : decode code pc = .ok (.ireturn, 1)) : W p l e room_1 s m #[Value.ref b] below meth c H [] 708382 6886990 (lw_Z below #[Value.ref b] s) (F0 m pc ls [.int 1]) := by
  intro T hT X
  obtain ⟨fs, hret, hrun, hended, hW, hframe⟩ := X.leave (v := some (.int 1)) (hlocks := hlocks) (fun h => by rw [hr] at h; cases h)
  have hmeth' : T.vm.method? m = some meth := X.method'
  refine ⟨T.setFrames fs, ?_, .returned (some (.int 1)), hrun, hended, rfl, ⟨_, rfl⟩, hW, hframe⟩
  jvm_step X.here [X.here.top, hx, hb, hdg, hmeth', hr, ret, narrow_b1]
  (try refine ⟨rfl, ?_⟩); (try refine ⟨rfl, ?_⟩)
  first | (intro acts; rw [hret _ acts rfl rfl rfl]) | rw [hret _ _ rfl rfl rfl]
  exact Steps.refl _
/-- what holds at the law's entry: the machine, the code, the tables' words (any of lw_tbl by 'hts w (by decide +kernel)'), the script of L ints xs at the cell b, what the Statement gives of the start (any of its parts by flat_of_before) -/
def lw_At (p : Program) (s : State) (m : MethodId) (meth : Method) (c : Code) (b L : Nat) (xs : Nat → Int32) : Prop :=
  p.tables.exec = Jvm.exec ∧ c.code = code ∧ meth.sig.returnType = ret ∧ c.maxLocals = 9 ∧ s.vm.findClass R_law = some m.cls ∧ (∀ w ∈ lw_tbl, w.before #[Value.ref b] s = true) ∧ va_X b L xs s s.heap ∧ b < s.heap.size ∧ meth.locks = false ∧ (Jvm.Cond.and given_1 narrow_1).before #[Value.ref b] s = true ∧ meth.code = some c ∧ s.vm.method? m = some meth ∧ c.exceptionTable.toList = []
-- ===== YOUR PART BEGINS =====
def pj_s0 (xs : Nat → Int32) : pj_St := (.inl 0, fun o k => if o = 0 then xs k else 0, fun _ _ => 0, fun _ _ => none)
theorem whole_start {p : Program} {e : Env} {s : State} {m : MethodId} {below : List Frame} {meth : Method} {c : Code} (l : Launch) (hfl : l.flags = flags0) {b L : Nat} {xs : Nat → Int32} (hL : L ≤ 256) (C0 : lw_At p s m meth c b L xs) : W p l e room_1 s m #[Value.ref b] below meth c s.heap [] 0 0 (lw_Z below #[Value.ref b] s) (entryFrame m ([Value.ref b] : List Value).toArray 9) := by
  obtain ⟨hx, hb, hret, hml, hown, hts, hX, hbl, hlk, hgv, hcode, hmeth, hexT⟩ := C0
  have hall : ∀ w ∈ lw_all, w.before #[Value.ref b] s = true := fun w h => hts w (lw_all_tbl h)
  have hflat := flat_of_before _ hgv
  have hK0 : ∀ cl : Nat, ∃ q : ClassId × (Nat → Nat), 1 ≤ cl → cl ≤ 4 → u_Kn s (pj_cn cl) (pj_T cl) (pj_nf cl) q.1 q.2 := by
    intro cl
    by_cases h : 1 ≤ cl ∧ cl ≤ 4
    · have hin : ∃ n, (Cond.instantiable (pj_cn cl) n).before #[Value.ref b] s = true := by
        have hx4 : cl = 1 ∨ cl = 2 ∨ cl = 3 ∨ cl = 4 := by omega
        rcases hx4 with rfl | rfl | rfl | rfl
        · exact ⟨_, hall _ (pj_nww_0_8 _ (List.mem_cons_of_mem _ List.mem_cons_self))⟩
        · exact ⟨_, hall _ (pj_nww_1_16 _ (List.mem_cons_of_mem _ List.mem_cons_self))⟩
        · exact ⟨_, hall _ (pj_nww_2_9 _ (List.mem_cons_of_mem _ List.mem_cons_self))⟩
        · exact ⟨_, hall _ (pj_nww_0_49 _ (List.mem_cons_of_mem _ List.mem_cons_self))⟩
      obtain ⟨n, hn⟩ := hin
      obtain ⟨cC, iS, hq⟩ := u_known hall (pj_ins h.1 h.2) hn
      exact ⟨(cC, iS), fun _ _ => hq⟩
    · exact ⟨(0, fun _ => 0), fun h1 h4 => absurd ⟨h1, h4⟩ h⟩
  obtain ⟨fq, hfq⟩ := Classical.axiomOfChoice hK0
  have HB : pj_B l (fun cl => (fq cl).1) (fun cl => (fq cl).2) s #[Value.ref b] := by
    refine ⟨hfl, hts, ?_, ?_, fun cl h1 h4 => hfq cl h1 h4⟩
    · intro w hw
      simp only [pj_ref2, List.mem_cons, List.not_mem_nil, or_false] at hw
      rcases hw with rfl | rfl
      · exact hflat _ (by decide +kernel)
      · exact hflat _ (by decide +kernel)
    · intro x y hx1 hx2 hy1 hy2 hne
      have hx3 : x = 20 ∨ x = 21 ∨ x = 22 := by omega
      have hy3 : y = 20 ∨ y = 21 ∨ y = 22 := by omega
      rcases hx3 with rfl | rfl | rfl <;> rcases hy3 with rfl | rfl | rfl <;> first | exact absurd rfl hne | exact hflat _ (by decide +kernel)
  obtain ⟨σ', ⟨f, hrun⟩, hcnt⟩ := pj_law L xs hL
  have Cx : pj_Cx p s m meth c s gL_law := ⟨hx, hb, hml, by rw [hexT]; rfl, hown, hret, hlk, (fun h => by cases h), hcode, hmeth, ⟨State.WarmedH.refl s, fun _ _ => rfl⟩, (fun q cell hq hc => by
    have := (Array.getElem?_eq_some_iff.mp hc).1
    omega)⟩
  have hWd : pj_Wd b L (fun cl => (fq cl).1) (fun cl => (fq cl).2) s s (pj_s0 xs) s.heap := by
    refine ⟨rfl, fun _ _ => rfl, ⟨hbl, (fun q cell hq hc => by
      have := (Array.getElem?_eq_some_iff.mp hc).1
      omega)⟩, fun o ho => ?_⟩
    have ho0 : o = 0 := by
      have : o ≤ 0 := ho
      omega
    subst ho0
    refine ⟨fun _ h4 => absurd h4 (by decide), fun _ => ?_⟩
    obtain ⟨scr, x1, x2, x3, x4, x5⟩ := hX
    exact ⟨scr, x1, x2, x3, fun h => absurd h (by decide), x4, fun j hj => x5 j hj⟩
  have k := (pj_sound (a0 := b) (L := L) HB f 15 gL_law 0 _ [] (pj_s0 xs) _ σ' hrun (Or.inr rfl)).2 p e room_1 s m #[Value.ref b] below meth c s.heap [] 0 0 708382 6886990 _ Cx (by show 15 + 6 ≤ 21; omega) (by show 40 * 15 + 200 ≤ 10872; omega) (by omega) (Nat.le_refl _) (by omega) (Nat.le_refl _) hWd (pj_Lv.ent (vs := [.ref 0]) (n := 9) (by decide)) rfl (fun q h => by cases h)
  rw [lg_entry_eq]
  refine pj_mono ?_ k
  rintro t ⟨o, h1, h2, ⟨-, -, ho⟩, Lx, ⟨hw, hs⟩, hLx⟩
  have ho' : o = .returned (some (.int 1)) := ho
  subst ho'
  refine ⟨_, h1, h2, rfl, ⟨_, rfl⟩, hw, hs.weaken (fun y hy hlt => ?_) (Nat.le_refl _) (Nat.le_refl _)⟩
  exact absurd hlt (Nat.not_lt.mpr (hLx y hy))
-- ===== YOUR PART ENDS =====
set_option maxHeartbeats 4000000 in
theorem lw_walk (l : Launch) (hfl : l.flags = flags0) (b : Addr) (xs : List Int32) : MetFree l x (headSpec (Jvm.Cond.code x code maxLocals ret :: tables_1) room_1) (lw_P b xs) (fun _ _ _ _ _ => True) lw_Q := by
  refine MetFree.of_bodyS (code := code) (maxLocals := maxLocals) (ret := ret) (by decide) ?_ ?_
  · intro args s m h hn
    obtain ⟨meth, c, h1, h2, h3, h4, h5, h6, -, -⟩ := Cond.code_spec hn (atoms_spec (ws := Jvm.Cond.code x code maxLocals ret :: tables_1) h _ List.mem_cons_self)
    exact ⟨meth, c, h1, h2, h3, h4, h5, h6⟩
  · intro p e s m args below meth c s₁ B hml0 hP _
    obtain ⟨rfl, hx, hbd, hgv⟩ := hP
    obtain ⟨scr, harrAt, hlist, hof, hsmall⟩ := hx
    obtain ⟨hcb, hkn, -, -⟩ := State.arrayAt?_spec harrAt
    have hown : s.vm.findClass R_law = some m.cls := findClass_of_methodNamed B.named
    have hts0 : ∀ c ∈ (Jvm.Cond.code x code maxLocals ret :: tables_1), c.before #[Value.ref b] s = true := atoms_spec (ws := Jvm.Cond.code x code maxLocals ret :: tables_1) B.pre
    have hts : ∀ w ∈ lw_tbl, w.before #[Value.ref b] s = true := k2_hts_sels lw_privs (fun w hw => hts0 w (List.mem_cons_of_mem _ hw)) lw_privs_ok
    have hml : c.maxLocals = 9 := B.maxLocals_eq (hts0 _ List.mem_cons_self)
    have X₀ : Stand p l e room_1 s m #[Value.ref b] below meth c s₁ [] 0 0 := Stand.of_body B
    have hh0 : s₁.heap = s.heap := by rw [B.state]; rfl
    have hsz : scr.slots.size = xs.length := by rw [← Array.length_toList, hlist, List.length_map]
    have hval : ∀ j : Nat, j < xs.length → scr.slots[j]? = some (.int (xs.getD j 0)) := fun j hj => by
      rw [← Array.getElem?_toList, hlist]
      simp [hj]
    have hbl : b < s.heap.size := (Array.getElem?_eq_some_iff.mp hcb).1
    have hX : va_X b xs.length (fun j => xs.getD j 0) s s.heap := ⟨scr, hcb, hof, hkn, hsz, hval⟩
    have hexT : c.exceptionTable.toList = [] := by
      obtain ⟨meth9, c9, e1, e2, -, -, -, -, e7, -⟩ := Cond.code_spec B.named (hts0 _ List.mem_cons_self)
      cases B.method.symm.trans e1
      cases X₀.code.symm.trans e2
      simpa using e7
    have K : W p l e room_1 s m #[Value.ref b] below meth c s₁.heap [] 0 0 (lw_Z below #[Value.ref b] s) (entryFrame m ([Value.ref b] : List Value).toArray 9) := by
      rw [hh0]
      exact whole_start l hfl hbd ⟨B.exec, B.bytes, B.returns, hml, hown, hts, hX, hbl, B.notSynchronized, hgv, X₀.code, B.method, hexT⟩
    obtain ⟨t, a1, o, b1, b2, b3⟩ := K s₁ rfl X₀
    exact ⟨t, o, a1, b1, b2, b3⟩
theorem lw_pre_spec {args : Array Value} {s : State} (h : (Jvm.Cond.and given_1 narrow_1).before args s = true) (hr : rest_1_c.before args s = true) : ∃ (b : Addr) (xs : List Int32), lw_P b xs args s := by
  have hs := flat_of_before _ h
  have hq := flat_of_before _ hr
  have hc : (Cond.count 1).before args s = true := hs _ (by decide +kernel)
  have harr : (Cond.arrayOf (.arg 0) .int).before args s = true := hs _ (by decide +kernel)
  have hle : (Cond.le (.length (.arg 0)) (.int 256)).before args s = true := hs _ (by decide +kernel)
  have hlen : (Cond.isInt (.length (.arg 0))).before args s = true := hq _ (by decide +kernel)
  have hall : (Cond.all (.arg 0) (.isInt (.elem (.arg 0) (.index 0)))).before args s = true := hq _ (by decide +kernel)
  obtain ⟨b, xs, hb, hx⟩ := State.ints_of_pre rfl harr hlen hall
  have hsm : xs.length < 2 ^ 31 := hx.choose_spec.2.2.2
  have hev : (Term.length (.arg 0)).eval args s none [] s = some (.int xs.length.toInt32) := hx.length_eval hb
  have hv := Cond.le_ints hev (show (Term.int 256).eval args s none [] s = some (.int 256) from rfl)
  have hd : xs.length.toInt32 ≤ 256 := by
    simpa [Cond.before, Cond.holds, hv] using hle
  have hN : xs.length ≤ 256 := (Int32.ofNat_le_ofNat hsm (by decide)).mp (show Int32.ofNat xs.length ≤ Int32.ofNat 256 from hd)
  exact ⟨b, xs, Cond.one_arg hc (show args[0]? = some (.ref b) from hb), hx, hN, h⟩
theorem lw_comes (l : Launch) (hfl : l.flags = flags0) : Comes l x (Jvm.Cond.code x code maxLocals ret :: tables_1) room_1 (fun tb e args s => Calls_1 tb e args s ∧ rest_1 tb e args s ∧ Pre_1 tb e args s)
    (fun _ _ args s o t => lw_Q args s o t) := by
  intro p e ha hc hk s m args below hf hfit hheap happ hpre
  obtain ⟨b, xs, hP⟩ := lw_pre_spec hpre.2.2 hpre.2.1
  obtain ⟨k, o, h1, h2, h3, hQ⟩ := lw_walk l hfl b xs p e ha hc hk s m args below hf ((Spec.applies_iff_loose hf).mp happ).1 hP trivial
  exact ⟨k, o, h1, h2, h3, hQ⟩
theorem lw_frame {s t : State} {o : Outcome} {args : Array Value} (h : Framed s o t [] 708382 6886990) :
    Framed s o t (fieldLocs frame_1_writes args s ++ arrayLocs frame_1_arrays args s ++ staticLocs frame_1_statics s) 708382 6886990 := h
theorem lw_limb (L : Cond) (hL : ∀ (args : Array Value) (s t : State), L.after args s (.returned (some (.int 1))) t = true) :
    ArmFor flags0 classFile x code maxLocals ret World_1 tables_1 room_1 Calls_1 rest_1 Pre_1
      (fun tb e a s o t => postC L tb e a s o t ∧ Framed s o t (fieldLocs frame_1_writes a s ++ arrayLocs frame_1_arrays a s ++ staticLocs frame_1_statics s) 708382 6886990) := by
  intro l hfl _ _ p e ha hc hk s m args below hf hfit hheap happ hpre
  obtain ⟨k, o, h1, h2, h3, rfl, hF⟩ := lw_comes l hfl p e ha hc hk s m args below hf hfit hheap happ hpre
  exact ⟨k, _, h1, h2, h3, hL args s _, lw_frame hF⟩
theorem i_vc : Claimed_1_1 ∧ Claimed_1_2 := ⟨lw_limb limb_1_1 (fun args s t => by simp [limb_1_1, Cond.after, Cond.holds, Cond.value]), lw_limb limb_1_2 (fun args s t => Cond.after_iff.mpr (by
  first | (rw [show limb_1_2 = Cond.eq .result (.int 1) from rfl, Cond.eq_ints (x := 1) (y := 1) rfl rfl]; simp; done) | (simp [limb_1_2, Cond.value, Term.eval]; done)))⟩
end
