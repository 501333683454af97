-- ===== PART A: goes FIRST, ahead of the names: the tables' words, and 'selects' of the private methods out of them =====
/-- a private method of a class that the tables say can be made, by its rows of tables_1 -/
def lw_okq (q : MethodName × Nat) : Prop := (q.1.cls ≠ "java/lang/invoke/MethodHandle" ∧ q.1.cls ≠ "java/lang/invoke/VarHandle") ∧ Cond.instantiable q.1.cls q.2 ∈ tables_1 ∧ Cond.privateMethod q.1 ∈ tables_1 ∧ Cond.instanceMethod q.1 ∈ tables_1
set_option maxRecDepth 100000
theorem lw_t1 {w : Cond} (h : w ∈ tables_1_1) : w ∈ tables_1 := List.mem_append_left _ h
theorem lw_t2 {w : Cond} (h : w ∈ tables_1_2) : w ∈ tables_1 := List.mem_append_right _ (List.mem_append_left _ h)
theorem lw_t3 {w : Cond} (h : w ∈ tables_1_3) : w ∈ tables_1 := List.mem_append_right _ (List.mem_append_right _ (List.mem_append_left _ h))
theorem lw_t4 {w : Cond} (h : w ∈ tables_1_4) : w ∈ tables_1 := List.mem_append_right _ (List.mem_append_right _ (List.mem_append_right _ (List.mem_append_left _ h)))
theorem lw_t5 {w : Cond} (h : w ∈ tables_1_5) : w ∈ tables_1 := List.mem_append_right _ (List.mem_append_right _ (List.mem_append_right _ (List.mem_append_right _ (List.mem_append_left _ h))))
theorem lw_t6 {w : Cond} (h : w ∈ tables_1_6) : w ∈ tables_1 := List.mem_append_right _ (List.mem_append_right _ (List.mem_append_right _ (List.mem_append_right _ (List.mem_append_right _ h))))
theorem lw_p0 : lw_okq (⟨"FallsBetween", "act", "(IIII)I"⟩, 9) := ⟨⟨by decide +kernel, by decide +kernel⟩, lw_t1 (List.mem_of_getElem? (i := 32) rfl), lw_t1 (List.mem_of_getElem? (i := 181) rfl), lw_t1 (List.mem_of_getElem? (i := 182) rfl)⟩
theorem lw_p1 : lw_okq (⟨"FallsBetween", "ofTown", "(III)I"⟩, 9) := ⟨⟨by decide +kernel, by decide +kernel⟩, lw_t1 (List.mem_of_getElem? (i := 32) rfl), lw_t1 (List.mem_of_getElem? (i := 186) rfl), lw_t1 (List.mem_of_getElem? (i := 187) rfl)⟩
theorem lw_p2 : lw_okq (⟨"FallsBetween", "letterIt", "(I)I"⟩, 9) := ⟨⟨by decide +kernel, by decide +kernel⟩, lw_t1 (List.mem_of_getElem? (i := 32) rfl), lw_t1 (List.mem_of_getElem? (i := 190) rfl), lw_t1 (List.mem_of_getElem? (i := 191) rfl)⟩
theorem lw_p3 : lw_okq (⟨"java/lang/Throwable", "fillInStackTrace", "(I)Ljava/lang/Throwable;"⟩, 6) := ⟨⟨by decide +kernel, by decide +kernel⟩, lw_t1 (List.mem_of_getElem? (i := 239) rfl), lw_t1 (List.mem_of_getElem? (i := 237) rfl), lw_t1 (List.mem_of_getElem? (i := 238) rfl)⟩
theorem lw_p4 : lw_okq (⟨"FallsBetween", "readTown", "()I"⟩, 9) := ⟨⟨by decide +kernel, by decide +kernel⟩, lw_t1 (List.mem_of_getElem? (i := 32) rfl), lw_t2 (List.mem_of_getElem? (i := 30) rfl), lw_t2 (List.mem_of_getElem? (i := 31) rfl)⟩
theorem lw_p5 : lw_okq (⟨"FallsBetween$Reader", "here", "()I"⟩, 3) := ⟨⟨by decide +kernel, by decide +kernel⟩, lw_t2 (List.mem_of_getElem? (i := 34) rfl), lw_t2 (List.mem_of_getElem? (i := 58) rfl), lw_t2 (List.mem_of_getElem? (i := 59) rfl)⟩
theorem lw_p6 : lw_okq (⟨"FallsBetween$Reader", "mustStand", "(Z)V"⟩, 3) := ⟨⟨by decide +kernel, by decide +kernel⟩, lw_t2 (List.mem_of_getElem? (i := 34) rfl), lw_t2 (List.mem_of_getElem? (i := 62) rfl), lw_t2 (List.mem_of_getElem? (i := 63) rfl)⟩
theorem lw_p7 : lw_okq (⟨"FallsBetween$Reader", "told", "(II)LFallsBetween$Told;"⟩, 3) := ⟨⟨by decide +kernel, by decide +kernel⟩, lw_t2 (List.mem_of_getElem? (i := 34) rfl), lw_t2 (List.mem_of_getElem? (i := 84) rfl), lw_t2 (List.mem_of_getElem? (i := 85) rfl)⟩
theorem lw_p8 : lw_okq (⟨"FallsBetween$Reader", "tree", "(I)LFallsBetween$Told;"⟩, 3) := ⟨⟨by decide +kernel, by decide +kernel⟩, lw_t2 (List.mem_of_getElem? (i := 34) rfl), lw_t2 (List.mem_of_getElem? (i := 88) rfl), lw_t2 (List.mem_of_getElem? (i := 89) rfl)⟩
theorem lw_p9 : lw_okq (⟨"FallsBetween$Reader", "kindOf", "(I)I"⟩, 3) := ⟨⟨by decide +kernel, by decide +kernel⟩, lw_t2 (List.mem_of_getElem? (i := 34) rfl), lw_t2 (List.mem_of_getElem? (i := 92) rfl), lw_t2 (List.mem_of_getElem? (i := 93) rfl)⟩
theorem lw_p10 : lw_okq (⟨"FallsBetween$Reader", "two", "()I"⟩, 3) := ⟨⟨by decide +kernel, by decide +kernel⟩, lw_t2 (List.mem_of_getElem? (i := 34) rfl), lw_t2 (List.mem_of_getElem? (i := 96) rfl), lw_t2 (List.mem_of_getElem? (i := 97) rfl)⟩
theorem lw_p11 : lw_okq (⟨"FallsBetween$Reader", "digit", "()I"⟩, 3) := ⟨⟨by decide +kernel, by decide +kernel⟩, lw_t2 (List.mem_of_getElem? (i := 34) rfl), lw_t2 (List.mem_of_getElem? (i := 100) rfl), lw_t2 (List.mem_of_getElem? (i := 101) rfl)⟩
theorem lw_p12 : lw_okq (⟨"FallsBetween$Reader", "take", "(I)V"⟩, 3) := ⟨⟨by decide +kernel, by decide +kernel⟩, lw_t2 (List.mem_of_getElem? (i := 34) rfl), lw_t2 (List.mem_of_getElem? (i := 109) rfl), lw_t2 (List.mem_of_getElem? (i := 110) rfl)⟩
theorem lw_p13 : lw_okq (⟨"FallsBetween", "squareTold", "(II)I"⟩, 9) := ⟨⟨by decide +kernel, by decide +kernel⟩, lw_t1 (List.mem_of_getElem? (i := 32) rfl), lw_t3 (List.mem_of_getElem? (i := 97) rfl), lw_t3 (List.mem_of_getElem? (i := 98) rfl)⟩
theorem lw_p14 : lw_okq (⟨"FallsBetween", "treeTold", "(II)I"⟩, 9) := ⟨⟨by decide +kernel, by decide +kernel⟩, lw_t1 (List.mem_of_getElem? (i := 32) rfl), lw_t3 (List.mem_of_getElem? (i := 148) rfl), lw_t3 (List.mem_of_getElem? (i := 149) rfl)⟩
theorem lw_p15 : lw_okq (⟨"FallsBetween", "mustBeTree", "(I)V"⟩, 9) := ⟨⟨by decide +kernel, by decide +kernel⟩, lw_t1 (List.mem_of_getElem? (i := 32) rfl), lw_t3 (List.mem_of_getElem? (i := 152) rfl), lw_t3 (List.mem_of_getElem? (i := 153) rfl)⟩
def lw_privs_1 : List (MethodName × Nat) := [(⟨"FallsBetween", "act", "(IIII)I"⟩, 9), (⟨"FallsBetween", "ofTown", "(III)I"⟩, 9), (⟨"FallsBetween", "letterIt", "(I)I"⟩, 9), (⟨"java/lang/Throwable", "fillInStackTrace", "(I)Ljava/lang/Throwable;"⟩, 6), (⟨"FallsBetween", "readTown", "()I"⟩, 9), (⟨"FallsBetween$Reader", "here", "()I"⟩, 3), (⟨"FallsBetween$Reader", "mustStand", "(Z)V"⟩, 3), (⟨"FallsBetween$Reader", "told", "(II)LFallsBetween$Told;"⟩, 3), (⟨"FallsBetween$Reader", "tree", "(I)LFallsBetween$Told;"⟩, 3), (⟨"FallsBetween$Reader", "kindOf", "(I)I"⟩, 3), (⟨"FallsBetween$Reader", "two", "()I"⟩, 3), (⟨"FallsBetween$Reader", "digit", "()I"⟩, 3), (⟨"FallsBetween$Reader", "take", "(I)V"⟩, 3), (⟨"FallsBetween", "squareTold", "(II)I"⟩, 9), (⟨"FallsBetween", "treeTold", "(II)I"⟩, 9), (⟨"FallsBetween", "mustBeTree", "(I)V"⟩, 9)]
theorem lw_r1 : ∀ q ∈ lw_privs_1, lw_okq q := List.forall_mem_cons.mpr ⟨lw_p0, List.forall_mem_cons.mpr ⟨lw_p1, List.forall_mem_cons.mpr ⟨lw_p2, List.forall_mem_cons.mpr ⟨lw_p3, List.forall_mem_cons.mpr ⟨lw_p4, List.forall_mem_cons.mpr ⟨lw_p5, List.forall_mem_cons.mpr ⟨lw_p6, List.forall_mem_cons.mpr ⟨lw_p7, List.forall_mem_cons.mpr ⟨lw_p8, List.forall_mem_cons.mpr ⟨lw_p9, List.forall_mem_cons.mpr ⟨lw_p10, List.forall_mem_cons.mpr ⟨lw_p11, List.forall_mem_cons.mpr ⟨lw_p12, List.forall_mem_cons.mpr ⟨lw_p13, List.forall_mem_cons.mpr ⟨lw_p14, List.forall_mem_cons.mpr ⟨lw_p15, fun _ h => absurd h List.not_mem_nil⟩⟩⟩⟩⟩⟩⟩⟩⟩⟩⟩⟩⟩⟩⟩⟩
theorem lw_p16 : lw_okq (⟨"FallsBetween", "gardenTold", "(II)I"⟩, 9) := ⟨⟨by decide +kernel, by decide +kernel⟩, lw_t1 (List.mem_of_getElem? (i := 32) rfl), lw_t3 (List.mem_of_getElem? (i := 177) rfl), lw_t3 (List.mem_of_getElem? (i := 178) rfl)⟩
theorem lw_p17 : lw_okq (⟨"FallsBetween", "heightTold", "(II)I"⟩, 9) := ⟨⟨by decide +kernel, by decide +kernel⟩, lw_t1 (List.mem_of_getElem? (i := 32) rfl), lw_t3 (List.mem_of_getElem? (i := 184) rfl), lw_t3 (List.mem_of_getElem? (i := 185) rfl)⟩
theorem lw_p18 : lw_okq (⟨"FallsBetween", "netTold", "(I)I"⟩, 9) := ⟨⟨by decide +kernel, by decide +kernel⟩, lw_t1 (List.mem_of_getElem? (i := 32) rfl), lw_t3 (List.mem_of_getElem? (i := 189) rfl), lw_t3 (List.mem_of_getElem? (i := 190) rfl)⟩
theorem lw_p19 : lw_okq (⟨"FallsBetween", "windTold", "(I)I"⟩, 9) := ⟨⟨by decide +kernel, by decide +kernel⟩, lw_t1 (List.mem_of_getElem? (i := 32) rfl), lw_t3 (List.mem_of_getElem? (i := 193) rfl), lw_t3 (List.mem_of_getElem? (i := 194) rfl)⟩
theorem lw_p20 : lw_okq (⟨"FallsBetween", "lawTold", "(I)I"⟩, 9) := ⟨⟨by decide +kernel, by decide +kernel⟩, lw_t1 (List.mem_of_getElem? (i := 32) rfl), lw_t3 (List.mem_of_getElem? (i := 198) rfl), lw_t3 (List.mem_of_getElem? (i := 199) rfl)⟩
theorem lw_p21 : lw_okq (⟨"FallsBetween", "ofFalls", "(IIII)I"⟩, 9) := ⟨⟨by decide +kernel, by decide +kernel⟩, lw_t1 (List.mem_of_getElem? (i := 32) rfl), lw_t3 (List.mem_of_getElem? (i := 206) rfl), lw_t3 (List.mem_of_getElem? (i := 207) rfl)⟩
theorem lw_p22 : lw_okq (⟨"FallsBetween$Town", "falls", "(III)V"⟩, 12) := ⟨⟨by decide +kernel, by decide +kernel⟩, lw_t1 (List.mem_of_getElem? (i := 40) rfl), lw_t3 (List.mem_of_getElem? (i := 230) rfl), lw_t3 (List.mem_of_getElem? (i := 231) rfl)⟩
theorem lw_p23 : lw_okq (⟨"FallsBetween$Town", "rolled", "(I)I"⟩, 12) := ⟨⟨by decide +kernel, by decide +kernel⟩, lw_t1 (List.mem_of_getElem? (i := 40) rfl), lw_t4 (List.mem_of_getElem? (i := 29) rfl), lw_t4 (List.mem_of_getElem? (i := 30) rfl)⟩
theorem lw_p24 : lw_okq (⟨"FallsBetween", "ofTree", "(II)I"⟩, 9) := ⟨⟨by decide +kernel, by decide +kernel⟩, lw_t1 (List.mem_of_getElem? (i := 32) rfl), lw_t4 (List.mem_of_getElem? (i := 54) rfl), lw_t4 (List.mem_of_getElem? (i := 55) rfl)⟩
theorem lw_p25 : lw_okq (⟨"FallsBetween", "setAsked", "(III)I"⟩, 9) := ⟨⟨by decide +kernel, by decide +kernel⟩, lw_t1 (List.mem_of_getElem? (i := 32) rfl), lw_t4 (List.mem_of_getElem? (i := 68) rfl), lw_t4 (List.mem_of_getElem? (i := 69) rfl)⟩
theorem lw_p26 : lw_okq (⟨"FallsBetween", "setTold", "(III)I"⟩, 9) := ⟨⟨by decide +kernel, by decide +kernel⟩, lw_t1 (List.mem_of_getElem? (i := 32) rfl), lw_t4 (List.mem_of_getElem? (i := 76) rfl), lw_t4 (List.mem_of_getElem? (i := 77) rfl)⟩
theorem lw_p27 : lw_okq (⟨"FallsBetween", "openMind", "()LFallsBetween$Town;"⟩, 9) := ⟨⟨by decide +kernel, by decide +kernel⟩, lw_t1 (List.mem_of_getElem? (i := 32) rfl), lw_t4 (List.mem_of_getElem? (i := 80) rfl), lw_t4 (List.mem_of_getElem? (i := 81) rfl)⟩
theorem lw_p28 : lw_okq (⟨"FallsBetween", "worthOf", "(II)I"⟩, 9) := ⟨⟨by decide +kernel, by decide +kernel⟩, lw_t1 (List.mem_of_getElem? (i := 32) rfl), lw_t4 (List.mem_of_getElem? (i := 87) rfl), lw_t4 (List.mem_of_getElem? (i := 88) rfl)⟩
theorem lw_p29 : lw_okq (⟨"FallsBetween", "ofRest", "(IIII)I"⟩, 9) := ⟨⟨by decide +kernel, by decide +kernel⟩, lw_t1 (List.mem_of_getElem? (i := 32) rfl), lw_t4 (List.mem_of_getElem? (i := 91) rfl), lw_t4 (List.mem_of_getElem? (i := 92) rfl)⟩
theorem lw_p30 : lw_okq (⟨"FallsBetween", "bestGift", "()I"⟩, 9) := ⟨⟨by decide +kernel, by decide +kernel⟩, lw_t1 (List.mem_of_getElem? (i := 32) rfl), lw_t4 (List.mem_of_getElem? (i := 95) rfl), lw_t4 (List.mem_of_getElem? (i := 96) rfl)⟩
theorem lw_p31 : lw_okq (⟨"FallsBetween", "cleanest", "()I"⟩, 9) := ⟨⟨by decide +kernel, by decide +kernel⟩, lw_t1 (List.mem_of_getElem? (i := 32) rfl), lw_t4 (List.mem_of_getElem? (i := 102) rfl), lw_t4 (List.mem_of_getElem? (i := 103) rfl)⟩
def lw_privs_2 : List (MethodName × Nat) := [(⟨"FallsBetween", "gardenTold", "(II)I"⟩, 9), (⟨"FallsBetween", "heightTold", "(II)I"⟩, 9), (⟨"FallsBetween", "netTold", "(I)I"⟩, 9), (⟨"FallsBetween", "windTold", "(I)I"⟩, 9), (⟨"FallsBetween", "lawTold", "(I)I"⟩, 9), (⟨"FallsBetween", "ofFalls", "(IIII)I"⟩, 9), (⟨"FallsBetween$Town", "falls", "(III)V"⟩, 12), (⟨"FallsBetween$Town", "rolled", "(I)I"⟩, 12), (⟨"FallsBetween", "ofTree", "(II)I"⟩, 9), (⟨"FallsBetween", "setAsked", "(III)I"⟩, 9), (⟨"FallsBetween", "setTold", "(III)I"⟩, 9), (⟨"FallsBetween", "openMind", "()LFallsBetween$Town;"⟩, 9), (⟨"FallsBetween", "worthOf", "(II)I"⟩, 9), (⟨"FallsBetween", "ofRest", "(IIII)I"⟩, 9), (⟨"FallsBetween", "bestGift", "()I"⟩, 9), (⟨"FallsBetween", "cleanest", "()I"⟩, 9)]
theorem lw_r2 : ∀ q ∈ lw_privs_2, lw_okq q := List.forall_mem_cons.mpr ⟨lw_p16, List.forall_mem_cons.mpr ⟨lw_p17, List.forall_mem_cons.mpr ⟨lw_p18, List.forall_mem_cons.mpr ⟨lw_p19, List.forall_mem_cons.mpr ⟨lw_p20, List.forall_mem_cons.mpr ⟨lw_p21, List.forall_mem_cons.mpr ⟨lw_p22, List.forall_mem_cons.mpr ⟨lw_p23, List.forall_mem_cons.mpr ⟨lw_p24, List.forall_mem_cons.mpr ⟨lw_p25, List.forall_mem_cons.mpr ⟨lw_p26, List.forall_mem_cons.mpr ⟨lw_p27, List.forall_mem_cons.mpr ⟨lw_p28, List.forall_mem_cons.mpr ⟨lw_p29, List.forall_mem_cons.mpr ⟨lw_p30, List.forall_mem_cons.mpr ⟨lw_p31, fun _ h => absurd h List.not_mem_nil⟩⟩⟩⟩⟩⟩⟩⟩⟩⟩⟩⟩⟩⟩⟩⟩
theorem lw_p32 : lw_okq (⟨"FallsBetween", "bestLine", "(Z)I"⟩, 9) := ⟨⟨by decide +kernel, by decide +kernel⟩, lw_t1 (List.mem_of_getElem? (i := 32) rfl), lw_t4 (List.mem_of_getElem? (i := 106) rfl), lw_t4 (List.mem_of_getElem? (i := 107) rfl)⟩
theorem lw_p33 : lw_okq (⟨"FallsBetween", "windsAsked", "(II)I"⟩, 9) := ⟨⟨by decide +kernel, by decide +kernel⟩, lw_t1 (List.mem_of_getElem? (i := 32) rfl), lw_t4 (List.mem_of_getElem? (i := 117) rfl), lw_t4 (List.mem_of_getElem? (i := 118) rfl)⟩
theorem lw_p34 : lw_okq (⟨"FallsBetween", "windsTold", "(II)I"⟩, 9) := ⟨⟨by decide +kernel, by decide +kernel⟩, lw_t1 (List.mem_of_getElem? (i := 32) rfl), lw_t4 (List.mem_of_getElem? (i := 121) rfl), lw_t4 (List.mem_of_getElem? (i := 122) rfl)⟩
theorem lw_p35 : lw_okq (⟨"FallsBetween", "bestNet", "(I)I"⟩, 9) := ⟨⟨by decide +kernel, by decide +kernel⟩, lw_t1 (List.mem_of_getElem? (i := 32) rfl), lw_t4 (List.mem_of_getElem? (i := 125) rfl), lw_t4 (List.mem_of_getElem? (i := 126) rfl)⟩
theorem lw_p36 : lw_okq (⟨"FallsBetween", "cameBits", "(I)I"⟩, 9) := ⟨⟨by decide +kernel, by decide +kernel⟩, lw_t1 (List.mem_of_getElem? (i := 32) rfl), lw_t4 (List.mem_of_getElem? (i := 129) rfl), lw_t4 (List.mem_of_getElem? (i := 130) rfl)⟩
theorem lw_p37 : lw_okq (⟨"FallsBetween", "likelyAsked", "(III)I"⟩, 9) := ⟨⟨by decide +kernel, by decide +kernel⟩, lw_t1 (List.mem_of_getElem? (i := 32) rfl), lw_t4 (List.mem_of_getElem? (i := 133) rfl), lw_t4 (List.mem_of_getElem? (i := 134) rfl)⟩
theorem lw_p38 : lw_okq (⟨"FallsBetween", "likelyTold", "(III)I"⟩, 9) := ⟨⟨by decide +kernel, by decide +kernel⟩, lw_t1 (List.mem_of_getElem? (i := 32) rfl), lw_t4 (List.mem_of_getElem? (i := 137) rfl), lw_t4 (List.mem_of_getElem? (i := 138) rfl)⟩
theorem lw_p39 : lw_okq (⟨"FallsBetween", "pitIt", "(I)I"⟩, 9) := ⟨⟨by decide +kernel, by decide +kernel⟩, lw_t1 (List.mem_of_getElem? (i := 32) rfl), lw_t4 (List.mem_of_getElem? (i := 144) rfl), lw_t4 (List.mem_of_getElem? (i := 145) rfl)⟩
theorem lw_p40 : lw_okq (⟨"FallsBetween", "fittingTold", "(I)I"⟩, 9) := ⟨⟨by decide +kernel, by decide +kernel⟩, lw_t1 (List.mem_of_getElem? (i := 32) rfl), lw_t4 (List.mem_of_getElem? (i := 148) rfl), lw_t4 (List.mem_of_getElem? (i := 149) rfl)⟩
theorem lw_p41 : lw_okq (⟨"FallsBetween", "fittingWinds", "()I"⟩, 9) := ⟨⟨by decide +kernel, by decide +kernel⟩, lw_t1 (List.mem_of_getElem? (i := 32) rfl), lw_t4 (List.mem_of_getElem? (i := 152) rfl), lw_t4 (List.mem_of_getElem? (i := 153) rfl)⟩
theorem lw_p42 : lw_okq (⟨"FallsBetween", "ofLast", "(IIII)I"⟩, 9) := ⟨⟨by decide +kernel, by decide +kernel⟩, lw_t1 (List.mem_of_getElem? (i := 32) rfl), lw_t4 (List.mem_of_getElem? (i := 159) rfl), lw_t4 (List.mem_of_getElem? (i := 160) rfl)⟩
theorem lw_p43 : lw_okq (⟨"FallsBetween", "judgeRow", "(I)I"⟩, 9) := ⟨⟨by decide +kernel, by decide +kernel⟩, lw_t1 (List.mem_of_getElem? (i := 32) rfl), lw_t4 (List.mem_of_getElem? (i := 164) rfl), lw_t4 (List.mem_of_getElem? (i := 165) rfl)⟩
theorem lw_p44 : lw_okq (⟨"FallsBetween", "bySeeds", "(III)I"⟩, 9) := ⟨⟨by decide +kernel, by decide +kernel⟩, lw_t1 (List.mem_of_getElem? (i := 32) rfl), lw_t4 (List.mem_of_getElem? (i := 169) rfl), lw_t4 (List.mem_of_getElem? (i := 170) rfl)⟩
theorem lw_p45 : lw_okq (⟨"FallsBetween", "refuse", "(I)I"⟩, 9) := ⟨⟨by decide +kernel, by decide +kernel⟩, lw_t1 (List.mem_of_getElem? (i := 32) rfl), lw_t4 (List.mem_of_getElem? (i := 185) rfl), lw_t4 (List.mem_of_getElem? (i := 186) rfl)⟩
theorem lw_p46 : lw_okq (⟨"FallsBetween", "fruitOfAll", "()I"⟩, 9) := ⟨⟨by decide +kernel, by decide +kernel⟩, lw_t1 (List.mem_of_getElem? (i := 32) rfl), lw_t5 (List.mem_of_getElem? (i := 73) rfl), lw_t5 (List.mem_of_getElem? (i := 74) rfl)⟩
theorem lw_p47 : lw_okq (⟨"FallsBetween", "squaresThat", "(Z)I"⟩, 9) := ⟨⟨by decide +kernel, by decide +kernel⟩, lw_t1 (List.mem_of_getElem? (i := 32) rfl), lw_t5 (List.mem_of_getElem? (i := 77) rfl), lw_t5 (List.mem_of_getElem? (i := 78) rfl)⟩
def lw_privs_3 : List (MethodName × Nat) := [(⟨"FallsBetween", "bestLine", "(Z)I"⟩, 9), (⟨"FallsBetween", "windsAsked", "(II)I"⟩, 9), (⟨"FallsBetween", "windsTold", "(II)I"⟩, 9), (⟨"FallsBetween", "bestNet", "(I)I"⟩, 9), (⟨"FallsBetween", "cameBits", "(I)I"⟩, 9), (⟨"FallsBetween", "likelyAsked", "(III)I"⟩, 9), (⟨"FallsBetween", "likelyTold", "(III)I"⟩, 9), (⟨"FallsBetween", "pitIt", "(I)I"⟩, 9), (⟨"FallsBetween", "fittingTold", "(I)I"⟩, 9), (⟨"FallsBetween", "fittingWinds", "()I"⟩, 9), (⟨"FallsBetween", "ofLast", "(IIII)I"⟩, 9), (⟨"FallsBetween", "judgeRow", "(I)I"⟩, 9), (⟨"FallsBetween", "bySeeds", "(III)I"⟩, 9), (⟨"FallsBetween", "refuse", "(I)I"⟩, 9), (⟨"FallsBetween", "fruitOfAll", "()I"⟩, 9), (⟨"FallsBetween", "squaresThat", "(Z)I"⟩, 9)]
theorem lw_r3 : ∀ q ∈ lw_privs_3, lw_okq q := List.forall_mem_cons.mpr ⟨lw_p32, List.forall_mem_cons.mpr ⟨lw_p33, List.forall_mem_cons.mpr ⟨lw_p34, List.forall_mem_cons.mpr ⟨lw_p35, List.forall_mem_cons.mpr ⟨lw_p36, List.forall_mem_cons.mpr ⟨lw_p37, List.forall_mem_cons.mpr ⟨lw_p38, List.forall_mem_cons.mpr ⟨lw_p39, List.forall_mem_cons.mpr ⟨lw_p40, List.forall_mem_cons.mpr ⟨lw_p41, List.forall_mem_cons.mpr ⟨lw_p42, List.forall_mem_cons.mpr ⟨lw_p43, List.forall_mem_cons.mpr ⟨lw_p44, List.forall_mem_cons.mpr ⟨lw_p45, List.forall_mem_cons.mpr ⟨lw_p46, List.forall_mem_cons.mpr ⟨lw_p47, fun _ h => absurd h List.not_mem_nil⟩⟩⟩⟩⟩⟩⟩⟩⟩⟩⟩⟩⟩⟩⟩⟩
theorem lw_p48 : lw_okq (⟨"FallsBetweenModel", "no", "(I)I"⟩, 17) := ⟨⟨by decide +kernel, by decide +kernel⟩, lw_t5 (List.mem_of_getElem? (i := 83) rfl), lw_t5 (List.mem_of_getElem? (i := 152) rfl), lw_t5 (List.mem_of_getElem? (i := 153) rfl)⟩
theorem lw_p49 : lw_okq (⟨"FallsBetweenModel", "read", "()I"⟩, 17) := ⟨⟨by decide +kernel, by decide +kernel⟩, lw_t5 (List.mem_of_getElem? (i := 83) rfl), lw_t5 (List.mem_of_getElem? (i := 164) rfl), lw_t5 (List.mem_of_getElem? (i := 165) rfl)⟩
theorem lw_p50 : lw_okq (⟨"FallsBetweenModel", "statement", "()V"⟩, 17) := ⟨⟨by decide +kernel, by decide +kernel⟩, lw_t5 (List.mem_of_getElem? (i := 83) rfl), lw_t5 (List.mem_of_getElem? (i := 168) rfl), lw_t5 (List.mem_of_getElem? (i := 169) rfl)⟩
theorem lw_p51 : lw_okq (⟨"FallsBetweenModel", "oneOf", "([C)I"⟩, 17) := ⟨⟨by decide +kernel, by decide +kernel⟩, lw_t5 (List.mem_of_getElem? (i := 83) rfl), lw_t5 (List.mem_of_getElem? (i := 172) rfl), lw_t5 (List.mem_of_getElem? (i := 173) rfl)⟩
theorem lw_p52 : lw_okq (⟨"FallsBetweenModel", "figures", "(II)I"⟩, 17) := ⟨⟨by decide +kernel, by decide +kernel⟩, lw_t5 (List.mem_of_getElem? (i := 83) rfl), lw_t5 (List.mem_of_getElem? (i := 176) rfl), lw_t5 (List.mem_of_getElem? (i := 177) rfl)⟩
theorem lw_p53 : lw_okq (⟨"FallsBetweenModel", "expect", "(C)V"⟩, 17) := ⟨⟨by decide +kernel, by decide +kernel⟩, lw_t5 (List.mem_of_getElem? (i := 83) rfl), lw_t5 (List.mem_of_getElem? (i := 180) rfl), lw_t5 (List.mem_of_getElem? (i := 181) rfl)⟩
theorem lw_p54 : lw_okq (⟨"FallsBetweenModel", "isAsItMustBe", "()Z"⟩, 17) := ⟨⟨by decide +kernel, by decide +kernel⟩, lw_t5 (List.mem_of_getElem? (i := 83) rfl), lw_t5 (List.mem_of_getElem? (i := 184) rfl), lw_t5 (List.mem_of_getElem? (i := 185) rfl)⟩
theorem lw_p55 : lw_okq (⟨"FallsBetweenModel", "treeIn", "(I)I"⟩, 17) := ⟨⟨by decide +kernel, by decide +kernel⟩, lw_t5 (List.mem_of_getElem? (i := 83) rfl), lw_t5 (List.mem_of_getElem? (i := 188) rfl), lw_t5 (List.mem_of_getElem? (i := 189) rfl)⟩
theorem lw_p56 : lw_okq (⟨"FallsBetweenModel", "come", "()V"⟩, 17) := ⟨⟨by decide +kernel, by decide +kernel⟩, lw_t5 (List.mem_of_getElem? (i := 83) rfl), lw_t5 (List.mem_of_getElem? (i := 192) rfl), lw_t5 (List.mem_of_getElem? (i := 193) rfl)⟩
theorem lw_p57 : lw_okq (⟨"FallsBetweenModel", "more", "(IIII)V"⟩, 17) := ⟨⟨by decide +kernel, by decide +kernel⟩, lw_t5 (List.mem_of_getElem? (i := 83) rfl), lw_t5 (List.mem_of_getElem? (i := 196) rfl), lw_t5 (List.mem_of_getElem? (i := 197) rfl)⟩
theorem lw_p58 : lw_okq (⟨"FallsBetweenModel", "isNobodys", "(I)Z"⟩, 17) := ⟨⟨by decide +kernel, by decide +kernel⟩, lw_t5 (List.mem_of_getElem? (i := 83) rfl), lw_t5 (List.mem_of_getElem? (i := 207) rfl), lw_t5 (List.mem_of_getElem? (i := 208) rfl)⟩
theorem lw_p59 : lw_okq (⟨"FallsBetweenModel", "isOtherBeside", "(II)Z"⟩, 17) := ⟨⟨by decide +kernel, by decide +kernel⟩, lw_t5 (List.mem_of_getElem? (i := 83) rfl), lw_t5 (List.mem_of_getElem? (i := 211) rfl), lw_t5 (List.mem_of_getElem? (i := 212) rfl)⟩
theorem lw_p60 : lw_okq (⟨"FallsBetweenModel", "isOtherAtCorner", "(I)Z"⟩, 17) := ⟨⟨by decide +kernel, by decide +kernel⟩, lw_t5 (List.mem_of_getElem? (i := 83) rfl), lw_t5 (List.mem_of_getElem? (i := 218) rfl), lw_t5 (List.mem_of_getElem? (i := 219) rfl)⟩
theorem lw_p61 : lw_okq (⟨"FallsBetweenModel", "fall", "(I)V"⟩, 17) := ⟨⟨by decide +kernel, by decide +kernel⟩, lw_t5 (List.mem_of_getElem? (i := 83) rfl), lw_t6 (List.mem_of_getElem? (i := 14) rfl), lw_t6 (List.mem_of_getElem? (i := 15) rfl)⟩
theorem lw_p62 : lw_okq (⟨"FallsBetweenModel", "down", "(III)V"⟩, 17) := ⟨⟨by decide +kernel, by decide +kernel⟩, lw_t5 (List.mem_of_getElem? (i := 83) rfl), lw_t6 (List.mem_of_getElem? (i := 18) rfl), lw_t6 (List.mem_of_getElem? (i := 19) rfl)⟩
theorem lw_p63 : lw_okq (⟨"FallsBetweenModel", "rolled", "(I)I"⟩, 17) := ⟨⟨by decide +kernel, by decide +kernel⟩, lw_t5 (List.mem_of_getElem? (i := 83) rfl), lw_t6 (List.mem_of_getElem? (i := 22) rfl), lw_t6 (List.mem_of_getElem? (i := 23) rfl)⟩
def lw_privs_4 : List (MethodName × Nat) := [(⟨"FallsBetweenModel", "no", "(I)I"⟩, 17), (⟨"FallsBetweenModel", "read", "()I"⟩, 17), (⟨"FallsBetweenModel", "statement", "()V"⟩, 17), (⟨"FallsBetweenModel", "oneOf", "([C)I"⟩, 17), (⟨"FallsBetweenModel", "figures", "(II)I"⟩, 17), (⟨"FallsBetweenModel", "expect", "(C)V"⟩, 17), (⟨"FallsBetweenModel", "isAsItMustBe", "()Z"⟩, 17), (⟨"FallsBetweenModel", "treeIn", "(I)I"⟩, 17), (⟨"FallsBetweenModel", "come", "()V"⟩, 17), (⟨"FallsBetweenModel", "more", "(IIII)V"⟩, 17), (⟨"FallsBetweenModel", "isNobodys", "(I)Z"⟩, 17), (⟨"FallsBetweenModel", "isOtherBeside", "(II)Z"⟩, 17), (⟨"FallsBetweenModel", "isOtherAtCorner", "(I)Z"⟩, 17), (⟨"FallsBetweenModel", "fall", "(I)V"⟩, 17), (⟨"FallsBetweenModel", "down", "(III)V"⟩, 17), (⟨"FallsBetweenModel", "rolled", "(I)I"⟩, 17)]
theorem lw_r4 : ∀ q ∈ lw_privs_4, lw_okq q := List.forall_mem_cons.mpr ⟨lw_p48, List.forall_mem_cons.mpr ⟨lw_p49, List.forall_mem_cons.mpr ⟨lw_p50, List.forall_mem_cons.mpr ⟨lw_p51, List.forall_mem_cons.mpr ⟨lw_p52, List.forall_mem_cons.mpr ⟨lw_p53, List.forall_mem_cons.mpr ⟨lw_p54, List.forall_mem_cons.mpr ⟨lw_p55, List.forall_mem_cons.mpr ⟨lw_p56, List.forall_mem_cons.mpr ⟨lw_p57, List.forall_mem_cons.mpr ⟨lw_p58, List.forall_mem_cons.mpr ⟨lw_p59, List.forall_mem_cons.mpr ⟨lw_p60, List.forall_mem_cons.mpr ⟨lw_p61, List.forall_mem_cons.mpr ⟨lw_p62, List.forall_mem_cons.mpr ⟨lw_p63, fun _ h => absurd h List.not_mem_nil⟩⟩⟩⟩⟩⟩⟩⟩⟩⟩⟩⟩⟩⟩⟩⟩
theorem lw_p64 : lw_okq (⟨"FallsBetweenModel", "shareOf", "(I)I"⟩, 17) := ⟨⟨by decide +kernel, by decide +kernel⟩, lw_t5 (List.mem_of_getElem? (i := 83) rfl), lw_t6 (List.mem_of_getElem? (i := 34) rfl), lw_t6 (List.mem_of_getElem? (i := 35) rfl)⟩
theorem lw_p65 : lw_okq (⟨"FallsBetweenModel", "birdsHave", "()I"⟩, 17) := ⟨⟨by decide +kernel, by decide +kernel⟩, lw_t5 (List.mem_of_getElem? (i := 83) rfl), lw_t6 (List.mem_of_getElem? (i := 42) rfl), lw_t6 (List.mem_of_getElem? (i := 43) rfl)⟩
theorem lw_p66 : lw_okq (⟨"FallsBetweenModel", "sumOf", "(II)I"⟩, 17) := ⟨⟨by decide +kernel, by decide +kernel⟩, lw_t5 (List.mem_of_getElem? (i := 83) rfl), lw_t6 (List.mem_of_getElem? (i := 119) rfl), lw_t6 (List.mem_of_getElem? (i := 120) rfl)⟩
def lw_privs_5 : List (MethodName × Nat) := [(⟨"FallsBetweenModel", "shareOf", "(I)I"⟩, 17), (⟨"FallsBetweenModel", "birdsHave", "()I"⟩, 17), (⟨"FallsBetweenModel", "sumOf", "(II)I"⟩, 17)]
theorem lw_r5 : ∀ q ∈ lw_privs_5, lw_okq q := List.forall_mem_cons.mpr ⟨lw_p64, List.forall_mem_cons.mpr ⟨lw_p65, List.forall_mem_cons.mpr ⟨lw_p66, fun _ h => absurd h List.not_mem_nil⟩⟩⟩
def lw_privs : List (MethodName × Nat) := lw_privs_1 ++ (lw_privs_2 ++ (lw_privs_3 ++ (lw_privs_4 ++ (lw_privs_5))))
def lw_tbl : List Cond := k2_sels lw_privs ++ tables_1
theorem lw_privs_ok : ∀ q ∈ lw_privs, lw_okq q := by
  show ∀ q ∈ lw_privs_1 ++ (lw_privs_2 ++ (lw_privs_3 ++ (lw_privs_4 ++ (lw_privs_5)))), lw_okq q
  exact List.forall_mem_append.mpr ⟨lw_r1, List.forall_mem_append.mpr ⟨lw_r2, List.forall_mem_append.mpr ⟨lw_r3, List.forall_mem_append.mpr ⟨lw_r4, lw_r5⟩⟩⟩⟩
-- ===== ONE list of words for every method: the tables' words that hold all through a run =====
def lw_all : List Cond := lw_tbl.filter goodWord
/-- a word of the tables by its place: claim/WORDS.tsv -/
theorem lw_w {w : Cond} (i : Nat) (h : lw_tbl[i]? = some w) (g : goodWord w = true) : w ∈ lw_all := List.mem_filter.mpr ⟨List.mem_of_getElem? h, g⟩
theorem lw_all_tbl {w : Cond} (h : w ∈ lw_all) : w ∈ lw_tbl := (List.mem_filter.mp h).1
theorem lw_self : GoodIn lw_all lw_all := fun w h => ⟨h, good_of_word (List.mem_filter.mp h).2⟩
/-- a class's field words, by their places -/
theorem lw_in (ws : List Cond) (ps : List Nat) (hp : ws = ps.filterMap (fun i => lw_tbl[i]?)) (hg : ws.all goodWord = true) : ∀ w ∈ ws, w ∈ lw_all := by
  intro w h
  have h1 := List.all_eq_true.mp hg w h
  rw [hp] at h
  obtain ⟨i, -, hi⟩ := List.mem_filterMap.mp h
  exact lw_w i hi h1
/-- the words of a contract for the method y with code b, L locals, answer r -/
abbrev ws_ (y : MethodName) (b : ByteArray) (L : Nat) (r : Option FieldType) : List Cond := Cond.code y b L r :: lw_all
theorem lw_meth {y : MethodName} {b : ByteArray} {L : Nat} {r : Option FieldType} (h : Cond.code y b L r ∈ lw_all) : GoodIn lw_all (ws_ y b L r) := by
  intro w hw
  rcases List.mem_cons.mp hw with e | e
  · rw [e]
    exact lw_self _ h
  · exact lw_self _ e
theorem lw_app {a c : List Cond} (ha : ∀ w ∈ a, w ∈ lw_all) (hc : GoodIn lw_all c) : GoodIn lw_all (a ++ c) := by
  intro w hw
  rcases List.mem_append.mp hw with e | e
  · exact lw_self w (ha w e)
  · exact hc w e
/-- what a call through an object asks: cwV n hts (lw_V ..) -/
theorem lw_V {own : String} {idx : Nat} {C : String} {y : MethodName} {b : ByteArray} {L : Nat} {r : Option FieldType} (h1 : Cond.methodLink own idx y ∈ lw_all) (h2 : Cond.instanceMethod y ∈ lw_all) (h3 : Cond.selects C y y ∈ lw_all) (h4 : Cond.initialized C ∈ lw_all) (h5 : Cond.code y b L r ∈ lw_all) : GoodIn lw_all (wsV own idx C y (ws_ y b L r)) := by
  refine lw_app ?_ (lw_meth h5)
  intro w hw
  simp only [List.mem_cons, List.not_mem_nil, or_false] at hw
  rcases hw with e | e | e | e
  · rw [e]; exact h1
  · rw [e]; exact h2
  · rw [e]; exact h3
  · rw [e]; exact h4
/-- what a static call asks: va_cwS n hts (lw_S ..) -/
theorem lw_S {own : String} {idx : Nat} {y : MethodName} {b : ByteArray} {L : Nat} {r : Option FieldType} (h1 : Cond.methodLink own idx y ∈ lw_all) (h2 : Cond.static y ∈ lw_all) (h3 : Cond.initialized y.cls ∈ lw_all) (h4 : Cond.code y b L r ∈ lw_all) : GoodIn lw_all (va_wsS own idx y (ws_ y b L r)) := by
  refine lw_app ?_ (lw_meth h4)
  intro w hw
  simp only [List.mem_cons, List.not_mem_nil, or_false] at hw
  rcases hw with e | e | e
  · rw [e]; exact h1
  · rw [e]; exact h2
  · rw [e]; exact h3
/-- the words of a contract for a method WITH HANDLERS (hh: its table) -/
abbrev wsW_ (y : MethodName) (b : ByteArray) (L : Nat) (r : Option FieldType) (hh : List (Nat × Nat × Nat × Nat)) : List Cond := Cond.codeWith y b L r hh :: lw_all
theorem lw_methW {y : MethodName} {b : ByteArray} {L : Nat} {r : Option FieldType} {hh : List (Nat × Nat × Nat × Nat)} (h : Cond.codeWith y b L r hh ∈ lw_all) : GoodIn lw_all (wsW_ y b L r hh) := by
  intro w hw
  rcases List.mem_cons.mp hw with e | e
  · rw [e]
    exact lw_self _ h
  · exact lw_self _ e
/-- any list of words by their places (lw_in), good -/
theorem lw_good {ws : List Cond} (h : ∀ w ∈ ws, w ∈ lw_all) : GoodIn lw_all ws := fun w hw => lw_self w (h w hw)
/-- what a call of a method with handlers asks: vx_cwVW n hts (lw_VW ..), vx_cwSW n hts (lw_SW ..) -/
theorem lw_VW {own : String} {idx : Nat} {C : String} {y : MethodName} {b : ByteArray} {L : Nat} {r : Option FieldType} {hh : List (Nat × Nat × Nat × Nat)} (h1 : Cond.methodLink own idx y ∈ lw_all) (h2 : Cond.instanceMethod y ∈ lw_all) (h3 : Cond.selects C y y ∈ lw_all) (h4 : Cond.initialized C ∈ lw_all) (h5 : Cond.codeWith y b L r hh ∈ lw_all) : GoodIn lw_all (wsV own idx C y (wsW_ y b L r hh)) := by
  refine lw_app ?_ (lw_methW h5)
  intro w hw
  simp only [List.mem_cons, List.not_mem_nil, or_false] at hw
  rcases hw with e | e | e | e
  · rw [e]; exact h1
  · rw [e]; exact h2
  · rw [e]; exact h3
  · rw [e]; exact h4
theorem lw_SW {own : String} {idx : Nat} {y : MethodName} {b : ByteArray} {L : Nat} {r : Option FieldType} {hh : List (Nat × Nat × Nat × Nat)} (h1 : Cond.methodLink own idx y ∈ lw_all) (h2 : Cond.static y ∈ lw_all) (h3 : Cond.initialized y.cls ∈ lw_all) (h4 : Cond.codeWith y b L r hh ∈ lw_all) : GoodIn lw_all (va_wsS own idx y (wsW_ y b L r hh)) := by
  refine lw_app ?_ (lw_methW h4)
  intro w hw
  simp only [List.mem_cons, List.not_mem_nil, or_false] at hw
  rcases hw with e | e | e
  · rw [e]; exact h1
  · rw [e]; exact h2
  · rw [e]; exact h3
/-- a word by its place in its run of the tables -/
theorem lw_at {r : List Cond} (hr : ∀ w ∈ r, w ∈ lw_tbl) {w : Cond} (i : Nat) (h : r[i]? = some w) : w ∈ lw_tbl := hr w (List.mem_of_getElem? h)
theorem lw_g {w : Cond} (h : w ∈ lw_tbl) (g : goodWord w = true) : w ∈ lw_all := List.mem_filter.mpr ⟨h, g⟩
theorem lw_ms : ∀ w ∈ k2_sels lw_privs, w ∈ lw_tbl := fun w h => show w ∈ k2_sels lw_privs ++ tables_1 from List.mem_append_left _ h
theorem lw_m1 : ∀ w ∈ tables_1_1, w ∈ lw_tbl := fun w h => show w ∈ k2_sels lw_privs ++ tables_1 from List.mem_append_right (k2_sels lw_privs) (show w ∈ tables_1 from List.mem_append_left _ h)
theorem lw_m2 : ∀ w ∈ tables_1_2, w ∈ lw_tbl := fun w h => show w ∈ k2_sels lw_privs ++ tables_1 from List.mem_append_right (k2_sels lw_privs) (show w ∈ tables_1 from List.mem_append_right _ (List.mem_append_left _ h))
theorem lw_m3 : ∀ w ∈ tables_1_3, w ∈ lw_tbl := fun w h => show w ∈ k2_sels lw_privs ++ tables_1 from List.mem_append_right (k2_sels lw_privs) (show w ∈ tables_1 from List.mem_append_right _ (List.mem_append_right _ (List.mem_append_left _ h)))
theorem lw_m4 : ∀ w ∈ tables_1_4, w ∈ lw_tbl := fun w h => show w ∈ k2_sels lw_privs ++ tables_1 from List.mem_append_right (k2_sels lw_privs) (show w ∈ tables_1 from List.mem_append_right _ (List.mem_append_right _ (List.mem_append_right _ (List.mem_append_left _ h))))
theorem lw_m5 : ∀ w ∈ tables_1_5, w ∈ lw_tbl := fun w h => show w ∈ k2_sels lw_privs ++ tables_1 from List.mem_append_right (k2_sels lw_privs) (show w ∈ tables_1 from List.mem_append_right _ (List.mem_append_right _ (List.mem_append_right _ (List.mem_append_right _ (List.mem_append_left _ h)))))
theorem lw_m6 : ∀ w ∈ tables_1_6, w ∈ lw_tbl := fun w h => show w ∈ k2_sels lw_privs ++ tables_1 from List.mem_append_right (k2_sels lw_privs) (show w ∈ tables_1 from List.mem_append_right _ (List.mem_append_right _ (List.mem_append_right _ (List.mem_append_right _ (List.mem_append_right _ h)))))
theorem qs0 : (Cond.selects "FallsBetween" ⟨"FallsBetween", "act", "(IIII)I"⟩ ⟨"FallsBetween", "act", "(IIII)I"⟩) ∈ lw_all := lw_g (lw_at lw_ms 0 rfl) rfl
theorem qs1 : (Cond.selects "FallsBetween" ⟨"FallsBetween", "ofTown", "(III)I"⟩ ⟨"FallsBetween", "ofTown", "(III)I"⟩) ∈ lw_all := lw_g (lw_at lw_ms 1 rfl) rfl
theorem qs2 : (Cond.selects "FallsBetween" ⟨"FallsBetween", "letterIt", "(I)I"⟩ ⟨"FallsBetween", "letterIt", "(I)I"⟩) ∈ lw_all := lw_g (lw_at lw_ms 2 rfl) rfl
theorem qs3 : (Cond.selects "java/lang/Throwable" ⟨"java/lang/Throwable", "fillInStackTrace", "(I)Ljava/lang/Throwable;"⟩ ⟨"java/lang/Throwable", "fillInStackTrace", "(I)Ljava/lang/Throwable;"⟩) ∈ lw_all := lw_g (lw_at lw_ms 3 rfl) rfl
theorem qs4 : (Cond.selects "FallsBetween" ⟨"FallsBetween", "readTown", "()I"⟩ ⟨"FallsBetween", "readTown", "()I"⟩) ∈ lw_all := lw_g (lw_at lw_ms 4 rfl) rfl
theorem qs5 : (Cond.selects "FallsBetween$Reader" ⟨"FallsBetween$Reader", "here", "()I"⟩ ⟨"FallsBetween$Reader", "here", "()I"⟩) ∈ lw_all := lw_g (lw_at lw_ms 5 rfl) rfl
theorem qs6 : (Cond.selects "FallsBetween$Reader" ⟨"FallsBetween$Reader", "mustStand", "(Z)V"⟩ ⟨"FallsBetween$Reader", "mustStand", "(Z)V"⟩) ∈ lw_all := lw_g (lw_at lw_ms 6 rfl) rfl
theorem qs7 : (Cond.selects "FallsBetween$Reader" ⟨"FallsBetween$Reader", "told", "(II)LFallsBetween$Told;"⟩ ⟨"FallsBetween$Reader", "told", "(II)LFallsBetween$Told;"⟩) ∈ lw_all := lw_g (lw_at lw_ms 7 rfl) rfl
theorem qs8 : (Cond.selects "FallsBetween$Reader" ⟨"FallsBetween$Reader", "tree", "(I)LFallsBetween$Told;"⟩ ⟨"FallsBetween$Reader", "tree", "(I)LFallsBetween$Told;"⟩) ∈ lw_all := lw_g (lw_at lw_ms 8 rfl) rfl
theorem qs9 : (Cond.selects "FallsBetween$Reader" ⟨"FallsBetween$Reader", "kindOf", "(I)I"⟩ ⟨"FallsBetween$Reader", "kindOf", "(I)I"⟩) ∈ lw_all := lw_g (lw_at lw_ms 9 rfl) rfl
theorem qs10 : (Cond.selects "FallsBetween$Reader" ⟨"FallsBetween$Reader", "two", "()I"⟩ ⟨"FallsBetween$Reader", "two", "()I"⟩) ∈ lw_all := lw_g (lw_at lw_ms 10 rfl) rfl
theorem qs11 : (Cond.selects "FallsBetween$Reader" ⟨"FallsBetween$Reader", "digit", "()I"⟩ ⟨"FallsBetween$Reader", "digit", "()I"⟩) ∈ lw_all := lw_g (lw_at lw_ms 11 rfl) rfl
theorem qs12 : (Cond.selects "FallsBetween$Reader" ⟨"FallsBetween$Reader", "take", "(I)V"⟩ ⟨"FallsBetween$Reader", "take", "(I)V"⟩) ∈ lw_all := lw_g (lw_at lw_ms 12 rfl) rfl
theorem qs13 : (Cond.selects "FallsBetween" ⟨"FallsBetween", "squareTold", "(II)I"⟩ ⟨"FallsBetween", "squareTold", "(II)I"⟩) ∈ lw_all := lw_g (lw_at lw_ms 13 rfl) rfl
theorem qs14 : (Cond.selects "FallsBetween" ⟨"FallsBetween", "treeTold", "(II)I"⟩ ⟨"FallsBetween", "treeTold", "(II)I"⟩) ∈ lw_all := lw_g (lw_at lw_ms 14 rfl) rfl
theorem qs15 : (Cond.selects "FallsBetween" ⟨"FallsBetween", "mustBeTree", "(I)V"⟩ ⟨"FallsBetween", "mustBeTree", "(I)V"⟩) ∈ lw_all := lw_g (lw_at lw_ms 15 rfl) rfl
theorem qs16 : (Cond.selects "FallsBetween" ⟨"FallsBetween", "gardenTold", "(II)I"⟩ ⟨"FallsBetween", "gardenTold", "(II)I"⟩) ∈ lw_all := lw_g (lw_at lw_ms 16 rfl) rfl
theorem qs17 : (Cond.selects "FallsBetween" ⟨"FallsBetween", "heightTold", "(II)I"⟩ ⟨"FallsBetween", "heightTold", "(II)I"⟩) ∈ lw_all := lw_g (lw_at lw_ms 17 rfl) rfl
theorem qs18 : (Cond.selects "FallsBetween" ⟨"FallsBetween", "netTold", "(I)I"⟩ ⟨"FallsBetween", "netTold", "(I)I"⟩) ∈ lw_all := lw_g (lw_at lw_ms 18 rfl) rfl
theorem qs19 : (Cond.selects "FallsBetween" ⟨"FallsBetween", "windTold", "(I)I"⟩ ⟨"FallsBetween", "windTold", "(I)I"⟩) ∈ lw_all := lw_g (lw_at lw_ms 19 rfl) rfl
theorem qs20 : (Cond.selects "FallsBetween" ⟨"FallsBetween", "lawTold", "(I)I"⟩ ⟨"FallsBetween", "lawTold", "(I)I"⟩) ∈ lw_all := lw_g (lw_at lw_ms 20 rfl) rfl
theorem qs21 : (Cond.selects "FallsBetween" ⟨"FallsBetween", "ofFalls", "(IIII)I"⟩ ⟨"FallsBetween", "ofFalls", "(IIII)I"⟩) ∈ lw_all := lw_g (lw_at lw_ms 21 rfl) rfl
theorem qs22 : (Cond.selects "FallsBetween$Town" ⟨"FallsBetween$Town", "falls", "(III)V"⟩ ⟨"FallsBetween$Town", "falls", "(III)V"⟩) ∈ lw_all := lw_g (lw_at lw_ms 22 rfl) rfl
theorem qs23 : (Cond.selects "FallsBetween$Town" ⟨"FallsBetween$Town", "rolled", "(I)I"⟩ ⟨"FallsBetween$Town", "rolled", "(I)I"⟩) ∈ lw_all := lw_g (lw_at lw_ms 23 rfl) rfl
theorem qs24 : (Cond.selects "FallsBetween" ⟨"FallsBetween", "ofTree", "(II)I"⟩ ⟨"FallsBetween", "ofTree", "(II)I"⟩) ∈ lw_all := lw_g (lw_at lw_ms 24 rfl) rfl
theorem qs25 : (Cond.selects "FallsBetween" ⟨"FallsBetween", "setAsked", "(III)I"⟩ ⟨"FallsBetween", "setAsked", "(III)I"⟩) ∈ lw_all := lw_g (lw_at lw_ms 25 rfl) rfl
theorem qs26 : (Cond.selects "FallsBetween" ⟨"FallsBetween", "setTold", "(III)I"⟩ ⟨"FallsBetween", "setTold", "(III)I"⟩) ∈ lw_all := lw_g (lw_at lw_ms 26 rfl) rfl
theorem qs27 : (Cond.selects "FallsBetween" ⟨"FallsBetween", "openMind", "()LFallsBetween$Town;"⟩ ⟨"FallsBetween", "openMind", "()LFallsBetween$Town;"⟩) ∈ lw_all := lw_g (lw_at lw_ms 27 rfl) rfl
theorem qs28 : (Cond.selects "FallsBetween" ⟨"FallsBetween", "worthOf", "(II)I"⟩ ⟨"FallsBetween", "worthOf", "(II)I"⟩) ∈ lw_all := lw_g (lw_at lw_ms 28 rfl) rfl
theorem qs29 : (Cond.selects "FallsBetween" ⟨"FallsBetween", "ofRest", "(IIII)I"⟩ ⟨"FallsBetween", "ofRest", "(IIII)I"⟩) ∈ lw_all := lw_g (lw_at lw_ms 29 rfl) rfl
theorem qs30 : (Cond.selects "FallsBetween" ⟨"FallsBetween", "bestGift", "()I"⟩ ⟨"FallsBetween", "bestGift", "()I"⟩) ∈ lw_all := lw_g (lw_at lw_ms 30 rfl) rfl
theorem qs31 : (Cond.selects "FallsBetween" ⟨"FallsBetween", "cleanest", "()I"⟩ ⟨"FallsBetween", "cleanest", "()I"⟩) ∈ lw_all := lw_g (lw_at lw_ms 31 rfl) rfl
theorem qs32 : (Cond.selects "FallsBetween" ⟨"FallsBetween", "bestLine", "(Z)I"⟩ ⟨"FallsBetween", "bestLine", "(Z)I"⟩) ∈ lw_all := lw_g (lw_at lw_ms 32 rfl) rfl
theorem qs33 : (Cond.selects "FallsBetween" ⟨"FallsBetween", "windsAsked", "(II)I"⟩ ⟨"FallsBetween", "windsAsked", "(II)I"⟩) ∈ lw_all := lw_g (lw_at lw_ms 33 rfl) rfl
theorem qs34 : (Cond.selects "FallsBetween" ⟨"FallsBetween", "windsTold", "(II)I"⟩ ⟨"FallsBetween", "windsTold", "(II)I"⟩) ∈ lw_all := lw_g (lw_at lw_ms 34 rfl) rfl
theorem qs35 : (Cond.selects "FallsBetween" ⟨"FallsBetween", "bestNet", "(I)I"⟩ ⟨"FallsBetween", "bestNet", "(I)I"⟩) ∈ lw_all := lw_g (lw_at lw_ms 35 rfl) rfl
theorem qs36 : (Cond.selects "FallsBetween" ⟨"FallsBetween", "cameBits", "(I)I"⟩ ⟨"FallsBetween", "cameBits", "(I)I"⟩) ∈ lw_all := lw_g (lw_at lw_ms 36 rfl) rfl
theorem qs37 : (Cond.selects "FallsBetween" ⟨"FallsBetween", "likelyAsked", "(III)I"⟩ ⟨"FallsBetween", "likelyAsked", "(III)I"⟩) ∈ lw_all := lw_g (lw_at lw_ms 37 rfl) rfl
theorem qs38 : (Cond.selects "FallsBetween" ⟨"FallsBetween", "likelyTold", "(III)I"⟩ ⟨"FallsBetween", "likelyTold", "(III)I"⟩) ∈ lw_all := lw_g (lw_at lw_ms 38 rfl) rfl
theorem qs39 : (Cond.selects "FallsBetween" ⟨"FallsBetween", "pitIt", "(I)I"⟩ ⟨"FallsBetween", "pitIt", "(I)I"⟩) ∈ lw_all := lw_g (lw_at lw_ms 39 rfl) rfl
theorem qs40 : (Cond.selects "FallsBetween" ⟨"FallsBetween", "fittingTold", "(I)I"⟩ ⟨"FallsBetween", "fittingTold", "(I)I"⟩) ∈ lw_all := lw_g (lw_at lw_ms 40 rfl) rfl
theorem qs41 : (Cond.selects "FallsBetween" ⟨"FallsBetween", "fittingWinds", "()I"⟩ ⟨"FallsBetween", "fittingWinds", "()I"⟩) ∈ lw_all := lw_g (lw_at lw_ms 41 rfl) rfl
theorem qs42 : (Cond.selects "FallsBetween" ⟨"FallsBetween", "ofLast", "(IIII)I"⟩ ⟨"FallsBetween", "ofLast", "(IIII)I"⟩) ∈ lw_all := lw_g (lw_at lw_ms 42 rfl) rfl
theorem qs43 : (Cond.selects "FallsBetween" ⟨"FallsBetween", "judgeRow", "(I)I"⟩ ⟨"FallsBetween", "judgeRow", "(I)I"⟩) ∈ lw_all := lw_g (lw_at lw_ms 43 rfl) rfl
theorem qs44 : (Cond.selects "FallsBetween" ⟨"FallsBetween", "bySeeds", "(III)I"⟩ ⟨"FallsBetween", "bySeeds", "(III)I"⟩) ∈ lw_all := lw_g (lw_at lw_ms 44 rfl) rfl
theorem qs45 : (Cond.selects "FallsBetween" ⟨"FallsBetween", "refuse", "(I)I"⟩ ⟨"FallsBetween", "refuse", "(I)I"⟩) ∈ lw_all := lw_g (lw_at lw_ms 45 rfl) rfl
theorem qs46 : (Cond.selects "FallsBetween" ⟨"FallsBetween", "fruitOfAll", "()I"⟩ ⟨"FallsBetween", "fruitOfAll", "()I"⟩) ∈ lw_all := lw_g (lw_at lw_ms 46 rfl) rfl
theorem qs47 : (Cond.selects "FallsBetween" ⟨"FallsBetween", "squaresThat", "(Z)I"⟩ ⟨"FallsBetween", "squaresThat", "(Z)I"⟩) ∈ lw_all := lw_g (lw_at lw_ms 47 rfl) rfl
theorem qs48 : (Cond.selects "FallsBetweenModel" ⟨"FallsBetweenModel", "no", "(I)I"⟩ ⟨"FallsBetweenModel", "no", "(I)I"⟩) ∈ lw_all := lw_g (lw_at lw_ms 48 rfl) rfl
theorem qs49 : (Cond.selects "FallsBetweenModel" ⟨"FallsBetweenModel", "read", "()I"⟩ ⟨"FallsBetweenModel", "read", "()I"⟩) ∈ lw_all := lw_g (lw_at lw_ms 49 rfl) rfl
theorem qs50 : (Cond.selects "FallsBetweenModel" ⟨"FallsBetweenModel", "statement", "()V"⟩ ⟨"FallsBetweenModel", "statement", "()V"⟩) ∈ lw_all := lw_g (lw_at lw_ms 50 rfl) rfl
theorem qs51 : (Cond.selects "FallsBetweenModel" ⟨"FallsBetweenModel", "oneOf", "([C)I"⟩ ⟨"FallsBetweenModel", "oneOf", "([C)I"⟩) ∈ lw_all := lw_g (lw_at lw_ms 51 rfl) rfl
theorem qs52 : (Cond.selects "FallsBetweenModel" ⟨"FallsBetweenModel", "figures", "(II)I"⟩ ⟨"FallsBetweenModel", "figures", "(II)I"⟩) ∈ lw_all := lw_g (lw_at lw_ms 52 rfl) rfl
theorem qs53 : (Cond.selects "FallsBetweenModel" ⟨"FallsBetweenModel", "expect", "(C)V"⟩ ⟨"FallsBetweenModel", "expect", "(C)V"⟩) ∈ lw_all := lw_g (lw_at lw_ms 53 rfl) rfl
theorem qs54 : (Cond.selects "FallsBetweenModel" ⟨"FallsBetweenModel", "isAsItMustBe", "()Z"⟩ ⟨"FallsBetweenModel", "isAsItMustBe", "()Z"⟩) ∈ lw_all := lw_g (lw_at lw_ms 54 rfl) rfl
theorem qs55 : (Cond.selects "FallsBetweenModel" ⟨"FallsBetweenModel", "treeIn", "(I)I"⟩ ⟨"FallsBetweenModel", "treeIn", "(I)I"⟩) ∈ lw_all := lw_g (lw_at lw_ms 55 rfl) rfl
theorem qs56 : (Cond.selects "FallsBetweenModel" ⟨"FallsBetweenModel", "come", "()V"⟩ ⟨"FallsBetweenModel", "come", "()V"⟩) ∈ lw_all := lw_g (lw_at lw_ms 56 rfl) rfl
theorem qs57 : (Cond.selects "FallsBetweenModel" ⟨"FallsBetweenModel", "more", "(IIII)V"⟩ ⟨"FallsBetweenModel", "more", "(IIII)V"⟩) ∈ lw_all := lw_g (lw_at lw_ms 57 rfl) rfl
theorem qs58 : (Cond.selects "FallsBetweenModel" ⟨"FallsBetweenModel", "isNobodys", "(I)Z"⟩ ⟨"FallsBetweenModel", "isNobodys", "(I)Z"⟩) ∈ lw_all := lw_g (lw_at lw_ms 58 rfl) rfl
theorem qs59 : (Cond.selects "FallsBetweenModel" ⟨"FallsBetweenModel", "isOtherBeside", "(II)Z"⟩ ⟨"FallsBetweenModel", "isOtherBeside", "(II)Z"⟩) ∈ lw_all := lw_g (lw_at lw_ms 59 rfl) rfl
theorem qs60 : (Cond.selects "FallsBetweenModel" ⟨"FallsBetweenModel", "isOtherAtCorner", "(I)Z"⟩ ⟨"FallsBetweenModel", "isOtherAtCorner", "(I)Z"⟩) ∈ lw_all := lw_g (lw_at lw_ms 60 rfl) rfl
theorem qs61 : (Cond.selects "FallsBetweenModel" ⟨"FallsBetweenModel", "fall", "(I)V"⟩ ⟨"FallsBetweenModel", "fall", "(I)V"⟩) ∈ lw_all := lw_g (lw_at lw_ms 61 rfl) rfl
theorem qs62 : (Cond.selects "FallsBetweenModel" ⟨"FallsBetweenModel", "down", "(III)V"⟩ ⟨"FallsBetweenModel", "down", "(III)V"⟩) ∈ lw_all := lw_g (lw_at lw_ms 62 rfl) rfl
theorem qs63 : (Cond.selects "FallsBetweenModel" ⟨"FallsBetweenModel", "rolled", "(I)I"⟩ ⟨"FallsBetweenModel", "rolled", "(I)I"⟩) ∈ lw_all := lw_g (lw_at lw_ms 63 rfl) rfl
theorem qs64 : (Cond.selects "FallsBetweenModel" ⟨"FallsBetweenModel", "shareOf", "(I)I"⟩ ⟨"FallsBetweenModel", "shareOf", "(I)I"⟩) ∈ lw_all := lw_g (lw_at lw_ms 64 rfl) rfl
theorem qs65 : (Cond.selects "FallsBetweenModel" ⟨"FallsBetweenModel", "birdsHave", "()I"⟩ ⟨"FallsBetweenModel", "birdsHave", "()I"⟩) ∈ lw_all := lw_g (lw_at lw_ms 65 rfl) rfl
theorem qs66 : (Cond.selects "FallsBetweenModel" ⟨"FallsBetweenModel", "sumOf", "(II)I"⟩ ⟨"FallsBetweenModel", "sumOf", "(II)I"⟩) ∈ lw_all := lw_g (lw_at lw_ms 66 rfl) rfl
