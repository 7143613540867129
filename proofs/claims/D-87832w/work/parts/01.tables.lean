-- ===== PART A: goes FIRST, ahead of the names: the tables' words, and 'selects' of the private methods out of them =====
/-- a private method of a class that the tables say can be made, by its rows of tables_1 -/
def lw_okq (q : MethodName × Nat) : Prop := (q.1.cls ≠ "java/lang/invoke/MethodHandle" ∧ q.1.cls ≠ "java/lang/invoke/VarHandle") ∧ Cond.instantiable q.1.cls q.2 ∈ tables_1 ∧ Cond.privateMethod q.1 ∈ tables_1 ∧ Cond.instanceMethod q.1 ∈ tables_1
set_option maxRecDepth 100000
theorem lw_t1 {w : Cond} (h : w ∈ tables_1_1) : w ∈ tables_1 := List.mem_append_left _ h
theorem lw_t2 {w : Cond} (h : w ∈ tables_1_2) : w ∈ tables_1 := List.mem_append_right _ (List.mem_append_left _ h)
theorem lw_t3 {w : Cond} (h : w ∈ tables_1_3) : w ∈ tables_1 := List.mem_append_right _ (List.mem_append_right _ (List.mem_append_left _ h))
theorem lw_t4 {w : Cond} (h : w ∈ tables_1_4) : w ∈ tables_1 := List.mem_append_right _ (List.mem_append_right _ (List.mem_append_right _ (List.mem_append_left _ h)))
theorem lw_t5 {w : Cond} (h : w ∈ tables_1_5) : w ∈ tables_1 := List.mem_append_right _ (List.mem_append_right _ (List.mem_append_right _ (List.mem_append_right _ (List.mem_append_left _ h))))
theorem lw_t6 {w : Cond} (h : w ∈ tables_1_6) : w ∈ tables_1 := List.mem_append_right _ (List.mem_append_right _ (List.mem_append_right _ (List.mem_append_right _ (List.mem_append_right _ (List.mem_append_left _ h)))))
theorem lw_t7 {w : Cond} (h : w ∈ tables_1_7) : w ∈ tables_1 := List.mem_append_right _ (List.mem_append_right _ (List.mem_append_right _ (List.mem_append_right _ (List.mem_append_right _ (List.mem_append_right _ h)))))
theorem lw_p0 : lw_okq (⟨"GlassLog", "isLog", "(I)Z"⟩, 8) := ⟨⟨by decide +kernel, by decide +kernel⟩, lw_t1 (List.mem_of_getElem? (i := 30) rfl), lw_t2 (List.mem_of_getElem? (i := 105) rfl), lw_t2 (List.mem_of_getElem? (i := 106) rfl)⟩
theorem lw_p1 : lw_okq (⟨"GlassLog$Mixer", "turn", "()V"⟩, 2) := ⟨⟨by decide +kernel, by decide +kernel⟩, lw_t1 (List.mem_of_getElem? (i := 228) rfl), lw_t2 (List.mem_of_getElem? (i := 126) rfl), lw_t2 (List.mem_of_getElem? (i := 127) rfl)⟩
theorem lw_p2 : lw_okq (⟨"GlassLog", "isCount", "(II)Z"⟩, 8) := ⟨⟨by decide +kernel, by decide +kernel⟩, lw_t1 (List.mem_of_getElem? (i := 30) rfl), lw_t2 (List.mem_of_getElem? (i := 146) rfl), lw_t2 (List.mem_of_getElem? (i := 147) rfl)⟩
theorem lw_p3 : lw_okq (⟨"GlassLog$Map", "put", "(II)V"⟩, 9) := ⟨⟨by decide +kernel, by decide +kernel⟩, lw_t2 (List.mem_of_getElem? (i := 23) rfl), lw_t2 (List.mem_of_getElem? (i := 193) rfl), lw_t2 (List.mem_of_getElem? (i := 194) rfl)⟩
theorem lw_p4 : lw_okq (⟨"GlassLog$Map", "compare", "(I)I"⟩, 9) := ⟨⟨by decide +kernel, by decide +kernel⟩, lw_t2 (List.mem_of_getElem? (i := 23) rfl), lw_t2 (List.mem_of_getElem? (i := 201) rfl), lw_t2 (List.mem_of_getElem? (i := 202) rfl)⟩
theorem lw_p5 : lw_okq (⟨"GlassLog", "headOf", "(II)LGlassLog$Head;"⟩, 8) := ⟨⟨by decide +kernel, by decide +kernel⟩, lw_t1 (List.mem_of_getElem? (i := 30) rfl), lw_t2 (List.mem_of_getElem? (i := 224) rfl), lw_t2 (List.mem_of_getElem? (i := 225) rfl)⟩
theorem lw_p6 : lw_okq (⟨"GlassLog$Map", "tree", "(IIII)V"⟩, 9) := ⟨⟨by decide +kernel, by decide +kernel⟩, lw_t2 (List.mem_of_getElem? (i := 23) rfl), lw_t3 (List.mem_of_getElem? (i := 16) rfl), lw_t3 (List.mem_of_getElem? (i := 17) rfl)⟩
theorem lw_p7 : lw_okq (⟨"GlassLog$Map", "parting", "(III)I"⟩, 9) := ⟨⟨by decide +kernel, by decide +kernel⟩, lw_t2 (List.mem_of_getElem? (i := 23) rfl), lw_t3 (List.mem_of_getElem? (i := 25) rfl), lw_t3 (List.mem_of_getElem? (i := 26) rfl)⟩
theorem lw_p8 : lw_okq (⟨"GlassLog", "spans", "(ILGlassLog$Span;LGlassLog$Log;IIII)I"⟩, 8) := ⟨⟨by decide +kernel, by decide +kernel⟩, lw_t1 (List.mem_of_getElem? (i := 30) rfl), lw_t3 (List.mem_of_getElem? (i := 105) rfl), lw_t3 (List.mem_of_getElem? (i := 106) rfl)⟩
theorem lw_p9 : lw_okq (⟨"GlassLog", "writes", "(LGlassLog$Log;III)I"⟩, 8) := ⟨⟨by decide +kernel, by decide +kernel⟩, lw_t1 (List.mem_of_getElem? (i := 30) rfl), lw_t3 (List.mem_of_getElem? (i := 110) rfl), lw_t3 (List.mem_of_getElem? (i := 111) rfl)⟩
theorem lw_p10 : lw_okq (⟨"GlassLog", "puts", "(ILGlassLog$Proof;IIII)I"⟩, 8) := ⟨⟨by decide +kernel, by decide +kernel⟩, lw_t1 (List.mem_of_getElem? (i := 30) rfl), lw_t3 (List.mem_of_getElem? (i := 115) rfl), lw_t3 (List.mem_of_getElem? (i := 116) rfl)⟩
theorem lw_p11 : lw_okq (⟨"GlassLog", "proofAt", "(I)LGlassLog$Proof;"⟩, 8) := ⟨⟨by decide +kernel, by decide +kernel⟩, lw_t1 (List.mem_of_getElem? (i := 30) rfl), lw_t3 (List.mem_of_getElem? (i := 232) rfl), lw_t3 (List.mem_of_getElem? (i := 233) rfl)⟩
theorem lw_p12 : lw_okq (⟨"java/lang/NullPointerException", "getExtendedNPEMessage", "()Ljava/lang/String;"⟩, 8) := ⟨⟨by decide +kernel, by decide +kernel⟩, lw_t4 (List.mem_of_getElem? (i := 66) rfl), lw_t4 (List.mem_of_getElem? (i := 92) rfl), lw_t4 (List.mem_of_getElem? (i := 93) rfl)⟩
theorem lw_p13 : lw_okq (⟨"java/lang/Throwable", "fillInStackTrace", "(I)Ljava/lang/Throwable;"⟩, 6) := ⟨⟨by decide +kernel, by decide +kernel⟩, lw_t4 (List.mem_of_getElem? (i := 105) rfl), lw_t4 (List.mem_of_getElem? (i := 103) rfl), lw_t4 (List.mem_of_getElem? (i := 104) rfl)⟩
theorem lw_p14 : lw_okq (⟨"GlassLog", "hasHead", "(I)Z"⟩, 8) := ⟨⟨by decide +kernel, by decide +kernel⟩, lw_t1 (List.mem_of_getElem? (i := 30) rfl), lw_t4 (List.mem_of_getElem? (i := 198) rfl), lw_t4 (List.mem_of_getElem? (i := 199) rfl)⟩
theorem lw_p15 : lw_okq (⟨"GlassLog", "agree", "(LGlassLog$Head;LGlassLog$Head;)Z"⟩, 8) := ⟨⟨by decide +kernel, by decide +kernel⟩, lw_t1 (List.mem_of_getElem? (i := 30) rfl), lw_t5 (List.mem_of_getElem? (i := 29) rfl), lw_t5 (List.mem_of_getElem? (i := 30) rfl)⟩
def lw_privs_1 : List (MethodName × Nat) := [(⟨"GlassLog", "isLog", "(I)Z"⟩, 8), (⟨"GlassLog$Mixer", "turn", "()V"⟩, 2), (⟨"GlassLog", "isCount", "(II)Z"⟩, 8), (⟨"GlassLog$Map", "put", "(II)V"⟩, 9), (⟨"GlassLog$Map", "compare", "(I)I"⟩, 9), (⟨"GlassLog", "headOf", "(II)LGlassLog$Head;"⟩, 8), (⟨"GlassLog$Map", "tree", "(IIII)V"⟩, 9), (⟨"GlassLog$Map", "parting", "(III)I"⟩, 9), (⟨"GlassLog", "spans", "(ILGlassLog$Span;LGlassLog$Log;IIII)I"⟩, 8), (⟨"GlassLog", "writes", "(LGlassLog$Log;III)I"⟩, 8), (⟨"GlassLog", "puts", "(ILGlassLog$Proof;IIII)I"⟩, 8), (⟨"GlassLog", "proofAt", "(I)LGlassLog$Proof;"⟩, 8), (⟨"java/lang/NullPointerException", "getExtendedNPEMessage", "()Ljava/lang/String;"⟩, 8), (⟨"java/lang/Throwable", "fillInStackTrace", "(I)Ljava/lang/Throwable;"⟩, 6), (⟨"GlassLog", "hasHead", "(I)Z"⟩, 8), (⟨"GlassLog", "agree", "(LGlassLog$Head;LGlassLog$Head;)Z"⟩, 8)]
theorem lw_r1 : ∀ q ∈ lw_privs_1, lw_okq q := List.forall_mem_cons.mpr ⟨lw_p0, List.forall_mem_cons.mpr ⟨lw_p1, List.forall_mem_cons.mpr ⟨lw_p2, List.forall_mem_cons.mpr ⟨lw_p3, List.forall_mem_cons.mpr ⟨lw_p4, List.forall_mem_cons.mpr ⟨lw_p5, List.forall_mem_cons.mpr ⟨lw_p6, List.forall_mem_cons.mpr ⟨lw_p7, List.forall_mem_cons.mpr ⟨lw_p8, List.forall_mem_cons.mpr ⟨lw_p9, List.forall_mem_cons.mpr ⟨lw_p10, List.forall_mem_cons.mpr ⟨lw_p11, List.forall_mem_cons.mpr ⟨lw_p12, List.forall_mem_cons.mpr ⟨lw_p13, List.forall_mem_cons.mpr ⟨lw_p14, List.forall_mem_cons.mpr ⟨lw_p15, fun _ h => absurd h List.not_mem_nil⟩⟩⟩⟩⟩⟩⟩⟩⟩⟩⟩⟩⟩⟩⟩⟩
theorem lw_p16 : lw_okq (⟨"GlassLog", "blames", "(LGlassLog$Head;LGlassLog$Head;)V"⟩, 8) := ⟨⟨by decide +kernel, by decide +kernel⟩, lw_t1 (List.mem_of_getElem? (i := 30) rfl), lw_t5 (List.mem_of_getElem? (i := 34) rfl), lw_t5 (List.mem_of_getElem? (i := 35) rfl)⟩
theorem lw_p17 : lw_okq (⟨"GlassLog", "isMarked", "(LGlassLog$Head;)Z"⟩, 8) := ⟨⟨by decide +kernel, by decide +kernel⟩, lw_t1 (List.mem_of_getElem? (i := 30) rfl), lw_t5 (List.mem_of_getElem? (i := 50) rfl), lw_t5 (List.mem_of_getElem? (i := 51) rfl)⟩
theorem lw_p18 : lw_okq (⟨"GlassLogModel", "isLog", "(I)Z"⟩, 66) := ⟨⟨by decide +kernel, by decide +kernel⟩, lw_t5 (List.mem_of_getElem? (i := 170) rfl), lw_t6 (List.mem_of_getElem? (i := 144) rfl), lw_t6 (List.mem_of_getElem? (i := 145) rfl)⟩
theorem lw_p19 : lw_okq (⟨"GlassLogModel", "many", "(I)I"⟩, 66) := ⟨⟨by decide +kernel, by decide +kernel⟩, lw_t5 (List.mem_of_getElem? (i := 170) rfl), lw_t6 (List.mem_of_getElem? (i := 148) rfl), lw_t6 (List.mem_of_getElem? (i := 149) rfl)⟩
theorem lw_p20 : lw_okq (⟨"GlassLogModel", "isCount", "(II)Z"⟩, 66) := ⟨⟨by decide +kernel, by decide +kernel⟩, lw_t5 (List.mem_of_getElem? (i := 170) rfl), lw_t6 (List.mem_of_getElem? (i := 156) rfl), lw_t6 (List.mem_of_getElem? (i := 157) rfl)⟩
theorem lw_p21 : lw_okq (⟨"GlassLogModel", "say", "(IIZ)Z"⟩, 66) := ⟨⟨by decide +kernel, by decide +kernel⟩, lw_t5 (List.mem_of_getElem? (i := 170) rfl), lw_t6 (List.mem_of_getElem? (i := 164) rfl), lw_t6 (List.mem_of_getElem? (i := 165) rfl)⟩
theorem lw_p22 : lw_okq (⟨"GlassLogModel", "word", "(II)I"⟩, 66) := ⟨⟨by decide +kernel, by decide +kernel⟩, lw_t5 (List.mem_of_getElem? (i := 170) rfl), lw_t6 (List.mem_of_getElem? (i := 168) rfl), lw_t6 (List.mem_of_getElem? (i := 169) rfl)⟩
theorem lw_p23 : lw_okq (⟨"GlassLogModel", "map", "(II)V"⟩, 66) := ⟨⟨by decide +kernel, by decide +kernel⟩, lw_t5 (List.mem_of_getElem? (i := 170) rfl), lw_t6 (List.mem_of_getElem? (i := 188) rfl), lw_t6 (List.mem_of_getElem? (i := 189) rfl)⟩
theorem lw_p24 : lw_okq (⟨"GlassLogModel", "counts", "(III)Z"⟩, 66) := ⟨⟨by decide +kernel, by decide +kernel⟩, lw_t5 (List.mem_of_getElem? (i := 170) rfl), lw_t6 (List.mem_of_getElem? (i := 192) rfl), lw_t6 (List.mem_of_getElem? (i := 193) rfl)⟩
theorem lw_p25 : lw_okq (⟨"GlassLogModel", "find", "(I)I"⟩, 66) := ⟨⟨by decide +kernel, by decide +kernel⟩, lw_t5 (List.mem_of_getElem? (i := 170) rfl), lw_t6 (List.mem_of_getElem? (i := 196) rfl), lw_t6 (List.mem_of_getElem? (i := 197) rfl)⟩
theorem lw_p26 : lw_okq (⟨"GlassLogModel", "wayOf", "(I)V"⟩, 66) := ⟨⟨by decide +kernel, by decide +kernel⟩, lw_t5 (List.mem_of_getElem? (i := 170) rfl), lw_t6 (List.mem_of_getElem? (i := 200) rfl), lw_t6 (List.mem_of_getElem? (i := 201) rfl)⟩
theorem lw_p27 : lw_okq (⟨"GlassLogModel", "mix", "(I)V"⟩, 66) := ⟨⟨by decide +kernel, by decide +kernel⟩, lw_t5 (List.mem_of_getElem? (i := 170) rfl), lw_t6 (List.mem_of_getElem? (i := 204) rfl), lw_t6 (List.mem_of_getElem? (i := 205) rfl)⟩
theorem lw_p28 : lw_okq (⟨"GlassLogModel", "turn", "()V"⟩, 66) := ⟨⟨by decide +kernel, by decide +kernel⟩, lw_t5 (List.mem_of_getElem? (i := 170) rfl), lw_t6 (List.mem_of_getElem? (i := 209) rfl), lw_t6 (List.mem_of_getElem? (i := 210) rfl)⟩
theorem lw_p29 : lw_okq (⟨"GlassLogModel", "toRow", "([II)V"⟩, 66) := ⟨⟨by decide +kernel, by decide +kernel⟩, lw_t5 (List.mem_of_getElem? (i := 170) rfl), lw_t6 (List.mem_of_getElem? (i := 213) rfl), lw_t6 (List.mem_of_getElem? (i := 214) rfl)⟩
theorem lw_p30 : lw_okq (⟨"GlassLogModel", "head", "(II[II)V"⟩, 66) := ⟨⟨by decide +kernel, by decide +kernel⟩, lw_t5 (List.mem_of_getElem? (i := 170) rfl), lw_t6 (List.mem_of_getElem? (i := 225) rfl), lw_t6 (List.mem_of_getElem? (i := 226) rfl)⟩
theorem lw_p31 : lw_okq (⟨"GlassLogModel", "layLog", "(III)V"⟩, 66) := ⟨⟨by decide +kernel, by decide +kernel⟩, lw_t5 (List.mem_of_getElem? (i := 170) rfl), lw_t6 (List.mem_of_getElem? (i := 229) rfl), lw_t6 (List.mem_of_getElem? (i := 230) rfl)⟩
def lw_privs_2 : List (MethodName × Nat) := [(⟨"GlassLog", "blames", "(LGlassLog$Head;LGlassLog$Head;)V"⟩, 8), (⟨"GlassLog", "isMarked", "(LGlassLog$Head;)Z"⟩, 8), (⟨"GlassLogModel", "isLog", "(I)Z"⟩, 66), (⟨"GlassLogModel", "many", "(I)I"⟩, 66), (⟨"GlassLogModel", "isCount", "(II)Z"⟩, 66), (⟨"GlassLogModel", "say", "(IIZ)Z"⟩, 66), (⟨"GlassLogModel", "word", "(II)I"⟩, 66), (⟨"GlassLogModel", "map", "(II)V"⟩, 66), (⟨"GlassLogModel", "counts", "(III)Z"⟩, 66), (⟨"GlassLogModel", "find", "(I)I"⟩, 66), (⟨"GlassLogModel", "wayOf", "(I)V"⟩, 66), (⟨"GlassLogModel", "mix", "(I)V"⟩, 66), (⟨"GlassLogModel", "turn", "()V"⟩, 66), (⟨"GlassLogModel", "toRow", "([II)V"⟩, 66), (⟨"GlassLogModel", "head", "(II[II)V"⟩, 66), (⟨"GlassLogModel", "layLog", "(III)V"⟩, 66)]
theorem lw_r2 : ∀ q ∈ lw_privs_2, lw_okq q := List.forall_mem_cons.mpr ⟨lw_p16, List.forall_mem_cons.mpr ⟨lw_p17, List.forall_mem_cons.mpr ⟨lw_p18, List.forall_mem_cons.mpr ⟨lw_p19, List.forall_mem_cons.mpr ⟨lw_p20, List.forall_mem_cons.mpr ⟨lw_p21, List.forall_mem_cons.mpr ⟨lw_p22, List.forall_mem_cons.mpr ⟨lw_p23, List.forall_mem_cons.mpr ⟨lw_p24, List.forall_mem_cons.mpr ⟨lw_p25, List.forall_mem_cons.mpr ⟨lw_p26, List.forall_mem_cons.mpr ⟨lw_p27, List.forall_mem_cons.mpr ⟨lw_p28, List.forall_mem_cons.mpr ⟨lw_p29, List.forall_mem_cons.mpr ⟨lw_p30, List.forall_mem_cons.mpr ⟨lw_p31, fun _ h => absurd h List.not_mem_nil⟩⟩⟩⟩⟩⟩⟩⟩⟩⟩⟩⟩⟩⟩⟩⟩
theorem lw_p32 : lw_okq (⟨"GlassLogModel", "blockSum", "(IIII[II)V"⟩, 66) := ⟨⟨by decide +kernel, by decide +kernel⟩, lw_t5 (List.mem_of_getElem? (i := 170) rfl), lw_t6 (List.mem_of_getElem? (i := 236) rfl), lw_t6 (List.mem_of_getElem? (i := 237) rfl)⟩
theorem lw_p33 : lw_okq (⟨"GlassLogModel", "entrySum", "(IJ[II)V"⟩, 66) := ⟨⟨by decide +kernel, by decide +kernel⟩, lw_t5 (List.mem_of_getElem? (i := 170) rfl), lw_t7 (List.mem_of_getElem? (i := 0) rfl), lw_t7 (List.mem_of_getElem? (i := 1) rfl)⟩
theorem lw_p34 : lw_okq (⟨"GlassLogModel", "join", "([II[II[II)V"⟩, 66) := ⟨⟨by decide +kernel, by decide +kernel⟩, lw_t5 (List.mem_of_getElem? (i := 170) rfl), lw_t7 (List.mem_of_getElem? (i := 4) rfl), lw_t7 (List.mem_of_getElem? (i := 5) rfl)⟩
theorem lw_p35 : lw_okq (⟨"GlassLogModel", "lay", "(II[II)V"⟩, 66) := ⟨⟨by decide +kernel, by decide +kernel⟩, lw_t5 (List.mem_of_getElem? (i := 170) rfl), lw_t7 (List.mem_of_getElem? (i := 8) rfl), lw_t7 (List.mem_of_getElem? (i := 9) rfl)⟩
theorem lw_p36 : lw_okq (⟨"GlassLogModel", "top", "([II)V"⟩, 66) := ⟨⟨by decide +kernel, by decide +kernel⟩, lw_t5 (List.mem_of_getElem? (i := 170) rfl), lw_t7 (List.mem_of_getElem? (i := 12) rfl), lw_t7 (List.mem_of_getElem? (i := 13) rfl)⟩
theorem lw_p37 : lw_okq (⟨"GlassLogModel", "tree", "(III[II)V"⟩, 66) := ⟨⟨by decide +kernel, by decide +kernel⟩, lw_t5 (List.mem_of_getElem? (i := 170) rfl), lw_t7 (List.mem_of_getElem? (i := 16) rfl), lw_t7 (List.mem_of_getElem? (i := 17) rfl)⟩
theorem lw_p38 : lw_okq (⟨"GlassLogModel", "leaf", "(II)V"⟩, 66) := ⟨⟨by decide +kernel, by decide +kernel⟩, lw_t5 (List.mem_of_getElem? (i := 170) rfl), lw_t7 (List.mem_of_getElem? (i := 20) rfl), lw_t7 (List.mem_of_getElem? (i := 21) rfl)⟩
theorem lw_p39 : lw_okq (⟨"GlassLogModel", "part", "(III)I"⟩, 66) := ⟨⟨by decide +kernel, by decide +kernel⟩, lw_t5 (List.mem_of_getElem? (i := 170) rfl), lw_t7 (List.mem_of_getElem? (i := 24) rfl), lw_t7 (List.mem_of_getElem? (i := 25) rfl)⟩
theorem lw_p40 : lw_okq (⟨"GlassLogModel", "mark", "(II[III)V"⟩, 66) := ⟨⟨by decide +kernel, by decide +kernel⟩, lw_t5 (List.mem_of_getElem? (i := 170) rfl), lw_t7 (List.mem_of_getElem? (i := 31) rfl), lw_t7 (List.mem_of_getElem? (i := 32) rfl)⟩
theorem lw_p41 : lw_okq (⟨"GlassLogModel", "isSlot", "(I)Z"⟩, 66) := ⟨⟨by decide +kernel, by decide +kernel⟩, lw_t5 (List.mem_of_getElem? (i := 170) rfl), lw_t7 (List.mem_of_getElem? (i := 40) rfl), lw_t7 (List.mem_of_getElem? (i := 41) rfl)⟩
theorem lw_p42 : lw_okq (⟨"GlassLogModel", "begin", "(IIIII)V"⟩, 66) := ⟨⟨by decide +kernel, by decide +kernel⟩, lw_t5 (List.mem_of_getElem? (i := 170) rfl), lw_t7 (List.mem_of_getElem? (i := 44) rfl), lw_t7 (List.mem_of_getElem? (i := 45) rfl)⟩
theorem lw_p43 : lw_okq (⟨"GlassLogModel", "stepLog", "(IIII)V"⟩, 66) := ⟨⟨by decide +kernel, by decide +kernel⟩, lw_t5 (List.mem_of_getElem? (i := 170) rfl), lw_t7 (List.mem_of_getElem? (i := 48) rfl), lw_t7 (List.mem_of_getElem? (i := 49) rfl)⟩
theorem lw_p44 : lw_okq (⟨"GlassLogModel", "step", "(I[II)V"⟩, 66) := ⟨⟨by decide +kernel, by decide +kernel⟩, lw_t5 (List.mem_of_getElem? (i := 170) rfl), lw_t7 (List.mem_of_getElem? (i := 52) rfl), lw_t7 (List.mem_of_getElem? (i := 53) rfl)⟩
theorem lw_p45 : lw_okq (⟨"GlassLogModel", "follow", "(II)V"⟩, 66) := ⟨⟨by decide +kernel, by decide +kernel⟩, lw_t5 (List.mem_of_getElem? (i := 170) rfl), lw_t7 (List.mem_of_getElem? (i := 64) rfl), lw_t7 (List.mem_of_getElem? (i := 65) rfl)⟩
theorem lw_p46 : lw_okq (⟨"GlassLogModel", "isStep", "(III)Z"⟩, 66) := ⟨⟨by decide +kernel, by decide +kernel⟩, lw_t5 (List.mem_of_getElem? (i := 170) rfl), lw_t7 (List.mem_of_getElem? (i := 88) rfl), lw_t7 (List.mem_of_getElem? (i := 89) rfl)⟩
theorem lw_p47 : lw_okq (⟨"GlassLogModel", "isReader", "(I)Z"⟩, 66) := ⟨⟨by decide +kernel, by decide +kernel⟩, lw_t5 (List.mem_of_getElem? (i := 170) rfl), lw_t7 (List.mem_of_getElem? (i := 104) rfl), lw_t7 (List.mem_of_getElem? (i := 105) rfl)⟩
def lw_privs_3 : List (MethodName × Nat) := [(⟨"GlassLogModel", "blockSum", "(IIII[II)V"⟩, 66), (⟨"GlassLogModel", "entrySum", "(IJ[II)V"⟩, 66), (⟨"GlassLogModel", "join", "([II[II[II)V"⟩, 66), (⟨"GlassLogModel", "lay", "(II[II)V"⟩, 66), (⟨"GlassLogModel", "top", "([II)V"⟩, 66), (⟨"GlassLogModel", "tree", "(III[II)V"⟩, 66), (⟨"GlassLogModel", "leaf", "(II)V"⟩, 66), (⟨"GlassLogModel", "part", "(III)I"⟩, 66), (⟨"GlassLogModel", "mark", "(II[III)V"⟩, 66), (⟨"GlassLogModel", "isSlot", "(I)Z"⟩, 66), (⟨"GlassLogModel", "begin", "(IIIII)V"⟩, 66), (⟨"GlassLogModel", "stepLog", "(IIII)V"⟩, 66), (⟨"GlassLogModel", "step", "(I[II)V"⟩, 66), (⟨"GlassLogModel", "follow", "(II)V"⟩, 66), (⟨"GlassLogModel", "isStep", "(III)Z"⟩, 66), (⟨"GlassLogModel", "isReader", "(I)Z"⟩, 66)]
theorem lw_r3 : ∀ q ∈ lw_privs_3, lw_okq q := List.forall_mem_cons.mpr ⟨lw_p32, List.forall_mem_cons.mpr ⟨lw_p33, List.forall_mem_cons.mpr ⟨lw_p34, List.forall_mem_cons.mpr ⟨lw_p35, List.forall_mem_cons.mpr ⟨lw_p36, List.forall_mem_cons.mpr ⟨lw_p37, List.forall_mem_cons.mpr ⟨lw_p38, List.forall_mem_cons.mpr ⟨lw_p39, List.forall_mem_cons.mpr ⟨lw_p40, List.forall_mem_cons.mpr ⟨lw_p41, List.forall_mem_cons.mpr ⟨lw_p42, List.forall_mem_cons.mpr ⟨lw_p43, List.forall_mem_cons.mpr ⟨lw_p44, List.forall_mem_cons.mpr ⟨lw_p45, List.forall_mem_cons.mpr ⟨lw_p46, List.forall_mem_cons.mpr ⟨lw_p47, fun _ h => absurd h List.not_mem_nil⟩⟩⟩⟩⟩⟩⟩⟩⟩⟩⟩⟩⟩⟩⟩⟩
theorem lw_p48 : lw_okq (⟨"GlassLogModel", "isGrownRight", "(I[II[II)Z"⟩, 66) := ⟨⟨by decide +kernel, by decide +kernel⟩, lw_t5 (List.mem_of_getElem? (i := 170) rfl), lw_t7 (List.mem_of_getElem? (i := 108) rfl), lw_t7 (List.mem_of_getElem? (i := 109) rfl)⟩
theorem lw_p49 : lw_okq (⟨"GlassLogModel", "laySteps", "(III)V"⟩, 66) := ⟨⟨by decide +kernel, by decide +kernel⟩, lw_t5 (List.mem_of_getElem? (i := 170) rfl), lw_t7 (List.mem_of_getElem? (i := 112) rfl), lw_t7 (List.mem_of_getElem? (i := 113) rfl)⟩
theorem lw_p50 : lw_okq (⟨"GlassLogModel", "isSpanRight", "(I[II)Z"⟩, 66) := ⟨⟨by decide +kernel, by decide +kernel⟩, lw_t5 (List.mem_of_getElem? (i := 170) rfl), lw_t7 (List.mem_of_getElem? (i := 119) rfl), lw_t7 (List.mem_of_getElem? (i := 120) rfl)⟩
theorem lw_p51 : lw_okq (⟨"GlassLogModel", "isWayRight", "(I[II)Z"⟩, 66) := ⟨⟨by decide +kernel, by decide +kernel⟩, lw_t5 (List.mem_of_getElem? (i := 170) rfl), lw_t7 (List.mem_of_getElem? (i := 123) rfl), lw_t7 (List.mem_of_getElem? (i := 124) rfl)⟩
theorem lw_p52 : lw_okq (⟨"GlassLogModel", "agree", "([II[II)Z"⟩, 66) := ⟨⟨by decide +kernel, by decide +kernel⟩, lw_t5 (List.mem_of_getElem? (i := 170) rfl), lw_t7 (List.mem_of_getElem? (i := 131) rfl), lw_t7 (List.mem_of_getElem? (i := 132) rfl)⟩
theorem lw_p53 : lw_okq (⟨"GlassLogModel", "blame", "([II[II)V"⟩, 66) := ⟨⟨by decide +kernel, by decide +kernel⟩, lw_t5 (List.mem_of_getElem? (i := 170) rfl), lw_t7 (List.mem_of_getElem? (i := 135) rfl), lw_t7 (List.mem_of_getElem? (i := 136) rfl)⟩
theorem lw_p54 : lw_okq (⟨"GlassLogModel", "isMarked", "(I)Z"⟩, 66) := ⟨⟨by decide +kernel, by decide +kernel⟩, lw_t5 (List.mem_of_getElem? (i := 170) rfl), lw_t7 (List.mem_of_getElem? (i := 154) rfl), lw_t7 (List.mem_of_getElem? (i := 155) rfl)⟩
theorem lw_p55 : lw_okq (⟨"GlassLogModel", "isWatcher", "(I)Z"⟩, 66) := ⟨⟨by decide +kernel, by decide +kernel⟩, lw_t5 (List.mem_of_getElem? (i := 170) rfl), lw_t7 (List.mem_of_getElem? (i := 166) rfl), lw_t7 (List.mem_of_getElem? (i := 167) rfl)⟩
def lw_privs_4 : List (MethodName × Nat) := [(⟨"GlassLogModel", "isGrownRight", "(I[II[II)Z"⟩, 66), (⟨"GlassLogModel", "laySteps", "(III)V"⟩, 66), (⟨"GlassLogModel", "isSpanRight", "(I[II)Z"⟩, 66), (⟨"GlassLogModel", "isWayRight", "(I[II)Z"⟩, 66), (⟨"GlassLogModel", "agree", "([II[II)Z"⟩, 66), (⟨"GlassLogModel", "blame", "([II[II)V"⟩, 66), (⟨"GlassLogModel", "isMarked", "(I)Z"⟩, 66), (⟨"GlassLogModel", "isWatcher", "(I)Z"⟩, 66)]
theorem lw_r4 : ∀ q ∈ lw_privs_4, lw_okq q := List.forall_mem_cons.mpr ⟨lw_p48, List.forall_mem_cons.mpr ⟨lw_p49, List.forall_mem_cons.mpr ⟨lw_p50, List.forall_mem_cons.mpr ⟨lw_p51, List.forall_mem_cons.mpr ⟨lw_p52, List.forall_mem_cons.mpr ⟨lw_p53, List.forall_mem_cons.mpr ⟨lw_p54, List.forall_mem_cons.mpr ⟨lw_p55, fun _ h => absurd h List.not_mem_nil⟩⟩⟩⟩⟩⟩⟩⟩
def lw_privs : List (MethodName × Nat) := lw_privs_1 ++ (lw_privs_2 ++ (lw_privs_3 ++ (lw_privs_4)))
def lw_tbl : List Cond := k2_sels lw_privs ++ tables_1
theorem lw_privs_ok : ∀ q ∈ lw_privs, lw_okq q := by
  show ∀ q ∈ lw_privs_1 ++ (lw_privs_2 ++ (lw_privs_3 ++ (lw_privs_4))), lw_okq q
  exact List.forall_mem_append.mpr ⟨lw_r1, List.forall_mem_append.mpr ⟨lw_r2, List.forall_mem_append.mpr ⟨lw_r3, lw_r4⟩⟩⟩
-- ===== ONE list of words for every method: the tables' words that hold all through a run =====
def lw_all : List Cond := lw_tbl.filter goodWord
/-- a word of the tables by its place: claim/WORDS.tsv -/
theorem lw_w {w : Cond} (i : Nat) (h : lw_tbl[i]? = some w) (g : goodWord w = true) : w ∈ lw_all := List.mem_filter.mpr ⟨List.mem_of_getElem? h, g⟩
theorem lw_all_tbl {w : Cond} (h : w ∈ lw_all) : w ∈ lw_tbl := (List.mem_filter.mp h).1
theorem lw_self : GoodIn lw_all lw_all := fun w h => ⟨h, good_of_word (List.mem_filter.mp h).2⟩
/-- a class's field words, by their places -/
theorem lw_in (ws : List Cond) (ps : List Nat) (hp : ws = ps.filterMap (fun i => lw_tbl[i]?)) (hg : ws.all goodWord = true) : ∀ w ∈ ws, w ∈ lw_all := by
  intro w h
  have h1 := List.all_eq_true.mp hg w h
  rw [hp] at h
  obtain ⟨i, -, hi⟩ := List.mem_filterMap.mp h
  exact lw_w i hi h1
/-- the words of a contract for the method y with code b, L locals, answer r -/
abbrev ws_ (y : MethodName) (b : ByteArray) (L : Nat) (r : Option FieldType) : List Cond := Cond.code y b L r :: lw_all
theorem lw_meth {y : MethodName} {b : ByteArray} {L : Nat} {r : Option FieldType} (h : Cond.code y b L r ∈ lw_all) : GoodIn lw_all (ws_ y b L r) := by
  intro w hw
  rcases List.mem_cons.mp hw with e | e
  · rw [e]
    exact lw_self _ h
  · exact lw_self _ e
theorem lw_app {a c : List Cond} (ha : ∀ w ∈ a, w ∈ lw_all) (hc : GoodIn lw_all c) : GoodIn lw_all (a ++ c) := by
  intro w hw
  rcases List.mem_append.mp hw with e | e
  · exact lw_self w (ha w e)
  · exact hc w e
/-- what a call through an object asks: cwV n hts (lw_V ..) -/
theorem lw_V {own : String} {idx : Nat} {C : String} {y : MethodName} {b : ByteArray} {L : Nat} {r : Option FieldType} (h1 : Cond.methodLink own idx y ∈ lw_all) (h2 : Cond.instanceMethod y ∈ lw_all) (h3 : Cond.selects C y y ∈ lw_all) (h4 : Cond.initialized C ∈ lw_all) (h5 : Cond.code y b L r ∈ lw_all) : GoodIn lw_all (wsV own idx C y (ws_ y b L r)) := by
  refine lw_app ?_ (lw_meth h5)
  intro w hw
  simp only [List.mem_cons, List.not_mem_nil, or_false] at hw
  rcases hw with e | e | e | e
  · rw [e]; exact h1
  · rw [e]; exact h2
  · rw [e]; exact h3
  · rw [e]; exact h4
/-- what a static call asks: va_cwS n hts (lw_S ..) -/
theorem lw_S {own : String} {idx : Nat} {y : MethodName} {b : ByteArray} {L : Nat} {r : Option FieldType} (h1 : Cond.methodLink own idx y ∈ lw_all) (h2 : Cond.static y ∈ lw_all) (h3 : Cond.initialized y.cls ∈ lw_all) (h4 : Cond.code y b L r ∈ lw_all) : GoodIn lw_all (va_wsS own idx y (ws_ y b L r)) := by
  refine lw_app ?_ (lw_meth h4)
  intro w hw
  simp only [List.mem_cons, List.not_mem_nil, or_false] at hw
  rcases hw with e | e | e
  · rw [e]; exact h1
  · rw [e]; exact h2
  · rw [e]; exact h3
/-- the words of a contract for a method WITH HANDLERS (hh: its table) -/
abbrev wsW_ (y : MethodName) (b : ByteArray) (L : Nat) (r : Option FieldType) (hh : List (Nat × Nat × Nat × Nat)) : List Cond := Cond.codeWith y b L r hh :: lw_all
theorem lw_methW {y : MethodName} {b : ByteArray} {L : Nat} {r : Option FieldType} {hh : List (Nat × Nat × Nat × Nat)} (h : Cond.codeWith y b L r hh ∈ lw_all) : GoodIn lw_all (wsW_ y b L r hh) := by
  intro w hw
  rcases List.mem_cons.mp hw with e | e
  · rw [e]
    exact lw_self _ h
  · exact lw_self _ e
/-- any list of words by their places (lw_in), good -/
theorem lw_good {ws : List Cond} (h : ∀ w ∈ ws, w ∈ lw_all) : GoodIn lw_all ws := fun w hw => lw_self w (h w hw)
/-- what a call of a method with handlers asks: vx_cwVW n hts (lw_VW ..), vx_cwSW n hts (lw_SW ..) -/
theorem lw_VW {own : String} {idx : Nat} {C : String} {y : MethodName} {b : ByteArray} {L : Nat} {r : Option FieldType} {hh : List (Nat × Nat × Nat × Nat)} (h1 : Cond.methodLink own idx y ∈ lw_all) (h2 : Cond.instanceMethod y ∈ lw_all) (h3 : Cond.selects C y y ∈ lw_all) (h4 : Cond.initialized C ∈ lw_all) (h5 : Cond.codeWith y b L r hh ∈ lw_all) : GoodIn lw_all (wsV own idx C y (wsW_ y b L r hh)) := by
  refine lw_app ?_ (lw_methW h5)
  intro w hw
  simp only [List.mem_cons, List.not_mem_nil, or_false] at hw
  rcases hw with e | e | e | e
  · rw [e]; exact h1
  · rw [e]; exact h2
  · rw [e]; exact h3
  · rw [e]; exact h4
theorem lw_SW {own : String} {idx : Nat} {y : MethodName} {b : ByteArray} {L : Nat} {r : Option FieldType} {hh : List (Nat × Nat × Nat × Nat)} (h1 : Cond.methodLink own idx y ∈ lw_all) (h2 : Cond.static y ∈ lw_all) (h3 : Cond.initialized y.cls ∈ lw_all) (h4 : Cond.codeWith y b L r hh ∈ lw_all) : GoodIn lw_all (va_wsS own idx y (wsW_ y b L r hh)) := by
  refine lw_app ?_ (lw_methW h4)
  intro w hw
  simp only [List.mem_cons, List.not_mem_nil, or_false] at hw
  rcases hw with e | e | e
  · rw [e]; exact h1
  · rw [e]; exact h2
  · rw [e]; exact h3
/-- a word by its place in its run of the tables -/
theorem lw_at {r : List Cond} (hr : ∀ w ∈ r, w ∈ lw_tbl) {w : Cond} (i : Nat) (h : r[i]? = some w) : w ∈ lw_tbl := hr w (List.mem_of_getElem? h)
theorem lw_g {w : Cond} (h : w ∈ lw_tbl) (g : goodWord w = true) : w ∈ lw_all := List.mem_filter.mpr ⟨h, g⟩
theorem lw_ms : ∀ w ∈ k2_sels lw_privs, w ∈ lw_tbl := fun w h => show w ∈ k2_sels lw_privs ++ tables_1 from List.mem_append_left _ h
theorem lw_m1 : ∀ w ∈ tables_1_1, w ∈ lw_tbl := fun w h => show w ∈ k2_sels lw_privs ++ tables_1 from List.mem_append_right (k2_sels lw_privs) (show w ∈ tables_1 from List.mem_append_left _ h)
theorem lw_m2 : ∀ w ∈ tables_1_2, w ∈ lw_tbl := fun w h => show w ∈ k2_sels lw_privs ++ tables_1 from List.mem_append_right (k2_sels lw_privs) (show w ∈ tables_1 from List.mem_append_right _ (List.mem_append_left _ h))
theorem lw_m3 : ∀ w ∈ tables_1_3, w ∈ lw_tbl := fun w h => show w ∈ k2_sels lw_privs ++ tables_1 from List.mem_append_right (k2_sels lw_privs) (show w ∈ tables_1 from List.mem_append_right _ (List.mem_append_right _ (List.mem_append_left _ h)))
theorem lw_m4 : ∀ w ∈ tables_1_4, w ∈ lw_tbl := fun w h => show w ∈ k2_sels lw_privs ++ tables_1 from List.mem_append_right (k2_sels lw_privs) (show w ∈ tables_1 from List.mem_append_right _ (List.mem_append_right _ (List.mem_append_right _ (List.mem_append_left _ h))))
theorem lw_m5 : ∀ w ∈ tables_1_5, w ∈ lw_tbl := fun w h => show w ∈ k2_sels lw_privs ++ tables_1 from List.mem_append_right (k2_sels lw_privs) (show w ∈ tables_1 from List.mem_append_right _ (List.mem_append_right _ (List.mem_append_right _ (List.mem_append_right _ (List.mem_append_left _ h)))))
theorem lw_m6 : ∀ w ∈ tables_1_6, w ∈ lw_tbl := fun w h => show w ∈ k2_sels lw_privs ++ tables_1 from List.mem_append_right (k2_sels lw_privs) (show w ∈ tables_1 from List.mem_append_right _ (List.mem_append_right _ (List.mem_append_right _ (List.mem_append_right _ (List.mem_append_right _ (List.mem_append_left _ h))))))
theorem lw_m7 : ∀ w ∈ tables_1_7, w ∈ lw_tbl := fun w h => show w ∈ k2_sels lw_privs ++ tables_1 from List.mem_append_right (k2_sels lw_privs) (show w ∈ tables_1 from List.mem_append_right _ (List.mem_append_right _ (List.mem_append_right _ (List.mem_append_right _ (List.mem_append_right _ (List.mem_append_right _ h))))))
theorem qs0 : (Cond.selects "GlassLog" ⟨"GlassLog", "isLog", "(I)Z"⟩ ⟨"GlassLog", "isLog", "(I)Z"⟩) ∈ lw_all := lw_g (lw_at lw_ms 0 rfl) rfl
theorem qs1 : (Cond.selects "GlassLog$Mixer" ⟨"GlassLog$Mixer", "turn", "()V"⟩ ⟨"GlassLog$Mixer", "turn", "()V"⟩) ∈ lw_all := lw_g (lw_at lw_ms 1 rfl) rfl
theorem qs2 : (Cond.selects "GlassLog" ⟨"GlassLog", "isCount", "(II)Z"⟩ ⟨"GlassLog", "isCount", "(II)Z"⟩) ∈ lw_all := lw_g (lw_at lw_ms 2 rfl) rfl
theorem qs3 : (Cond.selects "GlassLog$Map" ⟨"GlassLog$Map", "put", "(II)V"⟩ ⟨"GlassLog$Map", "put", "(II)V"⟩) ∈ lw_all := lw_g (lw_at lw_ms 3 rfl) rfl
theorem qs4 : (Cond.selects "GlassLog$Map" ⟨"GlassLog$Map", "compare", "(I)I"⟩ ⟨"GlassLog$Map", "compare", "(I)I"⟩) ∈ lw_all := lw_g (lw_at lw_ms 4 rfl) rfl
theorem qs5 : (Cond.selects "GlassLog" ⟨"GlassLog", "headOf", "(II)LGlassLog$Head;"⟩ ⟨"GlassLog", "headOf", "(II)LGlassLog$Head;"⟩) ∈ lw_all := lw_g (lw_at lw_ms 5 rfl) rfl
theorem qs6 : (Cond.selects "GlassLog$Map" ⟨"GlassLog$Map", "tree", "(IIII)V"⟩ ⟨"GlassLog$Map", "tree", "(IIII)V"⟩) ∈ lw_all := lw_g (lw_at lw_ms 6 rfl) rfl
theorem qs7 : (Cond.selects "GlassLog$Map" ⟨"GlassLog$Map", "parting", "(III)I"⟩ ⟨"GlassLog$Map", "parting", "(III)I"⟩) ∈ lw_all := lw_g (lw_at lw_ms 7 rfl) rfl
theorem qs8 : (Cond.selects "GlassLog" ⟨"GlassLog", "spans", "(ILGlassLog$Span;LGlassLog$Log;IIII)I"⟩ ⟨"GlassLog", "spans", "(ILGlassLog$Span;LGlassLog$Log;IIII)I"⟩) ∈ lw_all := lw_g (lw_at lw_ms 8 rfl) rfl
theorem qs9 : (Cond.selects "GlassLog" ⟨"GlassLog", "writes", "(LGlassLog$Log;III)I"⟩ ⟨"GlassLog", "writes", "(LGlassLog$Log;III)I"⟩) ∈ lw_all := lw_g (lw_at lw_ms 9 rfl) rfl
theorem qs10 : (Cond.selects "GlassLog" ⟨"GlassLog", "puts", "(ILGlassLog$Proof;IIII)I"⟩ ⟨"GlassLog", "puts", "(ILGlassLog$Proof;IIII)I"⟩) ∈ lw_all := lw_g (lw_at lw_ms 10 rfl) rfl
theorem qs11 : (Cond.selects "GlassLog" ⟨"GlassLog", "proofAt", "(I)LGlassLog$Proof;"⟩ ⟨"GlassLog", "proofAt", "(I)LGlassLog$Proof;"⟩) ∈ lw_all := lw_g (lw_at lw_ms 11 rfl) rfl
theorem qs12 : (Cond.selects "java/lang/NullPointerException" ⟨"java/lang/NullPointerException", "getExtendedNPEMessage", "()Ljava/lang/String;"⟩ ⟨"java/lang/NullPointerException", "getExtendedNPEMessage", "()Ljava/lang/String;"⟩) ∈ lw_all := lw_g (lw_at lw_ms 12 rfl) rfl
theorem qs13 : (Cond.selects "java/lang/Throwable" ⟨"java/lang/Throwable", "fillInStackTrace", "(I)Ljava/lang/Throwable;"⟩ ⟨"java/lang/Throwable", "fillInStackTrace", "(I)Ljava/lang/Throwable;"⟩) ∈ lw_all := lw_g (lw_at lw_ms 13 rfl) rfl
theorem qs14 : (Cond.selects "GlassLog" ⟨"GlassLog", "hasHead", "(I)Z"⟩ ⟨"GlassLog", "hasHead", "(I)Z"⟩) ∈ lw_all := lw_g (lw_at lw_ms 14 rfl) rfl
theorem qs15 : (Cond.selects "GlassLog" ⟨"GlassLog", "agree", "(LGlassLog$Head;LGlassLog$Head;)Z"⟩ ⟨"GlassLog", "agree", "(LGlassLog$Head;LGlassLog$Head;)Z"⟩) ∈ lw_all := lw_g (lw_at lw_ms 15 rfl) rfl
theorem qs16 : (Cond.selects "GlassLog" ⟨"GlassLog", "blames", "(LGlassLog$Head;LGlassLog$Head;)V"⟩ ⟨"GlassLog", "blames", "(LGlassLog$Head;LGlassLog$Head;)V"⟩) ∈ lw_all := lw_g (lw_at lw_ms 16 rfl) rfl
theorem qs17 : (Cond.selects "GlassLog" ⟨"GlassLog", "isMarked", "(LGlassLog$Head;)Z"⟩ ⟨"GlassLog", "isMarked", "(LGlassLog$Head;)Z"⟩) ∈ lw_all := lw_g (lw_at lw_ms 17 rfl) rfl
theorem qs18 : (Cond.selects "GlassLogModel" ⟨"GlassLogModel", "isLog", "(I)Z"⟩ ⟨"GlassLogModel", "isLog", "(I)Z"⟩) ∈ lw_all := lw_g (lw_at lw_ms 18 rfl) rfl
theorem qs19 : (Cond.selects "GlassLogModel" ⟨"GlassLogModel", "many", "(I)I"⟩ ⟨"GlassLogModel", "many", "(I)I"⟩) ∈ lw_all := lw_g (lw_at lw_ms 19 rfl) rfl
theorem qs20 : (Cond.selects "GlassLogModel" ⟨"GlassLogModel", "isCount", "(II)Z"⟩ ⟨"GlassLogModel", "isCount", "(II)Z"⟩) ∈ lw_all := lw_g (lw_at lw_ms 20 rfl) rfl
theorem qs21 : (Cond.selects "GlassLogModel" ⟨"GlassLogModel", "say", "(IIZ)Z"⟩ ⟨"GlassLogModel", "say", "(IIZ)Z"⟩) ∈ lw_all := lw_g (lw_at lw_ms 21 rfl) rfl
theorem qs22 : (Cond.selects "GlassLogModel" ⟨"GlassLogModel", "word", "(II)I"⟩ ⟨"GlassLogModel", "word", "(II)I"⟩) ∈ lw_all := lw_g (lw_at lw_ms 22 rfl) rfl
theorem qs23 : (Cond.selects "GlassLogModel" ⟨"GlassLogModel", "map", "(II)V"⟩ ⟨"GlassLogModel", "map", "(II)V"⟩) ∈ lw_all := lw_g (lw_at lw_ms 23 rfl) rfl
theorem qs24 : (Cond.selects "GlassLogModel" ⟨"GlassLogModel", "counts", "(III)Z"⟩ ⟨"GlassLogModel", "counts", "(III)Z"⟩) ∈ lw_all := lw_g (lw_at lw_ms 24 rfl) rfl
theorem qs25 : (Cond.selects "GlassLogModel" ⟨"GlassLogModel", "find", "(I)I"⟩ ⟨"GlassLogModel", "find", "(I)I"⟩) ∈ lw_all := lw_g (lw_at lw_ms 25 rfl) rfl
theorem qs26 : (Cond.selects "GlassLogModel" ⟨"GlassLogModel", "wayOf", "(I)V"⟩ ⟨"GlassLogModel", "wayOf", "(I)V"⟩) ∈ lw_all := lw_g (lw_at lw_ms 26 rfl) rfl
theorem qs27 : (Cond.selects "GlassLogModel" ⟨"GlassLogModel", "mix", "(I)V"⟩ ⟨"GlassLogModel", "mix", "(I)V"⟩) ∈ lw_all := lw_g (lw_at lw_ms 27 rfl) rfl
theorem qs28 : (Cond.selects "GlassLogModel" ⟨"GlassLogModel", "turn", "()V"⟩ ⟨"GlassLogModel", "turn", "()V"⟩) ∈ lw_all := lw_g (lw_at lw_ms 28 rfl) rfl
theorem qs29 : (Cond.selects "GlassLogModel" ⟨"GlassLogModel", "toRow", "([II)V"⟩ ⟨"GlassLogModel", "toRow", "([II)V"⟩) ∈ lw_all := lw_g (lw_at lw_ms 29 rfl) rfl
theorem qs30 : (Cond.selects "GlassLogModel" ⟨"GlassLogModel", "head", "(II[II)V"⟩ ⟨"GlassLogModel", "head", "(II[II)V"⟩) ∈ lw_all := lw_g (lw_at lw_ms 30 rfl) rfl
theorem qs31 : (Cond.selects "GlassLogModel" ⟨"GlassLogModel", "layLog", "(III)V"⟩ ⟨"GlassLogModel", "layLog", "(III)V"⟩) ∈ lw_all := lw_g (lw_at lw_ms 31 rfl) rfl
theorem qs32 : (Cond.selects "GlassLogModel" ⟨"GlassLogModel", "blockSum", "(IIII[II)V"⟩ ⟨"GlassLogModel", "blockSum", "(IIII[II)V"⟩) ∈ lw_all := lw_g (lw_at lw_ms 32 rfl) rfl
theorem qs33 : (Cond.selects "GlassLogModel" ⟨"GlassLogModel", "entrySum", "(IJ[II)V"⟩ ⟨"GlassLogModel", "entrySum", "(IJ[II)V"⟩) ∈ lw_all := lw_g (lw_at lw_ms 33 rfl) rfl
theorem qs34 : (Cond.selects "GlassLogModel" ⟨"GlassLogModel", "join", "([II[II[II)V"⟩ ⟨"GlassLogModel", "join", "([II[II[II)V"⟩) ∈ lw_all := lw_g (lw_at lw_ms 34 rfl) rfl
theorem qs35 : (Cond.selects "GlassLogModel" ⟨"GlassLogModel", "lay", "(II[II)V"⟩ ⟨"GlassLogModel", "lay", "(II[II)V"⟩) ∈ lw_all := lw_g (lw_at lw_ms 35 rfl) rfl
theorem qs36 : (Cond.selects "GlassLogModel" ⟨"GlassLogModel", "top", "([II)V"⟩ ⟨"GlassLogModel", "top", "([II)V"⟩) ∈ lw_all := lw_g (lw_at lw_ms 36 rfl) rfl
theorem qs37 : (Cond.selects "GlassLogModel" ⟨"GlassLogModel", "tree", "(III[II)V"⟩ ⟨"GlassLogModel", "tree", "(III[II)V"⟩) ∈ lw_all := lw_g (lw_at lw_ms 37 rfl) rfl
theorem qs38 : (Cond.selects "GlassLogModel" ⟨"GlassLogModel", "leaf", "(II)V"⟩ ⟨"GlassLogModel", "leaf", "(II)V"⟩) ∈ lw_all := lw_g (lw_at lw_ms 38 rfl) rfl
theorem qs39 : (Cond.selects "GlassLogModel" ⟨"GlassLogModel", "part", "(III)I"⟩ ⟨"GlassLogModel", "part", "(III)I"⟩) ∈ lw_all := lw_g (lw_at lw_ms 39 rfl) rfl
theorem qs40 : (Cond.selects "GlassLogModel" ⟨"GlassLogModel", "mark", "(II[III)V"⟩ ⟨"GlassLogModel", "mark", "(II[III)V"⟩) ∈ lw_all := lw_g (lw_at lw_ms 40 rfl) rfl
theorem qs41 : (Cond.selects "GlassLogModel" ⟨"GlassLogModel", "isSlot", "(I)Z"⟩ ⟨"GlassLogModel", "isSlot", "(I)Z"⟩) ∈ lw_all := lw_g (lw_at lw_ms 41 rfl) rfl
theorem qs42 : (Cond.selects "GlassLogModel" ⟨"GlassLogModel", "begin", "(IIIII)V"⟩ ⟨"GlassLogModel", "begin", "(IIIII)V"⟩) ∈ lw_all := lw_g (lw_at lw_ms 42 rfl) rfl
theorem qs43 : (Cond.selects "GlassLogModel" ⟨"GlassLogModel", "stepLog", "(IIII)V"⟩ ⟨"GlassLogModel", "stepLog", "(IIII)V"⟩) ∈ lw_all := lw_g (lw_at lw_ms 43 rfl) rfl
theorem qs44 : (Cond.selects "GlassLogModel" ⟨"GlassLogModel", "step", "(I[II)V"⟩ ⟨"GlassLogModel", "step", "(I[II)V"⟩) ∈ lw_all := lw_g (lw_at lw_ms 44 rfl) rfl
theorem qs45 : (Cond.selects "GlassLogModel" ⟨"GlassLogModel", "follow", "(II)V"⟩ ⟨"GlassLogModel", "follow", "(II)V"⟩) ∈ lw_all := lw_g (lw_at lw_ms 45 rfl) rfl
theorem qs46 : (Cond.selects "GlassLogModel" ⟨"GlassLogModel", "isStep", "(III)Z"⟩ ⟨"GlassLogModel", "isStep", "(III)Z"⟩) ∈ lw_all := lw_g (lw_at lw_ms 46 rfl) rfl
theorem qs47 : (Cond.selects "GlassLogModel" ⟨"GlassLogModel", "isReader", "(I)Z"⟩ ⟨"GlassLogModel", "isReader", "(I)Z"⟩) ∈ lw_all := lw_g (lw_at lw_ms 47 rfl) rfl
theorem qs48 : (Cond.selects "GlassLogModel" ⟨"GlassLogModel", "isGrownRight", "(I[II[II)Z"⟩ ⟨"GlassLogModel", "isGrownRight", "(I[II[II)Z"⟩) ∈ lw_all := lw_g (lw_at lw_ms 48 rfl) rfl
theorem qs49 : (Cond.selects "GlassLogModel" ⟨"GlassLogModel", "laySteps", "(III)V"⟩ ⟨"GlassLogModel", "laySteps", "(III)V"⟩) ∈ lw_all := lw_g (lw_at lw_ms 49 rfl) rfl
theorem qs50 : (Cond.selects "GlassLogModel" ⟨"GlassLogModel", "isSpanRight", "(I[II)Z"⟩ ⟨"GlassLogModel", "isSpanRight", "(I[II)Z"⟩) ∈ lw_all := lw_g (lw_at lw_ms 50 rfl) rfl
theorem qs51 : (Cond.selects "GlassLogModel" ⟨"GlassLogModel", "isWayRight", "(I[II)Z"⟩ ⟨"GlassLogModel", "isWayRight", "(I[II)Z"⟩) ∈ lw_all := lw_g (lw_at lw_ms 51 rfl) rfl
theorem qs52 : (Cond.selects "GlassLogModel" ⟨"GlassLogModel", "agree", "([II[II)Z"⟩ ⟨"GlassLogModel", "agree", "([II[II)Z"⟩) ∈ lw_all := lw_g (lw_at lw_ms 52 rfl) rfl
theorem qs53 : (Cond.selects "GlassLogModel" ⟨"GlassLogModel", "blame", "([II[II)V"⟩ ⟨"GlassLogModel", "blame", "([II[II)V"⟩) ∈ lw_all := lw_g (lw_at lw_ms 53 rfl) rfl
theorem qs54 : (Cond.selects "GlassLogModel" ⟨"GlassLogModel", "isMarked", "(I)Z"⟩ ⟨"GlassLogModel", "isMarked", "(I)Z"⟩) ∈ lw_all := lw_g (lw_at lw_ms 54 rfl) rfl
theorem qs55 : (Cond.selects "GlassLogModel" ⟨"GlassLogModel", "isWatcher", "(I)Z"⟩ ⟨"GlassLogModel", "isWatcher", "(I)Z"⟩) ∈ lw_all := lw_g (lw_at lw_ms 55 rfl) rfl
