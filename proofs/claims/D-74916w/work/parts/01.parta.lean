-- ===== PART A: goes FIRST, ahead of the names: the tables' words, and 'selects' of the private methods out of them =====
/-- a private method of a class that the tables say can be made, by its rows of tables_1 -/
def lw_okq (q : MethodName × Nat) : Prop := (q.1.cls ≠ "java/lang/invoke/MethodHandle" ∧ q.1.cls ≠ "java/lang/invoke/VarHandle") ∧ Cond.instantiable q.1.cls q.2 ∈ tables_1 ∧ Cond.privateMethod q.1 ∈ tables_1 ∧ Cond.instanceMethod q.1 ∈ tables_1
set_option maxRecDepth 100000
theorem lw_t1 {w : Cond} (h : w ∈ tables_1_1) : w ∈ tables_1 := List.mem_append_left _ h
theorem lw_t2 {w : Cond} (h : w ∈ tables_1_2) : w ∈ tables_1 := List.mem_append_right _ (List.mem_append_left _ h)
theorem lw_t3 {w : Cond} (h : w ∈ tables_1_3) : w ∈ tables_1 := List.mem_append_right _ (List.mem_append_right _ (List.mem_append_left _ h))
theorem lw_t4 {w : Cond} (h : w ∈ tables_1_4) : w ∈ tables_1 := List.mem_append_right _ (List.mem_append_right _ (List.mem_append_right _ (List.mem_append_left _ h)))
theorem lw_t5 {w : Cond} (h : w ∈ tables_1_5) : w ∈ tables_1 := List.mem_append_right _ (List.mem_append_right _ (List.mem_append_right _ (List.mem_append_right _ (List.mem_append_left _ h))))
theorem lw_t6 {w : Cond} (h : w ∈ tables_1_6) : w ∈ tables_1 := List.mem_append_right _ (List.mem_append_right _ (List.mem_append_right _ (List.mem_append_right _ (List.mem_append_right _ (List.mem_append_left _ h)))))
theorem lw_t7 {w : Cond} (h : w ∈ tables_1_7) : w ∈ tables_1 := List.mem_append_right _ (List.mem_append_right _ (List.mem_append_right _ (List.mem_append_right _ (List.mem_append_right _ (List.mem_append_right _ (List.mem_append_left _ h))))))
theorem lw_t8 {w : Cond} (h : w ∈ tables_1_8) : w ∈ tables_1 := List.mem_append_right _ (List.mem_append_right _ (List.mem_append_right _ (List.mem_append_right _ (List.mem_append_right _ (List.mem_append_right _ (List.mem_append_right _ (List.mem_append_left _ h)))))))
theorem lw_t9 {w : Cond} (h : w ∈ tables_1_9) : w ∈ tables_1 := List.mem_append_right _ (List.mem_append_right _ (List.mem_append_right _ (List.mem_append_right _ (List.mem_append_right _ (List.mem_append_right _ (List.mem_append_right _ (List.mem_append_right _ (List.mem_append_left _ h))))))))
theorem lw_t10 {w : Cond} (h : w ∈ tables_1_10) : w ∈ tables_1 := List.mem_append_right _ (List.mem_append_right _ (List.mem_append_right _ (List.mem_append_right _ (List.mem_append_right _ (List.mem_append_right _ (List.mem_append_right _ (List.mem_append_right _ (List.mem_append_right _ h))))))))
theorem lw_p0 : lw_okq (⟨"java/lang/Throwable", "fillInStackTrace", "(I)Ljava/lang/Throwable;"⟩, 6) := ⟨⟨by decide +kernel, by decide +kernel⟩, lw_t1 (List.mem_of_getElem? (i := 117) rfl), lw_t1 (List.mem_of_getElem? (i := 115) rfl), lw_t1 (List.mem_of_getElem? (i := 116) rfl)⟩
theorem lw_p1 : lw_okq (⟨"TrackArray$Track", "hear", "(LTrackArray$Microphone;LTrackArray$Source;Z)V"⟩, 13) := ⟨⟨by decide +kernel, by decide +kernel⟩, lw_t1 (List.mem_of_getElem? (i := 53) rfl), lw_t3 (List.mem_of_getElem? (i := 89) rfl), lw_t3 (List.mem_of_getElem? (i := 90) rfl)⟩
theorem lw_p2 : lw_okq (⟨"TrackArray$Track", "placeOf", "(LTrackArray$Source;)LTrackArray$Place;"⟩, 13) := ⟨⟨by decide +kernel, by decide +kernel⟩, lw_t1 (List.mem_of_getElem? (i := 53) rfl), lw_t3 (List.mem_of_getElem? (i := 93) rfl), lw_t3 (List.mem_of_getElem? (i := 94) rfl)⟩
theorem lw_p3 : lw_okq (⟨"TrackArray$Track", "draw", "(I)I"⟩, 13) := ⟨⟨by decide +kernel, by decide +kernel⟩, lw_t1 (List.mem_of_getElem? (i := 53) rfl), lw_t3 (List.mem_of_getElem? (i := 189) rfl), lw_t3 (List.mem_of_getElem? (i := 190) rfl)⟩
theorem lw_p4 : lw_okq (⟨"TrackArray$Parser", "advance", "()V"⟩, 8) := ⟨⟨by decide +kernel, by decide +kernel⟩, lw_t3 (List.mem_of_getElem? (i := 208) rfl), lw_t3 (List.mem_of_getElem? (i := 217) rfl), lw_t3 (List.mem_of_getElem? (i := 218) rfl)⟩
theorem lw_p5 : lw_okq (⟨"TrackArray$Parser", "byteAt", "(I)I"⟩, 8) := ⟨⟨by decide +kernel, by decide +kernel⟩, lw_t3 (List.mem_of_getElem? (i := 208) rfl), lw_t3 (List.mem_of_getElem? (i := 221) rfl), lw_t3 (List.mem_of_getElem? (i := 222) rfl)⟩
theorem lw_p6 : lw_okq (⟨"TrackArray$Parser", "statement", "()V"⟩, 8) := ⟨⟨by decide +kernel, by decide +kernel⟩, lw_t3 (List.mem_of_getElem? (i := 208) rfl), lw_t4 (List.mem_of_getElem? (i := 49) rfl), lw_t4 (List.mem_of_getElem? (i := 50) rfl)⟩
theorem lw_p7 : lw_okq (⟨"TrackArray$Parser", "requireRoom", "(Z)V"⟩, 8) := ⟨⟨by decide +kernel, by decide +kernel⟩, lw_t3 (List.mem_of_getElem? (i := 208) rfl), lw_t4 (List.mem_of_getElem? (i := 133) rfl), lw_t4 (List.mem_of_getElem? (i := 134) rfl)⟩
theorem lw_p8 : lw_okq (⟨"TrackArray$Parser", "mic", "()V"⟩, 8) := ⟨⟨by decide +kernel, by decide +kernel⟩, lw_t3 (List.mem_of_getElem? (i := 208) rfl), lw_t4 (List.mem_of_getElem? (i := 164) rfl), lw_t4 (List.mem_of_getElem? (i := 165) rfl)⟩
theorem lw_p9 : lw_okq (⟨"TrackArray$Parser", "integer", "(II)I"⟩, 8) := ⟨⟨by decide +kernel, by decide +kernel⟩, lw_t3 (List.mem_of_getElem? (i := 208) rfl), lw_t4 (List.mem_of_getElem? (i := 168) rfl), lw_t4 (List.mem_of_getElem? (i := 169) rfl)⟩
theorem lw_p10 : lw_okq (⟨"TrackArray$Parser", "signed", "(III)I"⟩, 8) := ⟨⟨by decide +kernel, by decide +kernel⟩, lw_t3 (List.mem_of_getElem? (i := 208) rfl), lw_t4 (List.mem_of_getElem? (i := 173) rfl), lw_t4 (List.mem_of_getElem? (i := 174) rfl)⟩
theorem lw_p11 : lw_okq (⟨"TrackArray$Parser", "number", "(II)I"⟩, 8) := ⟨⟨by decide +kernel, by decide +kernel⟩, lw_t3 (List.mem_of_getElem? (i := 208) rfl), lw_t4 (List.mem_of_getElem? (i := 209) rfl), lw_t4 (List.mem_of_getElem? (i := 210) rfl)⟩
theorem lw_p12 : lw_okq (⟨"java/util/ArrayList", "add", "(Ljava/lang/Object;[Ljava/lang/Object;I)V"⟩, 3) := ⟨⟨by decide +kernel, by decide +kernel⟩, lw_t1 (List.mem_of_getElem? (i := 59) rfl), lw_t5 (List.mem_of_getElem? (i := 8) rfl), lw_t5 (List.mem_of_getElem? (i := 9) rfl)⟩
theorem lw_p13 : lw_okq (⟨"java/util/ArrayList", "grow", "()[Ljava/lang/Object;"⟩, 3) := ⟨⟨by decide +kernel, by decide +kernel⟩, lw_t1 (List.mem_of_getElem? (i := 59) rfl), lw_t5 (List.mem_of_getElem? (i := 12) rfl), lw_t5 (List.mem_of_getElem? (i := 13) rfl)⟩
theorem lw_p14 : lw_okq (⟨"java/util/ArrayList", "grow", "(I)[Ljava/lang/Object;"⟩, 3) := ⟨⟨by decide +kernel, by decide +kernel⟩, lw_t1 (List.mem_of_getElem? (i := 59) rfl), lw_t5 (List.mem_of_getElem? (i := 16) rfl), lw_t5 (List.mem_of_getElem? (i := 17) rfl)⟩
theorem lw_p15 : lw_okq (⟨"TrackArray$Parser", "vehicle", "()V"⟩, 8) := ⟨⟨by decide +kernel, by decide +kernel⟩, lw_t3 (List.mem_of_getElem? (i := 208) rfl), lw_t5 (List.mem_of_getElem? (i := 64) rfl), lw_t5 (List.mem_of_getElem? (i := 65) rfl)⟩
def lw_privs_1 : List (MethodName × Nat) := [(⟨"java/lang/Throwable", "fillInStackTrace", "(I)Ljava/lang/Throwable;"⟩, 6), (⟨"TrackArray$Track", "hear", "(LTrackArray$Microphone;LTrackArray$Source;Z)V"⟩, 13), (⟨"TrackArray$Track", "placeOf", "(LTrackArray$Source;)LTrackArray$Place;"⟩, 13), (⟨"TrackArray$Track", "draw", "(I)I"⟩, 13), (⟨"TrackArray$Parser", "advance", "()V"⟩, 8), (⟨"TrackArray$Parser", "byteAt", "(I)I"⟩, 8), (⟨"TrackArray$Parser", "statement", "()V"⟩, 8), (⟨"TrackArray$Parser", "requireRoom", "(Z)V"⟩, 8), (⟨"TrackArray$Parser", "mic", "()V"⟩, 8), (⟨"TrackArray$Parser", "integer", "(II)I"⟩, 8), (⟨"TrackArray$Parser", "signed", "(III)I"⟩, 8), (⟨"TrackArray$Parser", "number", "(II)I"⟩, 8), (⟨"java/util/ArrayList", "add", "(Ljava/lang/Object;[Ljava/lang/Object;I)V"⟩, 3), (⟨"java/util/ArrayList", "grow", "()[Ljava/lang/Object;"⟩, 3), (⟨"java/util/ArrayList", "grow", "(I)[Ljava/lang/Object;"⟩, 3), (⟨"TrackArray$Parser", "vehicle", "()V"⟩, 8)]
theorem lw_r1 : ∀ q ∈ lw_privs_1, lw_okq q := List.forall_mem_cons.mpr ⟨lw_p0, List.forall_mem_cons.mpr ⟨lw_p1, List.forall_mem_cons.mpr ⟨lw_p2, List.forall_mem_cons.mpr ⟨lw_p3, List.forall_mem_cons.mpr ⟨lw_p4, List.forall_mem_cons.mpr ⟨lw_p5, List.forall_mem_cons.mpr ⟨lw_p6, List.forall_mem_cons.mpr ⟨lw_p7, List.forall_mem_cons.mpr ⟨lw_p8, List.forall_mem_cons.mpr ⟨lw_p9, List.forall_mem_cons.mpr ⟨lw_p10, List.forall_mem_cons.mpr ⟨lw_p11, List.forall_mem_cons.mpr ⟨lw_p12, List.forall_mem_cons.mpr ⟨lw_p13, List.forall_mem_cons.mpr ⟨lw_p14, List.forall_mem_cons.mpr ⟨lw_p15, fun _ h => absurd h List.not_mem_nil⟩⟩⟩⟩⟩⟩⟩⟩⟩⟩⟩⟩⟩⟩⟩⟩
theorem lw_p16 : lw_okq (⟨"TrackArray$Parser", "source", "()V"⟩, 8) := ⟨⟨by decide +kernel, by decide +kernel⟩, lw_t3 (List.mem_of_getElem? (i := 208) rfl), lw_t5 (List.mem_of_getElem? (i := 88) rfl), lw_t5 (List.mem_of_getElem? (i := 89) rfl)⟩
theorem lw_p17 : lw_okq (⟨"TrackArray", "failed", "(LTrackArray$SetupError;)I"⟩, 6) := ⟨⟨by decide +kernel, by decide +kernel⟩, lw_t1 (List.mem_of_getElem? (i := 45) rfl), lw_t5 (List.mem_of_getElem? (i := 145) rfl), lw_t5 (List.mem_of_getElem? (i := 146) rfl)⟩
theorem lw_p18 : lw_okq (⟨"TrackArray", "source", "(I)LTrackArray$Source;"⟩, 6) := ⟨⟨by decide +kernel, by decide +kernel⟩, lw_t1 (List.mem_of_getElem? (i := 45) rfl), lw_t6 (List.mem_of_getElem? (i := 66) rfl), lw_t6 (List.mem_of_getElem? (i := 67) rfl)⟩
theorem lw_p19 : lw_okq (⟨"TrackArray", "microphone", "(I)LTrackArray$Microphone;"⟩, 6) := ⟨⟨by decide +kernel, by decide +kernel⟩, lw_t1 (List.mem_of_getElem? (i := 45) rfl), lw_t6 (List.mem_of_getElem? (i := 94) rfl), lw_t6 (List.mem_of_getElem? (i := 95) rfl)⟩
theorem lw_p20 : lw_okq (⟨"TrackArray", "vehicle", "(I)LTrackArray$Vehicle;"⟩, 6) := ⟨⟨by decide +kernel, by decide +kernel⟩, lw_t1 (List.mem_of_getElem? (i := 45) rfl), lw_t6 (List.mem_of_getElem? (i := 143) rfl), lw_t6 (List.mem_of_getElem? (i := 144) rfl)⟩
theorem lw_p21 : lw_okq (⟨"TrackArray$Track", "reduction", "(LTrackArray$Microphone;LTrackArray$Place;II)I"⟩, 13) := ⟨⟨by decide +kernel, by decide +kernel⟩, lw_t1 (List.mem_of_getElem? (i := 53) rfl), lw_t7 (List.mem_of_getElem? (i := 124) rfl), lw_t7 (List.mem_of_getElem? (i := 125) rfl)⟩
theorem lw_p22 : lw_okq (⟨"TrackArray$Track", "lambda$beam$0", "(I)J"⟩, 13) := ⟨⟨by decide +kernel, by decide +kernel⟩, lw_t1 (List.mem_of_getElem? (i := 53) rfl), lw_t7 (List.mem_of_getElem? (i := 140) rfl), lw_t7 (List.mem_of_getElem? (i := 141) rfl)⟩
theorem lw_p23 : lw_okq (⟨"TrackArray", "lambda$scan$1", "(IIII)J"⟩, 6) := ⟨⟨by decide +kernel, by decide +kernel⟩, lw_t1 (List.mem_of_getElem? (i := 45) rfl), lw_t7 (List.mem_of_getElem? (i := 229) rfl), lw_t7 (List.mem_of_getElem? (i := 230) rfl)⟩
theorem lw_p24 : lw_okq (⟨"TrackArrayModel", "clear", "()V"⟩, 20) := ⟨⟨by decide +kernel, by decide +kernel⟩, lw_t8 (List.mem_of_getElem? (i := 93) rfl), lw_t8 (List.mem_of_getElem? (i := 99) rfl), lw_t8 (List.mem_of_getElem? (i := 100) rfl)⟩
theorem lw_p25 : lw_okq (⟨"TrackArrayModel", "replace", "(II)I"⟩, 20) := ⟨⟨by decide +kernel, by decide +kernel⟩, lw_t8 (List.mem_of_getElem? (i := 93) rfl), lw_t8 (List.mem_of_getElem? (i := 176) rfl), lw_t8 (List.mem_of_getElem? (i := 177) rfl)⟩
theorem lw_p26 : lw_okq (⟨"TrackArrayModel", "fail", "(I)I"⟩, 20) := ⟨⟨by decide +kernel, by decide +kernel⟩, lw_t8 (List.mem_of_getElem? (i := 93) rfl), lw_t8 (List.mem_of_getElem? (i := 180) rfl), lw_t8 (List.mem_of_getElem? (i := 181) rfl)⟩
theorem lw_p27 : lw_okq (⟨"TrackArrayModel", "appendVehicle", "(III)I"⟩, 20) := ⟨⟨by decide +kernel, by decide +kernel⟩, lw_t8 (List.mem_of_getElem? (i := 93) rfl), lw_t8 (List.mem_of_getElem? (i := 203) rfl), lw_t8 (List.mem_of_getElem? (i := 204) rfl)⟩
theorem lw_p28 : lw_okq (⟨"TrackArrayModel", "isVehicle", "(I)Z"⟩, 20) := ⟨⟨by decide +kernel, by decide +kernel⟩, lw_t8 (List.mem_of_getElem? (i := 93) rfl), lw_t8 (List.mem_of_getElem? (i := 211) rfl), lw_t8 (List.mem_of_getElem? (i := 212) rfl)⟩
theorem lw_p29 : lw_okq (⟨"TrackArrayModel", "appendSource", "(IIII)I"⟩, 20) := ⟨⟨by decide +kernel, by decide +kernel⟩, lw_t8 (List.mem_of_getElem? (i := 93) rfl), lw_t8 (List.mem_of_getElem? (i := 224) rfl), lw_t8 (List.mem_of_getElem? (i := 225) rfl)⟩
theorem lw_p30 : lw_okq (⟨"TrackArrayModel", "appendValue", "(II)I"⟩, 20) := ⟨⟨by decide +kernel, by decide +kernel⟩, lw_t8 (List.mem_of_getElem? (i := 93) rfl), lw_t8 (List.mem_of_getElem? (i := 228) rfl), lw_t8 (List.mem_of_getElem? (i := 229) rfl)⟩
theorem lw_p31 : lw_okq (⟨"TrackArrayModel", "isSource", "(I)Z"⟩, 20) := ⟨⟨by decide +kernel, by decide +kernel⟩, lw_t8 (List.mem_of_getElem? (i := 93) rfl), lw_t8 (List.mem_of_getElem? (i := 236) rfl), lw_t8 (List.mem_of_getElem? (i := 237) rfl)⟩
def lw_privs_2 : List (MethodName × Nat) := [(⟨"TrackArray$Parser", "source", "()V"⟩, 8), (⟨"TrackArray", "failed", "(LTrackArray$SetupError;)I"⟩, 6), (⟨"TrackArray", "source", "(I)LTrackArray$Source;"⟩, 6), (⟨"TrackArray", "microphone", "(I)LTrackArray$Microphone;"⟩, 6), (⟨"TrackArray", "vehicle", "(I)LTrackArray$Vehicle;"⟩, 6), (⟨"TrackArray$Track", "reduction", "(LTrackArray$Microphone;LTrackArray$Place;II)I"⟩, 13), (⟨"TrackArray$Track", "lambda$beam$0", "(I)J"⟩, 13), (⟨"TrackArray", "lambda$scan$1", "(IIII)J"⟩, 6), (⟨"TrackArrayModel", "clear", "()V"⟩, 20), (⟨"TrackArrayModel", "replace", "(II)I"⟩, 20), (⟨"TrackArrayModel", "fail", "(I)I"⟩, 20), (⟨"TrackArrayModel", "appendVehicle", "(III)I"⟩, 20), (⟨"TrackArrayModel", "isVehicle", "(I)Z"⟩, 20), (⟨"TrackArrayModel", "appendSource", "(IIII)I"⟩, 20), (⟨"TrackArrayModel", "appendValue", "(II)I"⟩, 20), (⟨"TrackArrayModel", "isSource", "(I)Z"⟩, 20)]
theorem lw_r2 : ∀ q ∈ lw_privs_2, lw_okq q := List.forall_mem_cons.mpr ⟨lw_p16, List.forall_mem_cons.mpr ⟨lw_p17, List.forall_mem_cons.mpr ⟨lw_p18, List.forall_mem_cons.mpr ⟨lw_p19, List.forall_mem_cons.mpr ⟨lw_p20, List.forall_mem_cons.mpr ⟨lw_p21, List.forall_mem_cons.mpr ⟨lw_p22, List.forall_mem_cons.mpr ⟨lw_p23, List.forall_mem_cons.mpr ⟨lw_p24, List.forall_mem_cons.mpr ⟨lw_p25, List.forall_mem_cons.mpr ⟨lw_p26, List.forall_mem_cons.mpr ⟨lw_p27, List.forall_mem_cons.mpr ⟨lw_p28, List.forall_mem_cons.mpr ⟨lw_p29, List.forall_mem_cons.mpr ⟨lw_p30, List.forall_mem_cons.mpr ⟨lw_p31, fun _ h => absurd h List.not_mem_nil⟩⟩⟩⟩⟩⟩⟩⟩⟩⟩⟩⟩⟩⟩⟩⟩
theorem lw_p32 : lw_okq (⟨"TrackArrayModel", "source", "(II)I"⟩, 20) := ⟨⟨by decide +kernel, by decide +kernel⟩, lw_t8 (List.mem_of_getElem? (i := 93) rfl), lw_t9 (List.mem_of_getElem? (i := 0) rfl), lw_t9 (List.mem_of_getElem? (i := 1) rfl)⟩
theorem lw_p33 : lw_okq (⟨"TrackArrayModel", "appendMicrophone", "(IIII)I"⟩, 20) := ⟨⟨by decide +kernel, by decide +kernel⟩, lw_t8 (List.mem_of_getElem? (i := 93) rfl), lw_t9 (List.mem_of_getElem? (i := 11) rfl), lw_t9 (List.mem_of_getElem? (i := 12) rfl)⟩
theorem lw_p34 : lw_okq (⟨"TrackArrayModel", "isMicrophone", "(I)Z"⟩, 20) := ⟨⟨by decide +kernel, by decide +kernel⟩, lw_t8 (List.mem_of_getElem? (i := 93) rfl), lw_t9 (List.mem_of_getElem? (i := 19) rfl), lw_t9 (List.mem_of_getElem? (i := 20) rfl)⟩
theorem lw_p35 : lw_okq (⟨"TrackArrayModel", "emittedBy", "(II)I"⟩, 20) := ⟨⟨by decide +kernel, by decide +kernel⟩, lw_t8 (List.mem_of_getElem? (i := 93) rfl), lw_t9 (List.mem_of_getElem? (i := 34) rfl), lw_t9 (List.mem_of_getElem? (i := 35) rfl)⟩
theorem lw_p36 : lw_okq (⟨"TrackArrayModel", "laySource", "(II)V"⟩, 20) := ⟨⟨by decide +kernel, by decide +kernel⟩, lw_t8 (List.mem_of_getElem? (i := 93) rfl), lw_t9 (List.mem_of_getElem? (i := 42) rfl), lw_t9 (List.mem_of_getElem? (i := 43) rfl)⟩
theorem lw_p37 : lw_okq (⟨"TrackArrayModel", "vehicle", "(II)I"⟩, 20) := ⟨⟨by decide +kernel, by decide +kernel⟩, lw_t8 (List.mem_of_getElem? (i := 93) rfl), lw_t9 (List.mem_of_getElem? (i := 46) rfl), lw_t9 (List.mem_of_getElem? (i := 47) rfl)⟩
theorem lw_p38 : lw_okq (⟨"TrackArrayModel", "layDistances", "(IIIII)V"⟩, 20) := ⟨⟨by decide +kernel, by decide +kernel⟩, lw_t8 (List.mem_of_getElem? (i := 93) rfl), lw_t9 (List.mem_of_getElem? (i := 50) rfl), lw_t9 (List.mem_of_getElem? (i := 51) rfl)⟩
theorem lw_p39 : lw_okq (⟨"TrackArrayModel", "placeX", "(III)I"⟩, 20) := ⟨⟨by decide +kernel, by decide +kernel⟩, lw_t8 (List.mem_of_getElem? (i := 93) rfl), lw_t9 (List.mem_of_getElem? (i := 54) rfl), lw_t9 (List.mem_of_getElem? (i := 55) rfl)⟩
theorem lw_p40 : lw_okq (⟨"TrackArrayModel", "distanceTo", "(IIII)I"⟩, 20) := ⟨⟨by decide +kernel, by decide +kernel⟩, lw_t8 (List.mem_of_getElem? (i := 93) rfl), lw_t9 (List.mem_of_getElem? (i := 58) rfl), lw_t9 (List.mem_of_getElem? (i := 59) rfl)⟩
theorem lw_p41 : lw_okq (⟨"TrackArrayModel", "microphone", "(II)I"⟩, 20) := ⟨⟨by decide +kernel, by decide +kernel⟩, lw_t8 (List.mem_of_getElem? (i := 93) rfl), lw_t9 (List.mem_of_getElem? (i := 62) rfl), lw_t9 (List.mem_of_getElem? (i := 63) rfl)⟩
theorem lw_p42 : lw_okq (⟨"TrackArrayModel", "latest", "(IZ)I"⟩, 20) := ⟨⟨by decide +kernel, by decide +kernel⟩, lw_t8 (List.mem_of_getElem? (i := 93) rfl), lw_t9 (List.mem_of_getElem? (i := 75) rfl), lw_t9 (List.mem_of_getElem? (i := 76) rfl)⟩
theorem lw_p43 : lw_okq (⟨"TrackArrayModel", "markOf", "(IZ)I"⟩, 20) := ⟨⟨by decide +kernel, by decide +kernel⟩, lw_t8 (List.mem_of_getElem? (i := 93) rfl), lw_t9 (List.mem_of_getElem? (i := 79) rfl), lw_t9 (List.mem_of_getElem? (i := 80) rfl)⟩
theorem lw_p44 : lw_okq (⟨"TrackArrayModel", "hear", "(IIZ)V"⟩, 20) := ⟨⟨by decide +kernel, by decide +kernel⟩, lw_t8 (List.mem_of_getElem? (i := 93) rfl), lw_t9 (List.mem_of_getElem? (i := 92) rfl), lw_t9 (List.mem_of_getElem? (i := 93) rfl)⟩
theorem lw_p45 : lw_okq (⟨"TrackArrayModel", "amountOf", "(IIZ)I"⟩, 20) := ⟨⟨by decide +kernel, by decide +kernel⟩, lw_t8 (List.mem_of_getElem? (i := 93) rfl), lw_t9 (List.mem_of_getElem? (i := 96) rfl), lw_t9 (List.mem_of_getElem? (i := 97) rfl)⟩
theorem lw_p46 : lw_okq (⟨"TrackArrayModel", "addNoise", "(I)V"⟩, 20) := ⟨⟨by decide +kernel, by decide +kernel⟩, lw_t8 (List.mem_of_getElem? (i := 93) rfl), lw_t9 (List.mem_of_getElem? (i := 100) rfl), lw_t9 (List.mem_of_getElem? (i := 101) rfl)⟩
theorem lw_p47 : lw_okq (⟨"TrackArrayModel", "draw", "(I)I"⟩, 20) := ⟨⟨by decide +kernel, by decide +kernel⟩, lw_t8 (List.mem_of_getElem? (i := 93) rfl), lw_t9 (List.mem_of_getElem? (i := 104) rfl), lw_t9 (List.mem_of_getElem? (i := 105) rfl)⟩
def lw_privs_3 : List (MethodName × Nat) := [(⟨"TrackArrayModel", "source", "(II)I"⟩, 20), (⟨"TrackArrayModel", "appendMicrophone", "(IIII)I"⟩, 20), (⟨"TrackArrayModel", "isMicrophone", "(I)Z"⟩, 20), (⟨"TrackArrayModel", "emittedBy", "(II)I"⟩, 20), (⟨"TrackArrayModel", "laySource", "(II)V"⟩, 20), (⟨"TrackArrayModel", "vehicle", "(II)I"⟩, 20), (⟨"TrackArrayModel", "layDistances", "(IIIII)V"⟩, 20), (⟨"TrackArrayModel", "placeX", "(III)I"⟩, 20), (⟨"TrackArrayModel", "distanceTo", "(IIII)I"⟩, 20), (⟨"TrackArrayModel", "microphone", "(II)I"⟩, 20), (⟨"TrackArrayModel", "latest", "(IZ)I"⟩, 20), (⟨"TrackArrayModel", "markOf", "(IZ)I"⟩, 20), (⟨"TrackArrayModel", "hear", "(IIZ)V"⟩, 20), (⟨"TrackArrayModel", "amountOf", "(IIZ)I"⟩, 20), (⟨"TrackArrayModel", "addNoise", "(I)V"⟩, 20), (⟨"TrackArrayModel", "draw", "(I)I"⟩, 20)]
theorem lw_r3 : ∀ q ∈ lw_privs_3, lw_okq q := List.forall_mem_cons.mpr ⟨lw_p32, List.forall_mem_cons.mpr ⟨lw_p33, List.forall_mem_cons.mpr ⟨lw_p34, List.forall_mem_cons.mpr ⟨lw_p35, List.forall_mem_cons.mpr ⟨lw_p36, List.forall_mem_cons.mpr ⟨lw_p37, List.forall_mem_cons.mpr ⟨lw_p38, List.forall_mem_cons.mpr ⟨lw_p39, List.forall_mem_cons.mpr ⟨lw_p40, List.forall_mem_cons.mpr ⟨lw_p41, List.forall_mem_cons.mpr ⟨lw_p42, List.forall_mem_cons.mpr ⟨lw_p43, List.forall_mem_cons.mpr ⟨lw_p44, List.forall_mem_cons.mpr ⟨lw_p45, List.forall_mem_cons.mpr ⟨lw_p46, List.forall_mem_cons.mpr ⟨lw_p47, fun _ h => absurd h List.not_mem_nil⟩⟩⟩⟩⟩⟩⟩⟩⟩⟩⟩⟩⟩⟩⟩⟩
theorem lw_p48 : lw_okq (⟨"TrackArrayModel", "recorded", "(II)I"⟩, 20) := ⟨⟨by decide +kernel, by decide +kernel⟩, lw_t8 (List.mem_of_getElem? (i := 93) rfl), lw_t9 (List.mem_of_getElem? (i := 116) rfl), lw_t9 (List.mem_of_getElem? (i := 117) rfl)⟩
theorem lw_p49 : lw_okq (⟨"TrackArrayModel", "layRecord", "(I)V"⟩, 20) := ⟨⟨by decide +kernel, by decide +kernel⟩, lw_t8 (List.mem_of_getElem? (i := 93) rfl), lw_t9 (List.mem_of_getElem? (i := 127) rfl), lw_t9 (List.mem_of_getElem? (i := 128) rfl)⟩
theorem lw_p50 : lw_okq (⟨"TrackArrayModel", "measureOf", "(III)J"⟩, 20) := ⟨⟨by decide +kernel, by decide +kernel⟩, lw_t8 (List.mem_of_getElem? (i := 93) rfl), lw_t9 (List.mem_of_getElem? (i := 131) rfl), lw_t9 (List.mem_of_getElem? (i := 132) rfl)⟩
theorem lw_p51 : lw_okq (⟨"TrackArrayModel", "energyOf", "(II)J"⟩, 20) := ⟨⟨by decide +kernel, by decide +kernel⟩, lw_t8 (List.mem_of_getElem? (i := 93) rfl), lw_t9 (List.mem_of_getElem? (i := 135) rfl), lw_t9 (List.mem_of_getElem? (i := 136) rfl)⟩
theorem lw_p52 : lw_okq (⟨"TrackArrayModel", "peakOf", "(II)I"⟩, 20) := ⟨⟨by decide +kernel, by decide +kernel⟩, lw_t8 (List.mem_of_getElem? (i := 93) rfl), lw_t9 (List.mem_of_getElem? (i := 139) rfl), lw_t9 (List.mem_of_getElem? (i := 140) rfl)⟩
theorem lw_p53 : lw_okq (⟨"TrackArrayModel", "sumOf", "(II)J"⟩, 20) := ⟨⟨by decide +kernel, by decide +kernel⟩, lw_t8 (List.mem_of_getElem? (i := 93) rfl), lw_t9 (List.mem_of_getElem? (i := 147) rfl), lw_t9 (List.mem_of_getElem? (i := 148) rfl)⟩
theorem lw_p54 : lw_okq (⟨"TrackArrayModel", "crossingsOf", "(II)I"⟩, 20) := ⟨⟨by decide +kernel, by decide +kernel⟩, lw_t8 (List.mem_of_getElem? (i := 93) rfl), lw_t9 (List.mem_of_getElem? (i := 151) rfl), lw_t9 (List.mem_of_getElem? (i := 152) rfl)⟩
theorem lw_p55 : lw_okq (⟨"TrackArrayModel", "correlationOf", "(III)J"⟩, 20) := ⟨⟨by decide +kernel, by decide +kernel⟩, lw_t8 (List.mem_of_getElem? (i := 93) rfl), lw_t9 (List.mem_of_getElem? (i := 171) rfl), lw_t9 (List.mem_of_getElem? (i := 172) rfl)⟩
theorem lw_p56 : lw_okq (⟨"TrackArrayModel", "setFocus", "(IIIII)V"⟩, 20) := ⟨⟨by decide +kernel, by decide +kernel⟩, lw_t8 (List.mem_of_getElem? (i := 93) rfl), lw_t9 (List.mem_of_getElem? (i := 183) rfl), lw_t9 (List.mem_of_getElem? (i := 184) rfl)⟩
theorem lw_p57 : lw_okq (⟨"TrackArrayModel", "shiftOf", "(II)I"⟩, 20) := ⟨⟨by decide +kernel, by decide +kernel⟩, lw_t8 (List.mem_of_getElem? (i := 93) rfl), lw_t9 (List.mem_of_getElem? (i := 203) rfl), lw_t9 (List.mem_of_getElem? (i := 204) rfl)⟩
theorem lw_p58 : lw_okq (⟨"TrackArrayModel", "layFocus", "(II)V"⟩, 20) := ⟨⟨by decide +kernel, by decide +kernel⟩, lw_t8 (List.mem_of_getElem? (i := 93) rfl), lw_t9 (List.mem_of_getElem? (i := 208) rfl), lw_t9 (List.mem_of_getElem? (i := 209) rfl)⟩
theorem lw_p59 : lw_okq (⟨"TrackArrayModel", "firstSample", "(I)I"⟩, 20) := ⟨⟨by decide +kernel, by decide +kernel⟩, lw_t8 (List.mem_of_getElem? (i := 93) rfl), lw_t9 (List.mem_of_getElem? (i := 212) rfl), lw_t9 (List.mem_of_getElem? (i := 213) rfl)⟩
theorem lw_p60 : lw_okq (⟨"TrackArrayModel", "layParts", "(II)V"⟩, 20) := ⟨⟨by decide +kernel, by decide +kernel⟩, lw_t8 (List.mem_of_getElem? (i := 93) rfl), lw_t9 (List.mem_of_getElem? (i := 220) rfl), lw_t9 (List.mem_of_getElem? (i := 221) rfl)⟩
theorem lw_p61 : lw_okq (⟨"TrackArrayModel", "layDirectedParts", "(II)V"⟩, 20) := ⟨⟨by decide +kernel, by decide +kernel⟩, lw_t8 (List.mem_of_getElem? (i := 93) rfl), lw_t9 (List.mem_of_getElem? (i := 224) rfl), lw_t9 (List.mem_of_getElem? (i := 225) rfl)⟩
theorem lw_p62 : lw_okq (⟨"TrackArrayModel", "reflectedPart", "(II)I"⟩, 20) := ⟨⟨by decide +kernel, by decide +kernel⟩, lw_t8 (List.mem_of_getElem? (i := 93) rfl), lw_t9 (List.mem_of_getElem? (i := 228) rfl), lw_t9 (List.mem_of_getElem? (i := 229) rfl)⟩
theorem lw_p63 : lw_okq (⟨"TrackArrayModel", "layBeam", "(I)V"⟩, 20) := ⟨⟨by decide +kernel, by decide +kernel⟩, lw_t8 (List.mem_of_getElem? (i := 93) rfl), lw_t9 (List.mem_of_getElem? (i := 238) rfl), lw_t9 (List.mem_of_getElem? (i := 239) rfl)⟩
def lw_privs_4 : List (MethodName × Nat) := [(⟨"TrackArrayModel", "recorded", "(II)I"⟩, 20), (⟨"TrackArrayModel", "layRecord", "(I)V"⟩, 20), (⟨"TrackArrayModel", "measureOf", "(III)J"⟩, 20), (⟨"TrackArrayModel", "energyOf", "(II)J"⟩, 20), (⟨"TrackArrayModel", "peakOf", "(II)I"⟩, 20), (⟨"TrackArrayModel", "sumOf", "(II)J"⟩, 20), (⟨"TrackArrayModel", "crossingsOf", "(II)I"⟩, 20), (⟨"TrackArrayModel", "correlationOf", "(III)J"⟩, 20), (⟨"TrackArrayModel", "setFocus", "(IIIII)V"⟩, 20), (⟨"TrackArrayModel", "shiftOf", "(II)I"⟩, 20), (⟨"TrackArrayModel", "layFocus", "(II)V"⟩, 20), (⟨"TrackArrayModel", "firstSample", "(I)I"⟩, 20), (⟨"TrackArrayModel", "layParts", "(II)V"⟩, 20), (⟨"TrackArrayModel", "layDirectedParts", "(II)V"⟩, 20), (⟨"TrackArrayModel", "reflectedPart", "(II)I"⟩, 20), (⟨"TrackArrayModel", "layBeam", "(I)V"⟩, 20)]
theorem lw_r4 : ∀ q ∈ lw_privs_4, lw_okq q := List.forall_mem_cons.mpr ⟨lw_p48, List.forall_mem_cons.mpr ⟨lw_p49, List.forall_mem_cons.mpr ⟨lw_p50, List.forall_mem_cons.mpr ⟨lw_p51, List.forall_mem_cons.mpr ⟨lw_p52, List.forall_mem_cons.mpr ⟨lw_p53, List.forall_mem_cons.mpr ⟨lw_p54, List.forall_mem_cons.mpr ⟨lw_p55, List.forall_mem_cons.mpr ⟨lw_p56, List.forall_mem_cons.mpr ⟨lw_p57, List.forall_mem_cons.mpr ⟨lw_p58, List.forall_mem_cons.mpr ⟨lw_p59, List.forall_mem_cons.mpr ⟨lw_p60, List.forall_mem_cons.mpr ⟨lw_p61, List.forall_mem_cons.mpr ⟨lw_p62, List.forall_mem_cons.mpr ⟨lw_p63, fun _ h => absurd h List.not_mem_nil⟩⟩⟩⟩⟩⟩⟩⟩⟩⟩⟩⟩⟩⟩⟩⟩
theorem lw_p64 : lw_okq (⟨"TrackArrayModel", "clearSignal", "()V"⟩, 20) := ⟨⟨by decide +kernel, by decide +kernel⟩, lw_t8 (List.mem_of_getElem? (i := 93) rfl), lw_t10 (List.mem_of_getElem? (i := 2) rfl), lw_t10 (List.mem_of_getElem? (i := 3) rfl)⟩
theorem lw_p65 : lw_okq (⟨"TrackArrayModel", "addParts", "(I)V"⟩, 20) := ⟨⟨by decide +kernel, by decide +kernel⟩, lw_t8 (List.mem_of_getElem? (i := 93) rfl), lw_t10 (List.mem_of_getElem? (i := 6) rfl), lw_t10 (List.mem_of_getElem? (i := 7) rfl)⟩
theorem lw_p66 : lw_okq (⟨"TrackArrayModel", "powerOf", "(III)J"⟩, 20) := ⟨⟨by decide +kernel, by decide +kernel⟩, lw_t8 (List.mem_of_getElem? (i := 93) rfl), lw_t10 (List.mem_of_getElem? (i := 21) rfl), lw_t10 (List.mem_of_getElem? (i := 22) rfl)⟩
theorem lw_p67 : lw_okq (⟨"TrackArrayModel", "strengthOf", "(III)J"⟩, 20) := ⟨⟨by decide +kernel, by decide +kernel⟩, lw_t8 (List.mem_of_getElem? (i := 93) rfl), lw_t10 (List.mem_of_getElem? (i := 29) rfl), lw_t10 (List.mem_of_getElem? (i := 30) rfl)⟩
theorem lw_p68 : lw_okq (⟨"TrackArrayModel", "energyWith", "(III)J"⟩, 20) := ⟨⟨by decide +kernel, by decide +kernel⟩, lw_t8 (List.mem_of_getElem? (i := 93) rfl), lw_t10 (List.mem_of_getElem? (i := 37) rfl), lw_t10 (List.mem_of_getElem? (i := 38) rfl)⟩
theorem lw_p69 : lw_okq (⟨"TrackArrayModel", "layDirectedBeam", "(I)V"⟩, 20) := ⟨⟨by decide +kernel, by decide +kernel⟩, lw_t8 (List.mem_of_getElem? (i := 93) rfl), lw_t10 (List.mem_of_getElem? (i := 49) rfl), lw_t10 (List.mem_of_getElem? (i := 50) rfl)⟩
theorem lw_p70 : lw_okq (⟨"TrackArrayModel", "meanOf", "(II)D"⟩, 20) := ⟨⟨by decide +kernel, by decide +kernel⟩, lw_t8 (List.mem_of_getElem? (i := 93) rfl), lw_t10 (List.mem_of_getElem? (i := 61) rfl), lw_t10 (List.mem_of_getElem? (i := 62) rfl)⟩
theorem lw_p71 : lw_okq (⟨"TrackArrayModel", "nextToken", "()V"⟩, 20) := ⟨⟨by decide +kernel, by decide +kernel⟩, lw_t8 (List.mem_of_getElem? (i := 93) rfl), lw_t10 (List.mem_of_getElem? (i := 84) rfl), lw_t10 (List.mem_of_getElem? (i := 85) rfl)⟩
theorem lw_p72 : lw_okq (⟨"TrackArrayModel", "byteAt", "(I)I"⟩, 20) := ⟨⟨by decide +kernel, by decide +kernel⟩, lw_t8 (List.mem_of_getElem? (i := 93) rfl), lw_t10 (List.mem_of_getElem? (i := 88) rfl), lw_t10 (List.mem_of_getElem? (i := 89) rfl)⟩
theorem lw_p73 : lw_okq (⟨"TrackArrayModel", "parseStatement", "()V"⟩, 20) := ⟨⟨by decide +kernel, by decide +kernel⟩, lw_t8 (List.mem_of_getElem? (i := 93) rfl), lw_t10 (List.mem_of_getElem? (i := 100) rfl), lw_t10 (List.mem_of_getElem? (i := 101) rfl)⟩
theorem lw_p74 : lw_okq (⟨"TrackArrayModel", "isWord", "(Ljava/lang/String;)Z"⟩, 20) := ⟨⟨by decide +kernel, by decide +kernel⟩, lw_t8 (List.mem_of_getElem? (i := 93) rfl), lw_t10 (List.mem_of_getElem? (i := 105) rfl), lw_t10 (List.mem_of_getElem? (i := 106) rfl)⟩
theorem lw_p75 : lw_okq (⟨"TrackArrayModel", "parseMicrophone", "()V"⟩, 20) := ⟨⟨by decide +kernel, by decide +kernel⟩, lw_t8 (List.mem_of_getElem? (i := 93) rfl), lw_t10 (List.mem_of_getElem? (i := 121) rfl), lw_t10 (List.mem_of_getElem? (i := 122) rfl)⟩
theorem lw_p76 : lw_okq (⟨"TrackArrayModel", "require", "(ZI)V"⟩, 20) := ⟨⟨by decide +kernel, by decide +kernel⟩, lw_t8 (List.mem_of_getElem? (i := 93) rfl), lw_t10 (List.mem_of_getElem? (i := 125) rfl), lw_t10 (List.mem_of_getElem? (i := 126) rfl)⟩
theorem lw_p77 : lw_okq (⟨"TrackArrayModel", "advance", "()V"⟩, 20) := ⟨⟨by decide +kernel, by decide +kernel⟩, lw_t8 (List.mem_of_getElem? (i := 93) rfl), lw_t10 (List.mem_of_getElem? (i := 129) rfl), lw_t10 (List.mem_of_getElem? (i := 130) rfl)⟩
theorem lw_p78 : lw_okq (⟨"TrackArrayModel", "parseInteger", "(II)I"⟩, 20) := ⟨⟨by decide +kernel, by decide +kernel⟩, lw_t8 (List.mem_of_getElem? (i := 93) rfl), lw_t10 (List.mem_of_getElem? (i := 133) rfl), lw_t10 (List.mem_of_getElem? (i := 134) rfl)⟩
theorem lw_p79 : lw_okq (⟨"TrackArrayModel", "parseNumber", "(II)I"⟩, 20) := ⟨⟨by decide +kernel, by decide +kernel⟩, lw_t8 (List.mem_of_getElem? (i := 93) rfl), lw_t10 (List.mem_of_getElem? (i := 137) rfl), lw_t10 (List.mem_of_getElem? (i := 138) rfl)⟩
def lw_privs_5 : List (MethodName × Nat) := [(⟨"TrackArrayModel", "clearSignal", "()V"⟩, 20), (⟨"TrackArrayModel", "addParts", "(I)V"⟩, 20), (⟨"TrackArrayModel", "powerOf", "(III)J"⟩, 20), (⟨"TrackArrayModel", "strengthOf", "(III)J"⟩, 20), (⟨"TrackArrayModel", "energyWith", "(III)J"⟩, 20), (⟨"TrackArrayModel", "layDirectedBeam", "(I)V"⟩, 20), (⟨"TrackArrayModel", "meanOf", "(II)D"⟩, 20), (⟨"TrackArrayModel", "nextToken", "()V"⟩, 20), (⟨"TrackArrayModel", "byteAt", "(I)I"⟩, 20), (⟨"TrackArrayModel", "parseStatement", "()V"⟩, 20), (⟨"TrackArrayModel", "isWord", "(Ljava/lang/String;)Z"⟩, 20), (⟨"TrackArrayModel", "parseMicrophone", "()V"⟩, 20), (⟨"TrackArrayModel", "require", "(ZI)V"⟩, 20), (⟨"TrackArrayModel", "advance", "()V"⟩, 20), (⟨"TrackArrayModel", "parseInteger", "(II)I"⟩, 20), (⟨"TrackArrayModel", "parseNumber", "(II)I"⟩, 20)]
theorem lw_r5 : ∀ q ∈ lw_privs_5, lw_okq q := List.forall_mem_cons.mpr ⟨lw_p64, List.forall_mem_cons.mpr ⟨lw_p65, List.forall_mem_cons.mpr ⟨lw_p66, List.forall_mem_cons.mpr ⟨lw_p67, List.forall_mem_cons.mpr ⟨lw_p68, List.forall_mem_cons.mpr ⟨lw_p69, List.forall_mem_cons.mpr ⟨lw_p70, List.forall_mem_cons.mpr ⟨lw_p71, List.forall_mem_cons.mpr ⟨lw_p72, List.forall_mem_cons.mpr ⟨lw_p73, List.forall_mem_cons.mpr ⟨lw_p74, List.forall_mem_cons.mpr ⟨lw_p75, List.forall_mem_cons.mpr ⟨lw_p76, List.forall_mem_cons.mpr ⟨lw_p77, List.forall_mem_cons.mpr ⟨lw_p78, List.forall_mem_cons.mpr ⟨lw_p79, fun _ h => absurd h List.not_mem_nil⟩⟩⟩⟩⟩⟩⟩⟩⟩⟩⟩⟩⟩⟩⟩⟩
theorem lw_p80 : lw_okq (⟨"TrackArrayModel", "parseVehicle", "()V"⟩, 20) := ⟨⟨by decide +kernel, by decide +kernel⟩, lw_t8 (List.mem_of_getElem? (i := 93) rfl), lw_t10 (List.mem_of_getElem? (i := 142) rfl), lw_t10 (List.mem_of_getElem? (i := 143) rfl)⟩
theorem lw_p81 : lw_okq (⟨"TrackArrayModel", "parseSource", "()V"⟩, 20) := ⟨⟨by decide +kernel, by decide +kernel⟩, lw_t8 (List.mem_of_getElem? (i := 93) rfl), lw_t10 (List.mem_of_getElem? (i := 147) rfl), lw_t10 (List.mem_of_getElem? (i := 148) rfl)⟩
def lw_privs_6 : List (MethodName × Nat) := [(⟨"TrackArrayModel", "parseVehicle", "()V"⟩, 20), (⟨"TrackArrayModel", "parseSource", "()V"⟩, 20)]
theorem lw_r6 : ∀ q ∈ lw_privs_6, lw_okq q := List.forall_mem_cons.mpr ⟨lw_p80, List.forall_mem_cons.mpr ⟨lw_p81, fun _ h => absurd h List.not_mem_nil⟩⟩
def lw_privs : List (MethodName × Nat) := lw_privs_1 ++ (lw_privs_2 ++ (lw_privs_3 ++ (lw_privs_4 ++ (lw_privs_5 ++ (lw_privs_6)))))
def lw_tbl : List Cond := k2_sels lw_privs ++ tables_1
theorem lw_privs_ok : ∀ q ∈ lw_privs, lw_okq q := by
  show ∀ q ∈ lw_privs_1 ++ (lw_privs_2 ++ (lw_privs_3 ++ (lw_privs_4 ++ (lw_privs_5 ++ (lw_privs_6))))), lw_okq q
  exact List.forall_mem_append.mpr ⟨lw_r1, List.forall_mem_append.mpr ⟨lw_r2, List.forall_mem_append.mpr ⟨lw_r3, List.forall_mem_append.mpr ⟨lw_r4, List.forall_mem_append.mpr ⟨lw_r5, lw_r6⟩⟩⟩⟩⟩
-- ===== ONE list of words for every method: the tables' words that hold all through a run =====
def lw_all : List Cond := lw_tbl.filter goodWord
/-- a word of the tables by its place: claim/WORDS.tsv -/
theorem lw_w {w : Cond} (i : Nat) (h : lw_tbl[i]? = some w) (g : goodWord w = true) : w ∈ lw_all := List.mem_filter.mpr ⟨List.mem_of_getElem? h, g⟩
theorem lw_all_tbl {w : Cond} (h : w ∈ lw_all) : w ∈ lw_tbl := (List.mem_filter.mp h).1
theorem lw_self : GoodIn lw_all lw_all := fun w h => ⟨h, good_of_word (List.mem_filter.mp h).2⟩
/-- a class's field words, by their places -/
theorem lw_in (ws : List Cond) (ps : List Nat) (hp : ws = ps.filterMap (fun i => lw_tbl[i]?)) (hg : ws.all goodWord = true) : ∀ w ∈ ws, w ∈ lw_all := by
  intro w h
  have h1 := List.all_eq_true.mp hg w h
  rw [hp] at h
  obtain ⟨i, -, hi⟩ := List.mem_filterMap.mp h
  exact lw_w i hi h1
/-- the words of a contract for the method y with code b, L locals, answer r -/
abbrev ws_ (y : MethodName) (b : ByteArray) (L : Nat) (r : Option FieldType) : List Cond := Cond.code y b L r :: lw_all
theorem lw_meth {y : MethodName} {b : ByteArray} {L : Nat} {r : Option FieldType} (h : Cond.code y b L r ∈ lw_all) : GoodIn lw_all (ws_ y b L r) := by
  intro w hw
  rcases List.mem_cons.mp hw with e | e
  · rw [e]
    exact lw_self _ h
  · exact lw_self _ e
theorem lw_app {a c : List Cond} (ha : ∀ w ∈ a, w ∈ lw_all) (hc : GoodIn lw_all c) : GoodIn lw_all (a ++ c) := by
  intro w hw
  rcases List.mem_append.mp hw with e | e
  · exact lw_self w (ha w e)
  · exact hc w e
/-- what a call through an object asks: cwV n hts (lw_V ..) -/
theorem lw_V {own : String} {idx : Nat} {C : String} {y : MethodName} {b : ByteArray} {L : Nat} {r : Option FieldType} (h1 : Cond.methodLink own idx y ∈ lw_all) (h2 : Cond.instanceMethod y ∈ lw_all) (h3 : Cond.selects C y y ∈ lw_all) (h4 : Cond.initialized C ∈ lw_all) (h5 : Cond.code y b L r ∈ lw_all) : GoodIn lw_all (wsV own idx C y (ws_ y b L r)) := by
  refine lw_app ?_ (lw_meth h5)
  intro w hw
  simp only [List.mem_cons, List.not_mem_nil, or_false] at hw
  rcases hw with e | e | e | e
  · rw [e]; exact h1
  · rw [e]; exact h2
  · rw [e]; exact h3
  · rw [e]; exact h4
/-- what a static call asks: va_cwS n hts (lw_S ..) -/
theorem lw_S {own : String} {idx : Nat} {y : MethodName} {b : ByteArray} {L : Nat} {r : Option FieldType} (h1 : Cond.methodLink own idx y ∈ lw_all) (h2 : Cond.static y ∈ lw_all) (h3 : Cond.initialized y.cls ∈ lw_all) (h4 : Cond.code y b L r ∈ lw_all) : GoodIn lw_all (va_wsS own idx y (ws_ y b L r)) := by
  refine lw_app ?_ (lw_meth h4)
  intro w hw
  simp only [List.mem_cons, List.not_mem_nil, or_false] at hw
  rcases hw with e | e | e
  · rw [e]; exact h1
  · rw [e]; exact h2
  · rw [e]; exact h3
/-- the words of a contract for a method WITH HANDLERS (hh: its table) -/
abbrev wsW_ (y : MethodName) (b : ByteArray) (L : Nat) (r : Option FieldType) (hh : List (Nat × Nat × Nat × Nat)) : List Cond := Cond.codeWith y b L r hh :: lw_all
theorem lw_methW {y : MethodName} {b : ByteArray} {L : Nat} {r : Option FieldType} {hh : List (Nat × Nat × Nat × Nat)} (h : Cond.codeWith y b L r hh ∈ lw_all) : GoodIn lw_all (wsW_ y b L r hh) := by
  intro w hw
  rcases List.mem_cons.mp hw with e | e
  · rw [e]
    exact lw_self _ h
  · exact lw_self _ e
/-- any list of words by their places (lw_in), good -/
theorem lw_good {ws : List Cond} (h : ∀ w ∈ ws, w ∈ lw_all) : GoodIn lw_all ws := fun w hw => lw_self w (h w hw)
/-- what a call of a method with handlers asks: vx_cwVW n hts (lw_VW ..), vx_cwSW n hts (lw_SW ..) -/
theorem lw_VW {own : String} {idx : Nat} {C : String} {y : MethodName} {b : ByteArray} {L : Nat} {r : Option FieldType} {hh : List (Nat × Nat × Nat × Nat)} (h1 : Cond.methodLink own idx y ∈ lw_all) (h2 : Cond.instanceMethod y ∈ lw_all) (h3 : Cond.selects C y y ∈ lw_all) (h4 : Cond.initialized C ∈ lw_all) (h5 : Cond.codeWith y b L r hh ∈ lw_all) : GoodIn lw_all (wsV own idx C y (wsW_ y b L r hh)) := by
  refine lw_app ?_ (lw_methW h5)
  intro w hw
  simp only [List.mem_cons, List.not_mem_nil, or_false] at hw
  rcases hw with e | e | e | e
  · rw [e]; exact h1
  · rw [e]; exact h2
  · rw [e]; exact h3
  · rw [e]; exact h4
theorem lw_SW {own : String} {idx : Nat} {y : MethodName} {b : ByteArray} {L : Nat} {r : Option FieldType} {hh : List (Nat × Nat × Nat × Nat)} (h1 : Cond.methodLink own idx y ∈ lw_all) (h2 : Cond.static y ∈ lw_all) (h3 : Cond.initialized y.cls ∈ lw_all) (h4 : Cond.codeWith y b L r hh ∈ lw_all) : GoodIn lw_all (va_wsS own idx y (wsW_ y b L r hh)) := by
  refine lw_app ?_ (lw_methW h4)
  intro w hw
  simp only [List.mem_cons, List.not_mem_nil, or_false] at hw
  rcases hw with e | e | e
  · rw [e]; exact h1
  · rw [e]; exact h2
  · rw [e]; exact h3
/-- a word by its place in its run of the tables -/
theorem lw_at {r : List Cond} (hr : ∀ w ∈ r, w ∈ lw_tbl) {w : Cond} (i : Nat) (h : r[i]? = some w) : w ∈ lw_tbl := hr w (List.mem_of_getElem? h)
theorem lw_g {w : Cond} (h : w ∈ lw_tbl) (g : goodWord w = true) : w ∈ lw_all := List.mem_filter.mpr ⟨h, g⟩
theorem lw_ms : ∀ w ∈ k2_sels lw_privs, w ∈ lw_tbl := fun w h => show w ∈ k2_sels lw_privs ++ tables_1 from List.mem_append_left _ h
theorem lw_m1 : ∀ w ∈ tables_1_1, w ∈ lw_tbl := fun w h => show w ∈ k2_sels lw_privs ++ tables_1 from List.mem_append_right (k2_sels lw_privs) (show w ∈ tables_1 from List.mem_append_left _ h)
theorem lw_m2 : ∀ w ∈ tables_1_2, w ∈ lw_tbl := fun w h => show w ∈ k2_sels lw_privs ++ tables_1 from List.mem_append_right (k2_sels lw_privs) (show w ∈ tables_1 from List.mem_append_right _ (List.mem_append_left _ h))
theorem lw_m3 : ∀ w ∈ tables_1_3, w ∈ lw_tbl := fun w h => show w ∈ k2_sels lw_privs ++ tables_1 from List.mem_append_right (k2_sels lw_privs) (show w ∈ tables_1 from List.mem_append_right _ (List.mem_append_right _ (List.mem_append_left _ h)))
theorem lw_m4 : ∀ w ∈ tables_1_4, w ∈ lw_tbl := fun w h => show w ∈ k2_sels lw_privs ++ tables_1 from List.mem_append_right (k2_sels lw_privs) (show w ∈ tables_1 from List.mem_append_right _ (List.mem_append_right _ (List.mem_append_right _ (List.mem_append_left _ h))))
theorem lw_m5 : ∀ w ∈ tables_1_5, w ∈ lw_tbl := fun w h => show w ∈ k2_sels lw_privs ++ tables_1 from List.mem_append_right (k2_sels lw_privs) (show w ∈ tables_1 from List.mem_append_right _ (List.mem_append_right _ (List.mem_append_right _ (List.mem_append_right _ (List.mem_append_left _ h)))))
theorem lw_m6 : ∀ w ∈ tables_1_6, w ∈ lw_tbl := fun w h => show w ∈ k2_sels lw_privs ++ tables_1 from List.mem_append_right (k2_sels lw_privs) (show w ∈ tables_1 from List.mem_append_right _ (List.mem_append_right _ (List.mem_append_right _ (List.mem_append_right _ (List.mem_append_right _ (List.mem_append_left _ h))))))
theorem lw_m7 : ∀ w ∈ tables_1_7, w ∈ lw_tbl := fun w h => show w ∈ k2_sels lw_privs ++ tables_1 from List.mem_append_right (k2_sels lw_privs) (show w ∈ tables_1 from List.mem_append_right _ (List.mem_append_right _ (List.mem_append_right _ (List.mem_append_right _ (List.mem_append_right _ (List.mem_append_right _ (List.mem_append_left _ h)))))))
theorem lw_m8 : ∀ w ∈ tables_1_8, w ∈ lw_tbl := fun w h => show w ∈ k2_sels lw_privs ++ tables_1 from List.mem_append_right (k2_sels lw_privs) (show w ∈ tables_1 from List.mem_append_right _ (List.mem_append_right _ (List.mem_append_right _ (List.mem_append_right _ (List.mem_append_right _ (List.mem_append_right _ (List.mem_append_right _ (List.mem_append_left _ h))))))))
theorem lw_m9 : ∀ w ∈ tables_1_9, w ∈ lw_tbl := fun w h => show w ∈ k2_sels lw_privs ++ tables_1 from List.mem_append_right (k2_sels lw_privs) (show w ∈ tables_1 from List.mem_append_right _ (List.mem_append_right _ (List.mem_append_right _ (List.mem_append_right _ (List.mem_append_right _ (List.mem_append_right _ (List.mem_append_right _ (List.mem_append_right _ (List.mem_append_left _ h)))))))))
theorem lw_m10 : ∀ w ∈ tables_1_10, w ∈ lw_tbl := fun w h => show w ∈ k2_sels lw_privs ++ tables_1 from List.mem_append_right (k2_sels lw_privs) (show w ∈ tables_1 from List.mem_append_right _ (List.mem_append_right _ (List.mem_append_right _ (List.mem_append_right _ (List.mem_append_right _ (List.mem_append_right _ (List.mem_append_right _ (List.mem_append_right _ (List.mem_append_right _ h)))))))))
theorem qs0 : (Cond.selects "java/lang/Throwable" ⟨"java/lang/Throwable", "fillInStackTrace", "(I)Ljava/lang/Throwable;"⟩ ⟨"java/lang/Throwable", "fillInStackTrace", "(I)Ljava/lang/Throwable;"⟩) ∈ lw_all := lw_g (lw_at lw_ms 0 rfl) rfl
theorem qs1 : (Cond.selects "TrackArray$Track" ⟨"TrackArray$Track", "hear", "(LTrackArray$Microphone;LTrackArray$Source;Z)V"⟩ ⟨"TrackArray$Track", "hear", "(LTrackArray$Microphone;LTrackArray$Source;Z)V"⟩) ∈ lw_all := lw_g (lw_at lw_ms 1 rfl) rfl
theorem qs2 : (Cond.selects "TrackArray$Track" ⟨"TrackArray$Track", "placeOf", "(LTrackArray$Source;)LTrackArray$Place;"⟩ ⟨"TrackArray$Track", "placeOf", "(LTrackArray$Source;)LTrackArray$Place;"⟩) ∈ lw_all := lw_g (lw_at lw_ms 2 rfl) rfl
theorem qs3 : (Cond.selects "TrackArray$Track" ⟨"TrackArray$Track", "draw", "(I)I"⟩ ⟨"TrackArray$Track", "draw", "(I)I"⟩) ∈ lw_all := lw_g (lw_at lw_ms 3 rfl) rfl
theorem qs4 : (Cond.selects "TrackArray$Parser" ⟨"TrackArray$Parser", "advance", "()V"⟩ ⟨"TrackArray$Parser", "advance", "()V"⟩) ∈ lw_all := lw_g (lw_at lw_ms 4 rfl) rfl
theorem qs5 : (Cond.selects "TrackArray$Parser" ⟨"TrackArray$Parser", "byteAt", "(I)I"⟩ ⟨"TrackArray$Parser", "byteAt", "(I)I"⟩) ∈ lw_all := lw_g (lw_at lw_ms 5 rfl) rfl
theorem qs6 : (Cond.selects "TrackArray$Parser" ⟨"TrackArray$Parser", "statement", "()V"⟩ ⟨"TrackArray$Parser", "statement", "()V"⟩) ∈ lw_all := lw_g (lw_at lw_ms 6 rfl) rfl
theorem qs7 : (Cond.selects "TrackArray$Parser" ⟨"TrackArray$Parser", "requireRoom", "(Z)V"⟩ ⟨"TrackArray$Parser", "requireRoom", "(Z)V"⟩) ∈ lw_all := lw_g (lw_at lw_ms 7 rfl) rfl
theorem qs8 : (Cond.selects "TrackArray$Parser" ⟨"TrackArray$Parser", "mic", "()V"⟩ ⟨"TrackArray$Parser", "mic", "()V"⟩) ∈ lw_all := lw_g (lw_at lw_ms 8 rfl) rfl
theorem qs9 : (Cond.selects "TrackArray$Parser" ⟨"TrackArray$Parser", "integer", "(II)I"⟩ ⟨"TrackArray$Parser", "integer", "(II)I"⟩) ∈ lw_all := lw_g (lw_at lw_ms 9 rfl) rfl
theorem qs10 : (Cond.selects "TrackArray$Parser" ⟨"TrackArray$Parser", "signed", "(III)I"⟩ ⟨"TrackArray$Parser", "signed", "(III)I"⟩) ∈ lw_all := lw_g (lw_at lw_ms 10 rfl) rfl
theorem qs11 : (Cond.selects "TrackArray$Parser" ⟨"TrackArray$Parser", "number", "(II)I"⟩ ⟨"TrackArray$Parser", "number", "(II)I"⟩) ∈ lw_all := lw_g (lw_at lw_ms 11 rfl) rfl
theorem qs12 : (Cond.selects "java/util/ArrayList" ⟨"java/util/ArrayList", "add", "(Ljava/lang/Object;[Ljava/lang/Object;I)V"⟩ ⟨"java/util/ArrayList", "add", "(Ljava/lang/Object;[Ljava/lang/Object;I)V"⟩) ∈ lw_all := lw_g (lw_at lw_ms 12 rfl) rfl
theorem qs13 : (Cond.selects "java/util/ArrayList" ⟨"java/util/ArrayList", "grow", "()[Ljava/lang/Object;"⟩ ⟨"java/util/ArrayList", "grow", "()[Ljava/lang/Object;"⟩) ∈ lw_all := lw_g (lw_at lw_ms 13 rfl) rfl
theorem qs14 : (Cond.selects "java/util/ArrayList" ⟨"java/util/ArrayList", "grow", "(I)[Ljava/lang/Object;"⟩ ⟨"java/util/ArrayList", "grow", "(I)[Ljava/lang/Object;"⟩) ∈ lw_all := lw_g (lw_at lw_ms 14 rfl) rfl
theorem qs15 : (Cond.selects "TrackArray$Parser" ⟨"TrackArray$Parser", "vehicle", "()V"⟩ ⟨"TrackArray$Parser", "vehicle", "()V"⟩) ∈ lw_all := lw_g (lw_at lw_ms 15 rfl) rfl
theorem qs16 : (Cond.selects "TrackArray$Parser" ⟨"TrackArray$Parser", "source", "()V"⟩ ⟨"TrackArray$Parser", "source", "()V"⟩) ∈ lw_all := lw_g (lw_at lw_ms 16 rfl) rfl
theorem qs17 : (Cond.selects "TrackArray" ⟨"TrackArray", "failed", "(LTrackArray$SetupError;)I"⟩ ⟨"TrackArray", "failed", "(LTrackArray$SetupError;)I"⟩) ∈ lw_all := lw_g (lw_at lw_ms 17 rfl) rfl
theorem qs18 : (Cond.selects "TrackArray" ⟨"TrackArray", "source", "(I)LTrackArray$Source;"⟩ ⟨"TrackArray", "source", "(I)LTrackArray$Source;"⟩) ∈ lw_all := lw_g (lw_at lw_ms 18 rfl) rfl
theorem qs19 : (Cond.selects "TrackArray" ⟨"TrackArray", "microphone", "(I)LTrackArray$Microphone;"⟩ ⟨"TrackArray", "microphone", "(I)LTrackArray$Microphone;"⟩) ∈ lw_all := lw_g (lw_at lw_ms 19 rfl) rfl
theorem qs20 : (Cond.selects "TrackArray" ⟨"TrackArray", "vehicle", "(I)LTrackArray$Vehicle;"⟩ ⟨"TrackArray", "vehicle", "(I)LTrackArray$Vehicle;"⟩) ∈ lw_all := lw_g (lw_at lw_ms 20 rfl) rfl
theorem qs21 : (Cond.selects "TrackArray$Track" ⟨"TrackArray$Track", "reduction", "(LTrackArray$Microphone;LTrackArray$Place;II)I"⟩ ⟨"TrackArray$Track", "reduction", "(LTrackArray$Microphone;LTrackArray$Place;II)I"⟩) ∈ lw_all := lw_g (lw_at lw_ms 21 rfl) rfl
theorem qs22 : (Cond.selects "TrackArray$Track" ⟨"TrackArray$Track", "lambda$beam$0", "(I)J"⟩ ⟨"TrackArray$Track", "lambda$beam$0", "(I)J"⟩) ∈ lw_all := lw_g (lw_at lw_ms 22 rfl) rfl
theorem qs23 : (Cond.selects "TrackArray" ⟨"TrackArray", "lambda$scan$1", "(IIII)J"⟩ ⟨"TrackArray", "lambda$scan$1", "(IIII)J"⟩) ∈ lw_all := lw_g (lw_at lw_ms 23 rfl) rfl
theorem qs24 : (Cond.selects "TrackArrayModel" ⟨"TrackArrayModel", "clear", "()V"⟩ ⟨"TrackArrayModel", "clear", "()V"⟩) ∈ lw_all := lw_g (lw_at lw_ms 24 rfl) rfl
theorem qs25 : (Cond.selects "TrackArrayModel" ⟨"TrackArrayModel", "replace", "(II)I"⟩ ⟨"TrackArrayModel", "replace", "(II)I"⟩) ∈ lw_all := lw_g (lw_at lw_ms 25 rfl) rfl
theorem qs26 : (Cond.selects "TrackArrayModel" ⟨"TrackArrayModel", "fail", "(I)I"⟩ ⟨"TrackArrayModel", "fail", "(I)I"⟩) ∈ lw_all := lw_g (lw_at lw_ms 26 rfl) rfl
theorem qs27 : (Cond.selects "TrackArrayModel" ⟨"TrackArrayModel", "appendVehicle", "(III)I"⟩ ⟨"TrackArrayModel", "appendVehicle", "(III)I"⟩) ∈ lw_all := lw_g (lw_at lw_ms 27 rfl) rfl
theorem qs28 : (Cond.selects "TrackArrayModel" ⟨"TrackArrayModel", "isVehicle", "(I)Z"⟩ ⟨"TrackArrayModel", "isVehicle", "(I)Z"⟩) ∈ lw_all := lw_g (lw_at lw_ms 28 rfl) rfl
theorem qs29 : (Cond.selects "TrackArrayModel" ⟨"TrackArrayModel", "appendSource", "(IIII)I"⟩ ⟨"TrackArrayModel", "appendSource", "(IIII)I"⟩) ∈ lw_all := lw_g (lw_at lw_ms 29 rfl) rfl
theorem qs30 : (Cond.selects "TrackArrayModel" ⟨"TrackArrayModel", "appendValue", "(II)I"⟩ ⟨"TrackArrayModel", "appendValue", "(II)I"⟩) ∈ lw_all := lw_g (lw_at lw_ms 30 rfl) rfl
theorem qs31 : (Cond.selects "TrackArrayModel" ⟨"TrackArrayModel", "isSource", "(I)Z"⟩ ⟨"TrackArrayModel", "isSource", "(I)Z"⟩) ∈ lw_all := lw_g (lw_at lw_ms 31 rfl) rfl
theorem qs32 : (Cond.selects "TrackArrayModel" ⟨"TrackArrayModel", "source", "(II)I"⟩ ⟨"TrackArrayModel", "source", "(II)I"⟩) ∈ lw_all := lw_g (lw_at lw_ms 32 rfl) rfl
theorem qs33 : (Cond.selects "TrackArrayModel" ⟨"TrackArrayModel", "appendMicrophone", "(IIII)I"⟩ ⟨"TrackArrayModel", "appendMicrophone", "(IIII)I"⟩) ∈ lw_all := lw_g (lw_at lw_ms 33 rfl) rfl
theorem qs34 : (Cond.selects "TrackArrayModel" ⟨"TrackArrayModel", "isMicrophone", "(I)Z"⟩ ⟨"TrackArrayModel", "isMicrophone", "(I)Z"⟩) ∈ lw_all := lw_g (lw_at lw_ms 34 rfl) rfl
theorem qs35 : (Cond.selects "TrackArrayModel" ⟨"TrackArrayModel", "emittedBy", "(II)I"⟩ ⟨"TrackArrayModel", "emittedBy", "(II)I"⟩) ∈ lw_all := lw_g (lw_at lw_ms 35 rfl) rfl
theorem qs36 : (Cond.selects "TrackArrayModel" ⟨"TrackArrayModel", "laySource", "(II)V"⟩ ⟨"TrackArrayModel", "laySource", "(II)V"⟩) ∈ lw_all := lw_g (lw_at lw_ms 36 rfl) rfl
theorem qs37 : (Cond.selects "TrackArrayModel" ⟨"TrackArrayModel", "vehicle", "(II)I"⟩ ⟨"TrackArrayModel", "vehicle", "(II)I"⟩) ∈ lw_all := lw_g (lw_at lw_ms 37 rfl) rfl
theorem qs38 : (Cond.selects "TrackArrayModel" ⟨"TrackArrayModel", "layDistances", "(IIIII)V"⟩ ⟨"TrackArrayModel", "layDistances", "(IIIII)V"⟩) ∈ lw_all := lw_g (lw_at lw_ms 38 rfl) rfl
theorem qs39 : (Cond.selects "TrackArrayModel" ⟨"TrackArrayModel", "placeX", "(III)I"⟩ ⟨"TrackArrayModel", "placeX", "(III)I"⟩) ∈ lw_all := lw_g (lw_at lw_ms 39 rfl) rfl
theorem qs40 : (Cond.selects "TrackArrayModel" ⟨"TrackArrayModel", "distanceTo", "(IIII)I"⟩ ⟨"TrackArrayModel", "distanceTo", "(IIII)I"⟩) ∈ lw_all := lw_g (lw_at lw_ms 40 rfl) rfl
theorem qs41 : (Cond.selects "TrackArrayModel" ⟨"TrackArrayModel", "microphone", "(II)I"⟩ ⟨"TrackArrayModel", "microphone", "(II)I"⟩) ∈ lw_all := lw_g (lw_at lw_ms 41 rfl) rfl
theorem qs42 : (Cond.selects "TrackArrayModel" ⟨"TrackArrayModel", "latest", "(IZ)I"⟩ ⟨"TrackArrayModel", "latest", "(IZ)I"⟩) ∈ lw_all := lw_g (lw_at lw_ms 42 rfl) rfl
theorem qs43 : (Cond.selects "TrackArrayModel" ⟨"TrackArrayModel", "markOf", "(IZ)I"⟩ ⟨"TrackArrayModel", "markOf", "(IZ)I"⟩) ∈ lw_all := lw_g (lw_at lw_ms 43 rfl) rfl
theorem qs44 : (Cond.selects "TrackArrayModel" ⟨"TrackArrayModel", "hear", "(IIZ)V"⟩ ⟨"TrackArrayModel", "hear", "(IIZ)V"⟩) ∈ lw_all := lw_g (lw_at lw_ms 44 rfl) rfl
theorem qs45 : (Cond.selects "TrackArrayModel" ⟨"TrackArrayModel", "amountOf", "(IIZ)I"⟩ ⟨"TrackArrayModel", "amountOf", "(IIZ)I"⟩) ∈ lw_all := lw_g (lw_at lw_ms 45 rfl) rfl
theorem qs46 : (Cond.selects "TrackArrayModel" ⟨"TrackArrayModel", "addNoise", "(I)V"⟩ ⟨"TrackArrayModel", "addNoise", "(I)V"⟩) ∈ lw_all := lw_g (lw_at lw_ms 46 rfl) rfl
theorem qs47 : (Cond.selects "TrackArrayModel" ⟨"TrackArrayModel", "draw", "(I)I"⟩ ⟨"TrackArrayModel", "draw", "(I)I"⟩) ∈ lw_all := lw_g (lw_at lw_ms 47 rfl) rfl
theorem qs48 : (Cond.selects "TrackArrayModel" ⟨"TrackArrayModel", "recorded", "(II)I"⟩ ⟨"TrackArrayModel", "recorded", "(II)I"⟩) ∈ lw_all := lw_g (lw_at lw_ms 48 rfl) rfl
theorem qs49 : (Cond.selects "TrackArrayModel" ⟨"TrackArrayModel", "layRecord", "(I)V"⟩ ⟨"TrackArrayModel", "layRecord", "(I)V"⟩) ∈ lw_all := lw_g (lw_at lw_ms 49 rfl) rfl
theorem qs50 : (Cond.selects "TrackArrayModel" ⟨"TrackArrayModel", "measureOf", "(III)J"⟩ ⟨"TrackArrayModel", "measureOf", "(III)J"⟩) ∈ lw_all := lw_g (lw_at lw_ms 50 rfl) rfl
theorem qs51 : (Cond.selects "TrackArrayModel" ⟨"TrackArrayModel", "energyOf", "(II)J"⟩ ⟨"TrackArrayModel", "energyOf", "(II)J"⟩) ∈ lw_all := lw_g (lw_at lw_ms 51 rfl) rfl
theorem qs52 : (Cond.selects "TrackArrayModel" ⟨"TrackArrayModel", "peakOf", "(II)I"⟩ ⟨"TrackArrayModel", "peakOf", "(II)I"⟩) ∈ lw_all := lw_g (lw_at lw_ms 52 rfl) rfl
theorem qs53 : (Cond.selects "TrackArrayModel" ⟨"TrackArrayModel", "sumOf", "(II)J"⟩ ⟨"TrackArrayModel", "sumOf", "(II)J"⟩) ∈ lw_all := lw_g (lw_at lw_ms 53 rfl) rfl
theorem qs54 : (Cond.selects "TrackArrayModel" ⟨"TrackArrayModel", "crossingsOf", "(II)I"⟩ ⟨"TrackArrayModel", "crossingsOf", "(II)I"⟩) ∈ lw_all := lw_g (lw_at lw_ms 54 rfl) rfl
theorem qs55 : (Cond.selects "TrackArrayModel" ⟨"TrackArrayModel", "correlationOf", "(III)J"⟩ ⟨"TrackArrayModel", "correlationOf", "(III)J"⟩) ∈ lw_all := lw_g (lw_at lw_ms 55 rfl) rfl
theorem qs56 : (Cond.selects "TrackArrayModel" ⟨"TrackArrayModel", "setFocus", "(IIIII)V"⟩ ⟨"TrackArrayModel", "setFocus", "(IIIII)V"⟩) ∈ lw_all := lw_g (lw_at lw_ms 56 rfl) rfl
theorem qs57 : (Cond.selects "TrackArrayModel" ⟨"TrackArrayModel", "shiftOf", "(II)I"⟩ ⟨"TrackArrayModel", "shiftOf", "(II)I"⟩) ∈ lw_all := lw_g (lw_at lw_ms 57 rfl) rfl
theorem qs58 : (Cond.selects "TrackArrayModel" ⟨"TrackArrayModel", "layFocus", "(II)V"⟩ ⟨"TrackArrayModel", "layFocus", "(II)V"⟩) ∈ lw_all := lw_g (lw_at lw_ms 58 rfl) rfl
theorem qs59 : (Cond.selects "TrackArrayModel" ⟨"TrackArrayModel", "firstSample", "(I)I"⟩ ⟨"TrackArrayModel", "firstSample", "(I)I"⟩) ∈ lw_all := lw_g (lw_at lw_ms 59 rfl) rfl
theorem qs60 : (Cond.selects "TrackArrayModel" ⟨"TrackArrayModel", "layParts", "(II)V"⟩ ⟨"TrackArrayModel", "layParts", "(II)V"⟩) ∈ lw_all := lw_g (lw_at lw_ms 60 rfl) rfl
theorem qs61 : (Cond.selects "TrackArrayModel" ⟨"TrackArrayModel", "layDirectedParts", "(II)V"⟩ ⟨"TrackArrayModel", "layDirectedParts", "(II)V"⟩) ∈ lw_all := lw_g (lw_at lw_ms 61 rfl) rfl
theorem qs62 : (Cond.selects "TrackArrayModel" ⟨"TrackArrayModel", "reflectedPart", "(II)I"⟩ ⟨"TrackArrayModel", "reflectedPart", "(II)I"⟩) ∈ lw_all := lw_g (lw_at lw_ms 62 rfl) rfl
theorem qs63 : (Cond.selects "TrackArrayModel" ⟨"TrackArrayModel", "layBeam", "(I)V"⟩ ⟨"TrackArrayModel", "layBeam", "(I)V"⟩) ∈ lw_all := lw_g (lw_at lw_ms 63 rfl) rfl
theorem qs64 : (Cond.selects "TrackArrayModel" ⟨"TrackArrayModel", "clearSignal", "()V"⟩ ⟨"TrackArrayModel", "clearSignal", "()V"⟩) ∈ lw_all := lw_g (lw_at lw_ms 64 rfl) rfl
theorem qs65 : (Cond.selects "TrackArrayModel" ⟨"TrackArrayModel", "addParts", "(I)V"⟩ ⟨"TrackArrayModel", "addParts", "(I)V"⟩) ∈ lw_all := lw_g (lw_at lw_ms 65 rfl) rfl
theorem qs66 : (Cond.selects "TrackArrayModel" ⟨"TrackArrayModel", "powerOf", "(III)J"⟩ ⟨"TrackArrayModel", "powerOf", "(III)J"⟩) ∈ lw_all := lw_g (lw_at lw_ms 66 rfl) rfl
theorem qs67 : (Cond.selects "TrackArrayModel" ⟨"TrackArrayModel", "strengthOf", "(III)J"⟩ ⟨"TrackArrayModel", "strengthOf", "(III)J"⟩) ∈ lw_all := lw_g (lw_at lw_ms 67 rfl) rfl
theorem qs68 : (Cond.selects "TrackArrayModel" ⟨"TrackArrayModel", "energyWith", "(III)J"⟩ ⟨"TrackArrayModel", "energyWith", "(III)J"⟩) ∈ lw_all := lw_g (lw_at lw_ms 68 rfl) rfl
theorem qs69 : (Cond.selects "TrackArrayModel" ⟨"TrackArrayModel", "layDirectedBeam", "(I)V"⟩ ⟨"TrackArrayModel", "layDirectedBeam", "(I)V"⟩) ∈ lw_all := lw_g (lw_at lw_ms 69 rfl) rfl
theorem qs70 : (Cond.selects "TrackArrayModel" ⟨"TrackArrayModel", "meanOf", "(II)D"⟩ ⟨"TrackArrayModel", "meanOf", "(II)D"⟩) ∈ lw_all := lw_g (lw_at lw_ms 70 rfl) rfl
theorem qs71 : (Cond.selects "TrackArrayModel" ⟨"TrackArrayModel", "nextToken", "()V"⟩ ⟨"TrackArrayModel", "nextToken", "()V"⟩) ∈ lw_all := lw_g (lw_at lw_ms 71 rfl) rfl
theorem qs72 : (Cond.selects "TrackArrayModel" ⟨"TrackArrayModel", "byteAt", "(I)I"⟩ ⟨"TrackArrayModel", "byteAt", "(I)I"⟩) ∈ lw_all := lw_g (lw_at lw_ms 72 rfl) rfl
theorem qs73 : (Cond.selects "TrackArrayModel" ⟨"TrackArrayModel", "parseStatement", "()V"⟩ ⟨"TrackArrayModel", "parseStatement", "()V"⟩) ∈ lw_all := lw_g (lw_at lw_ms 73 rfl) rfl
theorem qs74 : (Cond.selects "TrackArrayModel" ⟨"TrackArrayModel", "isWord", "(Ljava/lang/String;)Z"⟩ ⟨"TrackArrayModel", "isWord", "(Ljava/lang/String;)Z"⟩) ∈ lw_all := lw_g (lw_at lw_ms 74 rfl) rfl
theorem qs75 : (Cond.selects "TrackArrayModel" ⟨"TrackArrayModel", "parseMicrophone", "()V"⟩ ⟨"TrackArrayModel", "parseMicrophone", "()V"⟩) ∈ lw_all := lw_g (lw_at lw_ms 75 rfl) rfl
theorem qs76 : (Cond.selects "TrackArrayModel" ⟨"TrackArrayModel", "require", "(ZI)V"⟩ ⟨"TrackArrayModel", "require", "(ZI)V"⟩) ∈ lw_all := lw_g (lw_at lw_ms 76 rfl) rfl
theorem qs77 : (Cond.selects "TrackArrayModel" ⟨"TrackArrayModel", "advance", "()V"⟩ ⟨"TrackArrayModel", "advance", "()V"⟩) ∈ lw_all := lw_g (lw_at lw_ms 77 rfl) rfl
theorem qs78 : (Cond.selects "TrackArrayModel" ⟨"TrackArrayModel", "parseInteger", "(II)I"⟩ ⟨"TrackArrayModel", "parseInteger", "(II)I"⟩) ∈ lw_all := lw_g (lw_at lw_ms 78 rfl) rfl
theorem qs79 : (Cond.selects "TrackArrayModel" ⟨"TrackArrayModel", "parseNumber", "(II)I"⟩ ⟨"TrackArrayModel", "parseNumber", "(II)I"⟩) ∈ lw_all := lw_g (lw_at lw_ms 79 rfl) rfl
theorem qs80 : (Cond.selects "TrackArrayModel" ⟨"TrackArrayModel", "parseVehicle", "()V"⟩ ⟨"TrackArrayModel", "parseVehicle", "()V"⟩) ∈ lw_all := lw_g (lw_at lw_ms 80 rfl) rfl
theorem qs81 : (Cond.selects "TrackArrayModel" ⟨"TrackArrayModel", "parseSource", "()V"⟩ ⟨"TrackArrayModel", "parseSource", "()V"⟩) ∈ lw_all := lw_g (lw_at lw_ms 81 rfl) rfl
