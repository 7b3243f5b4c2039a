-- ===== PART A: goes FIRST, ahead of the names: the tables' words, and 'selects' of the private methods out of them =====
/-- a private method of a class that the tables say can be made, by its rows of tables_1 -/
def lw_okq (q : MethodName × Nat) : Prop := (q.1.cls ≠ "java/lang/invoke/MethodHandle" ∧ q.1.cls ≠ "java/lang/invoke/VarHandle") ∧ Cond.instantiable q.1.cls q.2 ∈ tables_1 ∧ Cond.privateMethod q.1 ∈ tables_1 ∧ Cond.instanceMethod q.1 ∈ tables_1
set_option maxRecDepth 100000
theorem lw_t1 {w : Cond} (h : w ∈ tables_1_1) : w ∈ tables_1 := List.mem_append_left _ h
theorem lw_t2 {w : Cond} (h : w ∈ tables_1_2) : w ∈ tables_1 := List.mem_append_right _ (List.mem_append_left _ h)
theorem lw_t3 {w : Cond} (h : w ∈ tables_1_3) : w ∈ tables_1 := List.mem_append_right _ (List.mem_append_right _ (List.mem_append_left _ h))
theorem lw_t4 {w : Cond} (h : w ∈ tables_1_4) : w ∈ tables_1 := List.mem_append_right _ (List.mem_append_right _ (List.mem_append_right _ (List.mem_append_left _ h)))
theorem lw_t5 {w : Cond} (h : w ∈ tables_1_5) : w ∈ tables_1 := List.mem_append_right _ (List.mem_append_right _ (List.mem_append_right _ (List.mem_append_right _ (List.mem_append_left _ h))))
theorem lw_t6 {w : Cond} (h : w ∈ tables_1_6) : w ∈ tables_1 := List.mem_append_right _ (List.mem_append_right _ (List.mem_append_right _ (List.mem_append_right _ (List.mem_append_right _ (List.mem_append_left _ h)))))
theorem lw_t7 {w : Cond} (h : w ∈ tables_1_7) : w ∈ tables_1 := List.mem_append_right _ (List.mem_append_right _ (List.mem_append_right _ (List.mem_append_right _ (List.mem_append_right _ (List.mem_append_right _ (List.mem_append_left _ h))))))
theorem lw_t8 {w : Cond} (h : w ∈ tables_1_8) : w ∈ tables_1 := List.mem_append_right _ (List.mem_append_right _ (List.mem_append_right _ (List.mem_append_right _ (List.mem_append_right _ (List.mem_append_right _ (List.mem_append_right _ h))))))
theorem lw_p0 : lw_okq (⟨"java/lang/NullPointerException", "getExtendedNPEMessage", "()Ljava/lang/String;"⟩, 8) := ⟨⟨by decide +kernel, by decide +kernel⟩, lw_t1 (List.mem_of_getElem? (i := 77) rfl), lw_t1 (List.mem_of_getElem? (i := 75) rfl), lw_t1 (List.mem_of_getElem? (i := 76) rfl)⟩
theorem lw_p1 : lw_okq (⟨"java/lang/Throwable", "fillInStackTrace", "(I)Ljava/lang/Throwable;"⟩, 6) := ⟨⟨by decide +kernel, by decide +kernel⟩, lw_t1 (List.mem_of_getElem? (i := 89) rfl), lw_t1 (List.mem_of_getElem? (i := 87) rfl), lw_t1 (List.mem_of_getElem? (i := 88) rfl)⟩
theorem lw_p2 : lw_okq (⟨"WheelTables", "is", "(I)Z"⟩, 57) := ⟨⟨by decide +kernel, by decide +kernel⟩, lw_t1 (List.mem_of_getElem? (i := 25) rfl), lw_t2 (List.mem_of_getElem? (i := 148) rfl), lw_t2 (List.mem_of_getElem? (i := 149) rfl)⟩
theorem lw_p3 : lw_okq (⟨"WheelTables", "none", "(I)I"⟩, 57) := ⟨⟨by decide +kernel, by decide +kernel⟩, lw_t1 (List.mem_of_getElem? (i := 25) rfl), lw_t2 (List.mem_of_getElem? (i := 217) rfl), lw_t2 (List.mem_of_getElem? (i := 218) rfl)⟩
theorem lw_p4 : lw_okq (⟨"WheelTables", "gives", "(I)I"⟩, 57) := ⟨⟨by decide +kernel, by decide +kernel⟩, lw_t1 (List.mem_of_getElem? (i := 25) rfl), lw_t3 (List.mem_of_getElem? (i := 64) rfl), lw_t3 (List.mem_of_getElem? (i := 65) rfl)⟩
theorem lw_p5 : lw_okq (⟨"WheelTables", "isWheel", "(III)Z"⟩, 57) := ⟨⟨by decide +kernel, by decide +kernel⟩, lw_t1 (List.mem_of_getElem? (i := 25) rfl), lw_t3 (List.mem_of_getElem? (i := 72) rfl), lw_t3 (List.mem_of_getElem? (i := 73) rfl)⟩
theorem lw_p6 : lw_okq (⟨"WheelTables", "isEngine", "(I)Z"⟩, 57) := ⟨⟨by decide +kernel, by decide +kernel⟩, lw_t1 (List.mem_of_getElem? (i := 25) rfl), lw_t3 (List.mem_of_getElem? (i := 76) rfl), lw_t3 (List.mem_of_getElem? (i := 77) rfl)⟩
theorem lw_p7 : lw_okq (⟨"WheelTables", "differences", "(I)V"⟩, 57) := ⟨⟨by decide +kernel, by decide +kernel⟩, lw_t1 (List.mem_of_getElem? (i := 25) rfl), lw_t3 (List.mem_of_getElem? (i := 107) rfl), lw_t3 (List.mem_of_getElem? (i := 108) rfl)⟩
theorem lw_p8 : lw_okq (⟨"WheelTables", "steps", "(I)V"⟩, 57) := ⟨⟨by decide +kernel, by decide +kernel⟩, lw_t1 (List.mem_of_getElem? (i := 25) rfl), lw_t3 (List.mem_of_getElem? (i := 111) rfl), lw_t3 (List.mem_of_getElem? (i := 112) rfl)⟩
theorem lw_p9 : lw_okq (⟨"WheelTables$Engine", "adds", "(II)V"⟩, 11) := ⟨⟨by decide +kernel, by decide +kernel⟩, lw_t3 (List.mem_of_getElem? (i := 3) rfl), lw_t3 (List.mem_of_getElem? (i := 145) rfl), lw_t3 (List.mem_of_getElem? (i := 146) rfl)⟩
theorem lw_p10 : lw_okq (⟨"WheelTables$Engine", "has", "(III)Z"⟩, 11) := ⟨⟨by decide +kernel, by decide +kernel⟩, lw_t3 (List.mem_of_getElem? (i := 3) rfl), lw_t3 (List.mem_of_getElem? (i := 149) rfl), lw_t3 (List.mem_of_getElem? (i := 150) rfl)⟩
theorem lw_p11 : lw_okq (⟨"WheelTables", "wrongSheet", "(III)I"⟩, 57) := ⟨⟨by decide +kernel, by decide +kernel⟩, lw_t1 (List.mem_of_getElem? (i := 25) rfl), lw_t3 (List.mem_of_getElem? (i := 157) rfl), lw_t3 (List.mem_of_getElem? (i := 158) rfl)⟩
theorem lw_p12 : lw_okq (⟨"WheelTables", "makes", "(LWheelTables$Engine;LWheelTables$Tray;I)Z"⟩, 57) := ⟨⟨by decide +kernel, by decide +kernel⟩, lw_t1 (List.mem_of_getElem? (i := 25) rfl), lw_t3 (List.mem_of_getElem? (i := 169) rfl), lw_t3 (List.mem_of_getElem? (i := 170) rfl)⟩
theorem lw_p13 : lw_okq (⟨"WheelTables", "at", "(III)J"⟩, 57) := ⟨⟨by decide +kernel, by decide +kernel⟩, lw_t1 (List.mem_of_getElem? (i := 25) rfl), lw_t3 (List.mem_of_getElem? (i := 187) rfl), lw_t3 (List.mem_of_getElem? (i := 188) rfl)⟩
theorem lw_p14 : lw_okq (⟨"WheelTables", "isRight", "(IIIJ)Z"⟩, 57) := ⟨⟨by decide +kernel, by decide +kernel⟩, lw_t1 (List.mem_of_getElem? (i := 25) rfl), lw_t3 (List.mem_of_getElem? (i := 191) rfl), lw_t3 (List.mem_of_getElem? (i := 192) rfl)⟩
theorem lw_p15 : lw_okq (⟨"WheelTables", "four", "(I)V"⟩, 57) := ⟨⟨by decide +kernel, by decide +kernel⟩, lw_t1 (List.mem_of_getElem? (i := 25) rfl), lw_t3 (List.mem_of_getElem? (i := 205) rfl), lw_t3 (List.mem_of_getElem? (i := 206) rfl)⟩
def lw_privs_1 : List (MethodName × Nat) := [(⟨"java/lang/NullPointerException", "getExtendedNPEMessage", "()Ljava/lang/String;"⟩, 8), (⟨"java/lang/Throwable", "fillInStackTrace", "(I)Ljava/lang/Throwable;"⟩, 6), (⟨"WheelTables", "is", "(I)Z"⟩, 57), (⟨"WheelTables", "none", "(I)I"⟩, 57), (⟨"WheelTables", "gives", "(I)I"⟩, 57), (⟨"WheelTables", "isWheel", "(III)Z"⟩, 57), (⟨"WheelTables", "isEngine", "(I)Z"⟩, 57), (⟨"WheelTables", "differences", "(I)V"⟩, 57), (⟨"WheelTables", "steps", "(I)V"⟩, 57), (⟨"WheelTables$Engine", "adds", "(II)V"⟩, 11), (⟨"WheelTables$Engine", "has", "(III)Z"⟩, 11), (⟨"WheelTables", "wrongSheet", "(III)I"⟩, 57), (⟨"WheelTables", "makes", "(LWheelTables$Engine;LWheelTables$Tray;I)Z"⟩, 57), (⟨"WheelTables", "at", "(III)J"⟩, 57), (⟨"WheelTables", "isRight", "(IIIJ)Z"⟩, 57), (⟨"WheelTables", "four", "(I)V"⟩, 57)]
theorem lw_r1 : ∀ q ∈ lw_privs_1, lw_okq q := List.forall_mem_cons.mpr ⟨lw_p0, List.forall_mem_cons.mpr ⟨lw_p1, List.forall_mem_cons.mpr ⟨lw_p2, List.forall_mem_cons.mpr ⟨lw_p3, List.forall_mem_cons.mpr ⟨lw_p4, List.forall_mem_cons.mpr ⟨lw_p5, List.forall_mem_cons.mpr ⟨lw_p6, List.forall_mem_cons.mpr ⟨lw_p7, List.forall_mem_cons.mpr ⟨lw_p8, List.forall_mem_cons.mpr ⟨lw_p9, List.forall_mem_cons.mpr ⟨lw_p10, List.forall_mem_cons.mpr ⟨lw_p11, List.forall_mem_cons.mpr ⟨lw_p12, List.forall_mem_cons.mpr ⟨lw_p13, List.forall_mem_cons.mpr ⟨lw_p14, List.forall_mem_cons.mpr ⟨lw_p15, fun _ h => absurd h List.not_mem_nil⟩⟩⟩⟩⟩⟩⟩⟩⟩⟩⟩⟩⟩⟩⟩⟩
theorem lw_p16 : lw_okq (⟨"WheelTables$Reader", "next", "()V"⟩, 8) := ⟨⟨by decide +kernel, by decide +kernel⟩, lw_t1 (List.mem_of_getElem? (i := 125) rfl), lw_t3 (List.mem_of_getElem? (i := 217) rfl), lw_t3 (List.mem_of_getElem? (i := 218) rfl)⟩
theorem lw_p17 : lw_okq (⟨"WheelTables$Reader", "at", "(I)I"⟩, 8) := ⟨⟨by decide +kernel, by decide +kernel⟩, lw_t1 (List.mem_of_getElem? (i := 125) rfl), lw_t3 (List.mem_of_getElem? (i := 221) rfl), lw_t3 (List.mem_of_getElem? (i := 222) rfl)⟩
theorem lw_p18 : lw_okq (⟨"WheelTables$Reader", "kind", "()I"⟩, 8) := ⟨⟨by decide +kernel, by decide +kernel⟩, lw_t1 (List.mem_of_getElem? (i := 125) rfl), lw_t3 (List.mem_of_getElem? (i := 237) rfl), lw_t3 (List.mem_of_getElem? (i := 238) rfl)⟩
theorem lw_p19 : lw_okq (⟨"WheelTables$Reader", "is", "(Ljava/lang/String;II)Z"⟩, 8) := ⟨⟨by decide +kernel, by decide +kernel⟩, lw_t1 (List.mem_of_getElem? (i := 125) rfl), lw_t4 (List.mem_of_getElem? (i := 50) rfl), lw_t4 (List.mem_of_getElem? (i := 51) rfl)⟩
theorem lw_p20 : lw_okq (⟨"WheelTables$Reader", "need", "(Z)V"⟩, 8) := ⟨⟨by decide +kernel, by decide +kernel⟩, lw_t1 (List.mem_of_getElem? (i := 125) rfl), lw_t4 (List.mem_of_getElem? (i := 54) rfl), lw_t4 (List.mem_of_getElem? (i := 55) rfl)⟩
theorem lw_p21 : lw_okq (⟨"WheelTables$Reader", "fail", "(I)LWheelTables$Wrong;"⟩, 8) := ⟨⟨by decide +kernel, by decide +kernel⟩, lw_t1 (List.mem_of_getElem? (i := 125) rfl), lw_t4 (List.mem_of_getElem? (i := 58) rfl), lw_t4 (List.mem_of_getElem? (i := 59) rfl)⟩
theorem lw_p22 : lw_okq (⟨"WheelTables$Reader", "card", "(I)LWheelTables$Card;"⟩, 8) := ⟨⟨by decide +kernel, by decide +kernel⟩, lw_t1 (List.mem_of_getElem? (i := 125) rfl), lw_t4 (List.mem_of_getElem? (i := 66) rfl), lw_t4 (List.mem_of_getElem? (i := 67) rfl)⟩
theorem lw_p23 : lw_okq (⟨"WheelTables$Reader", "goes", "(LWheelTables$Card;)V"⟩, 8) := ⟨⟨by decide +kernel, by decide +kernel⟩, lw_t1 (List.mem_of_getElem? (i := 125) rfl), lw_t4 (List.mem_of_getElem? (i := 98) rfl), lw_t4 (List.mem_of_getElem? (i := 99) rfl)⟩
theorem lw_p24 : lw_okq (⟨"WheelTables$Reader", "is", "(Ljava/lang/String;)Z"⟩, 8) := ⟨⟨by decide +kernel, by decide +kernel⟩, lw_t1 (List.mem_of_getElem? (i := 125) rfl), lw_t4 (List.mem_of_getElem? (i := 104) rfl), lw_t4 (List.mem_of_getElem? (i := 105) rfl)⟩
theorem lw_p25 : lw_okq (⟨"WheelTables$Reader", "whole", "(LWheelTables$Card;)V"⟩, 8) := ⟨⟨by decide +kernel, by decide +kernel⟩, lw_t1 (List.mem_of_getElem? (i := 125) rfl), lw_t4 (List.mem_of_getElem? (i := 111) rfl), lw_t4 (List.mem_of_getElem? (i := 112) rfl)⟩
theorem lw_p26 : lw_okq (⟨"WheelTables$Reader", "is", "(I)Z"⟩, 8) := ⟨⟨by decide +kernel, by decide +kernel⟩, lw_t1 (List.mem_of_getElem? (i := 125) rfl), lw_t4 (List.mem_of_getElem? (i := 115) rfl), lw_t4 (List.mem_of_getElem? (i := 116) rfl)⟩
theorem lw_p27 : lw_okq (⟨"WheelTables", "does", "(LWheelTables$Card;I)I"⟩, 57) := ⟨⟨by decide +kernel, by decide +kernel⟩, lw_t1 (List.mem_of_getElem? (i := 25) rfl), lw_t4 (List.mem_of_getElem? (i := 127) rfl), lw_t4 (List.mem_of_getElem? (i := 128) rfl)⟩
theorem lw_p28 : lw_okq (⟨"WheelTables", "results", "(LWheelTables$Card;JII)V"⟩, 57) := ⟨⟨by decide +kernel, by decide +kernel⟩, lw_t1 (List.mem_of_getElem? (i := 25) rfl), lw_t4 (List.mem_of_getElem? (i := 131) rfl), lw_t4 (List.mem_of_getElem? (i := 132) rfl)⟩
theorem lw_p29 : lw_okq (⟨"WheelTables", "alarms", "(II)V"⟩, 57) := ⟨⟨by decide +kernel, by decide +kernel⟩, lw_t1 (List.mem_of_getElem? (i := 25) rfl), lw_t4 (List.mem_of_getElem? (i := 139) rfl), lw_t4 (List.mem_of_getElem? (i := 140) rfl)⟩
theorem lw_p30 : lw_okq (⟨"WheelTables", "least", "(J)I"⟩, 57) := ⟨⟨by decide +kernel, by decide +kernel⟩, lw_t1 (List.mem_of_getElem? (i := 25) rfl), lw_t4 (List.mem_of_getElem? (i := 144) rfl), lw_t4 (List.mem_of_getElem? (i := 145) rfl)⟩
theorem lw_p31 : lw_okq (⟨"WheelTables", "divides", "(LWheelTables$Card;JJI)V"⟩, 57) := ⟨⟨by decide +kernel, by decide +kernel⟩, lw_t1 (List.mem_of_getElem? (i := 25) rfl), lw_t4 (List.mem_of_getElem? (i := 151) rfl), lw_t4 (List.mem_of_getElem? (i := 152) rfl)⟩
def lw_privs_2 : List (MethodName × Nat) := [(⟨"WheelTables$Reader", "next", "()V"⟩, 8), (⟨"WheelTables$Reader", "at", "(I)I"⟩, 8), (⟨"WheelTables$Reader", "kind", "()I"⟩, 8), (⟨"WheelTables$Reader", "is", "(Ljava/lang/String;II)Z"⟩, 8), (⟨"WheelTables$Reader", "need", "(Z)V"⟩, 8), (⟨"WheelTables$Reader", "fail", "(I)LWheelTables$Wrong;"⟩, 8), (⟨"WheelTables$Reader", "card", "(I)LWheelTables$Card;"⟩, 8), (⟨"WheelTables$Reader", "goes", "(LWheelTables$Card;)V"⟩, 8), (⟨"WheelTables$Reader", "is", "(Ljava/lang/String;)Z"⟩, 8), (⟨"WheelTables$Reader", "whole", "(LWheelTables$Card;)V"⟩, 8), (⟨"WheelTables$Reader", "is", "(I)Z"⟩, 8), (⟨"WheelTables", "does", "(LWheelTables$Card;I)I"⟩, 57), (⟨"WheelTables", "results", "(LWheelTables$Card;JII)V"⟩, 57), (⟨"WheelTables", "alarms", "(II)V"⟩, 57), (⟨"WheelTables", "least", "(J)I"⟩, 57), (⟨"WheelTables", "divides", "(LWheelTables$Card;JJI)V"⟩, 57)]
theorem lw_r2 : ∀ q ∈ lw_privs_2, lw_okq q := List.forall_mem_cons.mpr ⟨lw_p16, List.forall_mem_cons.mpr ⟨lw_p17, List.forall_mem_cons.mpr ⟨lw_p18, List.forall_mem_cons.mpr ⟨lw_p19, List.forall_mem_cons.mpr ⟨lw_p20, List.forall_mem_cons.mpr ⟨lw_p21, List.forall_mem_cons.mpr ⟨lw_p22, List.forall_mem_cons.mpr ⟨lw_p23, List.forall_mem_cons.mpr ⟨lw_p24, List.forall_mem_cons.mpr ⟨lw_p25, List.forall_mem_cons.mpr ⟨lw_p26, List.forall_mem_cons.mpr ⟨lw_p27, List.forall_mem_cons.mpr ⟨lw_p28, List.forall_mem_cons.mpr ⟨lw_p29, List.forall_mem_cons.mpr ⟨lw_p30, List.forall_mem_cons.mpr ⟨lw_p31, fun _ h => absurd h List.not_mem_nil⟩⟩⟩⟩⟩⟩⟩⟩⟩⟩⟩⟩⟩⟩⟩⟩
theorem lw_p32 : lw_okq (⟨"WheelTables", "prints", "(JI)V"⟩, 57) := ⟨⟨by decide +kernel, by decide +kernel⟩, lw_t1 (List.mem_of_getElem? (i := 25) rfl), lw_t4 (List.mem_of_getElem? (i := 155) rfl), lw_t4 (List.mem_of_getElem? (i := 156) rfl)⟩
theorem lw_p33 : lw_okq (⟨"WheelTables", "stands", "(LWheelTables$Card;)Z"⟩, 57) := ⟨⟨by decide +kernel, by decide +kernel⟩, lw_t1 (List.mem_of_getElem? (i := 25) rfl), lw_t4 (List.mem_of_getElem? (i := 159) rfl), lw_t4 (List.mem_of_getElem? (i := 160) rfl)⟩
theorem lw_p34 : lw_okq (⟨"WheelTables", "areAll", "(II)Z"⟩, 57) := ⟨⟨by decide +kernel, by decide +kernel⟩, lw_t1 (List.mem_of_getElem? (i := 25) rfl), lw_t4 (List.mem_of_getElem? (i := 191) rfl), lw_t4 (List.mem_of_getElem? (i := 192) rfl)⟩
theorem lw_p35 : lw_okq (⟨"WheelTables", "isSmoothAt", "(I)Z"⟩, 57) := ⟨⟨by decide +kernel, by decide +kernel⟩, lw_t1 (List.mem_of_getElem? (i := 25) rfl), lw_t4 (List.mem_of_getElem? (i := 195) rfl), lw_t4 (List.mem_of_getElem? (i := 196) rfl)⟩
theorem lw_p36 : lw_okq (⟨"WheelTables", "found", "(IIII)V"⟩, 57) := ⟨⟨by decide +kernel, by decide +kernel⟩, lw_t1 (List.mem_of_getElem? (i := 25) rfl), lw_t4 (List.mem_of_getElem? (i := 199) rfl), lw_t4 (List.mem_of_getElem? (i := 200) rfl)⟩
theorem lw_p37 : lw_okq (⟨"WheelTables", "oneRight", "()Z"⟩, 57) := ⟨⟨by decide +kernel, by decide +kernel⟩, lw_t1 (List.mem_of_getElem? (i := 25) rfl), lw_t4 (List.mem_of_getElem? (i := 203) rfl), lw_t4 (List.mem_of_getElem? (i := 204) rfl)⟩
theorem lw_p38 : lw_okq (⟨"WheelTables", "corrects", "(II)V"⟩, 57) := ⟨⟨by decide +kernel, by decide +kernel⟩, lw_t1 (List.mem_of_getElem? (i := 25) rfl), lw_t4 (List.mem_of_getElem? (i := 207) rfl), lw_t4 (List.mem_of_getElem? (i := 208) rfl)⟩
theorem lw_p39 : lw_okq (⟨"WheelTables", "adds", "(II)V"⟩, 57) := ⟨⟨by decide +kernel, by decide +kernel⟩, lw_t1 (List.mem_of_getElem? (i := 25) rfl), lw_t4 (List.mem_of_getElem? (i := 211) rfl), lw_t4 (List.mem_of_getElem? (i := 212) rfl)⟩
theorem lw_p40 : lw_okq (⟨"WheelTables", "isSmoothBy", "(I)Z"⟩, 57) := ⟨⟨by decide +kernel, by decide +kernel⟩, lw_t1 (List.mem_of_getElem? (i := 25) rfl), lw_t4 (List.mem_of_getElem? (i := 215) rfl), lw_t4 (List.mem_of_getElem? (i := 216) rfl)⟩
theorem lw_p41 : lw_okq (⟨"WheelTables", "twoRight", "()Z"⟩, 57) := ⟨⟨by decide +kernel, by decide +kernel⟩, lw_t1 (List.mem_of_getElem? (i := 25) rfl), lw_t4 (List.mem_of_getElem? (i := 222) rfl), lw_t4 (List.mem_of_getElem? (i := 223) rfl)⟩
theorem lw_p42 : lw_okq (⟨"WheelTables", "pairRight", "(II)Z"⟩, 57) := ⟨⟨by decide +kernel, by decide +kernel⟩, lw_t1 (List.mem_of_getElem? (i := 25) rfl), lw_t4 (List.mem_of_getElem? (i := 226) rfl), lw_t4 (List.mem_of_getElem? (i := 227) rfl)⟩
theorem lw_p43 : lw_okq (⟨"WheelTables", "copies", "()I"⟩, 57) := ⟨⟨by decide +kernel, by decide +kernel⟩, lw_t1 (List.mem_of_getElem? (i := 25) rfl), lw_t5 (List.mem_of_getElem? (i := 13) rfl), lw_t5 (List.mem_of_getElem? (i := 14) rfl)⟩
theorem lw_p44 : lw_okq (⟨"WheelTables", "isCopy", "(I)Z"⟩, 57) := ⟨⟨by decide +kernel, by decide +kernel⟩, lw_t1 (List.mem_of_getElem? (i := 25) rfl), lw_t5 (List.mem_of_getElem? (i := 25) rfl), lw_t5 (List.mem_of_getElem? (i := 26) rfl)⟩
theorem lw_p45 : lw_okq (⟨"WheelTables", "printingOf", "(I)I"⟩, 57) := ⟨⟨by decide +kernel, by decide +kernel⟩, lw_t1 (List.mem_of_getElem? (i := 25) rfl), lw_t5 (List.mem_of_getElem? (i := 29) rfl), lw_t5 (List.mem_of_getElem? (i := 30) rfl)⟩
theorem lw_p46 : lw_okq (⟨"WheelTables", "saidBy", "(II)I"⟩, 57) := ⟨⟨by decide +kernel, by decide +kernel⟩, lw_t1 (List.mem_of_getElem? (i := 25) rfl), lw_t5 (List.mem_of_getElem? (i := 33) rfl), lw_t5 (List.mem_of_getElem? (i := 34) rfl)⟩
theorem lw_p47 : lw_okq (⟨"WheelTables", "wrongIn", "(II)I"⟩, 57) := ⟨⟨by decide +kernel, by decide +kernel⟩, lw_t1 (List.mem_of_getElem? (i := 25) rfl), lw_t5 (List.mem_of_getElem? (i := 41) rfl), lw_t5 (List.mem_of_getElem? (i := 42) rfl)⟩
def lw_privs_3 : List (MethodName × Nat) := [(⟨"WheelTables", "prints", "(JI)V"⟩, 57), (⟨"WheelTables", "stands", "(LWheelTables$Card;)Z"⟩, 57), (⟨"WheelTables", "areAll", "(II)Z"⟩, 57), (⟨"WheelTables", "isSmoothAt", "(I)Z"⟩, 57), (⟨"WheelTables", "found", "(IIII)V"⟩, 57), (⟨"WheelTables", "oneRight", "()Z"⟩, 57), (⟨"WheelTables", "corrects", "(II)V"⟩, 57), (⟨"WheelTables", "adds", "(II)V"⟩, 57), (⟨"WheelTables", "isSmoothBy", "(I)Z"⟩, 57), (⟨"WheelTables", "twoRight", "()Z"⟩, 57), (⟨"WheelTables", "pairRight", "(II)Z"⟩, 57), (⟨"WheelTables", "copies", "()I"⟩, 57), (⟨"WheelTables", "isCopy", "(I)Z"⟩, 57), (⟨"WheelTables", "printingOf", "(I)I"⟩, 57), (⟨"WheelTables", "saidBy", "(II)I"⟩, 57), (⟨"WheelTables", "wrongIn", "(II)I"⟩, 57)]
theorem lw_r3 : ∀ q ∈ lw_privs_3, lw_okq q := List.forall_mem_cons.mpr ⟨lw_p32, List.forall_mem_cons.mpr ⟨lw_p33, List.forall_mem_cons.mpr ⟨lw_p34, List.forall_mem_cons.mpr ⟨lw_p35, List.forall_mem_cons.mpr ⟨lw_p36, List.forall_mem_cons.mpr ⟨lw_p37, List.forall_mem_cons.mpr ⟨lw_p38, List.forall_mem_cons.mpr ⟨lw_p39, List.forall_mem_cons.mpr ⟨lw_p40, List.forall_mem_cons.mpr ⟨lw_p41, List.forall_mem_cons.mpr ⟨lw_p42, List.forall_mem_cons.mpr ⟨lw_p43, List.forall_mem_cons.mpr ⟨lw_p44, List.forall_mem_cons.mpr ⟨lw_p45, List.forall_mem_cons.mpr ⟨lw_p46, List.forall_mem_cons.mpr ⟨lw_p47, fun _ h => absurd h List.not_mem_nil⟩⟩⟩⟩⟩⟩⟩⟩⟩⟩⟩⟩⟩⟩⟩⟩
theorem lw_p48 : lw_okq (⟨"WheelTables", "hasParts", "()Z"⟩, 57) := ⟨⟨by decide +kernel, by decide +kernel⟩, lw_t1 (List.mem_of_getElem? (i := 25) rfl), lw_t5 (List.mem_of_getElem? (i := 57) rfl), lw_t5 (List.mem_of_getElem? (i := 58) rfl)⟩
theorem lw_p49 : lw_okq (⟨"WheelTables", "parts", "(II)V"⟩, 57) := ⟨⟨by decide +kernel, by decide +kernel⟩, lw_t1 (List.mem_of_getElem? (i := 25) rfl), lw_t5 (List.mem_of_getElem? (i := 61) rfl), lw_t5 (List.mem_of_getElem? (i := 62) rfl)⟩
theorem lw_p50 : lw_okq (⟨"WheelTablesModel", "no", "(I)Z"⟩, 99) := ⟨⟨by decide +kernel, by decide +kernel⟩, lw_t5 (List.mem_of_getElem? (i := 69) rfl), lw_t6 (List.mem_of_getElem? (i := 141) rfl), lw_t6 (List.mem_of_getElem? (i := 142) rfl)⟩
theorem lw_p51 : lw_okq (⟨"WheelTablesModel", "placed", "(II)I"⟩, 99) := ⟨⟨by decide +kernel, by decide +kernel⟩, lw_t5 (List.mem_of_getElem? (i := 69) rfl), lw_t6 (List.mem_of_getElem? (i := 149) rfl), lw_t6 (List.mem_of_getElem? (i := 150) rfl)⟩
theorem lw_p52 : lw_okq (⟨"WheelTablesModel", "trayed", "(I)I"⟩, 99) := ⟨⟨by decide +kernel, by decide +kernel⟩, lw_t5 (List.mem_of_getElem? (i := 69) rfl), lw_t6 (List.mem_of_getElem? (i := 153) rfl), lw_t6 (List.mem_of_getElem? (i := 154) rfl)⟩
theorem lw_p53 : lw_okq (⟨"WheelTablesModel", "refuse", "(I)I"⟩, 99) := ⟨⟨by decide +kernel, by decide +kernel⟩, lw_t5 (List.mem_of_getElem? (i := 69) rfl), lw_t6 (List.mem_of_getElem? (i := 179) rfl), lw_t6 (List.mem_of_getElem? (i := 180) rfl)⟩
theorem lw_p54 : lw_okq (⟨"WheelTablesModel", "numberOf", "(II)J"⟩, 99) := ⟨⟨by decide +kernel, by decide +kernel⟩, lw_t5 (List.mem_of_getElem? (i := 69) rfl), lw_t6 (List.mem_of_getElem? (i := 183) rfl), lw_t6 (List.mem_of_getElem? (i := 184) rfl)⟩
theorem lw_p55 : lw_okq (⟨"WheelTablesModel", "isWheel", "(III)Z"⟩, 99) := ⟨⟨by decide +kernel, by decide +kernel⟩, lw_t5 (List.mem_of_getElem? (i := 69) rfl), lw_t6 (List.mem_of_getElem? (i := 191) rfl), lw_t6 (List.mem_of_getElem? (i := 192) rfl)⟩
theorem lw_p56 : lw_okq (⟨"WheelTablesModel", "isEngine", "(I)Z"⟩, 99) := ⟨⟨by decide +kernel, by decide +kernel⟩, lw_t5 (List.mem_of_getElem? (i := 69) rfl), lw_t6 (List.mem_of_getElem? (i := 195) rfl), lw_t6 (List.mem_of_getElem? (i := 196) rfl)⟩
theorem lw_p57 : lw_okq (⟨"WheelTablesModel", "onAxis", "(II)J"⟩, 99) := ⟨⟨by decide +kernel, by decide +kernel⟩, lw_t5 (List.mem_of_getElem? (i := 69) rfl), lw_t6 (List.mem_of_getElem? (i := 210) rfl), lw_t6 (List.mem_of_getElem? (i := 211) rfl)⟩
theorem lw_p58 : lw_okq (⟨"WheelTablesModel", "back", "(I)V"⟩, 99) := ⟨⟨by decide +kernel, by decide +kernel⟩, lw_t5 (List.mem_of_getElem? (i := 69) rfl), lw_t6 (List.mem_of_getElem? (i := 220) rfl), lw_t6 (List.mem_of_getElem? (i := 221) rfl)⟩
theorem lw_p59 : lw_okq (⟨"WheelTablesModel", "ahead", "(II)V"⟩, 99) := ⟨⟨by decide +kernel, by decide +kernel⟩, lw_t5 (List.mem_of_getElem? (i := 69) rfl), lw_t6 (List.mem_of_getElem? (i := 224) rfl), lw_t6 (List.mem_of_getElem? (i := 225) rfl)⟩
theorem lw_p60 : lw_okq (⟨"WheelTablesModel", "turnOne", "(IIZ)V"⟩, 99) := ⟨⟨by decide +kernel, by decide +kernel⟩, lw_t5 (List.mem_of_getElem? (i := 69) rfl), lw_t7 (List.mem_of_getElem? (i := 3) rfl), lw_t7 (List.mem_of_getElem? (i := 4) rfl)⟩
theorem lw_p61 : lw_okq (⟨"WheelTablesModel", "adds", "(IIIZ)V"⟩, 99) := ⟨⟨by decide +kernel, by decide +kernel⟩, lw_t5 (List.mem_of_getElem? (i := 69) rfl), lw_t7 (List.mem_of_getElem? (i := 7) rfl), lw_t7 (List.mem_of_getElem? (i := 8) rfl)⟩
theorem lw_p62 : lw_okq (⟨"WheelTablesModel", "mishapped", "(IIIIIZ)I"⟩, 99) := ⟨⟨by decide +kernel, by decide +kernel⟩, lw_t5 (List.mem_of_getElem? (i := 69) rfl), lw_t7 (List.mem_of_getElem? (i := 11) rfl), lw_t7 (List.mem_of_getElem? (i := 12) rfl)⟩
theorem lw_p63 : lw_okq (⟨"WheelTablesModel", "asksSheet", "(III)I"⟩, 99) := ⟨⟨by decide +kernel, by decide +kernel⟩, lw_t5 (List.mem_of_getElem? (i := 69) rfl), lw_t7 (List.mem_of_getElem? (i := 19) rfl), lw_t7 (List.mem_of_getElem? (i := 20) rfl)⟩
def lw_privs_4 : List (MethodName × Nat) := [(⟨"WheelTables", "hasParts", "()Z"⟩, 57), (⟨"WheelTables", "parts", "(II)V"⟩, 57), (⟨"WheelTablesModel", "no", "(I)Z"⟩, 99), (⟨"WheelTablesModel", "placed", "(II)I"⟩, 99), (⟨"WheelTablesModel", "trayed", "(I)I"⟩, 99), (⟨"WheelTablesModel", "refuse", "(I)I"⟩, 99), (⟨"WheelTablesModel", "numberOf", "(II)J"⟩, 99), (⟨"WheelTablesModel", "isWheel", "(III)Z"⟩, 99), (⟨"WheelTablesModel", "isEngine", "(I)Z"⟩, 99), (⟨"WheelTablesModel", "onAxis", "(II)J"⟩, 99), (⟨"WheelTablesModel", "back", "(I)V"⟩, 99), (⟨"WheelTablesModel", "ahead", "(II)V"⟩, 99), (⟨"WheelTablesModel", "turnOne", "(IIZ)V"⟩, 99), (⟨"WheelTablesModel", "adds", "(IIIZ)V"⟩, 99), (⟨"WheelTablesModel", "mishapped", "(IIIIIZ)I"⟩, 99), (⟨"WheelTablesModel", "asksSheet", "(III)I"⟩, 99)]
theorem lw_r4 : ∀ q ∈ lw_privs_4, lw_okq q := List.forall_mem_cons.mpr ⟨lw_p48, List.forall_mem_cons.mpr ⟨lw_p49, List.forall_mem_cons.mpr ⟨lw_p50, List.forall_mem_cons.mpr ⟨lw_p51, List.forall_mem_cons.mpr ⟨lw_p52, List.forall_mem_cons.mpr ⟨lw_p53, List.forall_mem_cons.mpr ⟨lw_p54, List.forall_mem_cons.mpr ⟨lw_p55, List.forall_mem_cons.mpr ⟨lw_p56, List.forall_mem_cons.mpr ⟨lw_p57, List.forall_mem_cons.mpr ⟨lw_p58, List.forall_mem_cons.mpr ⟨lw_p59, List.forall_mem_cons.mpr ⟨lw_p60, List.forall_mem_cons.mpr ⟨lw_p61, List.forall_mem_cons.mpr ⟨lw_p62, List.forall_mem_cons.mpr ⟨lw_p63, fun _ h => absurd h List.not_mem_nil⟩⟩⟩⟩⟩⟩⟩⟩⟩⟩⟩⟩⟩⟩⟩⟩
theorem lw_p64 : lw_okq (⟨"WheelTablesModel", "shows", "(III)Z"⟩, 99) := ⟨⟨by decide +kernel, by decide +kernel⟩, lw_t5 (List.mem_of_getElem? (i := 69) rfl), lw_t7 (List.mem_of_getElem? (i := 31) rfl), lw_t7 (List.mem_of_getElem? (i := 32) rfl)⟩
theorem lw_p65 : lw_okq (⟨"WheelTablesModel", "isEnough", "(IIIJI)Z"⟩, 99) := ⟨⟨by decide +kernel, by decide +kernel⟩, lw_t5 (List.mem_of_getElem? (i := 69) rfl), lw_t7 (List.mem_of_getElem? (i := 48) rfl), lw_t7 (List.mem_of_getElem? (i := 49) rfl)⟩
theorem lw_p66 : lw_okq (⟨"WheelTablesModel", "atPart", "(III)J"⟩, 99) := ⟨⟨by decide +kernel, by decide +kernel⟩, lw_t5 (List.mem_of_getElem? (i := 69) rfl), lw_t7 (List.mem_of_getElem? (i := 56) rfl), lw_t7 (List.mem_of_getElem? (i := 57) rfl)⟩
theorem lw_p67 : lw_okq (⟨"WheelTablesModel", "lay", "(I)V"⟩, 99) := ⟨⟨by decide +kernel, by decide +kernel⟩, lw_t5 (List.mem_of_getElem? (i := 69) rfl), lw_t7 (List.mem_of_getElem? (i := 68) rfl), lw_t7 (List.mem_of_getElem? (i := 69) rfl)⟩
theorem lw_p68 : lw_okq (⟨"WheelTablesModel", "next", "()V"⟩, 99) := ⟨⟨by decide +kernel, by decide +kernel⟩, lw_t5 (List.mem_of_getElem? (i := 69) rfl), lw_t7 (List.mem_of_getElem? (i := 76) rfl), lw_t7 (List.mem_of_getElem? (i := 77) rfl)⟩
theorem lw_p69 : lw_okq (⟨"WheelTablesModel", "look", "(I)I"⟩, 99) := ⟨⟨by decide +kernel, by decide +kernel⟩, lw_t5 (List.mem_of_getElem? (i := 69) rfl), lw_t7 (List.mem_of_getElem? (i := 80) rfl), lw_t7 (List.mem_of_getElem? (i := 81) rfl)⟩
theorem lw_p70 : lw_okq (⟨"WheelTablesModel", "readCard", "()V"⟩, 99) := ⟨⟨by decide +kernel, by decide +kernel⟩, lw_t5 (List.mem_of_getElem? (i := 69) rfl), lw_t7 (List.mem_of_getElem? (i := 93) rfl), lw_t7 (List.mem_of_getElem? (i := 94) rfl)⟩
theorem lw_p71 : lw_okq (⟨"WheelTablesModel", "cardKind", "()I"⟩, 99) := ⟨⟨by decide +kernel, by decide +kernel⟩, lw_t5 (List.mem_of_getElem? (i := 69) rfl), lw_t7 (List.mem_of_getElem? (i := 97) rfl), lw_t7 (List.mem_of_getElem? (i := 98) rfl)⟩
theorem lw_p72 : lw_okq (⟨"WheelTablesModel", "isWord", "(J)Z"⟩, 99) := ⟨⟨by decide +kernel, by decide +kernel⟩, lw_t5 (List.mem_of_getElem? (i := 69) rfl), lw_t7 (List.mem_of_getElem? (i := 104) rfl), lw_t7 (List.mem_of_getElem? (i := 105) rfl)⟩
theorem lw_p73 : lw_okq (⟨"WheelTablesModel", "wrong", "()V"⟩, 99) := ⟨⟨by decide +kernel, by decide +kernel⟩, lw_t5 (List.mem_of_getElem? (i := 69) rfl), lw_t7 (List.mem_of_getElem? (i := 108) rfl), lw_t7 (List.mem_of_getElem? (i := 109) rfl)⟩
theorem lw_p74 : lw_okq (⟨"WheelTablesModel", "fail", "(II)V"⟩, 99) := ⟨⟨by decide +kernel, by decide +kernel⟩, lw_t5 (List.mem_of_getElem? (i := 69) rfl), lw_t7 (List.mem_of_getElem? (i := 112) rfl), lw_t7 (List.mem_of_getElem? (i := 113) rfl)⟩
theorem lw_p75 : lw_okq (⟨"WheelTablesModel", "readJump", "(I)V"⟩, 99) := ⟨⟨by decide +kernel, by decide +kernel⟩, lw_t5 (List.mem_of_getElem? (i := 69) rfl), lw_t7 (List.mem_of_getElem? (i := 116) rfl), lw_t7 (List.mem_of_getElem? (i := 117) rfl)⟩
theorem lw_p76 : lw_okq (⟨"WheelTablesModel", "count", "(II)I"⟩, 99) := ⟨⟨by decide +kernel, by decide +kernel⟩, lw_t5 (List.mem_of_getElem? (i := 69) rfl), lw_t7 (List.mem_of_getElem? (i := 120) rfl), lw_t7 (List.mem_of_getElem? (i := 121) rfl)⟩
theorem lw_p77 : lw_okq (⟨"WheelTablesModel", "readWhole", "(I)V"⟩, 99) := ⟨⟨by decide +kernel, by decide +kernel⟩, lw_t5 (List.mem_of_getElem? (i := 69) rfl), lw_t7 (List.mem_of_getElem? (i := 124) rfl), lw_t7 (List.mem_of_getElem? (i := 125) rfl)⟩
theorem lw_p78 : lw_okq (⟨"WheelTablesModel", "isSign", "(I)Z"⟩, 99) := ⟨⟨by decide +kernel, by decide +kernel⟩, lw_t5 (List.mem_of_getElem? (i := 69) rfl), lw_t7 (List.mem_of_getElem? (i := 128) rfl), lw_t7 (List.mem_of_getElem? (i := 129) rfl)⟩
theorem lw_p79 : lw_okq (⟨"WheelTablesModel", "alarms", "(I)I"⟩, 99) := ⟨⟨by decide +kernel, by decide +kernel⟩, lw_t5 (List.mem_of_getElem? (i := 69) rfl), lw_t7 (List.mem_of_getElem? (i := 140) rfl), lw_t7 (List.mem_of_getElem? (i := 141) rfl)⟩
def lw_privs_5 : List (MethodName × Nat) := [(⟨"WheelTablesModel", "shows", "(III)Z"⟩, 99), (⟨"WheelTablesModel", "isEnough", "(IIIJI)Z"⟩, 99), (⟨"WheelTablesModel", "atPart", "(III)J"⟩, 99), (⟨"WheelTablesModel", "lay", "(I)V"⟩, 99), (⟨"WheelTablesModel", "next", "()V"⟩, 99), (⟨"WheelTablesModel", "look", "(I)I"⟩, 99), (⟨"WheelTablesModel", "readCard", "()V"⟩, 99), (⟨"WheelTablesModel", "cardKind", "()I"⟩, 99), (⟨"WheelTablesModel", "isWord", "(J)Z"⟩, 99), (⟨"WheelTablesModel", "wrong", "()V"⟩, 99), (⟨"WheelTablesModel", "fail", "(II)V"⟩, 99), (⟨"WheelTablesModel", "readJump", "(I)V"⟩, 99), (⟨"WheelTablesModel", "count", "(II)I"⟩, 99), (⟨"WheelTablesModel", "readWhole", "(I)V"⟩, 99), (⟨"WheelTablesModel", "isSign", "(I)Z"⟩, 99), (⟨"WheelTablesModel", "alarms", "(I)I"⟩, 99)]
theorem lw_r5 : ∀ q ∈ lw_privs_5, lw_okq q := List.forall_mem_cons.mpr ⟨lw_p64, List.forall_mem_cons.mpr ⟨lw_p65, List.forall_mem_cons.mpr ⟨lw_p66, List.forall_mem_cons.mpr ⟨lw_p67, List.forall_mem_cons.mpr ⟨lw_p68, List.forall_mem_cons.mpr ⟨lw_p69, List.forall_mem_cons.mpr ⟨lw_p70, List.forall_mem_cons.mpr ⟨lw_p71, List.forall_mem_cons.mpr ⟨lw_p72, List.forall_mem_cons.mpr ⟨lw_p73, List.forall_mem_cons.mpr ⟨lw_p74, List.forall_mem_cons.mpr ⟨lw_p75, List.forall_mem_cons.mpr ⟨lw_p76, List.forall_mem_cons.mpr ⟨lw_p77, List.forall_mem_cons.mpr ⟨lw_p78, List.forall_mem_cons.mpr ⟨lw_p79, fun _ h => absurd h List.not_mem_nil⟩⟩⟩⟩⟩⟩⟩⟩⟩⟩⟩⟩⟩⟩⟩⟩
theorem lw_p80 : lw_okq (⟨"WheelTablesModel", "does", "(I)I"⟩, 99) := ⟨⟨by decide +kernel, by decide +kernel⟩, lw_t5 (List.mem_of_getElem? (i := 69) rfl), lw_t7 (List.mem_of_getElem? (i := 149) rfl), lw_t7 (List.mem_of_getElem? (i := 150) rfl)⟩
theorem lw_p81 : lw_okq (⟨"WheelTablesModel", "comes", "(IJ)V"⟩, 99) := ⟨⟨by decide +kernel, by decide +kernel⟩, lw_t5 (List.mem_of_getElem? (i := 69) rfl), lw_t7 (List.mem_of_getElem? (i := 153) rfl), lw_t7 (List.mem_of_getElem? (i := 154) rfl)⟩
theorem lw_p82 : lw_okq (⟨"WheelTablesModel", "fewest", "(J)I"⟩, 99) := ⟨⟨by decide +kernel, by decide +kernel⟩, lw_t5 (List.mem_of_getElem? (i := 69) rfl), lw_t7 (List.mem_of_getElem? (i := 157) rfl), lw_t7 (List.mem_of_getElem? (i := 158) rfl)⟩
theorem lw_p83 : lw_okq (⟨"WheelTablesModel", "corrects", "(I)V"⟩, 99) := ⟨⟨by decide +kernel, by decide +kernel⟩, lw_t5 (List.mem_of_getElem? (i := 69) rfl), lw_t7 (List.mem_of_getElem? (i := 188) rfl), lw_t7 (List.mem_of_getElem? (i := 189) rfl)⟩
theorem lw_p84 : lw_okq (⟨"WheelTablesModel", "varies", "(II)V"⟩, 99) := ⟨⟨by decide +kernel, by decide +kernel⟩, lw_t5 (List.mem_of_getElem? (i := 69) rfl), lw_t7 (List.mem_of_getElem? (i := 192) rfl), lw_t7 (List.mem_of_getElem? (i := 193) rfl)⟩
theorem lw_p85 : lw_okq (⟨"WheelTablesModel", "isSmooth", "(III)Z"⟩, 99) := ⟨⟨by decide +kernel, by decide +kernel⟩, lw_t5 (List.mem_of_getElem? (i := 69) rfl), lw_t7 (List.mem_of_getElem? (i := 196) rfl), lw_t7 (List.mem_of_getElem? (i := 197) rfl)⟩
theorem lw_p86 : lw_okq (⟨"WheelTablesModel", "corrected", "(IIIII)Z"⟩, 99) := ⟨⟨by decide +kernel, by decide +kernel⟩, lw_t5 (List.mem_of_getElem? (i := 69) rfl), lw_t7 (List.mem_of_getElem? (i := 200) rfl), lw_t7 (List.mem_of_getElem? (i := 201) rfl)⟩
theorem lw_p87 : lw_okq (⟨"WheelTablesModel", "isElsewhere", "(IIIII)Z"⟩, 99) := ⟨⟨by decide +kernel, by decide +kernel⟩, lw_t5 (List.mem_of_getElem? (i := 69) rfl), lw_t7 (List.mem_of_getElem? (i := 204) rfl), lw_t7 (List.mem_of_getElem? (i := 205) rfl)⟩
theorem lw_p88 : lw_okq (⟨"WheelTablesModel", "isCopy", "(I)Z"⟩, 99) := ⟨⟨by decide +kernel, by decide +kernel⟩, lw_t5 (List.mem_of_getElem? (i := 69) rfl), lw_t7 (List.mem_of_getElem? (i := 236) rfl), lw_t7 (List.mem_of_getElem? (i := 237) rfl)⟩
theorem lw_p89 : lw_okq (⟨"WheelTablesModel", "printingOf", "(I)I"⟩, 99) := ⟨⟨by decide +kernel, by decide +kernel⟩, lw_t5 (List.mem_of_getElem? (i := 69) rfl), lw_t8 (List.mem_of_getElem? (i := 0) rfl), lw_t8 (List.mem_of_getElem? (i := 1) rfl)⟩
theorem lw_p90 : lw_okq (⟨"WheelTablesModel", "saysOf", "(II)I"⟩, 99) := ⟨⟨by decide +kernel, by decide +kernel⟩, lw_t5 (List.mem_of_getElem? (i := 69) rfl), lw_t8 (List.mem_of_getElem? (i := 4) rfl), lw_t8 (List.mem_of_getElem? (i := 5) rfl)⟩
theorem lw_p91 : lw_okq (⟨"WheelTablesModel", "wrongOf", "(II)I"⟩, 99) := ⟨⟨by decide +kernel, by decide +kernel⟩, lw_t5 (List.mem_of_getElem? (i := 69) rfl), lw_t8 (List.mem_of_getElem? (i := 12) rfl), lw_t8 (List.mem_of_getElem? (i := 13) rfl)⟩
theorem lw_p92 : lw_okq (⟨"WheelTablesModel", "parts", "()I"⟩, 99) := ⟨⟨by decide +kernel, by decide +kernel⟩, lw_t5 (List.mem_of_getElem? (i := 69) rfl), lw_t8 (List.mem_of_getElem? (i := 28) rfl), lw_t8 (List.mem_of_getElem? (i := 29) rfl)⟩
theorem lw_p93 : lw_okq (⟨"WheelTablesModel", "mostOf", "()I"⟩, 99) := ⟨⟨by decide +kernel, by decide +kernel⟩, lw_t5 (List.mem_of_getElem? (i := 69) rfl), lw_t8 (List.mem_of_getElem? (i := 32) rfl), lw_t8 (List.mem_of_getElem? (i := 33) rfl)⟩
def lw_privs_6 : List (MethodName × Nat) := [(⟨"WheelTablesModel", "does", "(I)I"⟩, 99), (⟨"WheelTablesModel", "comes", "(IJ)V"⟩, 99), (⟨"WheelTablesModel", "fewest", "(J)I"⟩, 99), (⟨"WheelTablesModel", "corrects", "(I)V"⟩, 99), (⟨"WheelTablesModel", "varies", "(II)V"⟩, 99), (⟨"WheelTablesModel", "isSmooth", "(III)Z"⟩, 99), (⟨"WheelTablesModel", "corrected", "(IIIII)Z"⟩, 99), (⟨"WheelTablesModel", "isElsewhere", "(IIIII)Z"⟩, 99), (⟨"WheelTablesModel", "isCopy", "(I)Z"⟩, 99), (⟨"WheelTablesModel", "printingOf", "(I)I"⟩, 99), (⟨"WheelTablesModel", "saysOf", "(II)I"⟩, 99), (⟨"WheelTablesModel", "wrongOf", "(II)I"⟩, 99), (⟨"WheelTablesModel", "parts", "()I"⟩, 99), (⟨"WheelTablesModel", "mostOf", "()I"⟩, 99)]
theorem lw_r6 : ∀ q ∈ lw_privs_6, lw_okq q := List.forall_mem_cons.mpr ⟨lw_p80, List.forall_mem_cons.mpr ⟨lw_p81, List.forall_mem_cons.mpr ⟨lw_p82, List.forall_mem_cons.mpr ⟨lw_p83, List.forall_mem_cons.mpr ⟨lw_p84, List.forall_mem_cons.mpr ⟨lw_p85, List.forall_mem_cons.mpr ⟨lw_p86, List.forall_mem_cons.mpr ⟨lw_p87, List.forall_mem_cons.mpr ⟨lw_p88, List.forall_mem_cons.mpr ⟨lw_p89, List.forall_mem_cons.mpr ⟨lw_p90, List.forall_mem_cons.mpr ⟨lw_p91, List.forall_mem_cons.mpr ⟨lw_p92, List.forall_mem_cons.mpr ⟨lw_p93, fun _ h => absurd h List.not_mem_nil⟩⟩⟩⟩⟩⟩⟩⟩⟩⟩⟩⟩⟩⟩
def lw_privs : List (MethodName × Nat) := lw_privs_1 ++ (lw_privs_2 ++ (lw_privs_3 ++ (lw_privs_4 ++ (lw_privs_5 ++ (lw_privs_6)))))
def lw_tbl : List Cond := k2_sels lw_privs ++ tables_1
theorem lw_privs_ok : ∀ q ∈ lw_privs, lw_okq q := by
  show ∀ q ∈ lw_privs_1 ++ (lw_privs_2 ++ (lw_privs_3 ++ (lw_privs_4 ++ (lw_privs_5 ++ (lw_privs_6))))), lw_okq q
  exact List.forall_mem_append.mpr ⟨lw_r1, List.forall_mem_append.mpr ⟨lw_r2, List.forall_mem_append.mpr ⟨lw_r3, List.forall_mem_append.mpr ⟨lw_r4, List.forall_mem_append.mpr ⟨lw_r5, lw_r6⟩⟩⟩⟩⟩
-- ===== ONE list of words for every method: the tables' words that hold all through a run =====
def lw_all : List Cond := lw_tbl.filter goodWord
/-- a word of the tables by its place: claim/WORDS.tsv -/
theorem lw_w {w : Cond} (i : Nat) (h : lw_tbl[i]? = some w) (g : goodWord w = true) : w ∈ lw_all := List.mem_filter.mpr ⟨List.mem_of_getElem? h, g⟩
theorem lw_all_tbl {w : Cond} (h : w ∈ lw_all) : w ∈ lw_tbl := (List.mem_filter.mp h).1
theorem lw_self : GoodIn lw_all lw_all := fun w h => ⟨h, good_of_word (List.mem_filter.mp h).2⟩
/-- a class's field words, by their places -/
theorem lw_in (ws : List Cond) (ps : List Nat) (hp : ws = ps.filterMap (fun i => lw_tbl[i]?)) (hg : ws.all goodWord = true) : ∀ w ∈ ws, w ∈ lw_all := by
  intro w h
  have h1 := List.all_eq_true.mp hg w h
  rw [hp] at h
  obtain ⟨i, -, hi⟩ := List.mem_filterMap.mp h
  exact lw_w i hi h1
/-- the words of a contract for the method y with code b, L locals, answer r -/
abbrev ws_ (y : MethodName) (b : ByteArray) (L : Nat) (r : Option FieldType) : List Cond := Cond.code y b L r :: lw_all
theorem lw_meth {y : MethodName} {b : ByteArray} {L : Nat} {r : Option FieldType} (h : Cond.code y b L r ∈ lw_all) : GoodIn lw_all (ws_ y b L r) := by
  intro w hw
  rcases List.mem_cons.mp hw with e | e
  · rw [e]
    exact lw_self _ h
  · exact lw_self _ e
theorem lw_app {a c : List Cond} (ha : ∀ w ∈ a, w ∈ lw_all) (hc : GoodIn lw_all c) : GoodIn lw_all (a ++ c) := by
  intro w hw
  rcases List.mem_append.mp hw with e | e
  · exact lw_self w (ha w e)
  · exact hc w e
/-- what a call through an object asks: cwV n hts (lw_V ..) -/
theorem lw_V {own : String} {idx : Nat} {C : String} {y : MethodName} {b : ByteArray} {L : Nat} {r : Option FieldType} (h1 : Cond.methodLink own idx y ∈ lw_all) (h2 : Cond.instanceMethod y ∈ lw_all) (h3 : Cond.selects C y y ∈ lw_all) (h4 : Cond.initialized C ∈ lw_all) (h5 : Cond.code y b L r ∈ lw_all) : GoodIn lw_all (wsV own idx C y (ws_ y b L r)) := by
  refine lw_app ?_ (lw_meth h5)
  intro w hw
  simp only [List.mem_cons, List.not_mem_nil, or_false] at hw
  rcases hw with e | e | e | e
  · rw [e]; exact h1
  · rw [e]; exact h2
  · rw [e]; exact h3
  · rw [e]; exact h4
/-- what a static call asks: va_cwS n hts (lw_S ..) -/
theorem lw_S {own : String} {idx : Nat} {y : MethodName} {b : ByteArray} {L : Nat} {r : Option FieldType} (h1 : Cond.methodLink own idx y ∈ lw_all) (h2 : Cond.static y ∈ lw_all) (h3 : Cond.initialized y.cls ∈ lw_all) (h4 : Cond.code y b L r ∈ lw_all) : GoodIn lw_all (va_wsS own idx y (ws_ y b L r)) := by
  refine lw_app ?_ (lw_meth h4)
  intro w hw
  simp only [List.mem_cons, List.not_mem_nil, or_false] at hw
  rcases hw with e | e | e
  · rw [e]; exact h1
  · rw [e]; exact h2
  · rw [e]; exact h3
/-- the words of a contract for a method WITH HANDLERS (hh: its table) -/
abbrev wsW_ (y : MethodName) (b : ByteArray) (L : Nat) (r : Option FieldType) (hh : List (Nat × Nat × Nat × Nat)) : List Cond := Cond.codeWith y b L r hh :: lw_all
theorem lw_methW {y : MethodName} {b : ByteArray} {L : Nat} {r : Option FieldType} {hh : List (Nat × Nat × Nat × Nat)} (h : Cond.codeWith y b L r hh ∈ lw_all) : GoodIn lw_all (wsW_ y b L r hh) := by
  intro w hw
  rcases List.mem_cons.mp hw with e | e
  · rw [e]
    exact lw_self _ h
  · exact lw_self _ e
/-- any list of words by their places (lw_in), good -/
theorem lw_good {ws : List Cond} (h : ∀ w ∈ ws, w ∈ lw_all) : GoodIn lw_all ws := fun w hw => lw_self w (h w hw)
/-- what a call of a method with handlers asks: vx_cwVW n hts (lw_VW ..), vx_cwSW n hts (lw_SW ..) -/
theorem lw_VW {own : String} {idx : Nat} {C : String} {y : MethodName} {b : ByteArray} {L : Nat} {r : Option FieldType} {hh : List (Nat × Nat × Nat × Nat)} (h1 : Cond.methodLink own idx y ∈ lw_all) (h2 : Cond.instanceMethod y ∈ lw_all) (h3 : Cond.selects C y y ∈ lw_all) (h4 : Cond.initialized C ∈ lw_all) (h5 : Cond.codeWith y b L r hh ∈ lw_all) : GoodIn lw_all (wsV own idx C y (wsW_ y b L r hh)) := by
  refine lw_app ?_ (lw_methW h5)
  intro w hw
  simp only [List.mem_cons, List.not_mem_nil, or_false] at hw
  rcases hw with e | e | e | e
  · rw [e]; exact h1
  · rw [e]; exact h2
  · rw [e]; exact h3
  · rw [e]; exact h4
theorem lw_SW {own : String} {idx : Nat} {y : MethodName} {b : ByteArray} {L : Nat} {r : Option FieldType} {hh : List (Nat × Nat × Nat × Nat)} (h1 : Cond.methodLink own idx y ∈ lw_all) (h2 : Cond.static y ∈ lw_all) (h3 : Cond.initialized y.cls ∈ lw_all) (h4 : Cond.codeWith y b L r hh ∈ lw_all) : GoodIn lw_all (va_wsS own idx y (wsW_ y b L r hh)) := by
  refine lw_app ?_ (lw_methW h4)
  intro w hw
  simp only [List.mem_cons, List.not_mem_nil, or_false] at hw
  rcases hw with e | e | e
  · rw [e]; exact h1
  · rw [e]; exact h2
  · rw [e]; exact h3
/-- a word by its place in its run of the tables -/
theorem lw_at {r : List Cond} (hr : ∀ w ∈ r, w ∈ lw_tbl) {w : Cond} (i : Nat) (h : r[i]? = some w) : w ∈ lw_tbl := hr w (List.mem_of_getElem? h)
theorem lw_g {w : Cond} (h : w ∈ lw_tbl) (g : goodWord w = true) : w ∈ lw_all := List.mem_filter.mpr ⟨h, g⟩
theorem lw_ms : ∀ w ∈ k2_sels lw_privs, w ∈ lw_tbl := fun w h => show w ∈ k2_sels lw_privs ++ tables_1 from List.mem_append_left _ h
theorem lw_m1 : ∀ w ∈ tables_1_1, w ∈ lw_tbl := fun w h => show w ∈ k2_sels lw_privs ++ tables_1 from List.mem_append_right (k2_sels lw_privs) (show w ∈ tables_1 from List.mem_append_left _ h)
theorem lw_m2 : ∀ w ∈ tables_1_2, w ∈ lw_tbl := fun w h => show w ∈ k2_sels lw_privs ++ tables_1 from List.mem_append_right (k2_sels lw_privs) (show w ∈ tables_1 from List.mem_append_right _ (List.mem_append_left _ h))
theorem lw_m3 : ∀ w ∈ tables_1_3, w ∈ lw_tbl := fun w h => show w ∈ k2_sels lw_privs ++ tables_1 from List.mem_append_right (k2_sels lw_privs) (show w ∈ tables_1 from List.mem_append_right _ (List.mem_append_right _ (List.mem_append_left _ h)))
theorem lw_m4 : ∀ w ∈ tables_1_4, w ∈ lw_tbl := fun w h => show w ∈ k2_sels lw_privs ++ tables_1 from List.mem_append_right (k2_sels lw_privs) (show w ∈ tables_1 from List.mem_append_right _ (List.mem_append_right _ (List.mem_append_right _ (List.mem_append_left _ h))))
theorem lw_m5 : ∀ w ∈ tables_1_5, w ∈ lw_tbl := fun w h => show w ∈ k2_sels lw_privs ++ tables_1 from List.mem_append_right (k2_sels lw_privs) (show w ∈ tables_1 from List.mem_append_right _ (List.mem_append_right _ (List.mem_append_right _ (List.mem_append_right _ (List.mem_append_left _ h)))))
theorem lw_m6 : ∀ w ∈ tables_1_6, w ∈ lw_tbl := fun w h => show w ∈ k2_sels lw_privs ++ tables_1 from List.mem_append_right (k2_sels lw_privs) (show w ∈ tables_1 from List.mem_append_right _ (List.mem_append_right _ (List.mem_append_right _ (List.mem_append_right _ (List.mem_append_right _ (List.mem_append_left _ h))))))
theorem lw_m7 : ∀ w ∈ tables_1_7, w ∈ lw_tbl := fun w h => show w ∈ k2_sels lw_privs ++ tables_1 from List.mem_append_right (k2_sels lw_privs) (show w ∈ tables_1 from List.mem_append_right _ (List.mem_append_right _ (List.mem_append_right _ (List.mem_append_right _ (List.mem_append_right _ (List.mem_append_right _ (List.mem_append_left _ h)))))))
theorem lw_m8 : ∀ w ∈ tables_1_8, w ∈ lw_tbl := fun w h => show w ∈ k2_sels lw_privs ++ tables_1 from List.mem_append_right (k2_sels lw_privs) (show w ∈ tables_1 from List.mem_append_right _ (List.mem_append_right _ (List.mem_append_right _ (List.mem_append_right _ (List.mem_append_right _ (List.mem_append_right _ (List.mem_append_right _ h)))))))
theorem qs0 : (Cond.selects "java/lang/NullPointerException" ⟨"java/lang/NullPointerException", "getExtendedNPEMessage", "()Ljava/lang/String;"⟩ ⟨"java/lang/NullPointerException", "getExtendedNPEMessage", "()Ljava/lang/String;"⟩) ∈ lw_all := lw_g (lw_at lw_ms 0 rfl) rfl
theorem qs1 : (Cond.selects "java/lang/Throwable" ⟨"java/lang/Throwable", "fillInStackTrace", "(I)Ljava/lang/Throwable;"⟩ ⟨"java/lang/Throwable", "fillInStackTrace", "(I)Ljava/lang/Throwable;"⟩) ∈ lw_all := lw_g (lw_at lw_ms 1 rfl) rfl
theorem qs2 : (Cond.selects "WheelTables" ⟨"WheelTables", "is", "(I)Z"⟩ ⟨"WheelTables", "is", "(I)Z"⟩) ∈ lw_all := lw_g (lw_at lw_ms 2 rfl) rfl
theorem qs3 : (Cond.selects "WheelTables" ⟨"WheelTables", "none", "(I)I"⟩ ⟨"WheelTables", "none", "(I)I"⟩) ∈ lw_all := lw_g (lw_at lw_ms 3 rfl) rfl
theorem qs4 : (Cond.selects "WheelTables" ⟨"WheelTables", "gives", "(I)I"⟩ ⟨"WheelTables", "gives", "(I)I"⟩) ∈ lw_all := lw_g (lw_at lw_ms 4 rfl) rfl
theorem qs5 : (Cond.selects "WheelTables" ⟨"WheelTables", "isWheel", "(III)Z"⟩ ⟨"WheelTables", "isWheel", "(III)Z"⟩) ∈ lw_all := lw_g (lw_at lw_ms 5 rfl) rfl
theorem qs6 : (Cond.selects "WheelTables" ⟨"WheelTables", "isEngine", "(I)Z"⟩ ⟨"WheelTables", "isEngine", "(I)Z"⟩) ∈ lw_all := lw_g (lw_at lw_ms 6 rfl) rfl
theorem qs7 : (Cond.selects "WheelTables" ⟨"WheelTables", "differences", "(I)V"⟩ ⟨"WheelTables", "differences", "(I)V"⟩) ∈ lw_all := lw_g (lw_at lw_ms 7 rfl) rfl
theorem qs8 : (Cond.selects "WheelTables" ⟨"WheelTables", "steps", "(I)V"⟩ ⟨"WheelTables", "steps", "(I)V"⟩) ∈ lw_all := lw_g (lw_at lw_ms 8 rfl) rfl
theorem qs9 : (Cond.selects "WheelTables$Engine" ⟨"WheelTables$Engine", "adds", "(II)V"⟩ ⟨"WheelTables$Engine", "adds", "(II)V"⟩) ∈ lw_all := lw_g (lw_at lw_ms 9 rfl) rfl
theorem qs10 : (Cond.selects "WheelTables$Engine" ⟨"WheelTables$Engine", "has", "(III)Z"⟩ ⟨"WheelTables$Engine", "has", "(III)Z"⟩) ∈ lw_all := lw_g (lw_at lw_ms 10 rfl) rfl
theorem qs11 : (Cond.selects "WheelTables" ⟨"WheelTables", "wrongSheet", "(III)I"⟩ ⟨"WheelTables", "wrongSheet", "(III)I"⟩) ∈ lw_all := lw_g (lw_at lw_ms 11 rfl) rfl
theorem qs12 : (Cond.selects "WheelTables" ⟨"WheelTables", "makes", "(LWheelTables$Engine;LWheelTables$Tray;I)Z"⟩ ⟨"WheelTables", "makes", "(LWheelTables$Engine;LWheelTables$Tray;I)Z"⟩) ∈ lw_all := lw_g (lw_at lw_ms 12 rfl) rfl
theorem qs13 : (Cond.selects "WheelTables" ⟨"WheelTables", "at", "(III)J"⟩ ⟨"WheelTables", "at", "(III)J"⟩) ∈ lw_all := lw_g (lw_at lw_ms 13 rfl) rfl
theorem qs14 : (Cond.selects "WheelTables" ⟨"WheelTables", "isRight", "(IIIJ)Z"⟩ ⟨"WheelTables", "isRight", "(IIIJ)Z"⟩) ∈ lw_all := lw_g (lw_at lw_ms 14 rfl) rfl
theorem qs15 : (Cond.selects "WheelTables" ⟨"WheelTables", "four", "(I)V"⟩ ⟨"WheelTables", "four", "(I)V"⟩) ∈ lw_all := lw_g (lw_at lw_ms 15 rfl) rfl
theorem qs16 : (Cond.selects "WheelTables$Reader" ⟨"WheelTables$Reader", "next", "()V"⟩ ⟨"WheelTables$Reader", "next", "()V"⟩) ∈ lw_all := lw_g (lw_at lw_ms 16 rfl) rfl
theorem qs17 : (Cond.selects "WheelTables$Reader" ⟨"WheelTables$Reader", "at", "(I)I"⟩ ⟨"WheelTables$Reader", "at", "(I)I"⟩) ∈ lw_all := lw_g (lw_at lw_ms 17 rfl) rfl
theorem qs18 : (Cond.selects "WheelTables$Reader" ⟨"WheelTables$Reader", "kind", "()I"⟩ ⟨"WheelTables$Reader", "kind", "()I"⟩) ∈ lw_all := lw_g (lw_at lw_ms 18 rfl) rfl
theorem qs19 : (Cond.selects "WheelTables$Reader" ⟨"WheelTables$Reader", "is", "(Ljava/lang/String;II)Z"⟩ ⟨"WheelTables$Reader", "is", "(Ljava/lang/String;II)Z"⟩) ∈ lw_all := lw_g (lw_at lw_ms 19 rfl) rfl
theorem qs20 : (Cond.selects "WheelTables$Reader" ⟨"WheelTables$Reader", "need", "(Z)V"⟩ ⟨"WheelTables$Reader", "need", "(Z)V"⟩) ∈ lw_all := lw_g (lw_at lw_ms 20 rfl) rfl
theorem qs21 : (Cond.selects "WheelTables$Reader" ⟨"WheelTables$Reader", "fail", "(I)LWheelTables$Wrong;"⟩ ⟨"WheelTables$Reader", "fail", "(I)LWheelTables$Wrong;"⟩) ∈ lw_all := lw_g (lw_at lw_ms 21 rfl) rfl
theorem qs22 : (Cond.selects "WheelTables$Reader" ⟨"WheelTables$Reader", "card", "(I)LWheelTables$Card;"⟩ ⟨"WheelTables$Reader", "card", "(I)LWheelTables$Card;"⟩) ∈ lw_all := lw_g (lw_at lw_ms 22 rfl) rfl
theorem qs23 : (Cond.selects "WheelTables$Reader" ⟨"WheelTables$Reader", "goes", "(LWheelTables$Card;)V"⟩ ⟨"WheelTables$Reader", "goes", "(LWheelTables$Card;)V"⟩) ∈ lw_all := lw_g (lw_at lw_ms 23 rfl) rfl
theorem qs24 : (Cond.selects "WheelTables$Reader" ⟨"WheelTables$Reader", "is", "(Ljava/lang/String;)Z"⟩ ⟨"WheelTables$Reader", "is", "(Ljava/lang/String;)Z"⟩) ∈ lw_all := lw_g (lw_at lw_ms 24 rfl) rfl
theorem qs25 : (Cond.selects "WheelTables$Reader" ⟨"WheelTables$Reader", "whole", "(LWheelTables$Card;)V"⟩ ⟨"WheelTables$Reader", "whole", "(LWheelTables$Card;)V"⟩) ∈ lw_all := lw_g (lw_at lw_ms 25 rfl) rfl
theorem qs26 : (Cond.selects "WheelTables$Reader" ⟨"WheelTables$Reader", "is", "(I)Z"⟩ ⟨"WheelTables$Reader", "is", "(I)Z"⟩) ∈ lw_all := lw_g (lw_at lw_ms 26 rfl) rfl
theorem qs27 : (Cond.selects "WheelTables" ⟨"WheelTables", "does", "(LWheelTables$Card;I)I"⟩ ⟨"WheelTables", "does", "(LWheelTables$Card;I)I"⟩) ∈ lw_all := lw_g (lw_at lw_ms 27 rfl) rfl
theorem qs28 : (Cond.selects "WheelTables" ⟨"WheelTables", "results", "(LWheelTables$Card;JII)V"⟩ ⟨"WheelTables", "results", "(LWheelTables$Card;JII)V"⟩) ∈ lw_all := lw_g (lw_at lw_ms 28 rfl) rfl
theorem qs29 : (Cond.selects "WheelTables" ⟨"WheelTables", "alarms", "(II)V"⟩ ⟨"WheelTables", "alarms", "(II)V"⟩) ∈ lw_all := lw_g (lw_at lw_ms 29 rfl) rfl
theorem qs30 : (Cond.selects "WheelTables" ⟨"WheelTables", "least", "(J)I"⟩ ⟨"WheelTables", "least", "(J)I"⟩) ∈ lw_all := lw_g (lw_at lw_ms 30 rfl) rfl
theorem qs31 : (Cond.selects "WheelTables" ⟨"WheelTables", "divides", "(LWheelTables$Card;JJI)V"⟩ ⟨"WheelTables", "divides", "(LWheelTables$Card;JJI)V"⟩) ∈ lw_all := lw_g (lw_at lw_ms 31 rfl) rfl
theorem qs32 : (Cond.selects "WheelTables" ⟨"WheelTables", "prints", "(JI)V"⟩ ⟨"WheelTables", "prints", "(JI)V"⟩) ∈ lw_all := lw_g (lw_at lw_ms 32 rfl) rfl
theorem qs33 : (Cond.selects "WheelTables" ⟨"WheelTables", "stands", "(LWheelTables$Card;)Z"⟩ ⟨"WheelTables", "stands", "(LWheelTables$Card;)Z"⟩) ∈ lw_all := lw_g (lw_at lw_ms 33 rfl) rfl
theorem qs34 : (Cond.selects "WheelTables" ⟨"WheelTables", "areAll", "(II)Z"⟩ ⟨"WheelTables", "areAll", "(II)Z"⟩) ∈ lw_all := lw_g (lw_at lw_ms 34 rfl) rfl
theorem qs35 : (Cond.selects "WheelTables" ⟨"WheelTables", "isSmoothAt", "(I)Z"⟩ ⟨"WheelTables", "isSmoothAt", "(I)Z"⟩) ∈ lw_all := lw_g (lw_at lw_ms 35 rfl) rfl
theorem qs36 : (Cond.selects "WheelTables" ⟨"WheelTables", "found", "(IIII)V"⟩ ⟨"WheelTables", "found", "(IIII)V"⟩) ∈ lw_all := lw_g (lw_at lw_ms 36 rfl) rfl
theorem qs37 : (Cond.selects "WheelTables" ⟨"WheelTables", "oneRight", "()Z"⟩ ⟨"WheelTables", "oneRight", "()Z"⟩) ∈ lw_all := lw_g (lw_at lw_ms 37 rfl) rfl
theorem qs38 : (Cond.selects "WheelTables" ⟨"WheelTables", "corrects", "(II)V"⟩ ⟨"WheelTables", "corrects", "(II)V"⟩) ∈ lw_all := lw_g (lw_at lw_ms 38 rfl) rfl
theorem qs39 : (Cond.selects "WheelTables" ⟨"WheelTables", "adds", "(II)V"⟩ ⟨"WheelTables", "adds", "(II)V"⟩) ∈ lw_all := lw_g (lw_at lw_ms 39 rfl) rfl
theorem qs40 : (Cond.selects "WheelTables" ⟨"WheelTables", "isSmoothBy", "(I)Z"⟩ ⟨"WheelTables", "isSmoothBy", "(I)Z"⟩) ∈ lw_all := lw_g (lw_at lw_ms 40 rfl) rfl
theorem qs41 : (Cond.selects "WheelTables" ⟨"WheelTables", "twoRight", "()Z"⟩ ⟨"WheelTables", "twoRight", "()Z"⟩) ∈ lw_all := lw_g (lw_at lw_ms 41 rfl) rfl
theorem qs42 : (Cond.selects "WheelTables" ⟨"WheelTables", "pairRight", "(II)Z"⟩ ⟨"WheelTables", "pairRight", "(II)Z"⟩) ∈ lw_all := lw_g (lw_at lw_ms 42 rfl) rfl
theorem qs43 : (Cond.selects "WheelTables" ⟨"WheelTables", "copies", "()I"⟩ ⟨"WheelTables", "copies", "()I"⟩) ∈ lw_all := lw_g (lw_at lw_ms 43 rfl) rfl
theorem qs44 : (Cond.selects "WheelTables" ⟨"WheelTables", "isCopy", "(I)Z"⟩ ⟨"WheelTables", "isCopy", "(I)Z"⟩) ∈ lw_all := lw_g (lw_at lw_ms 44 rfl) rfl
theorem qs45 : (Cond.selects "WheelTables" ⟨"WheelTables", "printingOf", "(I)I"⟩ ⟨"WheelTables", "printingOf", "(I)I"⟩) ∈ lw_all := lw_g (lw_at lw_ms 45 rfl) rfl
theorem qs46 : (Cond.selects "WheelTables" ⟨"WheelTables", "saidBy", "(II)I"⟩ ⟨"WheelTables", "saidBy", "(II)I"⟩) ∈ lw_all := lw_g (lw_at lw_ms 46 rfl) rfl
theorem qs47 : (Cond.selects "WheelTables" ⟨"WheelTables", "wrongIn", "(II)I"⟩ ⟨"WheelTables", "wrongIn", "(II)I"⟩) ∈ lw_all := lw_g (lw_at lw_ms 47 rfl) rfl
theorem qs48 : (Cond.selects "WheelTables" ⟨"WheelTables", "hasParts", "()Z"⟩ ⟨"WheelTables", "hasParts", "()Z"⟩) ∈ lw_all := lw_g (lw_at lw_ms 48 rfl) rfl
theorem qs49 : (Cond.selects "WheelTables" ⟨"WheelTables", "parts", "(II)V"⟩ ⟨"WheelTables", "parts", "(II)V"⟩) ∈ lw_all := lw_g (lw_at lw_ms 49 rfl) rfl
theorem qs50 : (Cond.selects "WheelTablesModel" ⟨"WheelTablesModel", "no", "(I)Z"⟩ ⟨"WheelTablesModel", "no", "(I)Z"⟩) ∈ lw_all := lw_g (lw_at lw_ms 50 rfl) rfl
theorem qs51 : (Cond.selects "WheelTablesModel" ⟨"WheelTablesModel", "placed", "(II)I"⟩ ⟨"WheelTablesModel", "placed", "(II)I"⟩) ∈ lw_all := lw_g (lw_at lw_ms 51 rfl) rfl
theorem qs52 : (Cond.selects "WheelTablesModel" ⟨"WheelTablesModel", "trayed", "(I)I"⟩ ⟨"WheelTablesModel", "trayed", "(I)I"⟩) ∈ lw_all := lw_g (lw_at lw_ms 52 rfl) rfl
theorem qs53 : (Cond.selects "WheelTablesModel" ⟨"WheelTablesModel", "refuse", "(I)I"⟩ ⟨"WheelTablesModel", "refuse", "(I)I"⟩) ∈ lw_all := lw_g (lw_at lw_ms 53 rfl) rfl
theorem qs54 : (Cond.selects "WheelTablesModel" ⟨"WheelTablesModel", "numberOf", "(II)J"⟩ ⟨"WheelTablesModel", "numberOf", "(II)J"⟩) ∈ lw_all := lw_g (lw_at lw_ms 54 rfl) rfl
theorem qs55 : (Cond.selects "WheelTablesModel" ⟨"WheelTablesModel", "isWheel", "(III)Z"⟩ ⟨"WheelTablesModel", "isWheel", "(III)Z"⟩) ∈ lw_all := lw_g (lw_at lw_ms 55 rfl) rfl
theorem qs56 : (Cond.selects "WheelTablesModel" ⟨"WheelTablesModel", "isEngine", "(I)Z"⟩ ⟨"WheelTablesModel", "isEngine", "(I)Z"⟩) ∈ lw_all := lw_g (lw_at lw_ms 56 rfl) rfl
theorem qs57 : (Cond.selects "WheelTablesModel" ⟨"WheelTablesModel", "onAxis", "(II)J"⟩ ⟨"WheelTablesModel", "onAxis", "(II)J"⟩) ∈ lw_all := lw_g (lw_at lw_ms 57 rfl) rfl
theorem qs58 : (Cond.selects "WheelTablesModel" ⟨"WheelTablesModel", "back", "(I)V"⟩ ⟨"WheelTablesModel", "back", "(I)V"⟩) ∈ lw_all := lw_g (lw_at lw_ms 58 rfl) rfl
theorem qs59 : (Cond.selects "WheelTablesModel" ⟨"WheelTablesModel", "ahead", "(II)V"⟩ ⟨"WheelTablesModel", "ahead", "(II)V"⟩) ∈ lw_all := lw_g (lw_at lw_ms 59 rfl) rfl
theorem qs60 : (Cond.selects "WheelTablesModel" ⟨"WheelTablesModel", "turnOne", "(IIZ)V"⟩ ⟨"WheelTablesModel", "turnOne", "(IIZ)V"⟩) ∈ lw_all := lw_g (lw_at lw_ms 60 rfl) rfl
theorem qs61 : (Cond.selects "WheelTablesModel" ⟨"WheelTablesModel", "adds", "(IIIZ)V"⟩ ⟨"WheelTablesModel", "adds", "(IIIZ)V"⟩) ∈ lw_all := lw_g (lw_at lw_ms 61 rfl) rfl
theorem qs62 : (Cond.selects "WheelTablesModel" ⟨"WheelTablesModel", "mishapped", "(IIIIIZ)I"⟩ ⟨"WheelTablesModel", "mishapped", "(IIIIIZ)I"⟩) ∈ lw_all := lw_g (lw_at lw_ms 62 rfl) rfl
theorem qs63 : (Cond.selects "WheelTablesModel" ⟨"WheelTablesModel", "asksSheet", "(III)I"⟩ ⟨"WheelTablesModel", "asksSheet", "(III)I"⟩) ∈ lw_all := lw_g (lw_at lw_ms 63 rfl) rfl
theorem qs64 : (Cond.selects "WheelTablesModel" ⟨"WheelTablesModel", "shows", "(III)Z"⟩ ⟨"WheelTablesModel", "shows", "(III)Z"⟩) ∈ lw_all := lw_g (lw_at lw_ms 64 rfl) rfl
theorem qs65 : (Cond.selects "WheelTablesModel" ⟨"WheelTablesModel", "isEnough", "(IIIJI)Z"⟩ ⟨"WheelTablesModel", "isEnough", "(IIIJI)Z"⟩) ∈ lw_all := lw_g (lw_at lw_ms 65 rfl) rfl
theorem qs66 : (Cond.selects "WheelTablesModel" ⟨"WheelTablesModel", "atPart", "(III)J"⟩ ⟨"WheelTablesModel", "atPart", "(III)J"⟩) ∈ lw_all := lw_g (lw_at lw_ms 66 rfl) rfl
theorem qs67 : (Cond.selects "WheelTablesModel" ⟨"WheelTablesModel", "lay", "(I)V"⟩ ⟨"WheelTablesModel", "lay", "(I)V"⟩) ∈ lw_all := lw_g (lw_at lw_ms 67 rfl) rfl
theorem qs68 : (Cond.selects "WheelTablesModel" ⟨"WheelTablesModel", "next", "()V"⟩ ⟨"WheelTablesModel", "next", "()V"⟩) ∈ lw_all := lw_g (lw_at lw_ms 68 rfl) rfl
theorem qs69 : (Cond.selects "WheelTablesModel" ⟨"WheelTablesModel", "look", "(I)I"⟩ ⟨"WheelTablesModel", "look", "(I)I"⟩) ∈ lw_all := lw_g (lw_at lw_ms 69 rfl) rfl
theorem qs70 : (Cond.selects "WheelTablesModel" ⟨"WheelTablesModel", "readCard", "()V"⟩ ⟨"WheelTablesModel", "readCard", "()V"⟩) ∈ lw_all := lw_g (lw_at lw_ms 70 rfl) rfl
theorem qs71 : (Cond.selects "WheelTablesModel" ⟨"WheelTablesModel", "cardKind", "()I"⟩ ⟨"WheelTablesModel", "cardKind", "()I"⟩) ∈ lw_all := lw_g (lw_at lw_ms 71 rfl) rfl
theorem qs72 : (Cond.selects "WheelTablesModel" ⟨"WheelTablesModel", "isWord", "(J)Z"⟩ ⟨"WheelTablesModel", "isWord", "(J)Z"⟩) ∈ lw_all := lw_g (lw_at lw_ms 72 rfl) rfl
theorem qs73 : (Cond.selects "WheelTablesModel" ⟨"WheelTablesModel", "wrong", "()V"⟩ ⟨"WheelTablesModel", "wrong", "()V"⟩) ∈ lw_all := lw_g (lw_at lw_ms 73 rfl) rfl
theorem qs74 : (Cond.selects "WheelTablesModel" ⟨"WheelTablesModel", "fail", "(II)V"⟩ ⟨"WheelTablesModel", "fail", "(II)V"⟩) ∈ lw_all := lw_g (lw_at lw_ms 74 rfl) rfl
theorem qs75 : (Cond.selects "WheelTablesModel" ⟨"WheelTablesModel", "readJump", "(I)V"⟩ ⟨"WheelTablesModel", "readJump", "(I)V"⟩) ∈ lw_all := lw_g (lw_at lw_ms 75 rfl) rfl
theorem qs76 : (Cond.selects "WheelTablesModel" ⟨"WheelTablesModel", "count", "(II)I"⟩ ⟨"WheelTablesModel", "count", "(II)I"⟩) ∈ lw_all := lw_g (lw_at lw_ms 76 rfl) rfl
theorem qs77 : (Cond.selects "WheelTablesModel" ⟨"WheelTablesModel", "readWhole", "(I)V"⟩ ⟨"WheelTablesModel", "readWhole", "(I)V"⟩) ∈ lw_all := lw_g (lw_at lw_ms 77 rfl) rfl
theorem qs78 : (Cond.selects "WheelTablesModel" ⟨"WheelTablesModel", "isSign", "(I)Z"⟩ ⟨"WheelTablesModel", "isSign", "(I)Z"⟩) ∈ lw_all := lw_g (lw_at lw_ms 78 rfl) rfl
theorem qs79 : (Cond.selects "WheelTablesModel" ⟨"WheelTablesModel", "alarms", "(I)I"⟩ ⟨"WheelTablesModel", "alarms", "(I)I"⟩) ∈ lw_all := lw_g (lw_at lw_ms 79 rfl) rfl
theorem qs80 : (Cond.selects "WheelTablesModel" ⟨"WheelTablesModel", "does", "(I)I"⟩ ⟨"WheelTablesModel", "does", "(I)I"⟩) ∈ lw_all := lw_g (lw_at lw_ms 80 rfl) rfl
theorem qs81 : (Cond.selects "WheelTablesModel" ⟨"WheelTablesModel", "comes", "(IJ)V"⟩ ⟨"WheelTablesModel", "comes", "(IJ)V"⟩) ∈ lw_all := lw_g (lw_at lw_ms 81 rfl) rfl
theorem qs82 : (Cond.selects "WheelTablesModel" ⟨"WheelTablesModel", "fewest", "(J)I"⟩ ⟨"WheelTablesModel", "fewest", "(J)I"⟩) ∈ lw_all := lw_g (lw_at lw_ms 82 rfl) rfl
theorem qs83 : (Cond.selects "WheelTablesModel" ⟨"WheelTablesModel", "corrects", "(I)V"⟩ ⟨"WheelTablesModel", "corrects", "(I)V"⟩) ∈ lw_all := lw_g (lw_at lw_ms 83 rfl) rfl
theorem qs84 : (Cond.selects "WheelTablesModel" ⟨"WheelTablesModel", "varies", "(II)V"⟩ ⟨"WheelTablesModel", "varies", "(II)V"⟩) ∈ lw_all := lw_g (lw_at lw_ms 84 rfl) rfl
theorem qs85 : (Cond.selects "WheelTablesModel" ⟨"WheelTablesModel", "isSmooth", "(III)Z"⟩ ⟨"WheelTablesModel", "isSmooth", "(III)Z"⟩) ∈ lw_all := lw_g (lw_at lw_ms 85 rfl) rfl
theorem qs86 : (Cond.selects "WheelTablesModel" ⟨"WheelTablesModel", "corrected", "(IIIII)Z"⟩ ⟨"WheelTablesModel", "corrected", "(IIIII)Z"⟩) ∈ lw_all := lw_g (lw_at lw_ms 86 rfl) rfl
theorem qs87 : (Cond.selects "WheelTablesModel" ⟨"WheelTablesModel", "isElsewhere", "(IIIII)Z"⟩ ⟨"WheelTablesModel", "isElsewhere", "(IIIII)Z"⟩) ∈ lw_all := lw_g (lw_at lw_ms 87 rfl) rfl
theorem qs88 : (Cond.selects "WheelTablesModel" ⟨"WheelTablesModel", "isCopy", "(I)Z"⟩ ⟨"WheelTablesModel", "isCopy", "(I)Z"⟩) ∈ lw_all := lw_g (lw_at lw_ms 88 rfl) rfl
theorem qs89 : (Cond.selects "WheelTablesModel" ⟨"WheelTablesModel", "printingOf", "(I)I"⟩ ⟨"WheelTablesModel", "printingOf", "(I)I"⟩) ∈ lw_all := lw_g (lw_at lw_ms 89 rfl) rfl
theorem qs90 : (Cond.selects "WheelTablesModel" ⟨"WheelTablesModel", "saysOf", "(II)I"⟩ ⟨"WheelTablesModel", "saysOf", "(II)I"⟩) ∈ lw_all := lw_g (lw_at lw_ms 90 rfl) rfl
theorem qs91 : (Cond.selects "WheelTablesModel" ⟨"WheelTablesModel", "wrongOf", "(II)I"⟩ ⟨"WheelTablesModel", "wrongOf", "(II)I"⟩) ∈ lw_all := lw_g (lw_at lw_ms 91 rfl) rfl
theorem qs92 : (Cond.selects "WheelTablesModel" ⟨"WheelTablesModel", "parts", "()I"⟩ ⟨"WheelTablesModel", "parts", "()I"⟩) ∈ lw_all := lw_g (lw_at lw_ms 92 rfl) rfl
theorem qs93 : (Cond.selects "WheelTablesModel" ⟨"WheelTablesModel", "mostOf", "()I"⟩ ⟨"WheelTablesModel", "mostOf", "()I"⟩) ∈ lw_all := lw_g (lw_at lw_ms 93 rfl) rfl
-- ===== end of PART A; then your names; then what follows =====
