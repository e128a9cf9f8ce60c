-- ===== PART A: goes FIRST, ahead of the names: the tables' words, and 'selects' of the private methods out of them =====
/-- a private method of a class that the tables say can be made, by its rows of tables_1 -/
def lw_okq (q : MethodName × Nat) : Prop := (q.1.cls ≠ "java/lang/invoke/MethodHandle" ∧ q.1.cls ≠ "java/lang/invoke/VarHandle") ∧ Cond.instantiable q.1.cls q.2 ∈ tables_1 ∧ Cond.privateMethod q.1 ∈ tables_1 ∧ Cond.instanceMethod q.1 ∈ tables_1
set_option maxRecDepth 100000
theorem lw_t1 {w : Cond} (h : w ∈ tables_1_1) : w ∈ tables_1 := List.mem_append_left _ h
theorem lw_t2 {w : Cond} (h : w ∈ tables_1_2) : w ∈ tables_1 := List.mem_append_right _ (List.mem_append_left _ h)
theorem lw_t3 {w : Cond} (h : w ∈ tables_1_3) : w ∈ tables_1 := List.mem_append_right _ (List.mem_append_right _ (List.mem_append_left _ h))
theorem lw_t4 {w : Cond} (h : w ∈ tables_1_4) : w ∈ tables_1 := List.mem_append_right _ (List.mem_append_right _ (List.mem_append_right _ h))
theorem lw_p0 : lw_okq (⟨"CamFigures", "refuse", "(I)I"⟩, 23) := ⟨⟨by decide +kernel, by decide +kernel⟩, lw_t1 (List.mem_of_getElem? (i := 18) rfl), lw_t1 (List.mem_of_getElem? (i := 158) rfl), lw_t1 (List.mem_of_getElem? (i := 159) rfl)⟩
theorem lw_p1 : lw_okq (⟨"CamFigures", "camAt", "(I)LCamFigures$Cam;"⟩, 23) := ⟨⟨by decide +kernel, by decide +kernel⟩, lw_t1 (List.mem_of_getElem? (i := 18) rfl), lw_t1 (List.mem_of_getElem? (i := 188) rfl), lw_t1 (List.mem_of_getElem? (i := 189) rfl)⟩
theorem lw_p2 : lw_okq (⟨"java/lang/Throwable", "fillInStackTrace", "(I)Ljava/lang/Throwable;"⟩, 6) := ⟨⟨by decide +kernel, by decide +kernel⟩, lw_t1 (List.mem_of_getElem? (i := 227) rfl), lw_t1 (List.mem_of_getElem? (i := 225) rfl), lw_t1 (List.mem_of_getElem? (i := 226) rfl)⟩
theorem lw_p3 : lw_okq (⟨"CamFigures", "steps", "(II)V"⟩, 23) := ⟨⟨by decide +kernel, by decide +kernel⟩, lw_t1 (List.mem_of_getElem? (i := 18) rfl), lw_t2 (List.mem_of_getElem? (i := 23) rfl), lw_t2 (List.mem_of_getElem? (i := 24) rfl)⟩
theorem lw_p4 : lw_okq (⟨"CamFigures", "blanksTo", "(I)I"⟩, 23) := ⟨⟨by decide +kernel, by decide +kernel⟩, lw_t1 (List.mem_of_getElem? (i := 18) rfl), lw_t2 (List.mem_of_getElem? (i := 50) rfl), lw_t2 (List.mem_of_getElem? (i := 51) rfl)⟩
theorem lw_p5 : lw_okq (⟨"CamFigures", "leastOf", "(I)I"⟩, 23) := ⟨⟨by decide +kernel, by decide +kernel⟩, lw_t1 (List.mem_of_getElem? (i := 18) rfl), lw_t2 (List.mem_of_getElem? (i := 54) rfl), lw_t2 (List.mem_of_getElem? (i := 55) rfl)⟩
theorem lw_p6 : lw_okq (⟨"CamFigures", "isCutLetter", "(LCamFigures$Letter;)Z"⟩, 23) := ⟨⟨by decide +kernel, by decide +kernel⟩, lw_t1 (List.mem_of_getElem? (i := 18) rfl), lw_t2 (List.mem_of_getElem? (i := 84) rfl), lw_t2 (List.mem_of_getElem? (i := 85) rfl)⟩
theorem lw_p7 : lw_okq (⟨"CamFigures", "areCut", "()Z"⟩, 23) := ⟨⟨by decide +kernel, by decide +kernel⟩, lw_t1 (List.mem_of_getElem? (i := 18) rfl), lw_t2 (List.mem_of_getElem? (i := 115) rfl), lw_t2 (List.mem_of_getElem? (i := 116) rfl)⟩
theorem lw_p8 : lw_okq (⟨"CamFigures", "part", "(I)LCamFigures$Part;"⟩, 23) := ⟨⟨by decide +kernel, by decide +kernel⟩, lw_t1 (List.mem_of_getElem? (i := 18) rfl), lw_t2 (List.mem_of_getElem? (i := 121) rfl), lw_t2 (List.mem_of_getElem? (i := 122) rfl)⟩
theorem lw_p9 : lw_okq (⟨"CamFigures", "goes", "()Z"⟩, 23) := ⟨⟨by decide +kernel, by decide +kernel⟩, lw_t1 (List.mem_of_getElem? (i := 18) rfl), lw_t2 (List.mem_of_getElem? (i := 170) rfl), lw_t2 (List.mem_of_getElem? (i := 171) rfl)⟩
theorem lw_p10 : lw_okq (⟨"CamFigures$Pen", "read", "(II)I"⟩, 8) := ⟨⟨by decide +kernel, by decide +kernel⟩, lw_t2 (List.mem_of_getElem? (i := 119) rfl), lw_t2 (List.mem_of_getElem? (i := 178) rfl), lw_t2 (List.mem_of_getElem? (i := 179) rfl)⟩
theorem lw_p11 : lw_okq (⟨"CamFigures$Pen", "line", "(IIII)V"⟩, 8) := ⟨⟨by decide +kernel, by decide +kernel⟩, lw_t2 (List.mem_of_getElem? (i := 119) rfl), lw_t2 (List.mem_of_getElem? (i := 226) rfl), lw_t2 (List.mem_of_getElem? (i := 227) rfl)⟩
theorem lw_p12 : lw_okq (⟨"CamFigures", "told", "()I"⟩, 23) := ⟨⟨by decide +kernel, by decide +kernel⟩, lw_t1 (List.mem_of_getElem? (i := 18) rfl), lw_t3 (List.mem_of_getElem? (i := 50) rfl), lw_t3 (List.mem_of_getElem? (i := 51) rfl)⟩
theorem lw_p13 : lw_okq (⟨"CamFigures", "looks", "()V"⟩, 23) := ⟨⟨by decide +kernel, by decide +kernel⟩, lw_t1 (List.mem_of_getElem? (i := 18) rfl), lw_t3 (List.mem_of_getElem? (i := 58) rfl), lw_t3 (List.mem_of_getElem? (i := 59) rfl)⟩
theorem lw_p14 : lw_okq (⟨"CamFigures", "explains", "(LCamFigures$Part;LCamFigures$Part;LCamFigures$Part;)Z"⟩, 23) := ⟨⟨by decide +kernel, by decide +kernel⟩, lw_t1 (List.mem_of_getElem? (i := 18) rfl), lw_t3 (List.mem_of_getElem? (i := 62) rfl), lw_t3 (List.mem_of_getElem? (i := 63) rfl)⟩
theorem lw_p15 : lw_okq (⟨"CamFigures", "finds", "(IIZ)V"⟩, 23) := ⟨⟨by decide +kernel, by decide +kernel⟩, lw_t1 (List.mem_of_getElem? (i := 18) rfl), lw_t3 (List.mem_of_getElem? (i := 76) rfl), lw_t3 (List.mem_of_getElem? (i := 77) rfl)⟩
def lw_privs_1 : List (MethodName × Nat) := [(⟨"CamFigures", "refuse", "(I)I"⟩, 23), (⟨"CamFigures", "camAt", "(I)LCamFigures$Cam;"⟩, 23), (⟨"java/lang/Throwable", "fillInStackTrace", "(I)Ljava/lang/Throwable;"⟩, 6), (⟨"CamFigures", "steps", "(II)V"⟩, 23), (⟨"CamFigures", "blanksTo", "(I)I"⟩, 23), (⟨"CamFigures", "leastOf", "(I)I"⟩, 23), (⟨"CamFigures", "isCutLetter", "(LCamFigures$Letter;)Z"⟩, 23), (⟨"CamFigures", "areCut", "()Z"⟩, 23), (⟨"CamFigures", "part", "(I)LCamFigures$Part;"⟩, 23), (⟨"CamFigures", "goes", "()Z"⟩, 23), (⟨"CamFigures$Pen", "read", "(II)I"⟩, 8), (⟨"CamFigures$Pen", "line", "(IIII)V"⟩, 8), (⟨"CamFigures", "told", "()I"⟩, 23), (⟨"CamFigures", "looks", "()V"⟩, 23), (⟨"CamFigures", "explains", "(LCamFigures$Part;LCamFigures$Part;LCamFigures$Part;)Z"⟩, 23), (⟨"CamFigures", "finds", "(IIZ)V"⟩, 23)]
theorem lw_r1 : ∀ q ∈ lw_privs_1, lw_okq q := List.forall_mem_cons.mpr ⟨lw_p0, List.forall_mem_cons.mpr ⟨lw_p1, List.forall_mem_cons.mpr ⟨lw_p2, List.forall_mem_cons.mpr ⟨lw_p3, List.forall_mem_cons.mpr ⟨lw_p4, List.forall_mem_cons.mpr ⟨lw_p5, List.forall_mem_cons.mpr ⟨lw_p6, List.forall_mem_cons.mpr ⟨lw_p7, List.forall_mem_cons.mpr ⟨lw_p8, List.forall_mem_cons.mpr ⟨lw_p9, List.forall_mem_cons.mpr ⟨lw_p10, List.forall_mem_cons.mpr ⟨lw_p11, List.forall_mem_cons.mpr ⟨lw_p12, List.forall_mem_cons.mpr ⟨lw_p13, List.forall_mem_cons.mpr ⟨lw_p14, List.forall_mem_cons.mpr ⟨lw_p15, fun _ h => absurd h List.not_mem_nil⟩⟩⟩⟩⟩⟩⟩⟩⟩⟩⟩⟩⟩⟩⟩⟩
theorem lw_p16 : lw_okq (⟨"CamFigures", "likeOf", "(LCamFigures$Cam;I)I"⟩, 23) := ⟨⟨by decide +kernel, by decide +kernel⟩, lw_t1 (List.mem_of_getElem? (i := 18) rfl), lw_t3 (List.mem_of_getElem? (i := 92) rfl), lw_t3 (List.mem_of_getElem? (i := 93) rfl)⟩
theorem lw_p17 : lw_okq (⟨"CamFiguresModel", "clearPaper", "()V"⟩, 32) := ⟨⟨by decide +kernel, by decide +kernel⟩, lw_t3 (List.mem_of_getElem? (i := 105) rfl), lw_t3 (List.mem_of_getElem? (i := 111) rfl), lw_t3 (List.mem_of_getElem? (i := 112) rfl)⟩
theorem lw_p18 : lw_okq (⟨"CamFiguresModel", "refuse", "(I)I"⟩, 32) := ⟨⟨by decide +kernel, by decide +kernel⟩, lw_t3 (List.mem_of_getElem? (i := 105) rfl), lw_t3 (List.mem_of_getElem? (i := 216) rfl), lw_t3 (List.mem_of_getElem? (i := 217) rfl)⟩
theorem lw_p19 : lw_okq (⟨"CamFiguresModel", "lacks", "(I)I"⟩, 32) := ⟨⟨by decide +kernel, by decide +kernel⟩, lw_t3 (List.mem_of_getElem? (i := 105) rfl), lw_t3 (List.mem_of_getElem? (i := 234) rfl), lw_t3 (List.mem_of_getElem? (i := 235) rfl)⟩
theorem lw_p20 : lw_okq (⟨"CamFiguresModel", "findBlanks", "()I"⟩, 32) := ⟨⟨by decide +kernel, by decide +kernel⟩, lw_t3 (List.mem_of_getElem? (i := 105) rfl), lw_t4 (List.mem_of_getElem? (i := 18) rfl), lw_t4 (List.mem_of_getElem? (i := 19) rfl)⟩
theorem lw_p21 : lw_okq (⟨"CamFiguresModel", "turnedBy", "(II)I"⟩, 32) := ⟨⟨by decide +kernel, by decide +kernel⟩, lw_t3 (List.mem_of_getElem? (i := 105) rfl), lw_t4 (List.mem_of_getElem? (i := 22) rfl), lw_t4 (List.mem_of_getElem? (i := 23) rfl)⟩
theorem lw_p22 : lw_okq (⟨"CamFiguresModel", "smoothOf", "(I)I"⟩, 32) := ⟨⟨by decide +kernel, by decide +kernel⟩, lw_t3 (List.mem_of_getElem? (i := 105) rfl), lw_t4 (List.mem_of_getElem? (i := 30) rfl), lw_t4 (List.mem_of_getElem? (i := 31) rfl)⟩
theorem lw_p23 : lw_okq (⟨"CamFiguresModel", "isCutLetter", "(I)Z"⟩, 32) := ⟨⟨by decide +kernel, by decide +kernel⟩, lw_t3 (List.mem_of_getElem? (i := 105) rfl), lw_t4 (List.mem_of_getElem? (i := 42) rfl), lw_t4 (List.mem_of_getElem? (i := 43) rfl)⟩
theorem lw_p24 : lw_okq (⟨"CamFiguresModel", "areCut", "()Z"⟩, 32) := ⟨⟨by decide +kernel, by decide +kernel⟩, lw_t3 (List.mem_of_getElem? (i := 105) rfl), lw_t4 (List.mem_of_getElem? (i := 70) rfl), lw_t4 (List.mem_of_getElem? (i := 71) rfl)⟩
theorem lw_p25 : lw_okq (⟨"CamFiguresModel", "holdFaults", "(III)V"⟩, 32) := ⟨⟨by decide +kernel, by decide +kernel⟩, lw_t3 (List.mem_of_getElem? (i := 105) rfl), lw_t4 (List.mem_of_getElem? (i := 74) rfl), lw_t4 (List.mem_of_getElem? (i := 75) rfl)⟩
theorem lw_p26 : lw_okq (⟨"CamFiguresModel", "newMarks", "()V"⟩, 32) := ⟨⟨by decide +kernel, by decide +kernel⟩, lw_t3 (List.mem_of_getElem? (i := 105) rfl), lw_t4 (List.mem_of_getElem? (i := 78) rfl), lw_t4 (List.mem_of_getElem? (i := 79) rfl)⟩
theorem lw_p27 : lw_okq (⟨"CamFiguresModel", "write", "(II)V"⟩, 32) := ⟨⟨by decide +kernel, by decide +kernel⟩, lw_t3 (List.mem_of_getElem? (i := 105) rfl), lw_t4 (List.mem_of_getElem? (i := 82) rfl), lw_t4 (List.mem_of_getElem? (i := 83) rfl)⟩
theorem lw_p28 : lw_okq (⟨"CamFiguresModel", "isDown", "(II)Z"⟩, 32) := ⟨⟨by decide +kernel, by decide +kernel⟩, lw_t3 (List.mem_of_getElem? (i := 105) rfl), lw_t4 (List.mem_of_getElem? (i := 86) rfl), lw_t4 (List.mem_of_getElem? (i := 87) rfl)⟩
theorem lw_p29 : lw_okq (⟨"CamFiguresModel", "heightOf", "(II)I"⟩, 32) := ⟨⟨by decide +kernel, by decide +kernel⟩, lw_t3 (List.mem_of_getElem? (i := 105) rfl), lw_t4 (List.mem_of_getElem? (i := 90) rfl), lw_t4 (List.mem_of_getElem? (i := 91) rfl)⟩
theorem lw_p30 : lw_okq (⟨"CamFiguresModel", "xAt", "(II)I"⟩, 32) := ⟨⟨by decide +kernel, by decide +kernel⟩, lw_t3 (List.mem_of_getElem? (i := 105) rfl), lw_t4 (List.mem_of_getElem? (i := 94) rfl), lw_t4 (List.mem_of_getElem? (i := 95) rfl)⟩
theorem lw_p31 : lw_okq (⟨"CamFiguresModel", "yAt", "(II)I"⟩, 32) := ⟨⟨by decide +kernel, by decide +kernel⟩, lw_t3 (List.mem_of_getElem? (i := 105) rfl), lw_t4 (List.mem_of_getElem? (i := 98) rfl), lw_t4 (List.mem_of_getElem? (i := 99) rfl)⟩
def lw_privs_2 : List (MethodName × Nat) := [(⟨"CamFigures", "likeOf", "(LCamFigures$Cam;I)I"⟩, 23), (⟨"CamFiguresModel", "clearPaper", "()V"⟩, 32), (⟨"CamFiguresModel", "refuse", "(I)I"⟩, 32), (⟨"CamFiguresModel", "lacks", "(I)I"⟩, 32), (⟨"CamFiguresModel", "findBlanks", "()I"⟩, 32), (⟨"CamFiguresModel", "turnedBy", "(II)I"⟩, 32), (⟨"CamFiguresModel", "smoothOf", "(I)I"⟩, 32), (⟨"CamFiguresModel", "isCutLetter", "(I)Z"⟩, 32), (⟨"CamFiguresModel", "areCut", "()Z"⟩, 32), (⟨"CamFiguresModel", "holdFaults", "(III)V"⟩, 32), (⟨"CamFiguresModel", "newMarks", "()V"⟩, 32), (⟨"CamFiguresModel", "write", "(II)V"⟩, 32), (⟨"CamFiguresModel", "isDown", "(II)Z"⟩, 32), (⟨"CamFiguresModel", "heightOf", "(II)I"⟩, 32), (⟨"CamFiguresModel", "xAt", "(II)I"⟩, 32), (⟨"CamFiguresModel", "yAt", "(II)I"⟩, 32)]
theorem lw_r2 : ∀ q ∈ lw_privs_2, lw_okq q := List.forall_mem_cons.mpr ⟨lw_p16, List.forall_mem_cons.mpr ⟨lw_p17, List.forall_mem_cons.mpr ⟨lw_p18, List.forall_mem_cons.mpr ⟨lw_p19, List.forall_mem_cons.mpr ⟨lw_p20, List.forall_mem_cons.mpr ⟨lw_p21, List.forall_mem_cons.mpr ⟨lw_p22, List.forall_mem_cons.mpr ⟨lw_p23, List.forall_mem_cons.mpr ⟨lw_p24, List.forall_mem_cons.mpr ⟨lw_p25, List.forall_mem_cons.mpr ⟨lw_p26, List.forall_mem_cons.mpr ⟨lw_p27, List.forall_mem_cons.mpr ⟨lw_p28, List.forall_mem_cons.mpr ⟨lw_p29, List.forall_mem_cons.mpr ⟨lw_p30, List.forall_mem_cons.mpr ⟨lw_p31, fun _ h => absurd h List.not_mem_nil⟩⟩⟩⟩⟩⟩⟩⟩⟩⟩⟩⟩⟩⟩⟩⟩
theorem lw_p32 : lw_okq (⟨"CamFiguresModel", "mark", "(IIII)V"⟩, 32) := ⟨⟨by decide +kernel, by decide +kernel⟩, lw_t3 (List.mem_of_getElem? (i := 105) rfl), lw_t4 (List.mem_of_getElem? (i := 102) rfl), lw_t4 (List.mem_of_getElem? (i := 103) rfl)⟩
theorem lw_p33 : lw_okq (⟨"CamFiguresModel", "faultMany", "()I"⟩, 32) := ⟨⟨by decide +kernel, by decide +kernel⟩, lw_t3 (List.mem_of_getElem? (i := 105) rfl), lw_t4 (List.mem_of_getElem? (i := 136) rfl), lw_t4 (List.mem_of_getElem? (i := 137) rfl)⟩
theorem lw_p34 : lw_okq (⟨"CamFiguresModel", "findKind", "()I"⟩, 32) := ⟨⟨by decide +kernel, by decide +kernel⟩, lw_t3 (List.mem_of_getElem? (i := 105) rfl), lw_t4 (List.mem_of_getElem? (i := 144) rfl), lw_t4 (List.mem_of_getElem? (i := 145) rfl)⟩
theorem lw_p35 : lw_okq (⟨"CamFiguresModel", "isWritten", "(III)Z"⟩, 32) := ⟨⟨by decide +kernel, by decide +kernel⟩, lw_t3 (List.mem_of_getElem? (i := 105) rfl), lw_t4 (List.mem_of_getElem? (i := 148) rfl), lw_t4 (List.mem_of_getElem? (i := 149) rfl)⟩
theorem lw_p36 : lw_okq (⟨"CamFiguresModel", "timesIn", "(II)I"⟩, 32) := ⟨⟨by decide +kernel, by decide +kernel⟩, lw_t3 (List.mem_of_getElem? (i := 105) rfl), lw_t4 (List.mem_of_getElem? (i := 156) rfl), lw_t4 (List.mem_of_getElem? (i := 157) rfl)⟩
theorem lw_p37 : lw_okq (⟨"CamFiguresModel", "likeness", "(II)I"⟩, 32) := ⟨⟨by decide +kernel, by decide +kernel⟩, lw_t3 (List.mem_of_getElem? (i := 105) rfl), lw_t4 (List.mem_of_getElem? (i := 164) rfl), lw_t4 (List.mem_of_getElem? (i := 165) rfl)⟩
def lw_privs_3 : List (MethodName × Nat) := [(⟨"CamFiguresModel", "mark", "(IIII)V"⟩, 32), (⟨"CamFiguresModel", "faultMany", "()I"⟩, 32), (⟨"CamFiguresModel", "findKind", "()I"⟩, 32), (⟨"CamFiguresModel", "isWritten", "(III)Z"⟩, 32), (⟨"CamFiguresModel", "timesIn", "(II)I"⟩, 32), (⟨"CamFiguresModel", "likeness", "(II)I"⟩, 32)]
theorem lw_r3 : ∀ q ∈ lw_privs_3, lw_okq q := List.forall_mem_cons.mpr ⟨lw_p32, List.forall_mem_cons.mpr ⟨lw_p33, List.forall_mem_cons.mpr ⟨lw_p34, List.forall_mem_cons.mpr ⟨lw_p35, List.forall_mem_cons.mpr ⟨lw_p36, List.forall_mem_cons.mpr ⟨lw_p37, fun _ h => absurd h List.not_mem_nil⟩⟩⟩⟩⟩⟩
def lw_privs : List (MethodName × Nat) := lw_privs_1 ++ (lw_privs_2 ++ (lw_privs_3))
def lw_tbl : List Cond := k2_sels lw_privs ++ tables_1
theorem lw_privs_ok : ∀ q ∈ lw_privs, lw_okq q := by
  show ∀ q ∈ lw_privs_1 ++ (lw_privs_2 ++ (lw_privs_3)), lw_okq q
  exact List.forall_mem_append.mpr ⟨lw_r1, List.forall_mem_append.mpr ⟨lw_r2, lw_r3⟩⟩
-- ===== ONE list of words for every method: the tables' words that hold all through a run =====
def lw_all : List Cond := lw_tbl.filter goodWord
/-- a word of the tables by its place: claim/WORDS.tsv -/
theorem lw_w {w : Cond} (i : Nat) (h : lw_tbl[i]? = some w) (g : goodWord w = true) : w ∈ lw_all := List.mem_filter.mpr ⟨List.mem_of_getElem? h, g⟩
theorem lw_all_tbl {w : Cond} (h : w ∈ lw_all) : w ∈ lw_tbl := (List.mem_filter.mp h).1
theorem lw_self : GoodIn lw_all lw_all := fun w h => ⟨h, good_of_word (List.mem_filter.mp h).2⟩
/-- a class's field words, by their places -/
theorem lw_in (ws : List Cond) (ps : List Nat) (hp : ws = ps.filterMap (fun i => lw_tbl[i]?)) (hg : ws.all goodWord = true) : ∀ w ∈ ws, w ∈ lw_all := by
  intro w h
  have h1 := List.all_eq_true.mp hg w h
  rw [hp] at h
  obtain ⟨i, -, hi⟩ := List.mem_filterMap.mp h
  exact lw_w i hi h1
/-- the words of a contract for the method y with code b, L locals, answer r -/
abbrev ws_ (y : MethodName) (b : ByteArray) (L : Nat) (r : Option FieldType) : List Cond := Cond.code y b L r :: lw_all
theorem lw_meth {y : MethodName} {b : ByteArray} {L : Nat} {r : Option FieldType} (h : Cond.code y b L r ∈ lw_all) : GoodIn lw_all (ws_ y b L r) := by
  intro w hw
  rcases List.mem_cons.mp hw with e | e
  · rw [e]
    exact lw_self _ h
  · exact lw_self _ e
theorem lw_app {a c : List Cond} (ha : ∀ w ∈ a, w ∈ lw_all) (hc : GoodIn lw_all c) : GoodIn lw_all (a ++ c) := by
  intro w hw
  rcases List.mem_append.mp hw with e | e
  · exact lw_self w (ha w e)
  · exact hc w e
/-- what a call through an object asks: cwV n hts (lw_V ..) -/
theorem lw_V {own : String} {idx : Nat} {C : String} {y : MethodName} {b : ByteArray} {L : Nat} {r : Option FieldType} (h1 : Cond.methodLink own idx y ∈ lw_all) (h2 : Cond.instanceMethod y ∈ lw_all) (h3 : Cond.selects C y y ∈ lw_all) (h4 : Cond.initialized C ∈ lw_all) (h5 : Cond.code y b L r ∈ lw_all) : GoodIn lw_all (wsV own idx C y (ws_ y b L r)) := by
  refine lw_app ?_ (lw_meth h5)
  intro w hw
  simp only [List.mem_cons, List.not_mem_nil, or_false] at hw
  rcases hw with e | e | e | e
  · rw [e]; exact h1
  · rw [e]; exact h2
  · rw [e]; exact h3
  · rw [e]; exact h4
/-- what a static call asks: va_cwS n hts (lw_S ..) -/
theorem lw_S {own : String} {idx : Nat} {y : MethodName} {b : ByteArray} {L : Nat} {r : Option FieldType} (h1 : Cond.methodLink own idx y ∈ lw_all) (h2 : Cond.static y ∈ lw_all) (h3 : Cond.initialized y.cls ∈ lw_all) (h4 : Cond.code y b L r ∈ lw_all) : GoodIn lw_all (va_wsS own idx y (ws_ y b L r)) := by
  refine lw_app ?_ (lw_meth h4)
  intro w hw
  simp only [List.mem_cons, List.not_mem_nil, or_false] at hw
  rcases hw with e | e | e
  · rw [e]; exact h1
  · rw [e]; exact h2
  · rw [e]; exact h3
/-- the words of a contract for a method WITH HANDLERS (hh: its table) -/
abbrev wsW_ (y : MethodName) (b : ByteArray) (L : Nat) (r : Option FieldType) (hh : List (Nat × Nat × Nat × Nat)) : List Cond := Cond.codeWith y b L r hh :: lw_all
theorem lw_methW {y : MethodName} {b : ByteArray} {L : Nat} {r : Option FieldType} {hh : List (Nat × Nat × Nat × Nat)} (h : Cond.codeWith y b L r hh ∈ lw_all) : GoodIn lw_all (wsW_ y b L r hh) := by
  intro w hw
  rcases List.mem_cons.mp hw with e | e
  · rw [e]
    exact lw_self _ h
  · exact lw_self _ e
/-- any list of words by their places (lw_in), good -/
theorem lw_good {ws : List Cond} (h : ∀ w ∈ ws, w ∈ lw_all) : GoodIn lw_all ws := fun w hw => lw_self w (h w hw)
/-- what a call of a method with handlers asks: vx_cwVW n hts (lw_VW ..), vx_cwSW n hts (lw_SW ..) -/
theorem lw_VW {own : String} {idx : Nat} {C : String} {y : MethodName} {b : ByteArray} {L : Nat} {r : Option FieldType} {hh : List (Nat × Nat × Nat × Nat)} (h1 : Cond.methodLink own idx y ∈ lw_all) (h2 : Cond.instanceMethod y ∈ lw_all) (h3 : Cond.selects C y y ∈ lw_all) (h4 : Cond.initialized C ∈ lw_all) (h5 : Cond.codeWith y b L r hh ∈ lw_all) : GoodIn lw_all (wsV own idx C y (wsW_ y b L r hh)) := by
  refine lw_app ?_ (lw_methW h5)
  intro w hw
  simp only [List.mem_cons, List.not_mem_nil, or_false] at hw
  rcases hw with e | e | e | e
  · rw [e]; exact h1
  · rw [e]; exact h2
  · rw [e]; exact h3
  · rw [e]; exact h4
theorem lw_SW {own : String} {idx : Nat} {y : MethodName} {b : ByteArray} {L : Nat} {r : Option FieldType} {hh : List (Nat × Nat × Nat × Nat)} (h1 : Cond.methodLink own idx y ∈ lw_all) (h2 : Cond.static y ∈ lw_all) (h3 : Cond.initialized y.cls ∈ lw_all) (h4 : Cond.codeWith y b L r hh ∈ lw_all) : GoodIn lw_all (va_wsS own idx y (wsW_ y b L r hh)) := by
  refine lw_app ?_ (lw_methW h4)
  intro w hw
  simp only [List.mem_cons, List.not_mem_nil, or_false] at hw
  rcases hw with e | e | e
  · rw [e]; exact h1
  · rw [e]; exact h2
  · rw [e]; exact h3
/-- a word by its place in its run of the tables -/
theorem lw_at {r : List Cond} (hr : ∀ w ∈ r, w ∈ lw_tbl) {w : Cond} (i : Nat) (h : r[i]? = some w) : w ∈ lw_tbl := hr w (List.mem_of_getElem? h)
theorem lw_g {w : Cond} (h : w ∈ lw_tbl) (g : goodWord w = true) : w ∈ lw_all := List.mem_filter.mpr ⟨h, g⟩
theorem lw_ms : ∀ w ∈ k2_sels lw_privs, w ∈ lw_tbl := fun w h => show w ∈ k2_sels lw_privs ++ tables_1 from List.mem_append_left _ h
theorem lw_m1 : ∀ w ∈ tables_1_1, w ∈ lw_tbl := fun w h => show w ∈ k2_sels lw_privs ++ tables_1 from List.mem_append_right (k2_sels lw_privs) (show w ∈ tables_1 from List.mem_append_left _ h)
theorem lw_m2 : ∀ w ∈ tables_1_2, w ∈ lw_tbl := fun w h => show w ∈ k2_sels lw_privs ++ tables_1 from List.mem_append_right (k2_sels lw_privs) (show w ∈ tables_1 from List.mem_append_right _ (List.mem_append_left _ h))
theorem lw_m3 : ∀ w ∈ tables_1_3, w ∈ lw_tbl := fun w h => show w ∈ k2_sels lw_privs ++ tables_1 from List.mem_append_right (k2_sels lw_privs) (show w ∈ tables_1 from List.mem_append_right _ (List.mem_append_right _ (List.mem_append_left _ h)))
theorem lw_m4 : ∀ w ∈ tables_1_4, w ∈ lw_tbl := fun w h => show w ∈ k2_sels lw_privs ++ tables_1 from List.mem_append_right (k2_sels lw_privs) (show w ∈ tables_1 from List.mem_append_right _ (List.mem_append_right _ (List.mem_append_right _ h)))
theorem qs0 : (Cond.selects "CamFigures" ⟨"CamFigures", "refuse", "(I)I"⟩ ⟨"CamFigures", "refuse", "(I)I"⟩) ∈ lw_all := lw_g (lw_at lw_ms 0 rfl) rfl
theorem qs1 : (Cond.selects "CamFigures" ⟨"CamFigures", "camAt", "(I)LCamFigures$Cam;"⟩ ⟨"CamFigures", "camAt", "(I)LCamFigures$Cam;"⟩) ∈ lw_all := lw_g (lw_at lw_ms 1 rfl) rfl
theorem qs2 : (Cond.selects "java/lang/Throwable" ⟨"java/lang/Throwable", "fillInStackTrace", "(I)Ljava/lang/Throwable;"⟩ ⟨"java/lang/Throwable", "fillInStackTrace", "(I)Ljava/lang/Throwable;"⟩) ∈ lw_all := lw_g (lw_at lw_ms 2 rfl) rfl
theorem qs3 : (Cond.selects "CamFigures" ⟨"CamFigures", "steps", "(II)V"⟩ ⟨"CamFigures", "steps", "(II)V"⟩) ∈ lw_all := lw_g (lw_at lw_ms 3 rfl) rfl
theorem qs4 : (Cond.selects "CamFigures" ⟨"CamFigures", "blanksTo", "(I)I"⟩ ⟨"CamFigures", "blanksTo", "(I)I"⟩) ∈ lw_all := lw_g (lw_at lw_ms 4 rfl) rfl
theorem qs5 : (Cond.selects "CamFigures" ⟨"CamFigures", "leastOf", "(I)I"⟩ ⟨"CamFigures", "leastOf", "(I)I"⟩) ∈ lw_all := lw_g (lw_at lw_ms 5 rfl) rfl
theorem qs6 : (Cond.selects "CamFigures" ⟨"CamFigures", "isCutLetter", "(LCamFigures$Letter;)Z"⟩ ⟨"CamFigures", "isCutLetter", "(LCamFigures$Letter;)Z"⟩) ∈ lw_all := lw_g (lw_at lw_ms 6 rfl) rfl
theorem qs7 : (Cond.selects "CamFigures" ⟨"CamFigures", "areCut", "()Z"⟩ ⟨"CamFigures", "areCut", "()Z"⟩) ∈ lw_all := lw_g (lw_at lw_ms 7 rfl) rfl
theorem qs8 : (Cond.selects "CamFigures" ⟨"CamFigures", "part", "(I)LCamFigures$Part;"⟩ ⟨"CamFigures", "part", "(I)LCamFigures$Part;"⟩) ∈ lw_all := lw_g (lw_at lw_ms 8 rfl) rfl
theorem qs9 : (Cond.selects "CamFigures" ⟨"CamFigures", "goes", "()Z"⟩ ⟨"CamFigures", "goes", "()Z"⟩) ∈ lw_all := lw_g (lw_at lw_ms 9 rfl) rfl
theorem qs10 : (Cond.selects "CamFigures$Pen" ⟨"CamFigures$Pen", "read", "(II)I"⟩ ⟨"CamFigures$Pen", "read", "(II)I"⟩) ∈ lw_all := lw_g (lw_at lw_ms 10 rfl) rfl
theorem qs11 : (Cond.selects "CamFigures$Pen" ⟨"CamFigures$Pen", "line", "(IIII)V"⟩ ⟨"CamFigures$Pen", "line", "(IIII)V"⟩) ∈ lw_all := lw_g (lw_at lw_ms 11 rfl) rfl
theorem qs12 : (Cond.selects "CamFigures" ⟨"CamFigures", "told", "()I"⟩ ⟨"CamFigures", "told", "()I"⟩) ∈ lw_all := lw_g (lw_at lw_ms 12 rfl) rfl
theorem qs13 : (Cond.selects "CamFigures" ⟨"CamFigures", "looks", "()V"⟩ ⟨"CamFigures", "looks", "()V"⟩) ∈ lw_all := lw_g (lw_at lw_ms 13 rfl) rfl
theorem qs14 : (Cond.selects "CamFigures" ⟨"CamFigures", "explains", "(LCamFigures$Part;LCamFigures$Part;LCamFigures$Part;)Z"⟩ ⟨"CamFigures", "explains", "(LCamFigures$Part;LCamFigures$Part;LCamFigures$Part;)Z"⟩) ∈ lw_all := lw_g (lw_at lw_ms 14 rfl) rfl
theorem qs15 : (Cond.selects "CamFigures" ⟨"CamFigures", "finds", "(IIZ)V"⟩ ⟨"CamFigures", "finds", "(IIZ)V"⟩) ∈ lw_all := lw_g (lw_at lw_ms 15 rfl) rfl
theorem qs16 : (Cond.selects "CamFigures" ⟨"CamFigures", "likeOf", "(LCamFigures$Cam;I)I"⟩ ⟨"CamFigures", "likeOf", "(LCamFigures$Cam;I)I"⟩) ∈ lw_all := lw_g (lw_at lw_ms 16 rfl) rfl
theorem qs17 : (Cond.selects "CamFiguresModel" ⟨"CamFiguresModel", "clearPaper", "()V"⟩ ⟨"CamFiguresModel", "clearPaper", "()V"⟩) ∈ lw_all := lw_g (lw_at lw_ms 17 rfl) rfl
theorem qs18 : (Cond.selects "CamFiguresModel" ⟨"CamFiguresModel", "refuse", "(I)I"⟩ ⟨"CamFiguresModel", "refuse", "(I)I"⟩) ∈ lw_all := lw_g (lw_at lw_ms 18 rfl) rfl
theorem qs19 : (Cond.selects "CamFiguresModel" ⟨"CamFiguresModel", "lacks", "(I)I"⟩ ⟨"CamFiguresModel", "lacks", "(I)I"⟩) ∈ lw_all := lw_g (lw_at lw_ms 19 rfl) rfl
theorem qs20 : (Cond.selects "CamFiguresModel" ⟨"CamFiguresModel", "findBlanks", "()I"⟩ ⟨"CamFiguresModel", "findBlanks", "()I"⟩) ∈ lw_all := lw_g (lw_at lw_ms 20 rfl) rfl
theorem qs21 : (Cond.selects "CamFiguresModel" ⟨"CamFiguresModel", "turnedBy", "(II)I"⟩ ⟨"CamFiguresModel", "turnedBy", "(II)I"⟩) ∈ lw_all := lw_g (lw_at lw_ms 21 rfl) rfl
theorem qs22 : (Cond.selects "CamFiguresModel" ⟨"CamFiguresModel", "smoothOf", "(I)I"⟩ ⟨"CamFiguresModel", "smoothOf", "(I)I"⟩) ∈ lw_all := lw_g (lw_at lw_ms 22 rfl) rfl
theorem qs23 : (Cond.selects "CamFiguresModel" ⟨"CamFiguresModel", "isCutLetter", "(I)Z"⟩ ⟨"CamFiguresModel", "isCutLetter", "(I)Z"⟩) ∈ lw_all := lw_g (lw_at lw_ms 23 rfl) rfl
theorem qs24 : (Cond.selects "CamFiguresModel" ⟨"CamFiguresModel", "areCut", "()Z"⟩ ⟨"CamFiguresModel", "areCut", "()Z"⟩) ∈ lw_all := lw_g (lw_at lw_ms 24 rfl) rfl
theorem qs25 : (Cond.selects "CamFiguresModel" ⟨"CamFiguresModel", "holdFaults", "(III)V"⟩ ⟨"CamFiguresModel", "holdFaults", "(III)V"⟩) ∈ lw_all := lw_g (lw_at lw_ms 25 rfl) rfl
theorem qs26 : (Cond.selects "CamFiguresModel" ⟨"CamFiguresModel", "newMarks", "()V"⟩ ⟨"CamFiguresModel", "newMarks", "()V"⟩) ∈ lw_all := lw_g (lw_at lw_ms 26 rfl) rfl
theorem qs27 : (Cond.selects "CamFiguresModel" ⟨"CamFiguresModel", "write", "(II)V"⟩ ⟨"CamFiguresModel", "write", "(II)V"⟩) ∈ lw_all := lw_g (lw_at lw_ms 27 rfl) rfl
theorem qs28 : (Cond.selects "CamFiguresModel" ⟨"CamFiguresModel", "isDown", "(II)Z"⟩ ⟨"CamFiguresModel", "isDown", "(II)Z"⟩) ∈ lw_all := lw_g (lw_at lw_ms 28 rfl) rfl
theorem qs29 : (Cond.selects "CamFiguresModel" ⟨"CamFiguresModel", "heightOf", "(II)I"⟩ ⟨"CamFiguresModel", "heightOf", "(II)I"⟩) ∈ lw_all := lw_g (lw_at lw_ms 29 rfl) rfl
theorem qs30 : (Cond.selects "CamFiguresModel" ⟨"CamFiguresModel", "xAt", "(II)I"⟩ ⟨"CamFiguresModel", "xAt", "(II)I"⟩) ∈ lw_all := lw_g (lw_at lw_ms 30 rfl) rfl
theorem qs31 : (Cond.selects "CamFiguresModel" ⟨"CamFiguresModel", "yAt", "(II)I"⟩ ⟨"CamFiguresModel", "yAt", "(II)I"⟩) ∈ lw_all := lw_g (lw_at lw_ms 31 rfl) rfl
theorem qs32 : (Cond.selects "CamFiguresModel" ⟨"CamFiguresModel", "mark", "(IIII)V"⟩ ⟨"CamFiguresModel", "mark", "(IIII)V"⟩) ∈ lw_all := lw_g (lw_at lw_ms 32 rfl) rfl
theorem qs33 : (Cond.selects "CamFiguresModel" ⟨"CamFiguresModel", "faultMany", "()I"⟩ ⟨"CamFiguresModel", "faultMany", "()I"⟩) ∈ lw_all := lw_g (lw_at lw_ms 33 rfl) rfl
theorem qs34 : (Cond.selects "CamFiguresModel" ⟨"CamFiguresModel", "findKind", "()I"⟩ ⟨"CamFiguresModel", "findKind", "()I"⟩) ∈ lw_all := lw_g (lw_at lw_ms 34 rfl) rfl
theorem qs35 : (Cond.selects "CamFiguresModel" ⟨"CamFiguresModel", "isWritten", "(III)Z"⟩ ⟨"CamFiguresModel", "isWritten", "(III)Z"⟩) ∈ lw_all := lw_g (lw_at lw_ms 35 rfl) rfl
theorem qs36 : (Cond.selects "CamFiguresModel" ⟨"CamFiguresModel", "timesIn", "(II)I"⟩ ⟨"CamFiguresModel", "timesIn", "(II)I"⟩) ∈ lw_all := lw_g (lw_at lw_ms 36 rfl) rfl
theorem qs37 : (Cond.selects "CamFiguresModel" ⟨"CamFiguresModel", "likeness", "(II)I"⟩ ⟨"CamFiguresModel", "likeness", "(II)I"⟩) ∈ lw_all := lw_g (lw_at lw_ms 37 rfl) rfl
