set_option maxRecDepth 100000
set_option linter.unusedVariables false
theorem hdx_X1_init : yX1_init.cls ≠ "java/lang/invoke/MethodHandle" ∧ yX1_init.cls ≠ "java/lang/invoke/VarHandle" ∧ (parseMethodDescriptor yX1_init.desc).map (fun d => d.parameters.length) = some 0 := by decide +kernel
set_option maxHeartbeats 4000000 in
theorem x1_init (l : Launch) (D : va_G) (dA : Nat → ClassId) (ad : Nat → Nat) (X : St) (L : Ex) (sz : Nat) (o : Nat) : Met l yX1_init (ws_ yX1_init cX1_init 1 none) { frames := 1, cells := 0, slots := 0, locals := 20 } (va_Pc [.ref o] (xB D dA ad X L sz)) vp_S0 0 0 (fun _ => False) := by
  refine x_hP (by decide) (Nat.le_of_ble_eq_true rfl) ?_
  intro A p e s m below meth cd ls C0 hr hlk hnm hG hM hS hl
  have hl : lv_has ls 1 [(0, .ref o)] := hl
  refine lv_aload_n C0.1 C0.2.1 dX1_init_0 rfl (lv_at hl 0 rfl) ?_
  refine W.objInit C0.1 C0.2.1 C0.2.2.2.1 (C0.2.2.2.2 _ q72) (C0.2.2.2.2 _ q61) (C0.2.2.2.2 _ q62) rfl (hl.1.trans C0.2.2.1.symm) rfl dX1_init_1 (Nat.le_of_ble_eq_true rfl) (Nat.le_of_ble_eq_true rfl) ?_
  refine at_pc 4 rfl ?_
  exact x_ret0 C0 hr hlk dX1_init_4
theorem hdx_X3_init : yX3_init.cls ≠ "java/lang/invoke/MethodHandle" ∧ yX3_init.cls ≠ "java/lang/invoke/VarHandle" ∧ (parseMethodDescriptor yX3_init.desc).map (fun d => d.parameters.length) = some 0 := by decide +kernel
set_option maxHeartbeats 4000000 in
theorem x3_init (l : Launch) (D : va_G) (dA : Nat → ClassId) (ad : Nat → Nat) (X : St) (L : Ex) (sz : Nat) (o : Nat) : Met l yX3_init (ws_ yX3_init cX3_init 1 none) { frames := 1, cells := 0, slots := 0, locals := 20 } (va_Pc [.ref o] (xB D dA ad X L sz)) vp_S0 0 0 (fun _ => False) := by
  refine x_hP (by decide) (Nat.le_of_ble_eq_true rfl) ?_
  intro A p e s m below meth cd ls C0 hr hlk hnm hG hM hS hl
  have hl : lv_has ls 1 [(0, .ref o)] := hl
  refine lv_aload_n C0.1 C0.2.1 dX3_init_0 rfl (lv_at hl 0 rfl) ?_
  refine W.objInit C0.1 C0.2.1 C0.2.2.2.1 (C0.2.2.2.2 _ q98) (C0.2.2.2.2 _ q61) (C0.2.2.2.2 _ q62) rfl (hl.1.trans C0.2.2.1.symm) rfl dX3_init_1 (Nat.le_of_ble_eq_true rfl) (Nat.le_of_ble_eq_true rfl) ?_
  refine at_pc 4 rfl ?_
  exact x_ret0 C0 hr hlk dX3_init_4
theorem hdx_X1_height : yX1_height.cls = RX1 ∧ yX1_height.cls ≠ "java/lang/invoke/MethodHandle" ∧ yX1_height.cls ≠ "java/lang/invoke/VarHandle" ∧ (parseMethodDescriptor yX1_height.desc).map (fun d => d.parameters.length) = some 2 := by decide +kernel
set_option maxHeartbeats 4000000 in
theorem x1_height (l : Launch) (D : va_G) (dA : Nat → ClassId) (ad : Nat → Nat) (X : St) (L : Ex) (sz : Nat) (o : Nat) (p1 p2 : Int32) : xCp l yX1_height cX1_height 3 (some .int) { frames := 0, cells := 0, slots := 0, locals := 0 } D dA ad X L sz [.ref o, .int p1, .int p2] (fun r => r = p2) := by
  refine x_hP (by decide) (Nat.le_of_ble_eq_true rfl) ?_
  intro A p e s m below meth cd ls C0 hr hlk hnm hG hM hS hl
  have hl : lv_has ls 3 [(0, .ref o), (1, .int p1), (2, .int p2)] := hl
  refine lv_iload_n C0.1 C0.2.1 dX1_height_0 rfl (lv_at hl 2 rfl) ?_
  exact x_iret C0 hr hlk rfl dX1_height_1
theorem hdx_X1_isWritten : yX1_isWritten.cls = RX1 ∧ yX1_isWritten.cls ≠ "java/lang/invoke/MethodHandle" ∧ yX1_isWritten.cls ≠ "java/lang/invoke/VarHandle" ∧ (parseMethodDescriptor yX1_isWritten.desc).map (fun d => d.parameters.length) = some 1 := by decide +kernel
set_option maxHeartbeats 4000000 in
theorem x1_isWritten (l : Launch) (D : va_G) (dA : Nat → ClassId) (ad : Nat → Nat) (X : St) (L : Ex) (sz : Nat) (o : Nat) (p1 : Int32) : xCp l yX1_isWritten cX1_isWritten 2 (some .boolean) { frames := 0, cells := 0, slots := 0, locals := 0 } D dA ad X L sz [.ref o, .int p1] (fun r => r = 1) := by
  refine x_hP (by decide) (Nat.le_of_ble_eq_true rfl) ?_
  intro A p e s m below meth cd ls C0 hr hlk hnm hG hM hS hl
  have hl : lv_has ls 2 [(0, .ref o), (1, .int p1)] := hl
  refine lv_iconst (v := 1) C0.1 C0.2.1 dX1_isWritten_0 (by decide) ?_
  exact x_zret C0 hr hlk rfl rfl dX1_isWritten_1
theorem hdx_X1_across : yX1_across.cls = RX1 ∧ yX1_across.cls ≠ "java/lang/invoke/MethodHandle" ∧ yX1_across.cls ≠ "java/lang/invoke/VarHandle" ∧ (parseMethodDescriptor yX1_across.desc).map (fun d => d.parameters.length) = some 1 := by decide +kernel
set_option maxHeartbeats 4000000 in
theorem x1_across (l : Launch) (D : va_G) (dA : Nat → ClassId) (ad : Nat → Nat) (X : St) (L : Ex) (sz : Nat) (o : Nat) (p1 : Int32) : xCp l yX1_across cX1_across 2 (some .int) { frames := 0, cells := 0, slots := 0, locals := 0 } D dA ad X L sz [.ref o, .int p1] (fun r => r = p1) := by
  refine x_hP (by decide) (Nat.le_of_ble_eq_true rfl) ?_
  intro A p e s m below meth cd ls C0 hr hlk hnm hG hM hS hl
  have hl : lv_has ls 2 [(0, .ref o), (1, .int p1)] := hl
  refine lv_iload_n C0.1 C0.2.1 dX1_across_0 rfl (lv_at hl 1 rfl) ?_
  exact x_iret C0 hr hlk rfl dX1_across_1
theorem hdx_X1_up : yX1_up.cls = RX1 ∧ yX1_up.cls ≠ "java/lang/invoke/MethodHandle" ∧ yX1_up.cls ≠ "java/lang/invoke/VarHandle" ∧ (parseMethodDescriptor yX1_up.desc).map (fun d => d.parameters.length) = some 1 := by decide +kernel
set_option maxHeartbeats 4000000 in
theorem x1_up (l : Launch) (D : va_G) (dA : Nat → ClassId) (ad : Nat → Nat) (X : St) (L : Ex) (sz : Nat) (o : Nat) (p1 : Int32) : xCp l yX1_up cX1_up 2 (some .int) { frames := 0, cells := 0, slots := 0, locals := 0 } D dA ad X L sz [.ref o, .int p1] (fun r => r = p1) := by
  refine x_hP (by decide) (Nat.le_of_ble_eq_true rfl) ?_
  intro A p e s m below meth cd ls C0 hr hlk hnm hG hM hS hl
  have hl : lv_has ls 2 [(0, .ref o), (1, .int p1)] := hl
  refine lv_iload_n C0.1 C0.2.1 dX1_up_0 rfl (lv_at hl 1 rfl) ?_
  exact x_iret C0 hr hlk rfl dX1_up_1
theorem hdx_X8_height : yX8_height.cls = RX8 ∧ yX8_height.cls ≠ "java/lang/invoke/MethodHandle" ∧ yX8_height.cls ≠ "java/lang/invoke/VarHandle" ∧ (parseMethodDescriptor yX8_height.desc).map (fun d => d.parameters.length) = some 2 := by decide +kernel
set_option maxHeartbeats 4000000 in
theorem x8_height (l : Launch) (D : va_G) (dA : Nat → ClassId) (ad : Nat → Nat) (X : St) (L : Ex) (sz : Nat) (n o : Nat) (v p1 p2 : Int32) (hw : xw dA ad X L n = some (.inr (8, [.int v]))) (ho : cb ad L n = o) : xCp l yX8_height cX8_height 3 (some .int) { frames := 1, cells := 0, slots := 0, locals := 22 } D dA ad X L sz [.ref o, .int p1, .int p2] (fun r => r = if p1 = v ∧ 0 < p2 then p2 - 1 else p2) := by
  refine x_hP (by decide) (Nat.le_of_ble_eq_true rfl) ?_
  intro A p e s m below meth cd ls C0 hr hlk hnm hG hM hS hl
  have hl : lv_has ls 3 [(0, .ref o), (1, .int p1), (2, .int p2)] := hl
  refine lv_iload_n C0.1 C0.2.1 dX8_height_0 rfl (lv_at hl 1 rfl) ?_
  refine lv_aload_n C0.1 C0.2.1 dX8_height_1 rfl (lv_at hl 0 rfl) ?_
  refine x_get C0 hG hM n hw ho rfl in_X8 0 (by decide) rfl q541 dX8_height_2 ?_
  refine lv_icmp_ne (tgt := 23) C0.1 C0.2.1 dX8_height_5 (by decide) (fun c_5 => ?_) (fun c_5 => ?_)
  · refine lv_aload_n C0.1 C0.2.1 dX8_height_23 rfl (lv_at hl 0 rfl) ?_
    refine lv_iload_n C0.1 C0.2.1 dX8_height_24 rfl (lv_at hl 1 rfl) ?_
    refine lv_iload_n C0.1 C0.2.1 dX8_height_25 rfl (lv_at hl 2 rfl) ?_
    refine fw_cp (va_runSU (b := o) (As := [.int p1, .int p2]) (rest := []) (hG.1.1 8 _ rfl).2 C0 (x1_height l D dA ad X L _ o p1 p2) (va_cwSU 2 C0.2.2.2.2 (lw_SU q469 q463 q470 q461 q40 q471) rfl rfl rfl ⟨by decide, by decide +kernel⟩ ⟨(Nat.le_of_ble_eq_true rfl), (Nat.le_of_ble_eq_true rfl)⟩) (x_preV hG hM hS n hw ho rfl) rfl rfl hl.1 rfl (lv_room (Nat.le_of_ble_eq_true rfl)) dX8_height_26 ⟨(Nat.le_of_ble_eq_true rfl), (Nat.le_of_ble_eq_true rfl)⟩) (fun r hr => ?_)
    subst hr
    exact x_iret C0 hr hlk ((if_neg (fun z => c_5 z.1)).symm) dX8_height_29
  · refine lv_iload_n C0.1 C0.2.1 dX8_height_8 rfl (lv_at hl 2 rfl) ?_
    refine lv_if_le (tgt := 23) C0.1 C0.2.1 dX8_height_9 (by decide) (fun c_9 => ?_) (fun c_9 => ?_)
    · refine lv_aload_n C0.1 C0.2.1 dX8_height_23 rfl (lv_at hl 0 rfl) ?_
      refine lv_iload_n C0.1 C0.2.1 dX8_height_24 rfl (lv_at hl 1 rfl) ?_
      refine lv_iload_n C0.1 C0.2.1 dX8_height_25 rfl (lv_at hl 2 rfl) ?_
      refine fw_cp (va_runSU (b := o) (As := [.int p1, .int p2]) (rest := []) (hG.1.1 8 _ rfl).2 C0 (x1_height l D dA ad X L _ o p1 p2) (va_cwSU 2 C0.2.2.2.2 (lw_SU q469 q463 q470 q461 q40 q471) rfl rfl rfl ⟨by decide, by decide +kernel⟩ ⟨(Nat.le_of_ble_eq_true rfl), (Nat.le_of_ble_eq_true rfl)⟩) (x_preV hG hM hS n hw ho rfl) rfl rfl hl.1 rfl (lv_room (Nat.le_of_ble_eq_true rfl)) dX8_height_26 ⟨(Nat.le_of_ble_eq_true rfl), (Nat.le_of_ble_eq_true rfl)⟩) (fun r hr => ?_)
      subst hr
      exact x_iret C0 hr hlk ((if_neg (fun z => Int32.not_lt.mpr c_9 z.2)).symm) dX8_height_29
    · refine lv_aload_n C0.1 C0.2.1 dX8_height_12 rfl (lv_at hl 0 rfl) ?_
      refine lv_iload_n C0.1 C0.2.1 dX8_height_13 rfl (lv_at hl 1 rfl) ?_
      refine lv_iload_n C0.1 C0.2.1 dX8_height_14 rfl (lv_at hl 2 rfl) ?_
      refine fw_cp (va_runSU (b := o) (As := [.int p1, .int p2]) (rest := []) (hG.1.1 8 _ rfl).2 C0 (x1_height l D dA ad X L _ o p1 p2) (va_cwSU 2 C0.2.2.2.2 (lw_SU q469 q463 q470 q461 q40 q471) rfl rfl rfl ⟨by decide, by decide +kernel⟩ ⟨(Nat.le_of_ble_eq_true rfl), (Nat.le_of_ble_eq_true rfl)⟩) (x_preV hG hM hS n hw ho rfl) rfl rfl hl.1 rfl (lv_room (Nat.le_of_ble_eq_true rfl)) dX8_height_15 ⟨(Nat.le_of_ble_eq_true rfl), (Nat.le_of_ble_eq_true rfl)⟩) (fun r hr => ?_)
      subst hr
      refine lv_iconst (v := 1) C0.1 C0.2.1 dX8_height_18 (by decide) ?_
      refine lv_isub C0.1 C0.2.1 dX8_height_19 ?_
      refine lv_goto (tgt := 29) C0.1 C0.2.1 dX8_height_20 (by decide) ?_
      exact x_iret C0 hr hlk ((if_pos ⟨c_5, Int32.not_le.mp c_9⟩).symm) dX8_height_29
theorem hdx_X9_isWritten : yX9_isWritten.cls = RX9 ∧ yX9_isWritten.cls ≠ "java/lang/invoke/MethodHandle" ∧ yX9_isWritten.cls ≠ "java/lang/invoke/VarHandle" ∧ (parseMethodDescriptor yX9_isWritten.desc).map (fun d => d.parameters.length) = some 1 := by decide +kernel
set_option maxHeartbeats 4000000 in
theorem x9_isWritten (l : Launch) (D : va_G) (dA : Nat → ClassId) (ad : Nat → Nat) (X : St) (L : Ex) (sz : Nat) (n o : Nat) (v p1 : Int32) (hw : xw dA ad X L n = some (.inr (9, [.int v]))) (ho : cb ad L n = o) : xCp l yX9_isWritten cX9_isWritten 2 (some .boolean) { frames := 1, cells := 0, slots := 0, locals := 21 } D dA ad X L sz [.ref o, .int p1] (fun r => r = if ¬ p1 = v then 1 else 0) := by
  refine x_hP (by decide) (Nat.le_of_ble_eq_true rfl) ?_
  intro A p e s m below meth cd ls C0 hr hlk hnm hG hM hS hl
  have hl : lv_has ls 2 [(0, .ref o), (1, .int p1)] := hl
  refine lv_aload_n C0.1 C0.2.1 dX9_isWritten_0 rfl (lv_at hl 0 rfl) ?_
  refine lv_iload_n C0.1 C0.2.1 dX9_isWritten_1 rfl (lv_at hl 1 rfl) ?_
  refine fw_cp (va_runSU (b := o) (As := [.int p1]) (rest := []) (hG.1.1 9 _ rfl).2 C0 (x1_isWritten l D dA ad X L _ o p1) (va_cwSU 1 C0.2.2.2.2 (lw_SU q443 q438 q444 q436 q40 q446) rfl rfl rfl ⟨by decide, by decide +kernel⟩ ⟨(Nat.le_of_ble_eq_true rfl), (Nat.le_of_ble_eq_true rfl)⟩) (x_preV hG hM hS n hw ho rfl) rfl rfl hl.1 rfl (lv_room (Nat.le_of_ble_eq_true rfl)) dX9_isWritten_2 ⟨(Nat.le_of_ble_eq_true rfl), (Nat.le_of_ble_eq_true rfl)⟩) (fun r hr => ?_)
  subst hr
  refine lv_if_eq (tgt := 20) C0.1 C0.2.1 dX9_isWritten_5 (by decide) (fun c_5 => ?_) (fun c_5 => ?_)
  · exact absurd c_5 (by decide)
  · refine lv_iload_n C0.1 C0.2.1 dX9_isWritten_8 rfl (lv_at hl 1 rfl) ?_
    refine lv_aload_n C0.1 C0.2.1 dX9_isWritten_9 rfl (lv_at hl 0 rfl) ?_
    refine x_get C0 hG hM n hw ho rfl in_X9 0 (by decide) rfl q550 dX9_isWritten_10 ?_
    refine lv_icmp_eq (tgt := 20) C0.1 C0.2.1 dX9_isWritten_13 (by decide) (fun c_13 => ?_) (fun c_13 => ?_)
    · refine lv_iconst (v := 0) C0.1 C0.2.1 dX9_isWritten_20 (by decide) ?_
      exact x_zret C0 hr hlk rfl (b0_of (fun z => z c_13)) dX9_isWritten_21
    · refine lv_iconst (v := 1) C0.1 C0.2.1 dX9_isWritten_16 (by decide) ?_
      refine lv_goto (tgt := 21) C0.1 C0.2.1 dX9_isWritten_17 (by decide) ?_
      exact x_zret C0 hr hlk rfl (b1_of c_13) dX9_isWritten_21
theorem hdx_X10_across : yX10_across.cls = RX10 ∧ yX10_across.cls ≠ "java/lang/invoke/MethodHandle" ∧ yX10_across.cls ≠ "java/lang/invoke/VarHandle" ∧ (parseMethodDescriptor yX10_across.desc).map (fun d => d.parameters.length) = some 1 := by decide +kernel
set_option maxHeartbeats 4000000 in
theorem x10_across (l : Launch) (D : va_G) (dA : Nat → ClassId) (ad : Nat → Nat) (X : St) (L : Ex) (sz : Nat) (n o : Nat) (v p1 : Int32) (hw : xw dA ad X L n = some (.inr (10, [.int v]))) (ho : cb ad L n = o) : xCp l yX10_across cX10_across 2 (some .int) { frames := 0, cells := 0, slots := 0, locals := 0 } D dA ad X L sz [.ref o, .int p1] (fun r => r = if v = 0 then p1 + 1 else p1) := by
  refine x_hP (by decide) (Nat.le_of_ble_eq_true rfl) ?_
  intro A p e s m below meth cd ls C0 hr hlk hnm hG hM hS hl
  have hl : lv_has ls 2 [(0, .ref o), (1, .int p1)] := hl
  refine lv_aload_n C0.1 C0.2.1 dX10_across_0 rfl (lv_at hl 0 rfl) ?_
  refine x_get C0 hG hM n hw ho rfl in_X10 0 (by decide) rfl q559 dX10_across_1 ?_
  refine lv_if_ne (tgt := 13) C0.1 C0.2.1 dX10_across_4 (by decide) (fun c_4 => ?_) (fun c_4 => ?_)
  · refine lv_iload_n C0.1 C0.2.1 dX10_across_13 rfl (lv_at hl 1 rfl) ?_
    exact x_iret C0 hr hlk ((if_neg c_4).symm) dX10_across_14
  · refine lv_iload_n C0.1 C0.2.1 dX10_across_7 rfl (lv_at hl 1 rfl) ?_
    refine lv_iconst (v := 1) C0.1 C0.2.1 dX10_across_8 (by decide) ?_
    refine lv_iadd C0.1 C0.2.1 dX10_across_9 ?_
    refine lv_goto (tgt := 14) C0.1 C0.2.1 dX10_across_10 (by decide) ?_
    exact x_iret C0 hr hlk ((if_pos c_4).symm) dX10_across_14
theorem hdx_X10_up : yX10_up.cls = RX10 ∧ yX10_up.cls ≠ "java/lang/invoke/MethodHandle" ∧ yX10_up.cls ≠ "java/lang/invoke/VarHandle" ∧ (parseMethodDescriptor yX10_up.desc).map (fun d => d.parameters.length) = some 1 := by decide +kernel
set_option maxHeartbeats 4000000 in
theorem x10_up (l : Launch) (D : va_G) (dA : Nat → ClassId) (ad : Nat → Nat) (X : St) (L : Ex) (sz : Nat) (n o : Nat) (v p1 : Int32) (hw : xw dA ad X L n = some (.inr (10, [.int v]))) (ho : cb ad L n = o) : xCp l yX10_up cX10_up 2 (some .int) { frames := 1, cells := 0, slots := 0, locals := 21 } D dA ad X L sz [.ref o, .int p1] (fun r => r = if v = 1 then imin 9 (p1 + 1) else p1) := by
  refine x_hP (by decide) (Nat.le_of_ble_eq_true rfl) ?_
  intro A p e s m below meth cd ls C0 hr hlk hnm hG hM hS hl
  have hl : lv_has ls 2 [(0, .ref o), (1, .int p1)] := hl
  refine lv_aload_n C0.1 C0.2.1 dX10_up_0 rfl (lv_at hl 0 rfl) ?_
  refine x_get C0 hG hM n hw ho rfl in_X10 0 (by decide) rfl q559 dX10_up_1 ?_
  refine lv_iconst (v := 1) C0.1 C0.2.1 dX10_up_4 (by decide) ?_
  refine lv_icmp_ne (tgt := 19) C0.1 C0.2.1 dX10_up_5 (by decide) (fun c_5 => ?_) (fun c_5 => ?_)
  · refine lv_iload_n C0.1 C0.2.1 dX10_up_19 rfl (lv_at hl 1 rfl) ?_
    exact x_iret C0 hr hlk ((if_neg c_5).symm) dX10_up_20
  · refine lv_bipush (v := 9) C0.1 C0.2.1 dX10_up_8 (by decide) ?_
    refine lv_iload_n C0.1 C0.2.1 dX10_up_10 rfl (lv_at hl 1 rfl) ?_
    refine lv_iconst (v := 1) C0.1 C0.2.1 dX10_up_11 (by decide) ?_
    refine lv_iadd C0.1 C0.2.1 dX10_up_12 ?_
    refine st_call C0 (j3_min l 9 (p1 + 1)) 2 (lw_S q489 q386 q50 q387) rfl rfl hdx_J3_min ⟨(Nat.le_of_ble_eq_true rfl), (Nat.le_of_ble_eq_true rfl)⟩ rfl hl.1 rfl (Nat.le_of_ble_eq_true rfl) dX10_up_13 ⟨(Nat.le_of_ble_eq_true rfl), (Nat.le_of_ble_eq_true rfl)⟩ (fun r hr => ?_)
    subst hr
    refine lv_goto (tgt := 20) C0.1 C0.2.1 dX10_up_16 (by decide) ?_
    exact x_iret C0 hr hlk ((if_pos c_5).symm) dX10_up_20
theorem hdx_X8_init : yX8_init.cls ≠ "java/lang/invoke/MethodHandle" ∧ yX8_init.cls ≠ "java/lang/invoke/VarHandle" ∧ (parseMethodDescriptor yX8_init.desc).map (fun d => d.parameters.length) = some 1 := by decide +kernel
set_option maxHeartbeats 4000000 in
theorem x8_init (l : Launch) (D : va_G) (dA : Nat → ClassId) (ad : Nat → Nat) (X : St) (L : Ex) (sz : Nat) (q : Nat) (p1 : Int32) : xCv l yX8_init cX8_init 2 { frames := 2, cells := 0, slots := 0, locals := 40 } D dA ad X ((q, .inr (8, [.int 0])) :: L) sz [.ref q, .int p1] 0 0 (fun u => u = (ad, X, (q, .inr (8, [.int p1])) :: L)) := by
  refine x_hV (by decide) (Nat.le_of_ble_eq_true rfl) ?_
  intro A p e s m below meth cd ls C0 hr hlk hnm hG hM hS hl
  have hl : lv_has ls 2 [(0, .ref q), (1, .int p1)] := hl
  refine lv_aload_n C0.1 C0.2.1 dX8_init_0 rfl (lv_at hl 0 rfl) ?_
  refine fw_c0 (va_runIN (b := q) (As := []) (rest := []) C0 (x1_init l D dA ad X ((q, .inr (8, [.int 0])) :: L) _ q) ⟨va_cnB 0 C0.2.2.2.2 (lw_meth q71) rfl rfl rfl (hG.2.1.m 3 rfl) (C0.2.2.2.2 _ q40) hdx_X1_init ⟨(Nat.le_of_ble_eq_true rfl), (Nat.le_of_ble_eq_true rfl)⟩, rfl, C0.2.2.2.2 _ q70⟩ (x_preS hG hM hS) rfl rfl hl.1 rfl (lv_room (Nat.le_of_ble_eq_true rfl)) dX8_init_1 ⟨(Nat.le_of_ble_eq_true rfl), (Nat.le_of_ble_eq_true rfl)⟩) ?_
  refine lv_aload_n C0.1 C0.2.1 dX8_init_4 rfl (lv_at hl 0 rfl) ?_
  refine lv_iload_n C0.1 C0.2.1 dX8_init_5 rfl (lv_at hl 1 rfl) ?_
  refine x_eputF C0 hG hM hS 0 rfl rfl in_X8 tyX8 tyX8_ok nmX8 0 (by decide) q541 rfl hnm rfl rfl rfl rfl (Nat.le_of_ble_eq_true rfl) dX8_init_6 (fun H locs hM hS => ?_)
  have hM : XF D A dA ad X ((q, .inr (8, [.int p1])) :: L) H := hM
  exact x_vretS C0 hr hlk hM hS rfl dX8_init_9 (Nat.le_of_ble_eq_true rfl) (Nat.le_of_ble_eq_true rfl)
theorem hdx_X9_init : yX9_init.cls ≠ "java/lang/invoke/MethodHandle" ∧ yX9_init.cls ≠ "java/lang/invoke/VarHandle" ∧ (parseMethodDescriptor yX9_init.desc).map (fun d => d.parameters.length) = some 1 := by decide +kernel
set_option maxHeartbeats 4000000 in
theorem x9_init (l : Launch) (D : va_G) (dA : Nat → ClassId) (ad : Nat → Nat) (X : St) (L : Ex) (sz : Nat) (q : Nat) (p1 : Int32) : xCv l yX9_init cX9_init 2 { frames := 2, cells := 0, slots := 0, locals := 40 } D dA ad X ((q, .inr (9, [.int 0])) :: L) sz [.ref q, .int p1] 0 0 (fun u => u = (ad, X, (q, .inr (9, [.int p1])) :: L)) := by
  refine x_hV (by decide) (Nat.le_of_ble_eq_true rfl) ?_
  intro A p e s m below meth cd ls C0 hr hlk hnm hG hM hS hl
  have hl : lv_has ls 2 [(0, .ref q), (1, .int p1)] := hl
  refine lv_aload_n C0.1 C0.2.1 dX9_init_0 rfl (lv_at hl 0 rfl) ?_
  refine fw_c0 (va_runIN (b := q) (As := []) (rest := []) C0 (x1_init l D dA ad X ((q, .inr (9, [.int 0])) :: L) _ q) ⟨va_cnB 0 C0.2.2.2.2 (lw_meth q71) rfl rfl rfl (hG.2.1.m 4 rfl) (C0.2.2.2.2 _ q40) hdx_X1_init ⟨(Nat.le_of_ble_eq_true rfl), (Nat.le_of_ble_eq_true rfl)⟩, rfl, C0.2.2.2.2 _ q70⟩ (x_preS hG hM hS) rfl rfl hl.1 rfl (lv_room (Nat.le_of_ble_eq_true rfl)) dX9_init_1 ⟨(Nat.le_of_ble_eq_true rfl), (Nat.le_of_ble_eq_true rfl)⟩) ?_
  refine lv_aload_n C0.1 C0.2.1 dX9_init_4 rfl (lv_at hl 0 rfl) ?_
  refine lv_iload_n C0.1 C0.2.1 dX9_init_5 rfl (lv_at hl 1 rfl) ?_
  refine x_eputF C0 hG hM hS 0 rfl rfl in_X9 tyX9 tyX9_ok nmX9 0 (by decide) q550 rfl hnm rfl rfl rfl rfl (Nat.le_of_ble_eq_true rfl) dX9_init_6 (fun H locs hM hS => ?_)
  have hM : XF D A dA ad X ((q, .inr (9, [.int p1])) :: L) H := hM
  exact x_vretS C0 hr hlk hM hS rfl dX9_init_9 (Nat.le_of_ble_eq_true rfl) (Nat.le_of_ble_eq_true rfl)
theorem hdx_X10_init : yX10_init.cls ≠ "java/lang/invoke/MethodHandle" ∧ yX10_init.cls ≠ "java/lang/invoke/VarHandle" ∧ (parseMethodDescriptor yX10_init.desc).map (fun d => d.parameters.length) = some 1 := by decide +kernel
set_option maxHeartbeats 4000000 in
theorem x10_init (l : Launch) (D : va_G) (dA : Nat → ClassId) (ad : Nat → Nat) (X : St) (L : Ex) (sz : Nat) (q : Nat) (p1 : Int32) : xCv l yX10_init cX10_init 2 { frames := 2, cells := 0, slots := 0, locals := 40 } D dA ad X ((q, .inr (10, [.int 0])) :: L) sz [.ref q, .int p1] 0 0 (fun u => u = (ad, X, (q, .inr (10, [.int p1])) :: L)) := by
  refine x_hV (by decide) (Nat.le_of_ble_eq_true rfl) ?_
  intro A p e s m below meth cd ls C0 hr hlk hnm hG hM hS hl
  have hl : lv_has ls 2 [(0, .ref q), (1, .int p1)] := hl
  refine lv_aload_n C0.1 C0.2.1 dX10_init_0 rfl (lv_at hl 0 rfl) ?_
  refine fw_c0 (va_runIN (b := q) (As := []) (rest := []) C0 (x1_init l D dA ad X ((q, .inr (10, [.int 0])) :: L) _ q) ⟨va_cnB 0 C0.2.2.2.2 (lw_meth q71) rfl rfl rfl (hG.2.1.m 5 rfl) (C0.2.2.2.2 _ q40) hdx_X1_init ⟨(Nat.le_of_ble_eq_true rfl), (Nat.le_of_ble_eq_true rfl)⟩, rfl, C0.2.2.2.2 _ q70⟩ (x_preS hG hM hS) rfl rfl hl.1 rfl (lv_room (Nat.le_of_ble_eq_true rfl)) dX10_init_1 ⟨(Nat.le_of_ble_eq_true rfl), (Nat.le_of_ble_eq_true rfl)⟩) ?_
  refine lv_aload_n C0.1 C0.2.1 dX10_init_4 rfl (lv_at hl 0 rfl) ?_
  refine lv_iload_n C0.1 C0.2.1 dX10_init_5 rfl (lv_at hl 1 rfl) ?_
  refine x_eputF C0 hG hM hS 0 rfl rfl in_X10 tyX10 tyX10_ok nmX10 0 (by decide) q559 rfl hnm rfl rfl rfl rfl (Nat.le_of_ble_eq_true rfl) dX10_init_6 (fun H locs hM hS => ?_)
  have hM : XF D A dA ad X ((q, .inr (10, [.int p1])) :: L) H := hM
  exact x_vretS C0 hr hlk hM hS rfl dX10_init_9 (Nat.le_of_ble_eq_true rfl) (Nat.le_of_ble_eq_true rfl)
theorem hdx_J0_init_2 : yJ0_init_2.cls ≠ "java/lang/invoke/MethodHandle" ∧ yJ0_init_2.cls ≠ "java/lang/invoke/VarHandle" ∧ (parseMethodDescriptor yJ0_init_2.desc).map (fun d => d.parameters.length) = some 4 := by decide +kernel
set_option maxHeartbeats 4000000 in
theorem j0_init_2 (l : Launch) (D : va_G) (dA : Nat → ClassId) (ad : Nat → Nat) (X : St) (L : Ex) (sz : Nat) (q : Nat) : xCv l yJ0_init_2 cJ0_init_2 5 { frames := 1, cells := 0, slots := 0, locals := 20 } D dA ad X ((q, .inr (6, [.null, .null, .null, .null, .null, .int 0, .int 0])) :: L) sz [.ref q, .null, .null, .int 0, .int 0] 0 0 (fun u => u = (ad, X, (q, .inr (6, [.null, .null, .null, .null, .null, .int 0, .int 0])) :: L)) := by
  refine x_hVF (by decide +kernel) (Nat.le_of_ble_eq_true rfl) ?_
  intro A p e s m below meth cd ls C0 hr hlk hnm hG hM hS hl
  have hl : lv_has ls 5 [(0, .ref q), (1, .null), (2, .null), (3, .int 0), (4, .int 0)] := hl
  refine lv_aload_n C0.1 C0.2.1 dJ0_init_2_0 rfl (lv_at hl 0 rfl) ?_
  refine W.objInit C0.1 C0.2.1 C0.2.2.2.1 (C0.2.2.2.2 _ q253) (C0.2.2.2.2 _ q61) (C0.2.2.2.2 _ q62) rfl (hl.1.trans C0.2.2.1.symm) rfl dJ0_init_2_1 (Nat.le_of_ble_eq_true rfl) (Nat.le_of_ble_eq_true rfl) ?_
  refine at_pc 4 rfl ?_
  refine lv_aload_n C0.1 C0.2.1 dJ0_init_2_4 rfl (lv_at hl 0 rfl) ?_
  refine lv_aload_n C0.1 C0.2.1 dJ0_init_2_5 rfl (lv_at hl 0 rfl) ?_
  refine x_eput C0 hG hM hS 0 rfl rfl in_X6 tyX6 tyX6_ok nmX6 0 (by decide) q283 rfl rfl rfl rfl (Nat.le_of_ble_eq_true rfl) dJ0_init_2_6 (fun H locs hM hS => ?_)
  have hM : XF D A dA ad X ((q, .inr (6, [.ref q, .null, .null, .null, .null, .int 0, .int 0])) :: L) H := hM
  refine lv_aload_n C0.1 C0.2.1 dJ0_init_2_9 rfl (lv_at hl 0 rfl) ?_
  obtain ⟨v1, r1, z1⟩ := hG.2.2.1.1
  refine va_gets C0.1 C0.2.1 z1 hS C0.2.2.2.1 (C0.2.2.2.2 _ q254) (fun _ h9 => h9) dJ0_init_2_10 ?_
  refine x_eput C0 hG hM hS 0 rfl rfl in_X6 tyX6 tyX6_ok nmX6 1 (by decide) q284 rfl rfl (r1.narA _) (r1.fitA _) (Nat.le_of_ble_eq_true rfl) dJ0_init_2_13 (fun H locs hM hS => ?_)
  have hM : XF D A dA ad X ((q, .inr (6, [.ref q, v1, .null, .null, .null, .int 0, .int 0])) :: L) H := hM
  refine lv_aload_n C0.1 C0.2.1 dJ0_init_2_16 rfl (lv_at hl 0 rfl) ?_
  obtain ⟨v2, r2, z2⟩ := hG.2.2.1.2
  refine va_gets C0.1 C0.2.1 z2 hS C0.2.2.2.1 (C0.2.2.2.2 _ q256) (fun _ h9 => h9) dJ0_init_2_17 ?_
  refine x_eput C0 hG hM hS 0 rfl rfl in_X6 tyX6 tyX6_ok nmX6 2 (by decide) q285 rfl rfl (r2.narO _) (r2.fitO _) (Nat.le_of_ble_eq_true rfl) dJ0_init_2_20 (fun H locs hM hS => ?_)
  have hM : XF D A dA ad X ((q, .inr (6, [.ref q, v1, v2, .null, .null, .int 0, .int 0])) :: L) H := hM
  refine lv_iload C0.1 C0.2.1 dJ0_init_2_23 (lv_at hl 4 rfl) ?_
  refine lv_if_eq (tgt := 36) C0.1 C0.2.1 dJ0_init_2_25 (by decide) (fun c_25 => ?_) (fun c_25 => ?_)
  · refine lv_aload_n C0.1 C0.2.1 dJ0_init_2_36 rfl (lv_at hl 0 rfl) ?_
    refine lv_null C0.1 C0.2.1 dJ0_init_2_37 ?_
    refine x_eput C0 hG hM hS 0 rfl rfl in_X6 tyX6 tyX6_ok nmX6 1 (by decide) q284 rfl rfl rfl rfl (Nat.le_of_ble_eq_true rfl) dJ0_init_2_38 (fun H locs hM hS => ?_)
    have hM : XF D A dA ad X ((q, .inr (6, [.ref q, .null, v2, .null, .null, .int 0, .int 0])) :: L) H := hM
    refine lv_aload_n C0.1 C0.2.1 dJ0_init_2_41 rfl (lv_at hl 0 rfl) ?_
    refine lv_aload_nN C0.1 C0.2.1 dJ0_init_2_42 rfl (lv_at hl 1 rfl) ?_
    refine x_eput C0 hG hM hS 0 rfl rfl in_X6 tyX6 tyX6_ok nmX6 3 (by decide) q282 rfl rfl rfl rfl (Nat.le_of_ble_eq_true rfl) dJ0_init_2_43 (fun H locs hM hS => ?_)
    have hM : XF D A dA ad X ((q, .inr (6, [.ref q, .null, v2, .null, .null, .int 0, .int 0])) :: L) H := hM
    refine lv_aload_n C0.1 C0.2.1 dJ0_init_2_46 rfl (lv_at hl 0 rfl) ?_
    refine lv_aload_nN C0.1 C0.2.1 dJ0_init_2_47 rfl (lv_at hl 2 rfl) ?_
    refine x_eput C0 hG hM hS 0 rfl rfl in_X6 tyX6 tyX6_ok nmX6 0 (by decide) q283 rfl rfl rfl rfl (Nat.le_of_ble_eq_true rfl) dJ0_init_2_48 (fun H locs hM hS => ?_)
    have hM : XF D A dA ad X ((q, .inr (6, [.null, .null, v2, .null, .null, .int 0, .int 0])) :: L) H := hM
    refine lv_iload_n C0.1 C0.2.1 dJ0_init_2_51 rfl (lv_at hl 3 rfl) ?_
    refine lv_if_ne (tgt := 60) C0.1 C0.2.1 dJ0_init_2_52 (by decide) (fun c_52 => ?_) (fun c_52 => ?_)
    · exact absurd rfl c_52
    · refine lv_aload_n C0.1 C0.2.1 dJ0_init_2_55 rfl (lv_at hl 0 rfl) ?_
      refine lv_null C0.1 C0.2.1 dJ0_init_2_56 ?_
      refine x_eput C0 hG hM hS 0 rfl rfl in_X6 tyX6 tyX6_ok nmX6 2 (by decide) q285 rfl rfl rfl rfl (Nat.le_of_ble_eq_true rfl) dJ0_init_2_57 (fun H locs hM hS => ?_)
      have hM : XF D A dA ad X ((q, .inr (6, [.null, .null, .null, .null, .null, .int 0, .int 0])) :: L) H := hM
      exact x_vretS C0 hr hlk hM hS rfl dJ0_init_2_60 (Nat.le_of_ble_eq_true rfl) (Nat.le_of_ble_eq_true rfl)
  · exact absurd rfl c_25
theorem hdx_J1_init : yJ1_init.cls ≠ "java/lang/invoke/MethodHandle" ∧ yJ1_init.cls ≠ "java/lang/invoke/VarHandle" ∧ (parseMethodDescriptor yJ1_init.desc).map (fun d => d.parameters.length) = some 4 := by decide +kernel
set_option maxHeartbeats 4000000 in
theorem j1_init (l : Launch) (D : va_G) (dA : Nat → ClassId) (ad : Nat → Nat) (X : St) (L : Ex) (sz : Nat) (q : Nat) : xCv l yJ1_init cJ1_init 5 { frames := 2, cells := 0, slots := 0, locals := 44 } D dA ad X ((q, .inr (6, [.null, .null, .null, .null, .null, .int 0, .int 0])) :: L) sz [.ref q, .null, .null, .int 0, .int 0] 0 0 (fun u => u = (ad, X, (q, .inr (6, [.null, .null, .null, .null, .null, .int 0, .int 0])) :: L)) := by
  refine x_hVF (by decide +kernel) (Nat.le_of_ble_eq_true rfl) ?_
  intro A p e s m below meth cd ls C0 hr hlk hnm hG hM hS hl
  have hl : lv_has ls 5 [(0, .ref q), (1, .null), (2, .null), (3, .int 0), (4, .int 0)] := hl
  refine lv_aload_n C0.1 C0.2.1 dJ1_init_0 rfl (lv_at hl 0 rfl) ?_
  refine lv_aload_nN C0.1 C0.2.1 dJ1_init_1 rfl (lv_at hl 1 rfl) ?_
  refine lv_aload_nN C0.1 C0.2.1 dJ1_init_2 rfl (lv_at hl 2 rfl) ?_
  refine lv_iload_n C0.1 C0.2.1 dJ1_init_3 rfl (lv_at hl 3 rfl) ?_
  refine lv_iload C0.1 C0.2.1 dJ1_init_4 (lv_at hl 4 rfl) ?_
  refine x_kv (va_runI (b := q) (As := [.null, .null, .int 0, .int 0]) (rest := []) C0 (j0_init_2 l D dA ad X L _ q) (cwI 4 C0.2.2.2.2 (lw_meth q278) rfl rfl rfl (C0.2.2.2.2 _ q45) (C0.2.2.2.2 _ q276) (C0.2.2.2.2 _ q277) rfl hdx_J0_init_2 ⟨(Nat.le_of_ble_eq_true rfl), (Nat.le_of_ble_eq_true rfl)⟩) (x_preS hG hM hS) rfl rfl hl.1 rfl (lv_room (Nat.le_of_ble_eq_true rfl)) dJ1_init_6 ⟨(Nat.le_of_ble_eq_true rfl), (Nat.le_of_ble_eq_true rfl)⟩) hG hM hS (fun u H locs hr hM hS => ?_)
  subst hr
  have hM : XF D A dA ad X ((q, .inr (6, [.null, .null, .null, .null, .null, .int 0, .int 0])) :: L) H := hM
  exact x_vretS C0 hr hlk hM hS rfl dJ1_init_9 (Nat.le_of_ble_eq_true rfl) (Nat.le_of_ble_eq_true rfl)
theorem hdx_J2_init : yJ2_init.cls ≠ "java/lang/invoke/MethodHandle" ∧ yJ2_init.cls ≠ "java/lang/invoke/VarHandle" ∧ (parseMethodDescriptor yJ2_init.desc).map (fun d => d.parameters.length) = some 4 := by decide +kernel
set_option maxHeartbeats 4000000 in
theorem j2_init (l : Launch) (D : va_G) (dA : Nat → ClassId) (ad : Nat → Nat) (X : St) (L : Ex) (sz : Nat) (q : Nat) : xCv l yJ2_init cJ2_init 5 { frames := 3, cells := 0, slots := 0, locals := 68 } D dA ad X ((q, .inr (6, [.null, .null, .null, .null, .null, .int 0, .int 0])) :: L) sz [.ref q, .null, .null, .int 0, .int 0] 0 0 (fun u => u = (ad, X, (q, .inr (6, [.null, .null, .null, .null, .null, .int 0, .int 0])) :: L)) := by
  refine x_hVF (by decide +kernel) (Nat.le_of_ble_eq_true rfl) ?_
  intro A p e s m below meth cd ls C0 hr hlk hnm hG hM hS hl
  have hl : lv_has ls 5 [(0, .ref q), (1, .null), (2, .null), (3, .int 0), (4, .int 0)] := hl
  refine lv_aload_n C0.1 C0.2.1 dJ2_init_0 rfl (lv_at hl 0 rfl) ?_
  refine lv_aload_nN C0.1 C0.2.1 dJ2_init_1 rfl (lv_at hl 1 rfl) ?_
  refine lv_aload_nN C0.1 C0.2.1 dJ2_init_2 rfl (lv_at hl 2 rfl) ?_
  refine lv_iload_n C0.1 C0.2.1 dJ2_init_3 rfl (lv_at hl 3 rfl) ?_
  refine lv_iload C0.1 C0.2.1 dJ2_init_4 (lv_at hl 4 rfl) ?_
  refine x_kv (va_runI (b := q) (As := [.null, .null, .int 0, .int 0]) (rest := []) C0 (j1_init l D dA ad X L _ q) (cwI 4 C0.2.2.2.2 (lw_meth q275) rfl rfl rfl (C0.2.2.2.2 _ q46) (C0.2.2.2.2 _ q273) (C0.2.2.2.2 _ q274) rfl hdx_J1_init ⟨(Nat.le_of_ble_eq_true rfl), (Nat.le_of_ble_eq_true rfl)⟩) (x_preS hG hM hS) rfl rfl hl.1 rfl (lv_room (Nat.le_of_ble_eq_true rfl)) dJ2_init_6 ⟨(Nat.le_of_ble_eq_true rfl), (Nat.le_of_ble_eq_true rfl)⟩) hG hM hS (fun u H locs hr hM hS => ?_)
  subst hr
  have hM : XF D A dA ad X ((q, .inr (6, [.null, .null, .null, .null, .null, .int 0, .int 0])) :: L) H := hM
  exact x_vretS C0 hr hlk hM hS rfl dJ2_init_9 (Nat.le_of_ble_eq_true rfl) (Nat.le_of_ble_eq_true rfl)
theorem hdx_X6_init : yX6_init.cls ≠ "java/lang/invoke/MethodHandle" ∧ yX6_init.cls ≠ "java/lang/invoke/VarHandle" ∧ (parseMethodDescriptor yX6_init.desc).map (fun d => d.parameters.length) = some 1 := by decide +kernel
set_option maxHeartbeats 4000000 in
theorem x6_init (l : Launch) (D : va_G) (dA : Nat → ClassId) (ad : Nat → Nat) (X : St) (L : Ex) (sz : Nat) (q k : Nat) : xCv l yX6_init cX6_init 2 { frames := 4, cells := 0, slots := 0, locals := 92 } D dA ad X ((q, .inr (6, [.null, .null, .null, .null, .null, .int 0, .int 0])) :: L) sz [.ref q, .int (-(nI k))] 0 0 (fun u => u = (ad, X, (q, refE k) :: L)) := by
  refine x_hV (by decide) (Nat.le_of_ble_eq_true rfl) ?_
  intro A p e s m below meth cd ls C0 hr hlk hnm hG hM hS hl
  have hl : lv_has ls 2 [(0, .ref q), (1, .int (-(nI k)))] := hl
  refine lv_aload_n C0.1 C0.2.1 dX6_init_0 rfl (lv_at hl 0 rfl) ?_
  refine lv_null C0.1 C0.2.1 dX6_init_1 ?_
  refine lv_null C0.1 C0.2.1 dX6_init_2 ?_
  refine lv_iconst (v := 0) C0.1 C0.2.1 dX6_init_3 (by decide) ?_
  refine lv_iconst (v := 0) C0.1 C0.2.1 dX6_init_4 (by decide) ?_
  refine x_kv (va_runI (b := q) (As := [.null, .null, .int 0, .int 0]) (rest := []) C0 (j2_init l D dA ad X L _ q) (cwI 4 C0.2.2.2.2 (lw_meth q272) rfl rfl rfl (C0.2.2.2.2 _ q47) (C0.2.2.2.2 _ q270) (C0.2.2.2.2 _ q271) rfl hdx_J2_init ⟨(Nat.le_of_ble_eq_true rfl), (Nat.le_of_ble_eq_true rfl)⟩) (x_preS hG hM hS) rfl rfl hl.1 rfl (lv_room (Nat.le_of_ble_eq_true rfl)) dX6_init_5 ⟨(Nat.le_of_ble_eq_true rfl), (Nat.le_of_ble_eq_true rfl)⟩) hG hM hS (fun u H locs hr hM hS => ?_)
  subst hr
  have hM : XF D A dA ad X ((q, .inr (6, [.null, .null, .null, .null, .null, .int 0, .int 0])) :: L) H := hM
  refine lv_aload_n C0.1 C0.2.1 dX6_init_8 rfl (lv_at hl 0 rfl) ?_
  refine lv_iload_n C0.1 C0.2.1 dX6_init_9 rfl (lv_at hl 1 rfl) ?_
  refine x_eputF C0 hG hM hS 0 rfl rfl in_X6 tyX6 tyX6_ok nmX6 6 (by decide) q279 rfl hnm rfl rfl rfl rfl (Nat.le_of_ble_eq_true rfl) dX6_init_10 (fun H locs hM hS => ?_)
  have hM : XF D A dA ad X ((q, .inr (6, [.null, .null, .null, .null, .null, .int 0, .int (-(nI k))])) :: L) H := hM
  exact x_vretS C0 hr hlk hM hS rfl dX6_init_13 (Nat.le_of_ble_eq_true rfl) (Nat.le_of_ble_eq_true rfl)
theorem hdx_X5_init : yX5_init.cls ≠ "java/lang/invoke/MethodHandle" ∧ yX5_init.cls ≠ "java/lang/invoke/VarHandle" ∧ (parseMethodDescriptor yX5_init.desc).map (fun d => d.parameters.length) = some 1 := by decide +kernel
set_option maxHeartbeats 4000000 in
theorem x5_init (l : Launch) (D : va_G) (dA : Nat → ClassId) (ad : Nat → Nat) (X : St) (L : Ex) (sz : Nat) (q n : Nat) (hn : n ≤ 16) : xCv l yX5_init cX5_init 2 { frames := 1, cells := 1, slots := 16, locals := 20 } D dA ad X ((q, .inr (5, [.null])) :: L) sz [.ref q, .int (nI n)] 1 16 (fun u => ∃ r, u = (ad, X, (r, .inl (dA 0, n, .inl (fun _ => 0))) :: (q, .inr (5, [.ref r])) :: L)) := by
  refine x_hV (by decide) (Nat.le_of_ble_eq_true rfl) ?_
  intro A p e s m below meth cd ls C0 hr hlk hnm hG hM hS hl
  have hl : lv_has ls 2 [(0, .ref q), (1, .int (nI n))] := hl
  refine lv_aload_n C0.1 C0.2.1 dX5_init_0 rfl (lv_at hl 0 rfl) ?_
  refine W.objInit C0.1 C0.2.1 C0.2.2.2.1 (C0.2.2.2.2 _ q214) (C0.2.2.2.2 _ q61) (C0.2.2.2.2 _ q62) rfl (hl.1.trans C0.2.2.1.symm) rfl dX5_init_1 (Nat.le_of_ble_eq_true rfl) (Nat.le_of_ble_eq_true rfl) ?_
  refine at_pc 4 rfl ?_
  refine lv_aload_n C0.1 C0.2.1 dX5_init_4 rfl (lv_at hl 0 rfl) ?_
  refine lv_iload_n C0.1 C0.2.1 dX5_init_5 rfl (lv_at hl 1 rfl) ?_
  refine x_newiC C0 hG hM hS n rfl (by omega) (Nat.le_of_ble_eq_true rfl) (by show 0 + n ≤ 16; omega) dX5_init_6 (fun r6 H hM hS => ?_)
  refine x_eputF C0 hG hM hS 1 rfl rfl in_X5 tyX5 tyX5_ok nmX5 0 (by decide) q215 rfl hnm rfl rfl rfl rfl (Nat.le_of_ble_eq_true rfl) dX5_init_8 (fun H locs hM hS => ?_)
  have hM : XF D A dA ad X ((r6, .inl (dA 0, n, .inl (fun _ => 0))) :: (q, .inr (5, [.ref r6])) :: L) H := hM
  exact x_vretS C0 hr hlk hM hS ⟨r6, rfl⟩ dX5_init_11 (Nat.le_of_ble_eq_true rfl) (by show 0 + n ≤ 16; omega)
theorem hdx_X7_init : yX7_init.cls ≠ "java/lang/invoke/MethodHandle" ∧ yX7_init.cls ≠ "java/lang/invoke/VarHandle" ∧ (parseMethodDescriptor yX7_init.desc).map (fun d => d.parameters.length) = some 5 := by decide +kernel
set_option maxHeartbeats 4000000 in
theorem x7_init (l : Launch) (D : va_G) (dA : Nat → ClassId) (ad : Nat → Nat) (X : St) (L : Ex) (sz : Nat) (q on wa la ba : Nat) : xCv l yX7_init cX7_init 6 { frames := 1, cells := 0, slots := 0, locals := 20 } D dA ad X ((q, .inr (7, [.null, .null, .null, .null, .int 0, .int 0, .int 0, .null])) :: L) sz [.ref q, .ref (ad 0), .ref on, .ref wa, .ref la, .ref ba] 0 0 (fun u => u = (ad, X, (q, penE ad on wa la ba 0 0 0) :: L)) := by
  refine x_hV (by decide) (Nat.le_of_ble_eq_true rfl) ?_
  intro A p e s m below meth cd ls C0 hr hlk hnm hG hM hS hl
  have hl : lv_has ls 6 [(0, .ref q), (1, .ref (ad 0)), (2, .ref on), (3, .ref wa), (4, .ref la), (5, .ref ba)] := hl
  refine lv_aload_n C0.1 C0.2.1 dX7_init_0 rfl (lv_at hl 0 rfl) ?_
  refine lv_aload_n C0.1 C0.2.1 dX7_init_1 rfl (lv_at hl 1 rfl) ?_
  refine x_eputF C0 hG hM hS 0 rfl rfl in_X7 tyX7 tyX7_ok nmX7 7 (by decide) q413 rfl hnm rfl rfl rfl rfl (Nat.le_of_ble_eq_true rfl) dX7_init_2 (fun H locs hM hS => ?_)
  have hM : XF D A dA ad X ((q, .inr (7, [.null, .null, .null, .null, .int 0, .int 0, .int 0, .ref (ad 0)])) :: L) H := hM
  refine lv_aload_n C0.1 C0.2.1 dX7_init_5 rfl (lv_at hl 0 rfl) ?_
  refine W.objInit C0.1 C0.2.1 C0.2.2.2.1 (C0.2.2.2.2 _ q405) (C0.2.2.2.2 _ q61) (C0.2.2.2.2 _ q62) rfl (hl.1.trans C0.2.2.1.symm) rfl dX7_init_6 (Nat.le_of_ble_eq_true rfl) (Nat.le_of_ble_eq_true rfl) ?_
  refine at_pc 9 rfl ?_
  refine lv_aload_n C0.1 C0.2.1 dX7_init_9 rfl (lv_at hl 0 rfl) ?_
  refine lv_aload_n C0.1 C0.2.1 dX7_init_10 rfl (lv_at hl 2 rfl) ?_
  refine x_eputF C0 hG hM hS 0 rfl rfl in_X7 tyX7 tyX7_ok nmX7 0 (by decide) q406 rfl hnm rfl rfl rfl rfl (Nat.le_of_ble_eq_true rfl) dX7_init_11 (fun H locs hM hS => ?_)
  have hM : XF D A dA ad X ((q, .inr (7, [.ref on, .null, .null, .null, .int 0, .int 0, .int 0, .ref (ad 0)])) :: L) H := hM
  refine lv_aload_n C0.1 C0.2.1 dX7_init_14 rfl (lv_at hl 0 rfl) ?_
  refine lv_aload_n C0.1 C0.2.1 dX7_init_15 rfl (lv_at hl 3 rfl) ?_
  refine x_eputF C0 hG hM hS 0 rfl rfl in_X7 tyX7 tyX7_ok nmX7 1 (by decide) q407 rfl hnm rfl rfl rfl rfl (Nat.le_of_ble_eq_true rfl) dX7_init_16 (fun H locs hM hS => ?_)
  have hM : XF D A dA ad X ((q, .inr (7, [.ref on, .ref wa, .null, .null, .int 0, .int 0, .int 0, .ref (ad 0)])) :: L) H := hM
  refine lv_aload_n C0.1 C0.2.1 dX7_init_19 rfl (lv_at hl 0 rfl) ?_
  refine lv_aload C0.1 C0.2.1 dX7_init_20 (lv_at hl 4 rfl) ?_
  refine x_eputF C0 hG hM hS 0 rfl rfl in_X7 tyX7 tyX7_ok nmX7 2 (by decide) q408 rfl hnm rfl rfl rfl rfl (Nat.le_of_ble_eq_true rfl) dX7_init_22 (fun H locs hM hS => ?_)
  have hM : XF D A dA ad X ((q, .inr (7, [.ref on, .ref wa, .ref la, .null, .int 0, .int 0, .int 0, .ref (ad 0)])) :: L) H := hM
  refine lv_aload_n C0.1 C0.2.1 dX7_init_25 rfl (lv_at hl 0 rfl) ?_
  refine lv_aload C0.1 C0.2.1 dX7_init_26 (lv_at hl 5 rfl) ?_
  refine x_eputF C0 hG hM hS 0 rfl rfl in_X7 tyX7 tyX7_ok nmX7 3 (by decide) q409 rfl hnm rfl rfl rfl rfl (Nat.le_of_ble_eq_true rfl) dX7_init_28 (fun H locs hM hS => ?_)
  have hM : XF D A dA ad X ((q, .inr (7, [.ref on, .ref wa, .ref la, .ref ba, .int 0, .int 0, .int 0, .ref (ad 0)])) :: L) H := hM
  exact x_vretS C0 hr hlk hM hS rfl dX7_init_31 (Nat.le_of_ble_eq_true rfl) (Nat.le_of_ble_eq_true rfl)
theorem hdx_X2_clear_5 : yX2_clear.cls = RX2 ∧ yX2_clear.cls ≠ "java/lang/invoke/MethodHandle" ∧ yX2_clear.cls ≠ "java/lang/invoke/VarHandle" ∧ (parseMethodDescriptor yX2_clear.desc).map (fun d => d.parameters.length) = some 0 := by decide +kernel
set_option maxHeartbeats 4000000 in
theorem x2_clear5 (l : Launch) (D : va_G) (dA : Nat → ClassId) (ad : Nat → Nat) (X : St) (L : Ex) (sz : Nat)  : xCv l yX2_clear cX2_clear 2 { frames := 0, cells := 0, slots := 0, locals := 0 } D dA ad X L sz [.ref (ad 5)] 0 0 (fun u => u = (ad, clrA X 23 1200, L)) := by
  refine x_hV (by decide) (Nat.le_of_ble_eq_true rfl) ?_
  intro A p e s m below meth cd ls C0 hr hlk hnm hG hM hS hl
  have hl : lv_has ls 2 [(0, .ref (ad 5))] := hl
  refine lv_iconst (v := 0) C0.1 C0.2.1 dX2_clear_0 (by decide) ?_
  refine lv_istore_n (lv' := [(1, .int 0), (0, .ref (ad 5))]) C0.1 C0.2.1 dX2_clear_1 rfl hl (by decide) rfl (fun ls hl => ?_)
  refine W_loop 1200 (fun i H locs ls => XF D A dA ad (clrA X 23 i) L H ∧ va_S A s.heap H locs ∧ lv_has ls 2 [(0, .ref (ad 5)), (1, .int (nI i))]) 2 ?_ ?_ 0 _ _ ls (Nat.zero_le _) ⟨hM, hS, lv_sub hl [1, 0] rfl⟩
  · intro H locs ls ⟨hM, hS, hl⟩
    refine lv_iload_n C0.1 C0.2.1 dX2_clear_2 rfl (lv_at hl 1 rfl) ?_
    refine lv_aload_n C0.1 C0.2.1 dX2_clear_3 rfl (lv_at hl 0 rfl) ?_
    refine x_get C0 hG hM 5 (xw_5 dA ad _ _) rfl rfl in_X2 0 (by decide) rfl q82 dX2_clear_4 ?_
    refine x_alen C0 hG hM 23 rfl dX2_clear_7 ?_
    refine lv_icmp_ge (tgt := 24) C0.1 C0.2.1 dX2_clear_8 (by decide) (fun c_8 => ?_) (fun c_8 => ?_)
    · have n_8 : 1200 ≤ 1200 := (nI_leI (a := 1200) (b := 1200) (by omega) (by omega)).mp c_8
      exact x_vretS C0 hr hlk hM hS rfl dX2_clear_24 (Nat.le_of_ble_eq_true rfl) (Nat.le_of_ble_eq_true rfl)
    · have n_8 : ¬ 1200 ≤ 1200 := fun z => c_8 ((nI_leI (a := 1200) (b := 1200) (by omega) (by omega)).mpr z)
      omega
  · intro i H locs ls hi ⟨hM, hS, hl⟩ K2
    refine lv_iload_n C0.1 C0.2.1 dX2_clear_2 rfl (lv_at hl 1 rfl) ?_
    refine lv_aload_n C0.1 C0.2.1 dX2_clear_3 rfl (lv_at hl 0 rfl) ?_
    refine x_get C0 hG hM 5 (xw_5 dA ad _ _) rfl rfl in_X2 0 (by decide) rfl q82 dX2_clear_4 ?_
    refine x_alen C0 hG hM 23 rfl dX2_clear_7 ?_
    refine lv_icmp_ge (tgt := 24) C0.1 C0.2.1 dX2_clear_8 (by decide) (fun c_8 => ?_) (fun c_8 => ?_)
    · have n_8 : 1200 ≤ i := (nI_leI (a := 1200) (b := i) (by omega) (by omega)).mp c_8
      omega
    · have n_8 : ¬ 1200 ≤ i := fun z => c_8 ((nI_leI (a := 1200) (b := i) (by omega) (by omega)).mpr z)
      refine lv_aload_n C0.1 C0.2.1 dX2_clear_11 rfl (lv_at hl 0 rfl) ?_
      refine x_get C0 hG hM 5 (xw_5 dA ad _ _) rfl rfl in_X2 0 (by decide) rfl q82 dX2_clear_12 ?_
      refine lv_iload_n C0.1 C0.2.1 dX2_clear_15 rfl (lv_at hl 1 rfl) ?_
      refine lv_iconst (v := 0) C0.1 C0.2.1 dX2_clear_16 (by decide) ?_
      refine x_zast C0 hG hM hS 23 i rfl rfl rfl (show i < 1200 from (by omega)) (by decide) nar_z0 dX2_clear_17 (fun H locs hM hS => ?_)
      refine lv_iinc (v := nI (i + 1)) (lv' := [(1, .int (nI (i + 1))), (0, .ref (ad 5))]) C0.1 C0.2.1 dX2_clear_18 hl (k := 1) rfl (nI_1 i) (by decide) rfl (fun ls hl => ?_)
      refine lv_goto (tgt := 2) C0.1 C0.2.1 dX2_clear_21 (by decide) ?_
      exact K2 _ _ ls ⟨hM, hS, lv_sub hl [1, 0] rfl⟩
theorem hdx_X2_mark_5 : yX2_mark.cls = RX2 ∧ yX2_mark.cls ≠ "java/lang/invoke/MethodHandle" ∧ yX2_mark.cls ≠ "java/lang/invoke/VarHandle" ∧ (parseMethodDescriptor yX2_mark.desc).map (fun d => d.parameters.length) = some 4 := by decide +kernel
set_option maxHeartbeats 4000000 in
theorem x2_mark5 (l : Launch) (D : va_G) (dA : Nat → ClassId) (ad : Nat → Nat) (X : St) (L : Ex) (sz : Nat) (x y k t : Nat) (hx : x < 120) (hy : y < 10) : xCv l yX2_mark cX2_mark 6 { frames := 0, cells := 0, slots := 0, locals := 0 } D dA ad X L sz [.ref (ad 5), .int (nI x), .int (nI y), .int (nI k), .int (nI t)] 0 0 (fun u => u = (ad, mkX X 23 24 (10 * x + y) k t, L)) := by
  refine x_hV (by decide) (Nat.le_of_ble_eq_true rfl) ?_
  intro A p e s m below meth cd ls C0 hr hlk hnm hG hM hS hl
  have hl : lv_has ls 6 [(0, .ref (ad 5)), (1, .int (nI x)), (2, .int (nI y)), (3, .int (nI k)), (4, .int (nI t))] := hl
  refine lv_bipush (v := 10) C0.1 C0.2.1 dX2_mark_0 (by decide) ?_
  refine lv_iload_n C0.1 C0.2.1 dX2_mark_2 rfl (lv_at hl 1 rfl) ?_
  refine lv_imul C0.1 C0.2.1 dX2_mark_3 ?_
  refine tp_eq (y := nI (10 * x)) (pk_mul 10 x) ?_
  refine lv_iload_n C0.1 C0.2.1 dX2_mark_4 rfl (lv_at hl 2 rfl) ?_
  refine lv_iadd C0.1 C0.2.1 dX2_mark_5 ?_
  refine tp_eq (y := nI (10 * x + y)) (nI_add (10 * x) y) ?_
  refine lv_istore (lv' := [(5, .int (nI (10 * x + y))), (0, .ref (ad 5)), (1, .int (nI x)), (2, .int (nI y)), (3, .int (nI k)), (4, .int (nI t))]) C0.1 C0.2.1 dX2_mark_6 hl (by decide) rfl (fun ls hl => ?_)
  refine lv_aload_n C0.1 C0.2.1 dX2_mark_8 rfl (lv_at hl 1 rfl) ?_
  refine x_get C0 hG hM 5 (xw_5 dA ad _ _) rfl rfl in_X2 0 (by decide) rfl q82 dX2_mark_9 ?_
  refine lv_iload C0.1 C0.2.1 dX2_mark_12 (lv_at hl 0 rfl) ?_
  refine x_zald C0 hG hM 23 (10 * x + y) rfl rfl rfl (show 10 * x + y < 1200 from (by omega)) (by decide) dX2_mark_14 ?_
  refine lv_if_eq (tgt := 19) C0.1 C0.2.1 dX2_mark_15 (by decide) (fun c_15 => ?_) (fun c_15 => ?_)
  · refine lv_aload_n C0.1 C0.2.1 dX2_mark_19 rfl (lv_at hl 1 rfl) ?_
    refine x_get C0 hG hM 5 (xw_5 dA ad _ _) rfl rfl in_X2 0 (by decide) rfl q82 dX2_mark_20 ?_
    refine lv_iload C0.1 C0.2.1 dX2_mark_23 (lv_at hl 0 rfl) ?_
    refine lv_iconst (v := 1) C0.1 C0.2.1 dX2_mark_25 (by decide) ?_
    refine x_zast C0 hG hM hS 23 (10 * x + y) rfl rfl rfl (show 10 * x + y < 1200 from (by omega)) (by decide) nar_z1 dX2_mark_26 (fun H locs hM hS => ?_)
    refine lv_aload_n C0.1 C0.2.1 dX2_mark_27 rfl (lv_at hl 1 rfl) ?_
    refine x_get C0 hG hM 5 (xw_5 dA ad _ _) rfl rfl in_X2 1 (by decide) rfl q84 dX2_mark_28 ?_
    refine lv_iload C0.1 C0.2.1 dX2_mark_31 (lv_at hl 0 rfl) ?_
    refine lv_bipush (v := 100) C0.1 C0.2.1 dX2_mark_33 (by decide) ?_
    refine lv_iload_n C0.1 C0.2.1 dX2_mark_35 rfl (lv_at hl 4 rfl) ?_
    refine lv_imul C0.1 C0.2.1 dX2_mark_36 ?_
    refine tp_eq (y := nI (100 * k)) (pk_mul 100 k) ?_
    refine lv_iload C0.1 C0.2.1 dX2_mark_37 (lv_at hl 5 rfl) ?_
    refine lv_iadd C0.1 C0.2.1 dX2_mark_39 ?_
    refine tp_eq (y := nI (100 * k + t)) (nI_add (100 * k) t) ?_
    refine x_iast C0 hG hM hS 24 (10 * x + y) rfl rfl rfl (show 10 * x + y < 1200 from (by omega)) (by decide) dX2_mark_40 (fun H locs hM hS => ?_)
    have hM : XF D A dA ad (mkX X 23 24 (10 * x + y) k t) L H := by
      rw [mkX_0 c_15]; exact hM
    exact x_vretS C0 hr hlk hM hS rfl dX2_mark_41 (Nat.le_of_ble_eq_true rfl) (Nat.le_of_ble_eq_true rfl)
  · have hM : XF D A dA ad (mkX X 23 24 (10 * x + y) k t) L s.heap := by
      rw [mkX_1 c_15]; exact hM
    exact x_vretS C0 hr hlk hM hS rfl dX2_mark_18 (Nat.le_of_ble_eq_true rfl) (Nat.le_of_ble_eq_true rfl)
theorem hdx_X2_clear_6 : yX2_clear.cls = RX2 ∧ yX2_clear.cls ≠ "java/lang/invoke/MethodHandle" ∧ yX2_clear.cls ≠ "java/lang/invoke/VarHandle" ∧ (parseMethodDescriptor yX2_clear.desc).map (fun d => d.parameters.length) = some 0 := by decide +kernel
set_option maxHeartbeats 4000000 in
theorem x2_clear6 (l : Launch) (D : va_G) (dA : Nat → ClassId) (ad : Nat → Nat) (X : St) (L : Ex) (sz : Nat)  : xCv l yX2_clear cX2_clear 2 { frames := 0, cells := 0, slots := 0, locals := 0 } D dA ad X L sz [.ref (ad 6)] 0 0 (fun u => u = (ad, clrA X 29 1200, L)) := by
  refine x_hV (by decide) (Nat.le_of_ble_eq_true rfl) ?_
  intro A p e s m below meth cd ls C0 hr hlk hnm hG hM hS hl
  have hl : lv_has ls 2 [(0, .ref (ad 6))] := hl
  refine lv_iconst (v := 0) C0.1 C0.2.1 dX2_clear_0 (by decide) ?_
  refine lv_istore_n (lv' := [(1, .int 0), (0, .ref (ad 6))]) C0.1 C0.2.1 dX2_clear_1 rfl hl (by decide) rfl (fun ls hl => ?_)
  refine W_loop 1200 (fun i H locs ls => XF D A dA ad (clrA X 29 i) L H ∧ va_S A s.heap H locs ∧ lv_has ls 2 [(0, .ref (ad 6)), (1, .int (nI i))]) 2 ?_ ?_ 0 _ _ ls (Nat.zero_le _) ⟨hM, hS, lv_sub hl [1, 0] rfl⟩
  · intro H locs ls ⟨hM, hS, hl⟩
    refine lv_iload_n C0.1 C0.2.1 dX2_clear_2 rfl (lv_at hl 1 rfl) ?_
    refine lv_aload_n C0.1 C0.2.1 dX2_clear_3 rfl (lv_at hl 0 rfl) ?_
    refine x_get C0 hG hM 6 (xw_6 dA ad _ _) rfl rfl in_X2 0 (by decide) rfl q82 dX2_clear_4 ?_
    refine x_alen C0 hG hM 29 rfl dX2_clear_7 ?_
    refine lv_icmp_ge (tgt := 24) C0.1 C0.2.1 dX2_clear_8 (by decide) (fun c_8 => ?_) (fun c_8 => ?_)
    · have n_8 : 1200 ≤ 1200 := (nI_leI (a := 1200) (b := 1200) (by omega) (by omega)).mp c_8
      exact x_vretS C0 hr hlk hM hS rfl dX2_clear_24 (Nat.le_of_ble_eq_true rfl) (Nat.le_of_ble_eq_true rfl)
    · have n_8 : ¬ 1200 ≤ 1200 := fun z => c_8 ((nI_leI (a := 1200) (b := 1200) (by omega) (by omega)).mpr z)
      omega
  · intro i H locs ls hi ⟨hM, hS, hl⟩ K2
    refine lv_iload_n C0.1 C0.2.1 dX2_clear_2 rfl (lv_at hl 1 rfl) ?_
    refine lv_aload_n C0.1 C0.2.1 dX2_clear_3 rfl (lv_at hl 0 rfl) ?_
    refine x_get C0 hG hM 6 (xw_6 dA ad _ _) rfl rfl in_X2 0 (by decide) rfl q82 dX2_clear_4 ?_
    refine x_alen C0 hG hM 29 rfl dX2_clear_7 ?_
    refine lv_icmp_ge (tgt := 24) C0.1 C0.2.1 dX2_clear_8 (by decide) (fun c_8 => ?_) (fun c_8 => ?_)
    · have n_8 : 1200 ≤ i := (nI_leI (a := 1200) (b := i) (by omega) (by omega)).mp c_8
      omega
    · have n_8 : ¬ 1200 ≤ i := fun z => c_8 ((nI_leI (a := 1200) (b := i) (by omega) (by omega)).mpr z)
      refine lv_aload_n C0.1 C0.2.1 dX2_clear_11 rfl (lv_at hl 0 rfl) ?_
      refine x_get C0 hG hM 6 (xw_6 dA ad _ _) rfl rfl in_X2 0 (by decide) rfl q82 dX2_clear_12 ?_
      refine lv_iload_n C0.1 C0.2.1 dX2_clear_15 rfl (lv_at hl 1 rfl) ?_
      refine lv_iconst (v := 0) C0.1 C0.2.1 dX2_clear_16 (by decide) ?_
      refine x_zast C0 hG hM hS 29 i rfl rfl rfl (show i < 1200 from (by omega)) (by decide) nar_z0 dX2_clear_17 (fun H locs hM hS => ?_)
      refine lv_iinc (v := nI (i + 1)) (lv' := [(1, .int (nI (i + 1))), (0, .ref (ad 6))]) C0.1 C0.2.1 dX2_clear_18 hl (k := 1) rfl (nI_1 i) (by decide) rfl (fun ls hl => ?_)
      refine lv_goto (tgt := 2) C0.1 C0.2.1 dX2_clear_21 (by decide) ?_
      exact K2 _ _ ls ⟨hM, hS, lv_sub hl [1, 0] rfl⟩
theorem hdx_X2_mark_6 : yX2_mark.cls = RX2 ∧ yX2_mark.cls ≠ "java/lang/invoke/MethodHandle" ∧ yX2_mark.cls ≠ "java/lang/invoke/VarHandle" ∧ (parseMethodDescriptor yX2_mark.desc).map (fun d => d.parameters.length) = some 4 := by decide +kernel
set_option maxHeartbeats 4000000 in
theorem x2_mark6 (l : Launch) (D : va_G) (dA : Nat → ClassId) (ad : Nat → Nat) (X : St) (L : Ex) (sz : Nat) (x y k t : Nat) (hx : x < 120) (hy : y < 10) : xCv l yX2_mark cX2_mark 6 { frames := 0, cells := 0, slots := 0, locals := 0 } D dA ad X L sz [.ref (ad 6), .int (nI x), .int (nI y), .int (nI k), .int (nI t)] 0 0 (fun u => u = (ad, mkX X 29 30 (10 * x + y) k t, L)) := by
  refine x_hV (by decide) (Nat.le_of_ble_eq_true rfl) ?_
  intro A p e s m below meth cd ls C0 hr hlk hnm hG hM hS hl
  have hl : lv_has ls 6 [(0, .ref (ad 6)), (1, .int (nI x)), (2, .int (nI y)), (3, .int (nI k)), (4, .int (nI t))] := hl
  refine lv_bipush (v := 10) C0.1 C0.2.1 dX2_mark_0 (by decide) ?_
  refine lv_iload_n C0.1 C0.2.1 dX2_mark_2 rfl (lv_at hl 1 rfl) ?_
  refine lv_imul C0.1 C0.2.1 dX2_mark_3 ?_
  refine tp_eq (y := nI (10 * x)) (pk_mul 10 x) ?_
  refine lv_iload_n C0.1 C0.2.1 dX2_mark_4 rfl (lv_at hl 2 rfl) ?_
  refine lv_iadd C0.1 C0.2.1 dX2_mark_5 ?_
  refine tp_eq (y := nI (10 * x + y)) (nI_add (10 * x) y) ?_
  refine lv_istore (lv' := [(5, .int (nI (10 * x + y))), (0, .ref (ad 6)), (1, .int (nI x)), (2, .int (nI y)), (3, .int (nI k)), (4, .int (nI t))]) C0.1 C0.2.1 dX2_mark_6 hl (by decide) rfl (fun ls hl => ?_)
  refine lv_aload_n C0.1 C0.2.1 dX2_mark_8 rfl (lv_at hl 1 rfl) ?_
  refine x_get C0 hG hM 6 (xw_6 dA ad _ _) rfl rfl in_X2 0 (by decide) rfl q82 dX2_mark_9 ?_
  refine lv_iload C0.1 C0.2.1 dX2_mark_12 (lv_at hl 0 rfl) ?_
  refine x_zald C0 hG hM 29 (10 * x + y) rfl rfl rfl (show 10 * x + y < 1200 from (by omega)) (by decide) dX2_mark_14 ?_
  refine lv_if_eq (tgt := 19) C0.1 C0.2.1 dX2_mark_15 (by decide) (fun c_15 => ?_) (fun c_15 => ?_)
  · refine lv_aload_n C0.1 C0.2.1 dX2_mark_19 rfl (lv_at hl 1 rfl) ?_
    refine x_get C0 hG hM 6 (xw_6 dA ad _ _) rfl rfl in_X2 0 (by decide) rfl q82 dX2_mark_20 ?_
    refine lv_iload C0.1 C0.2.1 dX2_mark_23 (lv_at hl 0 rfl) ?_
    refine lv_iconst (v := 1) C0.1 C0.2.1 dX2_mark_25 (by decide) ?_
    refine x_zast C0 hG hM hS 29 (10 * x + y) rfl rfl rfl (show 10 * x + y < 1200 from (by omega)) (by decide) nar_z1 dX2_mark_26 (fun H locs hM hS => ?_)
    refine lv_aload_n C0.1 C0.2.1 dX2_mark_27 rfl (lv_at hl 1 rfl) ?_
    refine x_get C0 hG hM 6 (xw_6 dA ad _ _) rfl rfl in_X2 1 (by decide) rfl q84 dX2_mark_28 ?_
    refine lv_iload C0.1 C0.2.1 dX2_mark_31 (lv_at hl 0 rfl) ?_
    refine lv_bipush (v := 100) C0.1 C0.2.1 dX2_mark_33 (by decide) ?_
    refine lv_iload_n C0.1 C0.2.1 dX2_mark_35 rfl (lv_at hl 4 rfl) ?_
    refine lv_imul C0.1 C0.2.1 dX2_mark_36 ?_
    refine tp_eq (y := nI (100 * k)) (pk_mul 100 k) ?_
    refine lv_iload C0.1 C0.2.1 dX2_mark_37 (lv_at hl 5 rfl) ?_
    refine lv_iadd C0.1 C0.2.1 dX2_mark_39 ?_
    refine tp_eq (y := nI (100 * k + t)) (nI_add (100 * k) t) ?_
    refine x_iast C0 hG hM hS 30 (10 * x + y) rfl rfl rfl (show 10 * x + y < 1200 from (by omega)) (by decide) dX2_mark_40 (fun H locs hM hS => ?_)
    have hM : XF D A dA ad (mkX X 29 30 (10 * x + y) k t) L H := by
      rw [mkX_0 c_15]; exact hM
    exact x_vretS C0 hr hlk hM hS rfl dX2_mark_41 (Nat.le_of_ble_eq_true rfl) (Nat.le_of_ble_eq_true rfl)
  · have hM : XF D A dA ad (mkX X 29 30 (10 * x + y) k t) L s.heap := by
      rw [mkX_1 c_15]; exact hM
    exact x_vretS C0 hr hlk hM hS rfl dX2_mark_18 (Nat.le_of_ble_eq_true rfl) (Nat.le_of_ble_eq_true rfl)
theorem hdx_X2_isLike : yX2_isLike.cls = RX2 ∧ yX2_isLike.cls ≠ "java/lang/invoke/MethodHandle" ∧ yX2_isLike.cls ≠ "java/lang/invoke/VarHandle" ∧ (parseMethodDescriptor yX2_isLike.desc).map (fun d => d.parameters.length) = some 1 := by decide +kernel
set_option maxHeartbeats 4000000 in
theorem x2_isLike (l : Launch) (D : va_G) (dA : Nat → ClassId) (ad : Nat → Nat) (X : St) (L : Ex) (sz : Nat)  : xCp l yX2_isLike cX2_isLike 4 (some .boolean) { frames := 0, cells := 0, slots := 0, locals := 0 } D dA ad X L sz [.ref (ad 6), .ref (ad 5)] (fun r => r = if allN (lkq X) 1200 = true then 1 else 0) := by
  refine x_hP (by decide) (Nat.le_of_ble_eq_true rfl) ?_
  intro A p e s m below meth cd ls C0 hr hlk hnm hG hM hS hl
  have hl : lv_has ls 4 [(0, .ref (ad 6)), (1, .ref (ad 5))] := hl
  refine lv_iconst (v := 1) C0.1 C0.2.1 dX2_isLike_0 (by decide) ?_
  refine lv_istore_n (lv' := [(2, .int 1), (0, .ref (ad 6)), (1, .ref (ad 5))]) C0.1 C0.2.1 dX2_isLike_1 rfl hl (by decide) rfl (fun ls hl => ?_)
  refine jnP 44 (fun ls => lv_has ls 4 [(0, .ref (ad 6)), (1, .ref (ad 5)), (2, .int (if allN (lkq X) 1200 = true then 1 else 0))]) (fun ls hl => ?_) (fun J => ?_)
  · refine lv_iload_n C0.1 C0.2.1 dX2_isLike_44 rfl (lv_at hl 2 rfl) ?_
    exact x_zret C0 hr hlk nar_b rfl dX2_isLike_45
  · refine lv_iconst (v := 0) C0.1 C0.2.1 dX2_isLike_2 (by decide) ?_
    refine lv_istore_n (lv' := [(3, .int 0), (2, .int 1), (0, .ref (ad 6)), (1, .ref (ad 5))]) C0.1 C0.2.1 dX2_isLike_3 rfl hl (by decide) rfl (fun ls hl => ?_)
    refine W_loopP 1200 (fun i ls => lv_has ls 4 [(0, .ref (ad 6)), (1, .ref (ad 5)), (2, .int (if allN (lkq X) i = true then 1 else 0)), (3, .int (nI i))]) 4 ?_ ?_ 0 ls (Nat.zero_le _) (lv_sub hl [2, 3, 1, 0] rfl)
    · intro ls hl
      refine lv_iload_n C0.1 C0.2.1 dX2_isLike_4 rfl (lv_at hl 3 rfl) ?_
      refine lv_aload_n C0.1 C0.2.1 dX2_isLike_5 rfl (lv_at hl 0 rfl) ?_
      refine x_get C0 hG hM 6 (xw_6 dA ad _ _) rfl rfl in_X2 0 (by decide) rfl q82 dX2_isLike_6 ?_
      refine x_alen C0 hG hM 29 rfl dX2_isLike_9 ?_
      refine lv_icmp_ge (tgt := 44) C0.1 C0.2.1 dX2_isLike_10 (by decide) (fun c_10 => ?_) (fun c_10 => ?_)
      · have n_10 : 1200 ≤ 1200 := (nI_leI (a := 1200) (b := 1200) (by omega) (by omega)).mp c_10
        exact J _ (by exact lv_sub hl [0, 1, 2] rfl)
      · have n_10 : ¬ 1200 ≤ 1200 := fun z => c_10 ((nI_leI (a := 1200) (b := 1200) (by omega) (by omega)).mpr z)
        omega
    · intro i ls hi hl K4
      refine lv_iload_n C0.1 C0.2.1 dX2_isLike_4 rfl (lv_at hl 3 rfl) ?_
      refine lv_aload_n C0.1 C0.2.1 dX2_isLike_5 rfl (lv_at hl 0 rfl) ?_
      refine x_get C0 hG hM 6 (xw_6 dA ad _ _) rfl rfl in_X2 0 (by decide) rfl q82 dX2_isLike_6 ?_
      refine x_alen C0 hG hM 29 rfl dX2_isLike_9 ?_
      refine lv_icmp_ge (tgt := 44) C0.1 C0.2.1 dX2_isLike_10 (by decide) (fun c_10 => ?_) (fun c_10 => ?_)
      · have n_10 : 1200 ≤ i := (nI_leI (a := 1200) (b := i) (by omega) (by omega)).mp c_10
        omega
      · have n_10 : ¬ 1200 ≤ i := fun z => c_10 ((nI_leI (a := 1200) (b := i) (by omega) (by omega)).mpr z)
        refine lv_iload_n C0.1 C0.2.1 dX2_isLike_13 rfl (lv_at hl 2 rfl) ?_
        refine lv_if_eq (tgt := 44) C0.1 C0.2.1 dX2_isLike_14 (by decide) (fun c_14 => ?_) (fun c_14 => ?_)
        · have c_14 : ¬ (allN (lkq X) i = true) := b01_0.mp c_14
          exact J _ (by (rw [b01_c (P := allN (lkq X) i = true) (P' := allN (lkq X) 1200 = true) ⟨fun z => absurd z c_14, fun z => absurd z (allN_le (by omega) c_14)⟩] at hl); exact lv_sub hl [0, 1, 2] rfl)
        · have c_14 : allN (lkq X) i = true := b01_1.mp c_14
          refine jn_i 37 [] (fun v => v = (if allN (lkq X) (i + 1) = true then 1 else 0)) (fun v hv => ?_) (fun J => ?_)
          · subst hv
            refine lv_istore_n (lv' := [(2, .int (if allN (lkq X) (i + 1) = true then 1 else 0)), (0, .ref (ad 6)), (1, .ref (ad 5)), (3, .int (nI i))]) C0.1 C0.2.1 dX2_isLike_37 rfl hl (by decide) rfl (fun ls hl => ?_)
            refine lv_iinc (v := nI (i + 1)) (lv' := [(3, .int (nI (i + 1))), (2, .int (if allN (lkq X) (i + 1) = true then 1 else 0)), (0, .ref (ad 6)), (1, .ref (ad 5))]) C0.1 C0.2.1 dX2_isLike_38 hl (k := 3) rfl (nI_1 i) (by decide) rfl (fun ls hl => ?_)
            refine lv_goto (tgt := 4) C0.1 C0.2.1 dX2_isLike_41 (by decide) ?_
            exact K4 ls (lv_sub hl [2, 3, 1, 0] rfl)
          · refine lv_aload_n C0.1 C0.2.1 dX2_isLike_17 rfl (lv_at hl 0 rfl) ?_
            refine x_get C0 hG hM 6 (xw_6 dA ad _ _) rfl rfl in_X2 0 (by decide) rfl q82 dX2_isLike_18 ?_
            refine lv_iload_n C0.1 C0.2.1 dX2_isLike_21 rfl (lv_at hl 3 rfl) ?_
            refine x_zald C0 hG hM 29 i rfl rfl rfl (show i < 1200 from (by omega)) (by decide) dX2_isLike_22 ?_
            refine lv_aload_n C0.1 C0.2.1 dX2_isLike_23 rfl (lv_at hl 1 rfl) ?_
            refine x_get C0 hG hM 5 (xw_5 dA ad _ _) rfl rfl in_X2 0 (by decide) rfl q82 dX2_isLike_24 ?_
            refine lv_iload_n C0.1 C0.2.1 dX2_isLike_27 rfl (lv_at hl 3 rfl) ?_
            refine x_zald C0 hG hM 23 i rfl rfl rfl (show i < 1200 from (by omega)) (by decide) dX2_isLike_28 ?_
            refine lv_icmp_ne (tgt := 36) C0.1 C0.2.1 dX2_isLike_29 (by decide) (fun c_29 => ?_) (fun c_29 => ?_)
            · refine lv_iconst (v := 0) C0.1 C0.2.1 dX2_isLike_36 (by decide) ?_
              exact J _ (b0_of (allN_f2 (fun z => c_29 (beq_iff_eq.mp z))))
            · refine lv_iconst (v := 1) C0.1 C0.2.1 dX2_isLike_32 (by decide) ?_
              refine lv_goto (tgt := 37) C0.1 C0.2.1 dX2_isLike_33 (by decide) ?_
              exact J _ (b1_of (allN_s c_14 (beq_iff_eq.mpr c_29)))
theorem hdx_X0_isCutLetter : yX0_isCutLetter.cls = RX0 ∧ yX0_isCutLetter.cls ≠ "java/lang/invoke/MethodHandle" ∧ yX0_isCutLetter.cls ≠ "java/lang/invoke/VarHandle" ∧ (parseMethodDescriptor yX0_isCutLetter.desc).map (fun d => d.parameters.length) = some 1 := by decide +kernel
set_option maxHeartbeats 4000000 in
theorem xx_isCutLetter (l : Launch) (D : va_G) (dA : Nat → ClassId) (ad : Nat → Nat) (X : St) (L : Ex) (sz : Nat) (x : Nat) (hO : Ok X) (hx : x < 10) : xCp l yX0_isCutLetter cX0_isCutLetter 2 (some .boolean) { frames := 0, cells := 0, slots := 0, locals := 0 } D dA ad X L sz [.ref (ad 0), .ref (ad (60 + x))] (fun r => r = if isCutL X x = true then 1 else 0) := by
  refine x_hP (by decide) (Nat.le_of_ble_eq_true rfl) ?_
  intro A p e s m below meth cd ls C0 hr hlk hnm hG hM hS hl
  have hl : lv_has ls 2 [(0, .ref (ad 0)), (1, .ref (ad (60 + x)))] := hl
  have h3 := (hO.ac hx).le (by decide)
  have h4 := (hO.upp hx).le (by decide)
  have h5 := (hO.li hx).le (by decide)
  refine lv_aload_n C0.1 C0.2.1 dX0_isCutLetter_0 rfl (lv_at hl 0 rfl) ?_
  refine x_geta C0 hG hM 0 1 (by decide) rfl rfl q112 dX0_isCutLetter_1 ?_
  refine lv_aload_n C0.1 C0.2.1 dX0_isCutLetter_4 rfl (lv_at hl 1 rfl) ?_
  refine x_letg C0 hG hM x 0 (by omega) (by decide) (hG.2.1.f 0 rfl) dX0_isCutLetter_5 ?_
  refine tp_eq (y := nI (nv (X 3 x))) ((hO.ac hx).eq (by decide)) ?_
  by_cases hc_8 : X 1 (nv (X 3 x)) = 0
  · refine x_camN C0 hG hM (nv (X 3 x)) hc_8 rfl (by omega) dX0_isCutLetter_8 ?_
    refine lv_ifnullN (tgt := 40) C0.1 C0.2.1 dX0_isCutLetter_9 (by decide) ?_
    refine lv_iconst (v := 0) C0.1 C0.2.1 dX0_isCutLetter_40 (by decide) ?_
    exact x_zret C0 hr hlk rfl (b0_of (isCutL_f1 hc_8)) dX0_isCutLetter_41
  · refine x_camS C0 hG hM (nv (X 3 x)) hc_8 rfl (by omega) dX0_isCutLetter_8 ?_
    refine lv_ifnull C0.1 C0.2.1 dX0_isCutLetter_9 ?_
    refine lv_aload_n C0.1 C0.2.1 dX0_isCutLetter_12 rfl (lv_at hl 0 rfl) ?_
    refine x_geta C0 hG hM 0 1 (by decide) rfl rfl q112 dX0_isCutLetter_13 ?_
    refine lv_aload_n C0.1 C0.2.1 dX0_isCutLetter_16 rfl (lv_at hl 1 rfl) ?_
    refine x_letg C0 hG hM x 1 (by omega) (by decide) (hG.2.1.f 1 rfl) dX0_isCutLetter_17 ?_
    refine tp_eq (y := nI (nv (X 4 x))) ((hO.upp hx).eq (by decide)) ?_
    by_cases hc_20 : X 1 (nv (X 4 x)) = 0
    · refine x_camN C0 hG hM (nv (X 4 x)) hc_20 rfl (by omega) dX0_isCutLetter_20 ?_
      refine lv_ifnullN (tgt := 40) C0.1 C0.2.1 dX0_isCutLetter_21 (by decide) ?_
      refine lv_iconst (v := 0) C0.1 C0.2.1 dX0_isCutLetter_40 (by decide) ?_
      exact x_zret C0 hr hlk rfl (b0_of (isCutL_f2 hc_20)) dX0_isCutLetter_41
    · refine x_camS C0 hG hM (nv (X 4 x)) hc_20 rfl (by omega) dX0_isCutLetter_20 ?_
      refine lv_ifnull C0.1 C0.2.1 dX0_isCutLetter_21 ?_
      refine lv_aload_n C0.1 C0.2.1 dX0_isCutLetter_24 rfl (lv_at hl 0 rfl) ?_
      refine x_geta C0 hG hM 0 1 (by decide) rfl rfl q112 dX0_isCutLetter_25 ?_
      refine lv_aload_n C0.1 C0.2.1 dX0_isCutLetter_28 rfl (lv_at hl 1 rfl) ?_
      refine x_letg C0 hG hM x 2 (by omega) (by decide) (hG.2.1.f 2 rfl) dX0_isCutLetter_29 ?_
      refine tp_eq (y := nI (nv (X 5 x))) ((hO.li hx).eq (by decide)) ?_
      by_cases hc_32 : X 1 (nv (X 5 x)) = 0
      · refine x_camN C0 hG hM (nv (X 5 x)) hc_32 rfl (by omega) dX0_isCutLetter_32 ?_
        refine lv_ifnullN (tgt := 40) C0.1 C0.2.1 dX0_isCutLetter_33 (by decide) ?_
        refine lv_iconst (v := 0) C0.1 C0.2.1 dX0_isCutLetter_40 (by decide) ?_
        exact x_zret C0 hr hlk rfl (b0_of (isCutL_f3 hc_32)) dX0_isCutLetter_41
      · refine x_camS C0 hG hM (nv (X 5 x)) hc_32 rfl (by omega) dX0_isCutLetter_32 ?_
        refine lv_ifnull C0.1 C0.2.1 dX0_isCutLetter_33 ?_
        refine lv_iconst (v := 1) C0.1 C0.2.1 dX0_isCutLetter_36 (by decide) ?_
        refine lv_goto (tgt := 41) C0.1 C0.2.1 dX0_isCutLetter_37 (by decide) ?_
        exact x_zret C0 hr hlk rfl (b1_of (isCutL_t hc_8 hc_20 hc_32)) dX0_isCutLetter_41
theorem hdx_X0_areCut : yX0_areCut.cls = RX0 ∧ yX0_areCut.cls ≠ "java/lang/invoke/MethodHandle" ∧ yX0_areCut.cls ≠ "java/lang/invoke/VarHandle" ∧ (parseMethodDescriptor yX0_areCut.desc).map (fun d => d.parameters.length) = some 0 := by decide +kernel
set_option maxHeartbeats 4000000 in
theorem xx_areCut (l : Launch) (D : va_G) (dA : Nat → ClassId) (ad : Nat → Nat) (X : St) (L : Ex) (sz : Nat) (hO : Ok X) : xCp l yX0_areCut cX0_areCut 3 (some .boolean) { frames := 1, cells := 0, slots := 0, locals := 21 } D dA ad X L sz [.ref (ad 0)] (fun r => r = if areCutN X (pg X) = true then 1 else 0) := by
  refine x_hP (by decide) (Nat.le_of_ble_eq_true rfl) ?_
  intro A p e s m below meth cd ls C0 hr hlk hnm hG hM hS hl
  have hl : lv_has ls 3 [(0, .ref (ad 0))] := hl
  have hp := hO.pg12
  refine lv_iconst (v := 1) C0.1 C0.2.1 dX0_areCut_0 (by decide) ?_
  refine lv_istore_n (lv' := [(1, .int 1), (0, .ref (ad 0))]) C0.1 C0.2.1 dX0_areCut_1 rfl hl (by decide) rfl (fun ls hl => ?_)
  refine lv_iconst (v := 0) C0.1 C0.2.1 dX0_areCut_2 (by decide) ?_
  refine lv_istore_n (lv' := [(2, .int 0), (1, .int 1), (0, .ref (ad 0))]) C0.1 C0.2.1 dX0_areCut_3 rfl hl (by decide) rfl (fun ls hl => ?_)
  refine W_loopP (pg X) (fun i ls => lv_has ls 3 [(0, .ref (ad 0)), (1, .int (if areCutN X i = true then 1 else 0)), (2, .int (nI i))]) 4 ?_ ?_ 0 ls (Nat.zero_le _) (lv_sub hl [2, 1, 0] rfl)
  · intro ls hl
    refine lv_iload_n C0.1 C0.2.1 dX0_areCut_4 rfl (lv_at hl 2 rfl) ?_
    refine lv_aload_n C0.1 C0.2.1 dX0_areCut_5 rfl (lv_at hl 0 rfl) ?_
    refine x_geti C0 hG hM 4 6 (by decide) rfl rfl q120 dX0_areCut_6 ?_
    refine tp_eq (y := nI (pg X)) (hO.pgE) ?_
    refine lv_icmp_ge (tgt := 46) C0.1 C0.2.1 dX0_areCut_9 (by decide) (fun c_9 => ?_) (fun c_9 => ?_)
    · have n_9 : pg X ≤ pg X := (nI_leI (a := pg X) (b := pg X) (by omega) (by omega)).mp c_9
      refine lv_iload_n C0.1 C0.2.1 dX0_areCut_46 rfl (lv_at hl 1 rfl) ?_
      exact x_zret C0 hr hlk nar_b rfl dX0_areCut_47
    · have n_9 : ¬ pg X ≤ pg X := fun z => c_9 ((nI_leI (a := pg X) (b := pg X) (by omega) (by omega)).mpr z)
      omega
  · intro i ls hi hl K4
    have h7 : nv (X 7 i) ≤ 9 := (hO.peg (by omega)).le (by decide)
    refine lv_iload_n C0.1 C0.2.1 dX0_areCut_4 rfl (lv_at hl 2 rfl) ?_
    refine lv_aload_n C0.1 C0.2.1 dX0_areCut_5 rfl (lv_at hl 0 rfl) ?_
    refine x_geti C0 hG hM 4 6 (by decide) rfl rfl q120 dX0_areCut_6 ?_
    refine tp_eq (y := nI (pg X)) (hO.pgE) ?_
    refine lv_icmp_ge (tgt := 46) C0.1 C0.2.1 dX0_areCut_9 (by decide) (fun c_9 => ?_) (fun c_9 => ?_)
    · have n_9 : pg X ≤ i := (nI_leI (a := pg X) (b := i) (by omega) (by omega)).mp c_9
      omega
    · have n_9 : ¬ pg X ≤ i := fun z => c_9 ((nI_leI (a := pg X) (b := i) (by omega) (by omega)).mpr z)
      refine jn_i 39 [] (fun v => v = (if areCutN X (i + 1) = true then 1 else 0)) (fun v hv => ?_) (fun J => ?_)
      · subst hv
        refine lv_istore_n (lv' := [(1, .int (if areCutN X (i + 1) = true then 1 else 0)), (0, .ref (ad 0)), (2, .int (nI i))]) C0.1 C0.2.1 dX0_areCut_39 rfl hl (by decide) rfl (fun ls hl => ?_)
        refine lv_iinc (v := nI (i + 1)) (lv' := [(2, .int (nI (i + 1))), (1, .int (if areCutN X (i + 1) = true then 1 else 0)), (0, .ref (ad 0))]) C0.1 C0.2.1 dX0_areCut_40 hl (k := 2) rfl (nI_1 i) (by decide) rfl (fun ls hl => ?_)
        refine lv_goto (tgt := 4) C0.1 C0.2.1 dX0_areCut_43 (by decide) ?_
        exact K4 ls (lv_sub hl [2, 1, 0] rfl)
      · refine lv_iload_n C0.1 C0.2.1 dX0_areCut_12 rfl (lv_at hl 1 rfl) ?_
        refine lv_if_eq (tgt := 38) C0.1 C0.2.1 dX0_areCut_13 (by decide) (fun c_13 => ?_) (fun c_13 => ?_)
        · have c_13 : ¬ (areCutN X i = true) := b01_0.mp c_13
          refine lv_iconst (v := 0) C0.1 C0.2.1 dX0_areCut_38 (by decide) ?_
          exact J _ (b0_of (areCutN_f1 c_13))
        · have c_13 : areCutN X i = true := b01_1.mp c_13
          refine lv_aload_n C0.1 C0.2.1 dX0_areCut_16 rfl (lv_at hl 0 rfl) ?_
          refine lv_aload_n C0.1 C0.2.1 dX0_areCut_17 rfl (lv_at hl 0 rfl) ?_
          refine x_geta C0 hG hM 2 3 (by decide) rfl rfl q117 dX0_areCut_18 ?_
          refine lv_aload_n C0.1 C0.2.1 dX0_areCut_21 rfl (lv_at hl 0 rfl) ?_
          refine x_geta C0 hG hM 3 7 (by decide) rfl rfl q119 dX0_areCut_22 ?_
          refine lv_iload_n C0.1 C0.2.1 dX0_areCut_25 rfl (lv_at hl 2 rfl) ?_
          refine x_iald C0 hG hM 7 i rfl rfl rfl (show i < 12 from (by omega)) (by decide) dX0_areCut_26 ?_
          refine tp_eq (y := nI (nv (X 7 i))) ((hO.peg (by omega)).eq (by decide)) ?_
          refine x_let C0 hG hM (nv (X 7 i)) rfl (by omega) dX0_areCut_27 ?_
          refine fw_cp (va_runV (b := (ad 0)) (As := [.ref (ad (60 + nv (X 7 i)))]) (rest := []) C0 (xx_isCutLetter l D dA ad X L _ (nv (X 7 i)) hO (by omega)) (cwV 1 C0.2.2.2.2 (lw_V q361 q363 qs6 q39 q364) rfl rfl rfl hdx_X0_isCutLetter ⟨(Nat.le_of_ble_eq_true rfl), (Nat.le_of_ble_eq_true rfl)⟩) (x_preV hG hM hS 0 (xw_0 dA ad _ _) rfl rfl) rfl rfl hl.1 rfl (lv_room (Nat.le_of_ble_eq_true rfl)) dX0_areCut_28 ⟨(Nat.le_of_ble_eq_true rfl), (Nat.le_of_ble_eq_true rfl)⟩) (fun r hr => ?_)
          subst hr
          refine lv_if_eq (tgt := 38) C0.1 C0.2.1 dX0_areCut_31 (by decide) (fun c_31 => ?_) (fun c_31 => ?_)
          · have c_31 : ¬ (isCutL X (nv (X 7 i)) = true) := b01_0.mp c_31
            refine lv_iconst (v := 0) C0.1 C0.2.1 dX0_areCut_38 (by decide) ?_
            exact J _ (b0_of (areCutN_f2 c_31))
          · have c_31 : isCutL X (nv (X 7 i)) = true := b01_1.mp c_31
            refine lv_iconst (v := 1) C0.1 C0.2.1 dX0_areCut_34 (by decide) ?_
            refine lv_goto (tgt := 39) C0.1 C0.2.1 dX0_areCut_35 (by decide) ?_
            exact J _ (b1_of (areCutN_s c_13 c_31))
theorem hdx_X0_part : yX0_part.cls = RX0 ∧ yX0_part.cls ≠ "java/lang/invoke/MethodHandle" ∧ yX0_part.cls ≠ "java/lang/invoke/VarHandle" ∧ (parseMethodDescriptor yX0_part.desc).map (fun d => d.parameters.length) = some 1 := by decide +kernel
set_option maxHeartbeats 4000000 in
theorem xx_part (l : Launch) (D : va_G) (dA : Nat → ClassId) (ad : Nat → Nat) (X : St) (L : Ex) (sz : Nat) (k : Nat) (hk : k < 3) : xCq l yX0_part cX0_part 2 (some (.object "CamFigures$Part")) { frames := 0, cells := 0, slots := 0, locals := 0 } D dA ad X L sz [.ref (ad 0), .int (nI k)] (fun r => r = some (prt ad X k)) := by
  refine x_hP (by decide) (Nat.le_of_ble_eq_true rfl) ?_
  intro A p e s m below meth cd ls C0 hr hlk hnm hG hM hS hl
  have hl : lv_has ls 2 [(0, .ref (ad 0)), (1, .int (nI k))] := hl
  refine lv_aload_n C0.1 C0.2.1 dX0_part_0 rfl (lv_at hl 0 rfl) ?_
  refine x_geta C0 hG hM 7 19 (by decide) rfl rfl q125 dX0_part_1 ?_
  refine lv_iload_n C0.1 C0.2.1 dX0_part_4 rfl (lv_at hl 1 rfl) ?_
  by_cases hf_5 : X 19 (k + 1) < 0
  · refine x_fltN C0 hG hM k hf_5 rfl (by omega) dX0_part_5 ?_
    refine lv_ifnonnullN C0.1 C0.2.1 dX0_part_6 ?_
    refine lv_aload_n C0.1 C0.2.1 dX0_part_9 rfl (lv_at hl 0 rfl) ?_
    refine x_geta C0 hG hM 6 4 (by decide) rfl rfl q124 dX0_part_10 ?_
    refine lv_goto (tgt := 22) C0.1 C0.2.1 dX0_part_13 (by decide) ?_
    exact x_aret C0 hr hlk (by rw [prt, if_pos hf_5]) dX0_part_22
  · refine x_fltS C0 hG hM k hf_5 rfl (by omega) dX0_part_5 ?_
    refine lv_ifnonnull (tgt := 16) C0.1 C0.2.1 dX0_part_6 (by decide) ?_
    refine lv_aload_n C0.1 C0.2.1 dX0_part_16 rfl (lv_at hl 0 rfl) ?_
    refine x_geta C0 hG hM 7 19 (by decide) rfl rfl q125 dX0_part_17 ?_
    refine lv_iload_n C0.1 C0.2.1 dX0_part_20 rfl (lv_at hl 1 rfl) ?_
    refine x_fltS C0 hG hM k hf_5 rfl (by omega) dX0_part_21 ?_
    exact x_aret C0 hr hlk (by rw [prt, if_neg hf_5]) dX0_part_22
theorem hdx_X0_told : yX0_told.cls = RX0 ∧ yX0_told.cls ≠ "java/lang/invoke/MethodHandle" ∧ yX0_told.cls ≠ "java/lang/invoke/VarHandle" ∧ (parseMethodDescriptor yX0_told.desc).map (fun d => d.parameters.length) = some 0 := by decide +kernel
set_option maxHeartbeats 4000000 in
theorem xx_told (l : Launch) (D : va_G) (dA : Nat → ClassId) (ad : Nat → Nat) (X : St) (L : Ex) (sz : Nat)  : xCp l yX0_told cX0_told 3 (some .int) { frames := 0, cells := 0, slots := 0, locals := 0 } D dA ad X L sz [.ref (ad 0)] (fun r => r = nI (toldN X)) := by
  refine x_hP (by decide) (Nat.le_of_ble_eq_true rfl) ?_
  intro A p e s m below meth cd ls C0 hr hlk hnm hG hM hS hl
  have hl : lv_has ls 3 [(0, .ref (ad 0))] := hl
  refine lv_iconst (v := 0) C0.1 C0.2.1 dX0_told_0 (by decide) ?_
  refine lv_istore_n (lv' := [(1, .int 0), (0, .ref (ad 0))]) C0.1 C0.2.1 dX0_told_1 rfl hl (by decide) rfl (fun ls hl => ?_)
  refine lv_iconst (v := 0) C0.1 C0.2.1 dX0_told_2 (by decide) ?_
  refine lv_istore_n (lv' := [(2, .int 0), (1, .int 0), (0, .ref (ad 0))]) C0.1 C0.2.1 dX0_told_3 rfl hl (by decide) rfl (fun ls hl => ?_)
  refine W_loopP 3 (fun i ls => lv_has ls 3 [(0, .ref (ad 0)), (1, .int (nI (toldF X i))), (2, .int (nI i))]) 4 ?_ ?_ 0 ls (Nat.zero_le _) (lv_sub hl [2, 1, 0] rfl)
  · intro ls hl
    refine lv_iload_n C0.1 C0.2.1 dX0_told_4 rfl (lv_at hl 2 rfl) ?_
    refine lv_iconst (v := 3) C0.1 C0.2.1 dX0_told_5 (by decide) ?_
    refine lv_icmp_ge (tgt := 32) C0.1 C0.2.1 dX0_told_6 (by decide) (fun c_6 => ?_) (fun c_6 => ?_)
    · have n_6 : 3 ≤ 3 := (nI_leI (a := 3) (b := 3) (by omega) (by omega)).mp c_6
      refine lv_iload_n C0.1 C0.2.1 dX0_told_32 rfl (lv_at hl 1 rfl) ?_
      exact x_iret C0 hr hlk (by rw [toldF_3]) dX0_told_33
    · have n_6 : ¬ 3 ≤ 3 := fun z => c_6 ((nI_leI (a := 3) (b := 3) (by omega) (by omega)).mpr z)
      omega
  · intro i ls hi hl K4
    refine lv_iload_n C0.1 C0.2.1 dX0_told_4 rfl (lv_at hl 2 rfl) ?_
    refine lv_iconst (v := 3) C0.1 C0.2.1 dX0_told_5 (by decide) ?_
    refine lv_icmp_ge (tgt := 32) C0.1 C0.2.1 dX0_told_6 (by decide) (fun c_6 => ?_) (fun c_6 => ?_)
    · have n_6 : 3 ≤ i := (nI_leI (a := 3) (b := i) (by omega) (by omega)).mp c_6
      omega
    · have n_6 : ¬ 3 ≤ i := fun z => c_6 ((nI_leI (a := 3) (b := i) (by omega) (by omega)).mpr z)
      refine lv_iload_n C0.1 C0.2.1 dX0_told_9 rfl (lv_at hl 1 rfl) ?_
      refine jn_i 24 [.int (nI (toldF X i))] (fun v => v = nI (if X 19 (i + 1) < 0 then 0 else 1)) (fun v hv => ?_) (fun J => ?_)
      · subst hv
        refine lv_iadd C0.1 C0.2.1 dX0_told_24 ?_
        refine tp_eq (y := nI (toldF X (i + 1))) (nI_add _ _) ?_
        refine lv_istore_n (lv' := [(1, .int (nI (toldF X (i + 1)))), (0, .ref (ad 0)), (2, .int (nI i))]) C0.1 C0.2.1 dX0_told_25 rfl hl (by decide) rfl (fun ls hl => ?_)
        refine lv_iinc (v := nI (i + 1)) (lv' := [(2, .int (nI (i + 1))), (1, .int (nI (toldF X (i + 1)))), (0, .ref (ad 0))]) C0.1 C0.2.1 dX0_told_26 hl (k := 2) rfl (nI_1 i) (by decide) rfl (fun ls hl => ?_)
        refine lv_goto (tgt := 4) C0.1 C0.2.1 dX0_told_29 (by decide) ?_
        exact K4 ls (lv_sub hl [2, 1, 0] rfl)
      · refine lv_aload_n C0.1 C0.2.1 dX0_told_10 rfl (lv_at hl 0 rfl) ?_
        refine x_geta C0 hG hM 7 19 (by decide) rfl rfl q125 dX0_told_11 ?_
        refine lv_iload_n C0.1 C0.2.1 dX0_told_14 rfl (lv_at hl 2 rfl) ?_
        by_cases hf_15 : X 19 (i + 1) < 0
        · refine x_fltN C0 hG hM i hf_15 rfl (by omega) dX0_told_15 ?_
          refine lv_ifnonnullN C0.1 C0.2.1 dX0_told_16 ?_
          refine lv_iconst (v := 0) C0.1 C0.2.1 dX0_told_19 (by decide) ?_
          refine lv_goto (tgt := 24) C0.1 C0.2.1 dX0_told_20 (by decide) ?_
          exact J _ (n10_t hf_15)
        · refine x_fltS C0 hG hM i hf_15 rfl (by omega) dX0_told_15 ?_
          refine lv_ifnonnull (tgt := 23) C0.1 C0.2.1 dX0_told_16 (by decide) ?_
          refine lv_iconst (v := 1) C0.1 C0.2.1 dX0_told_23 (by decide) ?_
          exact J _ (n10_f hf_15)
theorem hdx_X0_leastOf : yX0_leastOf.cls = RX0 ∧ yX0_leastOf.cls ≠ "java/lang/invoke/MethodHandle" ∧ yX0_leastOf.cls ≠ "java/lang/invoke/VarHandle" ∧ (parseMethodDescriptor yX0_leastOf.desc).map (fun d => d.parameters.length) = some 1 := by decide +kernel
set_option maxHeartbeats 4000000 in
theorem xx_leastOf (l : Launch) (D : va_G) (dA : Nat → ClassId) (ad : Nat → Nat) (X : St) (L : Ex) (sz : Nat) (c : Nat) (hX : XOk X) (hc : c < 12) (hth : ¬ X 1 c = 0) : xCp l yX0_leastOf cX0_leastOf 3 (some .int) { frames := 1, cells := 0, slots := 0, locals := 25 } D dA ad X L sz [.ref (ad 0), .int (nI c)] (fun r => r = nI (leastN X c)) := by
  refine x_hP (by decide) (Nat.le_of_ble_eq_true rfl) ?_
  intro A p e s m below meth cd ls C0 hr hlk hnm hG hM hS hl
  have hl : lv_has ls 3 [(0, .ref (ad 0)), (1, .int (nI c))] := hl
  have hl2 := hX.ok.len2
  have hl16 := hX.ok.len16
  have hr16 := rl16 hX
  have hrl := hX.rl
  refine lv_iconst (v := 0) C0.1 C0.2.1 dX0_leastOf_0 (by decide) ?_
  refine lv_istore_n (lv' := [(2, .int 0), (0, .ref (ad 0)), (1, .int (nI c))]) C0.1 C0.2.1 dX0_leastOf_1 rfl hl (by decide) rfl (fun ls hl => ?_)
  refine W_loopP (leastN X c) (fun i ls => lv_has ls 3 [(0, .ref (ad 0)), (1, .int (nI c)), (2, .int (nI i))]) 2 ?_ ?_ 0 ls (Nat.zero_le _) (lv_sub hl [1, 2, 0] rfl)
  · intro ls hl
    obtain ⟨hla, hlc, hlr⟩ := least_at (show 0 < ln X by omega) hc hth hl16
    refine lv_aload_n C0.1 C0.2.1 dX0_leastOf_2 rfl (lv_at hl 0 rfl) ?_
    refine x_geta C0 hG hM 0 1 (by decide) rfl rfl q112 dX0_leastOf_3 ?_
    refine lv_iload_n C0.1 C0.2.1 dX0_leastOf_6 rfl (lv_at hl 2 rfl) ?_
    refine x_camS C0 hG hM (leastN X c) hla rfl (by omega) dX0_leastOf_7 ?_
    refine lv_ifnull C0.1 C0.2.1 dX0_leastOf_8 ?_
    refine lv_aload_n C0.1 C0.2.1 dX0_leastOf_11 rfl (lv_at hl 0 rfl) ?_
    refine x_geta C0 hG hM 0 1 (by decide) rfl rfl q112 dX0_leastOf_12 ?_
    refine lv_iload_n C0.1 C0.2.1 dX0_leastOf_15 rfl (lv_at hl 2 rfl) ?_
    refine x_camS C0 hG hM (leastN X c) hla rfl (by omega) dX0_leastOf_16 ?_
    refine lv_aload_n C0.1 C0.2.1 dX0_leastOf_17 rfl (lv_at hl 0 rfl) ?_
    refine x_geta C0 hG hM 0 1 (by decide) rfl rfl q112 dX0_leastOf_18 ?_
    refine lv_iload_n C0.1 C0.2.1 dX0_leastOf_21 rfl (lv_at hl 1 rfl) ?_
    refine x_camS C0 hG hM c hth rfl (by omega) dX0_leastOf_22 ?_
    refine fw_cp (va_runV (b := (ad (100 + leastN X c))) (As := [.ref (ad (100 + c))]) (rest := []) C0 (x5_turnsTo l D dA ad X L _ (leastN X c) c (by omega) hla (by omega) hth hr16) (cwV 1 C0.2.2.2.2 (lw_V q335 q336 q337 q44 q338) rfl rfl rfl hdx_X5_turnsTo ⟨(Nat.le_of_ble_eq_true rfl), (Nat.le_of_ble_eq_true rfl)⟩) (x_preV hG hM hS (100 + leastN X c) (xw_cam dA ad _ _ (by omega) hla) (cb_lt ad _ (by omega)) rfl) rfl rfl hl.1 rfl (lv_room (Nat.le_of_ble_eq_true rfl)) dX0_leastOf_23 ⟨(Nat.le_of_ble_eq_true rfl), (Nat.le_of_ble_eq_true rfl)⟩) (fun r hr => ?_)
    subst hr
    refine tp_eq (y := rotI (rotN (ln X) (row X (leastN X c)) (row X c))) (by rw [hrl]) ?_
    refine lv_if_ge (tgt := 35) C0.1 C0.2.1 dX0_leastOf_26 (by decide) (fun c_26 => ?_) (fun c_26 => ?_)
    · refine lv_iload_n C0.1 C0.2.1 dX0_leastOf_35 rfl (lv_at hl 2 rfl) ?_
      exact x_iret C0 hr hlk rfl dX0_leastOf_36
    · exact absurd (Int32.not_le.mp c_26) hlr
  · intro i ls hi hl K2
    have hq := least_lt hi
    obtain ⟨hla, hlc, hlr⟩ := least_at (show 0 < ln X by omega) hc hth hl16
    refine lv_aload_n C0.1 C0.2.1 dX0_leastOf_2 rfl (lv_at hl 0 rfl) ?_
    refine x_geta C0 hG hM 0 1 (by decide) rfl rfl q112 dX0_leastOf_3 ?_
    refine lv_iload_n C0.1 C0.2.1 dX0_leastOf_6 rfl (lv_at hl 2 rfl) ?_
    by_cases hc_7 : X 1 i = 0
    · refine x_camN C0 hG hM i hc_7 rfl (by omega) dX0_leastOf_7 ?_
      refine lv_ifnullN (tgt := 29) C0.1 C0.2.1 dX0_leastOf_8 (by decide) ?_
      refine lv_iinc (v := nI (i + 1)) (lv' := [(2, .int (nI (i + 1))), (0, .ref (ad 0)), (1, .int (nI c))]) C0.1 C0.2.1 dX0_leastOf_29 hl (k := 2) rfl (nI_1 i) (by decide) rfl (fun ls hl => ?_)
      refine lv_goto (tgt := 2) C0.1 C0.2.1 dX0_leastOf_32 (by decide) ?_
      exact K2 ls (lv_sub hl [1, 2, 0] rfl)
    · refine x_camS C0 hG hM i hc_7 rfl (by omega) dX0_leastOf_7 ?_
      refine lv_ifnull C0.1 C0.2.1 dX0_leastOf_8 ?_
      refine lv_aload_n C0.1 C0.2.1 dX0_leastOf_11 rfl (lv_at hl 0 rfl) ?_
      refine x_geta C0 hG hM 0 1 (by decide) rfl rfl q112 dX0_leastOf_12 ?_
      refine lv_iload_n C0.1 C0.2.1 dX0_leastOf_15 rfl (lv_at hl 2 rfl) ?_
      refine x_camS C0 hG hM i hc_7 rfl (by omega) dX0_leastOf_16 ?_
      refine lv_aload_n C0.1 C0.2.1 dX0_leastOf_17 rfl (lv_at hl 0 rfl) ?_
      refine x_geta C0 hG hM 0 1 (by decide) rfl rfl q112 dX0_leastOf_18 ?_
      refine lv_iload_n C0.1 C0.2.1 dX0_leastOf_21 rfl (lv_at hl 1 rfl) ?_
      refine x_camS C0 hG hM c hth rfl (by omega) dX0_leastOf_22 ?_
      refine fw_cp (va_runV (b := (ad (100 + i))) (As := [.ref (ad (100 + c))]) (rest := []) C0 (x5_turnsTo l D dA ad X L _ i c (by omega) hc_7 (by omega) hth hr16) (cwV 1 C0.2.2.2.2 (lw_V q335 q336 q337 q44 q338) rfl rfl rfl hdx_X5_turnsTo ⟨(Nat.le_of_ble_eq_true rfl), (Nat.le_of_ble_eq_true rfl)⟩) (x_preV hG hM hS (100 + i) (xw_cam dA ad _ _ (by omega) hc_7) (cb_lt ad _ (by omega)) rfl) rfl rfl hl.1 rfl (lv_room (Nat.le_of_ble_eq_true rfl)) dX0_leastOf_23 ⟨(Nat.le_of_ble_eq_true rfl), (Nat.le_of_ble_eq_true rfl)⟩) (fun r hr => ?_)
      subst hr
      refine tp_eq (y := rotI (rotN (ln X) (row X i) (row X c))) (by rw [hrl]) ?_
      refine lv_if_ge (tgt := 35) C0.1 C0.2.1 dX0_leastOf_26 (by decide) (fun c_26 => ?_) (fun c_26 => ?_)
      · exact absurd (camQ_0 hq hc_7 hl16) (Int32.not_lt.mpr c_26)
      · refine lv_iinc (v := nI (i + 1)) (lv' := [(2, .int (nI (i + 1))), (0, .ref (ad 0)), (1, .int (nI c))]) C0.1 C0.2.1 dX0_leastOf_29 hl (k := 2) rfl (nI_1 i) (by decide) rfl (fun ls hl => ?_)
        refine lv_goto (tgt := 2) C0.1 C0.2.1 dX0_leastOf_32 (by decide) ?_
        exact K2 ls (lv_sub hl [1, 2, 0] rfl)
theorem hdx_X0_blanksTo : yX0_blanksTo.cls = RX0 ∧ yX0_blanksTo.cls ≠ "java/lang/invoke/MethodHandle" ∧ yX0_blanksTo.cls ≠ "java/lang/invoke/VarHandle" ∧ (parseMethodDescriptor yX0_blanksTo.desc).map (fun d => d.parameters.length) = some 1 := by decide +kernel
set_option maxHeartbeats 4000000 in
theorem xx_blanksTo (l : Launch) (D : va_G) (dA : Nat → ClassId) (ad : Nat → Nat) (X : St) (L : Ex) (sz : Nat) (n : Nat) (hX : XOk X) (hn : n ≤ 12) : xCp l yX0_blanksTo cX0_blanksTo 4 (some .int) { frames := 2, cells := 0, slots := 0, locals := 47 } D dA ad X L sz [.ref (ad 0), .int (nI n)] (fun r => r = nI (blanksN X n)) := by
  refine x_hP (by decide) (Nat.le_of_ble_eq_true rfl) ?_
  intro A p e s m below meth cd ls C0 hr hlk hnm hG hM hS hl
  have hl : lv_has ls 4 [(0, .ref (ad 0)), (1, .int (nI n))] := hl
  have hl2 := hX.ok.len2
  have hl16 := hX.ok.len16
  have hr16 := rl16 hX
  have hrl := hX.rl
  refine lv_iconst (v := 0) C0.1 C0.2.1 dX0_blanksTo_0 (by decide) ?_
  refine lv_istore_n (lv' := [(2, .int 0), (0, .ref (ad 0)), (1, .int (nI n))]) C0.1 C0.2.1 dX0_blanksTo_1 rfl hl (by decide) rfl (fun ls hl => ?_)
  refine lv_iconst (v := 0) C0.1 C0.2.1 dX0_blanksTo_2 (by decide) ?_
  refine lv_istore_n (lv' := [(3, .int 0), (2, .int 0), (0, .ref (ad 0)), (1, .int (nI n))]) C0.1 C0.2.1 dX0_blanksTo_3 rfl hl (by decide) rfl (fun ls hl => ?_)
  refine W_loopP n (fun i ls => lv_has ls 4 [(0, .ref (ad 0)), (1, .int (nI n)), (2, .int (nI (blanksN X i))), (3, .int (nI i))]) 4 ?_ ?_ 0 ls (Nat.zero_le _) (lv_sub hl [2, 3, 1, 0] rfl)
  · intro ls hl
    refine lv_iload_n C0.1 C0.2.1 dX0_blanksTo_4 rfl (lv_at hl 3 rfl) ?_
    refine lv_iload_n C0.1 C0.2.1 dX0_blanksTo_5 rfl (lv_at hl 1 rfl) ?_
    refine lv_icmp_ge (tgt := 41) C0.1 C0.2.1 dX0_blanksTo_6 (by decide) (fun c_6 => ?_) (fun c_6 => ?_)
    · have n_6 : n ≤ n := (nI_leI (a := n) (b := n) (by omega) (by omega)).mp c_6
      refine lv_iload_n C0.1 C0.2.1 dX0_blanksTo_41 rfl (lv_at hl 2 rfl) ?_
      exact x_iret C0 hr hlk rfl dX0_blanksTo_42
    · have n_6 : ¬ n ≤ n := fun z => c_6 ((nI_leI (a := n) (b := n) (by omega) (by omega)).mpr z)
      omega
  · intro i ls hi hl K4
    have hbi := blanksN_le X i
    refine lv_iload_n C0.1 C0.2.1 dX0_blanksTo_4 rfl (lv_at hl 3 rfl) ?_
    refine lv_iload_n C0.1 C0.2.1 dX0_blanksTo_5 rfl (lv_at hl 1 rfl) ?_
    refine lv_icmp_ge (tgt := 41) C0.1 C0.2.1 dX0_blanksTo_6 (by decide) (fun c_6 => ?_) (fun c_6 => ?_)
    · have n_6 : n ≤ i := (nI_leI (a := n) (b := i) (by omega) (by omega)).mp c_6
      omega
    · have n_6 : ¬ n ≤ i := fun z => c_6 ((nI_leI (a := n) (b := i) (by omega) (by omega)).mpr z)
      refine lv_iload_n C0.1 C0.2.1 dX0_blanksTo_9 rfl (lv_at hl 2 rfl) ?_
      refine jn_i 33 [.int (nI (blanksN X i))] (fun v => v = nI (if X 1 i ≠ 0 ∧ leastN X i = i then 1 else 0)) (fun v hv => ?_) (fun J => ?_)
      · subst hv
        refine lv_iadd C0.1 C0.2.1 dX0_blanksTo_33 ?_
        refine tp_eq (y := nI (blanksN X (i + 1))) (nI_add _ _) ?_
        refine lv_istore_n (lv' := [(2, .int (nI (blanksN X (i + 1)))), (0, .ref (ad 0)), (1, .int (nI n)), (3, .int (nI i))]) C0.1 C0.2.1 dX0_blanksTo_34 rfl hl (by decide) rfl (fun ls hl => ?_)
        refine lv_iinc (v := nI (i + 1)) (lv' := [(3, .int (nI (i + 1))), (2, .int (nI (blanksN X (i + 1)))), (0, .ref (ad 0)), (1, .int (nI n))]) C0.1 C0.2.1 dX0_blanksTo_35 hl (k := 3) rfl (nI_1 i) (by decide) rfl (fun ls hl => ?_)
        refine lv_goto (tgt := 4) C0.1 C0.2.1 dX0_blanksTo_38 (by decide) ?_
        exact K4 ls (lv_sub hl [2, 3, 1, 0] rfl)
      · refine lv_aload_n C0.1 C0.2.1 dX0_blanksTo_10 rfl (lv_at hl 0 rfl) ?_
        refine x_geta C0 hG hM 0 1 (by decide) rfl rfl q112 dX0_blanksTo_11 ?_
        refine lv_iload_n C0.1 C0.2.1 dX0_blanksTo_14 rfl (lv_at hl 3 rfl) ?_
        by_cases hc_15 : X 1 i = 0
        · refine x_camN C0 hG hM i hc_15 rfl (by omega) dX0_blanksTo_15 ?_
          refine lv_ifnullN (tgt := 32) C0.1 C0.2.1 dX0_blanksTo_16 (by decide) ?_
          refine lv_iconst (v := 0) C0.1 C0.2.1 dX0_blanksTo_32 (by decide) ?_
          exact J _ (n01_f (fun z => z.1 hc_15))
        · refine x_camS C0 hG hM i hc_15 rfl (by omega) dX0_blanksTo_15 ?_
          refine lv_ifnull C0.1 C0.2.1 dX0_blanksTo_16 ?_
          refine lv_aload_n C0.1 C0.2.1 dX0_blanksTo_19 rfl (lv_at hl 0 rfl) ?_
          refine lv_iload_n C0.1 C0.2.1 dX0_blanksTo_20 rfl (lv_at hl 3 rfl) ?_
          refine fw_cp (va_runV (b := (ad 0)) (As := [.int (nI i)]) (rest := [.int (nI (blanksN X i))]) C0 (xx_leastOf l D dA ad X L _ i hX (by omega) hc_15) (cwV 1 C0.2.2.2.2 (lw_V q331 q333 qs5 q39 q334) rfl rfl rfl hdx_X0_leastOf ⟨(Nat.le_of_ble_eq_true rfl), (Nat.le_of_ble_eq_true rfl)⟩) (x_preV hG hM hS 0 (xw_0 dA ad _ _) rfl rfl) rfl rfl hl.1 rfl (lv_room (Nat.le_of_ble_eq_true rfl)) dX0_blanksTo_21 ⟨(Nat.le_of_ble_eq_true rfl), (Nat.le_of_ble_eq_true rfl)⟩) (fun r hr => ?_)
          subst hr
          have hlc := (least_at (show 0 < ln X by omega) (show i < 12 by omega) hc_15 hl16).2.1
          refine lv_iload_n C0.1 C0.2.1 dX0_blanksTo_24 rfl (lv_at hl 3 rfl) ?_
          refine lv_icmp_ne (tgt := 32) C0.1 C0.2.1 dX0_blanksTo_25 (by decide) (fun c_25 => ?_) (fun c_25 => ?_)
          · have n_25 : ¬ leastN X i = i := fun z => c_25 ((nI_eq (a := leastN X i) (b := i) (by omega) (by omega)).mpr z)
            refine lv_iconst (v := 0) C0.1 C0.2.1 dX0_blanksTo_32 (by decide) ?_
            exact J _ (n01_f (fun z => n_25 z.2))
          · have n_25 : leastN X i = i := (nI_eq (a := leastN X i) (b := i) (by omega) (by omega)).mp c_25
            refine lv_iconst (v := 1) C0.1 C0.2.1 dX0_blanksTo_28 (by decide) ?_
            refine lv_goto (tgt := 33) C0.1 C0.2.1 dX0_blanksTo_29 (by decide) ?_
            exact J _ (n01_t ⟨hc_15, n_25⟩)
theorem hdx_X0_likeOf : yX0_likeOf.cls = RX0 ∧ yX0_likeOf.cls ≠ "java/lang/invoke/MethodHandle" ∧ yX0_likeOf.cls ≠ "java/lang/invoke/VarHandle" ∧ (parseMethodDescriptor yX0_likeOf.desc).map (fun d => d.parameters.length) = some 2 := by decide +kernel
set_option maxHeartbeats 4000000 in
theorem xx_likeOf (l : Launch) (D : va_G) (dA : Nat → ClassId) (ad : Nat → Nat) (X : St) (L : Ex) (sz : Nat) (c k : Nat) (hX : XOk X) (hc : c < 12) (hth : ¬ X 1 c = 0) (hk : k < 4) : xCp l yX0_likeOf cX0_likeOf 5 (some .int) { frames := 1, cells := 0, slots := 0, locals := 23 } D dA ad X L sz [.ref (ad 0), .ref (ad (100 + c)), .int (nI k)] (fun r => r = likeF X c k 10) := by
  refine x_hP (by decide) (Nat.le_of_ble_eq_true rfl) ?_
  intro A p e s m below meth cd ls C0 hr hlk hnm hG hM hS hl
  have hl : lv_has ls 5 [(0, .ref (ad 0)), (1, .ref (ad (100 + c))), (2, .int (nI k))] := hl
  have hl2 := hX.ok.len2
  have hl16 := hX.ok.len16
  have hr16 := rl16 hX
  have hrl := hX.rl
  refine lv_iconst (v := 0) C0.1 C0.2.1 dX0_likeOf_0 (by decide) ?_
  refine lv_istore_n (lv' := [(3, .int 0), (0, .ref (ad 0)), (1, .ref (ad (100 + c))), (2, .int (nI k))]) C0.1 C0.2.1 dX0_likeOf_1 rfl hl (by decide) rfl (fun ls hl => ?_)
  refine lv_iconst (v := 0) C0.1 C0.2.1 dX0_likeOf_2 (by decide) ?_
  refine lv_istore (lv' := [(4, .int 0), (3, .int 0), (0, .ref (ad 0)), (1, .ref (ad (100 + c))), (2, .int (nI k))]) C0.1 C0.2.1 dX0_likeOf_3 hl (by decide) rfl (fun ls hl => ?_)
  refine W_loopP 10 (fun i ls => lv_has ls 5 [(0, .ref (ad 0)), (1, .ref (ad (100 + c))), (2, .int (nI k)), (3, .int (likeF X c k i)), (4, .int (nI i))]) 5 ?_ ?_ 0 ls (Nat.zero_le _) (lv_sub hl [2, 3, 4, 1, 0] rfl)
  · intro ls hl
    refine lv_iload C0.1 C0.2.1 dX0_likeOf_5 (lv_at hl 4 rfl) ?_
    refine lv_bipush (v := 10) C0.1 C0.2.1 dX0_likeOf_7 (by decide) ?_
    refine lv_icmp_ge (tgt := 52) C0.1 C0.2.1 dX0_likeOf_9 (by decide) (fun c_9 => ?_) (fun c_9 => ?_)
    · have n_9 : 10 ≤ 10 := (nI_leI (a := 10) (b := 10) (by omega) (by omega)).mp c_9
      refine lv_iload_n C0.1 C0.2.1 dX0_likeOf_52 rfl (lv_at hl 3 rfl) ?_
      exact x_iret C0 hr hlk rfl dX0_likeOf_53
    · have n_9 : ¬ 10 ≤ 10 := fun z => c_9 ((nI_leI (a := 10) (b := 10) (by omega) (by omega)).mpr z)
      omega
  · intro i ls hi hl K5
    refine lv_iload C0.1 C0.2.1 dX0_likeOf_5 (lv_at hl 4 rfl) ?_
    refine lv_bipush (v := 10) C0.1 C0.2.1 dX0_likeOf_7 (by decide) ?_
    refine lv_icmp_ge (tgt := 52) C0.1 C0.2.1 dX0_likeOf_9 (by decide) (fun c_9 => ?_) (fun c_9 => ?_)
    · have n_9 : 10 ≤ i := (nI_leI (a := 10) (b := i) (by omega) (by omega)).mp c_9
      omega
    · have n_9 : ¬ 10 ≤ i := fun z => c_9 ((nI_leI (a := 10) (b := i) (by omega) (by omega)).mpr z)
      refine lv_iload_n C0.1 C0.2.1 dX0_likeOf_12 rfl (lv_at hl 3 rfl) ?_
      refine lv_aload_n C0.1 C0.2.1 dX0_likeOf_13 rfl (lv_at hl 1 rfl) ?_
      refine lv_iload C0.1 C0.2.1 dX0_likeOf_14 (lv_at hl 4 rfl) ?_
      refine fw_cp (va_runV (b := (ad (100 + c))) (As := [.int (nI i)]) (rest := [.int (likeF X c k i)]) C0 (x5_times l D dA ad X L _ c (nI i) (by omega) hth hr16) (cwV 1 C0.2.2.2.2 (lw_V q601 q602 q603 q44 q604) rfl rfl rfl hdx_X5_times ⟨(Nat.le_of_ble_eq_true rfl), (Nat.le_of_ble_eq_true rfl)⟩) (x_preV hG hM hS (100 + c) (xw_cam dA ad _ _ (by omega) hth) (cb_lt ad _ (by omega)) rfl) rfl rfl hl.1 rfl (lv_room (Nat.le_of_ble_eq_true rfl)) dX0_likeOf_16 ⟨(Nat.le_of_ble_eq_true rfl), (Nat.le_of_ble_eq_true rfl)⟩) (fun r hr => ?_)
      subst hr
      refine tp_eq (y := nI (timesF (row X c) (nI i) (ln X))) (by rw [hrl]) ?_
      refine lv_aload_n C0.1 C0.2.1 dX0_likeOf_19 rfl (lv_at hl 0 rfl) ?_
      refine x_geta C0 hG hM 11 21 (by decide) rfl rfl q129 dX0_likeOf_20 ?_
      refine lv_iload_n C0.1 C0.2.1 dX0_likeOf_23 rfl (lv_at hl 2 rfl) ?_
      refine x_iald C0 hG hM 21 k rfl rfl rfl (show k < 4 from (by omega)) (by decide) dX0_likeOf_24 ?_
      refine lv_imul C0.1 C0.2.1 dX0_likeOf_25 ?_
      refine lv_aload_n C0.1 C0.2.1 dX0_likeOf_26 rfl (lv_at hl 0 rfl) ?_
      refine x_geta C0 hG hM 10 20 (by decide) rfl rfl q128 dX0_likeOf_27 ?_
      refine lv_iload_n C0.1 C0.2.1 dX0_likeOf_30 rfl (lv_at hl 2 rfl) ?_
      refine x_habr C0 hG hM k rfl (by omega) dX0_likeOf_31 ?_
      refine lv_iload C0.1 C0.2.1 dX0_likeOf_32 (lv_at hl 4 rfl) ?_
      refine x_haba C0 hG hM k i (by omega) rfl (by omega) dX0_likeOf_34 ?_
      refine lv_aload_n C0.1 C0.2.1 dX0_likeOf_35 rfl (lv_at hl 0 rfl) ?_
      refine x_geti C0 hG hM 1 0 (by decide) rfl rfl q114 dX0_likeOf_36 ?_
      refine lv_imul C0.1 C0.2.1 dX0_likeOf_39 ?_
      refine lv_isub C0.1 C0.2.1 dX0_likeOf_40 ?_
      refine tp_eq (y := (nI (timesF (row X c) (nI i) (ln X)) * X 21 k - X 20 (10 * k + i) * X 0 0)) (rfl) ?_
      refine st_call C0 (j3_abs l (nI (timesF (row X c) (nI i) (ln X)) * X 21 k - X 20 (10 * k + i) * X 0 0)) 1 (lw_S q613 q348 q50 q349) rfl rfl hdx_J3_abs ⟨(Nat.le_of_ble_eq_true rfl), (Nat.le_of_ble_eq_true rfl)⟩ rfl hl.1 rfl (Nat.le_of_ble_eq_true rfl) dX0_likeOf_41 ⟨(Nat.le_of_ble_eq_true rfl), (Nat.le_of_ble_eq_true rfl)⟩ (fun r hr => ?_)
      subst hr
      refine lv_iadd C0.1 C0.2.1 dX0_likeOf_44 ?_
      refine tp_eq (y := likeF X c k (i + 1)) (rfl) ?_
      refine lv_istore_n (lv' := [(3, .int (likeF X c k (i + 1))), (0, .ref (ad 0)), (1, .ref (ad (100 + c))), (2, .int (nI k)), (4, .int (nI i))]) C0.1 C0.2.1 dX0_likeOf_45 rfl hl (by decide) rfl (fun ls hl => ?_)
      refine lv_iinc (v := nI (i + 1)) (lv' := [(4, .int (nI (i + 1))), (3, .int (likeF X c k (i + 1))), (0, .ref (ad 0)), (1, .ref (ad (100 + c))), (2, .int (nI k))]) C0.1 C0.2.1 dX0_likeOf_46 hl (k := 4) rfl (nI_1 i) (by decide) rfl (fun ls hl => ?_)
      refine lv_goto (tgt := 5) C0.1 C0.2.1 dX0_likeOf_49 (by decide) ?_
      exact K5 ls (lv_sub hl [2, 3, 4, 1, 0] rfl)
theorem hdx_X0_goes : yX0_goes.cls = RX0 ∧ yX0_goes.cls ≠ "java/lang/invoke/MethodHandle" ∧ yX0_goes.cls ≠ "java/lang/invoke/VarHandle" ∧ (parseMethodDescriptor yX0_goes.desc).map (fun d => d.parameters.length) = some 0 := by decide +kernel
set_option maxHeartbeats 4000000 in
theorem xx_goes (l : Launch) (D : va_G) (dA : Nat → ClassId) (ad : Nat → Nat) (X : St) (L : Ex) (sz : Nat) (hw : inv (X 0 11) 20) : xCi l yX0_goes cX0_goes 1 (some .boolean) { frames := 1, cells := 0, slots := 0, locals := 21 } D dA ad X L sz [.ref (ad 0)] 0 0 (fun r u => r = (if X 0 9 < X 0 10 + X 0 11 then 0 else 1) ∧ u = (ad, if X 0 9 < X 0 10 + X 0 11 then X else goF X, L)) := by
  refine x_hI (by decide) (Nat.le_of_ble_eq_true rfl) ?_
  intro A p e s m below meth cd ls C0 hr hlk hnm hG hM hS hl
  have hl : lv_has ls 1 [(0, .ref (ad 0))] := hl
  refine lv_aload_n C0.1 C0.2.1 dX0_goes_0 rfl (lv_at hl 0 rfl) ?_
  refine x_geti C0 hG hM 13 9 (by decide) rfl rfl q131 dX0_goes_1 ?_
  refine lv_aload_n C0.1 C0.2.1 dX0_goes_4 rfl (lv_at hl 0 rfl) ?_
  refine x_geti C0 hG hM 14 10 (by decide) rfl rfl q132 dX0_goes_5 ?_
  refine lv_aload_n C0.1 C0.2.1 dX0_goes_8 rfl (lv_at hl 0 rfl) ?_
  refine x_geti C0 hG hM 15 11 (by decide) rfl rfl q133 dX0_goes_9 ?_
  refine lv_iadd C0.1 C0.2.1 dX0_goes_12 ?_
  refine lv_icmp_ge (tgt := 18) C0.1 C0.2.1 dX0_goes_13 (by decide) (fun c_13 => ?_) (fun c_13 => ?_)
  · refine lv_aload_n C0.1 C0.2.1 dX0_goes_18 rfl (lv_at hl 0 rfl) ?_
    refine lv_dup C0.1 C0.2.1 dX0_goes_19 rfl ?_
    refine x_geti C0 hG hM 17 13 (by decide) rfl rfl q135 dX0_goes_20 ?_
    refine jn_i 52 [.int (X 0 13), .ref (ad 0)] (fun v => v = (if 500 ≤ X 0 9 then 1 else if 200 ≤ X 0 9 then 2 else 4)) (fun v hv => ?_) (fun J => ?_)
    · subst hv
      refine lv_iadd C0.1 C0.2.1 dX0_goes_52 ?_
      refine x_put C0 hG hM hS 17 13 (by decide) rfl rfl q135 rfl rfl dX0_goes_53 (fun H locs hM hS => ?_)
      refine lv_aload_n C0.1 C0.2.1 dX0_goes_56 rfl (lv_at hl 0 rfl) ?_
      refine lv_dup C0.1 C0.2.1 dX0_goes_57 rfl ?_
      refine x_geti C0 hG hM 13 9 (by decide) rfl rfl q131 dX0_goes_58 ?_
      refine tp_eq (y := X 0 9) (by rw [up2_ne _ _ (Or.inr (by decide))]) ?_
      refine lv_aload_n C0.1 C0.2.1 dX0_goes_61 rfl (lv_at hl 0 rfl) ?_
      refine x_geti C0 hG hM 14 10 (by decide) rfl rfl q132 dX0_goes_62 ?_
      refine tp_eq (y := X 0 10) (by rw [up2_ne _ _ (Or.inr (by decide))]) ?_
      refine lv_aload_n C0.1 C0.2.1 dX0_goes_65 rfl (lv_at hl 0 rfl) ?_
      refine x_geti C0 hG hM 15 11 (by decide) rfl rfl q133 dX0_goes_66 ?_
      refine tp_eq (y := X 0 11) (by rw [up2_ne _ _ (Or.inr (by decide))]) ?_
      refine lv_iadd C0.1 C0.2.1 dX0_goes_69 ?_
      refine lv_isub C0.1 C0.2.1 dX0_goes_70 ?_
      refine x_put C0 hG hM hS 13 9 (by decide) rfl rfl q131 rfl rfl dX0_goes_71 (fun H locs hM hS => ?_)
      refine lv_aload_n C0.1 C0.2.1 dX0_goes_74 rfl (lv_at hl 0 rfl) ?_
      refine lv_dup C0.1 C0.2.1 dX0_goes_75 rfl ?_
      refine x_geti C0 hG hM 18 14 (by decide) rfl rfl q136 dX0_goes_76 ?_
      refine tp_eq (y := X 0 14) (by rw [up2_ne _ _ (Or.inr (by decide)), up2_ne _ _ (Or.inr (by decide))]) ?_
      refine lv_iconst (v := 1) C0.1 C0.2.1 dX0_goes_79 (by decide) ?_
      refine lv_iadd C0.1 C0.2.1 dX0_goes_80 ?_
      refine x_put C0 hG hM hS 18 14 (by decide) rfl rfl q136 rfl rfl dX0_goes_81 (fun H locs hM hS => ?_)
      refine lv_aload_n C0.1 C0.2.1 dX0_goes_84 rfl (lv_at hl 0 rfl) ?_
      refine x_geti C0 hG hM 18 14 (by decide) rfl rfl q136 dX0_goes_85 ?_
      refine tp_eq (y := ((X 0 14) + 1)) (by rw [up2_self]) ?_
      refine lv_bipush (v := 100) C0.1 C0.2.1 dX0_goes_88 (by decide) ?_
      refine lv_irem C0.1 C0.2.1 dX0_goes_90 (by decide) ?_
      refine lv_if_ne (tgt := 109) C0.1 C0.2.1 dX0_goes_91 (by decide) (fun c_91 => ?_) (fun c_91 => ?_)
      · refine lv_iconst (v := 1) C0.1 C0.2.1 dX0_goes_109 (by decide) ?_
        have hM : XF D A dA ad (goF X) L H := by
          rw [← goF_lt c_91]; exact hM
        exact x_zretS C0 hr hlk hM hS rfl ⟨(if_neg (Int32.not_lt.mpr c_13)).symm, by rw [if_neg (Int32.not_lt.mpr c_13)]⟩ dX0_goes_110 (Nat.le_of_ble_eq_true rfl) (Nat.le_of_ble_eq_true rfl)
      · refine lv_aload_n C0.1 C0.2.1 dX0_goes_94 rfl (lv_at hl 0 rfl) ?_
        refine lv_bipush (v := 20) C0.1 C0.2.1 dX0_goes_95 (by decide) ?_
        refine lv_aload_n C0.1 C0.2.1 dX0_goes_97 rfl (lv_at hl 0 rfl) ?_
        refine x_geti C0 hG hM 15 11 (by decide) rfl rfl q133 dX0_goes_98 ?_
        refine tp_eq (y := X 0 11) (by rw [up2_ne _ _ (Or.inr (by decide)), up2_ne _ _ (Or.inr (by decide)), up2_ne _ _ (Or.inr (by decide))]) ?_
        refine lv_iconst (v := 1) C0.1 C0.2.1 dX0_goes_101 (by decide) ?_
        refine lv_iadd C0.1 C0.2.1 dX0_goes_102 ?_
        refine st_call C0 (j3_min l 20 ((X 0 11) + 1)) 2 (lw_S q385 q386 q50 q387) rfl rfl hdx_J3_min ⟨(Nat.le_of_ble_eq_true rfl), (Nat.le_of_ble_eq_true rfl)⟩ rfl hl.1 rfl (Nat.le_of_ble_eq_true rfl) dX0_goes_103 ⟨(Nat.le_of_ble_eq_true rfl), (Nat.le_of_ble_eq_true rfl)⟩ (fun r hr => ?_)
        subst hr
        refine x_put C0 hG hM hS 15 11 (by decide) rfl rfl q133 rfl rfl dX0_goes_106 (fun H locs hM hS => ?_)
        refine lv_iconst (v := 1) C0.1 C0.2.1 dX0_goes_109 (by decide) ?_
        have hM : XF D A dA ad (goF X) L H := by
          rw [← goF_eq hw c_91]; exact hM
        exact x_zretS C0 hr hlk hM hS rfl ⟨(if_neg (Int32.not_lt.mpr c_13)).symm, by rw [if_neg (Int32.not_lt.mpr c_13)]⟩ dX0_goes_110 (Nat.le_of_ble_eq_true rfl) (Nat.le_of_ble_eq_true rfl)
    · refine lv_aload_n C0.1 C0.2.1 dX0_goes_23 rfl (lv_at hl 0 rfl) ?_
      refine x_geti C0 hG hM 13 9 (by decide) rfl rfl q131 dX0_goes_24 ?_
      refine lv_sipush (v := 500) C0.1 C0.2.1 dX0_goes_27 (by decide) ?_
      refine lv_icmp_lt (tgt := 37) C0.1 C0.2.1 dX0_goes_30 (by decide) (fun c_30 => ?_) (fun c_30 => ?_)
      · refine lv_aload_n C0.1 C0.2.1 dX0_goes_37 rfl (lv_at hl 0 rfl) ?_
        refine x_geti C0 hG hM 13 9 (by decide) rfl rfl q131 dX0_goes_38 ?_
        refine lv_sipush (v := 200) C0.1 C0.2.1 dX0_goes_41 (by decide) ?_
        refine lv_icmp_lt (tgt := 51) C0.1 C0.2.1 dX0_goes_44 (by decide) (fun c_44 => ?_) (fun c_44 => ?_)
        · refine lv_iconst (v := 4) C0.1 C0.2.1 dX0_goes_51 (by decide) ?_
          exact J _ (by rw [if_neg (Int32.not_le.mpr c_30), if_neg (Int32.not_le.mpr c_44)])
        · refine lv_iconst (v := 2) C0.1 C0.2.1 dX0_goes_47 (by decide) ?_
          refine lv_goto (tgt := 52) C0.1 C0.2.1 dX0_goes_48 (by decide) ?_
          exact J _ (by rw [if_neg (Int32.not_le.mpr c_30), if_pos (Int32.not_lt.mp c_44)])
      · refine lv_iconst (v := 1) C0.1 C0.2.1 dX0_goes_33 (by decide) ?_
        refine lv_goto (tgt := 52) C0.1 C0.2.1 dX0_goes_34 (by decide) ?_
        exact J _ ((if_pos (Int32.not_lt.mp c_30)).symm)
  · refine lv_iconst (v := 0) C0.1 C0.2.1 dX0_goes_16 (by decide) ?_
    exact x_zretS C0 hr hlk hM hS rfl ⟨(if_pos (Int32.not_le.mp c_13)).symm, by rw [if_pos (Int32.not_le.mp c_13)]⟩ dX0_goes_17 (Nat.le_of_ble_eq_true rfl) (Nat.le_of_ble_eq_true rfl)
theorem hdx_X0_finds : yX0_finds.cls = RX0 ∧ yX0_finds.cls ≠ "java/lang/invoke/MethodHandle" ∧ yX0_finds.cls ≠ "java/lang/invoke/VarHandle" ∧ (parseMethodDescriptor yX0_finds.desc).map (fun d => d.parameters.length) = some 3 := by decide +kernel
set_option maxHeartbeats 4000000 in
theorem xx_finds (l : Launch) (D : va_G) (dA : Nat → ClassId) (ad : Nat → Nat) (X : St) (L : Ex) (sz : Nat) (p1 p2 b : Int32) (hb : b = 0 ∨ b = 1) : xCv l yX0_finds cX0_finds 4 { frames := 0, cells := 0, slots := 0, locals := 0 } D dA ad X L sz [.ref (ad 0), .int p1, .int p2, .int b] 0 0 (fun u => u = (ad, findF X p1 p2 (b = 1), L)) := by
  refine x_hV (by decide) (Nat.le_of_ble_eq_true rfl) ?_
  intro A p e s m below meth cd ls C0 hr hlk hnm hG hM hS hl
  have hl : lv_has ls 4 [(0, .ref (ad 0)), (1, .int p1), (2, .int p2), (3, .int b)] := hl
  refine lv_aload_n C0.1 C0.2.1 dX0_finds_0 rfl (lv_at hl 0 rfl) ?_
  refine x_geti C0 hG hM 21 27 (by decide) rfl rfl q139 dX0_finds_1 ?_
  refine lv_if_ge (tgt := 11) C0.1 C0.2.1 dX0_finds_4 (by decide) (fun c_4 => ?_) (fun c_4 => ?_)
  · have hM : XF D A dA ad (findF X p1 p2 (b = 1)) L s.heap := by
      rw [findF, if_neg (fun z => Int32.not_lt.mpr c_4 z.1)]; exact hM
    exact x_vretS C0 hr hlk hM hS rfl dX0_finds_11 (Nat.le_of_ble_eq_true rfl) (Nat.le_of_ble_eq_true rfl)
  · refine lv_iload_n C0.1 C0.2.1 dX0_finds_7 rfl (lv_at hl 3 rfl) ?_
    refine lv_if_ne (tgt := 12) C0.1 C0.2.1 dX0_finds_8 (by decide) (fun c_8 => ?_) (fun c_8 => ?_)
    · refine lv_aload_n C0.1 C0.2.1 dX0_finds_12 rfl (lv_at hl 0 rfl) ?_
      refine lv_iload_n C0.1 C0.2.1 dX0_finds_13 rfl (lv_at hl 1 rfl) ?_
      refine x_put C0 hG hM hS 21 27 (by decide) rfl rfl q139 rfl rfl dX0_finds_14 (fun H locs hM hS => ?_)
      refine lv_aload_n C0.1 C0.2.1 dX0_finds_17 rfl (lv_at hl 0 rfl) ?_
      refine lv_iload_n C0.1 C0.2.1 dX0_finds_18 rfl (lv_at hl 2 rfl) ?_
      refine x_put C0 hG hM hS 22 28 (by decide) rfl rfl q140 rfl rfl dX0_finds_19 (fun H locs hM hS => ?_)
      have hM : XF D A dA ad (findF X p1 p2 (b = 1)) L H := by
        rw [findF, if_pos ⟨Int32.not_le.mp c_4, hb.resolve_left c_8⟩]; exact hM
      exact x_vretS C0 hr hlk hM hS rfl dX0_finds_22 (Nat.le_of_ble_eq_true rfl) (Nat.le_of_ble_eq_true rfl)
    · have hM : XF D A dA ad (findF X p1 p2 (b = 1)) L s.heap := by
        rw [findF, if_neg (fun z => absurd (c_8.symm.trans z.2) (by decide))]; exact hM
      exact x_vretS C0 hr hlk hM hS rfl dX0_finds_11 (Nat.le_of_ble_eq_true rfl) (Nat.le_of_ble_eq_true rfl)
