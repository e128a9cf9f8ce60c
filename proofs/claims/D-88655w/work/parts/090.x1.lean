set_option maxRecDepth 100000
set_option linter.unusedVariables false
theorem hdx_J3_abs : yJ3_abs.cls ≠ "java/lang/invoke/MethodHandle" ∧ yJ3_abs.cls ≠ "java/lang/invoke/VarHandle" ∧ (parseMethodDescriptor yJ3_abs.desc).map (fun d => d.parameters.length) = some 1 := by decide +kernel
set_option maxHeartbeats 4000000 in
theorem j3_abs (l : Launch) (p0 : Int32)  : Met l yJ3_abs (ws_ yJ3_abs cJ3_abs 1 (some .int)) { frames := 0, cells := 0, slots := 0, locals := 0 } (va_Pc [.int p0] (fun _ => True)) (vp_Si (fun r => r = iabs p0)) 0 0 (fun _ => False) := by
  refine st_headF (by decide +kernel) (Nat.le_of_ble_eq_true rfl) ?_
  intro p e s m below meth cd ls C0 hr hlk hl
  have hl : lv_has ls 1 [(0, .int p0)] := hl
  refine lv_iload_n C0.1 C0.2.1 dJ3_abs_0 rfl (lv_at hl 0 rfl) ?_
  refine lv_if_ge (tgt := 9) C0.1 C0.2.1 dJ3_abs_1 (by decide) (fun c_1 => ?_) (fun c_1 => ?_)
  · refine lv_iload_n C0.1 C0.2.1 dJ3_abs_9 rfl (lv_at hl 0 rfl) ?_
    exact x_iret C0 hr hlk ((if_neg (Int32.not_lt.mpr c_1)).symm) dJ3_abs_10
  · refine lv_iload_n C0.1 C0.2.1 dJ3_abs_4 rfl (lv_at hl 0 rfl) ?_
    refine lv_ineg C0.1 C0.2.1 dJ3_abs_5 ?_
    refine lv_goto (tgt := 10) C0.1 C0.2.1 dJ3_abs_6 (by decide) ?_
    exact x_iret C0 hr hlk ((if_pos (Int32.not_le.mp c_1)).symm) dJ3_abs_10
theorem hdx_J3_max : yJ3_max.cls ≠ "java/lang/invoke/MethodHandle" ∧ yJ3_max.cls ≠ "java/lang/invoke/VarHandle" ∧ (parseMethodDescriptor yJ3_max.desc).map (fun d => d.parameters.length) = some 2 := by decide +kernel
set_option maxHeartbeats 4000000 in
theorem j3_max (l : Launch) (p0 p1 : Int32)  : Met l yJ3_max (ws_ yJ3_max cJ3_max 2 (some .int)) { frames := 0, cells := 0, slots := 0, locals := 0 } (va_Pc [.int p0, .int p1] (fun _ => True)) (vp_Si (fun r => r = imax p0 p1)) 0 0 (fun _ => False) := by
  refine st_headF (by decide +kernel) (Nat.le_of_ble_eq_true rfl) ?_
  intro p e s m below meth cd ls C0 hr hlk hl
  have hl : lv_has ls 2 [(0, .int p0), (1, .int p1)] := hl
  refine lv_iload_n C0.1 C0.2.1 dJ3_max_0 rfl (lv_at hl 0 rfl) ?_
  refine lv_iload_n C0.1 C0.2.1 dJ3_max_1 rfl (lv_at hl 1 rfl) ?_
  refine lv_icmp_lt (tgt := 9) C0.1 C0.2.1 dJ3_max_2 (by decide) (fun c_2 => ?_) (fun c_2 => ?_)
  · refine lv_iload_n C0.1 C0.2.1 dJ3_max_9 rfl (lv_at hl 1 rfl) ?_
    exact x_iret C0 hr hlk ((if_pos c_2).symm) dJ3_max_10
  · refine lv_iload_n C0.1 C0.2.1 dJ3_max_5 rfl (lv_at hl 0 rfl) ?_
    refine lv_goto (tgt := 10) C0.1 C0.2.1 dJ3_max_6 (by decide) ?_
    exact x_iret C0 hr hlk ((if_neg c_2).symm) dJ3_max_10
theorem hdx_J3_min : yJ3_min.cls ≠ "java/lang/invoke/MethodHandle" ∧ yJ3_min.cls ≠ "java/lang/invoke/VarHandle" ∧ (parseMethodDescriptor yJ3_min.desc).map (fun d => d.parameters.length) = some 2 := by decide +kernel
set_option maxHeartbeats 4000000 in
theorem j3_min (l : Launch) (p0 p1 : Int32)  : Met l yJ3_min (ws_ yJ3_min cJ3_min 2 (some .int)) { frames := 0, cells := 0, slots := 0, locals := 0 } (va_Pc [.int p0, .int p1] (fun _ => True)) (vp_Si (fun r => r = imin p0 p1)) 0 0 (fun _ => False) := by
  refine st_headF (by decide +kernel) (Nat.le_of_ble_eq_true rfl) ?_
  intro p e s m below meth cd ls C0 hr hlk hl
  have hl : lv_has ls 2 [(0, .int p0), (1, .int p1)] := hl
  refine lv_iload_n C0.1 C0.2.1 dJ3_min_0 rfl (lv_at hl 0 rfl) ?_
  refine lv_iload_n C0.1 C0.2.1 dJ3_min_1 rfl (lv_at hl 1 rfl) ?_
  refine lv_icmp_gt (tgt := 9) C0.1 C0.2.1 dJ3_min_2 (by decide) (fun c_2 => ?_) (fun c_2 => ?_)
  · refine lv_iload_n C0.1 C0.2.1 dJ3_min_9 rfl (lv_at hl 1 rfl) ?_
    exact x_iret C0 hr hlk ((if_pos c_2).symm) dJ3_min_10
  · refine lv_iload_n C0.1 C0.2.1 dJ3_min_5 rfl (lv_at hl 0 rfl) ?_
    refine lv_goto (tgt := 10) C0.1 C0.2.1 dJ3_min_6 (by decide) ?_
    exact x_iret C0 hr hlk ((if_neg c_2).symm) dJ3_min_10
theorem hdx_J3_floorDiv : yJ3_floorDiv.cls ≠ "java/lang/invoke/MethodHandle" ∧ yJ3_floorDiv.cls ≠ "java/lang/invoke/VarHandle" ∧ (parseMethodDescriptor yJ3_floorDiv.desc).map (fun d => d.parameters.length) = some 2 := by decide +kernel
set_option maxHeartbeats 4000000 in
theorem j3_floorDiv (l : Launch) (p0 p1 : Int32) (hb : ¬ p1 = 0) : Met l yJ3_floorDiv (ws_ yJ3_floorDiv cJ3_floorDiv 3 (some .int)) { frames := 0, cells := 0, slots := 0, locals := 0 } (va_Pc [.int p0, .int p1] (fun _ => True)) (vp_Si (fun r => r = fdF p0 p1)) 0 0 (fun _ => False) := by
  refine st_headF (by decide +kernel) (Nat.le_of_ble_eq_true rfl) ?_
  intro p e s m below meth cd ls C0 hr hlk hl
  have hl : lv_has ls 3 [(0, .int p0), (1, .int p1)] := hl
  refine lv_iload_n C0.1 C0.2.1 dJ3_floorDiv_0 rfl (lv_at hl 0 rfl) ?_
  refine lv_iload_n C0.1 C0.2.1 dJ3_floorDiv_1 rfl (lv_at hl 1 rfl) ?_
  refine lv_idiv C0.1 C0.2.1 dJ3_floorDiv_2 hb ?_
  refine lv_istore_n (lv' := [(2, .int (p0 / p1)), (0, .int p0), (1, .int p1)]) C0.1 C0.2.1 dJ3_floorDiv_3 rfl hl (by decide) rfl (fun ls hl => ?_)
  refine lv_iload_n C0.1 C0.2.1 dJ3_floorDiv_4 rfl (lv_at hl 1 rfl) ?_
  refine lv_iload_n C0.1 C0.2.1 dJ3_floorDiv_5 rfl (lv_at hl 2 rfl) ?_
  refine lv_ixor C0.1 C0.2.1 dJ3_floorDiv_6 ?_
  refine lv_if_ge (tgt := 21) C0.1 C0.2.1 dJ3_floorDiv_7 (by decide) (fun c_7 => ?_) (fun c_7 => ?_)
  · refine lv_iload_n C0.1 C0.2.1 dJ3_floorDiv_21 rfl (lv_at hl 0 rfl) ?_
    exact x_iret C0 hr hlk ((if_neg (fun z => Int32.not_lt.mpr c_7 z.1)).symm) dJ3_floorDiv_22
  · refine lv_iload_n C0.1 C0.2.1 dJ3_floorDiv_10 rfl (lv_at hl 0 rfl) ?_
    refine lv_iload_n C0.1 C0.2.1 dJ3_floorDiv_11 rfl (lv_at hl 2 rfl) ?_
    refine lv_imul C0.1 C0.2.1 dJ3_floorDiv_12 ?_
    refine lv_iload_n C0.1 C0.2.1 dJ3_floorDiv_13 rfl (lv_at hl 1 rfl) ?_
    refine lv_icmp_eq (tgt := 21) C0.1 C0.2.1 dJ3_floorDiv_14 (by decide) (fun c_14 => ?_) (fun c_14 => ?_)
    · refine lv_iload_n C0.1 C0.2.1 dJ3_floorDiv_21 rfl (lv_at hl 0 rfl) ?_
      exact x_iret C0 hr hlk ((if_neg (fun z => z.2 c_14)).symm) dJ3_floorDiv_22
    · refine lv_iload_n C0.1 C0.2.1 dJ3_floorDiv_17 rfl (lv_at hl 0 rfl) ?_
      refine lv_iconst (v := 1) C0.1 C0.2.1 dJ3_floorDiv_18 (by decide) ?_
      refine lv_isub C0.1 C0.2.1 dJ3_floorDiv_19 ?_
      exact x_iret C0 hr hlk ((if_pos ⟨Int32.not_le.mp c_7, c_14⟩).symm) dJ3_floorDiv_20
theorem hdx_X0_isIn : yX0_isIn.cls ≠ "java/lang/invoke/MethodHandle" ∧ yX0_isIn.cls ≠ "java/lang/invoke/VarHandle" ∧ (parseMethodDescriptor yX0_isIn.desc).map (fun d => d.parameters.length) = some 2 := by decide +kernel
set_option maxHeartbeats 4000000 in
theorem xx_isIn (l : Launch) (p0 p1 : Int32)  : Met l yX0_isIn (ws_ yX0_isIn cX0_isIn 2 (some .boolean)) { frames := 0, cells := 0, slots := 0, locals := 0 } (va_Pc [.int p0, .int p1] (fun _ => True)) (vp_Si (fun r => r = if 0 ≤ p0 ∧ p0 < p1 then 1 else 0)) 0 0 (fun _ => False) := by
  refine st_head (by decide) (Nat.le_of_ble_eq_true rfl) ?_
  intro p e s m below meth cd ls C0 hr hlk hl
  have hl : lv_has ls 2 [(0, .int p0), (1, .int p1)] := hl
  refine lv_iload_n C0.1 C0.2.1 dX0_isIn_0 rfl (lv_at hl 0 rfl) ?_
  refine lv_if_lt (tgt := 13) C0.1 C0.2.1 dX0_isIn_1 (by decide) (fun c_1 => ?_) (fun c_1 => ?_)
  · refine lv_iconst (v := 0) C0.1 C0.2.1 dX0_isIn_13 (by decide) ?_
    exact x_zret C0 hr hlk rfl (b0_of (fun z => Int32.not_le.mpr c_1 z.1)) dX0_isIn_14
  · refine lv_iload_n C0.1 C0.2.1 dX0_isIn_4 rfl (lv_at hl 0 rfl) ?_
    refine lv_iload_n C0.1 C0.2.1 dX0_isIn_5 rfl (lv_at hl 1 rfl) ?_
    refine lv_icmp_ge (tgt := 13) C0.1 C0.2.1 dX0_isIn_6 (by decide) (fun c_6 => ?_) (fun c_6 => ?_)
    · refine lv_iconst (v := 0) C0.1 C0.2.1 dX0_isIn_13 (by decide) ?_
      exact x_zret C0 hr hlk rfl (b0_of (fun z => Int32.not_lt.mpr c_6 z.2)) dX0_isIn_14
    · refine lv_iconst (v := 1) C0.1 C0.2.1 dX0_isIn_9 (by decide) ?_
      refine lv_goto (tgt := 14) C0.1 C0.2.1 dX0_isIn_10 (by decide) ?_
      exact x_zret C0 hr hlk rfl (b1_of ⟨Int32.not_lt.mp c_1, Int32.not_le.mp c_6⟩) dX0_isIn_14
theorem hdx_X0_within : yX0_within.cls ≠ "java/lang/invoke/MethodHandle" ∧ yX0_within.cls ≠ "java/lang/invoke/VarHandle" ∧ (parseMethodDescriptor yX0_within.desc).map (fun d => d.parameters.length) = some 3 := by decide +kernel
set_option maxHeartbeats 4000000 in
theorem xx_within (l : Launch) (p0 p1 p2 : Int32)  : Met l yX0_within (ws_ yX0_within cX0_within 3 (some .int)) { frames := 0, cells := 0, slots := 0, locals := 0 } (va_Pc [.int p0, .int p1, .int p2] (fun _ => True)) (vp_Si (fun r => r = -(nI (wthF p0 p1 p2)))) 0 0 (fun _ => False) := by
  refine st_head (by decide) (Nat.le_of_ble_eq_true rfl) ?_
  intro p e s m below meth cd ls C0 hr hlk hl
  have hl : lv_has ls 3 [(0, .int p0), (1, .int p1), (2, .int p2)] := hl
  refine lv_iload_n C0.1 C0.2.1 dX0_within_0 rfl (lv_at hl 0 rfl) ?_
  refine lv_iload_n C0.1 C0.2.1 dX0_within_1 rfl (lv_at hl 1 rfl) ?_
  refine lv_icmp_ge (tgt := 10) C0.1 C0.2.1 dX0_within_2 (by decide) (fun c_2 => ?_) (fun c_2 => ?_)
  · refine lv_iload_n C0.1 C0.2.1 dX0_within_10 rfl (lv_at hl 0 rfl) ?_
    refine lv_iload_n C0.1 C0.2.1 dX0_within_11 rfl (lv_at hl 2 rfl) ?_
    refine lv_icmp_le (tgt := 20) C0.1 C0.2.1 dX0_within_12 (by decide) (fun c_12 => ?_) (fun c_12 => ?_)
    · refine lv_iconst (v := 0) C0.1 C0.2.1 dX0_within_20 (by decide) ?_
      exact x_iret C0 hr hlk (by rw [wthF, if_neg (Int32.not_lt.mpr c_2), if_neg (Int32.not_lt.mpr c_12)]; rfl) dX0_within_21
    · refine lv_bipush (v := (-6)) C0.1 C0.2.1 dX0_within_15 (by decide) ?_
      refine lv_goto (tgt := 21) C0.1 C0.2.1 dX0_within_17 (by decide) ?_
      exact x_iret C0 hr hlk (by rw [wthF, if_neg (Int32.not_lt.mpr c_2), if_pos (Int32.not_le.mp c_12)]; rfl) dX0_within_21
  · refine lv_bipush (v := (-4)) C0.1 C0.2.1 dX0_within_5 (by decide) ?_
    refine lv_goto (tgt := 21) C0.1 C0.2.1 dX0_within_7 (by decide) ?_
    exact x_iret C0 hr hlk (by rw [wthF, if_pos (Int32.not_le.mp c_2)]; rfl) dX0_within_21
theorem hdx_X0_isCell : yX0_isCell.cls ≠ "java/lang/invoke/MethodHandle" ∧ yX0_isCell.cls ≠ "java/lang/invoke/VarHandle" ∧ (parseMethodDescriptor yX0_isCell.desc).map (fun d => d.parameters.length) = some 2 := by decide +kernel
set_option maxHeartbeats 4000000 in
theorem xx_isCell (l : Launch) (p0 p1 : Int32)  : Met l yX0_isCell (ws_ yX0_isCell cX0_isCell 2 (some .boolean)) { frames := 1, cells := 0, slots := 0, locals := 21 } (va_Pc [.int p0, .int p1] (fun _ => True)) (vp_Si (fun r => r = if (cellN p0 p1).isSome = true then 1 else 0)) 0 0 (fun _ => False) := by
  refine st_head (by decide) (Nat.le_of_ble_eq_true rfl) ?_
  intro p e s m below meth cd ls C0 hr hlk hl
  have hl : lv_has ls 2 [(0, .int p0), (1, .int p1)] := hl
  refine lv_iload_n C0.1 C0.2.1 dX0_isCell_0 rfl (lv_at hl 0 rfl) ?_
  refine lv_bipush (v := 120) C0.1 C0.2.1 dX0_isCell_1 (by decide) ?_
  refine st_call C0 (xx_isIn l p0 120) 2 (lw_S q207 q208 q39 q209) rfl rfl hdx_X0_isIn ⟨(Nat.le_of_ble_eq_true rfl), (Nat.le_of_ble_eq_true rfl)⟩ rfl hl.1 rfl (Nat.le_of_ble_eq_true rfl) dX0_isCell_3 ⟨(Nat.le_of_ble_eq_true rfl), (Nat.le_of_ble_eq_true rfl)⟩ (fun r hr => ?_)
  subst hr
  refine tp_eq (y := (if (inR p0 120).isSome = true then 1 else 0)) (b01_c (inR_lt (n := 120) (by decide))) ?_
  refine lv_if_eq (tgt := 22) C0.1 C0.2.1 dX0_isCell_6 (by decide) (fun c_6 => ?_) (fun c_6 => ?_)
  · have c_6 : ¬ ((inR p0 120).isSome = true) := b01_0.mp c_6
    refine lv_iconst (v := 0) C0.1 C0.2.1 dX0_isCell_22 (by decide) ?_
    exact x_zret C0 hr hlk rfl (b0_of (fun z => c_6 (cellN_of z).1)) dX0_isCell_23
  · have c_6 : (inR p0 120).isSome = true := b01_1.mp c_6
    refine lv_iload_n C0.1 C0.2.1 dX0_isCell_9 rfl (lv_at hl 1 rfl) ?_
    refine lv_bipush (v := 10) C0.1 C0.2.1 dX0_isCell_10 (by decide) ?_
    refine st_call C0 (xx_isIn l p1 10) 2 (lw_S q207 q208 q39 q209) rfl rfl hdx_X0_isIn ⟨(Nat.le_of_ble_eq_true rfl), (Nat.le_of_ble_eq_true rfl)⟩ rfl hl.1 rfl (Nat.le_of_ble_eq_true rfl) dX0_isCell_12 ⟨(Nat.le_of_ble_eq_true rfl), (Nat.le_of_ble_eq_true rfl)⟩ (fun r hr => ?_)
    subst hr
    refine tp_eq (y := (if (inR p1 10).isSome = true then 1 else 0)) (b01_c (inR_lt (n := 10) (by decide))) ?_
    refine lv_if_eq (tgt := 22) C0.1 C0.2.1 dX0_isCell_15 (by decide) (fun c_15 => ?_) (fun c_15 => ?_)
    · have c_15 : ¬ ((inR p1 10).isSome = true) := b01_0.mp c_15
      refine lv_iconst (v := 0) C0.1 C0.2.1 dX0_isCell_22 (by decide) ?_
      exact x_zret C0 hr hlk rfl (b0_of (fun z => c_15 (cellN_of z).2)) dX0_isCell_23
    · have c_15 : (inR p1 10).isSome = true := b01_1.mp c_15
      refine lv_iconst (v := 1) C0.1 C0.2.1 dX0_isCell_18 (by decide) ?_
      refine lv_goto (tgt := 23) C0.1 C0.2.1 dX0_isCell_19 (by decide) ?_
      exact x_zret C0 hr hlk rfl (b1_of (cellN_is c_6 c_15)) dX0_isCell_23
theorem hdx_X0_refuse : yX0_refuse.cls = RX0 ∧ yX0_refuse.cls ≠ "java/lang/invoke/MethodHandle" ∧ yX0_refuse.cls ≠ "java/lang/invoke/VarHandle" ∧ (parseMethodDescriptor yX0_refuse.desc).map (fun d => d.parameters.length) = some 1 := by decide +kernel
set_option maxHeartbeats 4000000 in
theorem xx_refuse (l : Launch) (D : va_G) (dA : Nat → ClassId) (ad : Nat → Nat) (X : St) (L : Ex) (sz : Nat) (k : Nat) (hk : k < 8) : xCi l yX0_refuse cX0_refuse 2 (some .int) { frames := 0, cells := 0, slots := 0, locals := 0 } D dA ad X L sz [.ref (ad 0), .int (-(nI k))] 0 0 (fun r u => r = -(nI k) ∧ u = (ad, refS X k, L)) := by
  refine x_hI (by decide) (Nat.le_of_ble_eq_true rfl) ?_
  intro A p e s m below meth cd ls C0 hr hlk hnm hG hM hS hl
  have hl : lv_has ls 2 [(0, .ref (ad 0)), (1, .int (-(nI k)))] := hl
  refine lv_aload_n C0.1 C0.2.1 dX0_refuse_0 rfl (lv_at hl 0 rfl) ?_
  refine x_geta C0 hG hM 12 22 (by decide) rfl rfl q130 dX0_refuse_1 ?_
  refine lv_iload_n C0.1 C0.2.1 dX0_refuse_4 rfl (lv_at hl 1 rfl) ?_
  refine lv_ineg C0.1 C0.2.1 dX0_refuse_5 ?_
  refine tp_eq (y := nI k) (Int32.neg_neg) ?_
  refine lv_dup2_11 C0.1 C0.2.1 dX0_refuse_6 rfl rfl ?_
  refine x_iald C0 hG hM 22 k rfl rfl rfl (show k < 8 from (by omega)) (by decide) dX0_refuse_7 ?_
  refine lv_iconst (v := 1) C0.1 C0.2.1 dX0_refuse_8 (by decide) ?_
  refine lv_iadd C0.1 C0.2.1 dX0_refuse_9 ?_
  refine x_iast C0 hG hM hS 22 k rfl rfl rfl (show k < 8 from (by omega)) (by decide) dX0_refuse_10 (fun H locs hM hS => ?_)
  refine lv_iload_n C0.1 C0.2.1 dX0_refuse_11 rfl (lv_at hl 1 rfl) ?_
  exact x_iretS C0 hr hlk hM hS ⟨rfl, rfl⟩ dX0_refuse_12 (Nat.le_of_ble_eq_true rfl) (Nat.le_of_ble_eq_true rfl)
theorem hdx_X5_at : yX5_at.cls = RX5 ∧ yX5_at.cls ≠ "java/lang/invoke/MethodHandle" ∧ yX5_at.cls ≠ "java/lang/invoke/VarHandle" ∧ (parseMethodDescriptor yX5_at.desc).map (fun d => d.parameters.length) = some 1 := by decide +kernel
set_option maxHeartbeats 4000000 in
theorem x5_at (l : Launch) (D : va_G) (dA : Nat → ClassId) (ad : Nat → Nat) (X : St) (L : Ex) (sz : Nat) (c t : Nat) (hc : c < 12) (hth : ¬ X 1 c = 0) (ht : t < rl X) (hr16 : rl X ≤ 16) : xCp l yX5_at cX5_at 2 (some .int) { frames := 0, cells := 0, slots := 0, locals := 0 } D dA ad X L sz [.ref (ad (100 + c)), .int (nI t)] (fun r => r = X 2 (16 * c + t)) := by
  refine x_hP (by decide) (Nat.le_of_ble_eq_true rfl) ?_
  intro A p e s m below meth cd ls C0 hr hlk hnm hG hM hS hl
  have hl : lv_has ls 2 [(0, .ref (ad (100 + c))), (1, .int (nI t))] := hl
  refine lv_aload_n C0.1 C0.2.1 dX5_at_0 rfl (lv_at hl 0 rfl) ?_
  refine x_row C0 hG hM c hth (by omega) q215 dX5_at_1 ?_
  refine lv_iload_n C0.1 C0.2.1 dX5_at_4 rfl (lv_at hl 1 rfl) ?_
  refine x_hta C0 hG hM c t hth (by omega) rfl ht hr16 dX5_at_5 ?_
  exact x_iret C0 hr hlk rfl dX5_at_6
theorem hdx_X5_turnsTo : yX5_turnsTo.cls = RX5 ∧ yX5_turnsTo.cls ≠ "java/lang/invoke/MethodHandle" ∧ yX5_turnsTo.cls ≠ "java/lang/invoke/VarHandle" ∧ (parseMethodDescriptor yX5_turnsTo.desc).map (fun d => d.parameters.length) = some 1 := by decide +kernel
set_option maxHeartbeats 4000000 in
theorem x5_turnsTo (l : Launch) (D : va_G) (dA : Nat → ClassId) (ad : Nat → Nat) (X : St) (L : Ex) (sz : Nat) (c d : Nat) (hc : c < 12) (hth : ¬ X 1 c = 0) (hd : d < 12) (htd : ¬ X 1 d = 0) (hr16 : rl X ≤ 16) : xCp l yX5_turnsTo cX5_turnsTo 6 (some .int) { frames := 0, cells := 0, slots := 0, locals := 0 } D dA ad X L sz [.ref (ad (100 + c)), .ref (ad (100 + d))] (fun r => r = rotI (rotN (rl X) (row X c) (row X d))) := by
  refine x_hP (by decide) (Nat.le_of_ble_eq_true rfl) ?_
  intro A p e s m below meth cd ls C0 hr hlk hnm hG hM hS hl
  have hl : lv_has ls 6 [(0, .ref (ad (100 + c))), (1, .ref (ad (100 + d)))] := hl
  refine lv_aload_n C0.1 C0.2.1 dX5_turnsTo_0 rfl (lv_at hl 0 rfl) ?_
  refine x_row C0 hG hM c hth (by omega) q215 dX5_turnsTo_1 ?_
  refine x_htl C0 hG hM c hth (by omega) dX5_turnsTo_4 ?_
  refine lv_istore_n (lv' := [(2, .int (nI (rl X))), (0, .ref (ad (100 + c))), (1, .ref (ad (100 + d)))]) C0.1 C0.2.1 dX5_turnsTo_5 rfl hl (by decide) rfl (fun ls hl => ?_)
  refine lv_iconst (v := 0) C0.1 C0.2.1 dX5_turnsTo_6 (by decide) ?_
  refine lv_istore_n (lv' := [(3, .int 0), (2, .int (nI (rl X))), (0, .ref (ad (100 + c))), (1, .ref (ad (100 + d)))]) C0.1 C0.2.1 dX5_turnsTo_7 rfl hl (by decide) rfl (fun ls hl => ?_)
  refine W_loopP (rl X) (fun n ls => (∀ m, m < n → rotQ (rl X) (row X c) (row X d) m = false) ∧ lv_has ls 6 [(0, .ref (ad (100 + c))), (1, .ref (ad (100 + d))), (2, .int (nI (rl X))), (3, .int (nI n))]) 8 ?_ ?_ 0 ls (Nat.zero_le _) ⟨fun m h => absurd h (Nat.not_lt_zero m), lv_sub hl [2, 3, 1, 0] rfl⟩
  · intro ls ⟨hPn, hl⟩
    refine lv_iload_n C0.1 C0.2.1 dX5_turnsTo_8 rfl (lv_at hl 3 rfl) ?_
    refine lv_iload_n C0.1 C0.2.1 dX5_turnsTo_9 rfl (lv_at hl 2 rfl) ?_
    refine lv_icmp_ge (tgt := 77) C0.1 C0.2.1 dX5_turnsTo_10 (by decide) (fun c_10 => ?_) (fun c_10 => ?_)
    · have n_10 : rl X ≤ rl X := (nI_leI (a := rl X) (b := rl X) (by omega) (by omega)).mp c_10
      refine lv_bipush (v := (-9)) C0.1 C0.2.1 dX5_turnsTo_77 (by decide) ?_
      exact x_iret C0 hr hlk (by rw [rotN_none hPn]; rfl) dX5_turnsTo_79
    · have n_10 : ¬ rl X ≤ rl X := fun z => c_10 ((nI_leI (a := rl X) (b := rl X) (by omega) (by omega)).mpr z)
      omega
  · intro n ls hn ⟨hPn, hl⟩ K8
    refine lv_iload_n C0.1 C0.2.1 dX5_turnsTo_8 rfl (lv_at hl 3 rfl) ?_
    refine lv_iload_n C0.1 C0.2.1 dX5_turnsTo_9 rfl (lv_at hl 2 rfl) ?_
    refine lv_icmp_ge (tgt := 77) C0.1 C0.2.1 dX5_turnsTo_10 (by decide) (fun c_10 => ?_) (fun c_10 => ?_)
    · have n_10 : rl X ≤ n := (nI_leI (a := rl X) (b := n) (by omega) (by omega)).mp c_10
      omega
    · have n_10 : ¬ rl X ≤ n := fun z => c_10 ((nI_leI (a := rl X) (b := n) (by omega) (by omega)).mpr z)
      refine lv_iconst (v := 1) C0.1 C0.2.1 dX5_turnsTo_13 (by decide) ?_
      refine lv_istore (lv' := [(4, .int 1), (0, .ref (ad (100 + c))), (1, .ref (ad (100 + d))), (2, .int (nI (rl X))), (3, .int (nI n))]) C0.1 C0.2.1 dX5_turnsTo_14 hl (by decide) rfl (fun ls hl => ?_)
      refine jnP 64 (fun ls => lv_has ls 6 [(0, .ref (ad (100 + c))), (1, .ref (ad (100 + d))), (2, .int (nI (rl X))), (3, .int (nI n)), (4, .int (if allN (rq (rl X) (row X c) (row X d) n) (rl X) = true then 1 else 0))]) (fun ls hl => ?_) (fun J => ?_)
      · refine lv_iload C0.1 C0.2.1 dX5_turnsTo_64 (lv_at hl 4 rfl) ?_
        refine lv_if_eq (tgt := 71) C0.1 C0.2.1 dX5_turnsTo_66 (by decide) (fun c_66 => ?_) (fun c_66 => ?_)
        · have c_66 : ¬ (allN (rq (rl X) (row X c) (row X d) n) (rl X) = true) := b01_0.mp c_66
          refine lv_iinc (v := nI (n + 1)) (lv' := [(3, .int (nI (n + 1))), (0, .ref (ad (100 + c))), (1, .ref (ad (100 + d))), (2, .int (nI (rl X))), (4, .int (if allN (rq (rl X) (row X c) (row X d) n) (rl X) = true then 1 else 0))]) C0.1 C0.2.1 dX5_turnsTo_71 hl (k := 3) rfl (nI_1 n) (by decide) rfl (fun ls hl => ?_)
          refine lv_goto (tgt := 8) C0.1 C0.2.1 dX5_turnsTo_74 (by decide) ?_
          exact K8 ls ⟨rotQ_next hPn c_66, lv_sub hl [1, 2, 3, 0] rfl⟩
        · have c_66 : allN (rq (rl X) (row X c) (row X d) n) (rl X) = true := b01_1.mp c_66
          refine lv_iload_n C0.1 C0.2.1 dX5_turnsTo_69 rfl (lv_at hl 3 rfl) ?_
          exact x_iret C0 hr hlk (by rw [rotN_some hn hPn c_66]; rfl) dX5_turnsTo_70
      · refine lv_iconst (v := 0) C0.1 C0.2.1 dX5_turnsTo_16 (by decide) ?_
        refine lv_istore (lv' := [(5, .int 0), (4, .int 1), (0, .ref (ad (100 + c))), (1, .ref (ad (100 + d))), (2, .int (nI (rl X))), (3, .int (nI n))]) C0.1 C0.2.1 dX5_turnsTo_17 hl (by decide) rfl (fun ls hl => ?_)
        refine W_loopP (rl X) (fun t ls => lv_has ls 6 [(0, .ref (ad (100 + c))), (1, .ref (ad (100 + d))), (2, .int (nI (rl X))), (3, .int (nI n)), (4, .int (if allN (rq (rl X) (row X c) (row X d) n) t = true then 1 else 0)), (5, .int (nI t))]) 19 ?_ ?_ 0 ls (Nat.zero_le _) (lv_sub hl [2, 3, 4, 5, 1, 0] rfl)
        · intro ls hl
          refine lv_iload C0.1 C0.2.1 dX5_turnsTo_19 (lv_at hl 5 rfl) ?_
          refine lv_iload_n C0.1 C0.2.1 dX5_turnsTo_21 rfl (lv_at hl 2 rfl) ?_
          refine lv_icmp_ge (tgt := 64) C0.1 C0.2.1 dX5_turnsTo_22 (by decide) (fun c_22 => ?_) (fun c_22 => ?_)
          · have n_22 : rl X ≤ rl X := (nI_leI (a := rl X) (b := rl X) (by omega) (by omega)).mp c_22
            exact J _ (by exact lv_sub hl [0, 1, 2, 3, 4] rfl)
          · have n_22 : ¬ rl X ≤ rl X := fun z => c_22 ((nI_leI (a := rl X) (b := rl X) (by omega) (by omega)).mpr z)
            omega
        · intro t ls ht hl K19
          refine lv_iload C0.1 C0.2.1 dX5_turnsTo_19 (lv_at hl 5 rfl) ?_
          refine lv_iload_n C0.1 C0.2.1 dX5_turnsTo_21 rfl (lv_at hl 2 rfl) ?_
          refine lv_icmp_ge (tgt := 64) C0.1 C0.2.1 dX5_turnsTo_22 (by decide) (fun c_22 => ?_) (fun c_22 => ?_)
          · have n_22 : rl X ≤ t := (nI_leI (a := rl X) (b := t) (by omega) (by omega)).mp c_22
            omega
          · have n_22 : ¬ rl X ≤ t := fun z => c_22 ((nI_leI (a := rl X) (b := t) (by omega) (by omega)).mpr z)
            refine lv_iload C0.1 C0.2.1 dX5_turnsTo_25 (lv_at hl 4 rfl) ?_
            refine lv_if_eq (tgt := 64) C0.1 C0.2.1 dX5_turnsTo_27 (by decide) (fun c_27 => ?_) (fun c_27 => ?_)
            · have c_27 : ¬ (allN (rq (rl X) (row X c) (row X d) n) t = true) := b01_0.mp c_27
              exact J _ (by (rw [b01_c (P := allN (rq (rl X) (row X c) (row X d) n) t = true) (P' := allN (rq (rl X) (row X c) (row X d) n) (rl X) = true) ⟨fun z => absurd z c_27, fun z => absurd z (allN_le (by omega) c_27)⟩] at hl); exact lv_sub hl [0, 1, 2, 3, 4] rfl)
            · have c_27 : allN (rq (rl X) (row X c) (row X d) n) t = true := b01_1.mp c_27
              refine jn_i 56 [] (fun v => v = (if allN (rq (rl X) (row X c) (row X d) n) (t + 1) = true then 1 else 0)) (fun v hv => ?_) (fun J => ?_)
              · subst hv
                refine lv_istore (lv' := [(4, .int (if allN (rq (rl X) (row X c) (row X d) n) (t + 1) = true then 1 else 0)), (0, .ref (ad (100 + c))), (1, .ref (ad (100 + d))), (2, .int (nI (rl X))), (3, .int (nI n)), (5, .int (nI t))]) C0.1 C0.2.1 dX5_turnsTo_56 hl (by decide) rfl (fun ls hl => ?_)
                refine lv_iinc (v := nI (t + 1)) (lv' := [(5, .int (nI (t + 1))), (4, .int (if allN (rq (rl X) (row X c) (row X d) n) (t + 1) = true then 1 else 0)), (0, .ref (ad (100 + c))), (1, .ref (ad (100 + d))), (2, .int (nI (rl X))), (3, .int (nI n))]) C0.1 C0.2.1 dX5_turnsTo_58 hl (k := 5) rfl (nI_1 t) (by decide) rfl (fun ls hl => ?_)
                refine lv_goto (tgt := 19) C0.1 C0.2.1 dX5_turnsTo_61 (by decide) ?_
                exact K19 ls (lv_sub hl [2, 3, 4, 5, 1, 0] rfl)
              · refine lv_aload_n C0.1 C0.2.1 dX5_turnsTo_30 rfl (lv_at hl 0 rfl) ?_
                refine x_row C0 hG hM c hth (by omega) q215 dX5_turnsTo_31 ?_
                refine lv_iload C0.1 C0.2.1 dX5_turnsTo_34 (lv_at hl 5 rfl) ?_
                refine x_hta C0 hG hM c t hth (by omega) rfl (by omega) hr16 dX5_turnsTo_36 ?_
                refine lv_aload_n C0.1 C0.2.1 dX5_turnsTo_37 rfl (lv_at hl 1 rfl) ?_
                refine x_row C0 hG hM d htd (by omega) q215 dX5_turnsTo_38 ?_
                refine lv_iload C0.1 C0.2.1 dX5_turnsTo_41 (lv_at hl 5 rfl) ?_
                refine lv_iload_n C0.1 C0.2.1 dX5_turnsTo_43 rfl (lv_at hl 3 rfl) ?_
                refine lv_iadd C0.1 C0.2.1 dX5_turnsTo_44 ?_
                refine tp_eq (y := nI (t + n)) (nI_add t n) ?_
                refine lv_iload_n C0.1 C0.2.1 dX5_turnsTo_45 rfl (lv_at hl 2 rfl) ?_
                refine lv_irem C0.1 C0.2.1 dX5_turnsTo_46 (nI_ne0 (by omega) (by omega)) ?_
                refine tp_eq (y := nI ((t + n) % (rl X))) (pk_rem (a := t + n) (d := rl X) (by omega) (by omega) (by omega)) ?_
                refine x_hta C0 hG hM d ((t + n) % (rl X)) htd (by omega) rfl (Nat.mod_lt _ (by omega)) hr16 dX5_turnsTo_47 ?_
                refine lv_icmp_ne (tgt := 55) C0.1 C0.2.1 dX5_turnsTo_48 (by decide) (fun c_48 => ?_) (fun c_48 => ?_)
                · refine lv_iconst (v := 0) C0.1 C0.2.1 dX5_turnsTo_55 (by decide) ?_
                  exact J _ (b0_of (allN_f2 (fun z => c_48 (beq_iff_eq.mp z))))
                · refine lv_iconst (v := 1) C0.1 C0.2.1 dX5_turnsTo_51 (by decide) ?_
                  refine lv_goto (tgt := 56) C0.1 C0.2.1 dX5_turnsTo_52 (by decide) ?_
                  exact J _ (b1_of (allN_s c_27 (beq_iff_eq.mpr c_48)))
theorem hdx_X5_smooth : yX5_smooth.cls = RX5 ∧ yX5_smooth.cls ≠ "java/lang/invoke/MethodHandle" ∧ yX5_smooth.cls ≠ "java/lang/invoke/VarHandle" ∧ (parseMethodDescriptor yX5_smooth.desc).map (fun d => d.parameters.length) = some 0 := by decide +kernel
set_option maxHeartbeats 4000000 in
theorem x5_smooth (l : Launch) (D : va_G) (dA : Nat → ClassId) (ad : Nat → Nat) (X : St) (L : Ex) (sz : Nat) (c : Nat) (hc : c < 12) (hth : ¬ X 1 c = 0) (hr16 : rl X ≤ 16) : xCp l yX5_smooth cX5_smooth 3 (some .int) { frames := 1, cells := 0, slots := 0, locals := 21 } D dA ad X L sz [.ref (ad (100 + c))] (fun r => r = smoothF (rl X) (row X c) (rl X)) := by
  refine x_hP (by decide) (Nat.le_of_ble_eq_true rfl) ?_
  intro A p e s m below meth cd ls C0 hr hlk hnm hG hM hS hl
  have hl : lv_has ls 3 [(0, .ref (ad (100 + c)))] := hl
  refine lv_iconst (v := 0) C0.1 C0.2.1 dX5_smooth_0 (by decide) ?_
  refine lv_istore_n (lv' := [(1, .int 0), (0, .ref (ad (100 + c)))]) C0.1 C0.2.1 dX5_smooth_1 rfl hl (by decide) rfl (fun ls hl => ?_)
  refine lv_iconst (v := 0) C0.1 C0.2.1 dX5_smooth_2 (by decide) ?_
  refine lv_istore_n (lv' := [(2, .int 0), (1, .int 0), (0, .ref (ad (100 + c)))]) C0.1 C0.2.1 dX5_smooth_3 rfl hl (by decide) rfl (fun ls hl => ?_)
  refine W_loopP (rl X) (fun i ls => lv_has ls 3 [(0, .ref (ad (100 + c))), (1, .int (smoothF (rl X) (row X c) i)), (2, .int (nI i))]) 4 ?_ ?_ 0 ls (Nat.zero_le _) (lv_sub hl [2, 1, 0] rfl)
  · intro ls hl
    refine lv_iload_n C0.1 C0.2.1 dX5_smooth_4 rfl (lv_at hl 2 rfl) ?_
    refine lv_aload_n C0.1 C0.2.1 dX5_smooth_5 rfl (lv_at hl 0 rfl) ?_
    refine x_row C0 hG hM c hth (by omega) q215 dX5_smooth_6 ?_
    refine x_htl C0 hG hM c hth (by omega) dX5_smooth_9 ?_
    refine lv_icmp_ge (tgt := 48) C0.1 C0.2.1 dX5_smooth_10 (by decide) (fun c_10 => ?_) (fun c_10 => ?_)
    · have n_10 : rl X ≤ rl X := (nI_leI (a := rl X) (b := rl X) (by omega) (by omega)).mp c_10
      refine lv_iload_n C0.1 C0.2.1 dX5_smooth_48 rfl (lv_at hl 1 rfl) ?_
      exact x_iret C0 hr hlk rfl dX5_smooth_49
    · have n_10 : ¬ rl X ≤ rl X := fun z => c_10 ((nI_leI (a := rl X) (b := rl X) (by omega) (by omega)).mpr z)
      omega
  · intro i ls hi hl K4
    refine lv_iload_n C0.1 C0.2.1 dX5_smooth_4 rfl (lv_at hl 2 rfl) ?_
    refine lv_aload_n C0.1 C0.2.1 dX5_smooth_5 rfl (lv_at hl 0 rfl) ?_
    refine x_row C0 hG hM c hth (by omega) q215 dX5_smooth_6 ?_
    refine x_htl C0 hG hM c hth (by omega) dX5_smooth_9 ?_
    refine lv_icmp_ge (tgt := 48) C0.1 C0.2.1 dX5_smooth_10 (by decide) (fun c_10 => ?_) (fun c_10 => ?_)
    · have n_10 : rl X ≤ i := (nI_leI (a := rl X) (b := i) (by omega) (by omega)).mp c_10
      omega
    · have n_10 : ¬ rl X ≤ i := fun z => c_10 ((nI_leI (a := rl X) (b := i) (by omega) (by omega)).mpr z)
      refine lv_iload_n C0.1 C0.2.1 dX5_smooth_13 rfl (lv_at hl 1 rfl) ?_
      refine lv_aload_n C0.1 C0.2.1 dX5_smooth_14 rfl (lv_at hl 0 rfl) ?_
      refine x_row C0 hG hM c hth (by omega) q215 dX5_smooth_15 ?_
      refine lv_iload_n C0.1 C0.2.1 dX5_smooth_18 rfl (lv_at hl 2 rfl) ?_
      refine x_hta C0 hG hM c i hth (by omega) rfl (by omega) hr16 dX5_smooth_19 ?_
      refine lv_aload_n C0.1 C0.2.1 dX5_smooth_20 rfl (lv_at hl 0 rfl) ?_
      refine x_row C0 hG hM c hth (by omega) q215 dX5_smooth_21 ?_
      refine lv_iload_n C0.1 C0.2.1 dX5_smooth_24 rfl (lv_at hl 2 rfl) ?_
      refine lv_iconst (v := 1) C0.1 C0.2.1 dX5_smooth_25 (by decide) ?_
      refine lv_iadd C0.1 C0.2.1 dX5_smooth_26 ?_
      refine tp_eq (y := nI (i + 1)) (nI_1 i) ?_
      refine lv_aload_n C0.1 C0.2.1 dX5_smooth_27 rfl (lv_at hl 0 rfl) ?_
      refine x_row C0 hG hM c hth (by omega) q215 dX5_smooth_28 ?_
      refine x_htl C0 hG hM c hth (by omega) dX5_smooth_31 ?_
      refine lv_irem C0.1 C0.2.1 dX5_smooth_32 (nI_ne0 (by omega) (by omega)) ?_
      refine tp_eq (y := nI ((i + 1) % (rl X))) (pk_rem (a := i + 1) (d := rl X) (by omega) (by omega) (by omega)) ?_
      refine x_hta C0 hG hM c ((i + 1) % (rl X)) hth (by omega) rfl (Nat.mod_lt _ (by omega)) hr16 dX5_smooth_33 ?_
      refine lv_isub C0.1 C0.2.1 dX5_smooth_34 ?_
      refine tp_eq (y := (X 2 (16 * c + i) - X 2 (16 * c + (i + 1) % rl X))) (rfl) ?_
      refine st_call C0 (j3_abs l (X 2 (16 * c + i) - X 2 (16 * c + (i + 1) % rl X))) 1 (lw_S q347 q348 q50 q349) rfl rfl hdx_J3_abs ⟨(Nat.le_of_ble_eq_true rfl), (Nat.le_of_ble_eq_true rfl)⟩ rfl hl.1 rfl (Nat.le_of_ble_eq_true rfl) dX5_smooth_35 ⟨(Nat.le_of_ble_eq_true rfl), (Nat.le_of_ble_eq_true rfl)⟩ (fun r hr => ?_)
      subst hr
      refine st_call C0 (j3_max l (smoothF (rl X) (row X c) i) (iabs (X 2 (16 * c + i) - X 2 (16 * c + (i + 1) % rl X)))) 2 (lw_S q350 q351 q50 q352) rfl rfl hdx_J3_max ⟨(Nat.le_of_ble_eq_true rfl), (Nat.le_of_ble_eq_true rfl)⟩ rfl hl.1 rfl (Nat.le_of_ble_eq_true rfl) dX5_smooth_38 ⟨(Nat.le_of_ble_eq_true rfl), (Nat.le_of_ble_eq_true rfl)⟩ (fun r hr => ?_)
      subst hr
      refine tp_eq (y := smoothF (rl X) (row X c) (i + 1)) (rfl) ?_
      refine lv_istore_n (lv' := [(1, .int (smoothF (rl X) (row X c) (i + 1))), (0, .ref (ad (100 + c))), (2, .int (nI i))]) C0.1 C0.2.1 dX5_smooth_41 rfl hl (by decide) rfl (fun ls hl => ?_)
      refine lv_iinc (v := nI (i + 1)) (lv' := [(2, .int (nI (i + 1))), (1, .int (smoothF (rl X) (row X c) (i + 1))), (0, .ref (ad (100 + c)))]) C0.1 C0.2.1 dX5_smooth_42 hl (k := 2) rfl (nI_1 i) (by decide) rfl (fun ls hl => ?_)
      refine lv_goto (tgt := 4) C0.1 C0.2.1 dX5_smooth_45 (by decide) ?_
      exact K4 ls (lv_sub hl [2, 1, 0] rfl)
theorem hdx_X5_times : yX5_times.cls = RX5 ∧ yX5_times.cls ≠ "java/lang/invoke/MethodHandle" ∧ yX5_times.cls ≠ "java/lang/invoke/VarHandle" ∧ (parseMethodDescriptor yX5_times.desc).map (fun d => d.parameters.length) = some 1 := by decide +kernel
set_option maxHeartbeats 4000000 in
theorem x5_times (l : Launch) (D : va_G) (dA : Nat → ClassId) (ad : Nat → Nat) (X : St) (L : Ex) (sz : Nat) (c : Nat) (p1 : Int32) (hc : c < 12) (hth : ¬ X 1 c = 0) (hr16 : rl X ≤ 16) : xCp l yX5_times cX5_times 4 (some .int) { frames := 0, cells := 0, slots := 0, locals := 0 } D dA ad X L sz [.ref (ad (100 + c)), .int p1] (fun r => r = nI (timesF (row X c) p1 (rl X))) := by
  refine x_hP (by decide) (Nat.le_of_ble_eq_true rfl) ?_
  intro A p e s m below meth cd ls C0 hr hlk hnm hG hM hS hl
  have hl : lv_has ls 4 [(0, .ref (ad (100 + c))), (1, .int p1)] := hl
  refine lv_iconst (v := 0) C0.1 C0.2.1 dX5_times_0 (by decide) ?_
  refine lv_istore_n (lv' := [(2, .int 0), (0, .ref (ad (100 + c))), (1, .int p1)]) C0.1 C0.2.1 dX5_times_1 rfl hl (by decide) rfl (fun ls hl => ?_)
  refine lv_iconst (v := 0) C0.1 C0.2.1 dX5_times_2 (by decide) ?_
  refine lv_istore_n (lv' := [(3, .int 0), (2, .int 0), (0, .ref (ad (100 + c))), (1, .int p1)]) C0.1 C0.2.1 dX5_times_3 rfl hl (by decide) rfl (fun ls hl => ?_)
  refine W_loopP (rl X) (fun i ls => lv_has ls 4 [(0, .ref (ad (100 + c))), (1, .int p1), (2, .int (nI (timesF (row X c) p1 i))), (3, .int (nI i))]) 4 ?_ ?_ 0 ls (Nat.zero_le _) (lv_sub hl [2, 3, 1, 0] rfl)
  · intro ls hl
    refine lv_iload_n C0.1 C0.2.1 dX5_times_4 rfl (lv_at hl 3 rfl) ?_
    refine lv_aload_n C0.1 C0.2.1 dX5_times_5 rfl (lv_at hl 0 rfl) ?_
    refine x_row C0 hG hM c hth (by omega) q215 dX5_times_6 ?_
    refine x_htl C0 hG hM c hth (by omega) dX5_times_9 ?_
    refine lv_icmp_ge (tgt := 37) C0.1 C0.2.1 dX5_times_10 (by decide) (fun c_10 => ?_) (fun c_10 => ?_)
    · have n_10 : rl X ≤ rl X := (nI_leI (a := rl X) (b := rl X) (by omega) (by omega)).mp c_10
      refine lv_iload_n C0.1 C0.2.1 dX5_times_37 rfl (lv_at hl 2 rfl) ?_
      exact x_iret C0 hr hlk rfl dX5_times_38
    · have n_10 : ¬ rl X ≤ rl X := fun z => c_10 ((nI_leI (a := rl X) (b := rl X) (by omega) (by omega)).mpr z)
      omega
  · intro i ls hi hl K4
    refine lv_iload_n C0.1 C0.2.1 dX5_times_4 rfl (lv_at hl 3 rfl) ?_
    refine lv_aload_n C0.1 C0.2.1 dX5_times_5 rfl (lv_at hl 0 rfl) ?_
    refine x_row C0 hG hM c hth (by omega) q215 dX5_times_6 ?_
    refine x_htl C0 hG hM c hth (by omega) dX5_times_9 ?_
    refine lv_icmp_ge (tgt := 37) C0.1 C0.2.1 dX5_times_10 (by decide) (fun c_10 => ?_) (fun c_10 => ?_)
    · have n_10 : rl X ≤ i := (nI_leI (a := rl X) (b := i) (by omega) (by omega)).mp c_10
      omega
    · have n_10 : ¬ rl X ≤ i := fun z => c_10 ((nI_leI (a := rl X) (b := i) (by omega) (by omega)).mpr z)
      refine lv_iload_n C0.1 C0.2.1 dX5_times_13 rfl (lv_at hl 2 rfl) ?_
      refine jn_i 29 [.int (nI (timesF (row X c) p1 i))] (fun v => v = nI (if X 2 (16 * c + i) = p1 then 1 else 0)) (fun v hv => ?_) (fun J => ?_)
      · subst hv
        refine lv_iadd C0.1 C0.2.1 dX5_times_29 ?_
        refine tp_eq (y := nI (timesF (row X c) p1 (i + 1))) (nI_add _ _) ?_
        refine lv_istore_n (lv' := [(2, .int (nI (timesF (row X c) p1 (i + 1)))), (0, .ref (ad (100 + c))), (1, .int p1), (3, .int (nI i))]) C0.1 C0.2.1 dX5_times_30 rfl hl (by decide) rfl (fun ls hl => ?_)
        refine lv_iinc (v := nI (i + 1)) (lv' := [(3, .int (nI (i + 1))), (2, .int (nI (timesF (row X c) p1 (i + 1)))), (0, .ref (ad (100 + c))), (1, .int p1)]) C0.1 C0.2.1 dX5_times_31 hl (k := 3) rfl (nI_1 i) (by decide) rfl (fun ls hl => ?_)
        refine lv_goto (tgt := 4) C0.1 C0.2.1 dX5_times_34 (by decide) ?_
        exact K4 ls (lv_sub hl [2, 3, 1, 0] rfl)
      · refine lv_aload_n C0.1 C0.2.1 dX5_times_14 rfl (lv_at hl 0 rfl) ?_
        refine x_row C0 hG hM c hth (by omega) q215 dX5_times_15 ?_
        refine lv_iload_n C0.1 C0.2.1 dX5_times_18 rfl (lv_at hl 3 rfl) ?_
        refine x_hta C0 hG hM c i hth (by omega) rfl (by omega) hr16 dX5_times_19 ?_
        refine lv_iload_n C0.1 C0.2.1 dX5_times_20 rfl (lv_at hl 1 rfl) ?_
        refine lv_icmp_ne (tgt := 28) C0.1 C0.2.1 dX5_times_21 (by decide) (fun c_21 => ?_) (fun c_21 => ?_)
        · refine lv_iconst (v := 0) C0.1 C0.2.1 dX5_times_28 (by decide) ?_
          exact J _ (n01_f c_21)
        · refine lv_iconst (v := 1) C0.1 C0.2.1 dX5_times_24 (by decide) ?_
          refine lv_goto (tgt := 29) C0.1 C0.2.1 dX5_times_25 (by decide) ?_
          exact J _ (n01_t c_21)
