set_option maxRecDepth 100000
set_option linter.unusedVariables false
theorem hdd_in : yX4_in.cls ≠ "java/lang/invoke/MethodHandle" ∧ yX4_in.cls ≠ "java/lang/invoke/VarHandle" ∧ (parseMethodDescriptor yX4_in.desc).map (fun d => d.parameters.length) = some 3 := by decide +kernel
theorem hdd_isCam : yX4_isCam.cls ≠ "java/lang/invoke/MethodHandle" ∧ yX4_isCam.cls ≠ "java/lang/invoke/VarHandle" ∧ (parseMethodDescriptor yX4_isCam.desc).map (fun d => d.parameters.length) = some 1 := by decide +kernel
theorem hdd_isCell : yX4_isCell.cls ≠ "java/lang/invoke/MethodHandle" ∧ yX4_isCell.cls ≠ "java/lang/invoke/VarHandle" ∧ (parseMethodDescriptor yX4_isCell.desc).map (fun d => d.parameters.length) = some 2 := by decide +kernel
theorem hdd_lower : yX4_lower.cls ≠ "java/lang/invoke/MethodHandle" ∧ yX4_lower.cls ≠ "java/lang/invoke/VarHandle" ∧ (parseMethodDescriptor yX4_lower.desc).map (fun d => d.parameters.length) = some 2 := by decide +kernel
theorem hdd_refuse : yX4_refuse.cls = RX4 ∧ yX4_refuse.cls ≠ "java/lang/invoke/MethodHandle" ∧ yX4_refuse.cls ≠ "java/lang/invoke/VarHandle" ∧ (parseMethodDescriptor yX4_refuse.desc).map (fun d => d.parameters.length) = some 1 := by decide +kernel
theorem hdd_clearPaper : yX4_clearPaper.cls = RX4 ∧ yX4_clearPaper.cls ≠ "java/lang/invoke/MethodHandle" ∧ yX4_clearPaper.cls ≠ "java/lang/invoke/VarHandle" ∧ (parseMethodDescriptor yX4_clearPaper.desc).map (fun d => d.parameters.length) = some 0 := by decide +kernel
theorem hdd_newMarks : yX4_newMarks.cls = RX4 ∧ yX4_newMarks.cls ≠ "java/lang/invoke/MethodHandle" ∧ yX4_newMarks.cls ≠ "java/lang/invoke/VarHandle" ∧ (parseMethodDescriptor yX4_newMarks.desc).map (fun d => d.parameters.length) = some 0 := by decide +kernel
theorem hdd_holdFaults : yX4_holdFaults.cls = RX4 ∧ yX4_holdFaults.cls ≠ "java/lang/invoke/MethodHandle" ∧ yX4_holdFaults.cls ≠ "java/lang/invoke/VarHandle" ∧ (parseMethodDescriptor yX4_holdFaults.desc).map (fun d => d.parameters.length) = some 3 := by decide +kernel
theorem hdd_lacks : yX4_lacks.cls = RX4 ∧ yX4_lacks.cls ≠ "java/lang/invoke/MethodHandle" ∧ yX4_lacks.cls ≠ "java/lang/invoke/VarHandle" ∧ (parseMethodDescriptor yX4_lacks.desc).map (fun d => d.parameters.length) = some 1 := by decide +kernel
theorem hdd_heightOf : yX4_heightOf.cls = RX4 ∧ yX4_heightOf.cls ≠ "java/lang/invoke/MethodHandle" ∧ yX4_heightOf.cls ≠ "java/lang/invoke/VarHandle" ∧ (parseMethodDescriptor yX4_heightOf.desc).map (fun d => d.parameters.length) = some 2 := by decide +kernel
theorem hdd_xAt : yX4_xAt.cls = RX4 ∧ yX4_xAt.cls ≠ "java/lang/invoke/MethodHandle" ∧ yX4_xAt.cls ≠ "java/lang/invoke/VarHandle" ∧ (parseMethodDescriptor yX4_xAt.desc).map (fun d => d.parameters.length) = some 2 := by decide +kernel
theorem hdd_yAt : yX4_yAt.cls = RX4 ∧ yX4_yAt.cls ≠ "java/lang/invoke/MethodHandle" ∧ yX4_yAt.cls ≠ "java/lang/invoke/VarHandle" ∧ (parseMethodDescriptor yX4_yAt.desc).map (fun d => d.parameters.length) = some 2 := by decide +kernel
theorem hdd_isDown : yX4_isDown.cls = RX4 ∧ yX4_isDown.cls ≠ "java/lang/invoke/MethodHandle" ∧ yX4_isDown.cls ≠ "java/lang/invoke/VarHandle" ∧ (parseMethodDescriptor yX4_isDown.desc).map (fun d => d.parameters.length) = some 2 := by decide +kernel
theorem hdd_mark : yX4_mark.cls = RX4 ∧ yX4_mark.cls ≠ "java/lang/invoke/MethodHandle" ∧ yX4_mark.cls ≠ "java/lang/invoke/VarHandle" ∧ (parseMethodDescriptor yX4_mark.desc).map (fun d => d.parameters.length) = some 4 := by decide +kernel
theorem hdd_isCutLetter : yX4_isCutLetter.cls = RX4 ∧ yX4_isCutLetter.cls ≠ "java/lang/invoke/MethodHandle" ∧ yX4_isCutLetter.cls ≠ "java/lang/invoke/VarHandle" ∧ (parseMethodDescriptor yX4_isCutLetter.desc).map (fun d => d.parameters.length) = some 1 := by decide +kernel
theorem hdd_areCut : yX4_areCut.cls = RX4 ∧ yX4_areCut.cls ≠ "java/lang/invoke/MethodHandle" ∧ yX4_areCut.cls ≠ "java/lang/invoke/VarHandle" ∧ (parseMethodDescriptor yX4_areCut.desc).map (fun d => d.parameters.length) = some 0 := by decide +kernel
set_option maxHeartbeats 4000000 in
theorem mm_in (l : Launch) (p0 p1 p2 : Int32) : Met l yX4_in (ws_ yX4_in cX4_in 3 (some .boolean)) { frames := 0, cells := 0, slots := 0, locals := 0 } (va_Pc [.int p0, .int p1, .int p2] (fun _ => True)) (vp_Si (fun r => r = if p1 ≤ p0 ∧ p0 ≤ p2 then 1 else 0)) 0 0 (fun _ => False) := by
  refine st_head (by decide) (Nat.le_of_ble_eq_true rfl) ?_
  intro p e s m below meth cd ls C0 hr hlk hl
  have hl : lv_has ls 3 [(0, .int p0), (1, .int p1), (2, .int p2)] := hl
  refine lv_iload_n C0.1 C0.2.1 dX4_in_0 rfl (lv_at hl 0 rfl) ?_
  refine lv_iload_n C0.1 C0.2.1 dX4_in_1 rfl (lv_at hl 1 rfl) ?_
  refine lv_icmp_lt (tgt := 14) C0.1 C0.2.1 dX4_in_2 (by decide) (fun c_2 => ?_) (fun c_2 => ?_)
  · refine lv_iconst (v := 0) C0.1 C0.2.1 dX4_in_14 (by decide) ?_
    exact m_zret C0 hr hlk rfl (b0_of (fun z => Int32.not_le.mpr c_2 z.1)) dX4_in_15
  · refine lv_iload_n C0.1 C0.2.1 dX4_in_5 rfl (lv_at hl 0 rfl) ?_
    refine lv_iload_n C0.1 C0.2.1 dX4_in_6 rfl (lv_at hl 2 rfl) ?_
    refine lv_icmp_gt (tgt := 14) C0.1 C0.2.1 dX4_in_7 (by decide) (fun c_7 => ?_) (fun c_7 => ?_)
    · refine lv_iconst (v := 0) C0.1 C0.2.1 dX4_in_14 (by decide) ?_
      exact m_zret C0 hr hlk rfl (b0_of (fun z => Int32.not_le.mpr c_7 z.2)) dX4_in_15
    · refine lv_iconst (v := 1) C0.1 C0.2.1 dX4_in_10 (by decide) ?_
      refine lv_goto (tgt := 15) C0.1 C0.2.1 dX4_in_11 (by decide) ?_
      exact m_zret C0 hr hlk rfl (b1_of ⟨Int32.not_lt.mp c_2, Int32.not_lt.mp c_7⟩) dX4_in_15
set_option maxHeartbeats 4000000 in
theorem mm_isCam (l : Launch) (p0 : Int32) : Met l yX4_isCam (ws_ yX4_isCam cX4_isCam 1 (some .boolean)) { frames := 1, cells := 0, slots := 0, locals := 22 } (va_Pc [.int p0] (fun _ => True)) (vp_Si (fun r => r = if (inR p0 12).isSome = true then 1 else 0)) 0 0 (fun _ => False) := by
  refine st_head (by decide) (Nat.le_of_ble_eq_true rfl) ?_
  intro p e s m below meth cd ls C0 hr hlk hl
  have hl : lv_has ls 1 [(0, .int p0)] := hl
  refine lv_iload_n C0.1 C0.2.1 dX4_isCam_0 rfl (lv_at hl 0 rfl) ?_
  refine lv_iconst (v := 0) C0.1 C0.2.1 dX4_isCam_1 (by decide) ?_
  refine lv_bipush (v := 11) C0.1 C0.2.1 dX4_isCam_2 (by decide) ?_
  refine st_call C0 (mm_in l p0 0 11) 3 (lw_S q744 q745 q43 q746) rfl rfl hdd_in ⟨(Nat.le_of_ble_eq_true rfl), (Nat.le_of_ble_eq_true rfl)⟩ rfl hl.1 rfl (Nat.le_of_ble_eq_true rfl) dX4_isCam_4 ⟨(Nat.le_of_ble_eq_true rfl), (Nat.le_of_ble_eq_true rfl)⟩ (fun r hr => ?_)
  subst hr
  refine tp_eq (y := (if (inR p0 12).isSome = true then 1 else 0)) (b01_c (inR_le (n := 12) (by decide))) ?_
  exact m_zret C0 hr hlk nar_b rfl dX4_isCam_7
set_option maxHeartbeats 4000000 in
theorem mm_isCell (l : Launch) (p0 p1 : Int32) : Met l yX4_isCell (ws_ yX4_isCell cX4_isCell 2 (some .boolean)) { frames := 1, cells := 0, slots := 0, locals := 22 } (va_Pc [.int p0, .int p1] (fun _ => True)) (vp_Si (fun r => r = if (cellN p0 p1).isSome = true then 1 else 0)) 0 0 (fun _ => False) := by
  refine st_head (by decide) (Nat.le_of_ble_eq_true rfl) ?_
  intro p e s m below meth cd ls C0 hr hlk hl
  have hl : lv_has ls 2 [(0, .int p0), (1, .int p1)] := hl
  refine lv_iload_n C0.1 C0.2.1 dX4_isCell_0 rfl (lv_at hl 0 rfl) ?_
  refine lv_iconst (v := 0) C0.1 C0.2.1 dX4_isCell_1 (by decide) ?_
  refine lv_bipush (v := 119) C0.1 C0.2.1 dX4_isCell_2 (by decide) ?_
  refine st_call C0 (mm_in l p0 0 119) 3 (lw_S q744 q745 q43 q746) rfl rfl hdd_in ⟨(Nat.le_of_ble_eq_true rfl), (Nat.le_of_ble_eq_true rfl)⟩ rfl hl.1 rfl (Nat.le_of_ble_eq_true rfl) dX4_isCell_4 ⟨(Nat.le_of_ble_eq_true rfl), (Nat.le_of_ble_eq_true rfl)⟩ (fun r hr => ?_)
  subst hr
  refine tp_eq (y := (if (inR p0 120).isSome = true then 1 else 0)) (b01_c (inR_le (n := 120) (by decide))) ?_
  refine lv_if_eq (tgt := 24) C0.1 C0.2.1 dX4_isCell_7 (by decide) (fun c_7 => ?_) (fun c_7 => ?_)
  · have c_7 : ¬ ((inR p0 120).isSome = true) := b01_0.mp c_7
    refine lv_iconst (v := 0) C0.1 C0.2.1 dX4_isCell_24 (by decide) ?_
    exact m_zret C0 hr hlk rfl (b0_of (fun z => c_7 (cellN_of z).1)) dX4_isCell_25
  · have c_7 : (inR p0 120).isSome = true := b01_1.mp c_7
    refine lv_iload_n C0.1 C0.2.1 dX4_isCell_10 rfl (lv_at hl 1 rfl) ?_
    refine lv_iconst (v := 0) C0.1 C0.2.1 dX4_isCell_11 (by decide) ?_
    refine lv_bipush (v := 9) C0.1 C0.2.1 dX4_isCell_12 (by decide) ?_
    refine st_call C0 (mm_in l p1 0 9) 3 (lw_S q744 q745 q43 q746) rfl rfl hdd_in ⟨(Nat.le_of_ble_eq_true rfl), (Nat.le_of_ble_eq_true rfl)⟩ rfl hl.1 rfl (Nat.le_of_ble_eq_true rfl) dX4_isCell_14 ⟨(Nat.le_of_ble_eq_true rfl), (Nat.le_of_ble_eq_true rfl)⟩ (fun r hr => ?_)
    subst hr
    refine tp_eq (y := (if (inR p1 10).isSome = true then 1 else 0)) (b01_c (inR_le (n := 10) (by decide))) ?_
    refine lv_if_eq (tgt := 24) C0.1 C0.2.1 dX4_isCell_17 (by decide) (fun c_17 => ?_) (fun c_17 => ?_)
    · have c_17 : ¬ ((inR p1 10).isSome = true) := b01_0.mp c_17
      refine lv_iconst (v := 0) C0.1 C0.2.1 dX4_isCell_24 (by decide) ?_
      exact m_zret C0 hr hlk rfl (b0_of (fun z => c_17 (cellN_of z).2)) dX4_isCell_25
    · have c_17 : (inR p1 10).isSome = true := b01_1.mp c_17
      refine lv_iconst (v := 1) C0.1 C0.2.1 dX4_isCell_20 (by decide) ?_
      refine lv_goto (tgt := 25) C0.1 C0.2.1 dX4_isCell_21 (by decide) ?_
      exact m_zret C0 hr hlk rfl (b1_of (cellN_is c_7 c_17)) dX4_isCell_25
set_option maxHeartbeats 4000000 in
theorem mm_lower (l : Launch) (p0 p1 : Int32) (hb : ¬ p1 = 0) : Met l yX4_lower (ws_ yX4_lower cX4_lower 3 (some .int)) { frames := 0, cells := 0, slots := 0, locals := 0 } (va_Pc [.int p0, .int p1] (fun _ => True)) (vp_Si (fun r => r = lowF p0 p1)) 0 0 (fun _ => False) := by
  refine st_head (by decide) (Nat.le_of_ble_eq_true rfl) ?_
  intro p e s m below meth cd ls C0 hr hlk hl
  have hl : lv_has ls 3 [(0, .int p0), (1, .int p1)] := hl
  refine lv_iload_n C0.1 C0.2.1 dX4_lower_0 rfl (lv_at hl 0 rfl) ?_
  refine lv_iload_n C0.1 C0.2.1 dX4_lower_1 rfl (lv_at hl 1 rfl) ?_
  refine lv_idiv C0.1 C0.2.1 dX4_lower_2 hb ?_
  refine lv_istore_n (lv' := [(2, .int (p0 / p1)), (0, .int p0), (1, .int p1)]) C0.1 C0.2.1 dX4_lower_3 rfl hl (by decide) rfl (fun ls hl => ?_)
  refine lv_iload_n C0.1 C0.2.1 dX4_lower_4 rfl (lv_at hl 1 rfl) ?_
  refine lv_iload_n C0.1 C0.2.1 dX4_lower_5 rfl (lv_at hl 2 rfl) ?_
  refine lv_irem C0.1 C0.2.1 dX4_lower_6 hb ?_
  refine lv_if_ge (tgt := 16) C0.1 C0.2.1 dX4_lower_7 (by decide) (fun c_7 => ?_) (fun c_7 => ?_)
  · refine lv_iload_n C0.1 C0.2.1 dX4_lower_16 rfl (lv_at hl 0 rfl) ?_
    exact m_iret C0 hr hlk ((if_neg (Int32.not_lt.mpr c_7)).symm) dX4_lower_17
  · refine lv_iload_n C0.1 C0.2.1 dX4_lower_10 rfl (lv_at hl 0 rfl) ?_
    refine lv_iconst (v := 1) C0.1 C0.2.1 dX4_lower_11 (by decide) ?_
    refine lv_isub C0.1 C0.2.1 dX4_lower_12 ?_
    refine lv_goto (tgt := 17) C0.1 C0.2.1 dX4_lower_13 (by decide) ?_
    exact m_iret C0 hr hlk ((if_pos (Int32.not_le.mp c_7)).symm) dX4_lower_17
set_option maxHeartbeats 4000000 in
theorem mm_refuse (l : Launch) (D : va_G) (dA : Nat → ClassId) (am : Nat → Nat) (S : St) (k : Nat) (hk : k < 8) : mCi l yX4_refuse cX4_refuse 2 (some .int) { frames := 0, cells := 0, slots := 0, locals := 0 } D dA am S [.int (-(nI k))] (fun r S' => r = -(nI k) ∧ S' = refS S k) := by
  refine m_head (by decide) rfl (Nat.le_of_ble_eq_true rfl) ?_
  intro p e s m below meth cd ls C0 hr hlk hK hM hS hl
  have hl : lv_has ls 2 [(0, .ref (am 0)), (1, .int (-(nI k)))] := hl
  refine lv_aload_n C0.1 C0.2.1 dX4_refuse_0 rfl (lv_at hl 0 rfl) ?_
  refine m_geta C0 hK hM 22 (by decide) rfl q654 dX4_refuse_1 ?_
  refine lv_iload_n C0.1 C0.2.1 dX4_refuse_4 rfl (lv_at hl 1 rfl) ?_
  refine lv_ineg C0.1 C0.2.1 dX4_refuse_5 ?_
  refine tp_eq (y := nI k) (Int32.neg_neg) ?_
  refine lv_dup2_11 C0.1 C0.2.1 dX4_refuse_6 rfl rfl ?_
  refine m_iald C0 hK hM 22 k rfl rfl rfl (show k < 8 from (by omega)) (by decide) dX4_refuse_7 ?_
  refine lv_iconst (v := 1) C0.1 C0.2.1 dX4_refuse_8 (by decide) ?_
  refine lv_iadd C0.1 C0.2.1 dX4_refuse_9 ?_
  refine m_iast C0 hK hM hS 22 k rfl rfl rfl (show k < 8 from (by omega)) (by decide) dX4_refuse_10 (fun H locs hM hS => ?_)
  refine lv_iload_n C0.1 C0.2.1 dX4_refuse_11 rfl (lv_at hl 1 rfl) ?_
  exact m_iretS C0 hr hlk hM hS ⟨rfl, rfl⟩ dX4_refuse_12
set_option maxHeartbeats 4000000 in
theorem mm_clearPaper (l : Launch) (D : va_G) (dA : Nat → ClassId) (am : Nat → Nat) (S : St)  : mCv l yX4_clearPaper cX4_clearPaper 2 { frames := 0, cells := 0, slots := 0, locals := 0 } D dA am S [] (fun S' => S' = clrP S 1200) := by
  refine m_head (by decide) rfl (Nat.le_of_ble_eq_true rfl) ?_
  intro p e s m below meth cd ls C0 hr hlk hK hM hS hl
  have hl : lv_has ls 2 [(0, .ref (am 0))] := hl
  refine lv_iconst (v := 0) C0.1 C0.2.1 dX4_clearPaper_0 (by decide) ?_
  refine lv_istore_n (lv' := [(1, .int 0), (0, .ref (am 0))]) C0.1 C0.2.1 dX4_clearPaper_1 rfl hl (by decide) rfl (fun ls hl => ?_)
  refine W_loop 1200 (fun i H locs ls => MP D dA am (clrP S i) H ∧ va_S (MA am) s.heap H locs ∧ lv_has ls 2 [(0, .ref (am 0)), (1, .int (nI i))]) 2 ?_ ?_ 0 _ _ ls (Nat.zero_le _) ⟨hM, hS, lv_sub hl [1, 0] rfl⟩
  · intro H locs ls ⟨hM, hS, hl⟩
    refine lv_iload_n C0.1 C0.2.1 dX4_clearPaper_2 rfl (lv_at hl 1 rfl) ?_
    refine lv_sipush (v := 1200) C0.1 C0.2.1 dX4_clearPaper_3 (by decide) ?_
    refine lv_icmp_ge (tgt := 29) C0.1 C0.2.1 dX4_clearPaper_6 (by decide) (fun c_6 => ?_) (fun c_6 => ?_)
    · have n_6 : 1200 ≤ 1200 := (nI_leI (a := 1200) (b := 1200) (by omega) (by omega)).mp c_6
      exact m_vretS C0 hr hlk hM hS rfl dX4_clearPaper_29
    · have n_6 : ¬ 1200 ≤ 1200 := fun z => c_6 ((nI_leI (a := 1200) (b := 1200) (by omega) (by omega)).mpr z)
      omega
  · intro i H locs ls hi ⟨hM, hS, hl⟩ K2
    refine lv_iload_n C0.1 C0.2.1 dX4_clearPaper_2 rfl (lv_at hl 1 rfl) ?_
    refine lv_sipush (v := 1200) C0.1 C0.2.1 dX4_clearPaper_3 (by decide) ?_
    refine lv_icmp_ge (tgt := 29) C0.1 C0.2.1 dX4_clearPaper_6 (by decide) (fun c_6 => ?_) (fun c_6 => ?_)
    · have n_6 : 1200 ≤ i := (nI_leI (a := 1200) (b := i) (by omega) (by omega)).mp c_6
      omega
    · have n_6 : ¬ 1200 ≤ i := fun z => c_6 ((nI_leI (a := 1200) (b := i) (by omega) (by omega)).mpr z)
      refine lv_aload_n C0.1 C0.2.1 dX4_clearPaper_9 rfl (lv_at hl 0 rfl) ?_
      refine m_geta C0 hK hM 17 (by decide) rfl q649 dX4_clearPaper_10 ?_
      refine lv_iload_n C0.1 C0.2.1 dX4_clearPaper_13 rfl (lv_at hl 1 rfl) ?_
      refine lv_iconst (v := (-1)) C0.1 C0.2.1 dX4_clearPaper_14 (by decide) ?_
      refine m_iast C0 hK hM hS 17 i rfl rfl rfl (show i < 1200 from (by omega)) (by decide) dX4_clearPaper_15 (fun H locs hM hS => ?_)
      refine lv_aload_n C0.1 C0.2.1 dX4_clearPaper_16 rfl (lv_at hl 0 rfl) ?_
      refine m_geta C0 hK hM 18 (by decide) rfl q650 dX4_clearPaper_17 ?_
      refine lv_iload_n C0.1 C0.2.1 dX4_clearPaper_20 rfl (lv_at hl 1 rfl) ?_
      refine lv_iconst (v := (-1)) C0.1 C0.2.1 dX4_clearPaper_21 (by decide) ?_
      refine m_iast C0 hK hM hS 18 i rfl rfl rfl (show i < 1200 from (by omega)) (by decide) dX4_clearPaper_22 (fun H locs hM hS => ?_)
      refine lv_iinc (v := nI (i + 1)) (lv' := [(1, .int (nI (i + 1))), (0, .ref (am 0))]) C0.1 C0.2.1 dX4_clearPaper_23 hl (k := 1) rfl (nI_1 i) (by decide) rfl (fun ls hl => ?_)
      refine lv_goto (tgt := 2) C0.1 C0.2.1 dX4_clearPaper_26 (by decide) ?_
      exact K2 _ _ ls ⟨hM, hS, lv_sub hl [1, 0] rfl⟩
set_option maxHeartbeats 4000000 in
theorem mm_newMarks (l : Launch) (D : va_G) (dA : Nat → ClassId) (am : Nat → Nat) (S : St)  : mCv l yX4_newMarks cX4_newMarks 2 { frames := 0, cells := 0, slots := 0, locals := 0 } D dA am S [] (fun S' => S' = setMk S noMk) := by
  refine m_head (by decide) rfl (Nat.le_of_ble_eq_true rfl) ?_
  intro p e s m below meth cd ls C0 hr hlk hK hM hS hl
  have hl : lv_has ls 2 [(0, .ref (am 0))] := hl
  refine lv_iconst (v := 0) C0.1 C0.2.1 dX4_newMarks_0 (by decide) ?_
  refine lv_istore_n (lv' := [(1, .int 0), (0, .ref (am 0))]) C0.1 C0.2.1 dX4_newMarks_1 rfl hl (by decide) rfl (fun ls hl => ?_)
  refine W_loop 1200 (fun i H locs ls => MP D dA am (nmkF S i) H ∧ va_S (MA am) s.heap H locs ∧ lv_has ls 2 [(0, .ref (am 0)), (1, .int (nI i))]) 2 ?_ ?_ 0 _ _ ls (Nat.zero_le _) ⟨hM, hS, lv_sub hl [1, 0] rfl⟩
  · intro H locs ls ⟨hM, hS, hl⟩
    refine lv_iload_n C0.1 C0.2.1 dX4_newMarks_2 rfl (lv_at hl 1 rfl) ?_
    refine lv_sipush (v := 1200) C0.1 C0.2.1 dX4_newMarks_3 (by decide) ?_
    refine lv_icmp_ge (tgt := 29) C0.1 C0.2.1 dX4_newMarks_6 (by decide) (fun c_6 => ?_) (fun c_6 => ?_)
    · have n_6 : 1200 ≤ 1200 := (nI_leI (a := 1200) (b := 1200) (by omega) (by omega)).mp c_6
      have hM : MP D dA am (setMk S noMk) H := by
        exact hM.cong (nmkF_eq S).1 (nmkF_eq S).2
      exact m_vretS C0 hr hlk hM hS rfl dX4_newMarks_29
    · have n_6 : ¬ 1200 ≤ 1200 := fun z => c_6 ((nI_leI (a := 1200) (b := 1200) (by omega) (by omega)).mpr z)
      omega
  · intro i H locs ls hi ⟨hM, hS, hl⟩ K2
    refine lv_iload_n C0.1 C0.2.1 dX4_newMarks_2 rfl (lv_at hl 1 rfl) ?_
    refine lv_sipush (v := 1200) C0.1 C0.2.1 dX4_newMarks_3 (by decide) ?_
    refine lv_icmp_ge (tgt := 29) C0.1 C0.2.1 dX4_newMarks_6 (by decide) (fun c_6 => ?_) (fun c_6 => ?_)
    · have n_6 : 1200 ≤ i := (nI_leI (a := 1200) (b := i) (by omega) (by omega)).mp c_6
      omega
    · have n_6 : ¬ 1200 ≤ i := fun z => c_6 ((nI_leI (a := 1200) (b := i) (by omega) (by omega)).mpr z)
      refine lv_aload_n C0.1 C0.2.1 dX4_newMarks_9 rfl (lv_at hl 0 rfl) ?_
      refine m_geta C0 hK hM 29 (by decide) rfl q661 dX4_newMarks_10 ?_
      refine lv_iload_n C0.1 C0.2.1 dX4_newMarks_13 rfl (lv_at hl 1 rfl) ?_
      refine lv_iconst (v := (-1)) C0.1 C0.2.1 dX4_newMarks_14 (by decide) ?_
      refine m_iast C0 hK hM hS 29 i rfl rfl rfl (show i < 1200 from (by omega)) (by decide) dX4_newMarks_15 (fun H locs hM hS => ?_)
      refine lv_aload_n C0.1 C0.2.1 dX4_newMarks_16 rfl (lv_at hl 0 rfl) ?_
      refine m_geta C0 hK hM 30 (by decide) rfl q662 dX4_newMarks_17 ?_
      refine lv_iload_n C0.1 C0.2.1 dX4_newMarks_20 rfl (lv_at hl 1 rfl) ?_
      refine lv_iconst (v := (-1)) C0.1 C0.2.1 dX4_newMarks_21 (by decide) ?_
      refine m_iast C0 hK hM hS 30 i rfl rfl rfl (show i < 1200 from (by omega)) (by decide) dX4_newMarks_22 (fun H locs hM hS => ?_)
      refine lv_iinc (v := nI (i + 1)) (lv' := [(1, .int (nI (i + 1))), (0, .ref (am 0))]) C0.1 C0.2.1 dX4_newMarks_23 hl (k := 1) rfl (nI_1 i) (by decide) rfl (fun ls hl => ?_)
      refine lv_goto (tgt := 2) C0.1 C0.2.1 dX4_newMarks_26 (by decide) ?_
      exact K2 _ _ ls ⟨hM, hS, lv_sub hl [1, 0] rfl⟩
set_option maxHeartbeats 4000000 in
theorem mm_holdFaults (l : Launch) (D : va_G) (dA : Nat → ClassId) (am : Nat → Nat) (S : St) (p0 p1 p2 : Int32) : mCv l yX4_holdFaults cX4_holdFaults 4 { frames := 0, cells := 0, slots := 0, locals := 0 } D dA am S [.int p0, .int p1, .int p2] (fun S' => S' = hold S p0 p1 p2) := by
  refine m_head (by decide) rfl (Nat.le_of_ble_eq_true rfl) ?_
  intro p e s m below meth cd ls C0 hr hlk hK hM hS hl
  have hl : lv_has ls 4 [(0, .ref (am 0)), (1, .int p0), (2, .int p1), (3, .int p2)] := hl
  refine lv_aload_n C0.1 C0.2.1 dX4_holdFaults_0 rfl (lv_at hl 0 rfl) ?_
  refine lv_iload_n C0.1 C0.2.1 dX4_holdFaults_1 rfl (lv_at hl 1 rfl) ?_
  refine m_put C0 hK hM hS 26 (by decide) rfl q658 rfl rfl dX4_holdFaults_2 (fun H locs hM hS => ?_)
  refine lv_aload_n C0.1 C0.2.1 dX4_holdFaults_5 rfl (lv_at hl 0 rfl) ?_
  refine lv_iload_n C0.1 C0.2.1 dX4_holdFaults_6 rfl (lv_at hl 2 rfl) ?_
  refine m_put C0 hK hM hS 27 (by decide) rfl q659 rfl rfl dX4_holdFaults_7 (fun H locs hM hS => ?_)
  refine lv_aload_n C0.1 C0.2.1 dX4_holdFaults_10 rfl (lv_at hl 0 rfl) ?_
  refine lv_iload_n C0.1 C0.2.1 dX4_holdFaults_11 rfl (lv_at hl 3 rfl) ?_
  refine m_put C0 hK hM hS 28 (by decide) rfl q660 rfl rfl dX4_holdFaults_12 (fun H locs hM hS => ?_)
  exact m_vretS C0 hr hlk hM hS rfl dX4_holdFaults_15
set_option maxHeartbeats 4000000 in
theorem mm_lacks (l : Launch) (D : va_G) (dA : Nat → ClassId) (am : Nat → Nat) (S : St) (p0 : Int32) : mCp l yX4_lacks cX4_lacks 2 (some .int) { frames := 2, cells := 0, slots := 0, locals := 42 } D dA am S [.int p0] (fun r => r = -(nI (lackN S p0))) := by
  refine m_head (by decide) rfl (Nat.le_of_ble_eq_true rfl) ?_
  intro p e s m below meth cd ls C0 hr hlk hK hM hS hl
  have hl : lv_has ls 2 [(0, .ref (am 0)), (1, .int p0)] := hl
  refine lv_iload_n C0.1 C0.2.1 dX4_lacks_0 rfl (lv_at hl 1 rfl) ?_
  refine st_call C0 (mm_isCam l p0) 1 (lw_S q741 q742 q43 q743) rfl rfl hdd_isCam ⟨(Nat.le_of_ble_eq_true rfl), (Nat.le_of_ble_eq_true rfl)⟩ rfl hl.1 rfl (Nat.le_of_ble_eq_true rfl) dX4_lacks_1 ⟨(Nat.le_of_ble_eq_true rfl), (Nat.le_of_ble_eq_true rfl)⟩ (fun r hr => ?_)
  subst hr
  refine lv_if_ne (tgt := 11) C0.1 C0.2.1 dX4_lacks_4 (by decide) (fun c_4 => ?_) (fun c_4 => ?_)
  · have c_4 : (inR p0 12).isSome = true := b01_1.mp c_4
    obtain ⟨j, hj, hj12, rfl⟩ := inR_get c_4 (by decide)
    refine lv_aload_n C0.1 C0.2.1 dX4_lacks_11 rfl (lv_at hl 0 rfl) ?_
    refine m_geta C0 hK hM 1 (by decide) rfl q633 dX4_lacks_12 ?_
    refine lv_iload_n C0.1 C0.2.1 dX4_lacks_15 rfl (lv_at hl 1 rfl) ?_
    refine m_zald C0 hK hM 1 j rfl rfl rfl (show j < 12 from (by omega)) (by decide) dX4_lacks_16 ?_
    refine lv_if_eq (tgt := 24) C0.1 C0.2.1 dX4_lacks_17 (by decide) (fun c_17 => ?_) (fun c_17 => ?_)
    · refine lv_bipush (v := (-5)) C0.1 C0.2.1 dX4_lacks_24 (by decide) ?_
      exact m_iret C0 hr hlk (by rw [lackN_0 hj c_17]; rfl) dX4_lacks_26
    · refine lv_iconst (v := 0) C0.1 C0.2.1 dX4_lacks_20 (by decide) ?_
      refine lv_goto (tgt := 26) C0.1 C0.2.1 dX4_lacks_21 (by decide) ?_
      exact m_iret C0 hr hlk (by rw [lackN_1 hj c_17]; rfl) dX4_lacks_26
  · have c_4 : ¬ ((inR p0 12).isSome = true) := b01_0.mp c_4
    refine lv_iconst (v := (-1)) C0.1 C0.2.1 dX4_lacks_7 (by decide) ?_
    refine lv_goto (tgt := 26) C0.1 C0.2.1 dX4_lacks_8 (by decide) ?_
    exact m_iret C0 hr hlk (by rw [lackN_none (inR_none c_4)]; rfl) dX4_lacks_26
set_option maxHeartbeats 4000000 in
theorem mm_heightOf (l : Launch) (D : va_G) (dA : Nat → ClassId) (am : Nat → Nat) (S : St) (c t : Nat) (hO : OkW S) (hc : c < 12) (ht : t < 16) : mCp l yX4_heightOf cX4_heightOf 4 (some .int) { frames := 0, cells := 0, slots := 0, locals := 0 } D dA am S [.int (nI c), .int (nI t)] (fun r => r = nI (hgt S (S 0 26) c t)) := by
  refine m_head (by decide) rfl (Nat.le_of_ble_eq_true rfl) ?_
  intro p e s m below meth cd ls C0 hr hlk hK hM hS hl
  have hl : lv_has ls 4 [(0, .ref (am 0)), (1, .int (nI c)), (2, .int (nI t))] := hl
  have hv : nv (S 2 (16 * c + t)) ≤ 9 := (hO.cam (by omega)).le (by decide)
  refine lv_aload_n C0.1 C0.2.1 dX4_heightOf_0 rfl (lv_at hl 0 rfl) ?_
  refine m_geta C0 hK hM 2 (by decide) rfl q634 dX4_heightOf_1 ?_
  refine lv_bipush (v := 16) C0.1 C0.2.1 dX4_heightOf_4 (by decide) ?_
  refine lv_iload_n C0.1 C0.2.1 dX4_heightOf_6 rfl (lv_at hl 1 rfl) ?_
  refine lv_imul C0.1 C0.2.1 dX4_heightOf_7 ?_
  refine tp_eq (y := nI (16 * c)) (pk_mul 16 c) ?_
  refine lv_iload_n C0.1 C0.2.1 dX4_heightOf_8 rfl (lv_at hl 2 rfl) ?_
  refine lv_iadd C0.1 C0.2.1 dX4_heightOf_9 ?_
  refine tp_eq (y := nI (16 * c + t)) (nI_add (16 * c) t) ?_
  refine m_iald C0 hK hM 2 (16 * c + t) rfl rfl rfl (show 16 * c + t < 192 from (by omega)) (by decide) dX4_heightOf_10 ?_
  refine tp_eq (y := nI (nv (S 2 (16 * c + t)))) ((hO.cam (by omega)).eq (by decide)) ?_
  refine lv_istore_n (lv' := [(3, .int (nI (nv (S 2 (16 * c + t))))), (0, .ref (am 0)), (1, .int (nI c)), (2, .int (nI t))]) C0.1 C0.2.1 dX4_heightOf_11 rfl hl (by decide) rfl (fun ls hl => ?_)
  refine lv_iload_n C0.1 C0.2.1 dX4_heightOf_12 rfl (lv_at hl 2 rfl) ?_
  refine lv_aload_n C0.1 C0.2.1 dX4_heightOf_13 rfl (lv_at hl 1 rfl) ?_
  refine m_geti C0 hK hM 26 (by decide) rfl q658 dX4_heightOf_14 ?_
  refine lv_icmp_ne (tgt := 30) C0.1 C0.2.1 dX4_heightOf_17 (by decide) (fun c_17 => ?_) (fun c_17 => ?_)
  · refine lv_iload_n C0.1 C0.2.1 dX4_heightOf_30 rfl (lv_at hl 0 rfl) ?_
    exact m_iret C0 hr hlk (by rw [hgt, if_neg (fun z => c_17 z.1)]) dX4_heightOf_31
  · refine lv_iload_n C0.1 C0.2.1 dX4_heightOf_20 rfl (lv_at hl 0 rfl) ?_
    refine lv_if_le (tgt := 30) C0.1 C0.2.1 dX4_heightOf_21 (by decide) (fun c_21 => ?_) (fun c_21 => ?_)
    · have n_21 : nv (S 2 (16 * c + t)) ≤ 0 := (nI_leI (a := nv (S 2 (16 * c + t))) (b := 0) (by omega) (by omega)).mp c_21
      refine lv_iload_n C0.1 C0.2.1 dX4_heightOf_30 rfl (lv_at hl 0 rfl) ?_
      exact m_iret C0 hr hlk (by rw [hgt, if_neg (fun z => by omega)]) dX4_heightOf_31
    · have n_21 : ¬ nv (S 2 (16 * c + t)) ≤ 0 := fun z => c_21 ((nI_leI (a := nv (S 2 (16 * c + t))) (b := 0) (by omega) (by omega)).mpr z)
      refine lv_iload_n C0.1 C0.2.1 dX4_heightOf_24 rfl (lv_at hl 0 rfl) ?_
      refine lv_iconst (v := 1) C0.1 C0.2.1 dX4_heightOf_25 (by decide) ?_
      refine lv_isub C0.1 C0.2.1 dX4_heightOf_26 ?_
      refine tp_eq (y := nI (nv (S 2 (16 * c + t)) - 1)) (pk_sub (a := nv (S 2 (16 * c + t))) (b := 1) (by omega)) ?_
      refine lv_goto (tgt := 31) C0.1 C0.2.1 dX4_heightOf_27 (by decide) ?_
      exact m_iret C0 hr hlk (by rw [hgt, if_pos ⟨c_17, by omega⟩]) dX4_heightOf_31
set_option maxHeartbeats 4000000 in
theorem mm_xAt (l : Launch) (D : va_G) (dA : Nat → ClassId) (am : Nat → Nat) (S : St) (k t : Nat) (hO : OkW S) (hk : k < 12) (ht : t < 16) : mCp l yX4_xAt cX4_xAt 3 (some .int) { frames := 1, cells := 0, slots := 0, locals := 23 } D dA am S [.int (nI k), .int (nI t)] (fun r => r = nI (xA S (S 0 26) (S 0 28) k t)) := by
  refine m_head (by decide) rfl (Nat.le_of_ble_eq_true rfl) ?_
  intro p e s m below meth cd ls C0 hr hlk hK hM hS hl
  have hl : lv_has ls 3 [(0, .ref (am 0)), (1, .int (nI k)), (2, .int (nI t))] := hl
  have h7 : nv (S 7 k) ≤ 9 := (hO.peg hk).le (by decide)
  have h8 : nv (S 3 (nv (S 7 k))) ≤ 11 := (hO.ac (by omega)).le (by decide)
  refine lv_iload_n C0.1 C0.2.1 dX4_xAt_0 rfl (lv_at hl 1 rfl) ?_
  refine lv_aload_n C0.1 C0.2.1 dX4_xAt_1 rfl (lv_at hl 0 rfl) ?_
  refine m_geti C0 hK hM 8 (by decide) rfl q640 dX4_xAt_2 ?_
  refine tp_eq (y := nI (nv (S 0 8))) (hO.adv.eq (by decide)) ?_
  refine lv_imul C0.1 C0.2.1 dX4_xAt_5 ?_
  refine tp_eq (y := nI (k * (nv (S 0 8)))) (pk_mul k (nv (S 0 8))) ?_
  refine lv_aload_n C0.1 C0.2.1 dX4_xAt_6 rfl (lv_at hl 0 rfl) ?_
  refine lv_aload_n C0.1 C0.2.1 dX4_xAt_7 rfl (lv_at hl 0 rfl) ?_
  refine m_geta C0 hK hM 3 (by decide) rfl q635 dX4_xAt_8 ?_
  refine lv_aload_n C0.1 C0.2.1 dX4_xAt_11 rfl (lv_at hl 0 rfl) ?_
  refine m_geta C0 hK hM 7 (by decide) rfl q639 dX4_xAt_12 ?_
  refine lv_iload_n C0.1 C0.2.1 dX4_xAt_15 rfl (lv_at hl 1 rfl) ?_
  refine m_iald C0 hK hM 7 k rfl rfl rfl (show k < 12 from (by omega)) (by decide) dX4_xAt_16 ?_
  refine tp_eq (y := nI (nv (S 7 k))) ((hO.peg hk).eq (by decide)) ?_
  refine m_iald C0 hK hM 3 (nv (S 7 k)) rfl rfl rfl (show nv (S 7 k) < 10 from (by omega)) (by decide) dX4_xAt_17 ?_
  refine tp_eq (y := nI (nv (S 3 (nv (S 7 k))))) ((hO.ac (by omega)).eq (by decide)) ?_
  refine lv_iload_n C0.1 C0.2.1 dX4_xAt_18 rfl (lv_at hl 2 rfl) ?_
  refine m_cp C0 hK hM (mm_heightOf l D dA am S (nv (S 3 (nv (S 7 k)))) t hO (by omega) (by omega)) 2 (lw_V q847 q849 qs29 q43 q850) rfl rfl hdd_heightOf ⟨(Nat.le_of_ble_eq_true rfl), (Nat.le_of_ble_eq_true rfl)⟩ rfl hl.1 rfl (Nat.le_of_ble_eq_true rfl) dX4_xAt_19 ⟨(Nat.le_of_ble_eq_true rfl), (Nat.le_of_ble_eq_true rfl)⟩ (fun r hr => ?_)
  subst hr
  refine lv_iadd C0.1 C0.2.1 dX4_xAt_22 ?_
  refine tp_eq (y := nI (k * (nv (S 0 8)) + hgt S (S 0 26) (nv (S 3 (nv (S 7 k)))) t)) (nI_add (k * (nv (S 0 8))) (hgt S (S 0 26) (nv (S 3 (nv (S 7 k)))) t)) ?_
  refine lv_aload_n C0.1 C0.2.1 dX4_xAt_23 rfl (lv_at hl 0 rfl) ?_
  refine m_geti C0 hK hM 28 (by decide) rfl q660 dX4_xAt_24 ?_
  refine lv_if_ne (tgt := 34) C0.1 C0.2.1 dX4_xAt_27 (by decide) (fun c_27 => ?_) (fun c_27 => ?_)
  · refine lv_iconst (v := 0) C0.1 C0.2.1 dX4_xAt_34 (by decide) ?_
    refine lv_iadd C0.1 C0.2.1 dX4_xAt_35 ?_
    refine tp_eq (y := nI (k * (nv (S 0 8)) + hgt S (S 0 26) (nv (S 3 (nv (S 7 k)))) t + 0)) (nI_add (k * (nv (S 0 8)) + hgt S (S 0 26) (nv (S 3 (nv (S 7 k)))) t) 0) ?_
    exact m_iret C0 hr hlk (by rw [xA, if_neg c_27]) dX4_xAt_36
  · refine lv_iconst (v := 1) C0.1 C0.2.1 dX4_xAt_30 (by decide) ?_
    refine lv_goto (tgt := 35) C0.1 C0.2.1 dX4_xAt_31 (by decide) ?_
    refine lv_iadd C0.1 C0.2.1 dX4_xAt_35 ?_
    refine tp_eq (y := nI (k * (nv (S 0 8)) + hgt S (S 0 26) (nv (S 3 (nv (S 7 k)))) t + 1)) (nI_1 (k * (nv (S 0 8)) + hgt S (S 0 26) (nv (S 3 (nv (S 7 k)))) t)) ?_
    exact m_iret C0 hr hlk (by rw [xA, if_pos c_27]) dX4_xAt_36
set_option maxHeartbeats 4000000 in
theorem mm_yAt (l : Launch) (D : va_G) (dA : Nat → ClassId) (am : Nat → Nat) (S : St) (k t : Nat) (hO : OkW S) (hk : k < 12) (ht : t < 16) : mCp l yX4_yAt cX4_yAt 4 (some .int) { frames := 1, cells := 0, slots := 0, locals := 23 } D dA am S [.int (nI k), .int (nI t)] (fun r => r = nI (yA S (S 0 26) (S 0 28) k t)) := by
  refine m_head (by decide) rfl (Nat.le_of_ble_eq_true rfl) ?_
  intro p e s m below meth cd ls C0 hr hlk hK hM hS hl
  have hl : lv_has ls 4 [(0, .ref (am 0)), (1, .int (nI k)), (2, .int (nI t))] := hl
  have h7 : nv (S 7 k) ≤ 9 := (hO.peg hk).le (by decide)
  have h8 : nv (S 4 (nv (S 7 k))) ≤ 11 := (hO.upp (by omega)).le (by decide)
  have h9 := hgt_le hO (S 0 26) (show nv (S 4 (nv (S 7 k))) < 12 by omega) ht
  refine lv_aload_n C0.1 C0.2.1 dX4_yAt_0 rfl (lv_at hl 0 rfl) ?_
  refine lv_aload_n C0.1 C0.2.1 dX4_yAt_1 rfl (lv_at hl 0 rfl) ?_
  refine m_geta C0 hK hM 4 (by decide) rfl q636 dX4_yAt_2 ?_
  refine lv_aload_n C0.1 C0.2.1 dX4_yAt_5 rfl (lv_at hl 0 rfl) ?_
  refine m_geta C0 hK hM 7 (by decide) rfl q639 dX4_yAt_6 ?_
  refine lv_iload_n C0.1 C0.2.1 dX4_yAt_9 rfl (lv_at hl 1 rfl) ?_
  refine m_iald C0 hK hM 7 k rfl rfl rfl (show k < 12 from (by omega)) (by decide) dX4_yAt_10 ?_
  refine tp_eq (y := nI (nv (S 7 k))) ((hO.peg hk).eq (by decide)) ?_
  refine m_iald C0 hK hM 4 (nv (S 7 k)) rfl rfl rfl (show nv (S 7 k) < 10 from (by omega)) (by decide) dX4_yAt_11 ?_
  refine tp_eq (y := nI (nv (S 4 (nv (S 7 k))))) ((hO.upp (by omega)).eq (by decide)) ?_
  refine lv_iload_n C0.1 C0.2.1 dX4_yAt_12 rfl (lv_at hl 2 rfl) ?_
  refine m_cp C0 hK hM (mm_heightOf l D dA am S (nv (S 4 (nv (S 7 k)))) t hO (by omega) (by omega)) 2 (lw_V q847 q849 qs29 q43 q850) rfl rfl hdd_heightOf ⟨(Nat.le_of_ble_eq_true rfl), (Nat.le_of_ble_eq_true rfl)⟩ rfl hl.1 rfl (Nat.le_of_ble_eq_true rfl) dX4_yAt_13 ⟨(Nat.le_of_ble_eq_true rfl), (Nat.le_of_ble_eq_true rfl)⟩ (fun r hr => ?_)
  subst hr
  refine lv_aload_n C0.1 C0.2.1 dX4_yAt_16 rfl (lv_at hl 0 rfl) ?_
  refine m_geti C0 hK hM 28 (by decide) rfl q660 dX4_yAt_17 ?_
  refine lv_iconst (v := 1) C0.1 C0.2.1 dX4_yAt_20 (by decide) ?_
  refine lv_icmp_ne (tgt := 28) C0.1 C0.2.1 dX4_yAt_21 (by decide) (fun c_21 => ?_) (fun c_21 => ?_)
  · refine lv_iconst (v := 0) C0.1 C0.2.1 dX4_yAt_28 (by decide) ?_
    refine lv_iadd C0.1 C0.2.1 dX4_yAt_29 ?_
    refine tp_eq (y := nI (hgt S (S 0 26) (nv (S 4 (nv (S 7 k)))) t + 0)) (nI_add (hgt S (S 0 26) (nv (S 4 (nv (S 7 k)))) t) 0) ?_
    refine lv_istore_n (lv' := [(3, .int (nI (hgt S (S 0 26) (nv (S 4 (nv (S 7 k)))) t + 0))), (0, .ref (am 0)), (1, .int (nI k)), (2, .int (nI t))]) C0.1 C0.2.1 dX4_yAt_30 rfl hl (by decide) rfl (fun ls hl => ?_)
    refine lv_iload_n C0.1 C0.2.1 dX4_yAt_31 rfl (lv_at hl 0 rfl) ?_
    refine lv_bipush (v := 9) C0.1 C0.2.1 dX4_yAt_32 (by decide) ?_
    refine lv_icmp_le (tgt := 42) C0.1 C0.2.1 dX4_yAt_34 (by decide) (fun c_34 => ?_) (fun c_34 => ?_)
    · have n_34 : hgt S (S 0 26) (nv (S 4 (nv (S 7 k)))) t + 0 ≤ 9 := (nI_leI (a := hgt S (S 0 26) (nv (S 4 (nv (S 7 k)))) t + 0) (b := 9) (by omega) (by omega)).mp c_34
      refine lv_iload_n C0.1 C0.2.1 dX4_yAt_42 rfl (lv_at hl 0 rfl) ?_
      exact m_iret C0 hr hlk (by rw [yA, if_neg c_21, Nat.min_eq_right (by omega)]) dX4_yAt_43
    · have n_34 : ¬ hgt S (S 0 26) (nv (S 4 (nv (S 7 k)))) t + 0 ≤ 9 := fun z => c_34 ((nI_leI (a := hgt S (S 0 26) (nv (S 4 (nv (S 7 k)))) t + 0) (b := 9) (by omega) (by omega)).mpr z)
      refine lv_bipush (v := 9) C0.1 C0.2.1 dX4_yAt_37 (by decide) ?_
      refine lv_goto (tgt := 43) C0.1 C0.2.1 dX4_yAt_39 (by decide) ?_
      exact m_iret C0 hr hlk (by rw [yA, if_neg c_21, Nat.min_eq_left (by omega)]; rfl) dX4_yAt_43
  · refine lv_iconst (v := 1) C0.1 C0.2.1 dX4_yAt_24 (by decide) ?_
    refine lv_goto (tgt := 29) C0.1 C0.2.1 dX4_yAt_25 (by decide) ?_
    refine lv_iadd C0.1 C0.2.1 dX4_yAt_29 ?_
    refine tp_eq (y := nI (hgt S (S 0 26) (nv (S 4 (nv (S 7 k)))) t + 1)) (nI_1 (hgt S (S 0 26) (nv (S 4 (nv (S 7 k)))) t)) ?_
    refine lv_istore_n (lv' := [(3, .int (nI (hgt S (S 0 26) (nv (S 4 (nv (S 7 k)))) t + 1))), (0, .ref (am 0)), (1, .int (nI k)), (2, .int (nI t))]) C0.1 C0.2.1 dX4_yAt_30 rfl hl (by decide) rfl (fun ls hl => ?_)
    refine lv_iload_n C0.1 C0.2.1 dX4_yAt_31 rfl (lv_at hl 0 rfl) ?_
    refine lv_bipush (v := 9) C0.1 C0.2.1 dX4_yAt_32 (by decide) ?_
    refine lv_icmp_le (tgt := 42) C0.1 C0.2.1 dX4_yAt_34 (by decide) (fun c_34 => ?_) (fun c_34 => ?_)
    · have n_34 : hgt S (S 0 26) (nv (S 4 (nv (S 7 k)))) t + 1 ≤ 9 := (nI_leI (a := hgt S (S 0 26) (nv (S 4 (nv (S 7 k)))) t + 1) (b := 9) (by omega) (by omega)).mp c_34
      refine lv_iload_n C0.1 C0.2.1 dX4_yAt_42 rfl (lv_at hl 0 rfl) ?_
      exact m_iret C0 hr hlk (by rw [yA, if_pos c_21, Nat.min_eq_right (by omega)]) dX4_yAt_43
    · have n_34 : ¬ hgt S (S 0 26) (nv (S 4 (nv (S 7 k)))) t + 1 ≤ 9 := fun z => c_34 ((nI_leI (a := hgt S (S 0 26) (nv (S 4 (nv (S 7 k)))) t + 1) (b := 9) (by omega) (by omega)).mpr z)
      refine lv_bipush (v := 9) C0.1 C0.2.1 dX4_yAt_37 (by decide) ?_
      refine lv_goto (tgt := 43) C0.1 C0.2.1 dX4_yAt_39 (by decide) ?_
      exact m_iret C0 hr hlk (by rw [yA, if_pos c_21, Nat.min_eq_left (by omega)]; rfl) dX4_yAt_43
set_option maxHeartbeats 4000000 in
theorem mm_isDown (l : Launch) (D : va_G) (dA : Nat → ClassId) (am : Nat → Nat) (S : St) (k t : Nat) (hO : OkW S) (hk : k < 12) (ht : t < 16) : mCp l yX4_isDown cX4_isDown 3 (some .boolean) { frames := 1, cells := 0, slots := 0, locals := 23 } D dA am S [.int (nI k), .int (nI t)] (fun r => r = if dwn S (S 0 26) k t = true then 1 else 0) := by
  refine m_head (by decide) rfl (Nat.le_of_ble_eq_true rfl) ?_
  intro p e s m below meth cd ls C0 hr hlk hK hM hS hl
  have hl : lv_has ls 3 [(0, .ref (am 0)), (1, .int (nI k)), (2, .int (nI t))] := hl
  have h7 : nv (S 7 k) ≤ 9 := (hO.peg hk).le (by decide)
  have h8 : nv (S 5 (nv (S 7 k))) ≤ 11 := (hO.li (by omega)).le (by decide)
  have h9 := hgt_le hO (S 0 26) (show nv (S 5 (nv (S 7 k))) < 12 by omega) ht
  refine lv_aload_n C0.1 C0.2.1 dX4_isDown_0 rfl (lv_at hl 0 rfl) ?_
  refine lv_aload_n C0.1 C0.2.1 dX4_isDown_1 rfl (lv_at hl 0 rfl) ?_
  refine m_geta C0 hK hM 5 (by decide) rfl q637 dX4_isDown_2 ?_
  refine lv_aload_n C0.1 C0.2.1 dX4_isDown_5 rfl (lv_at hl 0 rfl) ?_
  refine m_geta C0 hK hM 7 (by decide) rfl q639 dX4_isDown_6 ?_
  refine lv_iload_n C0.1 C0.2.1 dX4_isDown_9 rfl (lv_at hl 1 rfl) ?_
  refine m_iald C0 hK hM 7 k rfl rfl rfl (show k < 12 from (by omega)) (by decide) dX4_isDown_10 ?_
  refine tp_eq (y := nI (nv (S 7 k))) ((hO.peg hk).eq (by decide)) ?_
  refine m_iald C0 hK hM 5 (nv (S 7 k)) rfl rfl rfl (show nv (S 7 k) < 10 from (by omega)) (by decide) dX4_isDown_11 ?_
  refine tp_eq (y := nI (nv (S 5 (nv (S 7 k))))) ((hO.li (by omega)).eq (by decide)) ?_
  refine lv_iload_n C0.1 C0.2.1 dX4_isDown_12 rfl (lv_at hl 2 rfl) ?_
  refine m_cp C0 hK hM (mm_heightOf l D dA am S (nv (S 5 (nv (S 7 k)))) t hO (by omega) (by omega)) 2 (lw_V q847 q849 qs29 q43 q850) rfl rfl hdd_heightOf ⟨(Nat.le_of_ble_eq_true rfl), (Nat.le_of_ble_eq_true rfl)⟩ rfl hl.1 rfl (Nat.le_of_ble_eq_true rfl) dX4_isDown_13 ⟨(Nat.le_of_ble_eq_true rfl), (Nat.le_of_ble_eq_true rfl)⟩ (fun r hr => ?_)
  subst hr
  refine lv_if_ne (tgt := 23) C0.1 C0.2.1 dX4_isDown_16 (by decide) (fun c_16 => ?_) (fun c_16 => ?_)
  · have n_16 : ¬ hgt S (S 0 26) (nv (S 5 (nv (S 7 k)))) t = 0 := fun z => c_16 ((nI_eq (a := hgt S (S 0 26) (nv (S 5 (nv (S 7 k)))) t) (b := 0) (by omega) (by omega)).mpr z)
    refine lv_iconst (v := 0) C0.1 C0.2.1 dX4_isDown_23 (by decide) ?_
    exact m_zret C0 hr hlk rfl (b0_of (fun z => n_16 (of_decide_eq_true z))) dX4_isDown_24
  · have n_16 : hgt S (S 0 26) (nv (S 5 (nv (S 7 k)))) t = 0 := (nI_eq (a := hgt S (S 0 26) (nv (S 5 (nv (S 7 k)))) t) (b := 0) (by omega) (by omega)).mp c_16
    refine lv_iconst (v := 1) C0.1 C0.2.1 dX4_isDown_19 (by decide) ?_
    refine lv_goto (tgt := 24) C0.1 C0.2.1 dX4_isDown_20 (by decide) ?_
    exact m_zret C0 hr hlk rfl (b1_of (decide_eq_true n_16)) dX4_isDown_24
set_option maxHeartbeats 4000000 in
theorem mm_mark (l : Launch) (D : va_G) (dA : Nat → ClassId) (am : Nat → Nat) (S : St) (x y k t : Nat) (hx : x < 120) (hy : y < 10) : mCv l yX4_mark cX4_mark 6 { frames := 0, cells := 0, slots := 0, locals := 0 } D dA am S [.int (nI x), .int (nI y), .int (nI k), .int (nI t)] (fun S' => S' = setMk S (mk1 (S 29, S 30) (10 * x + y) k t)) := by
  refine m_head (by decide) rfl (Nat.le_of_ble_eq_true rfl) ?_
  intro p e s m below meth cd ls C0 hr hlk hK hM hS hl
  have hl : lv_has ls 6 [(0, .ref (am 0)), (1, .int (nI x)), (2, .int (nI y)), (3, .int (nI k)), (4, .int (nI t))] := hl
  refine lv_bipush (v := 10) C0.1 C0.2.1 dX4_mark_0 (by decide) ?_
  refine lv_iload_n C0.1 C0.2.1 dX4_mark_2 rfl (lv_at hl 1 rfl) ?_
  refine lv_imul C0.1 C0.2.1 dX4_mark_3 ?_
  refine tp_eq (y := nI (10 * x)) (pk_mul 10 x) ?_
  refine lv_iload_n C0.1 C0.2.1 dX4_mark_4 rfl (lv_at hl 2 rfl) ?_
  refine lv_iadd C0.1 C0.2.1 dX4_mark_5 ?_
  refine tp_eq (y := nI (10 * x + y)) (nI_add (10 * x) y) ?_
  refine lv_istore (lv' := [(5, .int (nI (10 * x + y))), (0, .ref (am 0)), (1, .int (nI x)), (2, .int (nI y)), (3, .int (nI k)), (4, .int (nI t))]) C0.1 C0.2.1 dX4_mark_6 hl (by decide) rfl (fun ls hl => ?_)
  refine lv_aload_n C0.1 C0.2.1 dX4_mark_8 rfl (lv_at hl 1 rfl) ?_
  refine m_geta C0 hK hM 29 (by decide) rfl q661 dX4_mark_9 ?_
  refine lv_iload C0.1 C0.2.1 dX4_mark_12 (lv_at hl 0 rfl) ?_
  refine m_iald C0 hK hM 29 (10 * x + y) rfl rfl rfl (show 10 * x + y < 1200 from (by omega)) (by decide) dX4_mark_14 ?_
  refine lv_if_ge (tgt := 35) C0.1 C0.2.1 dX4_mark_15 (by decide) (fun c_15 => ?_) (fun c_15 => ?_)
  · have hM : MP D dA am (setMk S (mk1 (S 29, S 30) (10 * x + y) k t)) s.heap := by
      rw [mk1_f S c_15]; exact hM
    exact m_vretS C0 hr hlk hM hS rfl dX4_mark_35
  · refine lv_aload_n C0.1 C0.2.1 dX4_mark_18 rfl (lv_at hl 1 rfl) ?_
    refine m_geta C0 hK hM 29 (by decide) rfl q661 dX4_mark_19 ?_
    refine lv_iload C0.1 C0.2.1 dX4_mark_22 (lv_at hl 0 rfl) ?_
    refine lv_iload_n C0.1 C0.2.1 dX4_mark_24 rfl (lv_at hl 4 rfl) ?_
    refine m_iast C0 hK hM hS 29 (10 * x + y) rfl rfl rfl (show 10 * x + y < 1200 from (by omega)) (by decide) dX4_mark_25 (fun H locs hM hS => ?_)
    refine lv_aload_n C0.1 C0.2.1 dX4_mark_26 rfl (lv_at hl 1 rfl) ?_
    refine m_geta C0 hK hM 30 (by decide) rfl q662 dX4_mark_27 ?_
    refine lv_iload C0.1 C0.2.1 dX4_mark_30 (lv_at hl 0 rfl) ?_
    refine lv_iload C0.1 C0.2.1 dX4_mark_32 (lv_at hl 5 rfl) ?_
    refine m_iast C0 hK hM hS 30 (10 * x + y) rfl rfl rfl (show 10 * x + y < 1200 from (by omega)) (by decide) dX4_mark_34 (fun H locs hM hS => ?_)
    have hM : MP D dA am (setMk S (mk1 (S 29, S 30) (10 * x + y) k t)) H := by
      rw [mk1_t S c_15]; exact hM
    exact m_vretS C0 hr hlk hM hS rfl dX4_mark_35
set_option maxHeartbeats 4000000 in
theorem mm_isCutLetter (l : Launch) (D : va_G) (dA : Nat → ClassId) (am : Nat → Nat) (S : St) (x : Nat) (hO : Ok S) (hx : x < 10) : mCp l yX4_isCutLetter cX4_isCutLetter 2 (some .boolean) { frames := 0, cells := 0, slots := 0, locals := 0 } D dA am S [.int (nI x)] (fun r => r = if isCutL S x = true then 1 else 0) := by
  refine m_head (by decide) rfl (Nat.le_of_ble_eq_true rfl) ?_
  intro p e s m below meth cd ls C0 hr hlk hK hM hS hl
  have hl : lv_has ls 2 [(0, .ref (am 0)), (1, .int (nI x))] := hl
  have h3 := (hO.ac hx).le (by decide)
  have h4 := (hO.upp hx).le (by decide)
  have h5 := (hO.li hx).le (by decide)
  refine lv_aload_n C0.1 C0.2.1 dX4_isCutLetter_0 rfl (lv_at hl 0 rfl) ?_
  refine m_geta C0 hK hM 1 (by decide) rfl q633 dX4_isCutLetter_1 ?_
  refine lv_aload_n C0.1 C0.2.1 dX4_isCutLetter_4 rfl (lv_at hl 0 rfl) ?_
  refine m_geta C0 hK hM 3 (by decide) rfl q635 dX4_isCutLetter_5 ?_
  refine lv_iload_n C0.1 C0.2.1 dX4_isCutLetter_8 rfl (lv_at hl 1 rfl) ?_
  refine m_iald C0 hK hM 3 x rfl rfl rfl (show x < 10 from (by omega)) (by decide) dX4_isCutLetter_9 ?_
  refine tp_eq (y := nI (nv (S 3 x))) ((hO.ac hx).eq (by decide)) ?_
  refine m_zald C0 hK hM 1 (nv (S 3 x)) rfl rfl rfl (show nv (S 3 x) < 12 from (by omega)) (by decide) dX4_isCutLetter_10 ?_
  refine lv_if_eq (tgt := 46) C0.1 C0.2.1 dX4_isCutLetter_11 (by decide) (fun c_11 => ?_) (fun c_11 => ?_)
  · refine lv_iconst (v := 0) C0.1 C0.2.1 dX4_isCutLetter_46 (by decide) ?_
    exact m_zret C0 hr hlk rfl (b0_of (isCutL_f1 c_11)) dX4_isCutLetter_47
  · refine lv_aload_n C0.1 C0.2.1 dX4_isCutLetter_14 rfl (lv_at hl 0 rfl) ?_
    refine m_geta C0 hK hM 1 (by decide) rfl q633 dX4_isCutLetter_15 ?_
    refine lv_aload_n C0.1 C0.2.1 dX4_isCutLetter_18 rfl (lv_at hl 0 rfl) ?_
    refine m_geta C0 hK hM 4 (by decide) rfl q636 dX4_isCutLetter_19 ?_
    refine lv_iload_n C0.1 C0.2.1 dX4_isCutLetter_22 rfl (lv_at hl 1 rfl) ?_
    refine m_iald C0 hK hM 4 x rfl rfl rfl (show x < 10 from (by omega)) (by decide) dX4_isCutLetter_23 ?_
    refine tp_eq (y := nI (nv (S 4 x))) ((hO.upp hx).eq (by decide)) ?_
    refine m_zald C0 hK hM 1 (nv (S 4 x)) rfl rfl rfl (show nv (S 4 x) < 12 from (by omega)) (by decide) dX4_isCutLetter_24 ?_
    refine lv_if_eq (tgt := 46) C0.1 C0.2.1 dX4_isCutLetter_25 (by decide) (fun c_25 => ?_) (fun c_25 => ?_)
    · refine lv_iconst (v := 0) C0.1 C0.2.1 dX4_isCutLetter_46 (by decide) ?_
      exact m_zret C0 hr hlk rfl (b0_of (isCutL_f2 c_25)) dX4_isCutLetter_47
    · refine lv_aload_n C0.1 C0.2.1 dX4_isCutLetter_28 rfl (lv_at hl 0 rfl) ?_
      refine m_geta C0 hK hM 1 (by decide) rfl q633 dX4_isCutLetter_29 ?_
      refine lv_aload_n C0.1 C0.2.1 dX4_isCutLetter_32 rfl (lv_at hl 0 rfl) ?_
      refine m_geta C0 hK hM 5 (by decide) rfl q637 dX4_isCutLetter_33 ?_
      refine lv_iload_n C0.1 C0.2.1 dX4_isCutLetter_36 rfl (lv_at hl 1 rfl) ?_
      refine m_iald C0 hK hM 5 x rfl rfl rfl (show x < 10 from (by omega)) (by decide) dX4_isCutLetter_37 ?_
      refine tp_eq (y := nI (nv (S 5 x))) ((hO.li hx).eq (by decide)) ?_
      refine m_zald C0 hK hM 1 (nv (S 5 x)) rfl rfl rfl (show nv (S 5 x) < 12 from (by omega)) (by decide) dX4_isCutLetter_38 ?_
      refine lv_if_eq (tgt := 46) C0.1 C0.2.1 dX4_isCutLetter_39 (by decide) (fun c_39 => ?_) (fun c_39 => ?_)
      · refine lv_iconst (v := 0) C0.1 C0.2.1 dX4_isCutLetter_46 (by decide) ?_
        exact m_zret C0 hr hlk rfl (b0_of (isCutL_f3 c_39)) dX4_isCutLetter_47
      · refine lv_iconst (v := 1) C0.1 C0.2.1 dX4_isCutLetter_42 (by decide) ?_
        refine lv_goto (tgt := 47) C0.1 C0.2.1 dX4_isCutLetter_43 (by decide) ?_
        exact m_zret C0 hr hlk rfl (b1_of (isCutL_t c_11 c_25 c_39)) dX4_isCutLetter_47
set_option maxHeartbeats 4000000 in
theorem mm_areCut (l : Launch) (D : va_G) (dA : Nat → ClassId) (am : Nat → Nat) (S : St) (hO : Ok S) : mCp l yX4_areCut cX4_areCut 3 (some .boolean) { frames := 1, cells := 0, slots := 0, locals := 21 } D dA am S [] (fun r => r = if areCutN S (pg S) = true then 1 else 0) := by
  refine m_head (by decide) rfl (Nat.le_of_ble_eq_true rfl) ?_
  intro p e s m below meth cd ls C0 hr hlk hK hM hS hl
  have hl : lv_has ls 3 [(0, .ref (am 0))] := hl
  have hp := hO.pg12
  refine lv_iconst (v := 1) C0.1 C0.2.1 dX4_areCut_0 (by decide) ?_
  refine lv_istore_n (lv' := [(1, .int 1), (0, .ref (am 0))]) C0.1 C0.2.1 dX4_areCut_1 rfl hl (by decide) rfl (fun ls hl => ?_)
  refine lv_iconst (v := 0) C0.1 C0.2.1 dX4_areCut_2 (by decide) ?_
  refine lv_istore_n (lv' := [(2, .int 0), (1, .int 1), (0, .ref (am 0))]) C0.1 C0.2.1 dX4_areCut_3 rfl hl (by decide) rfl (fun ls hl => ?_)
  refine W_loopP (pg S) (fun i ls => lv_has ls 3 [(0, .ref (am 0)), (1, .int (if areCutN S i = true then 1 else 0)), (2, .int (nI i))]) 4 ?_ ?_ 0 ls (Nat.zero_le _) (lv_sub hl [2, 1, 0] rfl)
  · intro ls hl
    refine lv_iload_n C0.1 C0.2.1 dX4_areCut_4 rfl (lv_at hl 2 rfl) ?_
    refine lv_aload_n C0.1 C0.2.1 dX4_areCut_5 rfl (lv_at hl 0 rfl) ?_
    refine m_geti C0 hK hM 6 (by decide) rfl q638 dX4_areCut_6 ?_
    refine tp_eq (y := nI (pg S)) (hO.pgE) ?_
    refine lv_icmp_ge (tgt := 41) C0.1 C0.2.1 dX4_areCut_9 (by decide) (fun c_9 => ?_) (fun c_9 => ?_)
    · have n_9 : pg S ≤ pg S := (nI_leI (a := pg S) (b := pg S) (by omega) (by omega)).mp c_9
      refine lv_iload_n C0.1 C0.2.1 dX4_areCut_41 rfl (lv_at hl 1 rfl) ?_
      exact m_zret C0 hr hlk nar_b rfl dX4_areCut_42
    · have n_9 : ¬ pg S ≤ pg S := fun z => c_9 ((nI_leI (a := pg S) (b := pg S) (by omega) (by omega)).mpr z)
      omega
  · intro i ls hi hl K4
    have h7 : nv (S 7 i) ≤ 9 := (hO.peg (by omega)).le (by decide)
    refine lv_iload_n C0.1 C0.2.1 dX4_areCut_4 rfl (lv_at hl 2 rfl) ?_
    refine lv_aload_n C0.1 C0.2.1 dX4_areCut_5 rfl (lv_at hl 0 rfl) ?_
    refine m_geti C0 hK hM 6 (by decide) rfl q638 dX4_areCut_6 ?_
    refine tp_eq (y := nI (pg S)) (hO.pgE) ?_
    refine lv_icmp_ge (tgt := 41) C0.1 C0.2.1 dX4_areCut_9 (by decide) (fun c_9 => ?_) (fun c_9 => ?_)
    · have n_9 : pg S ≤ i := (nI_leI (a := pg S) (b := i) (by omega) (by omega)).mp c_9
      omega
    · have n_9 : ¬ pg S ≤ i := fun z => c_9 ((nI_leI (a := pg S) (b := i) (by omega) (by omega)).mpr z)
      refine jn_i 34 [] (fun v => v = (if areCutN S (i + 1) = true then 1 else 0)) (fun v hv => ?_) (fun J => ?_)
      · subst hv
        refine lv_istore_n (lv' := [(1, .int (if areCutN S (i + 1) = true then 1 else 0)), (0, .ref (am 0)), (2, .int (nI i))]) C0.1 C0.2.1 dX4_areCut_34 rfl hl (by decide) rfl (fun ls hl => ?_)
        refine lv_iinc (v := nI (i + 1)) (lv' := [(2, .int (nI (i + 1))), (1, .int (if areCutN S (i + 1) = true then 1 else 0)), (0, .ref (am 0))]) C0.1 C0.2.1 dX4_areCut_35 hl (k := 2) rfl (nI_1 i) (by decide) rfl (fun ls hl => ?_)
        refine lv_goto (tgt := 4) C0.1 C0.2.1 dX4_areCut_38 (by decide) ?_
        exact K4 ls (lv_sub hl [2, 1, 0] rfl)
      · refine lv_iload_n C0.1 C0.2.1 dX4_areCut_12 rfl (lv_at hl 1 rfl) ?_
        refine lv_if_eq (tgt := 33) C0.1 C0.2.1 dX4_areCut_13 (by decide) (fun c_13 => ?_) (fun c_13 => ?_)
        · have c_13 : ¬ (areCutN S i = true) := b01_0.mp c_13
          refine lv_iconst (v := 0) C0.1 C0.2.1 dX4_areCut_33 (by decide) ?_
          exact J _ (b0_of (areCutN_f1 c_13))
        · have c_13 : areCutN S i = true := b01_1.mp c_13
          refine lv_aload_n C0.1 C0.2.1 dX4_areCut_16 rfl (lv_at hl 0 rfl) ?_
          refine lv_aload_n C0.1 C0.2.1 dX4_areCut_17 rfl (lv_at hl 0 rfl) ?_
          refine m_geta C0 hK hM 7 (by decide) rfl q639 dX4_areCut_18 ?_
          refine lv_iload_n C0.1 C0.2.1 dX4_areCut_21 rfl (lv_at hl 2 rfl) ?_
          refine m_iald C0 hK hM 7 i rfl rfl rfl (show i < 12 from (by omega)) (by decide) dX4_areCut_22 ?_
          refine tp_eq (y := nI (nv (S 7 i))) ((hO.peg (by omega)).eq (by decide)) ?_
          refine m_cp C0 hK hM (mm_isCutLetter l D dA am S (nv (S 7 i)) hO (by omega)) 1 (lw_V q799 q801 qs23 q43 q802) rfl rfl hdd_isCutLetter ⟨(Nat.le_of_ble_eq_true rfl), (Nat.le_of_ble_eq_true rfl)⟩ rfl hl.1 rfl (Nat.le_of_ble_eq_true rfl) dX4_areCut_23 ⟨(Nat.le_of_ble_eq_true rfl), (Nat.le_of_ble_eq_true rfl)⟩ (fun r hr => ?_)
          subst hr
          refine lv_if_eq (tgt := 33) C0.1 C0.2.1 dX4_areCut_26 (by decide) (fun c_26 => ?_) (fun c_26 => ?_)
          · have c_26 : ¬ (isCutL S (nv (S 7 i)) = true) := b01_0.mp c_26
            refine lv_iconst (v := 0) C0.1 C0.2.1 dX4_areCut_33 (by decide) ?_
            exact J _ (b0_of (areCutN_f2 c_26))
          · have c_26 : isCutL S (nv (S 7 i)) = true := b01_1.mp c_26
            refine lv_iconst (v := 1) C0.1 C0.2.1 dX4_areCut_29 (by decide) ?_
            refine lv_goto (tgt := 34) C0.1 C0.2.1 dX4_areCut_30 (by decide) ?_
            exact J _ (b1_of (areCutN_s c_13 c_26))
