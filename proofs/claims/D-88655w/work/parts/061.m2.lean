set_option maxRecDepth 100000
set_option linter.unusedVariables false
theorem hdd_length : yX4_length.cls = RX4 ∧ yX4_length.cls ≠ "java/lang/invoke/MethodHandle" ∧ yX4_length.cls ≠ "java/lang/invoke/VarHandle" ∧ (parseMethodDescriptor yX4_length.desc).map (fun d => d.parameters.length) = some 1 := by decide +kernel
theorem hdd_blank : yX4_blank.cls = RX4 ∧ yX4_blank.cls ≠ "java/lang/invoke/MethodHandle" ∧ yX4_blank.cls ≠ "java/lang/invoke/VarHandle" ∧ (parseMethodDescriptor yX4_blank.desc).map (fun d => d.parameters.length) = some 1 := by decide +kernel
theorem hdd_lose : yX4_lose.cls = RX4 ∧ yX4_lose.cls ≠ "java/lang/invoke/MethodHandle" ∧ yX4_lose.cls ≠ "java/lang/invoke/VarHandle" ∧ (parseMethodDescriptor yX4_lose.desc).map (fun d => d.parameters.length) = some 1 := by decide +kernel
theorem hdd_cutAt : yX4_cutAt.cls = RX4 ∧ yX4_cutAt.cls ≠ "java/lang/invoke/MethodHandle" ∧ yX4_cutAt.cls ≠ "java/lang/invoke/VarHandle" ∧ (parseMethodDescriptor yX4_cutAt.desc).map (fun d => d.parameters.length) = some 3 := by decide +kernel
theorem hdd_height : yX4_height.cls = RX4 ∧ yX4_height.cls ≠ "java/lang/invoke/MethodHandle" ∧ yX4_height.cls ≠ "java/lang/invoke/VarHandle" ∧ (parseMethodDescriptor yX4_height.desc).map (fun d => d.parameters.length) = some 2 := by decide +kernel
theorem hdd_letter : yX4_letter.cls = RX4 ∧ yX4_letter.cls ≠ "java/lang/invoke/MethodHandle" ∧ yX4_letter.cls ≠ "java/lang/invoke/VarHandle" ∧ (parseMethodDescriptor yX4_letter.desc).map (fun d => d.parameters.length) = some 4 := by decide +kernel
theorem hdd_isCut : yX4_isCut.cls = RX4 ∧ yX4_isCut.cls ≠ "java/lang/invoke/MethodHandle" ∧ yX4_isCut.cls ≠ "java/lang/invoke/VarHandle" ∧ (parseMethodDescriptor yX4_isCut.desc).map (fun d => d.parameters.length) = some 1 := by decide +kernel
theorem hdd_peg : yX4_peg.cls = RX4 ∧ yX4_peg.cls ≠ "java/lang/invoke/MethodHandle" ∧ yX4_peg.cls ≠ "java/lang/invoke/VarHandle" ∧ (parseMethodDescriptor yX4_peg.desc).map (fun d => d.parameters.length) = some 1 := by decide +kernel
theorem hdd_unpeg : yX4_unpeg.cls = RX4 ∧ yX4_unpeg.cls ≠ "java/lang/invoke/MethodHandle" ∧ yX4_unpeg.cls ≠ "java/lang/invoke/VarHandle" ∧ (parseMethodDescriptor yX4_unpeg.desc).map (fun d => d.parameters.length) = some 0 := by decide +kernel
theorem hdd_advance : yX4_advance.cls = RX4 ∧ yX4_advance.cls ≠ "java/lang/invoke/MethodHandle" ∧ yX4_advance.cls ≠ "java/lang/invoke/VarHandle" ∧ (parseMethodDescriptor yX4_advance.desc).map (fun d => d.parameters.length) = some 1 := by decide +kernel
theorem hdd_pull : yX4_pull.cls = RX4 ∧ yX4_pull.cls ≠ "java/lang/invoke/MethodHandle" ∧ yX4_pull.cls ≠ "java/lang/invoke/VarHandle" ∧ (parseMethodDescriptor yX4_pull.desc).map (fun d => d.parameters.length) = some 1 := by decide +kernel
theorem hdd_wind : yX4_wind.cls = RX4 ∧ yX4_wind.cls ≠ "java/lang/invoke/MethodHandle" ∧ yX4_wind.cls ≠ "java/lang/invoke/VarHandle" ∧ (parseMethodDescriptor yX4_wind.desc).map (fun d => d.parameters.length) = some 1 := by decide +kernel
theorem hdd_marked : yX4_marked.cls = RX4 ∧ yX4_marked.cls ≠ "java/lang/invoke/MethodHandle" ∧ yX4_marked.cls ≠ "java/lang/invoke/VarHandle" ∧ (parseMethodDescriptor yX4_marked.desc).map (fun d => d.parameters.length) = some 2 := by decide +kernel
theorem hdd_first : yX4_first.cls = RX4 ∧ yX4_first.cls ≠ "java/lang/invoke/MethodHandle" ∧ yX4_first.cls ≠ "java/lang/invoke/VarHandle" ∧ (parseMethodDescriptor yX4_first.desc).map (fun d => d.parameters.length) = some 3 := by decide +kernel
theorem hdd_marks : yX4_marks.cls = RX4 ∧ yX4_marks.cls ≠ "java/lang/invoke/MethodHandle" ∧ yX4_marks.cls ≠ "java/lang/invoke/VarHandle" ∧ (parseMethodDescriptor yX4_marks.desc).map (fun d => d.parameters.length) = some 0 := by decide +kernel
theorem hdd_see : yX4_see.cls = RX4 ∧ yX4_see.cls ≠ "java/lang/invoke/MethodHandle" ∧ yX4_see.cls ≠ "java/lang/invoke/VarHandle" ∧ (parseMethodDescriptor yX4_see.desc).map (fun d => d.parameters.length) = some 3 := by decide +kernel
theorem hdd_fault : yX4_fault.cls = RX4 ∧ yX4_fault.cls ≠ "java/lang/invoke/MethodHandle" ∧ yX4_fault.cls ≠ "java/lang/invoke/VarHandle" ∧ (parseMethodDescriptor yX4_fault.desc).map (fun d => d.parameters.length) = some 2 := by decide +kernel
theorem hdd_faultMany : yX4_faultMany.cls = RX4 ∧ yX4_faultMany.cls ≠ "java/lang/invoke/MethodHandle" ∧ yX4_faultMany.cls ≠ "java/lang/invoke/VarHandle" ∧ (parseMethodDescriptor yX4_faultMany.desc).map (fun d => d.parameters.length) = some 0 := by decide +kernel
theorem hdd_mend : yX4_mend.cls = RX4 ∧ yX4_mend.cls ≠ "java/lang/invoke/MethodHandle" ∧ yX4_mend.cls ≠ "java/lang/invoke/VarHandle" ∧ (parseMethodDescriptor yX4_mend.desc).map (fun d => d.parameters.length) = some 0 := by decide +kernel
theorem hdd_timesIn : yX4_timesIn.cls = RX4 ∧ yX4_timesIn.cls ≠ "java/lang/invoke/MethodHandle" ∧ yX4_timesIn.cls ≠ "java/lang/invoke/VarHandle" ∧ (parseMethodDescriptor yX4_timesIn.desc).map (fun d => d.parameters.length) = some 2 := by decide +kernel
theorem hdd_made : yX4_made.cls = RX4 ∧ yX4_made.cls ≠ "java/lang/invoke/MethodHandle" ∧ yX4_made.cls ≠ "java/lang/invoke/VarHandle" ∧ (parseMethodDescriptor yX4_made.desc).map (fun d => d.parameters.length) = some 2 := by decide +kernel
theorem hdd_likeness : yX4_likeness.cls = RX4 ∧ yX4_likeness.cls ≠ "java/lang/invoke/MethodHandle" ∧ yX4_likeness.cls ≠ "java/lang/invoke/VarHandle" ∧ (parseMethodDescriptor yX4_likeness.desc).map (fun d => d.parameters.length) = some 2 := by decide +kernel
theorem hdd_like : yX4_like.cls = RX4 ∧ yX4_like.cls ≠ "java/lang/invoke/MethodHandle" ∧ yX4_like.cls ≠ "java/lang/invoke/VarHandle" ∧ (parseMethodDescriptor yX4_like.desc).map (fun d => d.parameters.length) = some 2 := by decide +kernel
theorem hdd_whose : yX4_whose.cls = RX4 ∧ yX4_whose.cls ≠ "java/lang/invoke/MethodHandle" ∧ yX4_whose.cls ≠ "java/lang/invoke/VarHandle" ∧ (parseMethodDescriptor yX4_whose.desc).map (fun d => d.parameters.length) = some 1 := by decide +kernel
theorem hdd_count : yX4_count.cls = RX4 ∧ yX4_count.cls ≠ "java/lang/invoke/MethodHandle" ∧ yX4_count.cls ≠ "java/lang/invoke/VarHandle" ∧ (parseMethodDescriptor yX4_count.desc).map (fun d => d.parameters.length) = some 1 := by decide +kernel
set_option maxHeartbeats 4000000 in
theorem mm_length (l : Launch) (D : va_G) (dA : Nat → ClassId) (am : Nat → Nat) (S : St) (p0 : Int32) (hO : Ok S) : mCi l yX4_length cX4_length 4 (some .int) { frames := 1, cells := 0, slots := 0, locals := 21 } D dA am S [.int p0] (fun r S' => PB (sp_length S p0) r S') := by
  refine m_head (by decide) rfl (Nat.le_of_ble_eq_true rfl) ?_
  intro p e s m below meth cd ls C0 hr hlk hK hM hS hl
  have hl : lv_has ls 4 [(0, .ref (am 0)), (1, .int p0)] := hl
  refine lv_iload_n C0.1 C0.2.1 dX4_length_0 rfl (lv_at hl 1 rfl) ?_
  refine lv_iconst (v := 2) C0.1 C0.2.1 dX4_length_1 (by decide) ?_
  refine lv_icmp_ge (tgt := 12) C0.1 C0.2.1 dX4_length_2 (by decide) (fun c_2 => ?_) (fun c_2 => ?_)
  · refine lv_iload_n C0.1 C0.2.1 dX4_length_12 rfl (lv_at hl 1 rfl) ?_
    refine lv_bipush (v := 16) C0.1 C0.2.1 dX4_length_13 (by decide) ?_
    refine lv_icmp_le (tgt := 25) C0.1 C0.2.1 dX4_length_15 (by decide) (fun c_15 => ?_) (fun c_15 => ?_)
    · refine lv_aload_n C0.1 C0.2.1 dX4_length_25 rfl (lv_at hl 0 rfl) ?_
      refine m_geti C0 hK hM 0 (by decide) rfl q632 dX4_length_26 ?_
      refine lv_istore_n (lv' := [(2, .int (S 0 0)), (0, .ref (am 0)), (1, .int p0)]) C0.1 C0.2.1 dX4_length_29 rfl hl (by decide) rfl (fun ls hl => ?_)
      refine lv_aload_n C0.1 C0.2.1 dX4_length_30 rfl (lv_at hl 1 rfl) ?_
      refine lv_iload_n C0.1 C0.2.1 dX4_length_31 rfl (lv_at hl 2 rfl) ?_
      refine m_put C0 hK hM hS 0 (by decide) rfl q632 rfl rfl dX4_length_32 (fun H locs hM hS => ?_)
      refine lv_iconst (v := 0) C0.1 C0.2.1 dX4_length_35 (by decide) ?_
      refine lv_istore_n (lv' := [(3, .int 0), (2, .int (S 0 0)), (0, .ref (am 0)), (1, .int p0)]) C0.1 C0.2.1 dX4_length_36 rfl hl (by decide) rfl (fun ls hl => ?_)
      refine W_loop 12 (fun i H locs ls => MP D dA am (clrT (up2 S 0 0 p0) i) H ∧ va_S (MA am) s.heap H locs ∧ lv_has ls 4 [(0, .ref (am 0)), (1, .int p0), (2, .int (S 0 0)), (3, .int (nI i))]) 37 ?_ ?_ 0 _ _ ls (Nat.zero_le _) ⟨hM, hS, lv_sub hl [2, 3, 1, 0] rfl⟩
      · intro H locs ls ⟨hM, hS, hl⟩
        refine lv_iload_n C0.1 C0.2.1 dX4_length_37 rfl (lv_at hl 3 rfl) ?_
        refine lv_bipush (v := 12) C0.1 C0.2.1 dX4_length_38 (by decide) ?_
        refine lv_icmp_ge (tgt := 56) C0.1 C0.2.1 dX4_length_40 (by decide) (fun c_40 => ?_) (fun c_40 => ?_)
        · have n_40 : 12 ≤ 12 := (nI_leI (a := 12) (b := 12) (by omega) (by omega)).mp c_40
          refine lv_aload_n C0.1 C0.2.1 dX4_length_56 rfl (lv_at hl 0 rfl) ?_
          refine m_cv C0 hK hM hS (fun _ h => h) (mm_clearPaper l D dA am (clrT (up2 S 0 0 p0) 12) ) 0 (lw_V q628 q630 qs17 q43 q631) rfl rfl hdd_clearPaper ⟨(Nat.le_of_ble_eq_true rfl), (Nat.le_of_ble_eq_true rfl)⟩ rfl hl.1 rfl (Nat.le_of_ble_eq_true rfl) dX4_length_57 ⟨(Nat.le_of_ble_eq_true rfl), (Nat.le_of_ble_eq_true rfl)⟩ (fun S' H locs hr hM hS => ?_)
          subst hr
          refine lv_iload_n C0.1 C0.2.1 dX4_length_60 rfl (lv_at hl 2 rfl) ?_
          exact m_iretS C0 hr hlk hM hS (PB.of (by unfold sp_length; rw [if_neg (Int32.not_lt.mpr c_2), if_neg (Int32.not_lt.mpr c_15)])) dX4_length_61
        · have n_40 : ¬ 12 ≤ 12 := fun z => c_40 ((nI_leI (a := 12) (b := 12) (by omega) (by omega)).mpr z)
          omega
      · intro i H locs ls hi ⟨hM, hS, hl⟩ K37
        refine lv_iload_n C0.1 C0.2.1 dX4_length_37 rfl (lv_at hl 3 rfl) ?_
        refine lv_bipush (v := 12) C0.1 C0.2.1 dX4_length_38 (by decide) ?_
        refine lv_icmp_ge (tgt := 56) C0.1 C0.2.1 dX4_length_40 (by decide) (fun c_40 => ?_) (fun c_40 => ?_)
        · have n_40 : 12 ≤ i := (nI_leI (a := 12) (b := i) (by omega) (by omega)).mp c_40
          omega
        · have n_40 : ¬ 12 ≤ i := fun z => c_40 ((nI_leI (a := 12) (b := i) (by omega) (by omega)).mpr z)
          refine lv_aload_n C0.1 C0.2.1 dX4_length_43 rfl (lv_at hl 0 rfl) ?_
          refine m_geta C0 hK hM 1 (by decide) rfl q633 dX4_length_44 ?_
          refine lv_iload_n C0.1 C0.2.1 dX4_length_47 rfl (lv_at hl 3 rfl) ?_
          refine lv_iconst (v := 0) C0.1 C0.2.1 dX4_length_48 (by decide) ?_
          refine m_zast C0 hK hM hS 1 i rfl rfl rfl (show i < 12 from (by omega)) (by decide) nar_z0 dX4_length_49 (fun H locs hM hS => ?_)
          refine lv_iinc (v := nI (i + 1)) (lv' := [(3, .int (nI (i + 1))), (0, .ref (am 0)), (1, .int p0), (2, .int (S 0 0))]) C0.1 C0.2.1 dX4_length_50 hl (k := 3) rfl (nI_1 i) (by decide) rfl (fun ls hl => ?_)
          refine lv_goto (tgt := 37) C0.1 C0.2.1 dX4_length_53 (by decide) ?_
          exact K37 _ _ ls ⟨hM, hS, lv_sub hl [1, 2, 3, 0] rfl⟩
    · refine lv_aload_n C0.1 C0.2.1 dX4_length_18 rfl (lv_at hl 0 rfl) ?_
      refine lv_bipush (v := (-6)) C0.1 C0.2.1 dX4_length_19 (by decide) ?_
      refine m_ci C0 hK hM hS (fun _ h => h) (mm_refuse l D dA am S 6 (by omega)) 1 (lw_V q733 q735 qs18 q43 q736) rfl rfl hdd_refuse ⟨(Nat.le_of_ble_eq_true rfl), (Nat.le_of_ble_eq_true rfl)⟩ rfl hl.1 rfl (Nat.le_of_ble_eq_true rfl) dX4_length_21 ⟨(Nat.le_of_ble_eq_true rfl), (Nat.le_of_ble_eq_true rfl)⟩ (fun r S' H locs hr hM hS _ => ?_)
      obtain ⟨rfl, rfl⟩ := hr
      exact m_iretS C0 hr hlk hM hS (PB.of (by unfold sp_length; rw [if_neg (Int32.not_lt.mpr c_2), if_pos (Int32.not_le.mp c_15)]; rfl)) dX4_length_24
  · refine lv_aload_n C0.1 C0.2.1 dX4_length_5 rfl (lv_at hl 0 rfl) ?_
    refine lv_bipush (v := (-4)) C0.1 C0.2.1 dX4_length_6 (by decide) ?_
    refine m_ci C0 hK hM hS (fun _ h => h) (mm_refuse l D dA am S 4 (by omega)) 1 (lw_V q733 q735 qs18 q43 q736) rfl rfl hdd_refuse ⟨(Nat.le_of_ble_eq_true rfl), (Nat.le_of_ble_eq_true rfl)⟩ rfl hl.1 rfl (Nat.le_of_ble_eq_true rfl) dX4_length_8 ⟨(Nat.le_of_ble_eq_true rfl), (Nat.le_of_ble_eq_true rfl)⟩ (fun r S' H locs hr hM hS _ => ?_)
    obtain ⟨rfl, rfl⟩ := hr
    exact m_iretS C0 hr hlk hM hS (PB.of (by unfold sp_length; rw [if_pos (Int32.not_le.mp c_2)]; rfl)) dX4_length_11
set_option maxHeartbeats 4000000 in
theorem mm_blank (l : Launch) (D : va_G) (dA : Nat → ClassId) (am : Nat → Nat) (S : St) (p0 : Int32) (hO : Ok S) : mCi l yX4_blank cX4_blank 4 (some .int) { frames := 2, cells := 0, slots := 0, locals := 42 } D dA am S [.int p0] (fun r S' => PB (sp_blank S p0) r S') := by
  refine m_head (by decide) rfl (Nat.le_of_ble_eq_true rfl) ?_
  intro p e s m below meth cd ls C0 hr hlk hK hM hS hl
  have hl : lv_has ls 4 [(0, .ref (am 0)), (1, .int p0)] := hl
  refine lv_iload_n C0.1 C0.2.1 dX4_blank_0 rfl (lv_at hl 1 rfl) ?_
  refine st_call C0 (mm_isCam l p0) 1 (lw_S q741 q742 q43 q743) rfl rfl hdd_isCam ⟨(Nat.le_of_ble_eq_true rfl), (Nat.le_of_ble_eq_true rfl)⟩ rfl hl.1 rfl (Nat.le_of_ble_eq_true rfl) dX4_blank_1 ⟨(Nat.le_of_ble_eq_true rfl), (Nat.le_of_ble_eq_true rfl)⟩ (fun r hr => ?_)
  subst hr
  refine lv_if_ne (tgt := 13) C0.1 C0.2.1 dX4_blank_4 (by decide) (fun c_4 => ?_) (fun c_4 => ?_)
  · have c_4 : (inR p0 12).isSome = true := b01_1.mp c_4
    obtain ⟨j, hj, bj, rfl⟩ := inR_get c_4 (by decide)
    refine lv_aload_n C0.1 C0.2.1 dX4_blank_13 rfl (lv_at hl 0 rfl) ?_
    refine m_geta C0 hK hM 1 (by decide) rfl q633 dX4_blank_14 ?_
    refine lv_iload_n C0.1 C0.2.1 dX4_blank_17 rfl (lv_at hl 1 rfl) ?_
    refine m_zald C0 hK hM 1 j rfl rfl rfl (show j < 12 from (by omega)) (by decide) dX4_blank_18 ?_
    refine lv_istore_n (lv' := [(2, .int (S 1 j)), (0, .ref (am 0)), (1, .int (nI j))]) C0.1 C0.2.1 dX4_blank_19 rfl hl (by decide) rfl (fun ls hl => ?_)
    refine lv_aload_n C0.1 C0.2.1 dX4_blank_20 rfl (lv_at hl 1 rfl) ?_
    refine m_geta C0 hK hM 1 (by decide) rfl q633 dX4_blank_21 ?_
    refine lv_iload_n C0.1 C0.2.1 dX4_blank_24 rfl (lv_at hl 2 rfl) ?_
    refine lv_iconst (v := 1) C0.1 C0.2.1 dX4_blank_25 (by decide) ?_
    refine m_zast C0 hK hM hS 1 j rfl rfl rfl (show j < 12 from (by omega)) (by decide) nar_z1 dX4_blank_26 (fun H locs hM hS => ?_)
    refine lv_iconst (v := 0) C0.1 C0.2.1 dX4_blank_27 (by decide) ?_
    refine lv_istore_n (lv' := [(3, .int 0), (2, .int (S 1 j)), (0, .ref (am 0)), (1, .int (nI j))]) C0.1 C0.2.1 dX4_blank_28 rfl hl (by decide) rfl (fun ls hl => ?_)
    refine W_loop 16 (fun i H locs ls => MP D dA am (clrC (up2 S 1 j 1) j i) H ∧ va_S (MA am) s.heap H locs ∧ lv_has ls 4 [(0, .ref (am 0)), (1, .int (nI j)), (2, .int (S 1 j)), (3, .int (nI i))]) 29 ?_ ?_ 0 _ _ ls (Nat.zero_le _) ⟨hM, hS, lv_sub hl [2, 3, 1, 0] rfl⟩
    · intro H locs ls ⟨hM, hS, hl⟩
      refine lv_iload_n C0.1 C0.2.1 dX4_blank_29 rfl (lv_at hl 3 rfl) ?_
      refine lv_bipush (v := 16) C0.1 C0.2.1 dX4_blank_30 (by decide) ?_
      refine lv_icmp_ge (tgt := 53) C0.1 C0.2.1 dX4_blank_32 (by decide) (fun c_32 => ?_) (fun c_32 => ?_)
      · have n_32 : 16 ≤ 16 := (nI_leI (a := 16) (b := 16) (by omega) (by omega)).mp c_32
        refine lv_iload_n C0.1 C0.2.1 dX4_blank_53 rfl (lv_at hl 2 rfl) ?_
        refine lv_if_eq (tgt := 61) C0.1 C0.2.1 dX4_blank_54 (by decide) (fun c_54 => ?_) (fun c_54 => ?_)
        · refine lv_iconst (v := 1) C0.1 C0.2.1 dX4_blank_61 (by decide) ?_
          exact m_iretS C0 hr hlk hM hS (PB.of (by rw [blank_some hj, if_pos c_54])) dX4_blank_62
        · refine lv_iconst (v := 0) C0.1 C0.2.1 dX4_blank_57 (by decide) ?_
          refine lv_goto (tgt := 62) C0.1 C0.2.1 dX4_blank_58 (by decide) ?_
          exact m_iretS C0 hr hlk hM hS (PB.of (by rw [blank_some hj, if_neg c_54])) dX4_blank_62
      · have n_32 : ¬ 16 ≤ 16 := fun z => c_32 ((nI_leI (a := 16) (b := 16) (by omega) (by omega)).mpr z)
        omega
    · intro i H locs ls hi ⟨hM, hS, hl⟩ K29
      refine lv_iload_n C0.1 C0.2.1 dX4_blank_29 rfl (lv_at hl 3 rfl) ?_
      refine lv_bipush (v := 16) C0.1 C0.2.1 dX4_blank_30 (by decide) ?_
      refine lv_icmp_ge (tgt := 53) C0.1 C0.2.1 dX4_blank_32 (by decide) (fun c_32 => ?_) (fun c_32 => ?_)
      · have n_32 : 16 ≤ i := (nI_leI (a := 16) (b := i) (by omega) (by omega)).mp c_32
        omega
      · have n_32 : ¬ 16 ≤ i := fun z => c_32 ((nI_leI (a := 16) (b := i) (by omega) (by omega)).mpr z)
        refine lv_aload_n C0.1 C0.2.1 dX4_blank_35 rfl (lv_at hl 0 rfl) ?_
        refine m_geta C0 hK hM 2 (by decide) rfl q634 dX4_blank_36 ?_
        refine lv_bipush (v := 16) C0.1 C0.2.1 dX4_blank_39 (by decide) ?_
        refine lv_iload_n C0.1 C0.2.1 dX4_blank_41 rfl (lv_at hl 1 rfl) ?_
        refine lv_imul C0.1 C0.2.1 dX4_blank_42 ?_
        refine tp_eq (y := nI (16 * j)) (pk_mul 16 j) ?_
        refine lv_iload_n C0.1 C0.2.1 dX4_blank_43 rfl (lv_at hl 3 rfl) ?_
        refine lv_iadd C0.1 C0.2.1 dX4_blank_44 ?_
        refine tp_eq (y := nI (16 * j + i)) (nI_add (16 * j) i) ?_
        refine lv_iconst (v := 0) C0.1 C0.2.1 dX4_blank_45 (by decide) ?_
        refine m_iast C0 hK hM hS 2 (16 * j + i) rfl rfl rfl (show 16 * j + i < 192 from (by omega)) (by decide) dX4_blank_46 (fun H locs hM hS => ?_)
        refine lv_iinc (v := nI (i + 1)) (lv' := [(3, .int (nI (i + 1))), (0, .ref (am 0)), (1, .int (nI j)), (2, .int (S 1 j))]) C0.1 C0.2.1 dX4_blank_47 hl (k := 3) rfl (nI_1 i) (by decide) rfl (fun ls hl => ?_)
        refine lv_goto (tgt := 29) C0.1 C0.2.1 dX4_blank_50 (by decide) ?_
        exact K29 _ _ ls ⟨hM, hS, lv_sub hl [1, 2, 3, 0] rfl⟩
  · have c_4 : ¬ ((inR p0 12).isSome = true) := b01_0.mp c_4
    refine lv_aload_n C0.1 C0.2.1 dX4_blank_7 rfl (lv_at hl 0 rfl) ?_
    refine lv_iconst (v := (-1)) C0.1 C0.2.1 dX4_blank_8 (by decide) ?_
    refine m_ci C0 hK hM hS (fun _ h => h) (mm_refuse l D dA am S 1 (by omega)) 1 (lw_V q733 q735 qs18 q43 q736) rfl rfl hdd_refuse ⟨(Nat.le_of_ble_eq_true rfl), (Nat.le_of_ble_eq_true rfl)⟩ rfl hl.1 rfl (Nat.le_of_ble_eq_true rfl) dX4_blank_9 ⟨(Nat.le_of_ble_eq_true rfl), (Nat.le_of_ble_eq_true rfl)⟩ (fun r S' H locs hr hM hS _ => ?_)
    obtain ⟨rfl, rfl⟩ := hr
    exact m_iretS C0 hr hlk hM hS (PB.of (by unfold sp_blank; rw [inR_none c_4]; rfl)) dX4_blank_12
set_option maxHeartbeats 4000000 in
theorem mm_lose (l : Launch) (D : va_G) (dA : Nat → ClassId) (am : Nat → Nat) (S : St) (p0 : Int32) (hO : Ok S) : mCi l yX4_lose cX4_lose 3 (some .int) { frames := 3, cells := 0, slots := 0, locals := 63 } D dA am S [.int p0] (fun r S' => PB (sp_lose S p0) r S') := by
  refine m_head (by decide) rfl (Nat.le_of_ble_eq_true rfl) ?_
  intro p e s m below meth cd ls C0 hr hlk hK hM hS hl
  have hl : lv_has ls 3 [(0, .ref (am 0)), (1, .int p0)] := hl
  refine lv_aload_n C0.1 C0.2.1 dX4_lose_0 rfl (lv_at hl 0 rfl) ?_
  refine lv_iload_n C0.1 C0.2.1 dX4_lose_1 rfl (lv_at hl 1 rfl) ?_
  refine m_cp C0 hK hM (mm_lacks l D dA am S p0) 1 (lw_V q751 q753 qs19 q43 q754) rfl rfl hdd_lacks ⟨(Nat.le_of_ble_eq_true rfl), (Nat.le_of_ble_eq_true rfl)⟩ rfl hl.1 rfl (Nat.le_of_ble_eq_true rfl) dX4_lose_2 ⟨(Nat.le_of_ble_eq_true rfl), (Nat.le_of_ble_eq_true rfl)⟩ (fun r hr => ?_)
  subst hr
  refine lv_istore_n (lv' := [(2, .int (-(nI (lackN S p0)))), (0, .ref (am 0)), (1, .int p0)]) C0.1 C0.2.1 dX4_lose_5 rfl hl (by decide) rfl (fun ls hl => ?_)
  refine lv_iload_n C0.1 C0.2.1 dX4_lose_6 rfl (lv_at hl 0 rfl) ?_
  refine lv_if_ge (tgt := 16) C0.1 C0.2.1 dX4_lose_7 (by decide) (fun c_7 => ?_) (fun c_7 => ?_)
  · obtain ⟨j, hj, bj, rfl, hth, hon⟩ := onCam_t (lk0 c_7)
    refine lv_aload_n C0.1 C0.2.1 dX4_lose_16 rfl (lv_at hl 1 rfl) ?_
    refine m_geta C0 hK hM 1 (by decide) rfl q633 dX4_lose_17 ?_
    refine lv_iload_n C0.1 C0.2.1 dX4_lose_20 rfl (lv_at hl 2 rfl) ?_
    refine lv_iconst (v := 0) C0.1 C0.2.1 dX4_lose_21 (by decide) ?_
    refine m_zast C0 hK hM hS 1 j rfl rfl rfl (show j < 12 from (by omega)) (by decide) nar_z0 dX4_lose_22 (fun H locs hM hS => ?_)
    refine lv_iconst (v := 1) C0.1 C0.2.1 dX4_lose_23 (by decide) ?_
    exact m_iretS C0 hr hlk hM hS (PB.of (hon _)) dX4_lose_24
  · refine lv_aload_n C0.1 C0.2.1 dX4_lose_10 rfl (lv_at hl 1 rfl) ?_
    refine lv_iload_n C0.1 C0.2.1 dX4_lose_11 rfl (lv_at hl 0 rfl) ?_
    refine m_ci C0 hK hM hS (fun _ h => h) (mm_refuse l D dA am S (lackN S p0) (lackN_lt S p0)) 1 (lw_V q733 q735 qs18 q43 q736) rfl rfl hdd_refuse ⟨(Nat.le_of_ble_eq_true rfl), (Nat.le_of_ble_eq_true rfl)⟩ rfl hl.1 rfl (Nat.le_of_ble_eq_true rfl) dX4_lose_12 ⟨(Nat.le_of_ble_eq_true rfl), (Nat.le_of_ble_eq_true rfl)⟩ (fun r S' H locs hr hM hS _ => ?_)
    obtain ⟨rfl, rfl⟩ := hr
    exact m_iretS C0 hr hlk hM hS (PB.of (onCam_l (lk1 c_7))) dX4_lose_15
set_option maxHeartbeats 4000000 in
theorem mm_cutAt (l : Launch) (D : va_G) (dA : Nat → ClassId) (am : Nat → Nat) (S : St) (p0 p1 p2 : Int32) (hO : Ok S) : mCi l yX4_cutAt cX4_cutAt 6 (some .int) { frames := 3, cells := 0, slots := 0, locals := 63 } D dA am S [.int p0, .int p1, .int p2] (fun r S' => PB (sp_cutAt S p0 p1 p2) r S') := by
  refine m_head (by decide) rfl (Nat.le_of_ble_eq_true rfl) ?_
  intro p e s m below meth cd ls C0 hr hlk hK hM hS hl
  have hl : lv_has ls 6 [(0, .ref (am 0)), (1, .int p0), (2, .int p1), (3, .int p2)] := hl
  have hl2 := hO.len2
  have hl16 := hO.len16
  refine lv_aload_n C0.1 C0.2.1 dX4_cutAt_0 rfl (lv_at hl 0 rfl) ?_
  refine lv_iload_n C0.1 C0.2.1 dX4_cutAt_1 rfl (lv_at hl 1 rfl) ?_
  refine m_cp C0 hK hM (mm_lacks l D dA am S p0) 1 (lw_V q751 q753 qs19 q43 q754) rfl rfl hdd_lacks ⟨(Nat.le_of_ble_eq_true rfl), (Nat.le_of_ble_eq_true rfl)⟩ rfl hl.1 rfl (Nat.le_of_ble_eq_true rfl) dX4_cutAt_2 ⟨(Nat.le_of_ble_eq_true rfl), (Nat.le_of_ble_eq_true rfl)⟩ (fun r hr => ?_)
  subst hr
  refine lv_istore (lv' := [(4, .int (-(nI (lackN S p0)))), (0, .ref (am 0)), (1, .int p0), (2, .int p1), (3, .int p2)]) C0.1 C0.2.1 dX4_cutAt_5 hl (by decide) rfl (fun ls hl => ?_)
  refine lv_iload C0.1 C0.2.1 dX4_cutAt_7 (lv_at hl 0 rfl) ?_
  refine lv_if_ge (tgt := 19) C0.1 C0.2.1 dX4_cutAt_9 (by decide) (fun c_9 => ?_) (fun c_9 => ?_)
  · obtain ⟨j, hj, bj, rfl, hth, hon⟩ := onCam_t (lk0 c_9)
    refine lv_iload_n C0.1 C0.2.1 dX4_cutAt_19 rfl (lv_at hl 3 rfl) ?_
    refine lv_iconst (v := 0) C0.1 C0.2.1 dX4_cutAt_20 (by decide) ?_
    refine lv_aload_n C0.1 C0.2.1 dX4_cutAt_21 rfl (lv_at hl 1 rfl) ?_
    refine m_geti C0 hK hM 0 (by decide) rfl q632 dX4_cutAt_22 ?_
    refine tp_eq (y := nI (ln S)) (hO.len) ?_
    refine lv_iconst (v := 1) C0.1 C0.2.1 dX4_cutAt_25 (by decide) ?_
    refine lv_isub C0.1 C0.2.1 dX4_cutAt_26 ?_
    refine tp_eq (y := nI (ln S - 1)) (pk_sub (a := ln S) (b := 1) (by omega)) ?_
    refine st_call C0 (mm_in l p1 0 (nI (ln S - 1))) 3 (lw_S q744 q745 q43 q746) rfl rfl hdd_in ⟨(Nat.le_of_ble_eq_true rfl), (Nat.le_of_ble_eq_true rfl)⟩ rfl hl.1 rfl (Nat.le_of_ble_eq_true rfl) dX4_cutAt_27 ⟨(Nat.le_of_ble_eq_true rfl), (Nat.le_of_ble_eq_true rfl)⟩ (fun r hr => ?_)
    subst hr
    refine tp_eq (y := (if (inR p1 (ln S)).isSome = true then 1 else 0)) (b01_c (inR_len hO)) ?_
    refine lv_if_ne (tgt := 40) C0.1 C0.2.1 dX4_cutAt_30 (by decide) (fun c_30 => ?_) (fun c_30 => ?_)
    · have c_30 : (inR p1 (ln S)).isSome = true := b01_1.mp c_30
      obtain ⟨i, hi, bi, rfl⟩ := inR_get c_30 (by omega)
      refine lv_iload_n C0.1 C0.2.1 dX4_cutAt_40 rfl (lv_at hl 4 rfl) ?_
      refine lv_if_ge (tgt := 51) C0.1 C0.2.1 dX4_cutAt_41 (by decide) (fun c_41 => ?_) (fun c_41 => ?_)
      · refine lv_iload_n C0.1 C0.2.1 dX4_cutAt_51 rfl (lv_at hl 4 rfl) ?_
        refine lv_bipush (v := 9) C0.1 C0.2.1 dX4_cutAt_52 (by decide) ?_
        refine lv_icmp_le (tgt := 64) C0.1 C0.2.1 dX4_cutAt_54 (by decide) (fun c_54 => ?_) (fun c_54 => ?_)
        · refine lv_aload_n C0.1 C0.2.1 dX4_cutAt_64 rfl (lv_at hl 1 rfl) ?_
          refine m_geta C0 hK hM 2 (by decide) rfl q634 dX4_cutAt_65 ?_
          refine lv_bipush (v := 16) C0.1 C0.2.1 dX4_cutAt_68 (by decide) ?_
          refine lv_iload_n C0.1 C0.2.1 dX4_cutAt_70 rfl (lv_at hl 2 rfl) ?_
          refine lv_imul C0.1 C0.2.1 dX4_cutAt_71 ?_
          refine tp_eq (y := nI (16 * j)) (pk_mul 16 j) ?_
          refine lv_iload_n C0.1 C0.2.1 dX4_cutAt_72 rfl (lv_at hl 3 rfl) ?_
          refine lv_iadd C0.1 C0.2.1 dX4_cutAt_73 ?_
          refine tp_eq (y := nI (16 * j + i)) (nI_add (16 * j) i) ?_
          refine m_iald C0 hK hM 2 (16 * j + i) rfl rfl rfl (show 16 * j + i < 192 from (by omega)) (by decide) dX4_cutAt_74 ?_
          refine lv_istore (lv' := [(5, .int (S 2 (16 * j + i))), (4, .int (-(nI (lackN S (nI j))))), (0, .ref (am 0)), (1, .int (nI j)), (2, .int (nI i)), (3, .int p2)]) C0.1 C0.2.1 dX4_cutAt_75 hl (by decide) rfl (fun ls hl => ?_)
          refine lv_aload_n C0.1 C0.2.1 dX4_cutAt_77 rfl (lv_at hl 2 rfl) ?_
          refine m_geta C0 hK hM 2 (by decide) rfl q634 dX4_cutAt_78 ?_
          refine lv_bipush (v := 16) C0.1 C0.2.1 dX4_cutAt_81 (by decide) ?_
          refine lv_iload_n C0.1 C0.2.1 dX4_cutAt_83 rfl (lv_at hl 3 rfl) ?_
          refine lv_imul C0.1 C0.2.1 dX4_cutAt_84 ?_
          refine tp_eq (y := nI (16 * j)) (pk_mul 16 j) ?_
          refine lv_iload_n C0.1 C0.2.1 dX4_cutAt_85 rfl (lv_at hl 4 rfl) ?_
          refine lv_iadd C0.1 C0.2.1 dX4_cutAt_86 ?_
          refine tp_eq (y := nI (16 * j + i)) (nI_add (16 * j) i) ?_
          refine lv_iload_n C0.1 C0.2.1 dX4_cutAt_87 rfl (lv_at hl 5 rfl) ?_
          refine m_iast C0 hK hM hS 2 (16 * j + i) rfl rfl rfl (show 16 * j + i < 192 from (by omega)) (by decide) dX4_cutAt_88 (fun H locs hM hS => ?_)
          refine lv_iload C0.1 C0.2.1 dX4_cutAt_89 (lv_at hl 0 rfl) ?_
          exact m_iretS C0 hr hlk hM hS (PB.of ((hon _).trans (by (try dsimp only); rw [hi]; (try dsimp only); rw [if_neg (Int32.not_lt.mpr c_41), if_neg (Int32.not_lt.mpr c_54)]))) dX4_cutAt_91
        · refine lv_aload_n C0.1 C0.2.1 dX4_cutAt_57 rfl (lv_at hl 1 rfl) ?_
          refine lv_bipush (v := (-6)) C0.1 C0.2.1 dX4_cutAt_58 (by decide) ?_
          refine m_ci C0 hK hM hS (fun _ h => h) (mm_refuse l D dA am S 6 (by omega)) 1 (lw_V q733 q735 qs18 q43 q736) rfl rfl hdd_refuse ⟨(Nat.le_of_ble_eq_true rfl), (Nat.le_of_ble_eq_true rfl)⟩ rfl hl.1 rfl (Nat.le_of_ble_eq_true rfl) dX4_cutAt_60 ⟨(Nat.le_of_ble_eq_true rfl), (Nat.le_of_ble_eq_true rfl)⟩ (fun r S' H locs hr hM hS _ => ?_)
          obtain ⟨rfl, rfl⟩ := hr
          exact m_iretS C0 hr hlk hM hS (PB.of ((hon _).trans (by (try dsimp only); rw [hi]; (try dsimp only); rw [if_neg (Int32.not_lt.mpr c_41), if_pos (Int32.not_le.mp c_54)]; rfl))) dX4_cutAt_63
      · refine lv_aload_n C0.1 C0.2.1 dX4_cutAt_44 rfl (lv_at hl 1 rfl) ?_
        refine lv_bipush (v := (-4)) C0.1 C0.2.1 dX4_cutAt_45 (by decide) ?_
        refine m_ci C0 hK hM hS (fun _ h => h) (mm_refuse l D dA am S 4 (by omega)) 1 (lw_V q733 q735 qs18 q43 q736) rfl rfl hdd_refuse ⟨(Nat.le_of_ble_eq_true rfl), (Nat.le_of_ble_eq_true rfl)⟩ rfl hl.1 rfl (Nat.le_of_ble_eq_true rfl) dX4_cutAt_47 ⟨(Nat.le_of_ble_eq_true rfl), (Nat.le_of_ble_eq_true rfl)⟩ (fun r S' H locs hr hM hS _ => ?_)
        obtain ⟨rfl, rfl⟩ := hr
        exact m_iretS C0 hr hlk hM hS (PB.of ((hon _).trans (by (try dsimp only); rw [hi]; (try dsimp only); rw [if_pos (Int32.not_le.mp c_41)]; rfl))) dX4_cutAt_50
    · have c_30 : ¬ ((inR p1 (ln S)).isSome = true) := b01_0.mp c_30
      refine lv_aload_n C0.1 C0.2.1 dX4_cutAt_33 rfl (lv_at hl 1 rfl) ?_
      refine lv_bipush (v := (-7)) C0.1 C0.2.1 dX4_cutAt_34 (by decide) ?_
      refine m_ci C0 hK hM hS (fun _ h => h) (mm_refuse l D dA am S 7 (by omega)) 1 (lw_V q733 q735 qs18 q43 q736) rfl rfl hdd_refuse ⟨(Nat.le_of_ble_eq_true rfl), (Nat.le_of_ble_eq_true rfl)⟩ rfl hl.1 rfl (Nat.le_of_ble_eq_true rfl) dX4_cutAt_36 ⟨(Nat.le_of_ble_eq_true rfl), (Nat.le_of_ble_eq_true rfl)⟩ (fun r S' H locs hr hM hS _ => ?_)
      obtain ⟨rfl, rfl⟩ := hr
      exact m_iretS C0 hr hlk hM hS (PB.of ((hon _).trans (by (try dsimp only); rw [inR_none c_30]; rfl))) dX4_cutAt_39
  · refine lv_aload_n C0.1 C0.2.1 dX4_cutAt_12 rfl (lv_at hl 1 rfl) ?_
    refine lv_iload C0.1 C0.2.1 dX4_cutAt_13 (lv_at hl 0 rfl) ?_
    refine m_ci C0 hK hM hS (fun _ h => h) (mm_refuse l D dA am S (lackN S p0) (lackN_lt S p0)) 1 (lw_V q733 q735 qs18 q43 q736) rfl rfl hdd_refuse ⟨(Nat.le_of_ble_eq_true rfl), (Nat.le_of_ble_eq_true rfl)⟩ rfl hl.1 rfl (Nat.le_of_ble_eq_true rfl) dX4_cutAt_15 ⟨(Nat.le_of_ble_eq_true rfl), (Nat.le_of_ble_eq_true rfl)⟩ (fun r S' H locs hr hM hS _ => ?_)
    obtain ⟨rfl, rfl⟩ := hr
    exact m_iretS C0 hr hlk hM hS (PB.of (onCam_l (lk1 c_9))) dX4_cutAt_18
set_option maxHeartbeats 4000000 in
theorem mm_height (l : Launch) (D : va_G) (dA : Nat → ClassId) (am : Nat → Nat) (S : St) (p0 p1 : Int32) (hO : Ok S) : mCi l yX4_height cX4_height 4 (some .int) { frames := 3, cells := 0, slots := 0, locals := 63 } D dA am S [.int p0, .int p1] (fun r S' => PB (sp_height S p0 p1) r S') := by
  refine m_head (by decide) rfl (Nat.le_of_ble_eq_true rfl) ?_
  intro p e s m below meth cd ls C0 hr hlk hK hM hS hl
  have hl : lv_has ls 4 [(0, .ref (am 0)), (1, .int p0), (2, .int p1)] := hl
  have hl2 := hO.len2
  have hl16 := hO.len16
  refine lv_aload_n C0.1 C0.2.1 dX4_height_0 rfl (lv_at hl 0 rfl) ?_
  refine lv_iload_n C0.1 C0.2.1 dX4_height_1 rfl (lv_at hl 1 rfl) ?_
  refine m_cp C0 hK hM (mm_lacks l D dA am S p0) 1 (lw_V q751 q753 qs19 q43 q754) rfl rfl hdd_lacks ⟨(Nat.le_of_ble_eq_true rfl), (Nat.le_of_ble_eq_true rfl)⟩ rfl hl.1 rfl (Nat.le_of_ble_eq_true rfl) dX4_height_2 ⟨(Nat.le_of_ble_eq_true rfl), (Nat.le_of_ble_eq_true rfl)⟩ (fun r hr => ?_)
  subst hr
  refine lv_istore_n (lv' := [(3, .int (-(nI (lackN S p0)))), (0, .ref (am 0)), (1, .int p0), (2, .int p1)]) C0.1 C0.2.1 dX4_height_5 rfl hl (by decide) rfl (fun ls hl => ?_)
  refine lv_iload_n C0.1 C0.2.1 dX4_height_6 rfl (lv_at hl 0 rfl) ?_
  refine lv_if_ge (tgt := 16) C0.1 C0.2.1 dX4_height_7 (by decide) (fun c_7 => ?_) (fun c_7 => ?_)
  · obtain ⟨j, hj, bj, rfl, hth, hon⟩ := onCam_t (lk0 c_7)
    refine lv_iload_n C0.1 C0.2.1 dX4_height_16 rfl (lv_at hl 3 rfl) ?_
    refine lv_iconst (v := 0) C0.1 C0.2.1 dX4_height_17 (by decide) ?_
    refine lv_aload_n C0.1 C0.2.1 dX4_height_18 rfl (lv_at hl 1 rfl) ?_
    refine m_geti C0 hK hM 0 (by decide) rfl q632 dX4_height_19 ?_
    refine tp_eq (y := nI (ln S)) (hO.len) ?_
    refine lv_iconst (v := 1) C0.1 C0.2.1 dX4_height_22 (by decide) ?_
    refine lv_isub C0.1 C0.2.1 dX4_height_23 ?_
    refine tp_eq (y := nI (ln S - 1)) (pk_sub (a := ln S) (b := 1) (by omega)) ?_
    refine st_call C0 (mm_in l p1 0 (nI (ln S - 1))) 3 (lw_S q744 q745 q43 q746) rfl rfl hdd_in ⟨(Nat.le_of_ble_eq_true rfl), (Nat.le_of_ble_eq_true rfl)⟩ rfl hl.1 rfl (Nat.le_of_ble_eq_true rfl) dX4_height_24 ⟨(Nat.le_of_ble_eq_true rfl), (Nat.le_of_ble_eq_true rfl)⟩ (fun r hr => ?_)
    subst hr
    refine tp_eq (y := (if (inR p1 (ln S)).isSome = true then 1 else 0)) (b01_c (inR_len hO)) ?_
    refine lv_if_eq (tgt := 44) C0.1 C0.2.1 dX4_height_27 (by decide) (fun c_27 => ?_) (fun c_27 => ?_)
    · have c_27 : ¬ ((inR p1 (ln S)).isSome = true) := b01_0.mp c_27
      refine lv_aload_n C0.1 C0.2.1 dX4_height_44 rfl (lv_at hl 1 rfl) ?_
      refine lv_bipush (v := (-7)) C0.1 C0.2.1 dX4_height_45 (by decide) ?_
      refine m_ci C0 hK hM hS (fun _ h => h) (mm_refuse l D dA am S 7 (by omega)) 1 (lw_V q733 q735 qs18 q43 q736) rfl rfl hdd_refuse ⟨(Nat.le_of_ble_eq_true rfl), (Nat.le_of_ble_eq_true rfl)⟩ rfl hl.1 rfl (Nat.le_of_ble_eq_true rfl) dX4_height_47 ⟨(Nat.le_of_ble_eq_true rfl), (Nat.le_of_ble_eq_true rfl)⟩ (fun r S' H locs hr hM hS _ => ?_)
      obtain ⟨rfl, rfl⟩ := hr
      exact m_iretS C0 hr hlk hM hS (PB.of ((hon _).trans (by (try dsimp only); rw [inR_none c_27]; rfl))) dX4_height_50
    · have c_27 : (inR p1 (ln S)).isSome = true := b01_1.mp c_27
      obtain ⟨i, hi, bi, rfl⟩ := inR_get c_27 (by omega)
      refine lv_aload_n C0.1 C0.2.1 dX4_height_30 rfl (lv_at hl 1 rfl) ?_
      refine m_geta C0 hK hM 2 (by decide) rfl q634 dX4_height_31 ?_
      refine lv_bipush (v := 16) C0.1 C0.2.1 dX4_height_34 (by decide) ?_
      refine lv_iload_n C0.1 C0.2.1 dX4_height_36 rfl (lv_at hl 2 rfl) ?_
      refine lv_imul C0.1 C0.2.1 dX4_height_37 ?_
      refine tp_eq (y := nI (16 * j)) (pk_mul 16 j) ?_
      refine lv_iload_n C0.1 C0.2.1 dX4_height_38 rfl (lv_at hl 3 rfl) ?_
      refine lv_iadd C0.1 C0.2.1 dX4_height_39 ?_
      refine tp_eq (y := nI (16 * j + i)) (nI_add (16 * j) i) ?_
      refine m_iald C0 hK hM 2 (16 * j + i) rfl rfl rfl (show 16 * j + i < 192 from (by omega)) (by decide) dX4_height_40 ?_
      refine lv_goto (tgt := 50) C0.1 C0.2.1 dX4_height_41 (by decide) ?_
      exact m_iretS C0 hr hlk hM hS (PB.of ((hon _).trans (by (try dsimp only); rw [hi]))) dX4_height_50
  · refine lv_aload_n C0.1 C0.2.1 dX4_height_10 rfl (lv_at hl 1 rfl) ?_
    refine lv_iload_n C0.1 C0.2.1 dX4_height_11 rfl (lv_at hl 0 rfl) ?_
    refine m_ci C0 hK hM hS (fun _ h => h) (mm_refuse l D dA am S (lackN S p0) (lackN_lt S p0)) 1 (lw_V q733 q735 qs18 q43 q736) rfl rfl hdd_refuse ⟨(Nat.le_of_ble_eq_true rfl), (Nat.le_of_ble_eq_true rfl)⟩ rfl hl.1 rfl (Nat.le_of_ble_eq_true rfl) dX4_height_12 ⟨(Nat.le_of_ble_eq_true rfl), (Nat.le_of_ble_eq_true rfl)⟩ (fun r S' H locs hr hM hS _ => ?_)
    obtain ⟨rfl, rfl⟩ := hr
    exact m_iretS C0 hr hlk hM hS (PB.of (onCam_l (lk1 c_7))) dX4_height_15
set_option maxHeartbeats 4000000 in
theorem mm_letter (l : Launch) (D : va_G) (dA : Nat → ClassId) (am : Nat → Nat) (S : St) (p0 p1 p2 p3 : Int32) (hO : Ok S) : mCi l yX4_letter cX4_letter 5 (some .int) { frames := 2, cells := 0, slots := 0, locals := 42 } D dA am S [.int p0, .int p1, .int p2, .int p3] (fun r S' => PB (sp_letter S p0 p1 p2 p3) r S') := by
  refine m_head (by decide) rfl (Nat.le_of_ble_eq_true rfl) ?_
  intro p e s m below meth cd ls C0 hr hlk hK hM hS hl
  have hl : lv_has ls 5 [(0, .ref (am 0)), (1, .int p0), (2, .int p1), (3, .int p2), (4, .int p3)] := hl
  refine lv_iload_n C0.1 C0.2.1 dX4_letter_0 rfl (lv_at hl 1 rfl) ?_
  refine lv_iconst (v := 0) C0.1 C0.2.1 dX4_letter_1 (by decide) ?_
  refine lv_bipush (v := 9) C0.1 C0.2.1 dX4_letter_2 (by decide) ?_
  refine st_call C0 (mm_in l p0 0 9) 3 (lw_S q744 q745 q43 q746) rfl rfl hdd_in ⟨(Nat.le_of_ble_eq_true rfl), (Nat.le_of_ble_eq_true rfl)⟩ rfl hl.1 rfl (Nat.le_of_ble_eq_true rfl) dX4_letter_4 ⟨(Nat.le_of_ble_eq_true rfl), (Nat.le_of_ble_eq_true rfl)⟩ (fun r hr => ?_)
  subst hr
  refine tp_eq (y := (if (inR p0 10).isSome = true then 1 else 0)) (b01_c (inR_le (n := 10) (by decide))) ?_
  refine lv_if_eq (tgt := 32) C0.1 C0.2.1 dX4_letter_7 (by decide) (fun c_7 => ?_) (fun c_7 => ?_)
  · have c_7 : ¬ ((inR p0 10).isSome = true) := b01_0.mp c_7
    refine lv_aload_n C0.1 C0.2.1 dX4_letter_32 rfl (lv_at hl 0 rfl) ?_
    refine lv_iconst (v := (-1)) C0.1 C0.2.1 dX4_letter_33 (by decide) ?_
    refine m_ci C0 hK hM hS (fun _ h => h) (mm_refuse l D dA am S 1 (by omega)) 1 (lw_V q733 q735 qs18 q43 q736) rfl rfl hdd_refuse ⟨(Nat.le_of_ble_eq_true rfl), (Nat.le_of_ble_eq_true rfl)⟩ rfl hl.1 rfl (Nat.le_of_ble_eq_true rfl) dX4_letter_34 ⟨(Nat.le_of_ble_eq_true rfl), (Nat.le_of_ble_eq_true rfl)⟩ (fun r S' H locs hr hM hS _ => ?_)
    obtain ⟨rfl, rfl⟩ := hr
    exact m_iretS C0 hr hlk hM hS (PB.of (letter_1 (inR_none c_7))) dX4_letter_37
  · have c_7 : (inR p0 10).isSome = true := b01_1.mp c_7
    refine lv_iload_n C0.1 C0.2.1 dX4_letter_10 rfl (lv_at hl 2 rfl) ?_
    refine st_call C0 (mm_isCam l p1) 1 (lw_S q741 q742 q43 q743) rfl rfl hdd_isCam ⟨(Nat.le_of_ble_eq_true rfl), (Nat.le_of_ble_eq_true rfl)⟩ rfl hl.1 rfl (Nat.le_of_ble_eq_true rfl) dX4_letter_11 ⟨(Nat.le_of_ble_eq_true rfl), (Nat.le_of_ble_eq_true rfl)⟩ (fun r hr => ?_)
    subst hr
    refine lv_if_eq (tgt := 32) C0.1 C0.2.1 dX4_letter_14 (by decide) (fun c_14 => ?_) (fun c_14 => ?_)
    · have c_14 : ¬ ((inR p1 12).isSome = true) := b01_0.mp c_14
      refine lv_aload_n C0.1 C0.2.1 dX4_letter_32 rfl (lv_at hl 0 rfl) ?_
      refine lv_iconst (v := (-1)) C0.1 C0.2.1 dX4_letter_33 (by decide) ?_
      refine m_ci C0 hK hM hS (fun _ h => h) (mm_refuse l D dA am S 1 (by omega)) 1 (lw_V q733 q735 qs18 q43 q736) rfl rfl hdd_refuse ⟨(Nat.le_of_ble_eq_true rfl), (Nat.le_of_ble_eq_true rfl)⟩ rfl hl.1 rfl (Nat.le_of_ble_eq_true rfl) dX4_letter_34 ⟨(Nat.le_of_ble_eq_true rfl), (Nat.le_of_ble_eq_true rfl)⟩ (fun r S' H locs hr hM hS _ => ?_)
      obtain ⟨rfl, rfl⟩ := hr
      exact m_iretS C0 hr hlk hM hS (PB.of (letter_2 (inR_none c_14))) dX4_letter_37
    · have c_14 : (inR p1 12).isSome = true := b01_1.mp c_14
      refine lv_iload_n C0.1 C0.2.1 dX4_letter_17 rfl (lv_at hl 3 rfl) ?_
      refine st_call C0 (mm_isCam l p2) 1 (lw_S q741 q742 q43 q743) rfl rfl hdd_isCam ⟨(Nat.le_of_ble_eq_true rfl), (Nat.le_of_ble_eq_true rfl)⟩ rfl hl.1 rfl (Nat.le_of_ble_eq_true rfl) dX4_letter_18 ⟨(Nat.le_of_ble_eq_true rfl), (Nat.le_of_ble_eq_true rfl)⟩ (fun r hr => ?_)
      subst hr
      refine lv_if_eq (tgt := 32) C0.1 C0.2.1 dX4_letter_21 (by decide) (fun c_21 => ?_) (fun c_21 => ?_)
      · have c_21 : ¬ ((inR p2 12).isSome = true) := b01_0.mp c_21
        refine lv_aload_n C0.1 C0.2.1 dX4_letter_32 rfl (lv_at hl 0 rfl) ?_
        refine lv_iconst (v := (-1)) C0.1 C0.2.1 dX4_letter_33 (by decide) ?_
        refine m_ci C0 hK hM hS (fun _ h => h) (mm_refuse l D dA am S 1 (by omega)) 1 (lw_V q733 q735 qs18 q43 q736) rfl rfl hdd_refuse ⟨(Nat.le_of_ble_eq_true rfl), (Nat.le_of_ble_eq_true rfl)⟩ rfl hl.1 rfl (Nat.le_of_ble_eq_true rfl) dX4_letter_34 ⟨(Nat.le_of_ble_eq_true rfl), (Nat.le_of_ble_eq_true rfl)⟩ (fun r S' H locs hr hM hS _ => ?_)
        obtain ⟨rfl, rfl⟩ := hr
        exact m_iretS C0 hr hlk hM hS (PB.of (letter_3 (inR_none c_21))) dX4_letter_37
      · have c_21 : (inR p2 12).isSome = true := b01_1.mp c_21
        refine lv_iload C0.1 C0.2.1 dX4_letter_24 (lv_at hl 4 rfl) ?_
        refine st_call C0 (mm_isCam l p3) 1 (lw_S q741 q742 q43 q743) rfl rfl hdd_isCam ⟨(Nat.le_of_ble_eq_true rfl), (Nat.le_of_ble_eq_true rfl)⟩ rfl hl.1 rfl (Nat.le_of_ble_eq_true rfl) dX4_letter_26 ⟨(Nat.le_of_ble_eq_true rfl), (Nat.le_of_ble_eq_true rfl)⟩ (fun r hr => ?_)
        subst hr
        refine lv_if_ne (tgt := 38) C0.1 C0.2.1 dX4_letter_29 (by decide) (fun c_29 => ?_) (fun c_29 => ?_)
        · have c_29 : (inR p3 12).isSome = true := b01_1.mp c_29
          obtain ⟨x, hx, bx, rfl⟩ := inR_get c_7 (by decide)
          obtain ⟨a, ha, -⟩ := inR_get c_14 (by decide)
          obtain ⟨u, hu, -⟩ := inR_get c_21 (by decide)
          obtain ⟨f, hf, -⟩ := inR_get c_29 (by decide)
          refine lv_aload_n C0.1 C0.2.1 dX4_letter_38 rfl (lv_at hl 0 rfl) ?_
          refine m_geta C0 hK hM 3 (by decide) rfl q635 dX4_letter_39 ?_
          refine lv_iload_n C0.1 C0.2.1 dX4_letter_42 rfl (lv_at hl 1 rfl) ?_
          refine lv_iload_n C0.1 C0.2.1 dX4_letter_43 rfl (lv_at hl 2 rfl) ?_
          refine m_iast C0 hK hM hS 3 x rfl rfl rfl (show x < 10 from (by omega)) (by decide) dX4_letter_44 (fun H locs hM hS => ?_)
          refine lv_aload_n C0.1 C0.2.1 dX4_letter_45 rfl (lv_at hl 0 rfl) ?_
          refine m_geta C0 hK hM 4 (by decide) rfl q636 dX4_letter_46 ?_
          refine lv_iload_n C0.1 C0.2.1 dX4_letter_49 rfl (lv_at hl 1 rfl) ?_
          refine lv_iload_n C0.1 C0.2.1 dX4_letter_50 rfl (lv_at hl 3 rfl) ?_
          refine m_iast C0 hK hM hS 4 x rfl rfl rfl (show x < 10 from (by omega)) (by decide) dX4_letter_51 (fun H locs hM hS => ?_)
          refine lv_aload_n C0.1 C0.2.1 dX4_letter_52 rfl (lv_at hl 0 rfl) ?_
          refine m_geta C0 hK hM 5 (by decide) rfl q637 dX4_letter_53 ?_
          refine lv_iload_n C0.1 C0.2.1 dX4_letter_56 rfl (lv_at hl 1 rfl) ?_
          refine lv_iload C0.1 C0.2.1 dX4_letter_57 (lv_at hl 4 rfl) ?_
          refine m_iast C0 hK hM hS 5 x rfl rfl rfl (show x < 10 from (by omega)) (by decide) dX4_letter_59 (fun H locs hM hS => ?_)
          refine lv_iconst (v := 1) C0.1 C0.2.1 dX4_letter_60 (by decide) ?_
          exact m_iretS C0 hr hlk hM hS (PB.of (letter_some hx ha hu hf)) dX4_letter_61
        · have c_29 : ¬ ((inR p3 12).isSome = true) := b01_0.mp c_29
          refine lv_aload_n C0.1 C0.2.1 dX4_letter_32 rfl (lv_at hl 0 rfl) ?_
          refine lv_iconst (v := (-1)) C0.1 C0.2.1 dX4_letter_33 (by decide) ?_
          refine m_ci C0 hK hM hS (fun _ h => h) (mm_refuse l D dA am S 1 (by omega)) 1 (lw_V q733 q735 qs18 q43 q736) rfl rfl hdd_refuse ⟨(Nat.le_of_ble_eq_true rfl), (Nat.le_of_ble_eq_true rfl)⟩ rfl hl.1 rfl (Nat.le_of_ble_eq_true rfl) dX4_letter_34 ⟨(Nat.le_of_ble_eq_true rfl), (Nat.le_of_ble_eq_true rfl)⟩ (fun r S' H locs hr hM hS _ => ?_)
          obtain ⟨rfl, rfl⟩ := hr
          exact m_iretS C0 hr hlk hM hS (PB.of (letter_4 (inR_none c_29))) dX4_letter_37
set_option maxHeartbeats 4000000 in
theorem mm_isCut (l : Launch) (D : va_G) (dA : Nat → ClassId) (am : Nat → Nat) (S : St) (p0 : Int32) (hO : Ok S) : mCi l yX4_isCut cX4_isCut 2 (some .int) { frames := 1, cells := 0, slots := 0, locals := 22 } D dA am S [.int p0] (fun r S' => PB (sp_isCut S p0) r S') := by
  refine m_head (by decide) rfl (Nat.le_of_ble_eq_true rfl) ?_
  intro p e s m below meth cd ls C0 hr hlk hK hM hS hl
  have hl : lv_has ls 2 [(0, .ref (am 0)), (1, .int p0)] := hl
  refine lv_iload_n C0.1 C0.2.1 dX4_isCut_0 rfl (lv_at hl 1 rfl) ?_
  refine lv_iconst (v := 0) C0.1 C0.2.1 dX4_isCut_1 (by decide) ?_
  refine lv_bipush (v := 9) C0.1 C0.2.1 dX4_isCut_2 (by decide) ?_
  refine st_call C0 (mm_in l p0 0 9) 3 (lw_S q744 q745 q43 q746) rfl rfl hdd_in ⟨(Nat.le_of_ble_eq_true rfl), (Nat.le_of_ble_eq_true rfl)⟩ rfl hl.1 rfl (Nat.le_of_ble_eq_true rfl) dX4_isCut_4 ⟨(Nat.le_of_ble_eq_true rfl), (Nat.le_of_ble_eq_true rfl)⟩ (fun r hr => ?_)
  subst hr
  refine tp_eq (y := (if (inR p0 10).isSome = true then 1 else 0)) (b01_c (inR_le (n := 10) (by decide))) ?_
  refine lv_if_eq (tgt := 26) C0.1 C0.2.1 dX4_isCut_7 (by decide) (fun c_7 => ?_) (fun c_7 => ?_)
  · have c_7 : ¬ ((inR p0 10).isSome = true) := b01_0.mp c_7
    refine lv_aload_n C0.1 C0.2.1 dX4_isCut_26 rfl (lv_at hl 0 rfl) ?_
    refine lv_iconst (v := (-1)) C0.1 C0.2.1 dX4_isCut_27 (by decide) ?_
    refine m_ci C0 hK hM hS (fun _ h => h) (mm_refuse l D dA am S 1 (by omega)) 1 (lw_V q733 q735 qs18 q43 q736) rfl rfl hdd_refuse ⟨(Nat.le_of_ble_eq_true rfl), (Nat.le_of_ble_eq_true rfl)⟩ rfl hl.1 rfl (Nat.le_of_ble_eq_true rfl) dX4_isCut_28 ⟨(Nat.le_of_ble_eq_true rfl), (Nat.le_of_ble_eq_true rfl)⟩ (fun r S' H locs hr hM hS _ => ?_)
    obtain ⟨rfl, rfl⟩ := hr
    exact m_iretS C0 hr hlk hM hS (PB.of (by unfold sp_isCut; rw [inR_none c_7]; rfl)) dX4_isCut_31
  · have c_7 : (inR p0 10).isSome = true := b01_1.mp c_7
    obtain ⟨j, hj, bj, rfl⟩ := inR_get c_7 (by decide)
    refine lv_aload_n C0.1 C0.2.1 dX4_isCut_10 rfl (lv_at hl 0 rfl) ?_
    refine lv_iload_n C0.1 C0.2.1 dX4_isCut_11 rfl (lv_at hl 1 rfl) ?_
    refine m_cp C0 hK hM (mm_isCutLetter l D dA am S j hO (by omega)) 1 (lw_V q799 q801 qs23 q43 q802) rfl rfl hdd_isCutLetter ⟨(Nat.le_of_ble_eq_true rfl), (Nat.le_of_ble_eq_true rfl)⟩ rfl hl.1 rfl (Nat.le_of_ble_eq_true rfl) dX4_isCut_12 ⟨(Nat.le_of_ble_eq_true rfl), (Nat.le_of_ble_eq_true rfl)⟩ (fun r hr => ?_)
    subst hr
    refine lv_if_eq (tgt := 22) C0.1 C0.2.1 dX4_isCut_15 (by decide) (fun c_15 => ?_) (fun c_15 => ?_)
    · have c_15 : ¬ (isCutL S j = true) := b01_0.mp c_15
      refine lv_iconst (v := 0) C0.1 C0.2.1 dX4_isCut_22 (by decide) ?_
      refine lv_goto (tgt := 31) C0.1 C0.2.1 dX4_isCut_23 (by decide) ?_
      exact m_iretS C0 hr hlk hM hS (PB.of (by unfold sp_isCut; rw [hj]; (try dsimp only); rw [if_neg c_15])) dX4_isCut_31
    · have c_15 : isCutL S j = true := b01_1.mp c_15
      refine lv_iconst (v := 1) C0.1 C0.2.1 dX4_isCut_18 (by decide) ?_
      refine lv_goto (tgt := 31) C0.1 C0.2.1 dX4_isCut_19 (by decide) ?_
      exact m_iretS C0 hr hlk hM hS (PB.of (by unfold sp_isCut; rw [hj]; (try dsimp only); rw [if_pos c_15])) dX4_isCut_31
set_option maxHeartbeats 4000000 in
theorem mm_peg (l : Launch) (D : va_G) (dA : Nat → ClassId) (am : Nat → Nat) (S : St) (p0 : Int32) (hO : Ok S) : mCi l yX4_peg cX4_peg 2 (some .int) { frames := 1, cells := 0, slots := 0, locals := 22 } D dA am S [.int p0] (fun r S' => PB (sp_peg S p0) r S') := by
  refine m_head (by decide) rfl (Nat.le_of_ble_eq_true rfl) ?_
  intro p e s m below meth cd ls C0 hr hlk hK hM hS hl
  have hl : lv_has ls 2 [(0, .ref (am 0)), (1, .int p0)] := hl
  have hp12 := hO.pg12
  refine lv_iload_n C0.1 C0.2.1 dX4_peg_0 rfl (lv_at hl 1 rfl) ?_
  refine lv_iconst (v := 0) C0.1 C0.2.1 dX4_peg_1 (by decide) ?_
  refine lv_bipush (v := 9) C0.1 C0.2.1 dX4_peg_2 (by decide) ?_
  refine st_call C0 (mm_in l p0 0 9) 3 (lw_S q744 q745 q43 q746) rfl rfl hdd_in ⟨(Nat.le_of_ble_eq_true rfl), (Nat.le_of_ble_eq_true rfl)⟩ rfl hl.1 rfl (Nat.le_of_ble_eq_true rfl) dX4_peg_4 ⟨(Nat.le_of_ble_eq_true rfl), (Nat.le_of_ble_eq_true rfl)⟩ (fun r hr => ?_)
  subst hr
  refine tp_eq (y := (if (inR p0 10).isSome = true then 1 else 0)) (b01_c (inR_le (n := 10) (by decide))) ?_
  refine lv_if_ne (tgt := 16) C0.1 C0.2.1 dX4_peg_7 (by decide) (fun c_7 => ?_) (fun c_7 => ?_)
  · have c_7 : (inR p0 10).isSome = true := b01_1.mp c_7
    obtain ⟨j, hj, bj, rfl⟩ := inR_get c_7 (by decide)
    refine lv_aload_n C0.1 C0.2.1 dX4_peg_16 rfl (lv_at hl 0 rfl) ?_
    refine m_geti C0 hK hM 6 (by decide) rfl q638 dX4_peg_17 ?_
    refine tp_eq (y := nI (pg S)) (hO.pgE) ?_
    refine lv_bipush (v := 12) C0.1 C0.2.1 dX4_peg_20 (by decide) ?_
    refine lv_icmp_ne (tgt := 32) C0.1 C0.2.1 dX4_peg_22 (by decide) (fun c_22 => ?_) (fun c_22 => ?_)
    · have n_22 : ¬ pg S = 12 := fun z => c_22 ((nI_eq (a := pg S) (b := 12) (by omega) (by omega)).mpr z)
      refine lv_aload_n C0.1 C0.2.1 dX4_peg_32 rfl (lv_at hl 0 rfl) ?_
      refine m_geta C0 hK hM 7 (by decide) rfl q639 dX4_peg_33 ?_
      refine lv_aload_n C0.1 C0.2.1 dX4_peg_36 rfl (lv_at hl 0 rfl) ?_
      refine m_geti C0 hK hM 6 (by decide) rfl q638 dX4_peg_37 ?_
      refine tp_eq (y := nI (pg S)) (hO.pgE) ?_
      refine lv_iload_n C0.1 C0.2.1 dX4_peg_40 rfl (lv_at hl 1 rfl) ?_
      refine m_iast C0 hK hM hS 7 (pg S) rfl rfl rfl (show pg S < 12 from (by omega)) (by decide) dX4_peg_41 (fun H locs hM hS => ?_)
      refine lv_aload_n C0.1 C0.2.1 dX4_peg_42 rfl (lv_at hl 0 rfl) ?_
      refine lv_dup C0.1 C0.2.1 dX4_peg_43 rfl ?_
      refine m_geti C0 hK hM 6 (by decide) rfl q638 dX4_peg_44 ?_
      refine tp_eq (y := S 0 6) (by rw [up2_ne _ _ (Or.inl (by decide))]) ?_
      refine lv_iconst (v := 1) C0.1 C0.2.1 dX4_peg_47 (by decide) ?_
      refine lv_iadd C0.1 C0.2.1 dX4_peg_48 ?_
      refine m_put C0 hK hM hS 6 (by decide) rfl q638 rfl rfl dX4_peg_49 (fun H locs hM hS => ?_)
      refine lv_aload_n C0.1 C0.2.1 dX4_peg_52 rfl (lv_at hl 0 rfl) ?_
      refine m_geti C0 hK hM 6 (by decide) rfl q638 dX4_peg_53 ?_
      refine tp_eq (y := ((S 0 6) + 1)) (by rw [up2_self]) ?_
      exact m_iretS C0 hr hlk hM hS (PB.of (by unfold sp_peg; rw [hj]; (try dsimp only); rw [if_neg (fun z => c_22 (hO.pgE.symm.trans z))])) dX4_peg_56
    · have n_22 : pg S = 12 := (nI_eq (a := pg S) (b := 12) (by omega) (by omega)).mp c_22
      refine lv_aload_n C0.1 C0.2.1 dX4_peg_25 rfl (lv_at hl 0 rfl) ?_
      refine lv_bipush (v := (-6)) C0.1 C0.2.1 dX4_peg_26 (by decide) ?_
      refine m_ci C0 hK hM hS (fun _ h => h) (mm_refuse l D dA am S 6 (by omega)) 1 (lw_V q733 q735 qs18 q43 q736) rfl rfl hdd_refuse ⟨(Nat.le_of_ble_eq_true rfl), (Nat.le_of_ble_eq_true rfl)⟩ rfl hl.1 rfl (Nat.le_of_ble_eq_true rfl) dX4_peg_28 ⟨(Nat.le_of_ble_eq_true rfl), (Nat.le_of_ble_eq_true rfl)⟩ (fun r S' H locs hr hM hS _ => ?_)
      obtain ⟨rfl, rfl⟩ := hr
      exact m_iretS C0 hr hlk hM hS (PB.of (by unfold sp_peg; rw [hj]; (try dsimp only); rw [if_pos (hO.pgE.trans c_22)]; rfl)) dX4_peg_31
  · have c_7 : ¬ ((inR p0 10).isSome = true) := b01_0.mp c_7
    refine lv_aload_n C0.1 C0.2.1 dX4_peg_10 rfl (lv_at hl 0 rfl) ?_
    refine lv_iconst (v := (-1)) C0.1 C0.2.1 dX4_peg_11 (by decide) ?_
    refine m_ci C0 hK hM hS (fun _ h => h) (mm_refuse l D dA am S 1 (by omega)) 1 (lw_V q733 q735 qs18 q43 q736) rfl rfl hdd_refuse ⟨(Nat.le_of_ble_eq_true rfl), (Nat.le_of_ble_eq_true rfl)⟩ rfl hl.1 rfl (Nat.le_of_ble_eq_true rfl) dX4_peg_12 ⟨(Nat.le_of_ble_eq_true rfl), (Nat.le_of_ble_eq_true rfl)⟩ (fun r S' H locs hr hM hS _ => ?_)
    obtain ⟨rfl, rfl⟩ := hr
    exact m_iretS C0 hr hlk hM hS (PB.of (by unfold sp_peg; rw [inR_none c_7]; rfl)) dX4_peg_15
set_option maxHeartbeats 4000000 in
theorem mm_unpeg (l : Launch) (D : va_G) (dA : Nat → ClassId) (am : Nat → Nat) (S : St)  (hO : Ok S) : mCi l yX4_unpeg cX4_unpeg 1 (some .int) { frames := 1, cells := 0, slots := 0, locals := 21 } D dA am S [] (fun r S' => PB (sp_unpeg S) r S') := by
  refine m_head (by decide) rfl (Nat.le_of_ble_eq_true rfl) ?_
  intro p e s m below meth cd ls C0 hr hlk hK hM hS hl
  have hl : lv_has ls 1 [(0, .ref (am 0))] := hl
  refine lv_aload_n C0.1 C0.2.1 dX4_unpeg_0 rfl (lv_at hl 0 rfl) ?_
  refine m_geti C0 hK hM 6 (by decide) rfl q638 dX4_unpeg_1 ?_
  refine lv_if_ne (tgt := 14) C0.1 C0.2.1 dX4_unpeg_4 (by decide) (fun c_4 => ?_) (fun c_4 => ?_)
  · refine lv_aload_n C0.1 C0.2.1 dX4_unpeg_14 rfl (lv_at hl 0 rfl) ?_
    refine lv_dup C0.1 C0.2.1 dX4_unpeg_15 rfl ?_
    refine m_geti C0 hK hM 6 (by decide) rfl q638 dX4_unpeg_16 ?_
    refine lv_iconst (v := 1) C0.1 C0.2.1 dX4_unpeg_19 (by decide) ?_
    refine lv_isub C0.1 C0.2.1 dX4_unpeg_20 ?_
    refine m_put C0 hK hM hS 6 (by decide) rfl q638 rfl rfl dX4_unpeg_21 (fun H locs hM hS => ?_)
    refine lv_aload_n C0.1 C0.2.1 dX4_unpeg_24 rfl (lv_at hl 0 rfl) ?_
    refine m_geti C0 hK hM 6 (by decide) rfl q638 dX4_unpeg_25 ?_
    refine tp_eq (y := ((S 0 6) - 1)) (by rw [up2_self]) ?_
    exact m_iretS C0 hr hlk hM hS (PB.of (by unfold sp_unpeg; rw [if_neg c_4])) dX4_unpeg_28
  · refine lv_aload_n C0.1 C0.2.1 dX4_unpeg_7 rfl (lv_at hl 0 rfl) ?_
    refine lv_bipush (v := (-3)) C0.1 C0.2.1 dX4_unpeg_8 (by decide) ?_
    refine m_ci C0 hK hM hS (fun _ h => h) (mm_refuse l D dA am S 3 (by omega)) 1 (lw_V q733 q735 qs18 q43 q736) rfl rfl hdd_refuse ⟨(Nat.le_of_ble_eq_true rfl), (Nat.le_of_ble_eq_true rfl)⟩ rfl hl.1 rfl (Nat.le_of_ble_eq_true rfl) dX4_unpeg_10 ⟨(Nat.le_of_ble_eq_true rfl), (Nat.le_of_ble_eq_true rfl)⟩ (fun r S' H locs hr hM hS _ => ?_)
    obtain ⟨rfl, rfl⟩ := hr
    exact m_iretS C0 hr hlk hM hS (PB.of (by unfold sp_unpeg; rw [if_pos c_4]; rfl)) dX4_unpeg_13
set_option maxHeartbeats 4000000 in
theorem mm_advance (l : Launch) (D : va_G) (dA : Nat → ClassId) (am : Nat → Nat) (S : St) (p0 : Int32) (hO : Ok S) : mCi l yX4_advance cX4_advance 3 (some .int) { frames := 1, cells := 0, slots := 0, locals := 21 } D dA am S [.int p0] (fun r S' => PB (sp_advance S p0) r S') := by
  refine m_head (by decide) rfl (Nat.le_of_ble_eq_true rfl) ?_
  intro p e s m below meth cd ls C0 hr hlk hK hM hS hl
  have hl : lv_has ls 3 [(0, .ref (am 0)), (1, .int p0)] := hl
  refine lv_iload_n C0.1 C0.2.1 dX4_advance_0 rfl (lv_at hl 1 rfl) ?_
  refine lv_if_ge (tgt := 11) C0.1 C0.2.1 dX4_advance_1 (by decide) (fun c_1 => ?_) (fun c_1 => ?_)
  · refine lv_iload_n C0.1 C0.2.1 dX4_advance_11 rfl (lv_at hl 1 rfl) ?_
    refine lv_bipush (v := 9) C0.1 C0.2.1 dX4_advance_12 (by decide) ?_
    refine lv_icmp_le (tgt := 24) C0.1 C0.2.1 dX4_advance_14 (by decide) (fun c_14 => ?_) (fun c_14 => ?_)
    · refine lv_aload_n C0.1 C0.2.1 dX4_advance_24 rfl (lv_at hl 0 rfl) ?_
      refine m_geti C0 hK hM 8 (by decide) rfl q640 dX4_advance_25 ?_
      refine lv_istore_n (lv' := [(2, .int (S 0 8)), (0, .ref (am 0)), (1, .int p0)]) C0.1 C0.2.1 dX4_advance_28 rfl hl (by decide) rfl (fun ls hl => ?_)
      refine lv_aload_n C0.1 C0.2.1 dX4_advance_29 rfl (lv_at hl 1 rfl) ?_
      refine lv_iload_n C0.1 C0.2.1 dX4_advance_30 rfl (lv_at hl 2 rfl) ?_
      refine m_put C0 hK hM hS 8 (by decide) rfl q640 rfl rfl dX4_advance_31 (fun H locs hM hS => ?_)
      refine lv_iload_n C0.1 C0.2.1 dX4_advance_34 rfl (lv_at hl 0 rfl) ?_
      exact m_iretS C0 hr hlk hM hS (PB.of (by unfold sp_advance; rw [if_neg (Int32.not_lt.mpr c_1), if_neg (Int32.not_lt.mpr c_14)])) dX4_advance_35
    · refine lv_aload_n C0.1 C0.2.1 dX4_advance_17 rfl (lv_at hl 0 rfl) ?_
      refine lv_bipush (v := (-6)) C0.1 C0.2.1 dX4_advance_18 (by decide) ?_
      refine m_ci C0 hK hM hS (fun _ h => h) (mm_refuse l D dA am S 6 (by omega)) 1 (lw_V q733 q735 qs18 q43 q736) rfl rfl hdd_refuse ⟨(Nat.le_of_ble_eq_true rfl), (Nat.le_of_ble_eq_true rfl)⟩ rfl hl.1 rfl (Nat.le_of_ble_eq_true rfl) dX4_advance_20 ⟨(Nat.le_of_ble_eq_true rfl), (Nat.le_of_ble_eq_true rfl)⟩ (fun r S' H locs hr hM hS _ => ?_)
      obtain ⟨rfl, rfl⟩ := hr
      exact m_iretS C0 hr hlk hM hS (PB.of (by unfold sp_advance; rw [if_neg (Int32.not_lt.mpr c_1), if_pos (Int32.not_le.mp c_14)]; rfl)) dX4_advance_23
  · refine lv_aload_n C0.1 C0.2.1 dX4_advance_4 rfl (lv_at hl 0 rfl) ?_
    refine lv_bipush (v := (-4)) C0.1 C0.2.1 dX4_advance_5 (by decide) ?_
    refine m_ci C0 hK hM hS (fun _ h => h) (mm_refuse l D dA am S 4 (by omega)) 1 (lw_V q733 q735 qs18 q43 q736) rfl rfl hdd_refuse ⟨(Nat.le_of_ble_eq_true rfl), (Nat.le_of_ble_eq_true rfl)⟩ rfl hl.1 rfl (Nat.le_of_ble_eq_true rfl) dX4_advance_7 ⟨(Nat.le_of_ble_eq_true rfl), (Nat.le_of_ble_eq_true rfl)⟩ (fun r S' H locs hr hM hS _ => ?_)
    obtain ⟨rfl, rfl⟩ := hr
    exact m_iretS C0 hr hlk hM hS (PB.of (by unfold sp_advance; rw [if_pos (Int32.not_le.mp c_1)]; rfl)) dX4_advance_10
set_option maxHeartbeats 4000000 in
theorem mm_pull (l : Launch) (D : va_G) (dA : Nat → ClassId) (am : Nat → Nat) (S : St) (p0 : Int32) (hO : Ok S) : mCi l yX4_pull cX4_pull 3 (some .int) { frames := 1, cells := 0, slots := 0, locals := 21 } D dA am S [.int p0] (fun r S' => PB (sp_pull S p0) r S') := by
  refine m_head (by decide) rfl (Nat.le_of_ble_eq_true rfl) ?_
  intro p e s m below meth cd ls C0 hr hlk hK hM hS hl
  have hl : lv_has ls 3 [(0, .ref (am 0)), (1, .int p0)] := hl
  refine lv_iload_n C0.1 C0.2.1 dX4_pull_0 rfl (lv_at hl 1 rfl) ?_
  refine lv_iconst (v := 1) C0.1 C0.2.1 dX4_pull_1 (by decide) ?_
  refine lv_icmp_ge (tgt := 12) C0.1 C0.2.1 dX4_pull_2 (by decide) (fun c_2 => ?_) (fun c_2 => ?_)
  · refine lv_iload_n C0.1 C0.2.1 dX4_pull_12 rfl (lv_at hl 1 rfl) ?_
    refine lv_bipush (v := 20) C0.1 C0.2.1 dX4_pull_13 (by decide) ?_
    refine lv_icmp_le (tgt := 25) C0.1 C0.2.1 dX4_pull_15 (by decide) (fun c_15 => ?_) (fun c_15 => ?_)
    · refine lv_aload_n C0.1 C0.2.1 dX4_pull_25 rfl (lv_at hl 0 rfl) ?_
      refine m_geti C0 hK hM 10 (by decide) rfl q642 dX4_pull_26 ?_
      refine lv_istore_n (lv' := [(2, .int (S 0 10)), (0, .ref (am 0)), (1, .int p0)]) C0.1 C0.2.1 dX4_pull_29 rfl hl (by decide) rfl (fun ls hl => ?_)
      refine lv_aload_n C0.1 C0.2.1 dX4_pull_30 rfl (lv_at hl 1 rfl) ?_
      refine lv_iload_n C0.1 C0.2.1 dX4_pull_31 rfl (lv_at hl 2 rfl) ?_
      refine m_put C0 hK hM hS 10 (by decide) rfl q642 rfl rfl dX4_pull_32 (fun H locs hM hS => ?_)
      refine lv_iload_n C0.1 C0.2.1 dX4_pull_35 rfl (lv_at hl 0 rfl) ?_
      exact m_iretS C0 hr hlk hM hS (PB.of (by unfold sp_pull; rw [if_neg (Int32.not_lt.mpr c_2), if_neg (Int32.not_lt.mpr c_15)])) dX4_pull_36
    · refine lv_aload_n C0.1 C0.2.1 dX4_pull_18 rfl (lv_at hl 0 rfl) ?_
      refine lv_bipush (v := (-6)) C0.1 C0.2.1 dX4_pull_19 (by decide) ?_
      refine m_ci C0 hK hM hS (fun _ h => h) (mm_refuse l D dA am S 6 (by omega)) 1 (lw_V q733 q735 qs18 q43 q736) rfl rfl hdd_refuse ⟨(Nat.le_of_ble_eq_true rfl), (Nat.le_of_ble_eq_true rfl)⟩ rfl hl.1 rfl (Nat.le_of_ble_eq_true rfl) dX4_pull_21 ⟨(Nat.le_of_ble_eq_true rfl), (Nat.le_of_ble_eq_true rfl)⟩ (fun r S' H locs hr hM hS _ => ?_)
      obtain ⟨rfl, rfl⟩ := hr
      exact m_iretS C0 hr hlk hM hS (PB.of (by unfold sp_pull; rw [if_neg (Int32.not_lt.mpr c_2), if_pos (Int32.not_le.mp c_15)]; rfl)) dX4_pull_24
  · refine lv_aload_n C0.1 C0.2.1 dX4_pull_5 rfl (lv_at hl 0 rfl) ?_
    refine lv_bipush (v := (-4)) C0.1 C0.2.1 dX4_pull_6 (by decide) ?_
    refine m_ci C0 hK hM hS (fun _ h => h) (mm_refuse l D dA am S 4 (by omega)) 1 (lw_V q733 q735 qs18 q43 q736) rfl rfl hdd_refuse ⟨(Nat.le_of_ble_eq_true rfl), (Nat.le_of_ble_eq_true rfl)⟩ rfl hl.1 rfl (Nat.le_of_ble_eq_true rfl) dX4_pull_8 ⟨(Nat.le_of_ble_eq_true rfl), (Nat.le_of_ble_eq_true rfl)⟩ (fun r S' H locs hr hM hS _ => ?_)
    obtain ⟨rfl, rfl⟩ := hr
    exact m_iretS C0 hr hlk hM hS (PB.of (by unfold sp_pull; rw [if_pos (Int32.not_le.mp c_2)]; rfl)) dX4_pull_11
set_option maxHeartbeats 4000000 in
theorem mm_wind (l : Launch) (D : va_G) (dA : Nat → ClassId) (am : Nat → Nat) (S : St) (p0 : Int32) (hO : Ok S) : mCi l yX4_wind cX4_wind 2 (some .int) { frames := 1, cells := 0, slots := 0, locals := 21 } D dA am S [.int p0] (fun r S' => PB (sp_wind S p0) r S') := by
  refine m_head (by decide) rfl (Nat.le_of_ble_eq_true rfl) ?_
  intro p e s m below meth cd ls C0 hr hlk hK hM hS hl
  have hl : lv_has ls 2 [(0, .ref (am 0)), (1, .int p0)] := hl
  refine lv_iload_n C0.1 C0.2.1 dX4_wind_0 rfl (lv_at hl 1 rfl) ?_
  refine lv_if_ge (tgt := 11) C0.1 C0.2.1 dX4_wind_1 (by decide) (fun c_1 => ?_) (fun c_1 => ?_)
  · refine lv_iload_n C0.1 C0.2.1 dX4_wind_11 rfl (lv_at hl 1 rfl) ?_
    refine lv_sipush (v := 5000) C0.1 C0.2.1 dX4_wind_12 (by decide) ?_
    refine lv_icmp_le (tgt := 25) C0.1 C0.2.1 dX4_wind_15 (by decide) (fun c_15 => ?_) (fun c_15 => ?_)
    · refine lv_aload_n C0.1 C0.2.1 dX4_wind_25 rfl (lv_at hl 0 rfl) ?_
      refine lv_dup C0.1 C0.2.1 dX4_wind_26 rfl ?_
      refine m_geti C0 hK hM 12 (by decide) rfl q644 dX4_wind_27 ?_
      refine lv_iload_n C0.1 C0.2.1 dX4_wind_30 rfl (lv_at hl 1 rfl) ?_
      refine lv_sipush (v := 1000) C0.1 C0.2.1 dX4_wind_31 (by decide) ?_
      refine lv_aload_n C0.1 C0.2.1 dX4_wind_34 rfl (lv_at hl 0 rfl) ?_
      refine m_geti C0 hK hM 9 (by decide) rfl q641 dX4_wind_35 ?_
      refine lv_isub C0.1 C0.2.1 dX4_wind_38 ?_
      refine lv_icmp_le (tgt := 46) C0.1 C0.2.1 dX4_wind_39 (by decide) (fun c_39 => ?_) (fun c_39 => ?_)
      · refine lv_iconst (v := 0) C0.1 C0.2.1 dX4_wind_46 (by decide) ?_
        refine lv_iadd C0.1 C0.2.1 dX4_wind_47 ?_
        refine m_put C0 hK hM hS 12 (by decide) rfl q644 rfl rfl dX4_wind_48 (fun H locs hM hS => ?_)
        refine lv_aload_n C0.1 C0.2.1 dX4_wind_51 rfl (lv_at hl 0 rfl) ?_
        refine lv_iload_n C0.1 C0.2.1 dX4_wind_52 rfl (lv_at hl 1 rfl) ?_
        refine lv_sipush (v := 1000) C0.1 C0.2.1 dX4_wind_53 (by decide) ?_
        refine lv_aload_n C0.1 C0.2.1 dX4_wind_56 rfl (lv_at hl 0 rfl) ?_
        refine m_geti C0 hK hM 9 (by decide) rfl q641 dX4_wind_57 ?_
        refine tp_eq (y := S 0 9) (by rw [up2_ne _ _ (Or.inr (by decide))]) ?_
        refine lv_isub C0.1 C0.2.1 dX4_wind_60 ?_
        refine lv_icmp_le (tgt := 70) C0.1 C0.2.1 dX4_wind_61 (by decide) (fun c_61 => ?_) (fun c_61 => ?_)
        · refine lv_aload_n C0.1 C0.2.1 dX4_wind_70 rfl (lv_at hl 0 rfl) ?_
          refine m_geti C0 hK hM 9 (by decide) rfl q641 dX4_wind_71 ?_
          refine tp_eq (y := S 0 9) (by rw [up2_ne _ _ (Or.inr (by decide))]) ?_
          refine lv_iload_n C0.1 C0.2.1 dX4_wind_74 rfl (lv_at hl 1 rfl) ?_
          refine lv_iadd C0.1 C0.2.1 dX4_wind_75 ?_
          refine m_put C0 hK hM hS 9 (by decide) rfl q641 rfl rfl dX4_wind_76 (fun H locs hM hS => ?_)
          refine lv_aload_n C0.1 C0.2.1 dX4_wind_79 rfl (lv_at hl 0 rfl) ?_
          refine m_geti C0 hK hM 9 (by decide) rfl q641 dX4_wind_80 ?_
          refine tp_eq (y := ((S 0 9) + p0)) (by rw [up2_self]) ?_
          exact m_iretS C0 hr hlk hM hS (PB.of (by unfold sp_wind; rw [if_neg (Int32.not_lt.mpr c_1), if_neg (Int32.not_lt.mpr c_15), if_neg (Int32.not_lt.mpr c_39)])) dX4_wind_83
        · exact absurd c_39 c_61
      · refine lv_iconst (v := 1) C0.1 C0.2.1 dX4_wind_42 (by decide) ?_
        refine lv_goto (tgt := 47) C0.1 C0.2.1 dX4_wind_43 (by decide) ?_
        refine lv_iadd C0.1 C0.2.1 dX4_wind_47 ?_
        refine m_put C0 hK hM hS 12 (by decide) rfl q644 rfl rfl dX4_wind_48 (fun H locs hM hS => ?_)
        refine lv_aload_n C0.1 C0.2.1 dX4_wind_51 rfl (lv_at hl 0 rfl) ?_
        refine lv_iload_n C0.1 C0.2.1 dX4_wind_52 rfl (lv_at hl 1 rfl) ?_
        refine lv_sipush (v := 1000) C0.1 C0.2.1 dX4_wind_53 (by decide) ?_
        refine lv_aload_n C0.1 C0.2.1 dX4_wind_56 rfl (lv_at hl 0 rfl) ?_
        refine m_geti C0 hK hM 9 (by decide) rfl q641 dX4_wind_57 ?_
        refine tp_eq (y := S 0 9) (by rw [up2_ne _ _ (Or.inr (by decide))]) ?_
        refine lv_isub C0.1 C0.2.1 dX4_wind_60 ?_
        refine lv_icmp_le (tgt := 70) C0.1 C0.2.1 dX4_wind_61 (by decide) (fun c_61 => ?_) (fun c_61 => ?_)
        · exact absurd c_61 c_39
        · refine lv_sipush (v := 1000) C0.1 C0.2.1 dX4_wind_64 (by decide) ?_
          refine lv_goto (tgt := 76) C0.1 C0.2.1 dX4_wind_67 (by decide) ?_
          refine m_put C0 hK hM hS 9 (by decide) rfl q641 rfl rfl dX4_wind_76 (fun H locs hM hS => ?_)
          refine lv_aload_n C0.1 C0.2.1 dX4_wind_79 rfl (lv_at hl 0 rfl) ?_
          refine m_geti C0 hK hM 9 (by decide) rfl q641 dX4_wind_80 ?_
          refine tp_eq (y := 1000) (by rw [up2_self]) ?_
          exact m_iretS C0 hr hlk hM hS (PB.of (by unfold sp_wind; rw [if_neg (Int32.not_lt.mpr c_1), if_neg (Int32.not_lt.mpr c_15), if_pos (Int32.not_le.mp c_39)])) dX4_wind_83
    · refine lv_aload_n C0.1 C0.2.1 dX4_wind_18 rfl (lv_at hl 0 rfl) ?_
      refine lv_bipush (v := (-6)) C0.1 C0.2.1 dX4_wind_19 (by decide) ?_
      refine m_ci C0 hK hM hS (fun _ h => h) (mm_refuse l D dA am S 6 (by omega)) 1 (lw_V q733 q735 qs18 q43 q736) rfl rfl hdd_refuse ⟨(Nat.le_of_ble_eq_true rfl), (Nat.le_of_ble_eq_true rfl)⟩ rfl hl.1 rfl (Nat.le_of_ble_eq_true rfl) dX4_wind_21 ⟨(Nat.le_of_ble_eq_true rfl), (Nat.le_of_ble_eq_true rfl)⟩ (fun r S' H locs hr hM hS _ => ?_)
      obtain ⟨rfl, rfl⟩ := hr
      exact m_iretS C0 hr hlk hM hS (PB.of (by unfold sp_wind; rw [if_neg (Int32.not_lt.mpr c_1), if_pos (Int32.not_le.mp c_15)]; rfl)) dX4_wind_24
  · refine lv_aload_n C0.1 C0.2.1 dX4_wind_4 rfl (lv_at hl 0 rfl) ?_
    refine lv_bipush (v := (-4)) C0.1 C0.2.1 dX4_wind_5 (by decide) ?_
    refine m_ci C0 hK hM hS (fun _ h => h) (mm_refuse l D dA am S 4 (by omega)) 1 (lw_V q733 q735 qs18 q43 q736) rfl rfl hdd_refuse ⟨(Nat.le_of_ble_eq_true rfl), (Nat.le_of_ble_eq_true rfl)⟩ rfl hl.1 rfl (Nat.le_of_ble_eq_true rfl) dX4_wind_7 ⟨(Nat.le_of_ble_eq_true rfl), (Nat.le_of_ble_eq_true rfl)⟩ (fun r S' H locs hr hM hS _ => ?_)
    obtain ⟨rfl, rfl⟩ := hr
    exact m_iretS C0 hr hlk hM hS (PB.of (by unfold sp_wind; rw [if_pos (Int32.not_le.mp c_1)]; rfl)) dX4_wind_10
set_option maxHeartbeats 4000000 in
theorem mm_marked (l : Launch) (D : va_G) (dA : Nat → ClassId) (am : Nat → Nat) (S : St) (p0 p1 : Int32) (hO : Ok S) : mCi l yX4_marked cX4_marked 3 (some .int) { frames := 2, cells := 0, slots := 0, locals := 43 } D dA am S [.int p0, .int p1] (fun r S' => PB (sp_marked S p0 p1) r S') := by
  refine m_head (by decide) rfl (Nat.le_of_ble_eq_true rfl) ?_
  intro p e s m below meth cd ls C0 hr hlk hK hM hS hl
  have hl : lv_has ls 3 [(0, .ref (am 0)), (1, .int p0), (2, .int p1)] := hl
  refine lv_iload_n C0.1 C0.2.1 dX4_marked_0 rfl (lv_at hl 1 rfl) ?_
  refine lv_iload_n C0.1 C0.2.1 dX4_marked_1 rfl (lv_at hl 2 rfl) ?_
  refine st_call C0 (mm_isCell l p0 p1) 2 (lw_S q870 q871 q43 q872) rfl rfl hdd_isCell ⟨(Nat.le_of_ble_eq_true rfl), (Nat.le_of_ble_eq_true rfl)⟩ rfl hl.1 rfl (Nat.le_of_ble_eq_true rfl) dX4_marked_2 ⟨(Nat.le_of_ble_eq_true rfl), (Nat.le_of_ble_eq_true rfl)⟩ (fun r hr => ?_)
  subst hr
  refine lv_if_eq (tgt := 30) C0.1 C0.2.1 dX4_marked_5 (by decide) (fun c_5 => ?_) (fun c_5 => ?_)
  · have c_5 : ¬ ((cellN p0 p1).isSome = true) := b01_0.mp c_5
    refine lv_aload_n C0.1 C0.2.1 dX4_marked_30 rfl (lv_at hl 0 rfl) ?_
    refine lv_iconst (v := (-1)) C0.1 C0.2.1 dX4_marked_31 (by decide) ?_
    refine m_ci C0 hK hM hS (fun _ h => h) (mm_refuse l D dA am S 1 (by omega)) 1 (lw_V q733 q735 qs18 q43 q736) rfl rfl hdd_refuse ⟨(Nat.le_of_ble_eq_true rfl), (Nat.le_of_ble_eq_true rfl)⟩ rfl hl.1 rfl (Nat.le_of_ble_eq_true rfl) dX4_marked_32 ⟨(Nat.le_of_ble_eq_true rfl), (Nat.le_of_ble_eq_true rfl)⟩ (fun r S' H locs hr hM hS _ => ?_)
    obtain ⟨rfl, rfl⟩ := hr
    exact m_iretS C0 hr hlk hM hS (PB.of (by unfold sp_marked; rw [cellN_none c_5]; rfl)) dX4_marked_35
  · have c_5 : (cellN p0 p1).isSome = true := b01_1.mp c_5
    obtain ⟨a, b, hc, ha, hb, rfl, rfl⟩ := cellN_get c_5
    refine lv_aload_n C0.1 C0.2.1 dX4_marked_8 rfl (lv_at hl 0 rfl) ?_
    refine m_geta C0 hK hM 17 (by decide) rfl q649 dX4_marked_9 ?_
    refine lv_bipush (v := 10) C0.1 C0.2.1 dX4_marked_12 (by decide) ?_
    refine lv_iload_n C0.1 C0.2.1 dX4_marked_14 rfl (lv_at hl 1 rfl) ?_
    refine lv_imul C0.1 C0.2.1 dX4_marked_15 ?_
    refine tp_eq (y := nI (10 * a)) (pk_mul 10 a) ?_
    refine lv_iload_n C0.1 C0.2.1 dX4_marked_16 rfl (lv_at hl 2 rfl) ?_
    refine lv_iadd C0.1 C0.2.1 dX4_marked_17 ?_
    refine tp_eq (y := nI (10 * a + b)) (nI_add (10 * a) b) ?_
    refine m_iald C0 hK hM 17 (10 * a + b) rfl rfl rfl (show 10 * a + b < 1200 from (by omega)) (by decide) dX4_marked_18 ?_
    refine lv_if_ge (tgt := 26) C0.1 C0.2.1 dX4_marked_19 (by decide) (fun c_19 => ?_) (fun c_19 => ?_)
    · refine lv_iconst (v := 1) C0.1 C0.2.1 dX4_marked_26 (by decide) ?_
      refine lv_goto (tgt := 35) C0.1 C0.2.1 dX4_marked_27 (by decide) ?_
      exact m_iretS C0 hr hlk hM hS (PB.of (by unfold sp_marked; rw [hc]; (try dsimp only); rw [if_neg (Int32.not_lt.mpr c_19)])) dX4_marked_35
    · refine lv_iconst (v := 0) C0.1 C0.2.1 dX4_marked_22 (by decide) ?_
      refine lv_goto (tgt := 35) C0.1 C0.2.1 dX4_marked_23 (by decide) ?_
      exact m_iretS C0 hr hlk hM hS (PB.of (by unfold sp_marked; rw [hc]; (try dsimp only); rw [if_pos (Int32.not_le.mp c_19)])) dX4_marked_35
set_option maxHeartbeats 4000000 in
theorem mm_first (l : Launch) (D : va_G) (dA : Nat → ClassId) (am : Nat → Nat) (S : St) (p0 p1 p2 : Int32) (hO : Ok S) : mCi l yX4_first cX4_first 5 (some .int) { frames := 2, cells := 0, slots := 0, locals := 43 } D dA am S [.int p0, .int p1, .int p2] (fun r S' => PB (sp_first S p0 p1 p2) r S') := by
  refine m_head (by decide) rfl (Nat.le_of_ble_eq_true rfl) ?_
  intro p e s m below meth cd ls C0 hr hlk hK hM hS hl
  have hl : lv_has ls 5 [(0, .ref (am 0)), (1, .int p0), (2, .int p1), (3, .int p2)] := hl
  refine lv_iload_n C0.1 C0.2.1 dX4_first_0 rfl (lv_at hl 1 rfl) ?_
  refine lv_iload_n C0.1 C0.2.1 dX4_first_1 rfl (lv_at hl 2 rfl) ?_
  refine st_call C0 (mm_isCell l p0 p1) 2 (lw_S q870 q871 q43 q872) rfl rfl hdd_isCell ⟨(Nat.le_of_ble_eq_true rfl), (Nat.le_of_ble_eq_true rfl)⟩ rfl hl.1 rfl (Nat.le_of_ble_eq_true rfl) dX4_first_2 ⟨(Nat.le_of_ble_eq_true rfl), (Nat.le_of_ble_eq_true rfl)⟩ (fun r hr => ?_)
  subst hr
  refine lv_if_ne (tgt := 14) C0.1 C0.2.1 dX4_first_5 (by decide) (fun c_5 => ?_) (fun c_5 => ?_)
  · have c_5 : (cellN p0 p1).isSome = true := b01_1.mp c_5
    obtain ⟨a, b, hc, ha, hb, rfl, rfl⟩ := cellN_get c_5
    refine lv_iload_n C0.1 C0.2.1 dX4_first_14 rfl (lv_at hl 3 rfl) ?_
    refine lv_iconst (v := 0) C0.1 C0.2.1 dX4_first_15 (by decide) ?_
    refine lv_iconst (v := 1) C0.1 C0.2.1 dX4_first_16 (by decide) ?_
    refine st_call C0 (mm_in l p2 0 1) 3 (lw_S q744 q745 q43 q746) rfl rfl hdd_in ⟨(Nat.le_of_ble_eq_true rfl), (Nat.le_of_ble_eq_true rfl)⟩ rfl hl.1 rfl (Nat.le_of_ble_eq_true rfl) dX4_first_17 ⟨(Nat.le_of_ble_eq_true rfl), (Nat.le_of_ble_eq_true rfl)⟩ (fun r hr => ?_)
    subst hr
    refine tp_eq (y := (if (inR p2 2).isSome = true then 1 else 0)) (b01_c (inR_le (n := 2) (by decide))) ?_
    refine lv_if_ne (tgt := 30) C0.1 C0.2.1 dX4_first_20 (by decide) (fun c_20 => ?_) (fun c_20 => ?_)
    · have c_20 : (inR p2 2).isSome = true := b01_1.mp c_20
      obtain ⟨d, hd, bd, rfl⟩ := inR_get c_20 (by decide)
      refine lv_bipush (v := 10) C0.1 C0.2.1 dX4_first_30 (by decide) ?_
      refine lv_iload_n C0.1 C0.2.1 dX4_first_32 rfl (lv_at hl 1 rfl) ?_
      refine lv_imul C0.1 C0.2.1 dX4_first_33 ?_
      refine tp_eq (y := nI (10 * a)) (pk_mul 10 a) ?_
      refine lv_iload_n C0.1 C0.2.1 dX4_first_34 rfl (lv_at hl 2 rfl) ?_
      refine lv_iadd C0.1 C0.2.1 dX4_first_35 ?_
      refine tp_eq (y := nI (10 * a + b)) (nI_add (10 * a) b) ?_
      refine lv_istore (lv' := [(4, .int (nI (10 * a + b))), (0, .ref (am 0)), (1, .int (nI a)), (2, .int (nI b)), (3, .int (nI d))]) C0.1 C0.2.1 dX4_first_36 hl (by decide) rfl (fun ls hl => ?_)
      refine lv_aload_n C0.1 C0.2.1 dX4_first_38 rfl (lv_at hl 1 rfl) ?_
      refine m_geta C0 hK hM 17 (by decide) rfl q649 dX4_first_39 ?_
      refine lv_iload C0.1 C0.2.1 dX4_first_42 (lv_at hl 0 rfl) ?_
      refine m_iald C0 hK hM 17 (10 * a + b) rfl rfl rfl (show 10 * a + b < 1200 from (by omega)) (by decide) dX4_first_44 ?_
      refine lv_if_ge (tgt := 53) C0.1 C0.2.1 dX4_first_45 (by decide) (fun c_45 => ?_) (fun c_45 => ?_)
      · refine lv_iload_n C0.1 C0.2.1 dX4_first_53 rfl (lv_at hl 4 rfl) ?_
        refine lv_if_ne (tgt := 67) C0.1 C0.2.1 dX4_first_54 (by decide) (fun c_54 => ?_) (fun c_54 => ?_)
        · have n_54 : ¬ d = 0 := fun z => c_54 ((nI_eq (a := d) (b := 0) (by omega) (by omega)).mpr z)
          refine lv_aload_n C0.1 C0.2.1 dX4_first_67 rfl (lv_at hl 1 rfl) ?_
          refine m_geta C0 hK hM 18 (by decide) rfl q650 dX4_first_68 ?_
          refine lv_iload C0.1 C0.2.1 dX4_first_71 (lv_at hl 0 rfl) ?_
          refine m_iald C0 hK hM 18 (10 * a + b) rfl rfl rfl (show 10 * a + b < 1200 from (by omega)) (by decide) dX4_first_73 ?_
          exact m_iretS C0 hr hlk hM hS (PB.of (by unfold sp_first; rw [hc]; (try dsimp only); rw [hd]; (try dsimp only); rw [if_neg (Int32.not_lt.mpr c_45), if_neg n_54])) dX4_first_74
        · have n_54 : d = 0 := (nI_eq (a := d) (b := 0) (by omega) (by omega)).mp c_54
          refine lv_aload_n C0.1 C0.2.1 dX4_first_57 rfl (lv_at hl 1 rfl) ?_
          refine m_geta C0 hK hM 17 (by decide) rfl q649 dX4_first_58 ?_
          refine lv_iload C0.1 C0.2.1 dX4_first_61 (lv_at hl 0 rfl) ?_
          refine m_iald C0 hK hM 17 (10 * a + b) rfl rfl rfl (show 10 * a + b < 1200 from (by omega)) (by decide) dX4_first_63 ?_
          refine lv_goto (tgt := 74) C0.1 C0.2.1 dX4_first_64 (by decide) ?_
          exact m_iretS C0 hr hlk hM hS (PB.of (by unfold sp_first; rw [hc]; (try dsimp only); rw [hd]; (try dsimp only); rw [if_neg (Int32.not_lt.mpr c_45), if_pos n_54])) dX4_first_74
      · refine lv_bipush (v := (-9)) C0.1 C0.2.1 dX4_first_48 (by decide) ?_
        refine lv_goto (tgt := 74) C0.1 C0.2.1 dX4_first_50 (by decide) ?_
        exact m_iretS C0 hr hlk hM hS (PB.of (by unfold sp_first; rw [hc]; (try dsimp only); rw [hd]; (try dsimp only); rw [if_pos (Int32.not_le.mp c_45)])) dX4_first_74
    · have c_20 : ¬ ((inR p2 2).isSome = true) := b01_0.mp c_20
      refine lv_aload_n C0.1 C0.2.1 dX4_first_23 rfl (lv_at hl 0 rfl) ?_
      refine lv_bipush (v := (-2)) C0.1 C0.2.1 dX4_first_24 (by decide) ?_
      refine m_ci C0 hK hM hS (fun _ h => h) (mm_refuse l D dA am S 2 (by omega)) 1 (lw_V q733 q735 qs18 q43 q736) rfl rfl hdd_refuse ⟨(Nat.le_of_ble_eq_true rfl), (Nat.le_of_ble_eq_true rfl)⟩ rfl hl.1 rfl (Nat.le_of_ble_eq_true rfl) dX4_first_26 ⟨(Nat.le_of_ble_eq_true rfl), (Nat.le_of_ble_eq_true rfl)⟩ (fun r S' H locs hr hM hS _ => ?_)
      obtain ⟨rfl, rfl⟩ := hr
      exact m_iretS C0 hr hlk hM hS (PB.of (by unfold sp_first; rw [hc]; (try dsimp only); rw [inR_none c_20]; rfl)) dX4_first_29
  · have c_5 : ¬ ((cellN p0 p1).isSome = true) := b01_0.mp c_5
    refine lv_aload_n C0.1 C0.2.1 dX4_first_8 rfl (lv_at hl 0 rfl) ?_
    refine lv_iconst (v := (-1)) C0.1 C0.2.1 dX4_first_9 (by decide) ?_
    refine m_ci C0 hK hM hS (fun _ h => h) (mm_refuse l D dA am S 1 (by omega)) 1 (lw_V q733 q735 qs18 q43 q736) rfl rfl hdd_refuse ⟨(Nat.le_of_ble_eq_true rfl), (Nat.le_of_ble_eq_true rfl)⟩ rfl hl.1 rfl (Nat.le_of_ble_eq_true rfl) dX4_first_10 ⟨(Nat.le_of_ble_eq_true rfl), (Nat.le_of_ble_eq_true rfl)⟩ (fun r S' H locs hr hM hS _ => ?_)
    obtain ⟨rfl, rfl⟩ := hr
    exact m_iretS C0 hr hlk hM hS (PB.of (by unfold sp_first; rw [cellN_none c_5]; rfl)) dX4_first_13
set_option maxHeartbeats 4000000 in
theorem mm_marks (l : Launch) (D : va_G) (dA : Nat → ClassId) (am : Nat → Nat) (S : St)  : mCi l yX4_marks cX4_marks 3 (some .int) { frames := 0, cells := 0, slots := 0, locals := 0 } D dA am S [] (fun r S' => PB (sp_marks S) r S') := by
  refine m_head (by decide) rfl (Nat.le_of_ble_eq_true rfl) ?_
  intro p e s m below meth cd ls C0 hr hlk hK hM hS hl
  have hl : lv_has ls 3 [(0, .ref (am 0))] := hl
  refine lv_iconst (v := 0) C0.1 C0.2.1 dX4_marks_0 (by decide) ?_
  refine lv_istore_n (lv' := [(1, .int 0), (0, .ref (am 0))]) C0.1 C0.2.1 dX4_marks_1 rfl hl (by decide) rfl (fun ls hl => ?_)
  refine lv_iconst (v := 0) C0.1 C0.2.1 dX4_marks_2 (by decide) ?_
  refine lv_istore_n (lv' := [(2, .int 0), (1, .int 0), (0, .ref (am 0))]) C0.1 C0.2.1 dX4_marks_3 rfl hl (by decide) rfl (fun ls hl => ?_)
  refine W_loop 1200 (fun i H locs ls => MP D dA am S H ∧ va_S (MA am) s.heap H locs ∧ lv_has ls 3 [(0, .ref (am 0)), (1, .int (nI (marksF S i))), (2, .int (nI i))]) 4 ?_ ?_ 0 _ _ ls (Nat.zero_le _) ⟨hM, hS, lv_sub hl [2, 1, 0] rfl⟩
  · intro H locs ls ⟨hM, hS, hl⟩
    refine lv_iload_n C0.1 C0.2.1 dX4_marks_4 rfl (lv_at hl 2 rfl) ?_
    refine lv_sipush (v := 1200) C0.1 C0.2.1 dX4_marks_5 (by decide) ?_
    refine lv_icmp_ge (tgt := 34) C0.1 C0.2.1 dX4_marks_8 (by decide) (fun c_8 => ?_) (fun c_8 => ?_)
    · have n_8 : 1200 ≤ 1200 := (nI_leI (a := 1200) (b := 1200) (by omega) (by omega)).mp c_8
      refine lv_iload_n C0.1 C0.2.1 dX4_marks_34 rfl (lv_at hl 1 rfl) ?_
      exact m_iretS C0 hr hlk hM hS (PB.of rfl) dX4_marks_35
    · have n_8 : ¬ 1200 ≤ 1200 := fun z => c_8 ((nI_leI (a := 1200) (b := 1200) (by omega) (by omega)).mpr z)
      omega
  · intro i H locs ls hi ⟨hM, hS, hl⟩ K4
    refine lv_iload_n C0.1 C0.2.1 dX4_marks_4 rfl (lv_at hl 2 rfl) ?_
    refine lv_sipush (v := 1200) C0.1 C0.2.1 dX4_marks_5 (by decide) ?_
    refine lv_icmp_ge (tgt := 34) C0.1 C0.2.1 dX4_marks_8 (by decide) (fun c_8 => ?_) (fun c_8 => ?_)
    · have n_8 : 1200 ≤ i := (nI_leI (a := 1200) (b := i) (by omega) (by omega)).mp c_8
      omega
    · have n_8 : ¬ 1200 ≤ i := fun z => c_8 ((nI_leI (a := 1200) (b := i) (by omega) (by omega)).mpr z)
      refine lv_iload_n C0.1 C0.2.1 dX4_marks_11 rfl (lv_at hl 1 rfl) ?_
      refine jn_i 26 [.int (nI (marksF S i))] (fun v => v = nI (if S 17 i < 0 then 0 else 1)) (fun v hv => ?_) (fun J => ?_)
      · subst hv
        refine lv_iadd C0.1 C0.2.1 dX4_marks_26 ?_
        refine tp_eq (y := nI (marksF S (i + 1))) (nI_add _ _) ?_
        refine lv_istore_n (lv' := [(1, .int (nI (marksF S (i + 1)))), (0, .ref (am 0)), (2, .int (nI i))]) C0.1 C0.2.1 dX4_marks_27 rfl hl (by decide) rfl (fun ls hl => ?_)
        refine lv_iinc (v := nI (i + 1)) (lv' := [(2, .int (nI (i + 1))), (1, .int (nI (marksF S (i + 1)))), (0, .ref (am 0))]) C0.1 C0.2.1 dX4_marks_28 hl (k := 2) rfl (nI_1 i) (by decide) rfl (fun ls hl => ?_)
        refine lv_goto (tgt := 4) C0.1 C0.2.1 dX4_marks_31 (by decide) ?_
        exact K4 _ _ ls ⟨hM, hS, lv_sub hl [2, 1, 0] rfl⟩
      · refine lv_aload_n C0.1 C0.2.1 dX4_marks_12 rfl (lv_at hl 0 rfl) ?_
        refine m_geta C0 hK hM 17 (by decide) rfl q649 dX4_marks_13 ?_
        refine lv_iload_n C0.1 C0.2.1 dX4_marks_16 rfl (lv_at hl 2 rfl) ?_
        refine m_iald C0 hK hM 17 i rfl rfl rfl (show i < 1200 from (by omega)) (by decide) dX4_marks_17 ?_
        refine lv_if_ge (tgt := 25) C0.1 C0.2.1 dX4_marks_18 (by decide) (fun c_18 => ?_) (fun c_18 => ?_)
        · refine lv_iconst (v := 1) C0.1 C0.2.1 dX4_marks_25 (by decide) ?_
          exact J _ (t01_0 c_18)
        · refine lv_iconst (v := 0) C0.1 C0.2.1 dX4_marks_21 (by decide) ?_
          refine lv_goto (tgt := 26) C0.1 C0.2.1 dX4_marks_22 (by decide) ?_
          exact J _ (t01_1 c_18)
set_option maxHeartbeats 4000000 in
theorem mm_see (l : Launch) (D : va_G) (dA : Nat → ClassId) (am : Nat → Nat) (S : St) (p0 p1 p2 : Int32) (hO : Ok S) : mCi l yX4_see cX4_see 6 (some .int) { frames := 2, cells := 0, slots := 0, locals := 43 } D dA am S [.int p0, .int p1, .int p2] (fun r S' => PB (sp_see S p0 p1 p2) r S') := by
  refine m_head (by decide) rfl (Nat.le_of_ble_eq_true rfl) ?_
  intro p e s m below meth cd ls C0 hr hlk hK hM hS hl
  have hl : lv_has ls 6 [(0, .ref (am 0)), (1, .int p0), (2, .int p1), (3, .int p2)] := hl
  refine lv_iload_n C0.1 C0.2.1 dX4_see_0 rfl (lv_at hl 1 rfl) ?_
  refine lv_iload_n C0.1 C0.2.1 dX4_see_1 rfl (lv_at hl 2 rfl) ?_
  refine st_call C0 (mm_isCell l p0 p1) 2 (lw_S q870 q871 q43 q872) rfl rfl hdd_isCell ⟨(Nat.le_of_ble_eq_true rfl), (Nat.le_of_ble_eq_true rfl)⟩ rfl hl.1 rfl (Nat.le_of_ble_eq_true rfl) dX4_see_2 ⟨(Nat.le_of_ble_eq_true rfl), (Nat.le_of_ble_eq_true rfl)⟩ (fun r hr => ?_)
  subst hr
  refine lv_if_ne (tgt := 14) C0.1 C0.2.1 dX4_see_5 (by decide) (fun c_5 => ?_) (fun c_5 => ?_)
  · have c_5 : (cellN p0 p1).isSome = true := b01_1.mp c_5
    obtain ⟨a, b, hc, ha, hb, rfl, rfl⟩ := cellN_get c_5
    refine lv_bipush (v := 10) C0.1 C0.2.1 dX4_see_14 (by decide) ?_
    refine lv_iload_n C0.1 C0.2.1 dX4_see_16 rfl (lv_at hl 1 rfl) ?_
    refine lv_imul C0.1 C0.2.1 dX4_see_17 ?_
    refine tp_eq (y := nI (10 * a)) (pk_mul 10 a) ?_
    refine lv_iload_n C0.1 C0.2.1 dX4_see_18 rfl (lv_at hl 2 rfl) ?_
    refine lv_iadd C0.1 C0.2.1 dX4_see_19 ?_
    refine tp_eq (y := nI (10 * a + b)) (nI_add (10 * a) b) ?_
    refine lv_istore (lv' := [(4, .int (nI (10 * a + b))), (0, .ref (am 0)), (1, .int (nI a)), (2, .int (nI b)), (3, .int p2)]) C0.1 C0.2.1 dX4_see_20 hl (by decide) rfl (fun ls hl => ?_)
    refine jn_i 37 [] (fun v => v = (if S 17 (10 * a + b) < 0 then 0 else 1)) (fun v hv => ?_) (fun J => ?_)
    · subst hv
      refine lv_istore (lv' := [(5, .int (if S 17 (10 * a + b) < 0 then 0 else 1)), (4, .int (nI (10 * a + b))), (0, .ref (am 0)), (1, .int (nI a)), (2, .int (nI b)), (3, .int p2)]) C0.1 C0.2.1 dX4_see_37 hl (by decide) rfl (fun ls hl => ?_)
      refine lv_iload C0.1 C0.2.1 dX4_see_39 (lv_at hl 0 rfl) ?_
      refine lv_iload_n C0.1 C0.2.1 dX4_see_41 rfl (lv_at hl 5 rfl) ?_
      refine lv_icmp_ne (tgt := 47) C0.1 C0.2.1 dX4_see_42 (by decide) (fun c_42 => ?_) (fun c_42 => ?_)
      · refine lv_aload_n C0.1 C0.2.1 dX4_see_47 rfl (lv_at hl 2 rfl) ?_
        refine m_geta C0 hK hM 17 (by decide) rfl q649 dX4_see_48 ?_
        refine lv_iload C0.1 C0.2.1 dX4_see_51 (lv_at hl 1 rfl) ?_
        refine lv_iload_n C0.1 C0.2.1 dX4_see_53 rfl (lv_at hl 5 rfl) ?_
        refine lv_if_eq (tgt := 62) C0.1 C0.2.1 dX4_see_54 (by decide) (fun c_54 => ?_) (fun c_54 => ?_)
        · refine lv_iconst (v := (-1)) C0.1 C0.2.1 dX4_see_62 (by decide) ?_
          refine m_iast C0 hK hM hS 17 (10 * a + b) rfl rfl rfl (show 10 * a + b < 1200 from (by omega)) (by decide) dX4_see_63 (fun H locs hM hS => ?_)
          refine lv_aload_n C0.1 C0.2.1 dX4_see_64 rfl (lv_at hl 2 rfl) ?_
          refine m_geta C0 hK hM 18 (by decide) rfl q650 dX4_see_65 ?_
          refine lv_iload C0.1 C0.2.1 dX4_see_68 (lv_at hl 1 rfl) ?_
          refine lv_iload_n C0.1 C0.2.1 dX4_see_70 rfl (lv_at hl 5 rfl) ?_
          refine lv_if_eq (tgt := 79) C0.1 C0.2.1 dX4_see_71 (by decide) (fun c_71 => ?_) (fun c_71 => ?_)
          · refine lv_iconst (v := (-1)) C0.1 C0.2.1 dX4_see_79 (by decide) ?_
            refine m_iast C0 hK hM hS 18 (10 * a + b) rfl rfl rfl (show 10 * a + b < 1200 from (by omega)) (by decide) dX4_see_80 (fun H locs hM hS => ?_)
            refine lv_iconst (v := 1) C0.1 C0.2.1 dX4_see_81 (by decide) ?_
            exact m_iretS C0 hr hlk hM hS (PB.of (by unfold sp_see; rw [hc]; (try dsimp only); rw [if_neg c_42, if_pos c_54])) dX4_see_82
          · exact absurd c_54 c_71
        · refine lv_bipush (v := 99) C0.1 C0.2.1 dX4_see_57 (by decide) ?_
          refine lv_goto (tgt := 63) C0.1 C0.2.1 dX4_see_59 (by decide) ?_
          refine m_iast C0 hK hM hS 17 (10 * a + b) rfl rfl rfl (show 10 * a + b < 1200 from (by omega)) (by decide) dX4_see_63 (fun H locs hM hS => ?_)
          refine lv_aload_n C0.1 C0.2.1 dX4_see_64 rfl (lv_at hl 2 rfl) ?_
          refine m_geta C0 hK hM 18 (by decide) rfl q650 dX4_see_65 ?_
          refine lv_iload C0.1 C0.2.1 dX4_see_68 (lv_at hl 1 rfl) ?_
          refine lv_iload_n C0.1 C0.2.1 dX4_see_70 rfl (lv_at hl 5 rfl) ?_
          refine lv_if_eq (tgt := 79) C0.1 C0.2.1 dX4_see_71 (by decide) (fun c_71 => ?_) (fun c_71 => ?_)
          · exact absurd c_71 c_54
          · refine lv_bipush (v := 99) C0.1 C0.2.1 dX4_see_74 (by decide) ?_
            refine lv_goto (tgt := 80) C0.1 C0.2.1 dX4_see_76 (by decide) ?_
            refine m_iast C0 hK hM hS 18 (10 * a + b) rfl rfl rfl (show 10 * a + b < 1200 from (by omega)) (by decide) dX4_see_80 (fun H locs hM hS => ?_)
            refine lv_iconst (v := 1) C0.1 C0.2.1 dX4_see_81 (by decide) ?_
            exact m_iretS C0 hr hlk hM hS (PB.of (by unfold sp_see; rw [hc]; (try dsimp only); rw [if_neg c_42, if_neg c_54])) dX4_see_82
      · refine lv_iconst (v := 0) C0.1 C0.2.1 dX4_see_45 (by decide) ?_
        exact m_iretS C0 hr hlk hM hS (PB.of (by unfold sp_see; rw [hc]; (try dsimp only); rw [if_pos c_42])) dX4_see_46
    · refine lv_aload_n C0.1 C0.2.1 dX4_see_22 rfl (lv_at hl 1 rfl) ?_
      refine m_geta C0 hK hM 17 (by decide) rfl q649 dX4_see_23 ?_
      refine lv_iload C0.1 C0.2.1 dX4_see_26 (lv_at hl 0 rfl) ?_
      refine m_iald C0 hK hM 17 (10 * a + b) rfl rfl rfl (show 10 * a + b < 1200 from (by omega)) (by decide) dX4_see_28 ?_
      refine lv_if_lt (tgt := 36) C0.1 C0.2.1 dX4_see_29 (by decide) (fun c_29 => ?_) (fun c_29 => ?_)
      · refine lv_iconst (v := 0) C0.1 C0.2.1 dX4_see_36 (by decide) ?_
        exact J _ ((if_pos c_29).symm)
      · refine lv_iconst (v := 1) C0.1 C0.2.1 dX4_see_32 (by decide) ?_
        refine lv_goto (tgt := 37) C0.1 C0.2.1 dX4_see_33 (by decide) ?_
        exact J _ ((if_neg c_29).symm)
  · have c_5 : ¬ ((cellN p0 p1).isSome = true) := b01_0.mp c_5
    refine lv_aload_n C0.1 C0.2.1 dX4_see_8 rfl (lv_at hl 0 rfl) ?_
    refine lv_iconst (v := (-1)) C0.1 C0.2.1 dX4_see_9 (by decide) ?_
    refine m_ci C0 hK hM hS (fun _ h => h) (mm_refuse l D dA am S 1 (by omega)) 1 (lw_V q733 q735 qs18 q43 q736) rfl rfl hdd_refuse ⟨(Nat.le_of_ble_eq_true rfl), (Nat.le_of_ble_eq_true rfl)⟩ rfl hl.1 rfl (Nat.le_of_ble_eq_true rfl) dX4_see_10 ⟨(Nat.le_of_ble_eq_true rfl), (Nat.le_of_ble_eq_true rfl)⟩ (fun r S' H locs hr hM hS _ => ?_)
    obtain ⟨rfl, rfl⟩ := hr
    exact m_iretS C0 hr hlk hM hS (PB.of (by unfold sp_see; rw [cellN_none c_5]; rfl)) dX4_see_13
set_option maxHeartbeats 4000000 in
theorem mm_fault (l : Launch) (D : va_G) (dA : Nat → ClassId) (am : Nat → Nat) (S : St) (p0 p1 : Int32) (hO : Ok S) : mCi l yX4_fault cX4_fault 3 (some .int) { frames := 1, cells := 0, slots := 0, locals := 22 } D dA am S [.int p0, .int p1] (fun r S' => PB (sp_fault S p0 p1) r S') := by
  refine m_head (by decide) rfl (Nat.le_of_ble_eq_true rfl) ?_
  intro p e s m below meth cd ls C0 hr hlk hK hM hS hl
  have hl : lv_has ls 3 [(0, .ref (am 0)), (1, .int p0), (2, .int p1)] := hl
  refine lv_iload_n C0.1 C0.2.1 dX4_fault_0 rfl (lv_at hl 1 rfl) ?_
  refine lv_iconst (v := 1) C0.1 C0.2.1 dX4_fault_1 (by decide) ?_
  refine lv_iconst (v := 3) C0.1 C0.2.1 dX4_fault_2 (by decide) ?_
  refine st_call C0 (mm_in l p0 1 3) 3 (lw_S q744 q745 q43 q746) rfl rfl hdd_in ⟨(Nat.le_of_ble_eq_true rfl), (Nat.le_of_ble_eq_true rfl)⟩ rfl hl.1 rfl (Nat.le_of_ble_eq_true rfl) dX4_fault_3 ⟨(Nat.le_of_ble_eq_true rfl), (Nat.le_of_ble_eq_true rfl)⟩ (fun r hr => ?_)
  subst hr
  refine tp_eq (y := (if (inR (p0 - 1) 3).isSome = true then 1 else 0)) (b01_c inR_13) ?_
  refine lv_if_ne (tgt := 16) C0.1 C0.2.1 dX4_fault_6 (by decide) (fun c_6 => ?_) (fun c_6 => ?_)
  · have c_6 : (inR (p0 - 1) 3).isSome = true := b01_1.mp c_6
    obtain ⟨k, hk, bk, rfl⟩ := inR_13g c_6
    refine lv_iload_n C0.1 C0.2.1 dX4_fault_16 rfl (lv_at hl 2 rfl) ?_
    refine lv_iconst (v := 0) C0.1 C0.2.1 dX4_fault_17 (by decide) ?_
    refine lv_iload_n C0.1 C0.2.1 dX4_fault_18 rfl (lv_at hl 1 rfl) ?_
    refine lv_iconst (v := 1) C0.1 C0.2.1 dX4_fault_19 (by decide) ?_
    refine lv_icmp_ne (tgt := 28) C0.1 C0.2.1 dX4_fault_20 (by decide) (fun c_20 => ?_) (fun c_20 => ?_)
    · have n_20 : ¬ k + 1 = 1 := fun z => c_20 ((nI_eq (a := k + 1) (b := 1) (by omega) (by omega)).mpr z)
      refine lv_iload_n C0.1 C0.2.1 dX4_fault_28 rfl (lv_at hl 1 rfl) ?_
      refine lv_iconst (v := 2) C0.1 C0.2.1 dX4_fault_29 (by decide) ?_
      refine lv_icmp_ne (tgt := 42) C0.1 C0.2.1 dX4_fault_30 (by decide) (fun c_30 => ?_) (fun c_30 => ?_)
      · have n_30 : ¬ k + 1 = 2 := fun z => c_30 ((nI_eq (a := k + 1) (b := 2) (by omega) (by omega)).mpr z)
        refine lv_iconst (v := 1) C0.1 C0.2.1 dX4_fault_42 (by decide) ?_
        refine st_call C0 (mm_in l p1 0 1) 3 (lw_S q744 q745 q43 q746) rfl rfl hdd_in ⟨(Nat.le_of_ble_eq_true rfl), (Nat.le_of_ble_eq_true rfl)⟩ rfl hl.1 rfl (Nat.le_of_ble_eq_true rfl) dX4_fault_43 ⟨(Nat.le_of_ble_eq_true rfl), (Nat.le_of_ble_eq_true rfl)⟩ (fun r hr => ?_)
        subst hr
        refine tp_eq (y := (if (inR p1 (fltN S (k + 1))).isSome = true then 1 else 0)) (b01_c (by rw [fltN, if_neg n_20, if_neg n_30]; exact inR_le (n := 2) (by decide))) ?_
        refine lv_if_ne (tgt := 55) C0.1 C0.2.1 dX4_fault_46 (by decide) (fun c_46 => ?_) (fun c_46 => ?_)
        · have c_46 : (inR p1 (fltN S (k + 1))).isSome = true := b01_1.mp c_46
          obtain ⟨q, hq⟩ := Option.isSome_iff_exists.mp c_46
          refine lv_aload_n C0.1 C0.2.1 dX4_fault_55 rfl (lv_at hl 0 rfl) ?_
          refine m_geta C0 hK hM 19 (by decide) rfl q651 dX4_fault_56 ?_
          refine lv_iload_n C0.1 C0.2.1 dX4_fault_59 rfl (lv_at hl 1 rfl) ?_
          refine lv_iload_n C0.1 C0.2.1 dX4_fault_60 rfl (lv_at hl 2 rfl) ?_
          refine m_iast C0 hK hM hS 19 (k + 1) rfl rfl rfl (show k + 1 < 4 from (by omega)) (by decide) dX4_fault_61 (fun H locs hM hS => ?_)
          refine lv_iconst (v := 1) C0.1 C0.2.1 dX4_fault_62 (by decide) ?_
          exact m_iretS C0 hr hlk hM hS (PB.of (by unfold sp_fault; rw [hk]; (try dsimp only); rw [hq])) dX4_fault_63
        · have c_46 : ¬ ((inR p1 (fltN S (k + 1))).isSome = true) := b01_0.mp c_46
          refine lv_aload_n C0.1 C0.2.1 dX4_fault_49 rfl (lv_at hl 0 rfl) ?_
          refine lv_iconst (v := (-1)) C0.1 C0.2.1 dX4_fault_50 (by decide) ?_
          refine m_ci C0 hK hM hS (fun _ h => h) (mm_refuse l D dA am S 1 (by omega)) 1 (lw_V q733 q735 qs18 q43 q736) rfl rfl hdd_refuse ⟨(Nat.le_of_ble_eq_true rfl), (Nat.le_of_ble_eq_true rfl)⟩ rfl hl.1 rfl (Nat.le_of_ble_eq_true rfl) dX4_fault_51 ⟨(Nat.le_of_ble_eq_true rfl), (Nat.le_of_ble_eq_true rfl)⟩ (fun r S' H locs hr hM hS _ => ?_)
          obtain ⟨rfl, rfl⟩ := hr
          exact m_iretS C0 hr hlk hM hS (PB.of (by unfold sp_fault; rw [hk]; (try dsimp only); rw [inR_none c_46]; rfl)) dX4_fault_54
      · have n_30 : k + 1 = 2 := (nI_eq (a := k + 1) (b := 2) (by omega) (by omega)).mp c_30
        refine lv_aload_n C0.1 C0.2.1 dX4_fault_33 rfl (lv_at hl 0 rfl) ?_
        refine m_geti C0 hK hM 6 (by decide) rfl q638 dX4_fault_34 ?_
        refine tp_eq (y := nI (pg S)) (hO.pgE) ?_
        refine lv_iconst (v := 1) C0.1 C0.2.1 dX4_fault_37 (by decide) ?_
        refine lv_isub C0.1 C0.2.1 dX4_fault_38 ?_
        refine lv_goto (tgt := 43) C0.1 C0.2.1 dX4_fault_39 (by decide) ?_
        refine st_call C0 (mm_in l p1 0 ((nI (pg S)) - 1)) 3 (lw_S q744 q745 q43 q746) rfl rfl hdd_in ⟨(Nat.le_of_ble_eq_true rfl), (Nat.le_of_ble_eq_true rfl)⟩ rfl hl.1 rfl (Nat.le_of_ble_eq_true rfl) dX4_fault_43 ⟨(Nat.le_of_ble_eq_true rfl), (Nat.le_of_ble_eq_true rfl)⟩ (fun r hr => ?_)
        subst hr
        refine tp_eq (y := (if (inR p1 (fltN S (k + 1))).isSome = true then 1 else 0)) (b01_c (by rw [fltN, if_neg n_20, if_pos n_30]; exact inR_pg hO.pg12)) ?_
        refine lv_if_ne (tgt := 55) C0.1 C0.2.1 dX4_fault_46 (by decide) (fun c_46 => ?_) (fun c_46 => ?_)
        · have c_46 : (inR p1 (fltN S (k + 1))).isSome = true := b01_1.mp c_46
          obtain ⟨q, hq⟩ := Option.isSome_iff_exists.mp c_46
          refine lv_aload_n C0.1 C0.2.1 dX4_fault_55 rfl (lv_at hl 0 rfl) ?_
          refine m_geta C0 hK hM 19 (by decide) rfl q651 dX4_fault_56 ?_
          refine lv_iload_n C0.1 C0.2.1 dX4_fault_59 rfl (lv_at hl 1 rfl) ?_
          refine lv_iload_n C0.1 C0.2.1 dX4_fault_60 rfl (lv_at hl 2 rfl) ?_
          refine m_iast C0 hK hM hS 19 (k + 1) rfl rfl rfl (show k + 1 < 4 from (by omega)) (by decide) dX4_fault_61 (fun H locs hM hS => ?_)
          refine lv_iconst (v := 1) C0.1 C0.2.1 dX4_fault_62 (by decide) ?_
          exact m_iretS C0 hr hlk hM hS (PB.of (by unfold sp_fault; rw [hk]; (try dsimp only); rw [hq])) dX4_fault_63
        · have c_46 : ¬ ((inR p1 (fltN S (k + 1))).isSome = true) := b01_0.mp c_46
          refine lv_aload_n C0.1 C0.2.1 dX4_fault_49 rfl (lv_at hl 0 rfl) ?_
          refine lv_iconst (v := (-1)) C0.1 C0.2.1 dX4_fault_50 (by decide) ?_
          refine m_ci C0 hK hM hS (fun _ h => h) (mm_refuse l D dA am S 1 (by omega)) 1 (lw_V q733 q735 qs18 q43 q736) rfl rfl hdd_refuse ⟨(Nat.le_of_ble_eq_true rfl), (Nat.le_of_ble_eq_true rfl)⟩ rfl hl.1 rfl (Nat.le_of_ble_eq_true rfl) dX4_fault_51 ⟨(Nat.le_of_ble_eq_true rfl), (Nat.le_of_ble_eq_true rfl)⟩ (fun r S' H locs hr hM hS _ => ?_)
          obtain ⟨rfl, rfl⟩ := hr
          exact m_iretS C0 hr hlk hM hS (PB.of (by unfold sp_fault; rw [hk]; (try dsimp only); rw [inR_none c_46]; rfl)) dX4_fault_54
    · have n_20 : k + 1 = 1 := (nI_eq (a := k + 1) (b := 1) (by omega) (by omega)).mp c_20
      refine lv_bipush (v := 11) C0.1 C0.2.1 dX4_fault_23 (by decide) ?_
      refine lv_goto (tgt := 43) C0.1 C0.2.1 dX4_fault_25 (by decide) ?_
      refine st_call C0 (mm_in l p1 0 11) 3 (lw_S q744 q745 q43 q746) rfl rfl hdd_in ⟨(Nat.le_of_ble_eq_true rfl), (Nat.le_of_ble_eq_true rfl)⟩ rfl hl.1 rfl (Nat.le_of_ble_eq_true rfl) dX4_fault_43 ⟨(Nat.le_of_ble_eq_true rfl), (Nat.le_of_ble_eq_true rfl)⟩ (fun r hr => ?_)
      subst hr
      refine tp_eq (y := (if (inR p1 (fltN S (k + 1))).isSome = true then 1 else 0)) (b01_c (by rw [fltN, if_pos n_20]; exact inR_le (n := 12) (by decide))) ?_
      refine lv_if_ne (tgt := 55) C0.1 C0.2.1 dX4_fault_46 (by decide) (fun c_46 => ?_) (fun c_46 => ?_)
      · have c_46 : (inR p1 (fltN S (k + 1))).isSome = true := b01_1.mp c_46
        obtain ⟨q, hq⟩ := Option.isSome_iff_exists.mp c_46
        refine lv_aload_n C0.1 C0.2.1 dX4_fault_55 rfl (lv_at hl 0 rfl) ?_
        refine m_geta C0 hK hM 19 (by decide) rfl q651 dX4_fault_56 ?_
        refine lv_iload_n C0.1 C0.2.1 dX4_fault_59 rfl (lv_at hl 1 rfl) ?_
        refine lv_iload_n C0.1 C0.2.1 dX4_fault_60 rfl (lv_at hl 2 rfl) ?_
        refine m_iast C0 hK hM hS 19 (k + 1) rfl rfl rfl (show k + 1 < 4 from (by omega)) (by decide) dX4_fault_61 (fun H locs hM hS => ?_)
        refine lv_iconst (v := 1) C0.1 C0.2.1 dX4_fault_62 (by decide) ?_
        exact m_iretS C0 hr hlk hM hS (PB.of (by unfold sp_fault; rw [hk]; (try dsimp only); rw [hq])) dX4_fault_63
      · have c_46 : ¬ ((inR p1 (fltN S (k + 1))).isSome = true) := b01_0.mp c_46
        refine lv_aload_n C0.1 C0.2.1 dX4_fault_49 rfl (lv_at hl 0 rfl) ?_
        refine lv_iconst (v := (-1)) C0.1 C0.2.1 dX4_fault_50 (by decide) ?_
        refine m_ci C0 hK hM hS (fun _ h => h) (mm_refuse l D dA am S 1 (by omega)) 1 (lw_V q733 q735 qs18 q43 q736) rfl rfl hdd_refuse ⟨(Nat.le_of_ble_eq_true rfl), (Nat.le_of_ble_eq_true rfl)⟩ rfl hl.1 rfl (Nat.le_of_ble_eq_true rfl) dX4_fault_51 ⟨(Nat.le_of_ble_eq_true rfl), (Nat.le_of_ble_eq_true rfl)⟩ (fun r S' H locs hr hM hS _ => ?_)
        obtain ⟨rfl, rfl⟩ := hr
        exact m_iretS C0 hr hlk hM hS (PB.of (by unfold sp_fault; rw [hk]; (try dsimp only); rw [inR_none c_46]; rfl)) dX4_fault_54
  · have c_6 : ¬ ((inR (p0 - 1) 3).isSome = true) := b01_0.mp c_6
    refine lv_aload_n C0.1 C0.2.1 dX4_fault_9 rfl (lv_at hl 0 rfl) ?_
    refine lv_bipush (v := (-2)) C0.1 C0.2.1 dX4_fault_10 (by decide) ?_
    refine m_ci C0 hK hM hS (fun _ h => h) (mm_refuse l D dA am S 2 (by omega)) 1 (lw_V q733 q735 qs18 q43 q736) rfl rfl hdd_refuse ⟨(Nat.le_of_ble_eq_true rfl), (Nat.le_of_ble_eq_true rfl)⟩ rfl hl.1 rfl (Nat.le_of_ble_eq_true rfl) dX4_fault_12 ⟨(Nat.le_of_ble_eq_true rfl), (Nat.le_of_ble_eq_true rfl)⟩ (fun r S' H locs hr hM hS _ => ?_)
    obtain ⟨rfl, rfl⟩ := hr
    exact m_iretS C0 hr hlk hM hS (PB.of (by unfold sp_fault; rw [inR_none c_6]; rfl)) dX4_fault_15
set_option maxHeartbeats 4000000 in
theorem mm_faultMany (l : Launch) (D : va_G) (dA : Nat → ClassId) (am : Nat → Nat) (S : St)  : mCp l yX4_faultMany cX4_faultMany 1 (some .int) { frames := 0, cells := 0, slots := 0, locals := 0 } D dA am S [] (fun r => r = nI (toldN S)) := by
  refine m_head (by decide) rfl (Nat.le_of_ble_eq_true rfl) ?_
  intro p e s m below meth cd ls C0 hr hlk hK hM hS hl
  have hl : lv_has ls 1 [(0, .ref (am 0))] := hl
  refine jn_i 14 [] (fun v => v = nI (if S 19 1 < 0 then 0 else 1)) (fun v hv => ?_) (fun J => ?_)
  · subst hv
    refine jn_i 28 [.int (nI (if S 19 1 < 0 then 0 else 1))] (fun v => v = nI (if S 19 2 < 0 then 0 else 1)) (fun v hv => ?_) (fun J => ?_)
    · subst hv
      refine lv_iadd C0.1 C0.2.1 dX4_faultMany_28 ?_
      refine tp_eq (y := nI ((if S 19 1 < 0 then 0 else 1) + (if S 19 2 < 0 then 0 else 1))) (nI_add (if S 19 1 < 0 then 0 else 1) (if S 19 2 < 0 then 0 else 1)) ?_
      refine jn_i 43 [.int (nI ((if S 19 1 < 0 then 0 else 1) + (if S 19 2 < 0 then 0 else 1)))] (fun v => v = nI (if S 19 3 < 0 then 0 else 1)) (fun v hv => ?_) (fun J => ?_)
      · subst hv
        refine lv_iadd C0.1 C0.2.1 dX4_faultMany_43 ?_
        refine tp_eq (y := nI ((if S 19 1 < 0 then 0 else 1) + (if S 19 2 < 0 then 0 else 1) + (if S 19 3 < 0 then 0 else 1))) (nI_add ((if S 19 1 < 0 then 0 else 1) + (if S 19 2 < 0 then 0 else 1)) (if S 19 3 < 0 then 0 else 1)) ?_
        exact m_iret C0 hr hlk rfl dX4_faultMany_44
      · refine lv_aload_n C0.1 C0.2.1 dX4_faultMany_29 rfl (lv_at hl 0 rfl) ?_
        refine m_geta C0 hK hM 19 (by decide) rfl q651 dX4_faultMany_30 ?_
        refine lv_iconst (v := 3) C0.1 C0.2.1 dX4_faultMany_33 (by decide) ?_
        refine m_iald C0 hK hM 19 3 rfl rfl (by decide) (show 3 < 4 from (by omega)) (by decide) dX4_faultMany_34 ?_
        refine lv_if_ge (tgt := 42) C0.1 C0.2.1 dX4_faultMany_35 (by decide) (fun c_35 => ?_) (fun c_35 => ?_)
        · refine lv_iconst (v := 1) C0.1 C0.2.1 dX4_faultMany_42 (by decide) ?_
          exact J _ (t01_0 c_35)
        · refine lv_iconst (v := 0) C0.1 C0.2.1 dX4_faultMany_38 (by decide) ?_
          refine lv_goto (tgt := 43) C0.1 C0.2.1 dX4_faultMany_39 (by decide) ?_
          exact J _ (t01_1 c_35)
    · refine lv_aload_n C0.1 C0.2.1 dX4_faultMany_14 rfl (lv_at hl 0 rfl) ?_
      refine m_geta C0 hK hM 19 (by decide) rfl q651 dX4_faultMany_15 ?_
      refine lv_iconst (v := 2) C0.1 C0.2.1 dX4_faultMany_18 (by decide) ?_
      refine m_iald C0 hK hM 19 2 rfl rfl (by decide) (show 2 < 4 from (by omega)) (by decide) dX4_faultMany_19 ?_
      refine lv_if_ge (tgt := 27) C0.1 C0.2.1 dX4_faultMany_20 (by decide) (fun c_20 => ?_) (fun c_20 => ?_)
      · refine lv_iconst (v := 1) C0.1 C0.2.1 dX4_faultMany_27 (by decide) ?_
        exact J _ (t01_0 c_20)
      · refine lv_iconst (v := 0) C0.1 C0.2.1 dX4_faultMany_23 (by decide) ?_
        refine lv_goto (tgt := 28) C0.1 C0.2.1 dX4_faultMany_24 (by decide) ?_
        exact J _ (t01_1 c_20)
  · refine lv_aload_n C0.1 C0.2.1 dX4_faultMany_0 rfl (lv_at hl 0 rfl) ?_
    refine m_geta C0 hK hM 19 (by decide) rfl q651 dX4_faultMany_1 ?_
    refine lv_iconst (v := 1) C0.1 C0.2.1 dX4_faultMany_4 (by decide) ?_
    refine m_iald C0 hK hM 19 1 rfl rfl (by decide) (show 1 < 4 from (by omega)) (by decide) dX4_faultMany_5 ?_
    refine lv_if_ge (tgt := 13) C0.1 C0.2.1 dX4_faultMany_6 (by decide) (fun c_6 => ?_) (fun c_6 => ?_)
    · refine lv_iconst (v := 1) C0.1 C0.2.1 dX4_faultMany_13 (by decide) ?_
      exact J _ (t01_0 c_6)
    · refine lv_iconst (v := 0) C0.1 C0.2.1 dX4_faultMany_9 (by decide) ?_
      refine lv_goto (tgt := 14) C0.1 C0.2.1 dX4_faultMany_10 (by decide) ?_
      exact J _ (t01_1 c_6)
set_option maxHeartbeats 4000000 in
theorem mm_mend (l : Launch) (D : va_G) (dA : Nat → ClassId) (am : Nat → Nat) (S : St)  : mCi l yX4_mend cX4_mend 3 (some .int) { frames := 1, cells := 0, slots := 0, locals := 20 } D dA am S [] (fun r S' => PB (sp_mend S) r S') := by
  refine m_head (by decide) rfl (Nat.le_of_ble_eq_true rfl) ?_
  intro p e s m below meth cd ls C0 hr hlk hK hM hS hl
  have hl : lv_has ls 3 [(0, .ref (am 0))] := hl
  refine lv_aload_n C0.1 C0.2.1 dX4_mend_0 rfl (lv_at hl 0 rfl) ?_
  refine m_cp C0 hK hM (mm_faultMany l D dA am S ) 0 (lw_V q893 q895 qs33 q43 q896) rfl rfl hdd_faultMany ⟨(Nat.le_of_ble_eq_true rfl), (Nat.le_of_ble_eq_true rfl)⟩ rfl hl.1 rfl (Nat.le_of_ble_eq_true rfl) dX4_mend_1 ⟨(Nat.le_of_ble_eq_true rfl), (Nat.le_of_ble_eq_true rfl)⟩ (fun r hr => ?_)
  subst hr
  refine lv_istore_n (lv' := [(1, .int (nI (toldN S))), (0, .ref (am 0))]) C0.1 C0.2.1 dX4_mend_4 rfl hl (by decide) rfl (fun ls hl => ?_)
  refine lv_iconst (v := 1) C0.1 C0.2.1 dX4_mend_5 (by decide) ?_
  refine lv_istore_n (lv' := [(2, .int 1), (1, .int (nI (toldN S))), (0, .ref (am 0))]) C0.1 C0.2.1 dX4_mend_6 rfl hl (by decide) rfl (fun ls hl => ?_)
  refine W_loop 3 (fun i H locs ls => MP D dA am (mendF S i) H ∧ va_S (MA am) s.heap H locs ∧ lv_has ls 3 [(0, .ref (am 0)), (1, .int (nI (toldN S))), (2, .int (nI (i + 1)))]) 7 ?_ ?_ 0 _ _ ls (Nat.zero_le _) ⟨hM, hS, lv_sub hl [2, 1, 0] rfl⟩
  · intro H locs ls ⟨hM, hS, hl⟩
    refine lv_iload_n C0.1 C0.2.1 dX4_mend_7 rfl (lv_at hl 2 rfl) ?_
    refine lv_iconst (v := 4) C0.1 C0.2.1 dX4_mend_8 (by decide) ?_
    refine lv_icmp_ge (tgt := 25) C0.1 C0.2.1 dX4_mend_9 (by decide) (fun c_9 => ?_) (fun c_9 => ?_)
    · have n_9 : 4 ≤ 3 + 1 := (nI_leI (a := 4) (b := 3 + 1) (by omega) (by omega)).mp c_9
      refine lv_iload_n C0.1 C0.2.1 dX4_mend_25 rfl (lv_at hl 1 rfl) ?_
      exact m_iretS C0 hr hlk hM hS (PB.of rfl) dX4_mend_26
    · have n_9 : ¬ 4 ≤ 3 + 1 := fun z => c_9 ((nI_leI (a := 4) (b := 3 + 1) (by omega) (by omega)).mpr z)
      omega
  · intro i H locs ls hi ⟨hM, hS, hl⟩ K7
    refine lv_iload_n C0.1 C0.2.1 dX4_mend_7 rfl (lv_at hl 2 rfl) ?_
    refine lv_iconst (v := 4) C0.1 C0.2.1 dX4_mend_8 (by decide) ?_
    refine lv_icmp_ge (tgt := 25) C0.1 C0.2.1 dX4_mend_9 (by decide) (fun c_9 => ?_) (fun c_9 => ?_)
    · have n_9 : 4 ≤ i + 1 := (nI_leI (a := 4) (b := i + 1) (by omega) (by omega)).mp c_9
      omega
    · have n_9 : ¬ 4 ≤ i + 1 := fun z => c_9 ((nI_leI (a := 4) (b := i + 1) (by omega) (by omega)).mpr z)
      refine lv_aload_n C0.1 C0.2.1 dX4_mend_12 rfl (lv_at hl 0 rfl) ?_
      refine m_geta C0 hK hM 19 (by decide) rfl q651 dX4_mend_13 ?_
      refine lv_iload_n C0.1 C0.2.1 dX4_mend_16 rfl (lv_at hl 2 rfl) ?_
      refine lv_iconst (v := (-1)) C0.1 C0.2.1 dX4_mend_17 (by decide) ?_
      refine m_iast C0 hK hM hS 19 (i + 1) rfl rfl rfl (show i + 1 < 4 from (by omega)) (by decide) dX4_mend_18 (fun H locs hM hS => ?_)
      refine lv_iinc (v := nI (i + 1 + 1)) (lv' := [(2, .int (nI (i + 1 + 1))), (0, .ref (am 0)), (1, .int (nI (toldN S)))]) C0.1 C0.2.1 dX4_mend_19 hl (k := 2) rfl (nI_1 (i + 1)) (by decide) rfl (fun ls hl => ?_)
      refine lv_goto (tgt := 7) C0.1 C0.2.1 dX4_mend_22 (by decide) ?_
      exact K7 _ _ ls ⟨hM, hS, lv_sub hl [1, 2, 0] rfl⟩
set_option maxHeartbeats 4000000 in
theorem mm_timesIn (l : Launch) (D : va_G) (dA : Nat → ClassId) (am : Nat → Nat) (S : St) (c : Nat) (p1 : Int32) (hL : S 0 0 = nI (ln S)) (hl16 : ln S ≤ 16) (hc : c < 12) : mCp l yX4_timesIn cX4_timesIn 5 (some .int) { frames := 0, cells := 0, slots := 0, locals := 0 } D dA am S [.int (nI c), .int p1] (fun r => r = nI (timesF (row S c) p1 (ln S))) := by
  refine m_head (by decide) rfl (Nat.le_of_ble_eq_true rfl) ?_
  intro p e s m below meth cd ls C0 hr hlk hK hM hS hl
  have hl : lv_has ls 5 [(0, .ref (am 0)), (1, .int (nI c)), (2, .int p1)] := hl
  refine lv_iconst (v := 0) C0.1 C0.2.1 dX4_timesIn_0 (by decide) ?_
  refine lv_istore_n (lv' := [(3, .int 0), (0, .ref (am 0)), (1, .int (nI c)), (2, .int p1)]) C0.1 C0.2.1 dX4_timesIn_1 rfl hl (by decide) rfl (fun ls hl => ?_)
  refine lv_iconst (v := 0) C0.1 C0.2.1 dX4_timesIn_2 (by decide) ?_
  refine lv_istore (lv' := [(4, .int 0), (3, .int 0), (0, .ref (am 0)), (1, .int (nI c)), (2, .int p1)]) C0.1 C0.2.1 dX4_timesIn_3 hl (by decide) rfl (fun ls hl => ?_)
  refine W_loopP (ln S) (fun i ls => lv_has ls 5 [(0, .ref (am 0)), (1, .int (nI c)), (2, .int p1), (3, .int (nI (timesF (row S c) p1 i))), (4, .int (nI i))]) 5 ?_ ?_ 0 ls (Nat.zero_le _) (lv_sub hl [2, 3, 4, 1, 0] rfl)
  · intro ls hl
    refine lv_iload C0.1 C0.2.1 dX4_timesIn_5 (lv_at hl 4 rfl) ?_
    refine lv_aload_n C0.1 C0.2.1 dX4_timesIn_7 rfl (lv_at hl 0 rfl) ?_
    refine m_geti C0 hK hM 0 (by decide) rfl q632 dX4_timesIn_8 ?_
    refine tp_eq (y := nI (ln S)) (hL) ?_
    refine lv_icmp_ge (tgt := 44) C0.1 C0.2.1 dX4_timesIn_11 (by decide) (fun c_11 => ?_) (fun c_11 => ?_)
    · have n_11 : ln S ≤ ln S := (nI_leI (a := ln S) (b := ln S) (by omega) (by omega)).mp c_11
      refine lv_iload_n C0.1 C0.2.1 dX4_timesIn_44 rfl (lv_at hl 3 rfl) ?_
      exact m_iret C0 hr hlk rfl dX4_timesIn_45
    · have n_11 : ¬ ln S ≤ ln S := fun z => c_11 ((nI_leI (a := ln S) (b := ln S) (by omega) (by omega)).mpr z)
      omega
  · intro i ls hi hl K5
    refine lv_iload C0.1 C0.2.1 dX4_timesIn_5 (lv_at hl 4 rfl) ?_
    refine lv_aload_n C0.1 C0.2.1 dX4_timesIn_7 rfl (lv_at hl 0 rfl) ?_
    refine m_geti C0 hK hM 0 (by decide) rfl q632 dX4_timesIn_8 ?_
    refine tp_eq (y := nI (ln S)) (hL) ?_
    refine lv_icmp_ge (tgt := 44) C0.1 C0.2.1 dX4_timesIn_11 (by decide) (fun c_11 => ?_) (fun c_11 => ?_)
    · have n_11 : ln S ≤ i := (nI_leI (a := ln S) (b := i) (by omega) (by omega)).mp c_11
      omega
    · have n_11 : ¬ ln S ≤ i := fun z => c_11 ((nI_leI (a := ln S) (b := i) (by omega) (by omega)).mpr z)
      refine lv_iload_n C0.1 C0.2.1 dX4_timesIn_14 rfl (lv_at hl 3 rfl) ?_
      refine jn_i 36 [.int (nI (timesF (row S c) p1 i))] (fun v => v = nI (if S 2 (16 * c + i) = p1 then 1 else 0)) (fun v hv => ?_) (fun J => ?_)
      · subst hv
        refine lv_iadd C0.1 C0.2.1 dX4_timesIn_36 ?_
        refine tp_eq (y := nI (timesF (row S c) p1 (i + 1))) (nI_add _ _) ?_
        refine lv_istore_n (lv' := [(3, .int (nI (timesF (row S c) p1 (i + 1)))), (0, .ref (am 0)), (1, .int (nI c)), (2, .int p1), (4, .int (nI i))]) C0.1 C0.2.1 dX4_timesIn_37 rfl hl (by decide) rfl (fun ls hl => ?_)
        refine lv_iinc (v := nI (i + 1)) (lv' := [(4, .int (nI (i + 1))), (3, .int (nI (timesF (row S c) p1 (i + 1)))), (0, .ref (am 0)), (1, .int (nI c)), (2, .int p1)]) C0.1 C0.2.1 dX4_timesIn_38 hl (k := 4) rfl (nI_1 i) (by decide) rfl (fun ls hl => ?_)
        refine lv_goto (tgt := 5) C0.1 C0.2.1 dX4_timesIn_41 (by decide) ?_
        exact K5 ls (lv_sub hl [2, 3, 4, 1, 0] rfl)
      · refine lv_aload_n C0.1 C0.2.1 dX4_timesIn_15 rfl (lv_at hl 0 rfl) ?_
        refine m_geta C0 hK hM 2 (by decide) rfl q634 dX4_timesIn_16 ?_
        refine lv_bipush (v := 16) C0.1 C0.2.1 dX4_timesIn_19 (by decide) ?_
        refine lv_iload_n C0.1 C0.2.1 dX4_timesIn_21 rfl (lv_at hl 1 rfl) ?_
        refine lv_imul C0.1 C0.2.1 dX4_timesIn_22 ?_
        refine tp_eq (y := nI (16 * c)) (pk_mul 16 c) ?_
        refine lv_iload C0.1 C0.2.1 dX4_timesIn_23 (lv_at hl 4 rfl) ?_
        refine lv_iadd C0.1 C0.2.1 dX4_timesIn_25 ?_
        refine tp_eq (y := nI (16 * c + i)) (nI_add (16 * c) i) ?_
        refine m_iald C0 hK hM 2 (16 * c + i) rfl rfl rfl (show 16 * c + i < 192 from (by omega)) (by decide) dX4_timesIn_26 ?_
        refine lv_iload_n C0.1 C0.2.1 dX4_timesIn_27 rfl (lv_at hl 2 rfl) ?_
        refine lv_icmp_ne (tgt := 35) C0.1 C0.2.1 dX4_timesIn_28 (by decide) (fun c_28 => ?_) (fun c_28 => ?_)
        · refine lv_iconst (v := 0) C0.1 C0.2.1 dX4_timesIn_35 (by decide) ?_
          exact J _ (n01_f c_28)
        · refine lv_iconst (v := 1) C0.1 C0.2.1 dX4_timesIn_31 (by decide) ?_
          refine lv_goto (tgt := 36) C0.1 C0.2.1 dX4_timesIn_32 (by decide) ?_
          exact J _ (n01_t c_28)
set_option maxHeartbeats 4000000 in
theorem mm_made (l : Launch) (D : va_G) (dA : Nat → ClassId) (am : Nat → Nat) (S : St) (p0 p1 : Int32) (hO : Ok S) : mCi l yX4_made cX4_made 4 (some .int) { frames := 2, cells := 0, slots := 0, locals := 42 } D dA am S [.int p0, .int p1] (fun r S' => PB (sp_made S p0 p1) r S') := by
  refine m_head (by decide) rfl (Nat.le_of_ble_eq_true rfl) ?_
  intro p e s m below meth cd ls C0 hr hlk hK hM hS hl
  have hl : lv_has ls 4 [(0, .ref (am 0)), (1, .int p0), (2, .int p1)] := hl
  refine lv_iload_n C0.1 C0.2.1 dX4_made_0 rfl (lv_at hl 1 rfl) ?_
  refine st_call C0 (mm_isCam l p0) 1 (lw_S q741 q742 q43 q743) rfl rfl hdd_isCam ⟨(Nat.le_of_ble_eq_true rfl), (Nat.le_of_ble_eq_true rfl)⟩ rfl hl.1 rfl (Nat.le_of_ble_eq_true rfl) dX4_made_1 ⟨(Nat.le_of_ble_eq_true rfl), (Nat.le_of_ble_eq_true rfl)⟩ (fun r hr => ?_)
  subst hr
  refine lv_if_eq (tgt := 16) C0.1 C0.2.1 dX4_made_4 (by decide) (fun c_4 => ?_) (fun c_4 => ?_)
  · have c_4 : ¬ ((inR p0 12).isSome = true) := b01_0.mp c_4
    refine lv_aload_n C0.1 C0.2.1 dX4_made_16 rfl (lv_at hl 0 rfl) ?_
    refine lv_iconst (v := (-1)) C0.1 C0.2.1 dX4_made_17 (by decide) ?_
    refine m_ci C0 hK hM hS (fun _ h => h) (mm_refuse l D dA am S 1 (by omega)) 1 (lw_V q733 q735 qs18 q43 q736) rfl rfl hdd_refuse ⟨(Nat.le_of_ble_eq_true rfl), (Nat.le_of_ble_eq_true rfl)⟩ rfl hl.1 rfl (Nat.le_of_ble_eq_true rfl) dX4_made_18 ⟨(Nat.le_of_ble_eq_true rfl), (Nat.le_of_ble_eq_true rfl)⟩ (fun r S' H locs hr hM hS _ => ?_)
    obtain ⟨rfl, rfl⟩ := hr
    exact m_iretS C0 hr hlk hM hS (PB.of (onMk_1 (inR_none c_4))) dX4_made_21
  · have c_4 : (inR p0 12).isSome = true := b01_1.mp c_4
    refine lv_iload_n C0.1 C0.2.1 dX4_made_7 rfl (lv_at hl 2 rfl) ?_
    refine lv_iconst (v := 0) C0.1 C0.2.1 dX4_made_8 (by decide) ?_
    refine lv_iconst (v := 3) C0.1 C0.2.1 dX4_made_9 (by decide) ?_
    refine st_call C0 (mm_in l p1 0 3) 3 (lw_S q744 q745 q43 q746) rfl rfl hdd_in ⟨(Nat.le_of_ble_eq_true rfl), (Nat.le_of_ble_eq_true rfl)⟩ rfl hl.1 rfl (Nat.le_of_ble_eq_true rfl) dX4_made_10 ⟨(Nat.le_of_ble_eq_true rfl), (Nat.le_of_ble_eq_true rfl)⟩ (fun r hr => ?_)
    subst hr
    refine tp_eq (y := (if (inR p1 4).isSome = true then 1 else 0)) (b01_c (inR_le (n := 4) (by decide))) ?_
    refine lv_if_ne (tgt := 22) C0.1 C0.2.1 dX4_made_13 (by decide) (fun c_13 => ?_) (fun c_13 => ?_)
    · have c_13 : (inR p1 4).isSome = true := b01_1.mp c_13
      obtain ⟨j, hj, bj, rfl⟩ := inR_get c_4 (by decide)
      obtain ⟨k, hk, bk, rfl⟩ := inR_get c_13 (by decide)
      refine lv_aload_n C0.1 C0.2.1 dX4_made_22 rfl (lv_at hl 0 rfl) ?_
      refine m_geta C0 hK hM 1 (by decide) rfl q633 dX4_made_23 ?_
      refine lv_iload_n C0.1 C0.2.1 dX4_made_26 rfl (lv_at hl 1 rfl) ?_
      refine m_zald C0 hK hM 1 j rfl rfl rfl (show j < 12 from (by omega)) (by decide) dX4_made_27 ?_
      refine lv_if_ne (tgt := 38) C0.1 C0.2.1 dX4_made_28 (by decide) (fun c_28 => ?_) (fun c_28 => ?_)
      · refine lv_aload_n C0.1 C0.2.1 dX4_made_38 rfl (lv_at hl 0 rfl) ?_
        refine m_geta C0 hK hM 21 (by decide) rfl q653 dX4_made_39 ?_
        refine lv_iload_n C0.1 C0.2.1 dX4_made_42 rfl (lv_at hl 2 rfl) ?_
        refine m_iald C0 hK hM 21 k rfl rfl rfl (show k < 4 from (by omega)) (by decide) dX4_made_43 ?_
        refine lv_aload_n C0.1 C0.2.1 dX4_made_44 rfl (lv_at hl 0 rfl) ?_
        refine m_geti C0 hK hM 0 (by decide) rfl q632 dX4_made_45 ?_
        refine lv_iadd C0.1 C0.2.1 dX4_made_48 ?_
        refine lv_sipush (v := 1000) C0.1 C0.2.1 dX4_made_49 (by decide) ?_
        refine lv_icmp_le (tgt := 62) C0.1 C0.2.1 dX4_made_52 (by decide) (fun c_52 => ?_) (fun c_52 => ?_)
        · refine lv_iconst (v := 0) C0.1 C0.2.1 dX4_made_62 (by decide) ?_
          refine lv_istore_n (lv' := [(3, .int 0), (0, .ref (am 0)), (1, .int (nI j)), (2, .int (nI k))]) C0.1 C0.2.1 dX4_made_63 rfl hl (by decide) rfl (fun ls hl => ?_)
          refine W_loop 10 (fun i H locs ls => MP D dA am (habF S j k i) H ∧ va_S (MA am) s.heap H locs ∧ lv_has ls 4 [(0, .ref (am 0)), (1, .int (nI j)), (2, .int (nI k)), (3, .int (nI i))]) 64 ?_ ?_ 0 _ _ ls (Nat.zero_le _) ⟨hM, hS, lv_sub hl [1, 2, 3, 0] rfl⟩
          · intro H locs ls ⟨hM, hS, hl⟩
            refine lv_iload_n C0.1 C0.2.1 dX4_made_64 rfl (lv_at hl 3 rfl) ?_
            refine lv_bipush (v := 10) C0.1 C0.2.1 dX4_made_65 (by decide) ?_
            refine lv_icmp_ge (tgt := 96) C0.1 C0.2.1 dX4_made_67 (by decide) (fun c_67 => ?_) (fun c_67 => ?_)
            · have n_67 : 10 ≤ 10 := (nI_leI (a := 10) (b := 10) (by omega) (by omega)).mp c_67
              refine lv_aload_n C0.1 C0.2.1 dX4_made_96 rfl (lv_at hl 0 rfl) ?_
              refine m_geta C0 hK hM 21 (by decide) rfl q653 dX4_made_97 ?_
              refine lv_iload_n C0.1 C0.2.1 dX4_made_100 rfl (lv_at hl 2 rfl) ?_
              refine lv_dup2_11 C0.1 C0.2.1 dX4_made_101 rfl rfl ?_
              refine m_iald C0 hK hM 21 k rfl rfl rfl (show k < 4 from (by omega)) (by decide) dX4_made_102 ?_
              refine tp_eq (y := S 21 k) (by rw [habF_k _ _ _ (by decide)]) ?_
              refine lv_aload_n C0.1 C0.2.1 dX4_made_103 rfl (lv_at hl 0 rfl) ?_
              refine m_geti C0 hK hM 0 (by decide) rfl q632 dX4_made_104 ?_
              refine tp_eq (y := S 0 0) (by rw [habF_k _ _ _ (by decide)]) ?_
              refine lv_iadd C0.1 C0.2.1 dX4_made_107 ?_
              refine m_iast C0 hK hM hS 21 k rfl rfl rfl (show k < 4 from (by omega)) (by decide) dX4_made_108 (fun H locs hM hS => ?_)
              refine lv_aload_n C0.1 C0.2.1 dX4_made_109 rfl (lv_at hl 0 rfl) ?_
              refine m_geta C0 hK hM 21 (by decide) rfl q653 dX4_made_110 ?_
              refine lv_iload_n C0.1 C0.2.1 dX4_made_113 rfl (lv_at hl 2 rfl) ?_
              refine m_iald C0 hK hM 21 k rfl rfl rfl (show k < 4 from (by omega)) (by decide) dX4_made_114 ?_
              refine tp_eq (y := ((S 21 k) + (S 0 0))) (by rw [up2_self]) ?_
              exact m_iretS C0 hr hlk hM hS (PB.of ((onMk_t hj hk c_28).trans (by (try dsimp only); rw [if_neg (Int32.not_lt.mpr c_52)]))) dX4_made_115
            · have n_67 : ¬ 10 ≤ 10 := fun z => c_67 ((nI_leI (a := 10) (b := 10) (by omega) (by omega)).mpr z)
              omega
          · intro i H locs ls hi ⟨hM, hS, hl⟩ K64
            refine lv_iload_n C0.1 C0.2.1 dX4_made_64 rfl (lv_at hl 3 rfl) ?_
            refine lv_bipush (v := 10) C0.1 C0.2.1 dX4_made_65 (by decide) ?_
            refine lv_icmp_ge (tgt := 96) C0.1 C0.2.1 dX4_made_67 (by decide) (fun c_67 => ?_) (fun c_67 => ?_)
            · have n_67 : 10 ≤ i := (nI_leI (a := 10) (b := i) (by omega) (by omega)).mp c_67
              omega
            · have n_67 : ¬ 10 ≤ i := fun z => c_67 ((nI_leI (a := 10) (b := i) (by omega) (by omega)).mpr z)
              refine lv_aload_n C0.1 C0.2.1 dX4_made_70 rfl (lv_at hl 0 rfl) ?_
              refine m_geta C0 hK hM 20 (by decide) rfl q652 dX4_made_71 ?_
              refine lv_bipush (v := 10) C0.1 C0.2.1 dX4_made_74 (by decide) ?_
              refine lv_iload_n C0.1 C0.2.1 dX4_made_76 rfl (lv_at hl 2 rfl) ?_
              refine lv_imul C0.1 C0.2.1 dX4_made_77 ?_
              refine tp_eq (y := nI (10 * k)) (pk_mul 10 k) ?_
              refine lv_iload_n C0.1 C0.2.1 dX4_made_78 rfl (lv_at hl 3 rfl) ?_
              refine lv_iadd C0.1 C0.2.1 dX4_made_79 ?_
              refine tp_eq (y := nI (10 * k + i)) (nI_add (10 * k) i) ?_
              refine lv_dup2_11 C0.1 C0.2.1 dX4_made_80 rfl rfl ?_
              refine m_iald C0 hK hM 20 (10 * k + i) rfl rfl rfl (show 10 * k + i < 40 from (by omega)) (by decide) dX4_made_81 ?_
              refine lv_aload_n C0.1 C0.2.1 dX4_made_82 rfl (lv_at hl 0 rfl) ?_
              refine lv_iload_n C0.1 C0.2.1 dX4_made_83 rfl (lv_at hl 1 rfl) ?_
              refine lv_iload_n C0.1 C0.2.1 dX4_made_84 rfl (lv_at hl 3 rfl) ?_
              refine m_cp C0 hK hM (mm_timesIn l D dA am (habF S j k i) j (nI i) (by rw [habF_k _ _ _ (by decide), habF_ln]; exact hO.len) (by rw [habF_ln]; exact hO.len16) (by omega)) 2 (lw_V q913 q915 qs36 q43 q916) rfl rfl hdd_timesIn ⟨(Nat.le_of_ble_eq_true rfl), (Nat.le_of_ble_eq_true rfl)⟩ rfl hl.1 rfl (Nat.le_of_ble_eq_true rfl) dX4_made_85 ⟨(Nat.le_of_ble_eq_true rfl), (Nat.le_of_ble_eq_true rfl)⟩ (fun r hr => ?_)
              subst hr
              refine tp_eq (y := nI (timesF (row S j) (nI i) (ln S))) (by rw [habF_row, habF_ln]) ?_
              refine lv_iadd C0.1 C0.2.1 dX4_made_88 ?_
              refine m_iast C0 hK hM hS 20 (10 * k + i) rfl rfl rfl (show 10 * k + i < 40 from (by omega)) (by decide) dX4_made_89 (fun H locs hM hS => ?_)
              refine lv_iinc (v := nI (i + 1)) (lv' := [(3, .int (nI (i + 1))), (0, .ref (am 0)), (1, .int (nI j)), (2, .int (nI k))]) C0.1 C0.2.1 dX4_made_90 hl (k := 3) rfl (nI_1 i) (by decide) rfl (fun ls hl => ?_)
              refine lv_goto (tgt := 64) C0.1 C0.2.1 dX4_made_93 (by decide) ?_
              exact K64 _ _ ls ⟨hM, hS, lv_sub hl [1, 2, 3, 0] rfl⟩
        · refine lv_aload_n C0.1 C0.2.1 dX4_made_55 rfl (lv_at hl 0 rfl) ?_
          refine lv_bipush (v := (-6)) C0.1 C0.2.1 dX4_made_56 (by decide) ?_
          refine m_ci C0 hK hM hS (fun _ h => h) (mm_refuse l D dA am S 6 (by omega)) 1 (lw_V q733 q735 qs18 q43 q736) rfl rfl hdd_refuse ⟨(Nat.le_of_ble_eq_true rfl), (Nat.le_of_ble_eq_true rfl)⟩ rfl hl.1 rfl (Nat.le_of_ble_eq_true rfl) dX4_made_58 ⟨(Nat.le_of_ble_eq_true rfl), (Nat.le_of_ble_eq_true rfl)⟩ (fun r S' H locs hr hM hS _ => ?_)
          obtain ⟨rfl, rfl⟩ := hr
          exact m_iretS C0 hr hlk hM hS (PB.of ((onMk_t hj hk c_28).trans (by (try dsimp only); rw [if_pos (Int32.not_le.mp c_52)]; rfl))) dX4_made_61
      · refine lv_aload_n C0.1 C0.2.1 dX4_made_31 rfl (lv_at hl 0 rfl) ?_
        refine lv_bipush (v := (-5)) C0.1 C0.2.1 dX4_made_32 (by decide) ?_
        refine m_ci C0 hK hM hS (fun _ h => h) (mm_refuse l D dA am S 5 (by omega)) 1 (lw_V q733 q735 qs18 q43 q736) rfl rfl hdd_refuse ⟨(Nat.le_of_ble_eq_true rfl), (Nat.le_of_ble_eq_true rfl)⟩ rfl hl.1 rfl (Nat.le_of_ble_eq_true rfl) dX4_made_34 ⟨(Nat.le_of_ble_eq_true rfl), (Nat.le_of_ble_eq_true rfl)⟩ (fun r S' H locs hr hM hS _ => ?_)
        obtain ⟨rfl, rfl⟩ := hr
        exact m_iretS C0 hr hlk hM hS (PB.of (onMk_0 hj hk c_28)) dX4_made_37
    · have c_13 : ¬ ((inR p1 4).isSome = true) := b01_0.mp c_13
      refine lv_aload_n C0.1 C0.2.1 dX4_made_16 rfl (lv_at hl 0 rfl) ?_
      refine lv_iconst (v := (-1)) C0.1 C0.2.1 dX4_made_17 (by decide) ?_
      refine m_ci C0 hK hM hS (fun _ h => h) (mm_refuse l D dA am S 1 (by omega)) 1 (lw_V q733 q735 qs18 q43 q736) rfl rfl hdd_refuse ⟨(Nat.le_of_ble_eq_true rfl), (Nat.le_of_ble_eq_true rfl)⟩ rfl hl.1 rfl (Nat.le_of_ble_eq_true rfl) dX4_made_18 ⟨(Nat.le_of_ble_eq_true rfl), (Nat.le_of_ble_eq_true rfl)⟩ (fun r S' H locs hr hM hS _ => ?_)
      obtain ⟨rfl, rfl⟩ := hr
      exact m_iretS C0 hr hlk hM hS (PB.of (onMk_2 (inR_none c_13))) dX4_made_21
set_option maxHeartbeats 4000000 in
theorem mm_likeness (l : Launch) (D : va_G) (dA : Nat → ClassId) (am : Nat → Nat) (S : St) (c k : Nat) (hO : Ok S) (hc : c < 12) (hk : k < 4) : mCp l yX4_likeness cX4_likeness 6 (some .int) { frames := 1, cells := 0, slots := 0, locals := 24 } D dA am S [.int (nI c), .int (nI k)] (fun r => r = likeF S c k 10) := by
  refine m_head (by decide) rfl (Nat.le_of_ble_eq_true rfl) ?_
  intro p e s m below meth cd ls C0 hr hlk hK hM hS hl
  have hl : lv_has ls 6 [(0, .ref (am 0)), (1, .int (nI c)), (2, .int (nI k))] := hl
  refine lv_iconst (v := 0) C0.1 C0.2.1 dX4_likeness_0 (by decide) ?_
  refine lv_istore_n (lv' := [(3, .int 0), (0, .ref (am 0)), (1, .int (nI c)), (2, .int (nI k))]) C0.1 C0.2.1 dX4_likeness_1 rfl hl (by decide) rfl (fun ls hl => ?_)
  refine lv_iconst (v := 0) C0.1 C0.2.1 dX4_likeness_2 (by decide) ?_
  refine lv_istore (lv' := [(4, .int 0), (3, .int 0), (0, .ref (am 0)), (1, .int (nI c)), (2, .int (nI k))]) C0.1 C0.2.1 dX4_likeness_3 hl (by decide) rfl (fun ls hl => ?_)
  refine W_loopP 10 (fun i ls => lv_has ls 6 [(0, .ref (am 0)), (1, .int (nI c)), (2, .int (nI k)), (3, .int (likeF S c k i)), (4, .int (nI i))]) 5 ?_ ?_ 0 ls (Nat.zero_le _) (lv_sub hl [2, 3, 4, 1, 0] rfl)
  · intro ls hl
    refine lv_iload C0.1 C0.2.1 dX4_likeness_5 (lv_at hl 4 rfl) ?_
    refine lv_bipush (v := 10) C0.1 C0.2.1 dX4_likeness_7 (by decide) ?_
    refine lv_icmp_ge (tgt := 68) C0.1 C0.2.1 dX4_likeness_9 (by decide) (fun c_9 => ?_) (fun c_9 => ?_)
    · have n_9 : 10 ≤ 10 := (nI_leI (a := 10) (b := 10) (by omega) (by omega)).mp c_9
      refine lv_iload_n C0.1 C0.2.1 dX4_likeness_68 rfl (lv_at hl 3 rfl) ?_
      exact m_iret C0 hr hlk rfl dX4_likeness_69
    · have n_9 : ¬ 10 ≤ 10 := fun z => c_9 ((nI_leI (a := 10) (b := 10) (by omega) (by omega)).mpr z)
      omega
  · intro i ls hi hl K5
    refine lv_iload C0.1 C0.2.1 dX4_likeness_5 (lv_at hl 4 rfl) ?_
    refine lv_bipush (v := 10) C0.1 C0.2.1 dX4_likeness_7 (by decide) ?_
    refine lv_icmp_ge (tgt := 68) C0.1 C0.2.1 dX4_likeness_9 (by decide) (fun c_9 => ?_) (fun c_9 => ?_)
    · have n_9 : 10 ≤ i := (nI_leI (a := 10) (b := i) (by omega) (by omega)).mp c_9
      omega
    · have n_9 : ¬ 10 ≤ i := fun z => c_9 ((nI_leI (a := 10) (b := i) (by omega) (by omega)).mpr z)
      refine lv_aload_n C0.1 C0.2.1 dX4_likeness_12 rfl (lv_at hl 0 rfl) ?_
      refine lv_iload_n C0.1 C0.2.1 dX4_likeness_13 rfl (lv_at hl 1 rfl) ?_
      refine lv_iload C0.1 C0.2.1 dX4_likeness_14 (lv_at hl 4 rfl) ?_
      refine m_cp C0 hK hM (mm_timesIn l D dA am S c (nI i) hO.len hO.len16 (by omega)) 2 (lw_V q913 q915 qs36 q43 q916) rfl rfl hdd_timesIn ⟨(Nat.le_of_ble_eq_true rfl), (Nat.le_of_ble_eq_true rfl)⟩ rfl hl.1 rfl (Nat.le_of_ble_eq_true rfl) dX4_likeness_16 ⟨(Nat.le_of_ble_eq_true rfl), (Nat.le_of_ble_eq_true rfl)⟩ (fun r hr => ?_)
      subst hr
      refine lv_aload_n C0.1 C0.2.1 dX4_likeness_19 rfl (lv_at hl 0 rfl) ?_
      refine m_geta C0 hK hM 21 (by decide) rfl q653 dX4_likeness_20 ?_
      refine lv_iload_n C0.1 C0.2.1 dX4_likeness_23 rfl (lv_at hl 2 rfl) ?_
      refine m_iald C0 hK hM 21 k rfl rfl rfl (show k < 4 from (by omega)) (by decide) dX4_likeness_24 ?_
      refine lv_imul C0.1 C0.2.1 dX4_likeness_25 ?_
      refine lv_aload_n C0.1 C0.2.1 dX4_likeness_26 rfl (lv_at hl 0 rfl) ?_
      refine m_geta C0 hK hM 20 (by decide) rfl q652 dX4_likeness_27 ?_
      refine lv_bipush (v := 10) C0.1 C0.2.1 dX4_likeness_30 (by decide) ?_
      refine lv_iload_n C0.1 C0.2.1 dX4_likeness_32 rfl (lv_at hl 2 rfl) ?_
      refine lv_imul C0.1 C0.2.1 dX4_likeness_33 ?_
      refine tp_eq (y := nI (10 * k)) (pk_mul 10 k) ?_
      refine lv_iload C0.1 C0.2.1 dX4_likeness_34 (lv_at hl 4 rfl) ?_
      refine lv_iadd C0.1 C0.2.1 dX4_likeness_36 ?_
      refine tp_eq (y := nI (10 * k + i)) (nI_add (10 * k) i) ?_
      refine m_iald C0 hK hM 20 (10 * k + i) rfl rfl rfl (show 10 * k + i < 40 from (by omega)) (by decide) dX4_likeness_37 ?_
      refine lv_aload_n C0.1 C0.2.1 dX4_likeness_38 rfl (lv_at hl 0 rfl) ?_
      refine m_geti C0 hK hM 0 (by decide) rfl q632 dX4_likeness_39 ?_
      refine lv_imul C0.1 C0.2.1 dX4_likeness_42 ?_
      refine lv_isub C0.1 C0.2.1 dX4_likeness_43 ?_
      refine tp_eq (y := (nI (timesF (row S c) (nI i) (ln S)) * S 21 k - S 20 (10 * k + i) * S 0 0)) (rfl) ?_
      refine lv_istore (lv' := [(5, .int (nI (timesF (row S c) (nI i) (ln S)) * S 21 k - S 20 (10 * k + i) * S 0 0)), (0, .ref (am 0)), (1, .int (nI c)), (2, .int (nI k)), (3, .int (likeF S c k i)), (4, .int (nI i))]) C0.1 C0.2.1 dX4_likeness_44 hl (by decide) rfl (fun ls hl => ?_)
      refine lv_iload_n C0.1 C0.2.1 dX4_likeness_46 rfl (lv_at hl 4 rfl) ?_
      refine jn_i 60 [.int (likeF S c k i)] (fun v => v = iabs (nI (timesF (row S c) (nI i) (ln S)) * S 21 k - S 20 (10 * k + i) * S 0 0)) (fun v hv => ?_) (fun J => ?_)
      · subst hv
        refine lv_iadd C0.1 C0.2.1 dX4_likeness_60 ?_
        refine tp_eq (y := likeF S c k (i + 1)) (rfl) ?_
        refine lv_istore_n (lv' := [(3, .int (likeF S c k (i + 1))), (5, .int (nI (timesF (row S c) (nI i) (ln S)) * S 21 k - S 20 (10 * k + i) * S 0 0)), (0, .ref (am 0)), (1, .int (nI c)), (2, .int (nI k)), (4, .int (nI i))]) C0.1 C0.2.1 dX4_likeness_61 rfl hl (by decide) rfl (fun ls hl => ?_)
        refine lv_iinc (v := nI (i + 1)) (lv' := [(4, .int (nI (i + 1))), (3, .int (likeF S c k (i + 1))), (5, .int (nI (timesF (row S c) (nI i) (ln S)) * S 21 k - S 20 (10 * k + i) * S 0 0)), (0, .ref (am 0)), (1, .int (nI c)), (2, .int (nI k))]) C0.1 C0.2.1 dX4_likeness_62 hl (k := 5) rfl (nI_1 i) (by decide) rfl (fun ls hl => ?_)
        refine lv_goto (tgt := 5) C0.1 C0.2.1 dX4_likeness_65 (by decide) ?_
        exact K5 ls (lv_sub hl [3, 4, 5, 1, 0] rfl)
      · refine lv_iload C0.1 C0.2.1 dX4_likeness_47 (lv_at hl 0 rfl) ?_
        refine lv_if_ge (tgt := 58) C0.1 C0.2.1 dX4_likeness_49 (by decide) (fun c_49 => ?_) (fun c_49 => ?_)
        · refine lv_iload C0.1 C0.2.1 dX4_likeness_58 (lv_at hl 0 rfl) ?_
          exact J _ ((if_neg (Int32.not_lt.mpr c_49)).symm)
        · refine lv_iload C0.1 C0.2.1 dX4_likeness_52 (lv_at hl 0 rfl) ?_
          refine lv_ineg C0.1 C0.2.1 dX4_likeness_54 ?_
          refine lv_goto (tgt := 60) C0.1 C0.2.1 dX4_likeness_55 (by decide) ?_
          exact J _ ((if_pos (Int32.not_le.mp c_49)).symm)
set_option maxHeartbeats 4000000 in
theorem mm_like (l : Launch) (D : va_G) (dA : Nat → ClassId) (am : Nat → Nat) (S : St) (p0 p1 : Int32) (hO : Ok S) : mCi l yX4_like cX4_like 3 (some .int) { frames := 2, cells := 0, slots := 0, locals := 49 } D dA am S [.int p0, .int p1] (fun r S' => PB (sp_like S p0 p1) r S') := by
  refine m_head (by decide) rfl (Nat.le_of_ble_eq_true rfl) ?_
  intro p e s m below meth cd ls C0 hr hlk hK hM hS hl
  have hl : lv_has ls 3 [(0, .ref (am 0)), (1, .int p0), (2, .int p1)] := hl
  refine lv_iload_n C0.1 C0.2.1 dX4_like_0 rfl (lv_at hl 1 rfl) ?_
  refine st_call C0 (mm_isCam l p0) 1 (lw_S q741 q742 q43 q743) rfl rfl hdd_isCam ⟨(Nat.le_of_ble_eq_true rfl), (Nat.le_of_ble_eq_true rfl)⟩ rfl hl.1 rfl (Nat.le_of_ble_eq_true rfl) dX4_like_1 ⟨(Nat.le_of_ble_eq_true rfl), (Nat.le_of_ble_eq_true rfl)⟩ (fun r hr => ?_)
  subst hr
  refine lv_if_eq (tgt := 16) C0.1 C0.2.1 dX4_like_4 (by decide) (fun c_4 => ?_) (fun c_4 => ?_)
  · have c_4 : ¬ ((inR p0 12).isSome = true) := b01_0.mp c_4
    refine lv_aload_n C0.1 C0.2.1 dX4_like_16 rfl (lv_at hl 0 rfl) ?_
    refine lv_iconst (v := (-1)) C0.1 C0.2.1 dX4_like_17 (by decide) ?_
    refine m_ci C0 hK hM hS (fun _ h => h) (mm_refuse l D dA am S 1 (by omega)) 1 (lw_V q733 q735 qs18 q43 q736) rfl rfl hdd_refuse ⟨(Nat.le_of_ble_eq_true rfl), (Nat.le_of_ble_eq_true rfl)⟩ rfl hl.1 rfl (Nat.le_of_ble_eq_true rfl) dX4_like_18 ⟨(Nat.le_of_ble_eq_true rfl), (Nat.le_of_ble_eq_true rfl)⟩ (fun r S' H locs hr hM hS _ => ?_)
    obtain ⟨rfl, rfl⟩ := hr
    exact m_iretS C0 hr hlk hM hS (PB.of (onMk_1 (inR_none c_4))) dX4_like_21
  · have c_4 : (inR p0 12).isSome = true := b01_1.mp c_4
    refine lv_iload_n C0.1 C0.2.1 dX4_like_7 rfl (lv_at hl 2 rfl) ?_
    refine lv_iconst (v := 0) C0.1 C0.2.1 dX4_like_8 (by decide) ?_
    refine lv_iconst (v := 3) C0.1 C0.2.1 dX4_like_9 (by decide) ?_
    refine st_call C0 (mm_in l p1 0 3) 3 (lw_S q744 q745 q43 q746) rfl rfl hdd_in ⟨(Nat.le_of_ble_eq_true rfl), (Nat.le_of_ble_eq_true rfl)⟩ rfl hl.1 rfl (Nat.le_of_ble_eq_true rfl) dX4_like_10 ⟨(Nat.le_of_ble_eq_true rfl), (Nat.le_of_ble_eq_true rfl)⟩ (fun r hr => ?_)
    subst hr
    refine tp_eq (y := (if (inR p1 4).isSome = true then 1 else 0)) (b01_c (inR_le (n := 4) (by decide))) ?_
    refine lv_if_ne (tgt := 22) C0.1 C0.2.1 dX4_like_13 (by decide) (fun c_13 => ?_) (fun c_13 => ?_)
    · have c_13 : (inR p1 4).isSome = true := b01_1.mp c_13
      obtain ⟨j, hj, bj, rfl⟩ := inR_get c_4 (by decide)
      obtain ⟨k, hk, bk, rfl⟩ := inR_get c_13 (by decide)
      refine lv_aload_n C0.1 C0.2.1 dX4_like_22 rfl (lv_at hl 0 rfl) ?_
      refine m_geta C0 hK hM 1 (by decide) rfl q633 dX4_like_23 ?_
      refine lv_iload_n C0.1 C0.2.1 dX4_like_26 rfl (lv_at hl 1 rfl) ?_
      refine m_zald C0 hK hM 1 j rfl rfl rfl (show j < 12 from (by omega)) (by decide) dX4_like_27 ?_
      refine lv_if_ne (tgt := 38) C0.1 C0.2.1 dX4_like_28 (by decide) (fun c_28 => ?_) (fun c_28 => ?_)
      · refine lv_aload_n C0.1 C0.2.1 dX4_like_38 rfl (lv_at hl 0 rfl) ?_
        refine m_geta C0 hK hM 21 (by decide) rfl q653 dX4_like_39 ?_
        refine lv_iload_n C0.1 C0.2.1 dX4_like_42 rfl (lv_at hl 2 rfl) ?_
        refine m_iald C0 hK hM 21 k rfl rfl rfl (show k < 4 from (by omega)) (by decide) dX4_like_43 ?_
        refine lv_if_ne (tgt := 56) C0.1 C0.2.1 dX4_like_44 (by decide) (fun c_44 => ?_) (fun c_44 => ?_)
        · refine lv_aload_n C0.1 C0.2.1 dX4_like_56 rfl (lv_at hl 0 rfl) ?_
          refine lv_iload_n C0.1 C0.2.1 dX4_like_57 rfl (lv_at hl 1 rfl) ?_
          refine lv_iload_n C0.1 C0.2.1 dX4_like_58 rfl (lv_at hl 2 rfl) ?_
          refine m_cp C0 hK hM (mm_likeness l D dA am S j k hO (by omega) (by omega)) 2 (lw_V q921 q923 qs37 q43 q924) rfl rfl hdd_likeness ⟨(Nat.le_of_ble_eq_true rfl), (Nat.le_of_ble_eq_true rfl)⟩ rfl hl.1 rfl (Nat.le_of_ble_eq_true rfl) dX4_like_59 ⟨(Nat.le_of_ble_eq_true rfl), (Nat.le_of_ble_eq_true rfl)⟩ (fun r hr => ?_)
          subst hr
          exact m_iretS C0 hr hlk hM hS (PB.of ((onMk_t hj hk c_28).trans (by (try dsimp only); rw [if_neg c_44]))) dX4_like_62
        · refine lv_aload_n C0.1 C0.2.1 dX4_like_47 rfl (lv_at hl 0 rfl) ?_
          refine lv_bipush (v := (-3)) C0.1 C0.2.1 dX4_like_48 (by decide) ?_
          refine m_ci C0 hK hM hS (fun _ h => h) (mm_refuse l D dA am S 3 (by omega)) 1 (lw_V q733 q735 qs18 q43 q736) rfl rfl hdd_refuse ⟨(Nat.le_of_ble_eq_true rfl), (Nat.le_of_ble_eq_true rfl)⟩ rfl hl.1 rfl (Nat.le_of_ble_eq_true rfl) dX4_like_50 ⟨(Nat.le_of_ble_eq_true rfl), (Nat.le_of_ble_eq_true rfl)⟩ (fun r S' H locs hr hM hS _ => ?_)
          obtain ⟨rfl, rfl⟩ := hr
          refine lv_goto (tgt := 62) C0.1 C0.2.1 dX4_like_53 (by decide) ?_
          exact m_iretS C0 hr hlk hM hS (PB.of ((onMk_t hj hk c_28).trans (by (try dsimp only); rw [if_pos c_44]; rfl))) dX4_like_62
      · refine lv_aload_n C0.1 C0.2.1 dX4_like_31 rfl (lv_at hl 0 rfl) ?_
        refine lv_bipush (v := (-5)) C0.1 C0.2.1 dX4_like_32 (by decide) ?_
        refine m_ci C0 hK hM hS (fun _ h => h) (mm_refuse l D dA am S 5 (by omega)) 1 (lw_V q733 q735 qs18 q43 q736) rfl rfl hdd_refuse ⟨(Nat.le_of_ble_eq_true rfl), (Nat.le_of_ble_eq_true rfl)⟩ rfl hl.1 rfl (Nat.le_of_ble_eq_true rfl) dX4_like_34 ⟨(Nat.le_of_ble_eq_true rfl), (Nat.le_of_ble_eq_true rfl)⟩ (fun r S' H locs hr hM hS _ => ?_)
        obtain ⟨rfl, rfl⟩ := hr
        exact m_iretS C0 hr hlk hM hS (PB.of (onMk_0 hj hk c_28)) dX4_like_37
    · have c_13 : ¬ ((inR p1 4).isSome = true) := b01_0.mp c_13
      refine lv_aload_n C0.1 C0.2.1 dX4_like_16 rfl (lv_at hl 0 rfl) ?_
      refine lv_iconst (v := (-1)) C0.1 C0.2.1 dX4_like_17 (by decide) ?_
      refine m_ci C0 hK hM hS (fun _ h => h) (mm_refuse l D dA am S 1 (by omega)) 1 (lw_V q733 q735 qs18 q43 q736) rfl rfl hdd_refuse ⟨(Nat.le_of_ble_eq_true rfl), (Nat.le_of_ble_eq_true rfl)⟩ rfl hl.1 rfl (Nat.le_of_ble_eq_true rfl) dX4_like_18 ⟨(Nat.le_of_ble_eq_true rfl), (Nat.le_of_ble_eq_true rfl)⟩ (fun r S' H locs hr hM hS _ => ?_)
      obtain ⟨rfl, rfl⟩ := hr
      exact m_iretS C0 hr hlk hM hS (PB.of (onMk_2 (inR_none c_13))) dX4_like_21
set_option maxHeartbeats 4000000 in
theorem mm_whose (l : Launch) (D : va_G) (dA : Nat → ClassId) (am : Nat → Nat) (S : St) (p0 : Int32) (hO : Ok S) : mCi l yX4_whose cX4_whose 5 (some .int) { frames := 3, cells := 0, slots := 0, locals := 63 } D dA am S [.int p0] (fun r S' => PB (sp_whose S p0) r S') := by
  refine m_head (by decide) rfl (Nat.le_of_ble_eq_true rfl) ?_
  intro p e s m below meth cd ls C0 hr hlk hK hM hS hl
  have hl : lv_has ls 5 [(0, .ref (am 0)), (1, .int p0)] := hl
  refine lv_aload_n C0.1 C0.2.1 dX4_whose_0 rfl (lv_at hl 0 rfl) ?_
  refine lv_iload_n C0.1 C0.2.1 dX4_whose_1 rfl (lv_at hl 1 rfl) ?_
  refine m_cp C0 hK hM (mm_lacks l D dA am S p0) 1 (lw_V q751 q753 qs19 q43 q754) rfl rfl hdd_lacks ⟨(Nat.le_of_ble_eq_true rfl), (Nat.le_of_ble_eq_true rfl)⟩ rfl hl.1 rfl (Nat.le_of_ble_eq_true rfl) dX4_whose_2 ⟨(Nat.le_of_ble_eq_true rfl), (Nat.le_of_ble_eq_true rfl)⟩ (fun r hr => ?_)
  subst hr
  refine lv_istore_n (lv' := [(2, .int (-(nI (lackN S p0)))), (0, .ref (am 0)), (1, .int p0)]) C0.1 C0.2.1 dX4_whose_5 rfl hl (by decide) rfl (fun ls hl => ?_)
  refine lv_iload_n C0.1 C0.2.1 dX4_whose_6 rfl (lv_at hl 0 rfl) ?_
  refine lv_if_ge (tgt := 16) C0.1 C0.2.1 dX4_whose_7 (by decide) (fun c_7 => ?_) (fun c_7 => ?_)
  · obtain ⟨j, hj, bj, rfl, hth, hon⟩ := onCam_t (lk0 c_7)
    refine lv_bipush (v := (-9)) C0.1 C0.2.1 dX4_whose_16 (by decide) ?_
    refine lv_istore_n (lv' := [(3, .int (-9)), (2, .int (-(nI (lackN S (nI j))))), (0, .ref (am 0)), (1, .int (nI j))]) C0.1 C0.2.1 dX4_whose_18 rfl hl (by decide) rfl (fun ls hl => ?_)
    refine lv_iconst (v := 0) C0.1 C0.2.1 dX4_whose_19 (by decide) ?_
    refine lv_istore (lv' := [(4, .int 0), (3, .int (-9)), (2, .int (-(nI (lackN S (nI j))))), (0, .ref (am 0)), (1, .int (nI j))]) C0.1 C0.2.1 dX4_whose_20 hl (by decide) rfl (fun ls hl => ?_)
    refine W_loop 4 (fun i H locs ls => MP D dA am S H ∧ va_S (MA am) s.heap H locs ∧ lv_has ls 5 [(0, .ref (am 0)), (1, .int (nI j)), (3, .int (rotI (whoF S j i))), (4, .int (nI i))]) 22 ?_ ?_ 0 _ _ ls (Nat.zero_le _) ⟨hM, hS, lv_sub hl [3, 4, 1, 0] rfl⟩
    · intro H locs ls ⟨hM, hS, hl⟩
      refine lv_iload C0.1 C0.2.1 dX4_whose_22 (lv_at hl 3 rfl) ?_
      refine lv_iconst (v := 4) C0.1 C0.2.1 dX4_whose_24 (by decide) ?_
      refine lv_icmp_ge (tgt := 87) C0.1 C0.2.1 dX4_whose_25 (by decide) (fun c_25 => ?_) (fun c_25 => ?_)
      · have n_25 : 4 ≤ 4 := (nI_leI (a := 4) (b := 4) (by omega) (by omega)).mp c_25
        refine lv_iload_n C0.1 C0.2.1 dX4_whose_87 rfl (lv_at hl 2 rfl) ?_
        exact m_iretS C0 hr hlk hM hS (PB.of (hon _)) dX4_whose_88
      · have n_25 : ¬ 4 ≤ 4 := fun z => c_25 ((nI_leI (a := 4) (b := 4) (by omega) (by omega)).mpr z)
        omega
    · intro i H locs ls hi ⟨hM, hS, hl⟩ K22
      refine lv_iload C0.1 C0.2.1 dX4_whose_22 (lv_at hl 3 rfl) ?_
      refine lv_iconst (v := 4) C0.1 C0.2.1 dX4_whose_24 (by decide) ?_
      refine lv_icmp_ge (tgt := 87) C0.1 C0.2.1 dX4_whose_25 (by decide) (fun c_25 => ?_) (fun c_25 => ?_)
      · have n_25 : 4 ≤ i := (nI_leI (a := 4) (b := i) (by omega) (by omega)).mp c_25
        omega
      · have n_25 : ¬ 4 ≤ i := fun z => c_25 ((nI_leI (a := 4) (b := i) (by omega) (by omega)).mpr z)
        refine jnP 81 (fun ls => lv_has ls 5 [(0, .ref (am 0)), (1, .int (nI j)), (3, .int (rotI (whoF S j (i + 1)))), (4, .int (nI i))]) (fun ls hl => ?_) (fun J => ?_)
        · refine lv_iinc (v := nI (i + 1)) (lv' := [(4, .int (nI (i + 1))), (0, .ref (am 0)), (1, .int (nI j)), (3, .int (rotI (whoF S j (i + 1))))]) C0.1 C0.2.1 dX4_whose_81 hl (k := 3) rfl (nI_1 i) (by decide) rfl (fun ls hl => ?_)
          refine lv_goto (tgt := 22) C0.1 C0.2.1 dX4_whose_84 (by decide) ?_
          exact K22 _ _ ls ⟨hM, hS, lv_sub hl [1, 2, 3, 0] rfl⟩
        · refine lv_aload_n C0.1 C0.2.1 dX4_whose_28 rfl (lv_at hl 0 rfl) ?_
          refine m_geta C0 hK hM 21 (by decide) rfl q653 dX4_whose_29 ?_
          refine lv_iload C0.1 C0.2.1 dX4_whose_32 (lv_at hl 3 rfl) ?_
          refine m_iald C0 hK hM 21 i rfl rfl rfl (show i < 4 from (by omega)) (by decide) dX4_whose_34 ?_
          refine lv_if_le (tgt := 81) C0.1 C0.2.1 dX4_whose_35 (by decide) (fun c_35 => ?_) (fun c_35 => ?_)
          · exact J _ (by rw [who_0 c_35]; exact lv_sub hl [0, 1, 2, 3] rfl)
          · rcases ho : whoF S j i with _ | b
            · rw [ho] at hl
              have hl : lv_has ls 5 [(0, .ref (am 0)), (1, .int (nI j)), (3, .int (-9)), (4, .int (nI i))] := hl
              refine lv_iload_n C0.1 C0.2.1 dX4_whose_38 rfl (lv_at hl 2 rfl) ?_
              refine lv_if_lt (tgt := 78) C0.1 C0.2.1 dX4_whose_39 (by decide) (fun c_39 => ?_) (fun c_39 => ?_)
              · refine lv_iload C0.1 C0.2.1 dX4_whose_78 (lv_at hl 3 rfl) ?_
                refine lv_istore_n (lv' := [(3, .int (nI i)), (0, .ref (am 0)), (1, .int (nI j)), (4, .int (nI i))]) C0.1 C0.2.1 dX4_whose_80 rfl hl (by decide) rfl (fun ls hl => ?_)
                exact J _ (by rw [who_n c_35 ho]; exact lv_sub hl [1, 2, 0, 3] rfl)
              · exact absurd (by decide) c_39
            · have hbi := whoF_lt S j i b ho
              rw [ho] at hl
              have hl : lv_has ls 5 [(0, .ref (am 0)), (1, .int (nI j)), (3, .int (nI b)), (4, .int (nI i))] := hl
              refine lv_iload_n C0.1 C0.2.1 dX4_whose_38 rfl (lv_at hl 2 rfl) ?_
              refine lv_if_lt (tgt := 78) C0.1 C0.2.1 dX4_whose_39 (by decide) (fun c_39 => ?_) (fun c_39 => ?_)
              · have n_39 : b < 0 := (nI_ltI (a := b) (b := 0) (by omega) (by omega)).mp c_39
                exact absurd c_39 (nI_pos (by omega))
              · have n_39 : ¬ b < 0 := fun z => c_39 ((nI_ltI (a := b) (b := 0) (by omega) (by omega)).mpr z)
                refine lv_aload_n C0.1 C0.2.1 dX4_whose_42 rfl (lv_at hl 0 rfl) ?_
                refine lv_iload_n C0.1 C0.2.1 dX4_whose_43 rfl (lv_at hl 1 rfl) ?_
                refine lv_iload C0.1 C0.2.1 dX4_whose_44 (lv_at hl 3 rfl) ?_
                refine m_cp C0 hK hM (mm_likeness l D dA am S j i hO (by omega) (by omega)) 2 (lw_V q921 q923 qs37 q43 q924) rfl rfl hdd_likeness ⟨(Nat.le_of_ble_eq_true rfl), (Nat.le_of_ble_eq_true rfl)⟩ rfl hl.1 rfl (Nat.le_of_ble_eq_true rfl) dX4_whose_46 ⟨(Nat.le_of_ble_eq_true rfl), (Nat.le_of_ble_eq_true rfl)⟩ (fun r hr => ?_)
                subst hr
                refine lv_i2l (v := (likeF S j i 10).toInt64) C0.1 C0.2.1 dX4_whose_49 rfl ?_
                refine lv_aload_n C0.1 C0.2.1 dX4_whose_50 rfl (lv_at hl 0 rfl) ?_
                refine m_geta C0 hK hM 21 (by decide) rfl q653 dX4_whose_51 ?_
                refine lv_iload_n C0.1 C0.2.1 dX4_whose_54 rfl (lv_at hl 2 rfl) ?_
                refine m_iald C0 hK hM 21 b rfl rfl rfl (show b < 4 from (by omega)) (by decide) dX4_whose_55 ?_
                refine lv_i2l (v := (S 21 b).toInt64) C0.1 C0.2.1 dX4_whose_56 rfl ?_
                refine lv_lmul C0.1 C0.2.1 dX4_whose_57 ?_
                refine lv_aload_n C0.1 C0.2.1 dX4_whose_58 rfl (lv_at hl 0 rfl) ?_
                refine lv_iload_n C0.1 C0.2.1 dX4_whose_59 rfl (lv_at hl 1 rfl) ?_
                refine lv_iload_n C0.1 C0.2.1 dX4_whose_60 rfl (lv_at hl 2 rfl) ?_
                refine m_cp C0 hK hM (mm_likeness l D dA am S j b hO (by omega) (by omega)) 2 (lw_V q921 q923 qs37 q43 q924) rfl rfl hdd_likeness ⟨(Nat.le_of_ble_eq_true rfl), (Nat.le_of_ble_eq_true rfl)⟩ rfl hl.1 rfl (Nat.le_of_ble_eq_true rfl) dX4_whose_61 ⟨(Nat.le_of_ble_eq_true rfl), (Nat.le_of_ble_eq_true rfl)⟩ (fun r hr => ?_)
                subst hr
                refine lv_i2l (v := (likeF S j b 10).toInt64) C0.1 C0.2.1 dX4_whose_64 rfl ?_
                refine lv_aload_n C0.1 C0.2.1 dX4_whose_65 rfl (lv_at hl 0 rfl) ?_
                refine m_geta C0 hK hM 21 (by decide) rfl q653 dX4_whose_66 ?_
                refine lv_iload C0.1 C0.2.1 dX4_whose_69 (lv_at hl 3 rfl) ?_
                refine m_iald C0 hK hM 21 i rfl rfl rfl (show i < 4 from (by omega)) (by decide) dX4_whose_71 ?_
                refine lv_i2l (v := (S 21 i).toInt64) C0.1 C0.2.1 dX4_whose_72 rfl ?_
                refine lv_lmul C0.1 C0.2.1 dX4_whose_73 ?_
                refine W.lcmp C0.1 C0.2.1 dX4_whose_74 ?_
                refine lv_if_ge (tgt := 81) C0.1 C0.2.1 dX4_whose_75 (by decide) (fun c_75 => ?_) (fun c_75 => ?_)
                · exact J _ (by rw [who_f ho (Int64.not_lt.mpr ((lg_cmp_ge _ _).mp c_75)), ho]; exact lv_sub hl [0, 1, 2, 3] rfl)
                · refine lv_iload C0.1 C0.2.1 dX4_whose_78 (lv_at hl 3 rfl) ?_
                  refine lv_istore_n (lv' := [(3, .int (nI i)), (0, .ref (am 0)), (1, .int (nI j)), (4, .int (nI i))]) C0.1 C0.2.1 dX4_whose_80 rfl hl (by decide) rfl (fun ls hl => ?_)
                  exact J _ (by rw [who_t c_35 ho (Int64.not_le.mp (fun z => c_75 ((lg_cmp_ge _ _).mpr z)))]; exact lv_sub hl [1, 2, 0, 3] rfl)
  · refine lv_aload_n C0.1 C0.2.1 dX4_whose_10 rfl (lv_at hl 1 rfl) ?_
    refine lv_iload_n C0.1 C0.2.1 dX4_whose_11 rfl (lv_at hl 0 rfl) ?_
    refine m_ci C0 hK hM hS (fun _ h => h) (mm_refuse l D dA am S (lackN S p0) (lackN_lt S p0)) 1 (lw_V q733 q735 qs18 q43 q736) rfl rfl hdd_refuse ⟨(Nat.le_of_ble_eq_true rfl), (Nat.le_of_ble_eq_true rfl)⟩ rfl hl.1 rfl (Nat.le_of_ble_eq_true rfl) dX4_whose_12 ⟨(Nat.le_of_ble_eq_true rfl), (Nat.le_of_ble_eq_true rfl)⟩ (fun r S' H locs hr hM hS _ => ?_)
    obtain ⟨rfl, rfl⟩ := hr
    exact m_iretS C0 hr hlk hM hS (PB.of (onCam_l (lk1 c_7))) dX4_whose_15
set_option maxHeartbeats 4000000 in
theorem mm_count (l : Launch) (D : va_G) (dA : Nat → ClassId) (am : Nat → Nat) (S : St) (p0 : Int32) : mCi l yX4_count cX4_count 4 (some .int) { frames := 1, cells := 0, slots := 0, locals := 22 } D dA am S [.int p0] (fun r S' => PB (sp_count S p0) r S') := by
  refine m_head (by decide) rfl (Nat.le_of_ble_eq_true rfl) ?_
  intro p e s m below meth cd ls C0 hr hlk hK hM hS hl
  have hl : lv_has ls 4 [(0, .ref (am 0)), (1, .int p0)] := hl
  refine lv_iconst (v := 0) C0.1 C0.2.1 dX4_count_0 (by decide) ?_
  refine lv_istore_n (lv' := [(2, .int 0), (0, .ref (am 0)), (1, .int p0)]) C0.1 C0.2.1 dX4_count_1 rfl hl (by decide) rfl (fun ls hl => ?_)
  refine lv_iload_n C0.1 C0.2.1 dX4_count_2 rfl (lv_at hl 2 rfl) ?_
  rcases hk : inR p0 11 with _ | k
  · refine lv_tableOut (tgt := 143) C0.1 C0.2.1 dX4_count_3 (inR_out hk) (by decide) ?_
    refine lv_iload_n C0.1 C0.2.1 dX4_count_143 rfl (lv_at hl 2 rfl) ?_
    refine lv_bipush (v := 11) C0.1 C0.2.1 dX4_count_144 (by decide) ?_
    refine lv_bipush (v := 17) C0.1 C0.2.1 dX4_count_146 (by decide) ?_
    refine st_call C0 (mm_in l p0 11 17) 3 (lw_S q744 q745 q43 q746) rfl rfl hdd_in ⟨(Nat.le_of_ble_eq_true rfl), (Nat.le_of_ble_eq_true rfl)⟩ rfl hl.1 rfl (Nat.le_of_ble_eq_true rfl) dX4_count_148 ⟨(Nat.le_of_ble_eq_true rfl), (Nat.le_of_ble_eq_true rfl)⟩ (fun r hr => ?_)
    subst hr
    refine lv_if_eq (tgt := 166) C0.1 C0.2.1 dX4_count_151 (by decide) (fun c_151 => ?_) (fun c_151 => ?_)
    · have c_151 : ¬ (11 ≤ p0 ∧ p0 ≤ 17) := b01_0.mp c_151
      refine lv_bipush (v := (-9)) C0.1 C0.2.1 dX4_count_166 (by decide) ?_
      exact m_iretS C0 hr hlk hM hS (PB.of (count_no hk c_151)) dX4_count_168
    · have c_151 : 11 ≤ p0 ∧ p0 ≤ 17 := b01_1.mp c_151
      obtain ⟨k, bk, rfl, hs⟩ := count_hi (S := S) c_151
      refine lv_aload_n C0.1 C0.2.1 dX4_count_154 rfl (lv_at hl 1 rfl) ?_
      refine m_geta C0 hK hM 22 (by decide) rfl q654 dX4_count_155 ?_
      refine lv_iload_n C0.1 C0.2.1 dX4_count_158 rfl (lv_at hl 2 rfl) ?_
      refine lv_bipush (v := 10) C0.1 C0.2.1 dX4_count_159 (by decide) ?_
      refine lv_isub C0.1 C0.2.1 dX4_count_161 ?_
      refine tp_eq (y := nI (k + 1)) (pk_sub (a := k + 11) (b := 10) (by omega)) ?_
      refine m_iald C0 hK hM 22 (k + 1) rfl rfl rfl (show k + 1 < 8 from (by omega)) (by decide) dX4_count_162 ?_
      refine lv_goto (tgt := 168) C0.1 C0.2.1 dX4_count_163 (by decide) ?_
      exact m_iretS C0 hr hlk hM hS (PB.of hs) dX4_count_168
  · have hs := count_lo (S := S) hk
    obtain ⟨bk, rfl⟩ := inR_some hk (by decide)
    match k, bk, hs, C0, hl with
    | 0, _, hs, C0, hl => 
      refine lv_tableIn (tgt := 60) C0.1 C0.2.1 dX4_count_3 (by decide) (by decide) (off := 57) (by decide) (by decide) ?_
      refine lv_aload_n C0.1 C0.2.1 dX4_count_60 rfl (lv_at hl 1 rfl) ?_
      refine m_geti C0 hK hM 0 (by decide) rfl q632 dX4_count_61 ?_
      exact m_iretS C0 hr hlk hM hS (PB.of hs) dX4_count_64
    | 1, _, hs, C0, hl => 
      refine lv_tableIn (tgt := 65) C0.1 C0.2.1 dX4_count_3 (by decide) (by decide) (off := 62) (by decide) (by decide) ?_
      refine lv_iconst (v := 0) C0.1 C0.2.1 dX4_count_65 (by decide) ?_
      refine lv_istore_n (lv' := [(3, .int 0), (2, .int 0), (0, .ref (am 0)), (1, .int (nI 1))]) C0.1 C0.2.1 dX4_count_66 rfl hl (by decide) rfl (fun ls hl => ?_)
      refine W_loop 12 (fun i H locs ls => MP D dA am S H ∧ va_S (MA am) s.heap H locs ∧ lv_has ls 4 [(0, .ref (am 0)), (1, .int (nI 1)), (2, .int (nI (thereF S i))), (3, .int (nI i))]) 67 ?_ ?_ 0 _ _ ls (Nat.zero_le _) ⟨hM, hS, lv_sub hl [2, 3, 1, 0] rfl⟩
      · intro H locs ls ⟨hM, hS, hl⟩
        refine lv_iload_n C0.1 C0.2.1 dX4_count_67 rfl (lv_at hl 3 rfl) ?_
        refine lv_bipush (v := 12) C0.1 C0.2.1 dX4_count_68 (by decide) ?_
        refine lv_icmp_ge (tgt := 96) C0.1 C0.2.1 dX4_count_70 (by decide) (fun c_70 => ?_) (fun c_70 => ?_)
        · have n_70 : 12 ≤ 12 := (nI_leI (a := 12) (b := 12) (by omega) (by omega)).mp c_70
          refine lv_iload_n C0.1 C0.2.1 dX4_count_96 rfl (lv_at hl 2 rfl) ?_
          exact m_iretS C0 hr hlk hM hS (PB.of hs) dX4_count_97
        · have n_70 : ¬ 12 ≤ 12 := fun z => c_70 ((nI_leI (a := 12) (b := 12) (by omega) (by omega)).mpr z)
          omega
      · intro i H locs ls hi ⟨hM, hS, hl⟩ K67
        refine lv_iload_n C0.1 C0.2.1 dX4_count_67 rfl (lv_at hl 3 rfl) ?_
        refine lv_bipush (v := 12) C0.1 C0.2.1 dX4_count_68 (by decide) ?_
        refine lv_icmp_ge (tgt := 96) C0.1 C0.2.1 dX4_count_70 (by decide) (fun c_70 => ?_) (fun c_70 => ?_)
        · have n_70 : 12 ≤ i := (nI_leI (a := 12) (b := i) (by omega) (by omega)).mp c_70
          omega
        · have n_70 : ¬ 12 ≤ i := fun z => c_70 ((nI_leI (a := 12) (b := i) (by omega) (by omega)).mpr z)
          refine lv_iload_n C0.1 C0.2.1 dX4_count_73 rfl (lv_at hl 2 rfl) ?_
          refine jn_i 88 [.int (nI (thereF S i))] (fun v => v = nI (if S 1 i = 0 then 0 else 1)) (fun v hv => ?_) (fun J => ?_)
          · subst hv
            refine lv_iadd C0.1 C0.2.1 dX4_count_88 ?_
            refine tp_eq (y := nI (thereF S (i + 1))) (nI_add _ _) ?_
            refine lv_istore_n (lv' := [(2, .int (nI (thereF S (i + 1)))), (0, .ref (am 0)), (1, .int (nI 1)), (3, .int (nI i))]) C0.1 C0.2.1 dX4_count_89 rfl hl (by decide) rfl (fun ls hl => ?_)
            refine lv_iinc (v := nI (i + 1)) (lv' := [(3, .int (nI (i + 1))), (2, .int (nI (thereF S (i + 1)))), (0, .ref (am 0)), (1, .int (nI 1))]) C0.1 C0.2.1 dX4_count_90 hl (k := 3) rfl (nI_1 i) (by decide) rfl (fun ls hl => ?_)
            refine lv_goto (tgt := 67) C0.1 C0.2.1 dX4_count_93 (by decide) ?_
            exact K67 _ _ ls ⟨hM, hS, lv_sub hl [2, 3, 1, 0] rfl⟩
          · refine lv_aload_n C0.1 C0.2.1 dX4_count_74 rfl (lv_at hl 0 rfl) ?_
            refine m_geta C0 hK hM 1 (by decide) rfl q633 dX4_count_75 ?_
            refine lv_iload_n C0.1 C0.2.1 dX4_count_78 rfl (lv_at hl 3 rfl) ?_
            refine m_zald C0 hK hM 1 i rfl rfl rfl (show i < 12 from (by omega)) (by decide) dX4_count_79 ?_
            refine lv_if_eq (tgt := 87) C0.1 C0.2.1 dX4_count_80 (by decide) (fun c_80 => ?_) (fun c_80 => ?_)
            · refine lv_iconst (v := 0) C0.1 C0.2.1 dX4_count_87 (by decide) ?_
              exact J _ (n10_t c_80)
            · refine lv_iconst (v := 1) C0.1 C0.2.1 dX4_count_83 (by decide) ?_
              refine lv_goto (tgt := 88) C0.1 C0.2.1 dX4_count_84 (by decide) ?_
              exact J _ (n10_f c_80)
    | 2, _, hs, C0, hl => 
      refine lv_tableIn (tgt := 98) C0.1 C0.2.1 dX4_count_3 (by decide) (by decide) (off := 95) (by decide) (by decide) ?_
      refine lv_aload_n C0.1 C0.2.1 dX4_count_98 rfl (lv_at hl 1 rfl) ?_
      refine m_geti C0 hK hM 6 (by decide) rfl q638 dX4_count_99 ?_
      exact m_iretS C0 hr hlk hM hS (PB.of hs) dX4_count_102
    | 3, _, hs, C0, hl => 
      refine lv_tableIn (tgt := 103) C0.1 C0.2.1 dX4_count_3 (by decide) (by decide) (off := 100) (by decide) (by decide) ?_
      refine lv_aload_n C0.1 C0.2.1 dX4_count_103 rfl (lv_at hl 1 rfl) ?_
      refine m_geti C0 hK hM 9 (by decide) rfl q641 dX4_count_104 ?_
      exact m_iretS C0 hr hlk hM hS (PB.of hs) dX4_count_107
    | 4, _, hs, C0, hl => 
      refine lv_tableIn (tgt := 108) C0.1 C0.2.1 dX4_count_3 (by decide) (by decide) (off := 105) (by decide) (by decide) ?_
      refine lv_aload_n C0.1 C0.2.1 dX4_count_108 rfl (lv_at hl 1 rfl) ?_
      refine m_geti C0 hK hM 11 (by decide) rfl q643 dX4_count_109 ?_
      exact m_iretS C0 hr hlk hM hS (PB.of hs) dX4_count_112
    | 5, _, hs, C0, hl => 
      refine lv_tableIn (tgt := 113) C0.1 C0.2.1 dX4_count_3 (by decide) (by decide) (off := 110) (by decide) (by decide) ?_
      refine lv_aload_n C0.1 C0.2.1 dX4_count_113 rfl (lv_at hl 1 rfl) ?_
      refine m_geti C0 hK hM 12 (by decide) rfl q644 dX4_count_114 ?_
      exact m_iretS C0 hr hlk hM hS (PB.of hs) dX4_count_117
    | 6, _, hs, C0, hl => 
      refine lv_tableIn (tgt := 118) C0.1 C0.2.1 dX4_count_3 (by decide) (by decide) (off := 115) (by decide) (by decide) ?_
      refine lv_aload_n C0.1 C0.2.1 dX4_count_118 rfl (lv_at hl 1 rfl) ?_
      refine m_geti C0 hK hM 13 (by decide) rfl q645 dX4_count_119 ?_
      exact m_iretS C0 hr hlk hM hS (PB.of hs) dX4_count_122
    | 7, _, hs, C0, hl => 
      refine lv_tableIn (tgt := 123) C0.1 C0.2.1 dX4_count_3 (by decide) (by decide) (off := 120) (by decide) (by decide) ?_
      refine lv_aload_n C0.1 C0.2.1 dX4_count_123 rfl (lv_at hl 1 rfl) ?_
      refine m_geti C0 hK hM 14 (by decide) rfl q646 dX4_count_124 ?_
      exact m_iretS C0 hr hlk hM hS (PB.of hs) dX4_count_127
    | 8, _, hs, C0, hl => 
      refine lv_tableIn (tgt := 128) C0.1 C0.2.1 dX4_count_3 (by decide) (by decide) (off := 125) (by decide) (by decide) ?_
      refine lv_aload_n C0.1 C0.2.1 dX4_count_128 rfl (lv_at hl 1 rfl) ?_
      refine m_geti C0 hK hM 15 (by decide) rfl q647 dX4_count_129 ?_
      exact m_iretS C0 hr hlk hM hS (PB.of hs) dX4_count_132
    | 9, _, hs, C0, hl => 
      refine lv_tableIn (tgt := 133) C0.1 C0.2.1 dX4_count_3 (by decide) (by decide) (off := 130) (by decide) (by decide) ?_
      refine lv_aload_n C0.1 C0.2.1 dX4_count_133 rfl (lv_at hl 1 rfl) ?_
      refine m_geti C0 hK hM 16 (by decide) rfl q648 dX4_count_134 ?_
      exact m_iretS C0 hr hlk hM hS (PB.of hs) dX4_count_137
    | 10, _, hs, C0, hl => 
      refine lv_tableIn (tgt := 138) C0.1 C0.2.1 dX4_count_3 (by decide) (by decide) (off := 135) (by decide) (by decide) ?_
      refine lv_aload_n C0.1 C0.2.1 dX4_count_138 rfl (lv_at hl 1 rfl) ?_
      refine m_cp C0 hK hM (mm_faultMany l D dA am S ) 0 (lw_V q893 q895 qs33 q43 q896) rfl rfl hdd_faultMany ⟨(Nat.le_of_ble_eq_true rfl), (Nat.le_of_ble_eq_true rfl)⟩ rfl hl.1 rfl (Nat.le_of_ble_eq_true rfl) dX4_count_139 ⟨(Nat.le_of_ble_eq_true rfl), (Nat.le_of_ble_eq_true rfl)⟩ (fun r hr => ?_)
      subst hr
      exact m_iretS C0 hr hlk hM hS (PB.of hs) dX4_count_142
    | n + 11, h, _, _, _ => omega
