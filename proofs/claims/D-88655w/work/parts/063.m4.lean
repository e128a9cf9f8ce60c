set_option maxRecDepth 100000
set_option linter.unusedVariables false
theorem hdd_write : yX4_write.cls = RX4 ∧ yX4_write.cls ≠ "java/lang/invoke/MethodHandle" ∧ yX4_write.cls ≠ "java/lang/invoke/VarHandle" ∧ (parseMethodDescriptor yX4_write.desc).map (fun d => d.parameters.length) = some 2 := by decide +kernel
theorem hdd_isWritten : yX4_isWritten.cls = RX4 ∧ yX4_isWritten.cls ≠ "java/lang/invoke/MethodHandle" ∧ yX4_isWritten.cls ≠ "java/lang/invoke/VarHandle" ∧ (parseMethodDescriptor yX4_isWritten.desc).map (fun d => d.parameters.length) = some 3 := by decide +kernel
theorem hdd_findKind : yX4_findKind.cls = RX4 ∧ yX4_findKind.cls ≠ "java/lang/invoke/MethodHandle" ∧ yX4_findKind.cls ≠ "java/lang/invoke/VarHandle" ∧ (parseMethodDescriptor yX4_findKind.desc).map (fun d => d.parameters.length) = some 0 := by decide +kernel
theorem hdd_explained : yX4_explained.cls = RX4 ∧ yX4_explained.cls ≠ "java/lang/invoke/MethodHandle" ∧ yX4_explained.cls ≠ "java/lang/invoke/VarHandle" ∧ (parseMethodDescriptor yX4_explained.desc).map (fun d => d.parameters.length) = some 1 := by decide +kernel
set_option maxHeartbeats 4000000 in
theorem mm_write (l : Launch) (D : va_G) (dA : Nat → ClassId) (am : Nat → Nat) (S : St) (k t : Nat) (hO : OkW S) (hk : k < 12) (ht : t < 16) : mCv l yX4_write cX4_write 13 { frames := 2, cells := 0, slots := 0, locals := 46 } D dA am S [.int (nI k), .int (nI t)] (fun S' => S' = setMk S (wrt S (S 0 26) (S 0 28) (S 29, S 30) k t)) := by
  refine m_head (by decide) rfl (Nat.le_of_ble_eq_true rfl) ?_
  intro p e s m below meth cd ls C0 hr hlk hK hM hS hl
  have hl : lv_has ls 13 [(0, .ref (am 0)), (1, .int (nI k)), (2, .int (nI t))] := hl
  obtain ⟨X, hX⟩ : ∃ X, X = xA S (S 0 26) (S 0 28) k t := ⟨_, rfl⟩
  obtain ⟨Y, hY⟩ : ∃ Y, Y = yA S (S 0 26) (S 0 28) k t := ⟨_, rfl⟩
  obtain ⟨X0, hX0⟩ : ∃ X0, X0 = xA S (S 0 26) (S 0 28) k (t - 1) := ⟨_, rfl⟩
  obtain ⟨Y0, hY0⟩ : ∃ Y0, Y0 = yA S (S 0 26) (S 0 28) k (t - 1) := ⟨_, rfl⟩
  obtain ⟨M, hMM⟩ : ∃ M, M = max (adist X X0) (adist Y Y0) := ⟨_, rfl⟩
  have bX : X ≤ 109 := by rw [hX]; exact xA_le hO _ _ hk ht
  have bY : Y ≤ 9 := by rw [hY]; exact yA_le _ _ _ _ _
  have bX0 : X0 ≤ 109 := by rw [hX0]; exact xA_le hO _ _ hk (by omega)
  have bY0 : Y0 ≤ 9 := by rw [hY0]; exact yA_le _ _ _ _ _
  have bdx : adist X X0 ≤ M := by rw [hMM]; exact Nat.le_max_left _ _
  have bdy : adist Y Y0 ≤ M := by rw [hMM]; exact Nat.le_max_right _ _
  have bM : M ≤ 120 := by rw [hMM]; unfold adist; omega
  refine lv_aload_n C0.1 C0.2.1 dX4_write_0 rfl (lv_at hl 0 rfl) ?_
  refine lv_iload_n C0.1 C0.2.1 dX4_write_1 rfl (lv_at hl 1 rfl) ?_
  refine lv_iload_n C0.1 C0.2.1 dX4_write_2 rfl (lv_at hl 2 rfl) ?_
  refine m_cp C0 hK hM (mm_isDown l D dA am S k t hO (by omega) (by omega)) 2 (lw_V q843 q845 qs28 q43 q846) rfl rfl hdd_isDown ⟨(Nat.le_of_ble_eq_true rfl), (Nat.le_of_ble_eq_true rfl)⟩ rfl hl.1 rfl (Nat.le_of_ble_eq_true rfl) dX4_write_3 ⟨(Nat.le_of_ble_eq_true rfl), (Nat.le_of_ble_eq_true rfl)⟩ (fun r hr => ?_)
  subst hr
  refine lv_if_ne (tgt := 10) C0.1 C0.2.1 dX4_write_6 (by decide) (fun c_6 => ?_) (fun c_6 => ?_)
  · have c_6 : dwn S (S 0 26) k t = true := b01_1.mp c_6
    refine lv_aload_n C0.1 C0.2.1 dX4_write_10 rfl (lv_at hl 0 rfl) ?_
    refine lv_iload_n C0.1 C0.2.1 dX4_write_11 rfl (lv_at hl 1 rfl) ?_
    refine lv_iload_n C0.1 C0.2.1 dX4_write_12 rfl (lv_at hl 2 rfl) ?_
    refine m_cp C0 hK hM (mm_xAt l D dA am S k t hO (by omega) (by omega)) 2 (lw_V q851 q853 qs30 q43 q854) rfl rfl hdd_xAt ⟨(Nat.le_of_ble_eq_true rfl), (Nat.le_of_ble_eq_true rfl)⟩ rfl hl.1 rfl (Nat.le_of_ble_eq_true rfl) dX4_write_13 ⟨(Nat.le_of_ble_eq_true rfl), (Nat.le_of_ble_eq_true rfl)⟩ (fun r hr => ?_)
    subst hr
    refine tp_eq (y := nI X) (by rw [hX]) ?_
    refine lv_istore_n (lv' := [(3, .int (nI X)), (0, .ref (am 0)), (1, .int (nI k)), (2, .int (nI t))]) C0.1 C0.2.1 dX4_write_16 rfl hl (by decide) rfl (fun ls hl => ?_)
    refine lv_aload_n C0.1 C0.2.1 dX4_write_17 rfl (lv_at hl 1 rfl) ?_
    refine lv_iload_n C0.1 C0.2.1 dX4_write_18 rfl (lv_at hl 2 rfl) ?_
    refine lv_iload_n C0.1 C0.2.1 dX4_write_19 rfl (lv_at hl 3 rfl) ?_
    refine m_cp C0 hK hM (mm_yAt l D dA am S k t hO (by omega) (by omega)) 2 (lw_V q855 q857 qs31 q43 q858) rfl rfl hdd_yAt ⟨(Nat.le_of_ble_eq_true rfl), (Nat.le_of_ble_eq_true rfl)⟩ rfl hl.1 rfl (Nat.le_of_ble_eq_true rfl) dX4_write_20 ⟨(Nat.le_of_ble_eq_true rfl), (Nat.le_of_ble_eq_true rfl)⟩ (fun r hr => ?_)
    subst hr
    refine tp_eq (y := nI Y) (by rw [hY]) ?_
    refine lv_istore (lv' := [(4, .int (nI Y)), (3, .int (nI X)), (0, .ref (am 0)), (1, .int (nI k)), (2, .int (nI t))]) C0.1 C0.2.1 dX4_write_23 hl (by decide) rfl (fun ls hl => ?_)
    refine lv_aload_n C0.1 C0.2.1 dX4_write_25 rfl (lv_at hl 2 rfl) ?_
    refine lv_iload_n C0.1 C0.2.1 dX4_write_26 rfl (lv_at hl 1 rfl) ?_
    refine lv_iload C0.1 C0.2.1 dX4_write_27 (lv_at hl 0 rfl) ?_
    refine lv_iload_n C0.1 C0.2.1 dX4_write_29 rfl (lv_at hl 3 rfl) ?_
    refine lv_iload_n C0.1 C0.2.1 dX4_write_30 rfl (lv_at hl 4 rfl) ?_
    refine m_cv C0 hK hM hS (fun _ h => h) (mm_mark l D dA am S X Y k t (by omega) (by omega)) 4 (lw_V q859 q861 qs32 q43 q862) rfl rfl hdd_mark ⟨(Nat.le_of_ble_eq_true rfl), (Nat.le_of_ble_eq_true rfl)⟩ rfl hl.1 rfl (Nat.le_of_ble_eq_true rfl) dX4_write_31 ⟨(Nat.le_of_ble_eq_true rfl), (Nat.le_of_ble_eq_true rfl)⟩ (fun S' H locs hr hM hS => ?_)
    subst hr
    refine lv_iload_n C0.1 C0.2.1 dX4_write_34 rfl (lv_at hl 4 rfl) ?_
    refine lv_if_le (tgt := 190) C0.1 C0.2.1 dX4_write_35 (by decide) (fun c_35 => ?_) (fun c_35 => ?_)
    · have n_35 : t ≤ 0 := (nI_leI (a := t) (b := 0) (by omega) (by omega)).mp c_35
      have hM : MP D dA am (setMk S (wrt S (S 0 26) (S 0 28) (S 29, S 30) k t)) H := by
        rw [wrt_1 c_6 (fun z => by omega), ← hX, ← hY]; exact hM
      exact m_vretS C0 hr hlk hM hS rfl dX4_write_190
    · have n_35 : ¬ t ≤ 0 := fun z => c_35 ((nI_leI (a := t) (b := 0) (by omega) (by omega)).mpr z)
      refine lv_aload_n C0.1 C0.2.1 dX4_write_38 rfl (lv_at hl 2 rfl) ?_
      refine lv_iload_n C0.1 C0.2.1 dX4_write_39 rfl (lv_at hl 3 rfl) ?_
      refine lv_iload_n C0.1 C0.2.1 dX4_write_40 rfl (lv_at hl 4 rfl) ?_
      refine lv_iconst (v := 1) C0.1 C0.2.1 dX4_write_41 (by decide) ?_
      refine lv_isub C0.1 C0.2.1 dX4_write_42 ?_
      refine tp_eq (y := nI (t - 1)) (pk_sub (a := t) (b := 1) (by omega)) ?_
      refine m_cp C0 hK hM (mm_isDown l D dA am (setMk S (mk1 (S 29, S 30) (10 * X + Y) k t)) k (t - 1) (hO.q (mk_w _ _).symm) (by omega) (by omega)) 2 (lw_V q843 q845 qs28 q43 q846) rfl rfl hdd_isDown ⟨(Nat.le_of_ble_eq_true rfl), (Nat.le_of_ble_eq_true rfl)⟩ rfl hl.1 rfl (Nat.le_of_ble_eq_true rfl) dX4_write_43 ⟨(Nat.le_of_ble_eq_true rfl), (Nat.le_of_ble_eq_true rfl)⟩ (fun r hr => ?_)
      subst hr
      refine tp_eq (y := (if dwn S (S 0 26) k (t - 1) = true then 1 else 0)) (by rw [mk_0, dwn_q (mk_w _ _)]) ?_
      refine lv_if_eq (tgt := 190) C0.1 C0.2.1 dX4_write_46 (by decide) (fun c_46 => ?_) (fun c_46 => ?_)
      · have c_46 : ¬ (dwn S (S 0 26) k (t - 1) = true) := b01_0.mp c_46
        have hM : MP D dA am (setMk S (wrt S (S 0 26) (S 0 28) (S 29, S 30) k t)) H := by
          rw [wrt_1 c_6 (fun z => c_46 z.2), ← hX, ← hY]; exact hM
        exact m_vretS C0 hr hlk hM hS rfl dX4_write_190
      · have c_46 : dwn S (S 0 26) k (t - 1) = true := b01_1.mp c_46
        refine lv_aload_n C0.1 C0.2.1 dX4_write_49 rfl (lv_at hl 2 rfl) ?_
        refine lv_iload_n C0.1 C0.2.1 dX4_write_50 rfl (lv_at hl 3 rfl) ?_
        refine lv_iload_n C0.1 C0.2.1 dX4_write_51 rfl (lv_at hl 4 rfl) ?_
        refine lv_iconst (v := 1) C0.1 C0.2.1 dX4_write_52 (by decide) ?_
        refine lv_isub C0.1 C0.2.1 dX4_write_53 ?_
        refine tp_eq (y := nI (t - 1)) (pk_sub (a := t) (b := 1) (by omega)) ?_
        refine m_cp C0 hK hM (mm_xAt l D dA am (setMk S (mk1 (S 29, S 30) (10 * X + Y) k t)) k (t - 1) (hO.q (mk_w _ _).symm) (by omega) (by omega)) 2 (lw_V q851 q853 qs30 q43 q854) rfl rfl hdd_xAt ⟨(Nat.le_of_ble_eq_true rfl), (Nat.le_of_ble_eq_true rfl)⟩ rfl hl.1 rfl (Nat.le_of_ble_eq_true rfl) dX4_write_54 ⟨(Nat.le_of_ble_eq_true rfl), (Nat.le_of_ble_eq_true rfl)⟩ (fun r hr => ?_)
        subst hr
        refine tp_eq (y := nI X0) (by rw [hX0, mk_0, mk_0, xA_q (mk_w _ _)]) ?_
        refine lv_istore (lv' := [(5, .int (nI X0)), (4, .int (nI Y)), (3, .int (nI X)), (0, .ref (am 0)), (1, .int (nI k)), (2, .int (nI t))]) C0.1 C0.2.1 dX4_write_57 hl (by decide) rfl (fun ls hl => ?_)
        refine lv_aload_n C0.1 C0.2.1 dX4_write_59 rfl (lv_at hl 3 rfl) ?_
        refine lv_iload_n C0.1 C0.2.1 dX4_write_60 rfl (lv_at hl 4 rfl) ?_
        refine lv_iload_n C0.1 C0.2.1 dX4_write_61 rfl (lv_at hl 5 rfl) ?_
        refine lv_iconst (v := 1) C0.1 C0.2.1 dX4_write_62 (by decide) ?_
        refine lv_isub C0.1 C0.2.1 dX4_write_63 ?_
        refine tp_eq (y := nI (t - 1)) (pk_sub (a := t) (b := 1) (by omega)) ?_
        refine m_cp C0 hK hM (mm_yAt l D dA am (setMk S (mk1 (S 29, S 30) (10 * X + Y) k t)) k (t - 1) (hO.q (mk_w _ _).symm) (by omega) (by omega)) 2 (lw_V q855 q857 qs31 q43 q858) rfl rfl hdd_yAt ⟨(Nat.le_of_ble_eq_true rfl), (Nat.le_of_ble_eq_true rfl)⟩ rfl hl.1 rfl (Nat.le_of_ble_eq_true rfl) dX4_write_64 ⟨(Nat.le_of_ble_eq_true rfl), (Nat.le_of_ble_eq_true rfl)⟩ (fun r hr => ?_)
        subst hr
        refine tp_eq (y := nI Y0) (by rw [hY0, mk_0, mk_0, yA_q (mk_w _ _)]) ?_
        refine lv_istore (lv' := [(6, .int (nI Y0)), (5, .int (nI X0)), (4, .int (nI Y)), (3, .int (nI X)), (0, .ref (am 0)), (1, .int (nI k)), (2, .int (nI t))]) C0.1 C0.2.1 dX4_write_67 hl (by decide) rfl (fun ls hl => ?_)
        refine lv_iload_n C0.1 C0.2.1 dX4_write_69 rfl (lv_at hl 3 rfl) ?_
        refine lv_iload C0.1 C0.2.1 dX4_write_70 (lv_at hl 1 rfl) ?_
        refine lv_isub C0.1 C0.2.1 dX4_write_72 ?_
        refine lv_istore (lv' := [(7, .int (nI X - nI X0)), (6, .int (nI Y0)), (5, .int (nI X0)), (4, .int (nI Y)), (3, .int (nI X)), (0, .ref (am 0)), (1, .int (nI k)), (2, .int (nI t))]) C0.1 C0.2.1 dX4_write_73 hl (by decide) rfl (fun ls hl => ?_)
        refine lv_iload C0.1 C0.2.1 dX4_write_75 (lv_at hl 3 rfl) ?_
        refine lv_iload C0.1 C0.2.1 dX4_write_77 (lv_at hl 1 rfl) ?_
        refine lv_isub C0.1 C0.2.1 dX4_write_79 ?_
        refine lv_istore (lv' := [(8, .int (nI Y - nI Y0)), (7, .int (nI X - nI X0)), (6, .int (nI Y0)), (5, .int (nI X0)), (4, .int (nI Y)), (3, .int (nI X)), (0, .ref (am 0)), (1, .int (nI k)), (2, .int (nI t))]) C0.1 C0.2.1 dX4_write_80 hl (by decide) rfl (fun ls hl => ?_)
        refine jn_i 95 [] (fun v => v = nI (adist X X0)) (fun v hv => ?_) (fun J => ?_)
        · subst hv
          refine lv_istore (lv' := [(9, .int (nI (adist X X0))), (8, .int (nI Y - nI Y0)), (7, .int (nI X - nI X0)), (6, .int (nI Y0)), (5, .int (nI X0)), (4, .int (nI Y)), (3, .int (nI X)), (0, .ref (am 0)), (1, .int (nI k)), (2, .int (nI t))]) C0.1 C0.2.1 dX4_write_95 hl (by decide) rfl (fun ls hl => ?_)
          refine jn_i 110 [] (fun v => v = nI (adist Y Y0)) (fun v hv => ?_) (fun J => ?_)
          · subst hv
            refine lv_istore (lv' := [(10, .int (nI (adist Y Y0))), (9, .int (nI (adist X X0))), (8, .int (nI Y - nI Y0)), (7, .int (nI X - nI X0)), (6, .int (nI Y0)), (5, .int (nI X0)), (4, .int (nI Y)), (3, .int (nI X)), (0, .ref (am 0)), (1, .int (nI k)), (2, .int (nI t))]) C0.1 C0.2.1 dX4_write_110 hl (by decide) rfl (fun ls hl => ?_)
            refine jn_i 126 [] (fun v => v = nI M) (fun v hv => ?_) (fun J => ?_)
            · subst hv
              refine lv_istore (lv' := [(11, .int (nI M)), (10, .int (nI (adist Y Y0))), (9, .int (nI (adist X X0))), (8, .int (nI Y - nI Y0)), (7, .int (nI X - nI X0)), (6, .int (nI Y0)), (5, .int (nI X0)), (4, .int (nI Y)), (3, .int (nI X)), (0, .ref (am 0)), (1, .int (nI k)), (2, .int (nI t))]) C0.1 C0.2.1 dX4_write_126 hl (by decide) rfl (fun ls hl => ?_)
              refine lv_iconst (v := 1) C0.1 C0.2.1 dX4_write_128 (by decide) ?_
              refine lv_istore (lv' := [(12, .int 1), (11, .int (nI M)), (10, .int (nI (adist Y Y0))), (9, .int (nI (adist X X0))), (8, .int (nI Y - nI Y0)), (7, .int (nI X - nI X0)), (6, .int (nI Y0)), (5, .int (nI X0)), (4, .int (nI Y)), (3, .int (nI X)), (0, .ref (am 0)), (1, .int (nI k)), (2, .int (nI t))]) C0.1 C0.2.1 dX4_write_129 hl (by decide) rfl (fun ls hl => ?_)
              refine W_loop (M - 1) (fun i H locs ls => MP D dA am (setMk S (lineF (mk1 (S 29, S 30) (10 * X + Y) k t) X0 Y0 X Y k t i)) H ∧ va_S (MA am) s.heap H locs ∧ lv_has ls 13 [(0, .ref (am 0)), (1, .int (nI k)), (2, .int (nI t)), (3, .int (nI X)), (4, .int (nI Y)), (5, .int (nI X0)), (6, .int (nI Y0)), (7, .int (nI X - nI X0)), (8, .int (nI Y - nI Y0)), (11, .int (nI M)), (12, .int (nI (i + 1)))]) 131 ?_ ?_ 0 _ _ ls (Nat.zero_le _) ⟨hM, hS, lv_sub hl [10, 11, 12, 9, 8, 7, 6, 5, 4, 1, 0] rfl⟩
              · intro H locs ls ⟨hM, hS, hl⟩
                refine lv_iload C0.1 C0.2.1 dX4_write_131 (lv_at hl 10 rfl) ?_
                refine lv_iload C0.1 C0.2.1 dX4_write_133 (lv_at hl 9 rfl) ?_
                refine lv_icmp_ge (tgt := 190) C0.1 C0.2.1 dX4_write_135 (by decide) (fun c_135 => ?_) (fun c_135 => ?_)
                · have n_135 : M ≤ (M - 1) + 1 := (nI_leI (a := M) (b := (M - 1) + 1) (by omega) (by omega)).mp c_135
                  have hM : MP D dA am (setMk S (wrt S (S 0 26) (S 0 28) (S 29, S 30) k t)) H := by
                    rw [wrt_2 c_6 ⟨by omega, c_46⟩, ← hX, ← hY, ← hX0, ← hY0, ← hMM]; exact hM
                  exact m_vretS C0 hr hlk hM hS rfl dX4_write_190
                · have n_135 : ¬ M ≤ (M - 1) + 1 := fun z => c_135 ((nI_leI (a := M) (b := (M - 1) + 1) (by omega) (by omega)).mpr z)
                  omega
              · intro i H locs ls hi ⟨hM, hS, hl⟩ K131
                refine lv_iload C0.1 C0.2.1 dX4_write_131 (lv_at hl 10 rfl) ?_
                refine lv_iload C0.1 C0.2.1 dX4_write_133 (lv_at hl 9 rfl) ?_
                refine lv_icmp_ge (tgt := 190) C0.1 C0.2.1 dX4_write_135 (by decide) (fun c_135 => ?_) (fun c_135 => ?_)
                · have n_135 : M ≤ i + 1 := (nI_leI (a := M) (b := i + 1) (by omega) (by omega)).mp c_135
                  omega
                · have n_135 : ¬ M ≤ i + 1 := fun z => c_135 ((nI_leI (a := M) (b := i + 1) (by omega) (by omega)).mpr z)
                  refine lv_aload_n C0.1 C0.2.1 dX4_write_138 rfl (lv_at hl 0 rfl) ?_
                  refine lv_iload C0.1 C0.2.1 dX4_write_139 (lv_at hl 5 rfl) ?_
                  refine lv_iconst (v := 2) C0.1 C0.2.1 dX4_write_141 (by decide) ?_
                  refine lv_iload C0.1 C0.2.1 dX4_write_142 (lv_at hl 10 rfl) ?_
                  refine lv_imul C0.1 C0.2.1 dX4_write_144 ?_
                  refine tp_eq (y := nI (2 * (i + 1))) (pk_mul 2 (i + 1)) ?_
                  refine lv_iload C0.1 C0.2.1 dX4_write_145 (lv_at hl 7 rfl) ?_
                  refine lv_imul C0.1 C0.2.1 dX4_write_147 ?_
                  refine lv_iload C0.1 C0.2.1 dX4_write_148 (lv_at hl 9 rfl) ?_
                  refine lv_iadd C0.1 C0.2.1 dX4_write_150 ?_
                  refine lv_iconst (v := 2) C0.1 C0.2.1 dX4_write_151 (by decide) ?_
                  refine lv_iload C0.1 C0.2.1 dX4_write_152 (lv_at hl 9 rfl) ?_
                  refine lv_imul C0.1 C0.2.1 dX4_write_154 ?_
                  refine tp_eq (y := nI (2 * M)) (pk_mul 2 M) ?_
                  refine st_call C0 (mm_lower l (((nI (2 * (i + 1))) * (nI X - nI X0)) + nI M) (nI (2 * M)) (nI_ne0 (by omega) (by omega))) 2 (lw_S q863 q864 q43 q865) rfl rfl hdd_lower ⟨(Nat.le_of_ble_eq_true rfl), (Nat.le_of_ble_eq_true rfl)⟩ rfl hl.1 rfl (Nat.le_of_ble_eq_true rfl) dX4_write_155 ⟨(Nat.le_of_ble_eq_true rfl), (Nat.le_of_ble_eq_true rfl)⟩ (fun r hr => ?_)
                  subst hr
                  refine lv_iadd C0.1 C0.2.1 dX4_write_158 ?_
                  refine tp_eq (y := nI (pnt X0 X M (i + 1))) (pnt_eq (by omega) (by omega) (by omega) bdx (by omega)) ?_
                  refine lv_iload C0.1 C0.2.1 dX4_write_159 (lv_at hl 6 rfl) ?_
                  refine lv_iconst (v := 2) C0.1 C0.2.1 dX4_write_161 (by decide) ?_
                  refine lv_iload C0.1 C0.2.1 dX4_write_162 (lv_at hl 10 rfl) ?_
                  refine lv_imul C0.1 C0.2.1 dX4_write_164 ?_
                  refine tp_eq (y := nI (2 * (i + 1))) (pk_mul 2 (i + 1)) ?_
                  refine lv_iload C0.1 C0.2.1 dX4_write_165 (lv_at hl 8 rfl) ?_
                  refine lv_imul C0.1 C0.2.1 dX4_write_167 ?_
                  refine lv_iload C0.1 C0.2.1 dX4_write_168 (lv_at hl 9 rfl) ?_
                  refine lv_iadd C0.1 C0.2.1 dX4_write_170 ?_
                  refine lv_iconst (v := 2) C0.1 C0.2.1 dX4_write_171 (by decide) ?_
                  refine lv_iload C0.1 C0.2.1 dX4_write_172 (lv_at hl 9 rfl) ?_
                  refine lv_imul C0.1 C0.2.1 dX4_write_174 ?_
                  refine tp_eq (y := nI (2 * M)) (pk_mul 2 M) ?_
                  refine st_call C0 (mm_lower l (((nI (2 * (i + 1))) * (nI Y - nI Y0)) + nI M) (nI (2 * M)) (nI_ne0 (by omega) (by omega))) 2 (lw_S q863 q864 q43 q865) rfl rfl hdd_lower ⟨(Nat.le_of_ble_eq_true rfl), (Nat.le_of_ble_eq_true rfl)⟩ rfl hl.1 rfl (Nat.le_of_ble_eq_true rfl) dX4_write_175 ⟨(Nat.le_of_ble_eq_true rfl), (Nat.le_of_ble_eq_true rfl)⟩ (fun r hr => ?_)
                  subst hr
                  refine lv_iadd C0.1 C0.2.1 dX4_write_178 ?_
                  refine tp_eq (y := nI (pnt Y0 Y M (i + 1))) (pnt_eq (by omega) (by omega) (by omega) bdy (by omega)) ?_
                  refine lv_iload_n C0.1 C0.2.1 dX4_write_179 rfl (lv_at hl 1 rfl) ?_
                  refine lv_iload_n C0.1 C0.2.1 dX4_write_180 rfl (lv_at hl 2 rfl) ?_
                  refine m_cv C0 hK hM hS (fun _ h => h) (mm_mark l D dA am (setMk S (lineF (mk1 (S 29, S 30) (10 * X + Y) k t) X0 Y0 X Y k t i)) (pnt X0 X M (i + 1)) (pnt Y0 Y M (i + 1)) k t (by have := pnt_le (N := 109) bdx (show i + 1 < M by omega) (by omega) (by omega); omega) (by have := pnt_le (N := 9) bdy (show i + 1 < M by omega) (by omega) (by omega); omega)) 4 (lw_V q859 q861 qs32 q43 q862) rfl rfl hdd_mark ⟨(Nat.le_of_ble_eq_true rfl), (Nat.le_of_ble_eq_true rfl)⟩ rfl hl.1 rfl (Nat.le_of_ble_eq_true rfl) dX4_write_181 ⟨(Nat.le_of_ble_eq_true rfl), (Nat.le_of_ble_eq_true rfl)⟩ (fun S' H locs hr hM hS => ?_)
                  subst hr
                  refine lv_iinc (v := nI (i + 1 + 1)) (lv' := [(12, .int (nI (i + 1 + 1))), (0, .ref (am 0)), (1, .int (nI k)), (2, .int (nI t)), (3, .int (nI X)), (4, .int (nI Y)), (5, .int (nI X0)), (6, .int (nI Y0)), (7, .int (nI X - nI X0)), (8, .int (nI Y - nI Y0)), (11, .int (nI M))]) C0.1 C0.2.1 dX4_write_184 hl (k := 10) rfl (nI_1 (i + 1)) (by decide) rfl (fun ls hl => ?_)
                  refine lv_goto (tgt := 131) C0.1 C0.2.1 dX4_write_187 (by decide) ?_
                  have hM : MP D dA am (setMk S (lineF (mk1 (S 29, S 30) (10 * X + Y) k t) X0 Y0 X Y k t (i + 1))) H := by
                    subst hMM; have h := hM; rw [setMk_set, setMk_29, setMk_30] at h; exact h
                  exact K131 _ _ ls ⟨hM, hS, lv_sub hl [1, 2, 3, 4, 5, 6, 7, 8, 9, 10, 0] rfl⟩
            · refine lv_iload C0.1 C0.2.1 dX4_write_112 (lv_at hl 1 rfl) ?_
              refine lv_iload C0.1 C0.2.1 dX4_write_114 (lv_at hl 0 rfl) ?_
              refine lv_icmp_le (tgt := 124) C0.1 C0.2.1 dX4_write_116 (by decide) (fun c_116 => ?_) (fun c_116 => ?_)
              · have n_116 : adist X X0 ≤ adist Y Y0 := (nI_leI (a := adist X X0) (b := adist Y Y0) (by omega) (by omega)).mp c_116
                refine lv_iload C0.1 C0.2.1 dX4_write_124 (lv_at hl 0 rfl) ?_
                exact J _ (by rw [hMM, Nat.max_eq_right n_116])
              · have n_116 : ¬ adist X X0 ≤ adist Y Y0 := fun z => c_116 ((nI_leI (a := adist X X0) (b := adist Y Y0) (by omega) (by omega)).mpr z)
                refine lv_iload C0.1 C0.2.1 dX4_write_119 (lv_at hl 1 rfl) ?_
                refine lv_goto (tgt := 126) C0.1 C0.2.1 dX4_write_121 (by decide) ?_
                exact J _ (by rw [hMM, Nat.max_eq_left (by omega)])
          · refine lv_iload C0.1 C0.2.1 dX4_write_97 (lv_at hl 1 rfl) ?_
            refine lv_if_ge (tgt := 108) C0.1 C0.2.1 dX4_write_99 (by decide) (fun c_99 => ?_) (fun c_99 => ?_)
            · refine lv_iload C0.1 C0.2.1 dX4_write_108 (lv_at hl 1 rfl) ?_
              exact J _ (ad_ge (by omega) (by omega) c_99)
            · refine lv_iload C0.1 C0.2.1 dX4_write_102 (lv_at hl 1 rfl) ?_
              refine lv_ineg C0.1 C0.2.1 dX4_write_104 ?_
              refine lv_goto (tgt := 110) C0.1 C0.2.1 dX4_write_105 (by decide) ?_
              exact J _ (ad_lt (by omega) (by omega) c_99)
        · refine lv_iload C0.1 C0.2.1 dX4_write_82 (lv_at hl 1 rfl) ?_
          refine lv_if_ge (tgt := 93) C0.1 C0.2.1 dX4_write_84 (by decide) (fun c_84 => ?_) (fun c_84 => ?_)
          · refine lv_iload C0.1 C0.2.1 dX4_write_93 (lv_at hl 1 rfl) ?_
            exact J _ (ad_ge (by omega) (by omega) c_84)
          · refine lv_iload C0.1 C0.2.1 dX4_write_87 (lv_at hl 1 rfl) ?_
            refine lv_ineg C0.1 C0.2.1 dX4_write_89 ?_
            refine lv_goto (tgt := 95) C0.1 C0.2.1 dX4_write_90 (by decide) ?_
            exact J _ (ad_lt (by omega) (by omega) c_84)
  · have c_6 : ¬ (dwn S (S 0 26) k t = true) := b01_0.mp c_6
    have hM : MP D dA am (setMk S (wrt S (S 0 26) (S 0 28) (S 29, S 30) k t)) s.heap := by
      rw [wrt_no c_6, setMk_id]; exact hM
    exact m_vretS C0 hr hlk hM hS rfl dX4_write_9
set_option maxHeartbeats 4000000 in
theorem mm_isWritten (l : Launch) (D : va_G) (dA : Nat → ClassId) (am : Nat → Nat) (S : St) (p0 p1 p2 : Int32) (hO : Ok S) : mCi l yX4_isWritten cX4_isWritten 6 (some .boolean) { frames := 3, cells := 0, slots := 0, locals := 78 } D dA am S [.int p0, .int p1, .int p2] (fun r S' => r = (if expl S p0 p1 p2 = true then 1 else 0) ∧ S' = setMk (hold S p0 p1 p2) (allK S p0 p1 p2 (pg S))) := by
  refine m_head (by decide) rfl (Nat.le_of_ble_eq_true rfl) ?_
  intro p e s m below meth cd ls C0 hr hlk hK hM hS hl
  have hl : lv_has ls 6 [(0, .ref (am 0)), (1, .int p0), (2, .int p1), (3, .int p2)] := hl
  have hl2 := hO.len2
  have hl16 := hO.len16
  have hp12 := hO.pg12
  refine lv_aload_n C0.1 C0.2.1 dX4_isWritten_0 rfl (lv_at hl 0 rfl) ?_
  refine lv_iload_n C0.1 C0.2.1 dX4_isWritten_1 rfl (lv_at hl 1 rfl) ?_
  refine lv_iload_n C0.1 C0.2.1 dX4_isWritten_2 rfl (lv_at hl 2 rfl) ?_
  refine lv_iload_n C0.1 C0.2.1 dX4_isWritten_3 rfl (lv_at hl 3 rfl) ?_
  refine m_cv C0 hK hM hS (fun _ h => h) (mm_holdFaults l D dA am S p0 p1 p2) 3 (lw_V q831 q833 qs25 q43 q834) rfl rfl hdd_holdFaults ⟨(Nat.le_of_ble_eq_true rfl), (Nat.le_of_ble_eq_true rfl)⟩ rfl hl.1 rfl (Nat.le_of_ble_eq_true rfl) dX4_isWritten_4 ⟨(Nat.le_of_ble_eq_true rfl), (Nat.le_of_ble_eq_true rfl)⟩ (fun S' H locs hr hM hS => ?_)
  subst hr
  refine lv_aload_n C0.1 C0.2.1 dX4_isWritten_7 rfl (lv_at hl 0 rfl) ?_
  refine m_cv C0 hK hM hS (fun _ h => h) (mm_newMarks l D dA am (hold S p0 p1 p2) ) 0 (lw_V q835 q837 qs26 q43 q838) rfl rfl hdd_newMarks ⟨(Nat.le_of_ble_eq_true rfl), (Nat.le_of_ble_eq_true rfl)⟩ rfl hl.1 rfl (Nat.le_of_ble_eq_true rfl) dX4_isWritten_8 ⟨(Nat.le_of_ble_eq_true rfl), (Nat.le_of_ble_eq_true rfl)⟩ (fun S' H locs hr hM hS => ?_)
  subst hr
  refine lv_iconst (v := 0) C0.1 C0.2.1 dX4_isWritten_11 (by decide) ?_
  refine lv_istore (lv' := [(4, .int 0), (0, .ref (am 0)), (1, .int p0), (2, .int p1), (3, .int p2)]) C0.1 C0.2.1 dX4_isWritten_12 hl (by decide) rfl (fun ls hl => ?_)
  refine W_loop (pg S) (fun k H locs ls => MP D dA am (setMk (hold S p0 p1 p2) (allK S p0 p1 p2 k)) H ∧ va_S (MA am) s.heap H locs ∧ lv_has ls 6 [(0, .ref (am 0)), (1, .int p0), (2, .int p1), (3, .int p2), (4, .int (nI k))]) 14 ?_ ?_ 0 _ _ ls (Nat.zero_le _) ⟨hM, hS, lv_sub hl [1, 2, 3, 4, 0] rfl⟩
  · intro H locs ls ⟨hM, hS, hl⟩
    refine lv_iload C0.1 C0.2.1 dX4_isWritten_14 (lv_at hl 4 rfl) ?_
    refine lv_aload_n C0.1 C0.2.1 dX4_isWritten_16 rfl (lv_at hl 0 rfl) ?_
    refine m_geti C0 hK hM 6 (by decide) rfl q638 dX4_isWritten_17 ?_
    refine tp_eq (y := nI (pg S)) (by rw [mk_0, hold_0 _ _ _ _ (by decide) (by decide) (by decide)]; exact hO.pgE) ?_
    refine lv_icmp_ge (tgt := 64) C0.1 C0.2.1 dX4_isWritten_20 (by decide) (fun c_20 => ?_) (fun c_20 => ?_)
    · have n_20 : pg S ≤ pg S := (nI_leI (a := pg S) (b := pg S) (by omega) (by omega)).mp c_20
      refine lv_iconst (v := 1) C0.1 C0.2.1 dX4_isWritten_64 (by decide) ?_
      refine lv_istore (lv' := [(4, .int 1), (0, .ref (am 0)), (1, .int p0), (2, .int p1), (3, .int p2)]) C0.1 C0.2.1 dX4_isWritten_65 hl (by decide) rfl (fun ls hl => ?_)
      refine lv_iconst (v := 0) C0.1 C0.2.1 dX4_isWritten_67 (by decide) ?_
      refine lv_istore (lv' := [(5, .int 0), (4, .int 1), (0, .ref (am 0)), (1, .int p0), (2, .int p1), (3, .int p2)]) C0.1 C0.2.1 dX4_isWritten_68 hl (by decide) rfl (fun ls hl => ?_)
      refine W_loop 1200 (fun i H locs ls => MP D dA am (setMk (hold S p0 p1 p2) (allK S p0 p1 p2 (pg S))) H ∧ va_S (MA am) s.heap H locs ∧ lv_has ls 6 [(0, .ref (am 0)), (1, .int p0), (2, .int p1), (3, .int p2), (4, .int (if likeN S (allK S p0 p1 p2 (pg S)) i = true then 1 else 0)), (5, .int (nI i))]) 70 ?_ ?_ 0 _ _ ls (Nat.zero_le _) ⟨hM, hS, lv_sub hl [2, 3, 4, 5, 1, 0] rfl⟩
      · intro H locs ls ⟨hM, hS, hl⟩
        refine lv_iload C0.1 C0.2.1 dX4_isWritten_70 (lv_at hl 5 rfl) ?_
        refine lv_sipush (v := 1200) C0.1 C0.2.1 dX4_isWritten_72 (by decide) ?_
        refine lv_icmp_ge (tgt := 129) C0.1 C0.2.1 dX4_isWritten_75 (by decide) (fun c_75 => ?_) (fun c_75 => ?_)
        · have n_75 : 1200 ≤ 1200 := (nI_leI (a := 1200) (b := 1200) (by omega) (by omega)).mp c_75
          refine lv_iload C0.1 C0.2.1 dX4_isWritten_129 (lv_at hl 4 rfl) ?_
          exact m_zretS C0 hr hlk hM hS nar_b ⟨rfl, rfl⟩ dX4_isWritten_131
        · have n_75 : ¬ 1200 ≤ 1200 := fun z => c_75 ((nI_leI (a := 1200) (b := 1200) (by omega) (by omega)).mpr z)
          omega
      · intro i H locs ls hi ⟨hM, hS, hl⟩ K70
        refine lv_iload C0.1 C0.2.1 dX4_isWritten_70 (lv_at hl 5 rfl) ?_
        refine lv_sipush (v := 1200) C0.1 C0.2.1 dX4_isWritten_72 (by decide) ?_
        refine lv_icmp_ge (tgt := 129) C0.1 C0.2.1 dX4_isWritten_75 (by decide) (fun c_75 => ?_) (fun c_75 => ?_)
        · have n_75 : 1200 ≤ i := (nI_leI (a := 1200) (b := i) (by omega) (by omega)).mp c_75
          omega
        · have n_75 : ¬ 1200 ≤ i := fun z => c_75 ((nI_leI (a := 1200) (b := i) (by omega) (by omega)).mpr z)
          refine jn_i 121 [] (fun v => v = (if likeN S (allK S p0 p1 p2 (pg S)) (i + 1) = true then 1 else 0)) (fun v hv => ?_) (fun J => ?_)
          · subst hv
            refine lv_istore (lv' := [(4, .int (if likeN S (allK S p0 p1 p2 (pg S)) (i + 1) = true then 1 else 0)), (0, .ref (am 0)), (1, .int p0), (2, .int p1), (3, .int p2), (5, .int (nI i))]) C0.1 C0.2.1 dX4_isWritten_121 hl (by decide) rfl (fun ls hl => ?_)
            refine lv_iinc (v := nI (i + 1)) (lv' := [(5, .int (nI (i + 1))), (4, .int (if likeN S (allK S p0 p1 p2 (pg S)) (i + 1) = true then 1 else 0)), (0, .ref (am 0)), (1, .int p0), (2, .int p1), (3, .int p2)]) C0.1 C0.2.1 dX4_isWritten_123 hl (k := 5) rfl (nI_1 i) (by decide) rfl (fun ls hl => ?_)
            refine lv_goto (tgt := 70) C0.1 C0.2.1 dX4_isWritten_126 (by decide) ?_
            exact K70 _ _ ls ⟨hM, hS, lv_sub hl [2, 3, 4, 5, 1, 0] rfl⟩
          · refine lv_iload C0.1 C0.2.1 dX4_isWritten_78 (lv_at hl 4 rfl) ?_
            refine lv_if_eq (tgt := 120) C0.1 C0.2.1 dX4_isWritten_80 (by decide) (fun c_80 => ?_) (fun c_80 => ?_)
            · have c_80 : ¬ (likeN S (allK S p0 p1 p2 (pg S)) i = true) := b01_0.mp c_80
              refine lv_iconst (v := 0) C0.1 C0.2.1 dX4_isWritten_120 (by decide) ?_
              exact J _ (b0_of (like_f1 c_80))
            · have c_80 : likeN S (allK S p0 p1 p2 (pg S)) i = true := b01_1.mp c_80
              refine jn_i 98 [] (fun v => v = (if S 17 i < 0 then 1 else 0)) (fun v hv => ?_) (fun J => ?_)
              · subst hv
                refine jn_i 113 [.int (if S 17 i < 0 then 1 else 0)] (fun v => v = (if (allK S p0 p1 p2 (pg S)).1 i < 0 then 1 else 0)) (fun v hv => ?_) (fun J => ?_)
                · subst hv
                  refine lv_icmp_ne (tgt := 120) C0.1 C0.2.1 dX4_isWritten_113 (by decide) (fun c_113 => ?_) (fun c_113 => ?_)
                  · refine lv_iconst (v := 0) C0.1 C0.2.1 dX4_isWritten_120 (by decide) ?_
                    exact J _ (b0_of (like_f2 c_113))
                  · refine lv_iconst (v := 1) C0.1 C0.2.1 dX4_isWritten_116 (by decide) ?_
                    refine lv_goto (tgt := 121) C0.1 C0.2.1 dX4_isWritten_117 (by decide) ?_
                    exact J _ (b1_of (like_s c_80 c_113))
                · refine lv_aload_n C0.1 C0.2.1 dX4_isWritten_98 rfl (lv_at hl 0 rfl) ?_
                  refine m_geta C0 hK hM 29 (by decide) rfl q661 dX4_isWritten_99 ?_
                  refine lv_iload C0.1 C0.2.1 dX4_isWritten_102 (lv_at hl 5 rfl) ?_
                  refine m_iald C0 hK hM 29 i rfl rfl rfl (show i < 1200 from (by omega)) (by decide) dX4_isWritten_104 ?_
                  refine tp_eq (y := (allK S p0 p1 p2 (pg S)).1 i) (by rw [setMk_29]) ?_
                  refine lv_if_ge (tgt := 112) C0.1 C0.2.1 dX4_isWritten_105 (by decide) (fun c_105 => ?_) (fun c_105 => ?_)
                  · refine lv_iconst (v := 0) C0.1 C0.2.1 dX4_isWritten_112 (by decide) ?_
                    exact J _ (b0_of (Int32.not_lt.mpr c_105))
                  · refine lv_iconst (v := 1) C0.1 C0.2.1 dX4_isWritten_108 (by decide) ?_
                    refine lv_goto (tgt := 113) C0.1 C0.2.1 dX4_isWritten_109 (by decide) ?_
                    exact J _ (b1_of (Int32.not_le.mp c_105))
              · refine lv_aload_n C0.1 C0.2.1 dX4_isWritten_83 rfl (lv_at hl 0 rfl) ?_
                refine m_geta C0 hK hM 17 (by decide) rfl q649 dX4_isWritten_84 ?_
                refine lv_iload C0.1 C0.2.1 dX4_isWritten_87 (lv_at hl 5 rfl) ?_
                refine m_iald C0 hK hM 17 i rfl rfl rfl (show i < 1200 from (by omega)) (by decide) dX4_isWritten_89 ?_
                refine tp_eq (y := S 17 i) (by rw [setMk_ne _ _ (by decide) (by decide), hold_k _ _ _ _ (by decide)]) ?_
                refine lv_if_ge (tgt := 97) C0.1 C0.2.1 dX4_isWritten_90 (by decide) (fun c_90 => ?_) (fun c_90 => ?_)
                · refine lv_iconst (v := 0) C0.1 C0.2.1 dX4_isWritten_97 (by decide) ?_
                  exact J _ (b0_of (Int32.not_lt.mpr c_90))
                · refine lv_iconst (v := 1) C0.1 C0.2.1 dX4_isWritten_93 (by decide) ?_
                  refine lv_goto (tgt := 98) C0.1 C0.2.1 dX4_isWritten_94 (by decide) ?_
                  exact J _ (b1_of (Int32.not_le.mp c_90))
    · have n_20 : ¬ pg S ≤ pg S := fun z => c_20 ((nI_leI (a := pg S) (b := pg S) (by omega) (by omega)).mpr z)
      omega
  · intro k H locs ls hk ⟨hM, hS, hl⟩ K14
    refine lv_iload C0.1 C0.2.1 dX4_isWritten_14 (lv_at hl 4 rfl) ?_
    refine lv_aload_n C0.1 C0.2.1 dX4_isWritten_16 rfl (lv_at hl 0 rfl) ?_
    refine m_geti C0 hK hM 6 (by decide) rfl q638 dX4_isWritten_17 ?_
    refine tp_eq (y := nI (pg S)) (by rw [mk_0, hold_0 _ _ _ _ (by decide) (by decide) (by decide)]; exact hO.pgE) ?_
    refine lv_icmp_ge (tgt := 64) C0.1 C0.2.1 dX4_isWritten_20 (by decide) (fun c_20 => ?_) (fun c_20 => ?_)
    · have n_20 : pg S ≤ k := (nI_leI (a := pg S) (b := k) (by omega) (by omega)).mp c_20
      omega
    · have n_20 : ¬ pg S ≤ k := fun z => c_20 ((nI_leI (a := pg S) (b := k) (by omega) (by omega)).mpr z)
      refine lv_iconst (v := 0) C0.1 C0.2.1 dX4_isWritten_23 (by decide) ?_
      refine lv_istore (lv' := [(5, .int 0), (0, .ref (am 0)), (1, .int p0), (2, .int p1), (3, .int p2), (4, .int (nI k))]) C0.1 C0.2.1 dX4_isWritten_24 hl (by decide) rfl (fun ls hl => ?_)
      by_cases hkl : nI k = p1
      · refine lv_iload C0.1 C0.2.1 dX4_isWritten_26 (lv_at hl 0 rfl) ?_
        refine lv_aload_n C0.1 C0.2.1 dX4_isWritten_28 rfl (lv_at hl 1 rfl) ?_
        refine m_geti C0 hK hM 0 (by decide) rfl q632 dX4_isWritten_29 ?_
        refine tp_eq (y := nI (ln S)) (by rw [mk_0, hold_0 _ _ _ _ (by decide) (by decide) (by decide)]; exact hO.len) ?_
        refine lv_icmp_ge (tgt := 58) C0.1 C0.2.1 dX4_isWritten_32 (by decide) (fun c_32 => ?_) (fun c_32 => ?_)
        · have n_32 : ln S ≤ 0 := (nI_leI (a := ln S) (b := 0) (by omega) (by omega)).mp c_32
          omega
        · have n_32 : ¬ ln S ≤ 0 := fun z => c_32 ((nI_leI (a := ln S) (b := 0) (by omega) (by omega)).mpr z)
          refine lv_iload C0.1 C0.2.1 dX4_isWritten_35 (lv_at hl 5 rfl) ?_
          refine lv_aload_n C0.1 C0.2.1 dX4_isWritten_37 rfl (lv_at hl 1 rfl) ?_
          refine m_geti C0 hK hM 27 (by decide) rfl q659 dX4_isWritten_38 ?_
          refine tp_eq (y := p1) (by rw [mk_0, hold_27]) ?_
          refine lv_icmp_eq (tgt := 58) C0.1 C0.2.1 dX4_isWritten_41 (by decide) (fun c_41 => ?_) (fun c_41 => ?_)
          · refine lv_iinc (v := nI (k + 1)) (lv' := [(4, .int (nI (k + 1))), (5, .int 0), (0, .ref (am 0)), (1, .int p0), (2, .int p1), (3, .int p2)]) C0.1 C0.2.1 dX4_isWritten_58 hl (k := 5) rfl (nI_1 k) (by decide) rfl (fun ls hl => ?_)
            refine lv_goto (tgt := 14) C0.1 C0.2.1 dX4_isWritten_61 (by decide) ?_
            have hM : MP D dA am (setMk (hold S p0 p1 p2) (allK S p0 p1 p2 (k + 1))) H := by
              rw [show allK S p0 p1 p2 (k + 1) = allK S p0 p1 p2 k from if_pos hkl]; exact hM
            exact K14 _ _ ls ⟨hM, hS, lv_sub hl [2, 3, 4, 5, 0] rfl⟩
          · exact absurd hkl c_41
      · refine W_loop (ln S) (fun t H locs ls => MP D dA am (setMk (hold S p0 p1 p2) (allT S p0 p2 k (allK S p0 p1 p2 k) t)) H ∧ va_S (MA am) s.heap H locs ∧ lv_has ls 6 [(0, .ref (am 0)), (1, .int p0), (2, .int p1), (3, .int p2), (4, .int (nI k)), (5, .int (nI t))]) 26 ?_ ?_ 0 _ _ ls (Nat.zero_le _) ⟨hM, hS, lv_sub hl [1, 2, 3, 4, 5, 0] rfl⟩
        · intro H locs ls ⟨hM, hS, hl⟩
          refine lv_iload C0.1 C0.2.1 dX4_isWritten_26 (lv_at hl 5 rfl) ?_
          refine lv_aload_n C0.1 C0.2.1 dX4_isWritten_28 rfl (lv_at hl 0 rfl) ?_
          refine m_geti C0 hK hM 0 (by decide) rfl q632 dX4_isWritten_29 ?_
          refine tp_eq (y := nI (ln S)) (by rw [mk_0, hold_0 _ _ _ _ (by decide) (by decide) (by decide)]; exact hO.len) ?_
          refine lv_icmp_ge (tgt := 58) C0.1 C0.2.1 dX4_isWritten_32 (by decide) (fun c_32 => ?_) (fun c_32 => ?_)
          · have n_32 : ln S ≤ ln S := (nI_leI (a := ln S) (b := ln S) (by omega) (by omega)).mp c_32
            refine lv_iinc (v := nI (k + 1)) (lv' := [(4, .int (nI (k + 1))), (0, .ref (am 0)), (1, .int p0), (2, .int p1), (3, .int p2), (5, .int (nI (ln S)))]) C0.1 C0.2.1 dX4_isWritten_58 hl (k := 4) rfl (nI_1 k) (by decide) rfl (fun ls hl => ?_)
            refine lv_goto (tgt := 14) C0.1 C0.2.1 dX4_isWritten_61 (by decide) ?_
            have hM : MP D dA am (setMk (hold S p0 p1 p2) (allK S p0 p1 p2 (k + 1))) H := by
              rw [show allK S p0 p1 p2 (k + 1) = allT S p0 p2 k (allK S p0 p1 p2 k) (ln S) from if_neg hkl]; exact hM
            exact K14 _ _ ls ⟨hM, hS, lv_sub hl [1, 2, 3, 4, 0] rfl⟩
          · have n_32 : ¬ ln S ≤ ln S := fun z => c_32 ((nI_leI (a := ln S) (b := ln S) (by omega) (by omega)).mpr z)
            omega
        · intro t H locs ls ht ⟨hM, hS, hl⟩ K26
          refine lv_iload C0.1 C0.2.1 dX4_isWritten_26 (lv_at hl 5 rfl) ?_
          refine lv_aload_n C0.1 C0.2.1 dX4_isWritten_28 rfl (lv_at hl 0 rfl) ?_
          refine m_geti C0 hK hM 0 (by decide) rfl q632 dX4_isWritten_29 ?_
          refine tp_eq (y := nI (ln S)) (by rw [mk_0, hold_0 _ _ _ _ (by decide) (by decide) (by decide)]; exact hO.len) ?_
          refine lv_icmp_ge (tgt := 58) C0.1 C0.2.1 dX4_isWritten_32 (by decide) (fun c_32 => ?_) (fun c_32 => ?_)
          · have n_32 : ln S ≤ t := (nI_leI (a := ln S) (b := t) (by omega) (by omega)).mp c_32
            omega
          · have n_32 : ¬ ln S ≤ t := fun z => c_32 ((nI_leI (a := ln S) (b := t) (by omega) (by omega)).mpr z)
            refine lv_iload C0.1 C0.2.1 dX4_isWritten_35 (lv_at hl 4 rfl) ?_
            refine lv_aload_n C0.1 C0.2.1 dX4_isWritten_37 rfl (lv_at hl 0 rfl) ?_
            refine m_geti C0 hK hM 27 (by decide) rfl q659 dX4_isWritten_38 ?_
            refine tp_eq (y := p1) (by rw [mk_0, hold_27]) ?_
            refine lv_icmp_eq (tgt := 58) C0.1 C0.2.1 dX4_isWritten_41 (by decide) (fun c_41 => ?_) (fun c_41 => ?_)
            · exact absurd c_41 hkl
            · refine lv_aload_n C0.1 C0.2.1 dX4_isWritten_44 rfl (lv_at hl 0 rfl) ?_
              refine lv_iload C0.1 C0.2.1 dX4_isWritten_45 (lv_at hl 4 rfl) ?_
              refine lv_iload C0.1 C0.2.1 dX4_isWritten_47 (lv_at hl 5 rfl) ?_
              refine m_cv C0 hK hM hS (fun _ h => h) (mm_write l D dA am (setMk (hold S p0 p1 p2) (allT S p0 p2 k (allK S p0 p1 p2 k) t)) k t (hO.w.q (isW_sh S p0 p1 p2 _).symm.w) (by omega) (by omega)) 2 (lw_V q839 q841 qs27 q43 q842) rfl rfl hdd_write ⟨(Nat.le_of_ble_eq_true rfl), (Nat.le_of_ble_eq_true rfl)⟩ rfl hl.1 rfl (Nat.le_of_ble_eq_true rfl) dX4_isWritten_49 ⟨(Nat.le_of_ble_eq_true rfl), (Nat.le_of_ble_eq_true rfl)⟩ (fun S' H locs hr hM hS => ?_)
              subst hr
              refine lv_iinc (v := nI (t + 1)) (lv' := [(5, .int (nI (t + 1))), (0, .ref (am 0)), (1, .int p0), (2, .int p1), (3, .int p2), (4, .int (nI k))]) C0.1 C0.2.1 dX4_isWritten_52 hl (k := 5) rfl (nI_1 t) (by decide) rfl (fun ls hl => ?_)
              refine lv_goto (tgt := 26) C0.1 C0.2.1 dX4_isWritten_55 (by decide) ?_
              have hM : MP D dA am (setMk (hold S p0 p1 p2) (allT S p0 p2 k (allK S p0 p1 p2 k) (t + 1))) H := by
                have h := hM; rw [setMk_set, setMk_29, setMk_30, mk_0, mk_0, hold_26, hold_28, wrt_q (isW_sh S p0 p1 p2 _).w] at h; exact h
              exact K26 _ _ ls ⟨hM, hS, lv_sub hl [1, 2, 3, 4, 5, 0] rfl⟩
set_option maxHeartbeats 4000000 in
theorem mm_findKind (l : Launch) (D : va_G) (dA : Nat → ClassId) (am : Nat → Nat) (S : St) (hO : Ok S) : mCi l yX4_findKind cX4_findKind 2 (some .int) { frames := 4, cells := 0, slots := 0, locals := 103 } D dA am S [] (fun r S' => r = (found S).1 ∧ S' 0 31 = (found S).2 ∧ Sh S' S) := by
  refine m_head (by decide) rfl (Nat.le_of_ble_eq_true rfl) ?_
  intro p e s m below meth cd ls C0 hr hlk hK hM hS hl
  have hl : lv_has ls 2 [(0, .ref (am 0))] := hl
  have hp12 := hO.pg12
  refine lv_aload_n C0.1 C0.2.1 dX4_findKind_0 rfl (lv_at hl 0 rfl) ?_
  refine lv_bipush (v := (-9)) C0.1 C0.2.1 dX4_findKind_1 (by decide) ?_
  refine m_put C0 hK hM hS 31 (by decide) rfl q663 rfl rfl dX4_findKind_3 (fun H locs hM hS => ?_)
  have hT : Sh (up2 S 0 31 (-9)) S ∧ up2 S 0 31 (-9) 0 31 = -9 := ⟨Sh.s0 _ (by decide), up2_self _ _ _ _⟩
  generalize up2 S 0 31 (-9) = T at hM hT
  refine lv_aload_n C0.1 C0.2.1 dX4_findKind_6 rfl (lv_at hl 0 rfl) ?_
  refine lv_iconst (v := (-1)) C0.1 C0.2.1 dX4_findKind_7 (by decide) ?_
  refine lv_iconst (v := (-1)) C0.1 C0.2.1 dX4_findKind_8 (by decide) ?_
  refine lv_iconst (v := (-1)) C0.1 C0.2.1 dX4_findKind_9 (by decide) ?_
  refine m_ci C0 hK hM hS (fun _ h => h) (mm_isWritten l D dA am T (-1) (-1) (-1) (hO.sh hT.1.symm)) 3 (lw_V q905 q907 qs35 q43 q908) rfl rfl hdd_isWritten ⟨(Nat.le_of_ble_eq_true rfl), (Nat.le_of_ble_eq_true rfl)⟩ rfl hl.1 rfl (Nat.le_of_ble_eq_true rfl) dX4_findKind_10 ⟨(Nat.le_of_ble_eq_true rfl), (Nat.le_of_ble_eq_true rfl)⟩ (fun r S' H locs hr hM hS _ => ?_)
  obtain ⟨rfl, rfl⟩ := hr
  refine tp_eq (y := (if expl S (-1) (-1) (-1) = true then 1 else 0)) (b01_c (by rw [expl_sh hT.1])) ?_
  have hT : Sh (setMk (hold T (-1) (-1) (-1)) (allK T (-1) (-1) (-1) (pg T))) S ∧ (setMk (hold T (-1) (-1) (-1)) (allK T (-1) (-1) (-1) (pg T))) 0 31 = -9 := ⟨(isW_sh _ _ _ _ _).trans hT.1, by rw [mk_0, hold_0 _ _ _ _ (by decide) (by decide) (by decide)]; exact hT.2⟩
  generalize setMk (hold T (-1) (-1) (-1)) (allK T (-1) (-1) (-1) (pg T)) = T at hM hT
  refine lv_if_eq (tgt := 18) C0.1 C0.2.1 dX4_findKind_13 (by decide) (fun c_13 => ?_) (fun c_13 => ?_)
  · have c_13 : ¬ (expl S (-1) (-1) (-1) = true) := b01_0.mp c_13
    refine lv_iconst (v := 0) C0.1 C0.2.1 dX4_findKind_18 (by decide) ?_
    refine lv_istore_n (lv' := [(1, .int 0), (0, .ref (am 0))]) C0.1 C0.2.1 dX4_findKind_19 rfl hl (by decide) rfl (fun ls hl => ?_)
    refine W_loop 12 (fun i H locs ls => ∃ T, (fndW S i = none ∧ Sh T S ∧ T 0 31 = -9) ∧ MP D dA am T H ∧ va_S (MA am) s.heap H locs ∧ lv_has ls 2 [(0, .ref (am 0)), (1, .int (nI i))]) 20 ?_ ?_ 0 _ _ ls (Nat.zero_le _) ⟨_, ⟨rfl, hT.1, hT.2⟩, hM, hS, lv_sub hl [1, 0] rfl⟩
    · intro H locs ls ⟨T, hP, hM, hS, hl⟩
      obtain ⟨hfW, hT⟩ := hP
      refine lv_iload_n C0.1 C0.2.1 dX4_findKind_20 rfl (lv_at hl 1 rfl) ?_
      refine lv_bipush (v := 12) C0.1 C0.2.1 dX4_findKind_21 (by decide) ?_
      refine lv_icmp_ge (tgt := 58) C0.1 C0.2.1 dX4_findKind_23 (by decide) (fun c_23 => ?_) (fun c_23 => ?_)
      · have n_23 : 12 ≤ 12 := (nI_leI (a := 12) (b := 12) (by omega) (by omega)).mp c_23
        refine lv_iconst (v := 0) C0.1 C0.2.1 dX4_findKind_58 (by decide) ?_
        refine lv_istore_n (lv' := [(1, .int 0), (0, .ref (am 0))]) C0.1 C0.2.1 dX4_findKind_59 rfl hl (by decide) rfl (fun ls hl => ?_)
        refine W_loop (pg S) (fun i H locs ls => ∃ T, (fndL S i = none ∧ Sh T S ∧ T 0 31 = -9) ∧ MP D dA am T H ∧ va_S (MA am) s.heap H locs ∧ lv_has ls 2 [(0, .ref (am 0)), (1, .int (nI i))]) 60 ?_ ?_ 0 _ _ ls (Nat.zero_le _) ⟨_, ⟨rfl, hT.1, hT.2⟩, hM, hS, lv_sub hl [1, 0] rfl⟩
        · intro H locs ls ⟨T, hP, hM, hS, hl⟩
          obtain ⟨hfL, hT⟩ := hP
          refine lv_iload_n C0.1 C0.2.1 dX4_findKind_60 rfl (lv_at hl 1 rfl) ?_
          refine lv_aload_n C0.1 C0.2.1 dX4_findKind_61 rfl (lv_at hl 0 rfl) ?_
          refine m_geti C0 hK hM 6 (by decide) rfl q638 dX4_findKind_62 ?_
          refine tp_eq (y := nI (pg S)) ((hT.1.at0 6 rfl).trans hO.pgE) ?_
          refine lv_icmp_ge (tgt := 91) C0.1 C0.2.1 dX4_findKind_65 (by decide) (fun c_65 => ?_) (fun c_65 => ?_)
          · have n_65 : pg S ≤ pg S := (nI_leI (a := pg S) (b := pg S) (by omega) (by omega)).mp c_65
            refine lv_iconst (v := 0) C0.1 C0.2.1 dX4_findKind_91 (by decide) ?_
            refine lv_istore_n (lv' := [(1, .int 0), (0, .ref (am 0))]) C0.1 C0.2.1 dX4_findKind_92 rfl hl (by decide) rfl (fun ls hl => ?_)
            refine W_loop 2 (fun i H locs ls => ∃ T, (fndB S i = none ∧ Sh T S ∧ T 0 31 = -9) ∧ MP D dA am T H ∧ va_S (MA am) s.heap H locs ∧ lv_has ls 2 [(0, .ref (am 0)), (1, .int (nI i))]) 93 ?_ ?_ 0 _ _ ls (Nat.zero_le _) ⟨_, ⟨rfl, hT.1, hT.2⟩, hM, hS, lv_sub hl [1, 0] rfl⟩
            · intro H locs ls ⟨T, hP, hM, hS, hl⟩
              obtain ⟨hfB, hT⟩ := hP
              refine lv_iload_n C0.1 C0.2.1 dX4_findKind_93 rfl (lv_at hl 1 rfl) ?_
              refine lv_iconst (v := 2) C0.1 C0.2.1 dX4_findKind_94 (by decide) ?_
              refine lv_icmp_ge (tgt := 121) C0.1 C0.2.1 dX4_findKind_95 (by decide) (fun c_95 => ?_) (fun c_95 => ?_)
              · have n_95 : 2 ≤ 2 := (nI_leI (a := 2) (b := 2) (by omega) (by omega)).mp c_95
                refine lv_bipush (v := (-9)) C0.1 C0.2.1 dX4_findKind_121 (by decide) ?_
                exact m_iretS C0 hr hlk hM hS ⟨by rw [found_4 c_13 hfW hfL hfB], by rw [found_4 c_13 hfW hfL hfB]; exact hT.2, hT.1⟩ dX4_findKind_123
              · have n_95 : ¬ 2 ≤ 2 := fun z => c_95 ((nI_leI (a := 2) (b := 2) (by omega) (by omega)).mpr z)
                omega
            · intro i H locs ls hi ⟨T, hP, hM, hS, hl⟩ K93
              obtain ⟨hf, hT⟩ := hP
              refine lv_iload_n C0.1 C0.2.1 dX4_findKind_93 rfl (lv_at hl 1 rfl) ?_
              refine lv_iconst (v := 2) C0.1 C0.2.1 dX4_findKind_94 (by decide) ?_
              refine lv_icmp_ge (tgt := 121) C0.1 C0.2.1 dX4_findKind_95 (by decide) (fun c_95 => ?_) (fun c_95 => ?_)
              · have n_95 : 2 ≤ i := (nI_leI (a := 2) (b := i) (by omega) (by omega)).mp c_95
                omega
              · have n_95 : ¬ 2 ≤ i := fun z => c_95 ((nI_leI (a := 2) (b := i) (by omega) (by omega)).mpr z)
                refine lv_aload_n C0.1 C0.2.1 dX4_findKind_98 rfl (lv_at hl 0 rfl) ?_
                refine lv_iconst (v := (-1)) C0.1 C0.2.1 dX4_findKind_99 (by decide) ?_
                refine lv_iconst (v := (-1)) C0.1 C0.2.1 dX4_findKind_100 (by decide) ?_
                refine lv_iload_n C0.1 C0.2.1 dX4_findKind_101 rfl (lv_at hl 1 rfl) ?_
                refine m_ci C0 hK hM hS (fun _ h => h) (mm_isWritten l D dA am T (-1) (-1) (nI i) (hO.sh hT.1.symm)) 3 (lw_V q905 q907 qs35 q43 q908) rfl rfl hdd_isWritten ⟨(Nat.le_of_ble_eq_true rfl), (Nat.le_of_ble_eq_true rfl)⟩ rfl hl.1 rfl (Nat.le_of_ble_eq_true rfl) dX4_findKind_102 ⟨(Nat.le_of_ble_eq_true rfl), (Nat.le_of_ble_eq_true rfl)⟩ (fun r S' H locs hr hM hS _ => ?_)
                obtain ⟨rfl, rfl⟩ := hr
                refine tp_eq (y := (if expl S (-1) (-1) (nI i) = true then 1 else 0)) (b01_c (by rw [expl_sh hT.1])) ?_
                have hT : Sh (setMk (hold T (-1) (-1) (nI i)) (allK T (-1) (-1) (nI i) (pg T))) S ∧ (setMk (hold T (-1) (-1) (nI i)) (allK T (-1) (-1) (nI i) (pg T))) 0 31 = -9 := ⟨(isW_sh _ _ _ _ _).trans hT.1, by rw [mk_0, hold_0 _ _ _ _ (by decide) (by decide) (by decide)]; exact hT.2⟩
                generalize setMk (hold T (-1) (-1) (nI i)) (allK T (-1) (-1) (nI i) (pg T)) = T at hM hT
                refine lv_if_eq (tgt := 115) C0.1 C0.2.1 dX4_findKind_105 (by decide) (fun c_105 => ?_) (fun c_105 => ?_)
                · have c_105 : ¬ (expl S (-1) (-1) (nI i) = true) := b01_0.mp c_105
                  refine lv_iinc (v := nI (i + 1)) (lv' := [(1, .int (nI (i + 1))), (0, .ref (am 0))]) C0.1 C0.2.1 dX4_findKind_115 hl (k := 1) rfl (nI_1 i) (by decide) rfl (fun ls hl => ?_)
                  refine lv_goto (tgt := 93) C0.1 C0.2.1 dX4_findKind_118 (by decide) ?_
                  exact K93 _ _ ls ⟨_, ⟨by rw [fndB_s hf, if_neg c_105], hT.1, hT.2⟩, hM, hS, lv_sub hl [1, 0] rfl⟩
                · have c_105 : expl S (-1) (-1) (nI i) = true := b01_1.mp c_105
                  refine lv_aload_n C0.1 C0.2.1 dX4_findKind_108 rfl (lv_at hl 0 rfl) ?_
                  refine lv_iload_n C0.1 C0.2.1 dX4_findKind_109 rfl (lv_at hl 1 rfl) ?_
                  refine m_put C0 hK hM hS 31 (by decide) rfl q663 rfl rfl dX4_findKind_110 (fun H locs hM hS => ?_)
                  refine lv_iconst (v := 3) C0.1 C0.2.1 dX4_findKind_113 (by decide) ?_
                  exact m_iretS C0 hr hlk hM hS ⟨by rw [found_3 c_13 hfW hfL (fB hi hf c_105)], by rw [found_3 c_13 hfW hfL (fB hi hf c_105)]; exact up2_self _ _ _ _, (Sh.s0 _ (by decide)).trans hT.1⟩ dX4_findKind_114
          · have n_65 : ¬ pg S ≤ pg S := fun z => c_65 ((nI_leI (a := pg S) (b := pg S) (by omega) (by omega)).mpr z)
            omega
        · intro i H locs ls hi ⟨T, hP, hM, hS, hl⟩ K60
          obtain ⟨hf, hT⟩ := hP
          refine lv_iload_n C0.1 C0.2.1 dX4_findKind_60 rfl (lv_at hl 1 rfl) ?_
          refine lv_aload_n C0.1 C0.2.1 dX4_findKind_61 rfl (lv_at hl 0 rfl) ?_
          refine m_geti C0 hK hM 6 (by decide) rfl q638 dX4_findKind_62 ?_
          refine tp_eq (y := nI (pg S)) ((hT.1.at0 6 rfl).trans hO.pgE) ?_
          refine lv_icmp_ge (tgt := 91) C0.1 C0.2.1 dX4_findKind_65 (by decide) (fun c_65 => ?_) (fun c_65 => ?_)
          · have n_65 : pg S ≤ i := (nI_leI (a := pg S) (b := i) (by omega) (by omega)).mp c_65
            omega
          · have n_65 : ¬ pg S ≤ i := fun z => c_65 ((nI_leI (a := pg S) (b := i) (by omega) (by omega)).mpr z)
            refine lv_aload_n C0.1 C0.2.1 dX4_findKind_68 rfl (lv_at hl 0 rfl) ?_
            refine lv_iconst (v := (-1)) C0.1 C0.2.1 dX4_findKind_69 (by decide) ?_
            refine lv_iload_n C0.1 C0.2.1 dX4_findKind_70 rfl (lv_at hl 1 rfl) ?_
            refine lv_iconst (v := (-1)) C0.1 C0.2.1 dX4_findKind_71 (by decide) ?_
            refine m_ci C0 hK hM hS (fun _ h => h) (mm_isWritten l D dA am T (-1) (nI i) (-1) (hO.sh hT.1.symm)) 3 (lw_V q905 q907 qs35 q43 q908) rfl rfl hdd_isWritten ⟨(Nat.le_of_ble_eq_true rfl), (Nat.le_of_ble_eq_true rfl)⟩ rfl hl.1 rfl (Nat.le_of_ble_eq_true rfl) dX4_findKind_72 ⟨(Nat.le_of_ble_eq_true rfl), (Nat.le_of_ble_eq_true rfl)⟩ (fun r S' H locs hr hM hS _ => ?_)
            obtain ⟨rfl, rfl⟩ := hr
            refine tp_eq (y := (if expl S (-1) (nI i) (-1) = true then 1 else 0)) (b01_c (by rw [expl_sh hT.1])) ?_
            have hT : Sh (setMk (hold T (-1) (nI i) (-1)) (allK T (-1) (nI i) (-1) (pg T))) S ∧ (setMk (hold T (-1) (nI i) (-1)) (allK T (-1) (nI i) (-1) (pg T))) 0 31 = -9 := ⟨(isW_sh _ _ _ _ _).trans hT.1, by rw [mk_0, hold_0 _ _ _ _ (by decide) (by decide) (by decide)]; exact hT.2⟩
            generalize setMk (hold T (-1) (nI i) (-1)) (allK T (-1) (nI i) (-1) (pg T)) = T at hM hT
            refine lv_if_eq (tgt := 85) C0.1 C0.2.1 dX4_findKind_75 (by decide) (fun c_75 => ?_) (fun c_75 => ?_)
            · have c_75 : ¬ (expl S (-1) (nI i) (-1) = true) := b01_0.mp c_75
              refine lv_iinc (v := nI (i + 1)) (lv' := [(1, .int (nI (i + 1))), (0, .ref (am 0))]) C0.1 C0.2.1 dX4_findKind_85 hl (k := 1) rfl (nI_1 i) (by decide) rfl (fun ls hl => ?_)
              refine lv_goto (tgt := 60) C0.1 C0.2.1 dX4_findKind_88 (by decide) ?_
              exact K60 _ _ ls ⟨_, ⟨by rw [fndL_s hf, if_neg c_75], hT.1, hT.2⟩, hM, hS, lv_sub hl [1, 0] rfl⟩
            · have c_75 : expl S (-1) (nI i) (-1) = true := b01_1.mp c_75
              refine lv_aload_n C0.1 C0.2.1 dX4_findKind_78 rfl (lv_at hl 0 rfl) ?_
              refine lv_iload_n C0.1 C0.2.1 dX4_findKind_79 rfl (lv_at hl 1 rfl) ?_
              refine m_put C0 hK hM hS 31 (by decide) rfl q663 rfl rfl dX4_findKind_80 (fun H locs hM hS => ?_)
              refine lv_iconst (v := 2) C0.1 C0.2.1 dX4_findKind_83 (by decide) ?_
              exact m_iretS C0 hr hlk hM hS ⟨by rw [found_2 c_13 hfW (fL hi hf c_75)], by rw [found_2 c_13 hfW (fL hi hf c_75)]; exact up2_self _ _ _ _, (Sh.s0 _ (by decide)).trans hT.1⟩ dX4_findKind_84
      · have n_23 : ¬ 12 ≤ 12 := fun z => c_23 ((nI_leI (a := 12) (b := 12) (by omega) (by omega)).mpr z)
        omega
    · intro i H locs ls hi ⟨T, hP, hM, hS, hl⟩ K20
      obtain ⟨hf, hT⟩ := hP
      refine lv_iload_n C0.1 C0.2.1 dX4_findKind_20 rfl (lv_at hl 1 rfl) ?_
      refine lv_bipush (v := 12) C0.1 C0.2.1 dX4_findKind_21 (by decide) ?_
      refine lv_icmp_ge (tgt := 58) C0.1 C0.2.1 dX4_findKind_23 (by decide) (fun c_23 => ?_) (fun c_23 => ?_)
      · have n_23 : 12 ≤ i := (nI_leI (a := 12) (b := i) (by omega) (by omega)).mp c_23
        omega
      · have n_23 : ¬ 12 ≤ i := fun z => c_23 ((nI_leI (a := 12) (b := i) (by omega) (by omega)).mpr z)
        refine lv_aload_n C0.1 C0.2.1 dX4_findKind_26 rfl (lv_at hl 0 rfl) ?_
        refine m_geta C0 hK hM 1 (by decide) rfl q633 dX4_findKind_27 ?_
        refine lv_iload_n C0.1 C0.2.1 dX4_findKind_30 rfl (lv_at hl 1 rfl) ?_
        refine m_zald C0 hK hM 1 i rfl rfl rfl (show i < 12 from (by omega)) (by decide) dX4_findKind_31 ?_
        refine tp_eq (y := S 1 i) (by rw [hT.1.ata 1 rfl]) ?_
        refine lv_if_eq (tgt := 52) C0.1 C0.2.1 dX4_findKind_32 (by decide) (fun c_32 => ?_) (fun c_32 => ?_)
        · refine lv_iinc (v := nI (i + 1)) (lv' := [(1, .int (nI (i + 1))), (0, .ref (am 0))]) C0.1 C0.2.1 dX4_findKind_52 hl (k := 1) rfl (nI_1 i) (by decide) rfl (fun ls hl => ?_)
          refine lv_goto (tgt := 20) C0.1 C0.2.1 dX4_findKind_55 (by decide) ?_
          exact K20 _ _ ls ⟨_, ⟨by rw [fndW_s hf, if_neg (fun z => z.1 c_32)], hT.1, hT.2⟩, hM, hS, lv_sub hl [1, 0] rfl⟩
        · refine lv_aload_n C0.1 C0.2.1 dX4_findKind_35 rfl (lv_at hl 0 rfl) ?_
          refine lv_iload_n C0.1 C0.2.1 dX4_findKind_36 rfl (lv_at hl 1 rfl) ?_
          refine lv_iconst (v := (-1)) C0.1 C0.2.1 dX4_findKind_37 (by decide) ?_
          refine lv_iconst (v := (-1)) C0.1 C0.2.1 dX4_findKind_38 (by decide) ?_
          refine m_ci C0 hK hM hS (fun _ h => h) (mm_isWritten l D dA am T (nI i) (-1) (-1) (hO.sh hT.1.symm)) 3 (lw_V q905 q907 qs35 q43 q908) rfl rfl hdd_isWritten ⟨(Nat.le_of_ble_eq_true rfl), (Nat.le_of_ble_eq_true rfl)⟩ rfl hl.1 rfl (Nat.le_of_ble_eq_true rfl) dX4_findKind_39 ⟨(Nat.le_of_ble_eq_true rfl), (Nat.le_of_ble_eq_true rfl)⟩ (fun r S' H locs hr hM hS _ => ?_)
          obtain ⟨rfl, rfl⟩ := hr
          refine tp_eq (y := (if expl S (nI i) (-1) (-1) = true then 1 else 0)) (b01_c (by rw [expl_sh hT.1])) ?_
          have hT : Sh (setMk (hold T (nI i) (-1) (-1)) (allK T (nI i) (-1) (-1) (pg T))) S ∧ (setMk (hold T (nI i) (-1) (-1)) (allK T (nI i) (-1) (-1) (pg T))) 0 31 = -9 := ⟨(isW_sh _ _ _ _ _).trans hT.1, by rw [mk_0, hold_0 _ _ _ _ (by decide) (by decide) (by decide)]; exact hT.2⟩
          generalize setMk (hold T (nI i) (-1) (-1)) (allK T (nI i) (-1) (-1) (pg T)) = T at hM hT
          refine lv_if_eq (tgt := 52) C0.1 C0.2.1 dX4_findKind_42 (by decide) (fun c_42 => ?_) (fun c_42 => ?_)
          · have c_42 : ¬ (expl S (nI i) (-1) (-1) = true) := b01_0.mp c_42
            refine lv_iinc (v := nI (i + 1)) (lv' := [(1, .int (nI (i + 1))), (0, .ref (am 0))]) C0.1 C0.2.1 dX4_findKind_52 hl (k := 1) rfl (nI_1 i) (by decide) rfl (fun ls hl => ?_)
            refine lv_goto (tgt := 20) C0.1 C0.2.1 dX4_findKind_55 (by decide) ?_
            exact K20 _ _ ls ⟨_, ⟨by rw [fndW_s hf, if_neg (fun z => c_42 z.2)], hT.1, hT.2⟩, hM, hS, lv_sub hl [1, 0] rfl⟩
          · have c_42 : expl S (nI i) (-1) (-1) = true := b01_1.mp c_42
            refine lv_aload_n C0.1 C0.2.1 dX4_findKind_45 rfl (lv_at hl 0 rfl) ?_
            refine lv_iload_n C0.1 C0.2.1 dX4_findKind_46 rfl (lv_at hl 1 rfl) ?_
            refine m_put C0 hK hM hS 31 (by decide) rfl q663 rfl rfl dX4_findKind_47 (fun H locs hM hS => ?_)
            refine lv_iconst (v := 1) C0.1 C0.2.1 dX4_findKind_50 (by decide) ?_
            exact m_iretS C0 hr hlk hM hS ⟨by rw [found_1 c_13 (fW hi hf c_32 c_42)], by rw [found_1 c_13 (fW hi hf c_32 c_42)]; exact up2_self _ _ _ _, (Sh.s0 _ (by decide)).trans hT.1⟩ dX4_findKind_51
  · have c_13 : expl S (-1) (-1) (-1) = true := b01_1.mp c_13
    refine lv_iconst (v := 0) C0.1 C0.2.1 dX4_findKind_16 (by decide) ?_
    exact m_iretS C0 hr hlk hM hS ⟨by rw [found_0 c_13], by rw [found_0 c_13]; exact hT.2, hT.1⟩ dX4_findKind_17
set_option maxHeartbeats 4000000 in
theorem mm_explained (l : Launch) (D : va_G) (dA : Nat → ClassId) (am : Nat → Nat) (S : St) (p0 : Int32) (hO : Ok S) : mCi l yX4_explained cX4_explained 3 (some .int) { frames := 5, cells := 0, slots := 0, locals := 124 } D dA am S [.int p0] (fun r S' => PB (sp_explained S p0) r S') := by
  refine m_head (by decide) rfl (Nat.le_of_ble_eq_true rfl) ?_
  intro p e s m below meth cd ls C0 hr hlk hK hM hS hl
  have hl : lv_has ls 3 [(0, .ref (am 0)), (1, .int p0)] := hl
  refine lv_iload_n C0.1 C0.2.1 dX4_explained_0 rfl (lv_at hl 1 rfl) ?_
  refine lv_iconst (v := 0) C0.1 C0.2.1 dX4_explained_1 (by decide) ?_
  refine lv_iconst (v := 1) C0.1 C0.2.1 dX4_explained_2 (by decide) ?_
  refine st_call C0 (mm_in l p0 0 1) 3 (lw_S q744 q745 q43 q746) rfl rfl hdd_in ⟨(Nat.le_of_ble_eq_true rfl), (Nat.le_of_ble_eq_true rfl)⟩ rfl hl.1 rfl (Nat.le_of_ble_eq_true rfl) dX4_explained_3 ⟨(Nat.le_of_ble_eq_true rfl), (Nat.le_of_ble_eq_true rfl)⟩ (fun r hr => ?_)
  subst hr
  refine tp_eq (y := (if (inR p0 2).isSome = true then 1 else 0)) (b01_c (inR_le (n := 2) (by decide))) ?_
  refine lv_if_ne (tgt := 16) C0.1 C0.2.1 dX4_explained_6 (by decide) (fun c_6 => ?_) (fun c_6 => ?_)
  · have c_6 : (inR p0 2).isSome = true := b01_1.mp c_6
    obtain ⟨d, hd, bd, rfl⟩ := inR_get c_6 (by decide)
    refine lv_aload_n C0.1 C0.2.1 dX4_explained_16 rfl (lv_at hl 0 rfl) ?_
    refine m_cp C0 hK hM (mm_areCut l D dA am S  hO) 0 (lw_V q827 q829 qs24 q43 q830) rfl rfl hdd_areCut ⟨(Nat.le_of_ble_eq_true rfl), (Nat.le_of_ble_eq_true rfl)⟩ rfl hl.1 rfl (Nat.le_of_ble_eq_true rfl) dX4_explained_17 ⟨(Nat.le_of_ble_eq_true rfl), (Nat.le_of_ble_eq_true rfl)⟩ (fun r hr => ?_)
    subst hr
    refine lv_if_ne (tgt := 30) C0.1 C0.2.1 dX4_explained_20 (by decide) (fun c_20 => ?_) (fun c_20 => ?_)
    · have c_20 : areCutN S (pg S) = true := b01_1.mp c_20
      refine lv_aload_n C0.1 C0.2.1 dX4_explained_30 rfl (lv_at hl 0 rfl) ?_
      refine m_ci C0 hK hM hS (fun _ h => h) (mm_findKind l D dA am S  hO) 0 (lw_V q901 q903 qs34 q43 q904) rfl rfl hdd_findKind ⟨(Nat.le_of_ble_eq_true rfl), (Nat.le_of_ble_eq_true rfl)⟩ rfl hl.1 rfl (Nat.le_of_ble_eq_true rfl) dX4_explained_31 ⟨(Nat.le_of_ble_eq_true rfl), (Nat.le_of_ble_eq_true rfl)⟩ (fun r S' H locs hr hM hS _ => ?_)
      obtain ⟨rfl, h31, hT⟩ := hr
      refine lv_istore_n (lv' := [(2, .int ((found S).1)), (0, .ref (am 0)), (1, .int (nI d))]) C0.1 C0.2.1 dX4_explained_34 rfl hl (by decide) rfl (fun ls hl => ?_)
      refine lv_iload_n C0.1 C0.2.1 dX4_explained_35 rfl (lv_at hl 2 rfl) ?_
      refine lv_if_ne (tgt := 43) C0.1 C0.2.1 dX4_explained_36 (by decide) (fun c_36 => ?_) (fun c_36 => ?_)
      · have n_36 : ¬ d = 0 := fun z => c_36 ((nI_eq (a := d) (b := 0) (by omega) (by omega)).mpr z)
        refine lv_aload_n C0.1 C0.2.1 dX4_explained_43 rfl (lv_at hl 1 rfl) ?_
        refine m_geti C0 hK hM 31 (by decide) rfl q663 dX4_explained_44 ?_
        refine tp_eq (y := (found S).2) (h31) ?_
        exact m_iretS C0 hr hlk hM hS (PB.sh (by unfold sp_explained; rw [hd]; (try dsimp only); rw [if_pos c_20, if_neg n_36]) hT) dX4_explained_47
      · have n_36 : d = 0 := (nI_eq (a := d) (b := 0) (by omega) (by omega)).mp c_36
        refine lv_iload_n C0.1 C0.2.1 dX4_explained_39 rfl (lv_at hl 0 rfl) ?_
        refine lv_goto (tgt := 47) C0.1 C0.2.1 dX4_explained_40 (by decide) ?_
        exact m_iretS C0 hr hlk hM hS (PB.sh (by unfold sp_explained; rw [hd]; (try dsimp only); rw [if_pos c_20, if_pos n_36]) hT) dX4_explained_47
    · have c_20 : ¬ (areCutN S (pg S) = true) := b01_0.mp c_20
      refine lv_aload_n C0.1 C0.2.1 dX4_explained_23 rfl (lv_at hl 0 rfl) ?_
      refine lv_bipush (v := (-3)) C0.1 C0.2.1 dX4_explained_24 (by decide) ?_
      refine m_ci C0 hK hM hS (fun _ h => h) (mm_refuse l D dA am S 3 (by omega)) 1 (lw_V q733 q735 qs18 q43 q736) rfl rfl hdd_refuse ⟨(Nat.le_of_ble_eq_true rfl), (Nat.le_of_ble_eq_true rfl)⟩ rfl hl.1 rfl (Nat.le_of_ble_eq_true rfl) dX4_explained_26 ⟨(Nat.le_of_ble_eq_true rfl), (Nat.le_of_ble_eq_true rfl)⟩ (fun r S' H locs hr hM hS _ => ?_)
      obtain ⟨rfl, rfl⟩ := hr
      exact m_iretS C0 hr hlk hM hS (PB.of (by unfold sp_explained; rw [hd]; (try dsimp only); rw [if_neg c_20]; rfl)) dX4_explained_29
  · have c_6 : ¬ ((inR p0 2).isSome = true) := b01_0.mp c_6
    refine lv_aload_n C0.1 C0.2.1 dX4_explained_9 rfl (lv_at hl 0 rfl) ?_
    refine lv_bipush (v := (-2)) C0.1 C0.2.1 dX4_explained_10 (by decide) ?_
    refine m_ci C0 hK hM hS (fun _ h => h) (mm_refuse l D dA am S 2 (by omega)) 1 (lw_V q733 q735 qs18 q43 q736) rfl rfl hdd_refuse ⟨(Nat.le_of_ble_eq_true rfl), (Nat.le_of_ble_eq_true rfl)⟩ rfl hl.1 rfl (Nat.le_of_ble_eq_true rfl) dX4_explained_12 ⟨(Nat.le_of_ble_eq_true rfl), (Nat.le_of_ble_eq_true rfl)⟩ (fun r S' H locs hr hM hS _ => ?_)
    obtain ⟨rfl, rfl⟩ := hr
    exact m_iretS C0 hr hlk hM hS (PB.of (by unfold sp_explained; rw [inR_none c_6]; rfl)) dX4_explained_15
