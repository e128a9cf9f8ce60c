set_option maxRecDepth 100000
set_option linter.unusedVariables false
theorem hdx_X0_show : yX0_show.cls = RX0 ∧ yX0_show.cls ≠ "java/lang/invoke/MethodHandle" ∧ yX0_show.cls ≠ "java/lang/invoke/VarHandle" ∧ (parseMethodDescriptor yX0_show.desc).map (fun d => d.parameters.length) = some 0 := by decide +kernel
set_option maxHeartbeats 4000000 in
theorem xx_show (l : Launch) (D : va_G) (dA : Nat → ClassId) (ad : Nat → Nat) (X : St) (L : Ex) (sz : Nat) (hX : XOk X) : xCi l yX0_show cX0_show 6 (some .int) { frames := 4, cells := 100, slots := 1000, locals := 92 } D dA ad X ([]) sz [.ref (ad 0)] 100 1000 (fun r u => PX (sp_show X) ad r u) := by
  refine x_hI (by decide) (Nat.le_of_ble_eq_true rfl) ?_
  intro A p e s m below meth cd ls C0 hr hlk hnm hG hM hS hl
  have hl : lv_has ls 6 [(0, .ref (ad 0))] := hl
  have hO := hX.ok
  have hl2 := hO.len2
  have hl16 := hO.len16
  have hr16 := rl16 hX
  have hrl := hX.rl
  have hp12 := hO.pg12
  refine lv_aload_n C0.1 C0.2.1 dX0_show_0 rfl (lv_at hl 0 rfl) ?_
  refine fw_cp (va_runV (b := (ad 0)) (As := []) (rest := []) C0 (xx_areCut l D dA ad X ([]) _  hO) (cwV 0 C0.2.2.2.2 (lw_V q392 q394 qs7 q39 q395) rfl rfl rfl hdx_X0_areCut ⟨(Nat.le_of_ble_eq_true rfl), (Nat.le_of_ble_eq_true rfl)⟩) (x_preV hG hM hS 0 (xw_0 dA ad _ _) rfl rfl) rfl rfl hl.1 rfl (lv_room (Nat.le_of_ble_eq_true rfl)) dX0_show_1 ⟨(Nat.le_of_ble_eq_true rfl), (Nat.le_of_ble_eq_true rfl)⟩) (fun r hr => ?_)
  subst hr
  refine lv_if_ne (tgt := 14) C0.1 C0.2.1 dX0_show_4 (by decide) (fun c_4 => ?_) (fun c_4 => ?_)
  · have c_4 : areCutN X (pg X) = true := b01_1.mp c_4
    refine lv_aload_n C0.1 C0.2.1 dX0_show_14 rfl (lv_at hl 0 rfl) ?_
    refine x_geta C0 hG hM 8 5 (by decide) rfl rfl q126 dX0_show_15 ?_
    refine x_kv (va_runV (b := (ad 5)) (As := []) (rest := []) C0 (x2_clear5 l D dA ad X ([]) _ ) (cwV 0 C0.2.2.2.2 (lw_V q199 q200 q201 q41 q202) rfl rfl rfl hdx_X2_clear_5 ⟨(Nat.le_of_ble_eq_true rfl), (Nat.le_of_ble_eq_true rfl)⟩) (x_preV hG hM hS 5 (xw_5 dA ad _ _) rfl rfl) rfl rfl hl.1 rfl (lv_room (Nat.le_of_ble_eq_true rfl)) dX0_show_18 ⟨(Nat.le_of_ble_eq_true rfl), (Nat.le_of_ble_eq_true rfl)⟩) hG hM hS (fun u H locs hr hM hS => ?_)
    subst hr
    have hM : XF D A dA ad (clrA X 23 1200) ([]) H := hM
    refine x_newC (ci := 7) C0 hG hM hS [.null, .null, .null, .null, .int 0, .int 0, .int 0, .null] rfl in_X7 tyX7 tyX7_ok q396 q397 q51 (by decide) (Nat.le_of_ble_eq_true rfl) (Nat.le_of_ble_eq_true rfl) dX0_show_21 (fun q21 H hM hS => ?_)
    refine lv_dup C0.1 C0.2.1 dX0_show_24 rfl ?_
    refine lv_aload_n C0.1 C0.2.1 dX0_show_25 rfl (lv_at hl 0 rfl) ?_
    refine lv_aload_n C0.1 C0.2.1 dX0_show_26 rfl (lv_at hl 0 rfl) ?_
    refine x_geta C0 hG hM 8 5 (by decide) rfl rfl q126 dX0_show_27 ?_
    refine lv_aload_n C0.1 C0.2.1 dX0_show_30 rfl (lv_at hl 0 rfl) ?_
    refine lv_iconst (v := 0) C0.1 C0.2.1 dX0_show_31 (by decide) ?_
    refine fw_cpq (va_runV (b := (ad 0)) (As := [.int 0]) (rest := [.ref (ad 5), .ref (ad 0), .ref q21, .ref q21]) C0 (xx_part l D dA ad (clrA X 23 1200) ([(q21, .inr (7, [.null, .null, .null, .null, .int 0, .int 0, .int 0, .null]))]) _ 0 (by decide)) (cwV 1 C0.2.2.2.2 (lw_V q398 q400 qs8 q39 q401) rfl rfl rfl hdx_X0_part ⟨(Nat.le_of_ble_eq_true rfl), (Nat.le_of_ble_eq_true rfl)⟩) (x_preV hG hM hS 0 (xw_0 dA ad _ _) rfl rfl) rfl rfl hl.1 rfl (lv_room (Nat.le_of_ble_eq_true rfl)) dX0_show_32 ⟨(Nat.le_of_ble_eq_true rfl), (Nat.le_of_ble_eq_true rfl)⟩) (fun r hr => ?_)
    subst hr
    refine lv_aload_n C0.1 C0.2.1 dX0_show_35 rfl (lv_at hl 0 rfl) ?_
    refine lv_iconst (v := 1) C0.1 C0.2.1 dX0_show_36 (by decide) ?_
    refine fw_cpq (va_runV (b := (ad 0)) (As := [.int 1]) (rest := [.ref (prt ad (clrA X 23 1200) 0), .ref (ad 5), .ref (ad 0), .ref q21, .ref q21]) C0 (xx_part l D dA ad (clrA X 23 1200) ([(q21, .inr (7, [.null, .null, .null, .null, .int 0, .int 0, .int 0, .null]))]) _ 1 (by decide)) (cwV 1 C0.2.2.2.2 (lw_V q398 q400 qs8 q39 q401) rfl rfl rfl hdx_X0_part ⟨(Nat.le_of_ble_eq_true rfl), (Nat.le_of_ble_eq_true rfl)⟩) (x_preV hG hM hS 0 (xw_0 dA ad _ _) rfl rfl) rfl rfl hl.1 rfl (lv_room (Nat.le_of_ble_eq_true rfl)) dX0_show_37 ⟨(Nat.le_of_ble_eq_true rfl), (Nat.le_of_ble_eq_true rfl)⟩) (fun r hr => ?_)
    subst hr
    refine lv_aload_n C0.1 C0.2.1 dX0_show_40 rfl (lv_at hl 0 rfl) ?_
    refine lv_iconst (v := 2) C0.1 C0.2.1 dX0_show_41 (by decide) ?_
    refine fw_cpq (va_runV (b := (ad 0)) (As := [.int 2]) (rest := [.ref (prt ad (clrA X 23 1200) 1), .ref (prt ad (clrA X 23 1200) 0), .ref (ad 5), .ref (ad 0), .ref q21, .ref q21]) C0 (xx_part l D dA ad (clrA X 23 1200) ([(q21, .inr (7, [.null, .null, .null, .null, .int 0, .int 0, .int 0, .null]))]) _ 2 (by decide)) (cwV 1 C0.2.2.2.2 (lw_V q398 q400 qs8 q39 q401) rfl rfl rfl hdx_X0_part ⟨(Nat.le_of_ble_eq_true rfl), (Nat.le_of_ble_eq_true rfl)⟩) (x_preV hG hM hS 0 (xw_0 dA ad _ _) rfl rfl) rfl rfl hl.1 rfl (lv_room (Nat.le_of_ble_eq_true rfl)) dX0_show_42 ⟨(Nat.le_of_ble_eq_true rfl), (Nat.le_of_ble_eq_true rfl)⟩) (fun r hr => ?_)
    subst hr
    refine x_kv (va_runI (b := q21) (As := [.ref (ad 0), .ref (ad 5), .ref (prt ad (clrA X 23 1200) 0), .ref (prt ad (clrA X 23 1200) 1), .ref (prt ad (clrA X 23 1200) 2)]) (rest := [.ref q21]) C0 (x7_init l D dA ad (clrA X 23 1200) ([]) _ q21 (ad 5) (prt ad (clrA X 23 1200) 0) (prt ad (clrA X 23 1200) 1) (prt ad (clrA X 23 1200) 2)) (cwI 5 C0.2.2.2.2 (lw_meth q404) rfl rfl rfl (C0.2.2.2.2 _ q51) (C0.2.2.2.2 _ q402) (C0.2.2.2.2 _ q403) rfl hdx_X7_init ⟨(Nat.le_of_ble_eq_true rfl), (Nat.le_of_ble_eq_true rfl)⟩) (x_preS hG hM hS) rfl rfl hl.1 rfl (lv_room (Nat.le_of_ble_eq_true rfl)) dX0_show_45 ⟨(Nat.le_of_ble_eq_true rfl), (Nat.le_of_ble_eq_true rfl)⟩) hG hM hS (fun u H locs hr hM hS => ?_)
    subst hr
    have hM : XF D A dA ad (clrA X 23 1200) ([(q21, .inr (7, [.ref (ad 5), .ref (prt ad (clrA X 23 1200) 0), .ref (prt ad (clrA X 23 1200) 1), .ref (prt ad (clrA X 23 1200) 2), .int 0, .int 0, .int 0, .ref (ad 0)]))]) H := hM
    rw [prt_c, prt_c, prt_c] at hM
    have hw : PW dA ad X [(q21, penE ad (ad 5) (prt ad X 0) (prt ad X 1) (prt ad X 2) 0 0 0)] (prt ad X 0) 8 (X 19 1) := PW.prt (k := 0) (by decide) (hO.f1.imp id fun z => ⟨11, z, by decide⟩)
    have hz : PW dA ad X [(q21, penE ad (ad 5) (prt ad X 0) (prt ad X 1) (prt ad X 2) 0 0 0)] (prt ad X 1) 9 (X 19 2) := PW.prt (k := 1) (by decide) (hO.f2.imp id fun z => ⟨11, z, by decide⟩)
    have hb : PW dA ad X [(q21, penE ad (ad 5) (prt ad X 0) (prt ad X 1) (prt ad X 2) 0 0 0)] (prt ad X 2) 10 (X 19 3) := PW.prt (k := 2) (by decide) (hO.f3.imp id fun z => ⟨1, z, by decide⟩)
    generalize prt ad X 0 = wa at hM hw hz hb
    generalize prt ad X 1 = la at hM hw hz hb
    generalize prt ad X 2 = ba at hM hw hz hb
    have hM : XF D A dA ad (clrA X 23 1200) ([(q21, .inr (7, [.ref (ad 5), .ref wa, .ref la, .ref ba, .int 0, .int 0, .int 0, .ref (ad 0)]))]) H := hM
    refine lv_astore_n (lv' := [(1, .ref q21), (0, .ref (ad 0))]) C0.1 C0.2.1 dX0_show_48 rfl hl (by decide) rfl (fun ls hl => ?_)
    refine lv_aload_n C0.1 C0.2.1 dX0_show_49 rfl (lv_at hl 1 rfl) ?_
    refine x_geti C0 hG hM 18 14 (by decide) rfl rfl q136 dX0_show_50 ?_
    refine tp_eq (y := X 0 14) (Ts.clr X 0 14 (by decide) (by decide)) ?_
    refine lv_istore_n (lv' := [(2, .int (X 0 14)), (1, .ref q21), (0, .ref (ad 0))]) C0.1 C0.2.1 dX0_show_53 rfl hl (by decide) rfl (fun ls hl => ?_)
    refine lv_iconst (v := 1) C0.1 C0.2.1 dX0_show_54 (by decide) ?_
    refine lv_istore_n (lv' := [(3, .int 1), (2, .int (X 0 14)), (1, .ref q21), (0, .ref (ad 0))]) C0.1 C0.2.1 dX0_show_55 rfl hl (by decide) rfl (fun ls hl => ?_)
    refine lv_iconst (v := 0) C0.1 C0.2.1 dX0_show_56 (by decide) ?_
    refine lv_istore (lv' := [(4, .int 0), (3, .int 1), (2, .int (X 0 14)), (1, .ref q21), (0, .ref (ad 0))]) C0.1 C0.2.1 dX0_show_57 hl (by decide) rfl (fun ls hl => ?_)
    refine W_loop (pg X) (fun k H locs ls => ∃ T px py pd, (Ts (shY X k).1 T ∧ MkR (shY X k).2.2.1 (T 23) (T 24)) ∧ XF D A dA ad T ([(q21, .inr (7, [.ref (ad 5), .ref wa, .ref la, .ref ba, .int px, .int py, .int pd, .ref (ad 0)]))]) H ∧ va_S A s.heap H locs ∧ lv_has ls 6 [(0, .ref (ad 0)), (1, .ref q21), (2, .int (X 0 14)), (3, .int (if ¬ (shY X k).2.1 = true then 1 else 0)), (4, .int (nI k))]) 59 ?_ ?_ 0 _ _ ls (Nat.zero_le _) ⟨_, _, _, _, ⟨Ts.clr X, clrA_mk X 23 24⟩, hM, hS, lv_sub hl [4, 3, 2, 1, 0] rfl⟩
    · intro H locs ls ⟨T, px, py, pd, hP, hM, hS, hl⟩
      obtain ⟨hT, hR⟩ := hP
      have hg := shY_g X (pg X)
      refine lv_iload C0.1 C0.2.1 dX0_show_59 (lv_at hl 4 rfl) ?_
      refine lv_aload_n C0.1 C0.2.1 dX0_show_61 rfl (lv_at hl 0 rfl) ?_
      refine x_geti C0 hG hM 4 6 (by decide) rfl rfl q120 dX0_show_62 ?_
      refine tp_eq (y := nI (pg X)) (((hT 0 6 (by decide) (by decide)).trans ((shY_g X _).1 6 (by decide) (by decide) (by decide) (by decide))).trans hO.pgE) ?_
      refine lv_icmp_ge (tgt := 122) C0.1 C0.2.1 dX0_show_65 (by decide) (fun c_65 => ?_) (fun c_65 => ?_)
      · have n_65 : pg X ≤ pg X := (nI_leI (a := pg X) (b := pg X) (by omega) (by omega)).mp c_65
        refine lv_aload_n C0.1 C0.2.1 dX0_show_122 rfl (lv_at hl 0 rfl) ?_
        refine lv_dup C0.1 C0.2.1 dX0_show_123 rfl ?_
        refine x_geti C0 hG hM 19 15 (by decide) rfl rfl q137 dX0_show_124 ?_
        refine tp_eq (y := X 0 15) ((hT 0 15 (by decide) (by decide)).trans (hg.1 15 (by decide) (by decide) (by decide) (by decide))) ?_
        refine lv_iconst (v := 1) C0.1 C0.2.1 dX0_show_127 (by decide) ?_
        refine lv_iadd C0.1 C0.2.1 dX0_show_128 ?_
        refine x_put C0 hG hM hS 19 15 (by decide) rfl rfl q137 rfl rfl dX0_show_129 (fun H locs hM hS => ?_)
        refine lv_aload_n C0.1 C0.2.1 dX0_show_132 rfl (lv_at hl 0 rfl) ?_
        refine lv_dup C0.1 C0.2.1 dX0_show_133 rfl ?_
        refine x_geti C0 hG hM 20 16 (by decide) rfl rfl q138 dX0_show_134 ?_
        refine tp_eq (y := T 0 16) (by rw [up2_ne _ _ (Or.inr (by decide))]) ?_
        refine tp_eq (y := X 0 16) ((hT 0 16 (by decide) (by decide)).trans (hg.1 16 (by decide) (by decide) (by decide) (by decide))) ?_
        refine jn_i 146 [.int (X 0 16), .ref (ad 0)] (fun v => v = (if (shY X (pg X)).2.1 = true then 0 else 1)) (fun v hv => ?_) (fun J => ?_)
        · subst hv
          refine lv_iadd C0.1 C0.2.1 dX0_show_146 ?_
          refine x_put C0 hG hM hS 20 16 (by decide) rfl rfl q138 rfl rfl dX0_show_147 (fun H locs hM hS => ?_)
          refine lv_aload_n C0.1 C0.2.1 dX0_show_150 rfl (lv_at hl 0 rfl) ?_
          refine x_geti C0 hG hM 18 14 (by decide) rfl rfl q136 dX0_show_151 ?_
          refine tp_eq (y := T 0 14) (by rw [up2_ne _ _ (Or.inr (by decide)), up2_ne _ _ (Or.inr (by decide))]) ?_
          refine lv_iload_n C0.1 C0.2.1 dX0_show_154 rfl (lv_at hl 2 rfl) ?_
          refine lv_isub C0.1 C0.2.1 dX0_show_155 ?_
          refine tp_eq (y := nI ((shY X (pg X)).2.2.2)) (cnt_sub ((hT 0 14 (by decide) (by decide)).trans (shY_cnt X _))) ?_
          have hM := (XF.gh hM.tail (shY X (pg X)).2.2.1.1 (shY X (pg X)).2.2.1.2)
          have hM : XF D A dA ad (put (put (up2 (up2 T 0 15 (X 0 15 + 1)) 0 16 (X 0 16 + (if (shY X (pg X)).2.1 = true then 0 else 1))) 17 (shY X (pg X)).2.2.1.1) 18 (shY X (pg X)).2.2.1.2) ([]) H := hM
          exact x_iretS C0 hr hlk hM hS ⟨PB.sh (sp_show_t c_4) (show_sh hT _ _ _ _), (show_xs hX.xs hg hT hR), rfl, rfl⟩ dX0_show_156 (Nat.le_of_ble_eq_true rfl) (Nat.le_of_ble_eq_true rfl)
        · refine lv_iload_n C0.1 C0.2.1 dX0_show_137 rfl (lv_at hl 3 rfl) ?_
          refine lv_if_eq (tgt := 145) C0.1 C0.2.1 dX0_show_138 (by decide) (fun c_138 => ?_) (fun c_138 => ?_)
          · have c_138 : ¬ (¬ (shY X (pg X)).2.1 = true) := b01_0.mp c_138
            refine lv_iconst (v := 0) C0.1 C0.2.1 dX0_show_145 (by decide) ?_
            exact J _ ((if_pos (Decidable.not_not.mp c_138)).symm)
          · have c_138 : ¬ (shY X (pg X)).2.1 = true := b01_1.mp c_138
            refine lv_iconst (v := 1) C0.1 C0.2.1 dX0_show_141 (by decide) ?_
            refine lv_goto (tgt := 146) C0.1 C0.2.1 dX0_show_142 (by decide) ?_
            exact J _ ((if_neg c_138).symm)
      · have n_65 : ¬ pg X ≤ pg X := fun z => c_65 ((nI_leI (a := pg X) (b := pg X) (by omega) (by omega)).mpr z)
        omega
    · intro k H locs ls hk ⟨T, px, py, pd, hP, hM, hS, hl⟩ K59
      obtain ⟨hT, hR⟩ := hP
      have hk12 : k < 12 := by omega
      have hc3 := cutL_3 (cut_k c_4 hk)
      refine lv_iload C0.1 C0.2.1 dX0_show_59 (lv_at hl 4 rfl) ?_
      refine lv_aload_n C0.1 C0.2.1 dX0_show_61 rfl (lv_at hl 0 rfl) ?_
      refine x_geti C0 hG hM 4 6 (by decide) rfl rfl q120 dX0_show_62 ?_
      refine tp_eq (y := nI (pg X)) (((hT 0 6 (by decide) (by decide)).trans ((shY_g X _).1 6 (by decide) (by decide) (by decide) (by decide))).trans hO.pgE) ?_
      refine lv_icmp_ge (tgt := 122) C0.1 C0.2.1 dX0_show_65 (by decide) (fun c_65 => ?_) (fun c_65 => ?_)
      · have n_65 : pg X ≤ k := (nI_leI (a := pg X) (b := k) (by omega) (by omega)).mp c_65
        omega
      · have n_65 : ¬ pg X ≤ k := fun z => c_65 ((nI_leI (a := pg X) (b := k) (by omega) (by omega)).mpr z)
        refine lv_iconst (v := 0) C0.1 C0.2.1 dX0_show_68 (by decide) ?_
        refine lv_istore (lv' := [(5, .int 0), (0, .ref (ad 0)), (1, .ref q21), (2, .int (X 0 14)), (3, .int (if ¬ (shY X k).2.1 = true then 1 else 0)), (4, .int (nI k))]) C0.1 C0.2.1 dX0_show_69 hl (by decide) rfl (fun ls hl => ?_)
        refine W_loop (ln X) (fun t H locs ls => ∃ T px py pd, (Ts (shZ X k t).1 T ∧ MkR (shZ X k t).2.2.1 (T 23) (T 24) ∧ (0 < t → ¬ nI k = X 19 2 → ¬ (shZ X k t).2.1 = true → px = nI (xA X (X 19 1) (X 19 3) k (t - 1)) ∧ py = nI (yA X (X 19 1) (X 19 3) k (t - 1)) ∧ pd = if dwn X (X 19 1) k (t - 1) = true then 1 else 0)) ∧ XF D A dA ad T ([(q21, .inr (7, [.ref (ad 5), .ref wa, .ref la, .ref ba, .int px, .int py, .int pd, .ref (ad 0)]))]) H ∧ va_S A s.heap H locs ∧ lv_has ls 6 [(0, .ref (ad 0)), (1, .ref q21), (2, .int (X 0 14)), (3, .int (if ¬ (shZ X k t).2.1 = true then 1 else 0)), (4, .int (nI k)), (5, .int (nI t))]) 71 ?_ ?_ 0 _ _ ls (Nat.zero_le _) ⟨_, _, _, _, ⟨hT, hR, fun h => absurd h (Nat.lt_irrefl 0)⟩, hM, hS, lv_sub hl [1, 2, 3, 4, 5, 0] rfl⟩
        · intro H locs ls ⟨T, px, py, pd, hP, hM, hS, hl⟩
          obtain ⟨hT, hR, hpq⟩ := hP
          have hg := shZ_g X k (ln X)
          refine lv_iload C0.1 C0.2.1 dX0_show_71 (lv_at hl 5 rfl) ?_
          refine lv_aload_n C0.1 C0.2.1 dX0_show_73 rfl (lv_at hl 0 rfl) ?_
          refine x_geti C0 hG hM 1 0 (by decide) rfl rfl q114 dX0_show_74 ?_
          refine tp_eq (y := nI (ln X)) (((hT 0 0 (by decide) (by decide)).trans (hg.1 0 (by decide) (by decide) (by decide) (by decide))).trans hO.len) ?_
          refine lv_icmp_ge (tgt := 116) C0.1 C0.2.1 dX0_show_77 (by decide) (fun c_77 => ?_) (fun c_77 => ?_)
          · have n_77 : ln X ≤ ln X := (nI_leI (a := ln X) (b := ln X) (by omega) (by omega)).mp c_77
            refine lv_iinc (v := nI (k + 1)) (lv' := [(4, .int (nI (k + 1))), (0, .ref (ad 0)), (1, .ref q21), (2, .int (X 0 14)), (3, .int (if ¬ (shZ X k (ln X)).2.1 = true then 1 else 0)), (5, .int (nI (ln X)))]) C0.1 C0.2.1 dX0_show_116 hl (k := 4) rfl (nI_1 k) (by decide) rfl (fun ls hl => ?_)
            refine lv_goto (tgt := 59) C0.1 C0.2.1 dX0_show_119 (by decide) ?_
            exact K59 _ _ ls ⟨_, _, _, _, ⟨hT, hR⟩, hM, hS, lv_sub hl [1, 2, 3, 4, 0] rfl⟩
          · have n_77 : ¬ ln X ≤ ln X := fun z => c_77 ((nI_leI (a := ln X) (b := ln X) (by omega) (by omega)).mpr z)
            omega
        · intro t H locs ls ht ⟨T, px, py, pd, hP, hM, hS, hl⟩ K71
          obtain ⟨hT, hR, hpq⟩ := hP
          have hg := shZ_g X k t
          have h19 : T 19 = X 19 := (hT.k 19 rfl).trans (hg.2 19 (by decide))
          have hwT : PW dA ad T [(q21, penE ad (ad 5) wa la ba px py pd)] wa 8 (X 19 1) := hw.mv h19 (by decide) (pen_ne (by decide))
          have hzT : PW dA ad T [(q21, penE ad (ad 5) wa la ba px py pd)] la 9 (X 19 2) := hz.mv h19 (by decide) (pen_ne (by decide))
          have hbT : PW dA ad T [(q21, penE ad (ad 5) wa la ba px py pd)] ba 10 (X 19 3) := hb.mv h19 (by decide) (pen_ne (by decide))
          refine lv_iload C0.1 C0.2.1 dX0_show_71 (lv_at hl 5 rfl) ?_
          refine lv_aload_n C0.1 C0.2.1 dX0_show_73 rfl (lv_at hl 0 rfl) ?_
          refine x_geti C0 hG hM 1 0 (by decide) rfl rfl q114 dX0_show_74 ?_
          refine tp_eq (y := nI (ln X)) (((hT 0 0 (by decide) (by decide)).trans (hg.1 0 (by decide) (by decide) (by decide) (by decide))).trans hO.len) ?_
          refine lv_icmp_ge (tgt := 116) C0.1 C0.2.1 dX0_show_77 (by decide) (fun c_77 => ?_) (fun c_77 => ?_)
          · have n_77 : ln X ≤ t := (nI_leI (a := ln X) (b := t) (by omega) (by omega)).mp c_77
            omega
          · have n_77 : ¬ ln X ≤ t := fun z => c_77 ((nI_leI (a := ln X) (b := t) (by omega) (by omega)).mpr z)
            refine lv_aload_n C0.1 C0.2.1 dX0_show_80 rfl (lv_at hl 1 rfl) ?_
            refine lv_iload C0.1 C0.2.1 dX0_show_81 (lv_at hl 4 rfl) ?_
            refine fw_cp (va_runV (b := q21) (As := [.int (nI k)]) (rest := []) C0 (x7_writes l D dA ad T ([]) _ q21 (ad 5) wa la ba px py pd (X 19 2) k hk12 hzT) (cwV 1 C0.2.2.2.2 (lw_V q431 q432 q433 q51 q434) rfl rfl rfl hdx_X7_writes ⟨(Nat.le_of_ble_eq_true rfl), (Nat.le_of_ble_eq_true rfl)⟩) (x_preV hG hM hS (150 + 0) (xw_E dA ad _ _ (i := 0) rfl) (cb_E ad _ (i := 0) rfl) rfl) rfl rfl hl.1 rfl (lv_room (Nat.le_of_ble_eq_true rfl)) dX0_show_83 ⟨(Nat.le_of_ble_eq_true rfl), (Nat.le_of_ble_eq_true rfl)⟩) (fun r hr => ?_)
            subst hr
            refine lv_if_eq (tgt := 116) C0.1 C0.2.1 dX0_show_86 (by decide) (fun c_86 => ?_) (fun c_86 => ?_)
            · have c_86 : ¬ (¬ nI k = (X 19 2)) := b01_0.mp c_86
              have ei := shZ_idle (S := X) (k := k) (t := t) (by omega) (Or.inl (Decidable.not_not.mp c_86))
              rw [ei] at hT hR hl
              have hl : lv_has ls 6 [(0, .ref (ad 0)), (1, .ref q21), (2, .int (X 0 14)), (3, .int (if ¬ (shY X (k + 1)).2.1 = true then 1 else 0)), (4, .int (nI k)), (5, .int (nI t))] := hl
              refine lv_iinc (v := nI (k + 1)) (lv' := [(4, .int (nI (k + 1))), (0, .ref (ad 0)), (1, .ref q21), (2, .int (X 0 14)), (3, .int (if ¬ (shY X (k + 1)).2.1 = true then 1 else 0)), (5, .int (nI t))]) C0.1 C0.2.1 dX0_show_116 hl (k := 4) rfl (nI_1 k) (by decide) rfl (fun ls hl => ?_)
              refine lv_goto (tgt := 59) C0.1 C0.2.1 dX0_show_119 (by decide) ?_
              exact K59 _ _ ls ⟨_, _, _, _, ⟨hT, hR⟩, hM, hS, lv_sub hl [1, 2, 3, 4, 0] rfl⟩
            · have c_86 : ¬ nI k = (X 19 2) := b01_1.mp c_86
              refine lv_iload_n C0.1 C0.2.1 dX0_show_89 rfl (lv_at hl 3 rfl) ?_
              refine lv_if_eq (tgt := 116) C0.1 C0.2.1 dX0_show_90 (by decide) (fun c_90 => ?_) (fun c_90 => ?_)
              · have c_90 : ¬ (¬ (shZ X k t).2.1 = true) := b01_0.mp c_90
                have ei := shZ_idle (S := X) (k := k) (t := t) (by omega) (Or.inr (Decidable.not_not.mp c_90))
                rw [ei] at hT hR hl
                have hl : lv_has ls 6 [(0, .ref (ad 0)), (1, .ref q21), (2, .int (X 0 14)), (3, .int (if ¬ (shY X (k + 1)).2.1 = true then 1 else 0)), (4, .int (nI k)), (5, .int (nI t))] := hl
                refine lv_iinc (v := nI (k + 1)) (lv' := [(4, .int (nI (k + 1))), (0, .ref (ad 0)), (1, .ref q21), (2, .int (X 0 14)), (3, .int (if ¬ (shY X (k + 1)).2.1 = true then 1 else 0)), (5, .int (nI t))]) C0.1 C0.2.1 dX0_show_116 hl (k := 4) rfl (nI_1 k) (by decide) rfl (fun ls hl => ?_)
                refine lv_goto (tgt := 59) C0.1 C0.2.1 dX0_show_119 (by decide) ?_
                exact K59 _ _ ls ⟨_, _, _, _, ⟨hT, hR⟩, hM, hS, lv_sub hl [1, 2, 3, 4, 0] rfl⟩
              · have c_90 : ¬ (shZ X k t).2.1 = true := b01_1.mp c_90
                by_cases hgo : T 0 9 < T 0 10 + T 0 11
                · refine lv_aload_n C0.1 C0.2.1 dX0_show_93 rfl (lv_at hl 0 rfl) ?_
                  refine x_ki (va_runV (b := (ad 0)) (As := []) (rest := []) C0 (xx_goes l D dA ad T ([(q21, .inr (7, [.ref (ad 5), .ref wa, .ref la, .ref ba, .int px, .int py, .int pd, .ref (ad 0)]))]) _  (by rw [hT 0 11 (by decide) (by decide)]; exact shZ_wear hO k t)) (cwV 0 C0.2.2.2.2 (lw_V q447 q449 qs9 q39 q450) rfl rfl rfl hdx_X0_goes ⟨(Nat.le_of_ble_eq_true rfl), (Nat.le_of_ble_eq_true rfl)⟩) (x_preV hG hM hS 0 (xw_0 dA ad _ _) rfl rfl) rfl rfl hl.1 rfl (lv_room (Nat.le_of_ble_eq_true rfl)) dX0_show_94 ⟨(Nat.le_of_ble_eq_true rfl), (Nat.le_of_ble_eq_true rfl)⟩) hG hM hS (fun r u H locs hr hM hS => ?_)
                  obtain ⟨rfl, rfl⟩ := hr
                  have hM : XF D A dA ad (if T 0 9 < T 0 10 + T 0 11 then T else goF T) ([(q21, .inr (7, [.ref (ad 5), .ref wa, .ref la, .ref ba, .int px, .int py, .int pd, .ref (ad 0)]))]) H := hM
                  rw [if_pos hgo] at hM
                  have hM : XF D A dA ad T ([(q21, .inr (7, [.ref (ad 5), .ref wa, .ref la, .ref ba, .int px, .int py, .int pd, .ref (ad 0)]))]) H := hM
                  refine tp_eq (y := 0) (if_pos hgo) ?_
                  refine lv_istore_n (lv' := [(3, .int 0), (0, .ref (ad 0)), (1, .ref q21), (2, .int (X 0 14)), (4, .int (nI k)), (5, .int (nI t))]) C0.1 C0.2.1 dX0_show_97 rfl hl (by decide) rfl (fun ls hl => ?_)
                  refine lv_iload_n C0.1 C0.2.1 dX0_show_98 rfl (lv_at hl 0 rfl) ?_
                  refine lv_if_eq (tgt := 110) C0.1 C0.2.1 dX0_show_99 (by decide) (fun c_99 => ?_) (fun c_99 => ?_)
                  · refine lv_iinc (v := nI (t + 1)) (lv' := [(5, .int (nI (t + 1))), (3, .int 0), (0, .ref (ad 0)), (1, .ref q21), (2, .int (X 0 14)), (4, .int (nI k))]) C0.1 C0.2.1 dX0_show_110 hl (k := 5) rfl (nI_1 t) (by decide) rfl (fun ls hl => ?_)
                    refine lv_goto (tgt := 71) C0.1 C0.2.1 dX0_show_113 (by decide) ?_
                    exact K71 _ _ ls (by rw [shZ_stop c_86 (Bool.eq_false_iff.mpr c_90) (by rw [← hT 0 10 (by decide) (by decide), ← hT 0 11 (by decide) (by decide), ← hT 0 9 (by decide) (by decide)]; exact Int32.not_le.mpr hgo)]; exact ⟨_, _, _, _, ⟨hT, hR, fun _ _ z => absurd rfl z⟩, hM, hS, lv_sub hl [2, 3, 4, 1, 5, 0] rfl⟩)
                  · exact absurd rfl c_99
                · have hq : Wq (goF T) X := ((goF_g T).w.trans hT.w).trans hg.w
                  have h19G : (goF T) 19 = X 19 := ((goF_g T).2 19 (by decide)).trans h19
                  have hwG : PW dA ad (goF T) [(q21, penE ad (ad 5) wa la ba px py pd)] wa 8 (X 19 1) := hw.mv h19G (by decide) (pen_ne (by decide))
                  have hzG : PW dA ad (goF T) [(q21, penE ad (ad 5) wa la ba px py pd)] la 9 (X 19 2) := hz.mv h19G (by decide) (pen_ne (by decide))
                  have hbG : PW dA ad (goF T) [(q21, penE ad (ad 5) wa la ba px py pd)] ba 10 (X 19 3) := hb.mv h19G (by decide) (pen_ne (by decide))
                  refine lv_aload_n C0.1 C0.2.1 dX0_show_93 rfl (lv_at hl 0 rfl) ?_
                  refine x_ki (va_runV (b := (ad 0)) (As := []) (rest := []) C0 (xx_goes l D dA ad T ([(q21, .inr (7, [.ref (ad 5), .ref wa, .ref la, .ref ba, .int px, .int py, .int pd, .ref (ad 0)]))]) _  (by rw [hT 0 11 (by decide) (by decide)]; exact shZ_wear hO k t)) (cwV 0 C0.2.2.2.2 (lw_V q447 q449 qs9 q39 q450) rfl rfl rfl hdx_X0_goes ⟨(Nat.le_of_ble_eq_true rfl), (Nat.le_of_ble_eq_true rfl)⟩) (x_preV hG hM hS 0 (xw_0 dA ad _ _) rfl rfl) rfl rfl hl.1 rfl (lv_room (Nat.le_of_ble_eq_true rfl)) dX0_show_94 ⟨(Nat.le_of_ble_eq_true rfl), (Nat.le_of_ble_eq_true rfl)⟩) hG hM hS (fun r u H locs hr hM hS => ?_)
                  obtain ⟨rfl, rfl⟩ := hr
                  have hM : XF D A dA ad (if T 0 9 < T 0 10 + T 0 11 then T else goF T) ([(q21, .inr (7, [.ref (ad 5), .ref wa, .ref la, .ref ba, .int px, .int py, .int pd, .ref (ad 0)]))]) H := hM
                  rw [if_neg hgo] at hM
                  have hM : XF D A dA ad (goF T) ([(q21, .inr (7, [.ref (ad 5), .ref wa, .ref la, .ref ba, .int px, .int py, .int pd, .ref (ad 0)]))]) H := hM
                  refine tp_eq (y := 1) (if_neg hgo) ?_
                  refine lv_istore_n (lv' := [(3, .int 1), (0, .ref (ad 0)), (1, .ref q21), (2, .int (X 0 14)), (4, .int (nI k)), (5, .int (nI t))]) C0.1 C0.2.1 dX0_show_97 rfl hl (by decide) rfl (fun ls hl => ?_)
                  refine lv_iload_n C0.1 C0.2.1 dX0_show_98 rfl (lv_at hl 0 rfl) ?_
                  refine lv_if_eq (tgt := 110) C0.1 C0.2.1 dX0_show_99 (by decide) (fun c_99 => ?_) (fun c_99 => ?_)
                  · exact absurd c_99 (by decide)
                  · refine lv_aload_n C0.1 C0.2.1 dX0_show_102 rfl (lv_at hl 2 rfl) ?_
                    refine lv_iload C0.1 C0.2.1 dX0_show_103 (lv_at hl 4 rfl) ?_
                    refine lv_iload C0.1 C0.2.1 dX0_show_105 (lv_at hl 5 rfl) ?_
                    refine x_kv (va_runV (b := q21) (As := [.int (nI k), .int (nI t)]) (rest := []) C0 (x7_step5 l D dA ad (goF T) ([]) _ q21 wa la ba px py pd (X 19 1) (X 19 3) k t (hO.w.q hq.symm) hwG hbG hk12 (by rw [(show rl (goF T) = rl X by unfold rl; rw [(goF_g T).1 26 (by decide) (by decide) (by decide) (by decide), hT 0 26 (by decide) (by decide), hg.1 26 (by decide) (by decide) (by decide) (by decide)]), hrl]; exact ht) (by rw [(show rl (goF T) = rl X by unfold rl; rw [(goF_g T).1 26 (by decide) (by decide) (by decide) (by decide), hT 0 26 (by decide) (by decide), hg.1 26 (by decide) (by decide) (by decide) (by decide)])]; exact hr16) (by rw [((goF_g T).2 1 (by decide)).trans ((hT.k 1 rfl).trans (hg.2 1 (by decide))), ((goF_g T).2 3 (by decide)).trans ((hT.k 3 rfl).trans (hg.2 3 (by decide))), ((goF_g T).2 7 (by decide)).trans ((hT.k 7 rfl).trans (hg.2 7 (by decide)))]; exact hc3.1) (by rw [((goF_g T).2 1 (by decide)).trans ((hT.k 1 rfl).trans (hg.2 1 (by decide))), ((goF_g T).2 4 (by decide)).trans ((hT.k 4 rfl).trans (hg.2 4 (by decide))), ((goF_g T).2 7 (by decide)).trans ((hT.k 7 rfl).trans (hg.2 7 (by decide)))]; exact hc3.2.1) (by rw [((goF_g T).2 1 (by decide)).trans ((hT.k 1 rfl).trans (hg.2 1 (by decide))), ((goF_g T).2 5 (by decide)).trans ((hT.k 5 rfl).trans (hg.2 5 (by decide))), ((goF_g T).2 7 (by decide)).trans ((hT.k 7 rfl).trans (hg.2 7 (by decide)))]; exact hc3.2.2) (fun h => by rw [xA_q hq, yA_q hq, dwn_q hq]; exact hpq h c_86 c_90)) (cwV 2 C0.2.2.2.2 (lw_V q451 q452 q453 q51 q454) rfl rfl rfl hdx_X7_step_5 ⟨(Nat.le_of_ble_eq_true rfl), (Nat.le_of_ble_eq_true rfl)⟩) (x_preV hG hM hS (150 + 0) (xw_E dA ad _ _ (i := 0) rfl) (cb_E ad _ (i := 0) rfl) rfl) rfl rfl hl.1 rfl (lv_room (Nat.le_of_ble_eq_true rfl)) dX0_show_107 ⟨(Nat.le_of_ble_eq_true rfl), (Nat.le_of_ble_eq_true rfl)⟩) hG hM hS (fun u H locs hr hM hS => ?_)
                    subst hr
                    have hM : XF D A dA ad (wrX (goF T) (X 19 1) (X 19 3) 23 24 k t) ([(q21, .inr (7, [.ref (ad 5), .ref wa, .ref la, .ref ba, .int (nI (xA (goF T) (X 19 1) (X 19 3) k t)), .int (nI (yA (goF T) (X 19 1) (X 19 3) k t)), .int (if dwn (goF T) (X 19 1) k t = true then 1 else 0), .ref (ad 0)]))]) H := hM
                    refine lv_iinc (v := nI (t + 1)) (lv' := [(5, .int (nI (t + 1))), (3, .int 1), (0, .ref (ad 0)), (1, .ref q21), (2, .int (X 0 14)), (4, .int (nI k))]) C0.1 C0.2.1 dX0_show_110 hl (k := 5) rfl (nI_1 t) (by decide) rfl (fun ls hl => ?_)
                    refine lv_goto (tgt := 71) C0.1 C0.2.1 dX0_show_113 (by decide) ?_
                    exact K71 _ _ ls (by rw [shZ_go c_86 (Bool.eq_false_iff.mpr c_90) (by rw [← hT 0 10 (by decide) (by decide), ← hT 0 11 (by decide) (by decide), ← hT 0 9 (by decide) (by decide)]; exact Int32.not_lt.mp hgo)]; exact ⟨_, _, _, _, ⟨hT.go.wr _ _ _ _, mkr_wrT _ _ (hT.go.w.trans (goF_g _).w) (hO.w.q hq.symm) (by decide) hk12 (by omega) (by rw [(goF_g T).2 23 (by decide), (goF_g T).2 24 (by decide)]; exact hR), fun _ _ _ => ⟨by rw [xA_q hq]; rfl, by rw [yA_q hq]; rfl, by rw [dwn_q hq]; rfl⟩⟩, hM, hS, lv_sub hl [2, 3, 4, 1, 5, 0] rfl⟩)
  · have c_4 : ¬ (areCutN X (pg X) = true) := b01_0.mp c_4
    refine lv_aload_n C0.1 C0.2.1 dX0_show_7 rfl (lv_at hl 0 rfl) ?_
    refine lv_bipush (v := (-3)) C0.1 C0.2.1 dX0_show_8 (by decide) ?_
    refine x_ki (va_runV (b := (ad 0)) (As := [.int (-3)]) (rest := []) C0 (xx_refuse l D dA ad X ([]) _ 3 (by omega)) (cwV 1 C0.2.2.2.2 (lw_V q195 q197 qs0 q39 q198) rfl rfl rfl hdx_X0_refuse ⟨(Nat.le_of_ble_eq_true rfl), (Nat.le_of_ble_eq_true rfl)⟩) (x_preV hG hM hS 0 (xw_0 dA ad _ _) rfl rfl) rfl rfl hl.1 rfl (lv_room (Nat.le_of_ble_eq_true rfl)) dX0_show_10 ⟨(Nat.le_of_ble_eq_true rfl), (Nat.le_of_ble_eq_true rfl)⟩) hG hM hS (fun r u H locs hr hM hS => ?_)
    obtain ⟨rfl, rfl⟩ := hr
    have hM : XF D A dA ad (refS X 3) ([]) H := hM
    exact x_iretS C0 hr hlk hM hS ⟨PB.of (by unfold sp_show; rw [if_neg c_4]; rfl), (XS.up hX.xs 22 _ _ rfl), rfl, rfl⟩ dX0_show_13 (Nat.le_of_ble_eq_true rfl) (Nat.le_of_ble_eq_true rfl)
