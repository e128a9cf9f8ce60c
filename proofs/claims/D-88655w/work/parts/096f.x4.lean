set_option maxRecDepth 100000
set_option linter.unusedVariables false
theorem hdx_X0_made : yX0_made.cls = RX0 ∧ yX0_made.cls ≠ "java/lang/invoke/MethodHandle" ∧ yX0_made.cls ≠ "java/lang/invoke/VarHandle" ∧ (parseMethodDescriptor yX0_made.desc).map (fun d => d.parameters.length) = some 2 := by decide +kernel
set_option maxHeartbeats 4000000 in
theorem xx_made (l : Launch) (D : va_G) (dA : Nat → ClassId) (ad : Nat → Nat) (X : St) (L : Ex) (sz : Nat) (p0 p1 : Int32) (hX : XOk X) : xCh l yX0_made cX0_made 5 (some .int) [(0, 103, 104, 7)] { frames := 6, cells := 100, slots := 1000, locals := 134 } D dA ad X ([]) sz [.ref (ad 0), .int p0, .int p1] 100 1000 (fun r u => PX (sp_made X p0 p1) ad r u) := by
  refine x_hH (by decide) (Nat.le_of_ble_eq_true rfl) ?_
  intro A p e s m below meth cd ls C0 hr hlk hT hG hM hS hl
  have hl : lv_has ls 5 [(0, .ref (ad 0)), (1, .int p0), (2, .int p1)] := hl
  have hO := hX.ok
  have hl2 := hO.len2
  have hl16 := hO.len16
  have hr16 := rl16 hX
  have hrl := hX.rl
  have hp12 := hO.pg12
  refine lv_iload_n C0.1 C0.2.1 dX0_made_0 rfl (lv_at hl 2 rfl) ?_
  refine lv_iconst (v := 4) C0.1 C0.2.1 dX0_made_1 (by decide) ?_
  refine st_call C0 (xx_isIn l p1 4) 2 (lw_S q207 q208 q39 q209) rfl rfl hdx_X0_isIn ⟨(Nat.le_of_ble_eq_true rfl), (Nat.le_of_ble_eq_true rfl)⟩ rfl hl.1 rfl (Nat.le_of_ble_eq_true rfl) dX0_made_2 ⟨(Nat.le_of_ble_eq_true rfl), (Nat.le_of_ble_eq_true rfl)⟩ (fun r hr => ?_)
  subst hr
  refine tp_eq (y := (if (inR p1 4).isSome = true then 1 else 0)) (b01_c (inR_lt (n := 4) (by decide))) ?_
  refine lv_if_ne (tgt := 17) C0.1 C0.2.1 dX0_made_5 (by decide) (fun c_5 => ?_) (fun c_5 => ?_)
  · have c_5 : (inR p1 4).isSome = true := b01_1.mp c_5
    obtain ⟨k, hk, bk, rfl⟩ := inR_get c_5 (by decide)
    refine lv_aload_n C0.1 C0.2.1 dX0_made_17 rfl (lv_at hl 0 rfl) ?_
    refine lv_iload_n C0.1 C0.2.1 dX0_made_18 rfl (lv_at hl 1 rfl) ?_
    refine x_ct (av := [.int p0]) (rest := []) (x := exE (0, 103, 104, 7)) C0 hG hM hS (xx_camAt l D dA ad X ([]) _ p0) 1 (lw_V q225 q227 qs1 q39 q228) rfl rfl hdx_X0_camAt ⟨(Nat.le_of_ble_eq_true rfl), (Nat.le_of_ble_eq_true rfl)⟩ rfl hl.1 rfl (Nat.le_of_ble_eq_true rfl) dX0_made_19 ⟨(Nat.le_of_ble_eq_true rfl), (Nat.le_of_ble_eq_true rfl)⟩ ⟨[], _, hT, by decide⟩ (by decide) (by decide) q224 (fun v locs hP hS => ?_) (fun q19 k19 H locs hK hM hS => ?_)
    · obtain ⟨j, hj, hth, rfl⟩ := hP
      obtain ⟨bj, rfl⟩ := inR_some hj (by decide)
      refine at_fr 22 [.ref (ad (100 + j))] rfl rfl ?_
      refine lv_astore_n (lv' := [(3, .ref (ad (100 + j))), (0, .ref (ad 0)), (1, .int (nI j)), (2, .int (nI k))]) C0.1 C0.2.1 dX0_made_22 rfl hl (by decide) rfl (fun ls hl => ?_)
      refine lv_aload_n C0.1 C0.2.1 dX0_made_23 rfl (lv_at hl 1 rfl) ?_
      refine x_geta C0 hG hM 11 21 (by decide) rfl rfl q129 dX0_made_24 ?_
      refine lv_iload_n C0.1 C0.2.1 dX0_made_27 rfl (lv_at hl 3 rfl) ?_
      refine x_iald C0 hG hM 21 k rfl rfl rfl (show k < 4 from (by omega)) (by decide) dX0_made_28 ?_
      refine lv_aload_n C0.1 C0.2.1 dX0_made_29 rfl (lv_at hl 1 rfl) ?_
      refine x_geti C0 hG hM 1 0 (by decide) rfl rfl q114 dX0_made_30 ?_
      refine lv_iadd C0.1 C0.2.1 dX0_made_33 ?_
      refine lv_sipush (v := 1000) C0.1 C0.2.1 dX0_made_34 (by decide) ?_
      refine lv_icmp_le (tgt := 50) C0.1 C0.2.1 dX0_made_37 (by decide) (fun c_37 => ?_) (fun c_37 => ?_)
      · refine lv_iconst (v := 0) C0.1 C0.2.1 dX0_made_50 (by decide) ?_
        refine lv_istore (lv' := [(4, .int 0), (3, .ref (ad (100 + j))), (0, .ref (ad 0)), (1, .int (nI j)), (2, .int (nI k))]) C0.1 C0.2.1 dX0_made_51 hl (by decide) rfl (fun ls hl => ?_)
        refine W_loop 10 (fun i H locs ls => XF D A dA ad (habF X j k i) ([]) H ∧ va_S A s.heap H locs ∧ lv_has ls 5 [(0, .ref (ad 0)), (1, .int (nI j)), (2, .int (nI k)), (3, .ref (ad (100 + j))), (4, .int (nI i))]) 53 ?_ ?_ 0 _ _ ls (Nat.zero_le _) ⟨hM, hS, lv_sub hl [2, 3, 4, 1, 0] rfl⟩
        · intro H locs ls ⟨hM, hS, hl⟩
          refine lv_iload C0.1 C0.2.1 dX0_made_53 (lv_at hl 4 rfl) ?_
          refine lv_bipush (v := 10) C0.1 C0.2.1 dX0_made_55 (by decide) ?_
          refine lv_icmp_ge (tgt := 84) C0.1 C0.2.1 dX0_made_57 (by decide) (fun c_57 => ?_) (fun c_57 => ?_)
          · have n_57 : 10 ≤ 10 := (nI_leI (a := 10) (b := 10) (by omega) (by omega)).mp c_57
            refine lv_aload_n C0.1 C0.2.1 dX0_made_84 rfl (lv_at hl 0 rfl) ?_
            refine x_geta C0 hG hM 11 21 (by decide) rfl rfl q129 dX0_made_85 ?_
            refine lv_iload_n C0.1 C0.2.1 dX0_made_88 rfl (lv_at hl 2 rfl) ?_
            refine lv_dup2_11 C0.1 C0.2.1 dX0_made_89 rfl rfl ?_
            refine x_iald C0 hG hM 21 k rfl rfl rfl (show k < 4 from (by omega)) (by decide) dX0_made_90 ?_
            refine tp_eq (y := X 21 k) (by rw [habF_k _ _ _ (by decide)]) ?_
            refine lv_aload_n C0.1 C0.2.1 dX0_made_91 rfl (lv_at hl 0 rfl) ?_
            refine x_geti C0 hG hM 1 0 (by decide) rfl rfl q114 dX0_made_92 ?_
            refine tp_eq (y := X 0 0) (by rw [habF_k _ _ _ (by decide)]) ?_
            refine lv_iadd C0.1 C0.2.1 dX0_made_95 ?_
            refine x_iast C0 hG hM hS 21 k rfl rfl rfl (show k < 4 from (by omega)) (by decide) dX0_made_96 (fun H locs hM hS => ?_)
            refine lv_aload_n C0.1 C0.2.1 dX0_made_97 rfl (lv_at hl 0 rfl) ?_
            refine x_geta C0 hG hM 11 21 (by decide) rfl rfl q129 dX0_made_98 ?_
            refine lv_iload_n C0.1 C0.2.1 dX0_made_101 rfl (lv_at hl 2 rfl) ?_
            refine x_iald C0 hG hM 21 k rfl rfl rfl (show k < 4 from (by omega)) (by decide) dX0_made_102 ?_
            refine tp_eq (y := ((X 21 k) + (X 0 0))) (by rw [up2_self]) ?_
            exact x_iretS C0 hr hlk hM hS ⟨PB.of ((onMk_t hj hk hth).trans (by (try dsimp only); rw [if_neg (Int32.not_lt.mpr c_37)])), ((hab_xs hX.xs j k 10).up 21 _ _ rfl), rfl, rfl⟩ dX0_made_103 (Nat.le_of_ble_eq_true rfl) (Nat.le_of_ble_eq_true rfl)
          · have n_57 : ¬ 10 ≤ 10 := fun z => c_57 ((nI_leI (a := 10) (b := 10) (by omega) (by omega)).mpr z)
            omega
        · intro i H locs ls hi ⟨hM, hS, hl⟩ K53
          refine lv_iload C0.1 C0.2.1 dX0_made_53 (lv_at hl 4 rfl) ?_
          refine lv_bipush (v := 10) C0.1 C0.2.1 dX0_made_55 (by decide) ?_
          refine lv_icmp_ge (tgt := 84) C0.1 C0.2.1 dX0_made_57 (by decide) (fun c_57 => ?_) (fun c_57 => ?_)
          · have n_57 : 10 ≤ i := (nI_leI (a := 10) (b := i) (by omega) (by omega)).mp c_57
            omega
          · have n_57 : ¬ 10 ≤ i := fun z => c_57 ((nI_leI (a := 10) (b := i) (by omega) (by omega)).mpr z)
            refine lv_aload_n C0.1 C0.2.1 dX0_made_60 rfl (lv_at hl 0 rfl) ?_
            refine x_geta C0 hG hM 10 20 (by decide) rfl rfl q128 dX0_made_61 ?_
            refine lv_iload_n C0.1 C0.2.1 dX0_made_64 rfl (lv_at hl 2 rfl) ?_
            refine x_habr C0 hG hM k rfl (by omega) dX0_made_65 ?_
            refine lv_iload C0.1 C0.2.1 dX0_made_66 (lv_at hl 4 rfl) ?_
            refine lv_dup2_11 C0.1 C0.2.1 dX0_made_68 rfl rfl ?_
            refine x_haba C0 hG hM k i (by omega) rfl (by omega) dX0_made_69 ?_
            refine lv_aload_n C0.1 C0.2.1 dX0_made_70 rfl (lv_at hl 3 rfl) ?_
            refine lv_iload C0.1 C0.2.1 dX0_made_71 (lv_at hl 4 rfl) ?_
            refine fw_cp (va_runV (b := (ad (100 + j))) (As := [.int (nI i)]) (rest := [.int ((habF X j k i) 20 (10 * k + i)), .int (nI i), .ref (ad (40 + k))]) C0 (x5_times l D dA ad (habF X j k i) ([]) _ j (nI i) (by omega) (by rw [habF_k _ _ _ (by decide)]; exact hth) (by rw [habF_rl]; exact hr16)) (cwV 1 C0.2.2.2.2 (lw_V q601 q602 q603 q44 q604) rfl rfl rfl hdx_X5_times ⟨(Nat.le_of_ble_eq_true rfl), (Nat.le_of_ble_eq_true rfl)⟩) (x_preV hG hM hS (100 + j) (xw_cam dA ad _ _ (by omega) (by rw [habF_k _ _ _ (by decide)]; exact hth)) (cb_lt ad _ (by omega)) rfl) rfl rfl hl.1 rfl (lv_room (Nat.le_of_ble_eq_true rfl)) dX0_made_73 ⟨(Nat.le_of_ble_eq_true rfl), (Nat.le_of_ble_eq_true rfl)⟩) (fun r hr => ?_)
            subst hr
            refine tp_eq (y := nI (timesF (row X j) (nI i) (ln X))) (by rw [habF_row, habF_rl, hrl]) ?_
            refine lv_iadd C0.1 C0.2.1 dX0_made_76 ?_
            refine x_habp C0 hG hM hS k i (by omega) rfl (by omega) dX0_made_77 (fun H locs hM hS => ?_)
            refine lv_iinc (v := nI (i + 1)) (lv' := [(4, .int (nI (i + 1))), (0, .ref (ad 0)), (1, .int (nI j)), (2, .int (nI k)), (3, .ref (ad (100 + j)))]) C0.1 C0.2.1 dX0_made_78 hl (k := 4) rfl (nI_1 i) (by decide) rfl (fun ls hl => ?_)
            refine lv_goto (tgt := 53) C0.1 C0.2.1 dX0_made_81 (by decide) ?_
            exact K53 _ _ ls ⟨hM, hS, lv_sub hl [1, 2, 3, 4, 0] rfl⟩
      · refine x_newC (ci := 6) C0 hG hM hS [.null, .null, .null, .null, .null, .int 0, .int 0] rfl in_X6 tyX6 tyX6_ok q224 q229 q48 (by decide) (Nat.le_of_ble_eq_true rfl) (Nat.le_of_ble_eq_true rfl) dX0_made_40 (fun q40 H hM hS => ?_)
        refine lv_dup C0.1 C0.2.1 dX0_made_43 rfl ?_
        refine lv_bipush (v := (-6)) C0.1 C0.2.1 dX0_made_44 (by decide) ?_
        refine x_kv (va_runI (b := q40) (As := [.int (-6)]) (rest := [.ref q40]) C0 (x6_init l D dA ad X ([]) _ q40 6) (cwI 1 C0.2.2.2.2 (lw_meth q269) rfl rfl rfl (C0.2.2.2.2 _ q48) (C0.2.2.2.2 _ q267) (C0.2.2.2.2 _ q268) rfl hdx_X6_init ⟨(Nat.le_of_ble_eq_true rfl), (Nat.le_of_ble_eq_true rfl)⟩) (x_preS hG hM hS) rfl rfl hl.1 rfl (lv_room (Nat.le_of_ble_eq_true rfl)) dX0_made_46 ⟨(Nat.le_of_ble_eq_true rfl), (Nat.le_of_ble_eq_true rfl)⟩) hG hM hS (fun u H locs hr hM hS => ?_)
        subst hr
        have hM : XF D A dA ad X ([(q40, .inr (6, [.null, .null, .null, .null, .null, .int 0, .int (-(nI 6))]))]) H := hM
        refine x_thrC (x := exE (0, 103, 104, 7)) C0 hG hM 0 rfl ⟨[], _, hT, by decide⟩ (by decide) (by decide) q224 dX0_made_49 ?_
        refine at_pc 104 rfl ?_
        refine lv_astore_n (lv' := [(3, .ref q40), (0, .ref (ad 0)), (1, .int (nI j)), (2, .int (nI k))]) C0.1 C0.2.1 dX0_made_104 rfl hl (by decide) rfl (fun ls hl => ?_)
        refine lv_aload_n C0.1 C0.2.1 dX0_made_105 rfl (lv_at hl 1 rfl) ?_
        refine lv_aload_n C0.1 C0.2.1 dX0_made_106 rfl (lv_at hl 0 rfl) ?_
        refine x_egetN C0 hG hM 0 rfl rfl in_X6 6 (by decide) rfl (hG.2.1.f 4 rfl) dX0_made_107 ?_
        have hM : XF D A dA ad X [] H := hM.tail
        refine x_ki (va_runV (b := (ad 0)) (As := [.int (-(nI 6))]) (rest := []) C0 (xx_refuse l D dA ad X ([]) _ 6 (by decide)) (cwV 1 C0.2.2.2.2 (lw_V q195 q197 qs0 q39 q198) rfl rfl rfl hdx_X0_refuse ⟨(Nat.le_of_ble_eq_true rfl), (Nat.le_of_ble_eq_true rfl)⟩) (x_preV hG hM hS 0 (xw_0 dA ad _ _) rfl rfl) rfl rfl hl.1 rfl (lv_room (Nat.le_of_ble_eq_true rfl)) dX0_made_110 ⟨(Nat.le_of_ble_eq_true rfl), (Nat.le_of_ble_eq_true rfl)⟩) hG hM hS (fun r u H locs hr hM hS => ?_)
        obtain ⟨rfl, rfl⟩ := hr
        have hM : XF D A dA ad (refS X 6) ([]) H := hM
        exact x_iretS C0 hr hlk hM hS ⟨PB.of ((onMk_t hj hk hth).trans (by (try dsimp only); rw [if_pos (Int32.not_le.mp c_37)]; rfl)), (XS.up hX.xs 22 _ _ rfl), rfl, rfl⟩ dX0_made_113 (Nat.le_of_ble_eq_true rfl) (Nat.le_of_ble_eq_true rfl)
    · refine at_pc 104 rfl ?_
      obtain ⟨rfl, hk0⟩ := hK
      refine lv_astore_n (lv' := [(3, .ref q19), (0, .ref (ad 0)), (1, .int p0), (2, .int (nI k))]) C0.1 C0.2.1 dX0_made_104 rfl hl (by decide) rfl (fun ls hl => ?_)
      refine lv_aload_n C0.1 C0.2.1 dX0_made_105 rfl (lv_at hl 1 rfl) ?_
      refine lv_aload_n C0.1 C0.2.1 dX0_made_106 rfl (lv_at hl 0 rfl) ?_
      refine x_egetN C0 hG hM 0 rfl rfl in_X6 6 (by decide) rfl (hG.2.1.f 4 rfl) dX0_made_107 ?_
      have hM : XF D A dA ad X [] H := hM.tail
      refine x_ki (va_runV (b := (ad 0)) (As := [.int (-(nI (lackN X p0)))]) (rest := []) C0 (xx_refuse l D dA ad X ([]) _ (lackN X p0) (lackN_lt X p0)) (cwV 1 C0.2.2.2.2 (lw_V q195 q197 qs0 q39 q198) rfl rfl rfl hdx_X0_refuse ⟨(Nat.le_of_ble_eq_true rfl), (Nat.le_of_ble_eq_true rfl)⟩) (x_preV hG hM hS 0 (xw_0 dA ad _ _) rfl rfl) rfl rfl hl.1 rfl (lv_room (Nat.le_of_ble_eq_true rfl)) dX0_made_110 ⟨(Nat.le_of_ble_eq_true rfl), (Nat.le_of_ble_eq_true rfl)⟩) hG hM hS (fun r u H locs hr hM hS => ?_)
      obtain ⟨rfl, rfl⟩ := hr
      have hM : XF D A dA ad (refS X (lackN X p0)) ([]) H := hM
      exact x_iretS C0 hr hlk hM hS ⟨PB.of (onMk_l hk hk0), (XS.up hX.xs 22 _ _ rfl), rfl, rfl⟩ dX0_made_113 (Nat.le_of_ble_eq_true rfl) (Nat.le_of_ble_eq_true rfl)
  · have c_5 : ¬ ((inR p1 4).isSome = true) := b01_0.mp c_5
    refine x_newC (ci := 6) C0 hG hM hS [.null, .null, .null, .null, .null, .int 0, .int 0] rfl in_X6 tyX6 tyX6_ok q224 q229 q48 (by decide) (Nat.le_of_ble_eq_true rfl) (Nat.le_of_ble_eq_true rfl) dX0_made_8 (fun q8 H hM hS => ?_)
    refine lv_dup C0.1 C0.2.1 dX0_made_11 rfl ?_
    refine lv_iconst (v := (-1)) C0.1 C0.2.1 dX0_made_12 (by decide) ?_
    refine x_kv (va_runI (b := q8) (As := [.int (-1)]) (rest := [.ref q8]) C0 (x6_init l D dA ad X ([]) _ q8 1) (cwI 1 C0.2.2.2.2 (lw_meth q269) rfl rfl rfl (C0.2.2.2.2 _ q48) (C0.2.2.2.2 _ q267) (C0.2.2.2.2 _ q268) rfl hdx_X6_init ⟨(Nat.le_of_ble_eq_true rfl), (Nat.le_of_ble_eq_true rfl)⟩) (x_preS hG hM hS) rfl rfl hl.1 rfl (lv_room (Nat.le_of_ble_eq_true rfl)) dX0_made_13 ⟨(Nat.le_of_ble_eq_true rfl), (Nat.le_of_ble_eq_true rfl)⟩) hG hM hS (fun u H locs hr hM hS => ?_)
    subst hr
    have hM : XF D A dA ad X ([(q8, .inr (6, [.null, .null, .null, .null, .null, .int 0, .int (-(nI 1))]))]) H := hM
    refine x_thrC (x := exE (0, 103, 104, 7)) C0 hG hM 0 rfl ⟨[], _, hT, by decide⟩ (by decide) (by decide) q224 dX0_made_16 ?_
    refine at_pc 104 rfl ?_
    refine lv_astore_n (lv' := [(3, .ref q8), (0, .ref (ad 0)), (1, .int p0), (2, .int p1)]) C0.1 C0.2.1 dX0_made_104 rfl hl (by decide) rfl (fun ls hl => ?_)
    refine lv_aload_n C0.1 C0.2.1 dX0_made_105 rfl (lv_at hl 1 rfl) ?_
    refine lv_aload_n C0.1 C0.2.1 dX0_made_106 rfl (lv_at hl 0 rfl) ?_
    refine x_egetN C0 hG hM 0 rfl rfl in_X6 6 (by decide) rfl (hG.2.1.f 4 rfl) dX0_made_107 ?_
    have hM : XF D A dA ad X [] H := hM.tail
    refine x_ki (va_runV (b := (ad 0)) (As := [.int (-(nI 1))]) (rest := []) C0 (xx_refuse l D dA ad X ([]) _ 1 (by decide)) (cwV 1 C0.2.2.2.2 (lw_V q195 q197 qs0 q39 q198) rfl rfl rfl hdx_X0_refuse ⟨(Nat.le_of_ble_eq_true rfl), (Nat.le_of_ble_eq_true rfl)⟩) (x_preV hG hM hS 0 (xw_0 dA ad _ _) rfl rfl) rfl rfl hl.1 rfl (lv_room (Nat.le_of_ble_eq_true rfl)) dX0_made_110 ⟨(Nat.le_of_ble_eq_true rfl), (Nat.le_of_ble_eq_true rfl)⟩) hG hM hS (fun r u H locs hr hM hS => ?_)
    obtain ⟨rfl, rfl⟩ := hr
    have hM : XF D A dA ad (refS X 1) ([]) H := hM
    exact x_iretS C0 hr hlk hM hS ⟨PB.of (onMk_2 (inR_none c_5)), (XS.up hX.xs 22 _ _ rfl), rfl, rfl⟩ dX0_made_113 (Nat.le_of_ble_eq_true rfl) (Nat.le_of_ble_eq_true rfl)
