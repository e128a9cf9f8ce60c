set_option maxRecDepth 100000
set_option linter.unusedVariables false
theorem hdx_X0_camOf : yX0_camOf.cls = RX0 ∧ yX0_camOf.cls ≠ "java/lang/invoke/MethodHandle" ∧ yX0_camOf.cls ≠ "java/lang/invoke/VarHandle" ∧ (parseMethodDescriptor yX0_camOf.desc).map (fun d => d.parameters.length) = some 2 := by decide +kernel
set_option maxHeartbeats 4000000 in
theorem xx_camOf (l : Launch) (D : va_G) (dA : Nat → ClassId) (ad : Nat → Nat) (X : St) (L : Ex) (sz : Nat) (p0 p1 : Int32) (hX : XOk X) : xCh l yX0_camOf cX0_camOf 5 (some .int) [(0, 46, 74, 7), (47, 58, 74, 7), (59, 63, 74, 7), (64, 74, 74, 7)] { frames := 6, cells := 100, slots := 1000, locals := 134 } D dA ad X ([]) sz [.ref (ad 0), .int p0, .int p1] 100 1000 (fun r u => PX (sp_camOf X p0 p1) ad r u) := by
  refine x_hH (by decide) (Nat.le_of_ble_eq_true rfl) ?_
  intro A p e s m below meth cd ls C0 hr hlk hT hG hM hS hl
  have hl : lv_has ls 5 [(0, .ref (ad 0)), (1, .int p0), (2, .int p1)] := hl
  have hO := hX.ok
  have hl2 := hO.len2
  have hl16 := hO.len16
  have hr16 := rl16 hX
  have hrl := hX.rl
  have hp12 := hO.pg12
  refine lv_aload_n C0.1 C0.2.1 dX0_camOf_0 rfl (lv_at hl 0 rfl) ?_
  refine lv_iload_n C0.1 C0.2.1 dX0_camOf_1 rfl (lv_at hl 1 rfl) ?_
  refine x_ct (av := [.int p0]) (rest := []) (x := exE (0, 46, 74, 7)) C0 hG hM hS (xx_camAt l D dA ad X ([]) _ p0) 1 (lw_V q225 q227 qs1 q39 q228) rfl rfl hdx_X0_camAt ⟨(Nat.le_of_ble_eq_true rfl), (Nat.le_of_ble_eq_true rfl)⟩ rfl hl.1 rfl (Nat.le_of_ble_eq_true rfl) dX0_camOf_2 ⟨(Nat.le_of_ble_eq_true rfl), (Nat.le_of_ble_eq_true rfl)⟩ ⟨[], _, hT, by decide⟩ (by decide) (by decide) q224 (fun v locs hP hS => ?_) (fun q2 k2 H locs hK hM hS => ?_)
  · obtain ⟨j, hj, hth, rfl⟩ := hP
    obtain ⟨bj, rfl⟩ := inR_some hj (by decide)
    refine at_fr 5 [.ref (ad (100 + j))] rfl rfl ?_
    refine lv_astore_n (lv' := [(3, .ref (ad (100 + j))), (0, .ref (ad 0)), (1, .int (nI j)), (2, .int p1)]) C0.1 C0.2.1 dX0_camOf_5 rfl hl (by decide) rfl (fun ls hl => ?_)
    refine lv_aload_n C0.1 C0.2.1 dX0_camOf_6 rfl (lv_at hl 1 rfl) ?_
    refine lv_iload_n C0.1 C0.2.1 dX0_camOf_7 rfl (lv_at hl 2 rfl) ?_
    refine fw_cp (va_runV (b := (ad 0)) (As := [.int (nI j)]) (rest := []) C0 (xx_leastOf l D dA ad X ([]) _ j hX (by omega) hth) (cwV 1 C0.2.2.2.2 (lw_V q331 q333 qs5 q39 q334) rfl rfl rfl hdx_X0_leastOf ⟨(Nat.le_of_ble_eq_true rfl), (Nat.le_of_ble_eq_true rfl)⟩) (x_preV hG hM hS 0 (xw_0 dA ad _ _) rfl rfl) rfl rfl hl.1 rfl (lv_room (Nat.le_of_ble_eq_true rfl)) dX0_camOf_8 ⟨(Nat.le_of_ble_eq_true rfl), (Nat.le_of_ble_eq_true rfl)⟩) (fun r hr => ?_)
    subst hr
    refine lv_istore (lv' := [(4, .int (nI (leastN X j))), (3, .ref (ad (100 + j))), (0, .ref (ad 0)), (1, .int (nI j)), (2, .int p1)]) C0.1 C0.2.1 dX0_camOf_11 hl (by decide) rfl (fun ls hl => ?_)
    obtain ⟨hla, hlc, hlr⟩ := least_at (show 0 < ln X by omega) bj hth hl16
    refine lv_iload_n C0.1 C0.2.1 dX0_camOf_13 rfl (lv_at hl 4 rfl) ?_
    rcases hk : inR p1 3 with _ | k
    · refine lv_tableOut (tgt := 64) C0.1 C0.2.1 dX0_camOf_14 (inR_out hk) (by decide) ?_
      refine x_newC (ci := 6) C0 hG hM hS [.null, .null, .null, .null, .null, .int 0, .int 0] rfl in_X6 tyX6 tyX6_ok q224 q229 q48 (by decide) (Nat.le_of_ble_eq_true rfl) (Nat.le_of_ble_eq_true rfl) dX0_camOf_64 (fun q64 H hM hS => ?_)
      refine lv_dup C0.1 C0.2.1 dX0_camOf_67 rfl ?_
      refine lv_bipush (v := (-2)) C0.1 C0.2.1 dX0_camOf_68 (by decide) ?_
      refine x_kv (va_runI (b := q64) (As := [.int (-2)]) (rest := [.ref q64]) C0 (x6_init l D dA ad X ([]) _ q64 2) (cwI 1 C0.2.2.2.2 (lw_meth q269) rfl rfl rfl (C0.2.2.2.2 _ q48) (C0.2.2.2.2 _ q267) (C0.2.2.2.2 _ q268) rfl hdx_X6_init ⟨(Nat.le_of_ble_eq_true rfl), (Nat.le_of_ble_eq_true rfl)⟩) (x_preS hG hM hS) rfl rfl hl.1 rfl (lv_room (Nat.le_of_ble_eq_true rfl)) dX0_camOf_70 ⟨(Nat.le_of_ble_eq_true rfl), (Nat.le_of_ble_eq_true rfl)⟩) hG hM hS (fun u H locs hr hM hS => ?_)
      subst hr
      have hM : XF D A dA ad X ([(q64, .inr (6, [.null, .null, .null, .null, .null, .int 0, .int (-(nI 2))]))]) H := hM
      refine x_thrC (x := exE (64, 74, 74, 7)) C0 hG hM 0 rfl ⟨[exE (0, 46, 74, 7), exE (47, 58, 74, 7), exE (59, 63, 74, 7)], _, hT, by decide⟩ (by decide) (by decide) q224 dX0_camOf_73 ?_
      refine at_pc 74 rfl ?_
      refine lv_astore_n (lv' := [(3, .ref q64), (4, .int (nI (leastN X j))), (0, .ref (ad 0)), (1, .int (nI j)), (2, .int p1)]) C0.1 C0.2.1 dX0_camOf_74 rfl hl (by decide) rfl (fun ls hl => ?_)
      refine lv_aload_n C0.1 C0.2.1 dX0_camOf_75 rfl (lv_at hl 2 rfl) ?_
      refine lv_aload_n C0.1 C0.2.1 dX0_camOf_76 rfl (lv_at hl 0 rfl) ?_
      refine x_egetN C0 hG hM 0 rfl rfl in_X6 6 (by decide) rfl (hG.2.1.f 4 rfl) dX0_camOf_77 ?_
      have hM : XF D A dA ad X [] H := hM.tail
      refine x_ki (va_runV (b := (ad 0)) (As := [.int (-(nI 2))]) (rest := []) C0 (xx_refuse l D dA ad X ([]) _ 2 (by decide)) (cwV 1 C0.2.2.2.2 (lw_V q195 q197 qs0 q39 q198) rfl rfl rfl hdx_X0_refuse ⟨(Nat.le_of_ble_eq_true rfl), (Nat.le_of_ble_eq_true rfl)⟩) (x_preV hG hM hS 0 (xw_0 dA ad _ _) rfl rfl) rfl rfl hl.1 rfl (lv_room (Nat.le_of_ble_eq_true rfl)) dX0_camOf_80 ⟨(Nat.le_of_ble_eq_true rfl), (Nat.le_of_ble_eq_true rfl)⟩) hG hM hS (fun r u H locs hr hM hS => ?_)
      obtain ⟨rfl, rfl⟩ := hr
      have hM : XF D A dA ad (refS X 2) ([]) H := hM
      exact x_iretS C0 hr hlk hM hS ⟨PB.of (camOf_0 hj hth hk), (XS.up hX.xs 22 _ _ rfl), rfl, rfl⟩ dX0_camOf_83 (Nat.le_of_ble_eq_true rfl) (Nat.le_of_ble_eq_true rfl)
    · obtain ⟨bk, rfl⟩ := inR_some hk (by decide)
      match k, bk, hk, C0, hl with
      | 0, _, hk, C0, hl => 
        refine lv_tableIn (tgt := 40) C0.1 C0.2.1 dX0_camOf_14 (by decide) (by decide) (off := 26) (by decide) (by decide) ?_
        refine lv_aload_n C0.1 C0.2.1 dX0_camOf_40 rfl (lv_at hl 2 rfl) ?_
        refine lv_iload C0.1 C0.2.1 dX0_camOf_41 (lv_at hl 0 rfl) ?_
        refine fw_cp (va_runV (b := (ad 0)) (As := [.int (nI (leastN X j))]) (rest := []) C0 (xx_blanksTo l D dA ad X ([]) _ (leastN X j) hX (by omega)) (cwV 1 C0.2.2.2.2 (lw_V q327 q329 qs4 q39 q330) rfl rfl rfl hdx_X0_blanksTo ⟨(Nat.le_of_ble_eq_true rfl), (Nat.le_of_ble_eq_true rfl)⟩) (x_preV hG hM hS 0 (xw_0 dA ad _ _) rfl rfl) rfl rfl hl.1 rfl (lv_room (Nat.le_of_ble_eq_true rfl)) dX0_camOf_43 ⟨(Nat.le_of_ble_eq_true rfl), (Nat.le_of_ble_eq_true rfl)⟩) (fun r hr => ?_)
        subst hr
        exact x_iretS C0 hr hlk hM hS ⟨PB.of ((onCam_j hj hth).trans (by (try dsimp only); rw [if_pos (by decide)])), hX.xs, rfl, rfl⟩ dX0_camOf_46 (Nat.le_of_ble_eq_true rfl) (Nat.le_of_ble_eq_true rfl)
      | 1, _, hk, C0, hl => 
        refine lv_tableIn (tgt := 47) C0.1 C0.2.1 dX0_camOf_14 (by decide) (by decide) (off := 33) (by decide) (by decide) ?_
        refine lv_aload_n C0.1 C0.2.1 dX0_camOf_47 rfl (lv_at hl 2 rfl) ?_
        refine x_geta C0 hG hM 0 1 (by decide) rfl rfl q112 dX0_camOf_48 ?_
        refine lv_iload C0.1 C0.2.1 dX0_camOf_51 (lv_at hl 0 rfl) ?_
        refine x_camS C0 hG hM (leastN X j) hla rfl (by omega) dX0_camOf_53 ?_
        refine lv_aload_n C0.1 C0.2.1 dX0_camOf_54 rfl (lv_at hl 1 rfl) ?_
        refine fw_cp (va_runV (b := (ad (100 + leastN X j))) (As := [.ref (ad (100 + j))]) (rest := []) C0 (x5_turnsTo l D dA ad X ([]) _ (leastN X j) j (by omega) hla (by omega) hth hr16) (cwV 1 C0.2.2.2.2 (lw_V q335 q336 q337 q44 q338) rfl rfl rfl hdx_X5_turnsTo ⟨(Nat.le_of_ble_eq_true rfl), (Nat.le_of_ble_eq_true rfl)⟩) (x_preV hG hM hS (100 + leastN X j) (xw_cam dA ad _ _ (by omega) hla) (cb_lt ad _ (by omega)) rfl) rfl rfl hl.1 rfl (lv_room (Nat.le_of_ble_eq_true rfl)) dX0_camOf_55 ⟨(Nat.le_of_ble_eq_true rfl), (Nat.le_of_ble_eq_true rfl)⟩) (fun r hr => ?_)
        subst hr
        refine tp_eq (y := rotI (rotN (ln X) (row X (leastN X j)) (row X j))) (by rw [hrl]) ?_
        exact x_iretS C0 hr hlk hM hS ⟨PB.of ((onCam_j hj hth).trans (by (try dsimp only); rw [if_neg (by decide), if_pos (by decide)])), hX.xs, rfl, rfl⟩ dX0_camOf_58 (Nat.le_of_ble_eq_true rfl) (Nat.le_of_ble_eq_true rfl)
      | 2, _, hk, C0, hl => 
        refine lv_tableIn (tgt := 59) C0.1 C0.2.1 dX0_camOf_14 (by decide) (by decide) (off := 45) (by decide) (by decide) ?_
        refine lv_aload_n C0.1 C0.2.1 dX0_camOf_59 rfl (lv_at hl 1 rfl) ?_
        refine fw_cp (va_runV (b := (ad (100 + j))) (As := []) (rest := []) C0 (x5_smooth l D dA ad X ([]) _ j (by omega) hth hr16) (cwV 0 C0.2.2.2.2 (lw_V q343 q344 q345 q44 q346) rfl rfl rfl hdx_X5_smooth ⟨(Nat.le_of_ble_eq_true rfl), (Nat.le_of_ble_eq_true rfl)⟩) (x_preV hG hM hS (100 + j) (xw_cam dA ad _ _ (by omega) hth) (cb_lt ad _ (by omega)) rfl) rfl rfl hl.1 rfl (lv_room (Nat.le_of_ble_eq_true rfl)) dX0_camOf_60 ⟨(Nat.le_of_ble_eq_true rfl), (Nat.le_of_ble_eq_true rfl)⟩) (fun r hr => ?_)
        subst hr
        refine tp_eq (y := smoothF (ln X) (row X j) (ln X)) (by rw [hrl]) ?_
        exact x_iretS C0 hr hlk hM hS ⟨PB.of ((onCam_j hj hth).trans (by (try dsimp only); rw [if_neg (by decide), if_neg (by decide), if_pos (by decide)])), hX.xs, rfl, rfl⟩ dX0_camOf_63 (Nat.le_of_ble_eq_true rfl) (Nat.le_of_ble_eq_true rfl)
      | n + 3, h, _, _, _ => omega
  · refine at_pc 74 rfl ?_
    obtain ⟨rfl, hk0⟩ := hK
    refine lv_astore_n (lv' := [(3, .ref q2), (0, .ref (ad 0)), (1, .int p0), (2, .int p1)]) C0.1 C0.2.1 dX0_camOf_74 rfl hl (by decide) rfl (fun ls hl => ?_)
    refine lv_aload_n C0.1 C0.2.1 dX0_camOf_75 rfl (lv_at hl 1 rfl) ?_
    refine lv_aload_n C0.1 C0.2.1 dX0_camOf_76 rfl (lv_at hl 0 rfl) ?_
    refine x_egetN C0 hG hM 0 rfl rfl in_X6 6 (by decide) rfl (hG.2.1.f 4 rfl) dX0_camOf_77 ?_
    have hM : XF D A dA ad X [] H := hM.tail
    refine x_ki (va_runV (b := (ad 0)) (As := [.int (-(nI (lackN X p0)))]) (rest := []) C0 (xx_refuse l D dA ad X ([]) _ (lackN X p0) (lackN_lt X p0)) (cwV 1 C0.2.2.2.2 (lw_V q195 q197 qs0 q39 q198) rfl rfl rfl hdx_X0_refuse ⟨(Nat.le_of_ble_eq_true rfl), (Nat.le_of_ble_eq_true rfl)⟩) (x_preV hG hM hS 0 (xw_0 dA ad _ _) rfl rfl) rfl rfl hl.1 rfl (lv_room (Nat.le_of_ble_eq_true rfl)) dX0_camOf_80 ⟨(Nat.le_of_ble_eq_true rfl), (Nat.le_of_ble_eq_true rfl)⟩) hG hM hS (fun r u H locs hr hM hS => ?_)
    obtain ⟨rfl, rfl⟩ := hr
    have hM : XF D A dA ad (refS X (lackN X p0)) ([]) H := hM
    exact x_iretS C0 hr hlk hM hS ⟨PB.of (onCam_l hk0), (XS.up hX.xs 22 _ _ rfl), rfl, rfl⟩ dX0_camOf_83 (Nat.le_of_ble_eq_true rfl) (Nat.le_of_ble_eq_true rfl)
