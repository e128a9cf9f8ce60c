set_option maxRecDepth 100000
set_option linter.unusedVariables false
theorem hdx_X0_cutAt : yX0_cutAt.cls = RX0 ∧ yX0_cutAt.cls ≠ "java/lang/invoke/MethodHandle" ∧ yX0_cutAt.cls ≠ "java/lang/invoke/VarHandle" ∧ (parseMethodDescriptor yX0_cutAt.desc).map (fun d => d.parameters.length) = some 3 := by decide +kernel
set_option maxHeartbeats 4000000 in
theorem xx_cutAt (l : Launch) (D : va_G) (dA : Nat → ClassId) (ad : Nat → Nat) (X : St) (L : Ex) (sz : Nat) (p0 p1 p2 : Int32) (hX : XOk X) : xCh l yX0_cutAt cX0_cutAt 7 (some .int) [(0, 56, 57, 7)] { frames := 6, cells := 100, slots := 1000, locals := 135 } D dA ad X ([]) sz [.ref (ad 0), .int p0, .int p1, .int p2] 100 1000 (fun r u => PX (sp_cutAt X p0 p1 p2) ad r u) := by
  refine x_hH (by decide) (Nat.le_of_ble_eq_true rfl) ?_
  intro A p e s m below meth cd ls C0 hr hlk hT hG hM hS hl
  have hl : lv_has ls 7 [(0, .ref (ad 0)), (1, .int p0), (2, .int p1), (3, .int p2)] := hl
  have hO := hX.ok
  have hl2 := hO.len2
  have hl16 := hO.len16
  have hr16 := rl16 hX
  have hrl := hX.rl
  have hp12 := hO.pg12
  refine lv_aload_n C0.1 C0.2.1 dX0_cutAt_0 rfl (lv_at hl 0 rfl) ?_
  refine lv_iload_n C0.1 C0.2.1 dX0_cutAt_1 rfl (lv_at hl 1 rfl) ?_
  refine x_ct (av := [.int p0]) (rest := []) (x := exE (0, 56, 57, 7)) C0 hG hM hS (xx_camAt l D dA ad X ([]) _ p0) 1 (lw_V q225 q227 qs1 q39 q228) rfl rfl hdx_X0_camAt ⟨(Nat.le_of_ble_eq_true rfl), (Nat.le_of_ble_eq_true rfl)⟩ rfl hl.1 rfl (Nat.le_of_ble_eq_true rfl) dX0_cutAt_2 ⟨(Nat.le_of_ble_eq_true rfl), (Nat.le_of_ble_eq_true rfl)⟩ ⟨[], _, hT, by decide⟩ (by decide) (by decide) q224 (fun v locs hP hS => ?_) (fun q2 k2 H locs hK hM hS => ?_)
  · obtain ⟨j, hj, hth, rfl⟩ := hP
    obtain ⟨bj, rfl⟩ := inR_some hj (by decide)
    refine at_fr 5 [.ref (ad (100 + j))] rfl rfl ?_
    refine lv_astore (lv' := [(4, .ref (ad (100 + j))), (0, .ref (ad 0)), (1, .int (nI j)), (2, .int p1), (3, .int p2)]) C0.1 C0.2.1 dX0_cutAt_5 hl (by decide) rfl (fun ls hl => ?_)
    refine lv_aload_n C0.1 C0.2.1 dX0_cutAt_7 rfl (lv_at hl 1 rfl) ?_
    refine lv_iload_n C0.1 C0.2.1 dX0_cutAt_8 rfl (lv_at hl 3 rfl) ?_
    refine lv_iconst (v := 1) C0.1 C0.2.1 dX0_cutAt_9 (by decide) ?_
    refine x_ct (av := [.int p1, .int 1]) (rest := []) (x := exE (0, 56, 57, 7)) C0 hG hM hS (xx_steps l D dA ad X ([]) _ p1 1) 2 (lw_V q300 q302 qs3 q39 q303) rfl rfl hdx_X0_steps ⟨(Nat.le_of_ble_eq_true rfl), (Nat.le_of_ble_eq_true rfl)⟩ rfl hl.1 rfl (Nat.le_of_ble_eq_true rfl) dX0_cutAt_10 ⟨(Nat.le_of_ble_eq_true rfl), (Nat.le_of_ble_eq_true rfl)⟩ ⟨[], _, hT, by decide⟩ (by decide) (by decide) q224 (fun v locs hP hS => ?_) (fun q10 k10 H locs hK hM hS => ?_)
    · obtain ⟨rfl, hst⟩ := hP
      refine at_fr 13 [] rfl rfl ?_
      obtain ⟨i, hi, bi, rfl⟩ := inR_get ((stp1 hO).mp hst) (by omega)
      refine lv_iload_n C0.1 C0.2.1 dX0_cutAt_13 rfl (lv_at hl 4 rfl) ?_
      refine lv_iconst (v := 0) C0.1 C0.2.1 dX0_cutAt_14 (by decide) ?_
      refine lv_bipush (v := 9) C0.1 C0.2.1 dX0_cutAt_15 (by decide) ?_
      refine st_call C0 (xx_within l p2 0 9) 3 (lw_S q192 q193 q39 q194) rfl rfl hdx_X0_within ⟨(Nat.le_of_ble_eq_true rfl), (Nat.le_of_ble_eq_true rfl)⟩ rfl hl.1 rfl (Nat.le_of_ble_eq_true rfl) dX0_cutAt_17 ⟨(Nat.le_of_ble_eq_true rfl), (Nat.le_of_ble_eq_true rfl)⟩ (fun r hr => ?_)
      subst hr
      refine lv_istore (lv' := [(5, .int (-(nI (wthF p2 0 9)))), (4, .ref (ad (100 + j))), (0, .ref (ad 0)), (1, .int (nI j)), (2, .int (nI i)), (3, .int p2)]) C0.1 C0.2.1 dX0_cutAt_20 hl (by decide) rfl (fun ls hl => ?_)
      refine lv_iload C0.1 C0.2.1 dX0_cutAt_22 (lv_at hl 0 rfl) ?_
      refine lv_if_eq (tgt := 37) C0.1 C0.2.1 dX0_cutAt_24 (by decide) (fun c_24 => ?_) (fun c_24 => ?_)
      · have hw := wth_0 c_24
        refine lv_aload C0.1 C0.2.1 dX0_cutAt_37 (lv_at hl 1 rfl) ?_
        refine x_rowN C0 hG hM j hth (by omega) (hG.2.1.f 3 rfl) dX0_cutAt_39 ?_
        refine lv_iload_n C0.1 C0.2.1 dX0_cutAt_42 rfl (lv_at hl 4 rfl) ?_
        refine x_hta C0 hG hM j i hth (by omega) rfl (by omega) hr16 dX0_cutAt_43 ?_
        refine lv_istore (lv' := [(6, .int (X 2 (16 * j + i))), (5, .int (-(nI (wthF p2 0 9)))), (4, .ref (ad (100 + j))), (0, .ref (ad 0)), (1, .int (nI j)), (2, .int (nI i)), (3, .int p2)]) C0.1 C0.2.1 dX0_cutAt_44 hl (by decide) rfl (fun ls hl => ?_)
        refine lv_aload C0.1 C0.2.1 dX0_cutAt_46 (lv_at hl 2 rfl) ?_
        refine x_rowN C0 hG hM j hth (by omega) (hG.2.1.f 3 rfl) dX0_cutAt_48 ?_
        refine lv_iload_n C0.1 C0.2.1 dX0_cutAt_51 rfl (lv_at hl 5 rfl) ?_
        refine lv_iload_n C0.1 C0.2.1 dX0_cutAt_52 rfl (lv_at hl 6 rfl) ?_
        refine x_htp C0 hG hM hS j i hth (by omega) rfl (by omega) hr16 dX0_cutAt_53 (fun H locs hM hS => ?_)
        refine lv_iload C0.1 C0.2.1 dX0_cutAt_54 (lv_at hl 0 rfl) ?_
        exact x_iretS C0 hr hlk hM hS ⟨PB.of ((onCam_j hj hth).trans (by (try dsimp only); rw [hi]; (try dsimp only); exact lim_0 hw)), (hX.xs.up 2 _ _ rfl), rfl, rfl⟩ dX0_cutAt_56 (Nat.le_of_ble_eq_true rfl) (Nat.le_of_ble_eq_true rfl)
      · have hw := wth_1 c_24
        refine x_newC (ci := 6) C0 hG hM hS [.null, .null, .null, .null, .null, .int 0, .int 0] rfl in_X6 tyX6 tyX6_ok q224 q229 q48 (by decide) (Nat.le_of_ble_eq_true rfl) (Nat.le_of_ble_eq_true rfl) dX0_cutAt_27 (fun q27 H hM hS => ?_)
        refine lv_dup C0.1 C0.2.1 dX0_cutAt_30 rfl ?_
        refine lv_iload C0.1 C0.2.1 dX0_cutAt_31 (lv_at hl 0 rfl) ?_
        refine x_kv (va_runI (b := q27) (As := [.int (-(nI (wthF p2 0 9)))]) (rest := [.ref q27]) C0 (x6_init l D dA ad X ([]) _ q27 (wthF p2 0 9)) (cwI 1 C0.2.2.2.2 (lw_meth q269) rfl rfl rfl (C0.2.2.2.2 _ q48) (C0.2.2.2.2 _ q267) (C0.2.2.2.2 _ q268) rfl hdx_X6_init ⟨(Nat.le_of_ble_eq_true rfl), (Nat.le_of_ble_eq_true rfl)⟩) (x_preS hG hM hS) rfl rfl hl.1 rfl (lv_room (Nat.le_of_ble_eq_true rfl)) dX0_cutAt_33 ⟨(Nat.le_of_ble_eq_true rfl), (Nat.le_of_ble_eq_true rfl)⟩) hG hM hS (fun u H locs hr hM hS => ?_)
        subst hr
        have hM : XF D A dA ad X ([(q27, .inr (6, [.null, .null, .null, .null, .null, .int 0, .int (-(nI (wthF p2 0 9)))]))]) H := hM
        refine x_thrC (x := exE (0, 56, 57, 7)) C0 hG hM 0 rfl ⟨[], _, hT, by decide⟩ (by decide) (by decide) q224 dX0_cutAt_36 ?_
        refine at_pc 57 rfl ?_
        refine lv_astore (lv' := [(4, .ref q27), (5, .int (-(nI (wthF p2 0 9)))), (0, .ref (ad 0)), (1, .int (nI j)), (2, .int (nI i)), (3, .int p2)]) C0.1 C0.2.1 dX0_cutAt_57 hl (by decide) rfl (fun ls hl => ?_)
        refine lv_aload_n C0.1 C0.2.1 dX0_cutAt_59 rfl (lv_at hl 2 rfl) ?_
        refine lv_aload C0.1 C0.2.1 dX0_cutAt_60 (lv_at hl 0 rfl) ?_
        refine x_egetN C0 hG hM 0 rfl rfl in_X6 6 (by decide) rfl (hG.2.1.f 4 rfl) dX0_cutAt_62 ?_
        have hM : XF D A dA ad X [] H := hM.tail
        refine x_ki (va_runV (b := (ad 0)) (As := [.int (-(nI (wthF p2 0 9)))]) (rest := []) C0 (xx_refuse l D dA ad X ([]) _ (wthF p2 0 9) (wth_lt _ _ _)) (cwV 1 C0.2.2.2.2 (lw_V q195 q197 qs0 q39 q198) rfl rfl rfl hdx_X0_refuse ⟨(Nat.le_of_ble_eq_true rfl), (Nat.le_of_ble_eq_true rfl)⟩) (x_preV hG hM hS 0 (xw_0 dA ad _ _) rfl rfl) rfl rfl hl.1 rfl (lv_room (Nat.le_of_ble_eq_true rfl)) dX0_cutAt_65 ⟨(Nat.le_of_ble_eq_true rfl), (Nat.le_of_ble_eq_true rfl)⟩) hG hM hS (fun r u H locs hr hM hS => ?_)
        obtain ⟨rfl, rfl⟩ := hr
        have hM : XF D A dA ad (refS X (wthF p2 0 9)) ([]) H := hM
        exact x_iretS C0 hr hlk hM hS ⟨PB.of ((onCam_j hj hth).trans (by (try dsimp only); rw [hi]; (try dsimp only); exact lim_1 hw)), (XS.up hX.xs 22 _ _ rfl), rfl, rfl⟩ dX0_cutAt_68 (Nat.le_of_ble_eq_true rfl) (Nat.le_of_ble_eq_true rfl)
    · refine at_pc 57 rfl ?_
      obtain ⟨rfl, hst⟩ := hK
      refine lv_astore (lv' := [(4, .ref q10), (0, .ref (ad 0)), (1, .int (nI j)), (2, .int p1), (3, .int p2)]) C0.1 C0.2.1 dX0_cutAt_57 hl (by decide) rfl (fun ls hl => ?_)
      refine lv_aload_n C0.1 C0.2.1 dX0_cutAt_59 rfl (lv_at hl 1 rfl) ?_
      refine lv_aload C0.1 C0.2.1 dX0_cutAt_60 (lv_at hl 0 rfl) ?_
      refine x_egetN C0 hG hM 0 rfl rfl in_X6 6 (by decide) rfl (hG.2.1.f 4 rfl) dX0_cutAt_62 ?_
      have hM : XF D A dA ad X [] H := hM.tail
      refine x_ki (va_runV (b := (ad 0)) (As := [.int (-(nI 7))]) (rest := []) C0 (xx_refuse l D dA ad X ([]) _ 7 (by decide)) (cwV 1 C0.2.2.2.2 (lw_V q195 q197 qs0 q39 q198) rfl rfl rfl hdx_X0_refuse ⟨(Nat.le_of_ble_eq_true rfl), (Nat.le_of_ble_eq_true rfl)⟩) (x_preV hG hM hS 0 (xw_0 dA ad _ _) rfl rfl) rfl rfl hl.1 rfl (lv_room (Nat.le_of_ble_eq_true rfl)) dX0_cutAt_65 ⟨(Nat.le_of_ble_eq_true rfl), (Nat.le_of_ble_eq_true rfl)⟩) hG hM hS (fun r u H locs hr hM hS => ?_)
      obtain ⟨rfl, rfl⟩ := hr
      have hM : XF D A dA ad (refS X 7) ([]) H := hM
      exact x_iretS C0 hr hlk hM hS ⟨PB.of ((onCam_j hj hth).trans (by (try dsimp only); rw [inR_none (fun z => hst ((stp1 hO).mpr z))]; rfl)), (XS.up hX.xs 22 _ _ rfl), rfl, rfl⟩ dX0_cutAt_68 (Nat.le_of_ble_eq_true rfl) (Nat.le_of_ble_eq_true rfl)
  · refine at_pc 57 rfl ?_
    obtain ⟨rfl, hk0⟩ := hK
    refine lv_astore (lv' := [(4, .ref q2), (0, .ref (ad 0)), (1, .int p0), (2, .int p1), (3, .int p2)]) C0.1 C0.2.1 dX0_cutAt_57 hl (by decide) rfl (fun ls hl => ?_)
    refine lv_aload_n C0.1 C0.2.1 dX0_cutAt_59 rfl (lv_at hl 1 rfl) ?_
    refine lv_aload C0.1 C0.2.1 dX0_cutAt_60 (lv_at hl 0 rfl) ?_
    refine x_egetN C0 hG hM 0 rfl rfl in_X6 6 (by decide) rfl (hG.2.1.f 4 rfl) dX0_cutAt_62 ?_
    have hM : XF D A dA ad X [] H := hM.tail
    refine x_ki (va_runV (b := (ad 0)) (As := [.int (-(nI (lackN X p0)))]) (rest := []) C0 (xx_refuse l D dA ad X ([]) _ (lackN X p0) (lackN_lt X p0)) (cwV 1 C0.2.2.2.2 (lw_V q195 q197 qs0 q39 q198) rfl rfl rfl hdx_X0_refuse ⟨(Nat.le_of_ble_eq_true rfl), (Nat.le_of_ble_eq_true rfl)⟩) (x_preV hG hM hS 0 (xw_0 dA ad _ _) rfl rfl) rfl rfl hl.1 rfl (lv_room (Nat.le_of_ble_eq_true rfl)) dX0_cutAt_65 ⟨(Nat.le_of_ble_eq_true rfl), (Nat.le_of_ble_eq_true rfl)⟩) hG hM hS (fun r u H locs hr hM hS => ?_)
    obtain ⟨rfl, rfl⟩ := hr
    have hM : XF D A dA ad (refS X (lackN X p0)) ([]) H := hM
    exact x_iretS C0 hr hlk hM hS ⟨PB.of (onCam_l hk0), (XS.up hX.xs 22 _ _ rfl), rfl, rfl⟩ dX0_cutAt_68 (Nat.le_of_ble_eq_true rfl) (Nat.le_of_ble_eq_true rfl)
theorem hdx_X0_height : yX0_height.cls = RX0 ∧ yX0_height.cls ≠ "java/lang/invoke/MethodHandle" ∧ yX0_height.cls ≠ "java/lang/invoke/VarHandle" ∧ (parseMethodDescriptor yX0_height.desc).map (fun d => d.parameters.length) = some 2 := by decide +kernel
set_option maxHeartbeats 4000000 in
theorem xx_height (l : Launch) (D : va_G) (dA : Nat → ClassId) (ad : Nat → Nat) (X : St) (L : Ex) (sz : Nat) (p0 p1 : Int32) (hX : XOk X) : xCh l yX0_height cX0_height 4 (some .int) [(0, 17, 18, 7)] { frames := 6, cells := 100, slots := 1000, locals := 135 } D dA ad X ([]) sz [.ref (ad 0), .int p0, .int p1] 100 1000 (fun r u => PX (sp_height X p0 p1) ad r u) := by
  refine x_hH (by decide) (Nat.le_of_ble_eq_true rfl) ?_
  intro A p e s m below meth cd ls C0 hr hlk hT hG hM hS hl
  have hl : lv_has ls 4 [(0, .ref (ad 0)), (1, .int p0), (2, .int p1)] := hl
  have hO := hX.ok
  have hl2 := hO.len2
  have hl16 := hO.len16
  have hr16 := rl16 hX
  have hrl := hX.rl
  have hp12 := hO.pg12
  refine lv_aload_n C0.1 C0.2.1 dX0_height_0 rfl (lv_at hl 0 rfl) ?_
  refine lv_iload_n C0.1 C0.2.1 dX0_height_1 rfl (lv_at hl 1 rfl) ?_
  refine x_ct (av := [.int p0]) (rest := []) (x := exE (0, 17, 18, 7)) C0 hG hM hS (xx_camAt l D dA ad X ([]) _ p0) 1 (lw_V q225 q227 qs1 q39 q228) rfl rfl hdx_X0_camAt ⟨(Nat.le_of_ble_eq_true rfl), (Nat.le_of_ble_eq_true rfl)⟩ rfl hl.1 rfl (Nat.le_of_ble_eq_true rfl) dX0_height_2 ⟨(Nat.le_of_ble_eq_true rfl), (Nat.le_of_ble_eq_true rfl)⟩ ⟨[], _, hT, by decide⟩ (by decide) (by decide) q224 (fun v locs hP hS => ?_) (fun q2 k2 H locs hK hM hS => ?_)
  · obtain ⟨j, hj, hth, rfl⟩ := hP
    obtain ⟨bj, rfl⟩ := inR_some hj (by decide)
    refine at_fr 5 [.ref (ad (100 + j))] rfl rfl ?_
    refine lv_astore_n (lv' := [(3, .ref (ad (100 + j))), (0, .ref (ad 0)), (1, .int (nI j)), (2, .int p1)]) C0.1 C0.2.1 dX0_height_5 rfl hl (by decide) rfl (fun ls hl => ?_)
    refine lv_aload_n C0.1 C0.2.1 dX0_height_6 rfl (lv_at hl 1 rfl) ?_
    refine lv_iload_n C0.1 C0.2.1 dX0_height_7 rfl (lv_at hl 3 rfl) ?_
    refine lv_iconst (v := 1) C0.1 C0.2.1 dX0_height_8 (by decide) ?_
    refine x_ct (av := [.int p1, .int 1]) (rest := []) (x := exE (0, 17, 18, 7)) C0 hG hM hS (xx_steps l D dA ad X ([]) _ p1 1) 2 (lw_V q300 q302 qs3 q39 q303) rfl rfl hdx_X0_steps ⟨(Nat.le_of_ble_eq_true rfl), (Nat.le_of_ble_eq_true rfl)⟩ rfl hl.1 rfl (Nat.le_of_ble_eq_true rfl) dX0_height_9 ⟨(Nat.le_of_ble_eq_true rfl), (Nat.le_of_ble_eq_true rfl)⟩ ⟨[], _, hT, by decide⟩ (by decide) (by decide) q224 (fun v locs hP hS => ?_) (fun q9 k9 H locs hK hM hS => ?_)
    · obtain ⟨rfl, hst⟩ := hP
      refine at_fr 12 [] rfl rfl ?_
      obtain ⟨i, hi, bi, rfl⟩ := inR_get ((stp1 hO).mp hst) (by omega)
      refine lv_aload_n C0.1 C0.2.1 dX0_height_12 rfl (lv_at hl 0 rfl) ?_
      refine lv_iload_n C0.1 C0.2.1 dX0_height_13 rfl (lv_at hl 3 rfl) ?_
      refine fw_cp (va_runV (b := (ad (100 + j))) (As := [.int (nI i)]) (rest := []) C0 (x5_at l D dA ad X ([]) _ j i (by omega) hth (by omega) hr16) (cwV 1 C0.2.2.2.2 (lw_V q308 q309 q310 q44 q311) rfl rfl rfl hdx_X5_at ⟨(Nat.le_of_ble_eq_true rfl), (Nat.le_of_ble_eq_true rfl)⟩) (x_preV hG hM hS (100 + j) (xw_cam dA ad _ _ (by omega) hth) (cb_lt ad _ (by omega)) rfl) rfl rfl hl.1 rfl (lv_room (Nat.le_of_ble_eq_true rfl)) dX0_height_14 ⟨(Nat.le_of_ble_eq_true rfl), (Nat.le_of_ble_eq_true rfl)⟩) (fun r hr => ?_)
      subst hr
      exact x_iretS C0 hr hlk hM hS ⟨PB.of ((onCam_j hj hth).trans (by (try dsimp only); rw [hi])), hX.xs, rfl, rfl⟩ dX0_height_17 (Nat.le_of_ble_eq_true rfl) (Nat.le_of_ble_eq_true rfl)
    · refine at_pc 18 rfl ?_
      obtain ⟨rfl, hst⟩ := hK
      refine lv_astore_n (lv' := [(3, .ref q9), (0, .ref (ad 0)), (1, .int (nI j)), (2, .int p1)]) C0.1 C0.2.1 dX0_height_18 rfl hl (by decide) rfl (fun ls hl => ?_)
      refine lv_aload_n C0.1 C0.2.1 dX0_height_19 rfl (lv_at hl 1 rfl) ?_
      refine lv_aload_n C0.1 C0.2.1 dX0_height_20 rfl (lv_at hl 0 rfl) ?_
      refine x_egetN C0 hG hM 0 rfl rfl in_X6 6 (by decide) rfl (hG.2.1.f 4 rfl) dX0_height_21 ?_
      have hM : XF D A dA ad X [] H := hM.tail
      refine x_ki (va_runV (b := (ad 0)) (As := [.int (-(nI 7))]) (rest := []) C0 (xx_refuse l D dA ad X ([]) _ 7 (by decide)) (cwV 1 C0.2.2.2.2 (lw_V q195 q197 qs0 q39 q198) rfl rfl rfl hdx_X0_refuse ⟨(Nat.le_of_ble_eq_true rfl), (Nat.le_of_ble_eq_true rfl)⟩) (x_preV hG hM hS 0 (xw_0 dA ad _ _) rfl rfl) rfl rfl hl.1 rfl (lv_room (Nat.le_of_ble_eq_true rfl)) dX0_height_24 ⟨(Nat.le_of_ble_eq_true rfl), (Nat.le_of_ble_eq_true rfl)⟩) hG hM hS (fun r u H locs hr hM hS => ?_)
      obtain ⟨rfl, rfl⟩ := hr
      have hM : XF D A dA ad (refS X 7) ([]) H := hM
      exact x_iretS C0 hr hlk hM hS ⟨PB.of ((onCam_j hj hth).trans (by (try dsimp only); rw [inR_none (fun z => hst ((stp1 hO).mpr z))]; rfl)), (XS.up hX.xs 22 _ _ rfl), rfl, rfl⟩ dX0_height_27 (Nat.le_of_ble_eq_true rfl) (Nat.le_of_ble_eq_true rfl)
  · refine at_pc 18 rfl ?_
    obtain ⟨rfl, hk0⟩ := hK
    refine lv_astore_n (lv' := [(3, .ref q2), (0, .ref (ad 0)), (1, .int p0), (2, .int p1)]) C0.1 C0.2.1 dX0_height_18 rfl hl (by decide) rfl (fun ls hl => ?_)
    refine lv_aload_n C0.1 C0.2.1 dX0_height_19 rfl (lv_at hl 1 rfl) ?_
    refine lv_aload_n C0.1 C0.2.1 dX0_height_20 rfl (lv_at hl 0 rfl) ?_
    refine x_egetN C0 hG hM 0 rfl rfl in_X6 6 (by decide) rfl (hG.2.1.f 4 rfl) dX0_height_21 ?_
    have hM : XF D A dA ad X [] H := hM.tail
    refine x_ki (va_runV (b := (ad 0)) (As := [.int (-(nI (lackN X p0)))]) (rest := []) C0 (xx_refuse l D dA ad X ([]) _ (lackN X p0) (lackN_lt X p0)) (cwV 1 C0.2.2.2.2 (lw_V q195 q197 qs0 q39 q198) rfl rfl rfl hdx_X0_refuse ⟨(Nat.le_of_ble_eq_true rfl), (Nat.le_of_ble_eq_true rfl)⟩) (x_preV hG hM hS 0 (xw_0 dA ad _ _) rfl rfl) rfl rfl hl.1 rfl (lv_room (Nat.le_of_ble_eq_true rfl)) dX0_height_24 ⟨(Nat.le_of_ble_eq_true rfl), (Nat.le_of_ble_eq_true rfl)⟩) hG hM hS (fun r u H locs hr hM hS => ?_)
    obtain ⟨rfl, rfl⟩ := hr
    have hM : XF D A dA ad (refS X (lackN X p0)) ([]) H := hM
    exact x_iretS C0 hr hlk hM hS ⟨PB.of (onCam_l hk0), (XS.up hX.xs 22 _ _ rfl), rfl, rfl⟩ dX0_height_27 (Nat.le_of_ble_eq_true rfl) (Nat.le_of_ble_eq_true rfl)
