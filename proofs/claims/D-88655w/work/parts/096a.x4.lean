set_option maxRecDepth 100000
set_option linter.unusedVariables false
theorem hdx_X0_camAt : yX0_camAt.cls = RX0 ∧ yX0_camAt.cls ≠ "java/lang/invoke/MethodHandle" ∧ yX0_camAt.cls ≠ "java/lang/invoke/VarHandle" ∧ (parseMethodDescriptor yX0_camAt.desc).map (fun d => d.parameters.length) = some 1 := by decide +kernel
set_option maxHeartbeats 4000000 in
theorem xx_camAt (l : Launch) (D : va_G) (dA : Nat → ClassId) (ad : Nat → Nat) (X : St) (L : Ex) (sz : Nat) (p1 : Int32) : xCt l yX0_camAt cX0_camAt 2 (some (.object "CamFigures$Cam")) { frames := 5, cells := 1, slots := 7, locals := 113 } D dA ad X ([]) sz [.ref (ad 0), .int p1] (fun v => ∃ j, inR p1 12 = some j ∧ ¬ X 1 j = 0 ∧ v = some (.ref (ad (100 + j)))) (fun k => k = lackN X p1 ∧ ¬ k = 0) := by
  refine x_hT (by decide) (Nat.le_of_ble_eq_true rfl) ?_
  intro A p e s m below meth cd ls C0 hr hlk hx0 hG hM hS hl
  have hl : lv_has ls 2 [(0, .ref (ad 0)), (1, .int p1)] := hl
  refine lv_iload_n C0.1 C0.2.1 dX0_camAt_0 rfl (lv_at hl 1 rfl) ?_
  refine lv_bipush (v := 12) C0.1 C0.2.1 dX0_camAt_1 (by decide) ?_
  refine st_call C0 (xx_isIn l p1 12) 2 (lw_S q207 q208 q39 q209) rfl rfl hdx_X0_isIn ⟨(Nat.le_of_ble_eq_true rfl), (Nat.le_of_ble_eq_true rfl)⟩ rfl hl.1 rfl (Nat.le_of_ble_eq_true rfl) dX0_camAt_3 ⟨(Nat.le_of_ble_eq_true rfl), (Nat.le_of_ble_eq_true rfl)⟩ (fun r hr => ?_)
  subst hr
  refine tp_eq (y := (if (inR p1 12).isSome = true then 1 else 0)) (b01_c (inR_lt (n := 12) (by decide))) ?_
  refine lv_if_ne (tgt := 18) C0.1 C0.2.1 dX0_camAt_6 (by decide) (fun c_6 => ?_) (fun c_6 => ?_)
  · have c_6 : (inR p1 12).isSome = true := b01_1.mp c_6
    obtain ⟨j, hj, bj, rfl⟩ := inR_get c_6 (by decide)
    refine lv_aload_n C0.1 C0.2.1 dX0_camAt_18 rfl (lv_at hl 0 rfl) ?_
    refine x_geta C0 hG hM 0 1 (by decide) rfl rfl q112 dX0_camAt_19 ?_
    refine lv_iload_n C0.1 C0.2.1 dX0_camAt_22 rfl (lv_at hl 1 rfl) ?_
    by_cases hc_23 : X 1 j = 0
    · refine x_camN C0 hG hM j hc_23 rfl (by omega) dX0_camAt_23 ?_
      refine lv_ifnonnullN C0.1 C0.2.1 dX0_camAt_24 ?_
      refine x_newC (ci := 6) C0 hG hM hS [.null, .null, .null, .null, .null, .int 0, .int 0] rfl in_X6 tyX6 tyX6_ok q224 q229 q48 (by decide) (Nat.le_of_ble_eq_true rfl) (Nat.le_of_ble_eq_true rfl) dX0_camAt_27 (fun q27 H hM hS => ?_)
      refine lv_dup C0.1 C0.2.1 dX0_camAt_30 rfl ?_
      refine lv_bipush (v := (-5)) C0.1 C0.2.1 dX0_camAt_31 (by decide) ?_
      refine x_kv (va_runI (b := q27) (As := [.int (-5)]) (rest := [.ref q27]) C0 (x6_init l D dA ad X ([]) _ q27 5) (cwI 1 C0.2.2.2.2 (lw_meth q269) rfl rfl rfl (C0.2.2.2.2 _ q48) (C0.2.2.2.2 _ q267) (C0.2.2.2.2 _ q268) rfl hdx_X6_init ⟨(Nat.le_of_ble_eq_true rfl), (Nat.le_of_ble_eq_true rfl)⟩) (x_preS hG hM hS) rfl rfl hl.1 rfl (lv_room (Nat.le_of_ble_eq_true rfl)) dX0_camAt_33 ⟨(Nat.le_of_ble_eq_true rfl), (Nat.le_of_ble_eq_true rfl)⟩) hG hM hS (fun u H locs hr hM hS => ?_)
      subst hr
      have hM : XF D A dA ad X ([(q27, .inr (6, [.null, .null, .null, .null, .null, .int 0, .int (-(nI 5))]))]) H := hM
      exact x_thr (k := 5) C0 hlk hx0 hM hS ⟨(lackN_0 hj hc_23).symm, by decide⟩ (Nat.le_of_ble_eq_true rfl) (Nat.le_of_ble_eq_true rfl) dX0_camAt_36
    · refine x_camS C0 hG hM j hc_23 rfl (by omega) dX0_camAt_23 ?_
      refine lv_ifnonnull (tgt := 37) C0.1 C0.2.1 dX0_camAt_24 (by decide) ?_
      refine lv_aload_n C0.1 C0.2.1 dX0_camAt_37 rfl (lv_at hl 0 rfl) ?_
      refine x_geta C0 hG hM 0 1 (by decide) rfl rfl q112 dX0_camAt_38 ?_
      refine lv_iload_n C0.1 C0.2.1 dX0_camAt_41 rfl (lv_at hl 1 rfl) ?_
      refine x_camS C0 hG hM j hc_23 rfl (by omega) dX0_camAt_42 ?_
      exact x_aretT C0 hr hlk ⟨j, hj, hc_23, rfl⟩ dX0_camAt_43
  · have c_6 : ¬ ((inR p1 12).isSome = true) := b01_0.mp c_6
    refine x_newC (ci := 6) C0 hG hM hS [.null, .null, .null, .null, .null, .int 0, .int 0] rfl in_X6 tyX6 tyX6_ok q224 q229 q48 (by decide) (Nat.le_of_ble_eq_true rfl) (Nat.le_of_ble_eq_true rfl) dX0_camAt_9 (fun q9 H hM hS => ?_)
    refine lv_dup C0.1 C0.2.1 dX0_camAt_12 rfl ?_
    refine lv_iconst (v := (-1)) C0.1 C0.2.1 dX0_camAt_13 (by decide) ?_
    refine x_kv (va_runI (b := q9) (As := [.int (-1)]) (rest := [.ref q9]) C0 (x6_init l D dA ad X ([]) _ q9 1) (cwI 1 C0.2.2.2.2 (lw_meth q269) rfl rfl rfl (C0.2.2.2.2 _ q48) (C0.2.2.2.2 _ q267) (C0.2.2.2.2 _ q268) rfl hdx_X6_init ⟨(Nat.le_of_ble_eq_true rfl), (Nat.le_of_ble_eq_true rfl)⟩) (x_preS hG hM hS) rfl rfl hl.1 rfl (lv_room (Nat.le_of_ble_eq_true rfl)) dX0_camAt_14 ⟨(Nat.le_of_ble_eq_true rfl), (Nat.le_of_ble_eq_true rfl)⟩) hG hM hS (fun u H locs hr hM hS => ?_)
    subst hr
    have hM : XF D A dA ad X ([(q9, .inr (6, [.null, .null, .null, .null, .null, .int 0, .int (-(nI 1))]))]) H := hM
    exact x_thr (k := 1) C0 hlk hx0 hM hS ⟨(lackN_none (inR_none c_6)).symm, by decide⟩ (Nat.le_of_ble_eq_true rfl) (Nat.le_of_ble_eq_true rfl) dX0_camAt_17
theorem hdx_X0_steps : yX0_steps.cls = RX0 ∧ yX0_steps.cls ≠ "java/lang/invoke/MethodHandle" ∧ yX0_steps.cls ≠ "java/lang/invoke/VarHandle" ∧ (parseMethodDescriptor yX0_steps.desc).map (fun d => d.parameters.length) = some 2 := by decide +kernel
set_option maxHeartbeats 4000000 in
theorem xx_steps (l : Launch) (D : va_G) (dA : Nat → ClassId) (ad : Nat → Nat) (X : St) (L : Ex) (sz : Nat) (p1 p2 : Int32) : xCt l yX0_steps cX0_steps 3 none { frames := 5, cells := 1, slots := 7, locals := 113 } D dA ad X ([]) sz [.ref (ad 0), .int p1, .int p2] (fun v => v = none ∧ stpOk X p1 p2) (fun k => k = 7 ∧ ¬ stpOk X p1 p2) := by
  refine x_hT (by decide) (Nat.le_of_ble_eq_true rfl) ?_
  intro A p e s m below meth cd ls C0 hr hlk hx0 hG hM hS hl
  have hl : lv_has ls 3 [(0, .ref (ad 0)), (1, .int p1), (2, .int p2)] := hl
  refine lv_iload_n C0.1 C0.2.1 dX0_steps_0 rfl (lv_at hl 2 rfl) ?_
  refine lv_if_lt (tgt := 18) C0.1 C0.2.1 dX0_steps_1 (by decide) (fun c_1 => ?_) (fun c_1 => ?_)
  · refine x_newC (ci := 6) C0 hG hM hS [.null, .null, .null, .null, .null, .int 0, .int 0] rfl in_X6 tyX6 tyX6_ok q224 q229 q48 (by decide) (Nat.le_of_ble_eq_true rfl) (Nat.le_of_ble_eq_true rfl) dX0_steps_18 (fun q18 H hM hS => ?_)
    refine lv_dup C0.1 C0.2.1 dX0_steps_21 rfl ?_
    refine lv_bipush (v := (-7)) C0.1 C0.2.1 dX0_steps_22 (by decide) ?_
    refine x_kv (va_runI (b := q18) (As := [.int (-7)]) (rest := [.ref q18]) C0 (x6_init l D dA ad X ([]) _ q18 7) (cwI 1 C0.2.2.2.2 (lw_meth q269) rfl rfl rfl (C0.2.2.2.2 _ q48) (C0.2.2.2.2 _ q267) (C0.2.2.2.2 _ q268) rfl hdx_X6_init ⟨(Nat.le_of_ble_eq_true rfl), (Nat.le_of_ble_eq_true rfl)⟩) (x_preS hG hM hS) rfl rfl hl.1 rfl (lv_room (Nat.le_of_ble_eq_true rfl)) dX0_steps_24 ⟨(Nat.le_of_ble_eq_true rfl), (Nat.le_of_ble_eq_true rfl)⟩) hG hM hS (fun u H locs hr hM hS => ?_)
    subst hr
    have hM : XF D A dA ad X ([(q18, .inr (6, [.null, .null, .null, .null, .null, .int 0, .int (-(nI 7))]))]) H := hM
    exact x_thr (k := 7) C0 hlk hx0 hM hS ⟨rfl, fun z => z.1 c_1⟩ (Nat.le_of_ble_eq_true rfl) (Nat.le_of_ble_eq_true rfl) dX0_steps_27
  · refine lv_iload_n C0.1 C0.2.1 dX0_steps_4 rfl (lv_at hl 1 rfl) ?_
    refine lv_if_lt (tgt := 18) C0.1 C0.2.1 dX0_steps_5 (by decide) (fun c_5 => ?_) (fun c_5 => ?_)
    · refine x_newC (ci := 6) C0 hG hM hS [.null, .null, .null, .null, .null, .int 0, .int 0] rfl in_X6 tyX6 tyX6_ok q224 q229 q48 (by decide) (Nat.le_of_ble_eq_true rfl) (Nat.le_of_ble_eq_true rfl) dX0_steps_18 (fun q18 H hM hS => ?_)
      refine lv_dup C0.1 C0.2.1 dX0_steps_21 rfl ?_
      refine lv_bipush (v := (-7)) C0.1 C0.2.1 dX0_steps_22 (by decide) ?_
      refine x_kv (va_runI (b := q18) (As := [.int (-7)]) (rest := [.ref q18]) C0 (x6_init l D dA ad X ([]) _ q18 7) (cwI 1 C0.2.2.2.2 (lw_meth q269) rfl rfl rfl (C0.2.2.2.2 _ q48) (C0.2.2.2.2 _ q267) (C0.2.2.2.2 _ q268) rfl hdx_X6_init ⟨(Nat.le_of_ble_eq_true rfl), (Nat.le_of_ble_eq_true rfl)⟩) (x_preS hG hM hS) rfl rfl hl.1 rfl (lv_room (Nat.le_of_ble_eq_true rfl)) dX0_steps_24 ⟨(Nat.le_of_ble_eq_true rfl), (Nat.le_of_ble_eq_true rfl)⟩) hG hM hS (fun u H locs hr hM hS => ?_)
      subst hr
      have hM : XF D A dA ad X ([(q18, .inr (6, [.null, .null, .null, .null, .null, .int 0, .int (-(nI 7))]))]) H := hM
      exact x_thr (k := 7) C0 hlk hx0 hM hS ⟨rfl, fun z => z.2.1 c_5⟩ (Nat.le_of_ble_eq_true rfl) (Nat.le_of_ble_eq_true rfl) dX0_steps_27
    · refine lv_iload_n C0.1 C0.2.1 dX0_steps_8 rfl (lv_at hl 1 rfl) ?_
      refine lv_aload_n C0.1 C0.2.1 dX0_steps_9 rfl (lv_at hl 0 rfl) ?_
      refine x_geti C0 hG hM 1 0 (by decide) rfl rfl q114 dX0_steps_10 ?_
      refine lv_iload_n C0.1 C0.2.1 dX0_steps_13 rfl (lv_at hl 2 rfl) ?_
      refine lv_isub C0.1 C0.2.1 dX0_steps_14 ?_
      refine lv_icmp_le (tgt := 28) C0.1 C0.2.1 dX0_steps_15 (by decide) (fun c_15 => ?_) (fun c_15 => ?_)
      · exact x_vretT C0 hr hlk ⟨rfl, c_1, c_5, c_15⟩ dX0_steps_28
      · refine x_newC (ci := 6) C0 hG hM hS [.null, .null, .null, .null, .null, .int 0, .int 0] rfl in_X6 tyX6 tyX6_ok q224 q229 q48 (by decide) (Nat.le_of_ble_eq_true rfl) (Nat.le_of_ble_eq_true rfl) dX0_steps_18 (fun q18 H hM hS => ?_)
        refine lv_dup C0.1 C0.2.1 dX0_steps_21 rfl ?_
        refine lv_bipush (v := (-7)) C0.1 C0.2.1 dX0_steps_22 (by decide) ?_
        refine x_kv (va_runI (b := q18) (As := [.int (-7)]) (rest := [.ref q18]) C0 (x6_init l D dA ad X ([]) _ q18 7) (cwI 1 C0.2.2.2.2 (lw_meth q269) rfl rfl rfl (C0.2.2.2.2 _ q48) (C0.2.2.2.2 _ q267) (C0.2.2.2.2 _ q268) rfl hdx_X6_init ⟨(Nat.le_of_ble_eq_true rfl), (Nat.le_of_ble_eq_true rfl)⟩) (x_preS hG hM hS) rfl rfl hl.1 rfl (lv_room (Nat.le_of_ble_eq_true rfl)) dX0_steps_24 ⟨(Nat.le_of_ble_eq_true rfl), (Nat.le_of_ble_eq_true rfl)⟩) hG hM hS (fun u H locs hr hM hS => ?_)
        subst hr
        have hM : XF D A dA ad X ([(q18, .inr (6, [.null, .null, .null, .null, .null, .int 0, .int (-(nI 7))]))]) H := hM
        exact x_thr (k := 7) C0 hlk hx0 hM hS ⟨rfl, fun z => c_15 z.2.2⟩ (Nat.le_of_ble_eq_true rfl) (Nat.le_of_ble_eq_true rfl) dX0_steps_27
theorem hdx_X0_lose : yX0_lose.cls = RX0 ∧ yX0_lose.cls ≠ "java/lang/invoke/MethodHandle" ∧ yX0_lose.cls ≠ "java/lang/invoke/VarHandle" ∧ (parseMethodDescriptor yX0_lose.desc).map (fun d => d.parameters.length) = some 1 := by decide +kernel
set_option maxHeartbeats 4000000 in
theorem xx_lose (l : Launch) (D : va_G) (dA : Nat → ClassId) (ad : Nat → Nat) (X : St) (L : Ex) (sz : Nat) (p0 : Int32) (hX : XOk X) : xCh l yX0_lose cX0_lose 3 (some .int) [(0, 14, 15, 7)] { frames := 6, cells := 100, slots := 1000, locals := 134 } D dA ad X ([]) sz [.ref (ad 0), .int p0] 100 1000 (fun r u => PX (sp_lose X p0) ad r u) := by
  refine x_hH (by decide) (Nat.le_of_ble_eq_true rfl) ?_
  intro A p e s m below meth cd ls C0 hr hlk hT hG hM hS hl
  have hl : lv_has ls 3 [(0, .ref (ad 0)), (1, .int p0)] := hl
  have hO := hX.ok
  have hl2 := hO.len2
  have hl16 := hO.len16
  have hr16 := rl16 hX
  have hrl := hX.rl
  have hp12 := hO.pg12
  refine lv_aload_n C0.1 C0.2.1 dX0_lose_0 rfl (lv_at hl 0 rfl) ?_
  refine lv_iload_n C0.1 C0.2.1 dX0_lose_1 rfl (lv_at hl 1 rfl) ?_
  refine x_ct (av := [.int p0]) (rest := []) (x := exE (0, 14, 15, 7)) C0 hG hM hS (xx_camAt l D dA ad X ([]) _ p0) 1 (lw_V q225 q227 qs1 q39 q228) rfl rfl hdx_X0_camAt ⟨(Nat.le_of_ble_eq_true rfl), (Nat.le_of_ble_eq_true rfl)⟩ rfl hl.1 rfl (Nat.le_of_ble_eq_true rfl) dX0_lose_2 ⟨(Nat.le_of_ble_eq_true rfl), (Nat.le_of_ble_eq_true rfl)⟩ ⟨[], _, hT, by decide⟩ (by decide) (by decide) q224 (fun v locs hP hS => ?_) (fun q2 k2 H locs hK hM hS => ?_)
  · obtain ⟨j, hj, hth, rfl⟩ := hP
    obtain ⟨bj, rfl⟩ := inR_some hj (by decide)
    refine at_fr 5 [.ref (ad (100 + j))] rfl rfl ?_
    refine lv_astore_n (lv' := [(2, .ref (ad (100 + j))), (0, .ref (ad 0)), (1, .int (nI j))]) C0.1 C0.2.1 dX0_lose_5 rfl hl (by decide) rfl (fun ls hl => ?_)
    refine lv_aload_n C0.1 C0.2.1 dX0_lose_6 rfl (lv_at hl 1 rfl) ?_
    refine x_geta C0 hG hM 0 1 (by decide) rfl rfl q112 dX0_lose_7 ?_
    refine lv_iload_n C0.1 C0.2.1 dX0_lose_10 rfl (lv_at hl 2 rfl) ?_
    refine lv_null C0.1 C0.2.1 dX0_lose_11 ?_
    refine x_camP C0 hG hM hS j rfl (by omega) dX0_lose_12 (fun H locs hM hS => ?_)
    refine lv_iconst (v := 1) C0.1 C0.2.1 dX0_lose_13 (by decide) ?_
    exact x_iretS C0 hr hlk hM hS ⟨PB.of (onCam_j hj hth), (hX.xs.up 1 _ _ rfl), rfl, rfl⟩ dX0_lose_14 (Nat.le_of_ble_eq_true rfl) (Nat.le_of_ble_eq_true rfl)
  · refine at_pc 15 rfl ?_
    obtain ⟨rfl, hk0⟩ := hK
    refine lv_astore_n (lv' := [(2, .ref q2), (0, .ref (ad 0)), (1, .int p0)]) C0.1 C0.2.1 dX0_lose_15 rfl hl (by decide) rfl (fun ls hl => ?_)
    refine lv_aload_n C0.1 C0.2.1 dX0_lose_16 rfl (lv_at hl 1 rfl) ?_
    refine lv_aload_n C0.1 C0.2.1 dX0_lose_17 rfl (lv_at hl 0 rfl) ?_
    refine x_egetN C0 hG hM 0 rfl rfl in_X6 6 (by decide) rfl (hG.2.1.f 4 rfl) dX0_lose_18 ?_
    have hM : XF D A dA ad X [] H := hM.tail
    refine x_ki (va_runV (b := (ad 0)) (As := [.int (-(nI (lackN X p0)))]) (rest := []) C0 (xx_refuse l D dA ad X ([]) _ (lackN X p0) (lackN_lt X p0)) (cwV 1 C0.2.2.2.2 (lw_V q195 q197 qs0 q39 q198) rfl rfl rfl hdx_X0_refuse ⟨(Nat.le_of_ble_eq_true rfl), (Nat.le_of_ble_eq_true rfl)⟩) (x_preV hG hM hS 0 (xw_0 dA ad _ _) rfl rfl) rfl rfl hl.1 rfl (lv_room (Nat.le_of_ble_eq_true rfl)) dX0_lose_21 ⟨(Nat.le_of_ble_eq_true rfl), (Nat.le_of_ble_eq_true rfl)⟩) hG hM hS (fun r u H locs hr hM hS => ?_)
    obtain ⟨rfl, rfl⟩ := hr
    have hM : XF D A dA ad (refS X (lackN X p0)) ([]) H := hM
    exact x_iretS C0 hr hlk hM hS ⟨PB.of (onCam_l hk0), (XS.up hX.xs 22 _ _ rfl), rfl, rfl⟩ dX0_lose_24 (Nat.le_of_ble_eq_true rfl) (Nat.le_of_ble_eq_true rfl)
