set_option maxRecDepth 100000
set_option linter.unusedVariables false
theorem hdx_X0_copy : yX0_copy.cls = RX0 ∧ yX0_copy.cls ≠ "java/lang/invoke/MethodHandle" ∧ yX0_copy.cls ≠ "java/lang/invoke/VarHandle" ∧ (parseMethodDescriptor yX0_copy.desc).map (fun d => d.parameters.length) = some 5 := by decide +kernel
set_option maxHeartbeats 4000000 in
theorem xx_copy (l : Launch) (D : va_G) (dA : Nat → ClassId) (ad : Nat → Nat) (X : St) (L : Ex) (sz : Nat) (p0 p1 p2 p3 p4 : Int32) (hX : XOk X) : xCh l yX0_copy cX0_copy 8 (some .int) [(24, 73, 74, 7)] { frames := 6, cells := 100, slots := 1000, locals := 135 } D dA ad X ([]) sz [.ref (ad 0), .int p0, .int p1, .int p2, .int p3, .int p4] 100 1000 (fun r u => PX (sp_copy X p0 p1 p2 p3 p4) ad r u) := by
  refine x_hH (by decide) (Nat.le_of_ble_eq_true rfl) ?_
  intro A p e s m below meth cd ls C0 hr hlk hT hG hM hS hl
  have hl : lv_has ls 8 [(0, .ref (ad 0)), (1, .int p0), (2, .int p1), (3, .int p2), (4, .int p3), (5, .int p4)] := hl
  have hO := hX.ok
  have hl2 := hO.len2
  have hl16 := hO.len16
  have hr16 := rl16 hX
  have hrl := hX.rl
  have hp12 := hO.pg12
  refine lv_iload_n C0.1 C0.2.1 dX0_copy_0 rfl (lv_at hl 1 rfl) ?_
  refine lv_bipush (v := 12) C0.1 C0.2.1 dX0_copy_1 (by decide) ?_
  refine st_call C0 (xx_isIn l p0 12) 2 (lw_S q207 q208 q39 q209) rfl rfl hdx_X0_isIn ⟨(Nat.le_of_ble_eq_true rfl), (Nat.le_of_ble_eq_true rfl)⟩ rfl hl.1 rfl (Nat.le_of_ble_eq_true rfl) dX0_copy_3 ⟨(Nat.le_of_ble_eq_true rfl), (Nat.le_of_ble_eq_true rfl)⟩ (fun r hr => ?_)
  subst hr
  refine tp_eq (y := (if (inR p0 12).isSome = true then 1 else 0)) (b01_c (inR_lt (n := 12) (by decide))) ?_
  refine lv_if_eq (tgt := 18) C0.1 C0.2.1 dX0_copy_6 (by decide) (fun c_6 => ?_) (fun c_6 => ?_)
  · have c_6 : ¬ ((inR p0 12).isSome = true) := b01_0.mp c_6
    refine lv_aload_n C0.1 C0.2.1 dX0_copy_18 rfl (lv_at hl 0 rfl) ?_
    refine lv_iconst (v := (-1)) C0.1 C0.2.1 dX0_copy_19 (by decide) ?_
    refine x_ki (va_runV (b := (ad 0)) (As := [.int (-1)]) (rest := []) C0 (xx_refuse l D dA ad X ([]) _ 1 (by omega)) (cwV 1 C0.2.2.2.2 (lw_V q195 q197 qs0 q39 q198) rfl rfl rfl hdx_X0_refuse ⟨(Nat.le_of_ble_eq_true rfl), (Nat.le_of_ble_eq_true rfl)⟩) (x_preV hG hM hS 0 (xw_0 dA ad _ _) rfl rfl) rfl rfl hl.1 rfl (lv_room (Nat.le_of_ble_eq_true rfl)) dX0_copy_20 ⟨(Nat.le_of_ble_eq_true rfl), (Nat.le_of_ble_eq_true rfl)⟩) hG hM hS (fun r u H locs hr hM hS => ?_)
    obtain ⟨rfl, rfl⟩ := hr
    have hM : XF D A dA ad (refS X 1) ([]) H := hM
    exact x_iretS C0 hr hlk hM hS ⟨PB.of (copy_1 (inR_none c_6)), (XS.up hX.xs 22 _ _ rfl), rfl, rfl⟩ dX0_copy_23 (Nat.le_of_ble_eq_true rfl) (Nat.le_of_ble_eq_true rfl)
  · have c_6 : (inR p0 12).isSome = true := b01_1.mp c_6
    refine lv_iload_n C0.1 C0.2.1 dX0_copy_9 rfl (lv_at hl 3 rfl) ?_
    refine lv_bipush (v := 12) C0.1 C0.2.1 dX0_copy_10 (by decide) ?_
    refine st_call C0 (xx_isIn l p2 12) 2 (lw_S q207 q208 q39 q209) rfl rfl hdx_X0_isIn ⟨(Nat.le_of_ble_eq_true rfl), (Nat.le_of_ble_eq_true rfl)⟩ rfl hl.1 rfl (Nat.le_of_ble_eq_true rfl) dX0_copy_12 ⟨(Nat.le_of_ble_eq_true rfl), (Nat.le_of_ble_eq_true rfl)⟩ (fun r hr => ?_)
    subst hr
    refine tp_eq (y := (if (inR p2 12).isSome = true then 1 else 0)) (b01_c (inR_lt (n := 12) (by decide))) ?_
    refine lv_if_ne (tgt := 24) C0.1 C0.2.1 dX0_copy_15 (by decide) (fun c_15 => ?_) (fun c_15 => ?_)
    · have c_15 : (inR p2 12).isSome = true := b01_1.mp c_15
      obtain ⟨x, hx, bx, rfl⟩ := inR_get c_6 (by decide)
      obtain ⟨y, hy, b_y, rfl⟩ := inR_get c_15 (by decide)
      refine lv_aload_n C0.1 C0.2.1 dX0_copy_24 rfl (lv_at hl 0 rfl) ?_
      refine lv_iload_n C0.1 C0.2.1 dX0_copy_25 rfl (lv_at hl 1 rfl) ?_
      refine x_ct (av := [.int (nI x)]) (rest := []) (x := exE (24, 73, 74, 7)) C0 hG hM hS (xx_camAt l D dA ad X ([]) _ (nI x)) 1 (lw_V q225 q227 qs1 q39 q228) rfl rfl hdx_X0_camAt ⟨(Nat.le_of_ble_eq_true rfl), (Nat.le_of_ble_eq_true rfl)⟩ rfl hl.1 rfl (Nat.le_of_ble_eq_true rfl) dX0_copy_26 ⟨(Nat.le_of_ble_eq_true rfl), (Nat.le_of_ble_eq_true rfl)⟩ ⟨[], _, hT, by decide⟩ (by decide) (by decide) q224 (fun v locs hP hS => ?_) (fun q26 k26 H locs hK hM hS => ?_)
      · obtain ⟨x', hx', hth, hv⟩ := hP
        have ex : x' = x := Option.some.inj (hx'.symm.trans hx)
        rw [ex] at hv hth
        subst hv
        refine at_fr 29 [.ref (ad (100 + x))] rfl rfl ?_
        refine lv_astore (lv' := [(6, .ref (ad (100 + x))), (0, .ref (ad 0)), (1, .int (nI x)), (2, .int p1), (3, .int (nI y)), (4, .int p3), (5, .int p4)]) C0.1 C0.2.1 dX0_copy_29 hl (by decide) rfl (fun ls hl => ?_)
        refine lv_aload_n C0.1 C0.2.1 dX0_copy_31 rfl (lv_at hl 1 rfl) ?_
        refine lv_iload_n C0.1 C0.2.1 dX0_copy_32 rfl (lv_at hl 4 rfl) ?_
        refine x_ct (av := [.int (nI y)]) (rest := []) (x := exE (24, 73, 74, 7)) C0 hG hM hS (xx_camAt l D dA ad X ([]) _ (nI y)) 1 (lw_V q225 q227 qs1 q39 q228) rfl rfl hdx_X0_camAt ⟨(Nat.le_of_ble_eq_true rfl), (Nat.le_of_ble_eq_true rfl)⟩ rfl hl.1 rfl (Nat.le_of_ble_eq_true rfl) dX0_copy_33 ⟨(Nat.le_of_ble_eq_true rfl), (Nat.le_of_ble_eq_true rfl)⟩ ⟨[], _, hT, by decide⟩ (by decide) (by decide) q224 (fun v locs hP hS => ?_) (fun q33 k33 H locs hK hM hS => ?_)
        · obtain ⟨x', hx', htd, hv⟩ := hP
          have ex : x' = y := Option.some.inj (hx'.symm.trans hy)
          rw [ex] at hv htd
          subst hv
          refine at_fr 36 [.ref (ad (100 + y))] rfl rfl ?_
          refine lv_astore (lv' := [(7, .ref (ad (100 + y))), (6, .ref (ad (100 + x))), (0, .ref (ad 0)), (1, .int (nI x)), (2, .int p1), (3, .int (nI y)), (4, .int p3), (5, .int p4)]) C0.1 C0.2.1 dX0_copy_36 hl (by decide) rfl (fun ls hl => ?_)
          refine lv_aload_n C0.1 C0.2.1 dX0_copy_38 rfl (lv_at hl 2 rfl) ?_
          refine lv_iload_n C0.1 C0.2.1 dX0_copy_39 rfl (lv_at hl 4 rfl) ?_
          refine lv_iload C0.1 C0.2.1 dX0_copy_40 (lv_at hl 7 rfl) ?_
          refine x_ct (av := [.int p1, .int p4]) (rest := []) (x := exE (24, 73, 74, 7)) C0 hG hM hS (xx_steps l D dA ad X ([]) _ p1 p4) 2 (lw_V q300 q302 qs3 q39 q303) rfl rfl hdx_X0_steps ⟨(Nat.le_of_ble_eq_true rfl), (Nat.le_of_ble_eq_true rfl)⟩ rfl hl.1 rfl (Nat.le_of_ble_eq_true rfl) dX0_copy_42 ⟨(Nat.le_of_ble_eq_true rfl), (Nat.le_of_ble_eq_true rfl)⟩ ⟨[], _, hT, by decide⟩ (by decide) (by decide) q224 (fun v locs hP hS => ?_) (fun q42 k42 H locs hK hM hS => ?_)
          · obtain ⟨rfl, hs1⟩ := hP
            refine at_fr 45 [] rfl rfl ?_
            refine lv_aload_n C0.1 C0.2.1 dX0_copy_45 rfl (lv_at hl 2 rfl) ?_
            refine lv_iload C0.1 C0.2.1 dX0_copy_46 (lv_at hl 6 rfl) ?_
            refine lv_iload C0.1 C0.2.1 dX0_copy_48 (lv_at hl 7 rfl) ?_
            refine x_ct (av := [.int p3, .int p4]) (rest := []) (x := exE (24, 73, 74, 7)) C0 hG hM hS (xx_steps l D dA ad X ([]) _ p3 p4) 2 (lw_V q300 q302 qs3 q39 q303) rfl rfl hdx_X0_steps ⟨(Nat.le_of_ble_eq_true rfl), (Nat.le_of_ble_eq_true rfl)⟩ rfl hl.1 rfl (Nat.le_of_ble_eq_true rfl) dX0_copy_50 ⟨(Nat.le_of_ble_eq_true rfl), (Nat.le_of_ble_eq_true rfl)⟩ ⟨[], _, hT, by decide⟩ (by decide) (by decide) q224 (fun v locs hP hS => ?_) (fun q50 k50 H locs hK hM hS => ?_)
            · obtain ⟨rfl, hs2⟩ := hP
              refine at_fr 53 [] rfl rfl ?_
              have hcp := stp2 hO hs1 hs2
              obtain ⟨nn, ii, jj, rfl, rfl, rfl, hin, hjn⟩ := cpOk_get hcp
              refine lv_aload C0.1 C0.2.1 dX0_copy_53 (lv_at hl 1 rfl) ?_
              refine x_rowN C0 hG hM x hth (by omega) (hG.2.1.f 3 rfl) dX0_copy_55 ?_
              refine lv_iload_n C0.1 C0.2.1 dX0_copy_58 rfl (lv_at hl 4 rfl) ?_
              refine lv_aload C0.1 C0.2.1 dX0_copy_59 (lv_at hl 0 rfl) ?_
              refine x_rowN C0 hG hM y htd (by omega) (hG.2.1.f 3 rfl) dX0_copy_61 ?_
              refine lv_iload C0.1 C0.2.1 dX0_copy_64 (lv_at hl 6 rfl) ?_
              refine lv_iload C0.1 C0.2.1 dX0_copy_66 (lv_at hl 7 rfl) ?_
              refine x_copy C0 hG hM hS q316 x y ii jj nn bx b_y hth htd hr16 (by omega) (by omega) hl.1 (Nat.le_of_ble_eq_true rfl) (by decide) dX0_copy_68 (fun H locs hM hS => ?_)
              refine lv_iload C0.1 C0.2.1 dX0_copy_71 (lv_at hl 7 rfl) ?_
              exact x_iretS C0 hr hlk hM hS ⟨PB.of (copy_5 hx hy hth htd hcp (by omega) (by omega) (by omega)), (put2_xs hX.xs _), rfl, rfl⟩ dX0_copy_73 (Nat.le_of_ble_eq_true rfl) (Nat.le_of_ble_eq_true rfl)
            · refine at_pc 74 rfl ?_
              obtain ⟨rfl, hst⟩ := hK
              refine lv_astore (lv' := [(6, .ref q50), (7, .ref (ad (100 + y))), (0, .ref (ad 0)), (1, .int (nI x)), (2, .int p1), (3, .int (nI y)), (4, .int p3), (5, .int p4)]) C0.1 C0.2.1 dX0_copy_74 hl (by decide) rfl (fun ls hl => ?_)
              refine lv_aload_n C0.1 C0.2.1 dX0_copy_76 rfl (lv_at hl 2 rfl) ?_
              refine lv_aload C0.1 C0.2.1 dX0_copy_77 (lv_at hl 0 rfl) ?_
              refine x_egetN C0 hG hM 0 rfl rfl in_X6 6 (by decide) rfl (hG.2.1.f 4 rfl) dX0_copy_79 ?_
              have hM : XF D A dA ad X [] H := hM.tail
              refine x_ki (va_runV (b := (ad 0)) (As := [.int (-(nI 7))]) (rest := []) C0 (xx_refuse l D dA ad X ([]) _ 7 (by decide)) (cwV 1 C0.2.2.2.2 (lw_V q195 q197 qs0 q39 q198) rfl rfl rfl hdx_X0_refuse ⟨(Nat.le_of_ble_eq_true rfl), (Nat.le_of_ble_eq_true rfl)⟩) (x_preV hG hM hS 0 (xw_0 dA ad _ _) rfl rfl) rfl rfl hl.1 rfl (lv_room (Nat.le_of_ble_eq_true rfl)) dX0_copy_82 ⟨(Nat.le_of_ble_eq_true rfl), (Nat.le_of_ble_eq_true rfl)⟩) hG hM hS (fun r u H locs hr hM hS => ?_)
              obtain ⟨rfl, rfl⟩ := hr
              have hM : XF D A dA ad (refS X 7) ([]) H := hM
              exact x_iretS C0 hr hlk hM hS ⟨PB.of (copy_4 hx hy hth htd (stp2b hO hst)), (XS.up hX.xs 22 _ _ rfl), rfl, rfl⟩ dX0_copy_85 (Nat.le_of_ble_eq_true rfl) (Nat.le_of_ble_eq_true rfl)
          · refine at_pc 74 rfl ?_
            obtain ⟨rfl, hst⟩ := hK
            refine lv_astore (lv' := [(6, .ref q42), (7, .ref (ad (100 + y))), (0, .ref (ad 0)), (1, .int (nI x)), (2, .int p1), (3, .int (nI y)), (4, .int p3), (5, .int p4)]) C0.1 C0.2.1 dX0_copy_74 hl (by decide) rfl (fun ls hl => ?_)
            refine lv_aload_n C0.1 C0.2.1 dX0_copy_76 rfl (lv_at hl 2 rfl) ?_
            refine lv_aload C0.1 C0.2.1 dX0_copy_77 (lv_at hl 0 rfl) ?_
            refine x_egetN C0 hG hM 0 rfl rfl in_X6 6 (by decide) rfl (hG.2.1.f 4 rfl) dX0_copy_79 ?_
            have hM : XF D A dA ad X [] H := hM.tail
            refine x_ki (va_runV (b := (ad 0)) (As := [.int (-(nI 7))]) (rest := []) C0 (xx_refuse l D dA ad X ([]) _ 7 (by decide)) (cwV 1 C0.2.2.2.2 (lw_V q195 q197 qs0 q39 q198) rfl rfl rfl hdx_X0_refuse ⟨(Nat.le_of_ble_eq_true rfl), (Nat.le_of_ble_eq_true rfl)⟩) (x_preV hG hM hS 0 (xw_0 dA ad _ _) rfl rfl) rfl rfl hl.1 rfl (lv_room (Nat.le_of_ble_eq_true rfl)) dX0_copy_82 ⟨(Nat.le_of_ble_eq_true rfl), (Nat.le_of_ble_eq_true rfl)⟩) hG hM hS (fun r u H locs hr hM hS => ?_)
            obtain ⟨rfl, rfl⟩ := hr
            have hM : XF D A dA ad (refS X 7) ([]) H := hM
            exact x_iretS C0 hr hlk hM hS ⟨PB.of (copy_4 hx hy hth htd (stp2a hO hst)), (XS.up hX.xs 22 _ _ rfl), rfl, rfl⟩ dX0_copy_85 (Nat.le_of_ble_eq_true rfl) (Nat.le_of_ble_eq_true rfl)
        · refine at_pc 74 rfl ?_
          obtain ⟨rfl, hk0⟩ := hK
          obtain ⟨h0, h5⟩ := lack5 hy hk0
          rw [h5] at hM
          have hM : XF D A dA ad X ([(q33, .inr (6, [.null, .null, .null, .null, .null, .int 0, .int (-(nI 5))]))]) H := hM
          refine lv_astore (lv' := [(6, .ref q33), (0, .ref (ad 0)), (1, .int (nI x)), (2, .int p1), (3, .int (nI y)), (4, .int p3), (5, .int p4)]) C0.1 C0.2.1 dX0_copy_74 hl (by decide) rfl (fun ls hl => ?_)
          refine lv_aload_n C0.1 C0.2.1 dX0_copy_76 rfl (lv_at hl 1 rfl) ?_
          refine lv_aload C0.1 C0.2.1 dX0_copy_77 (lv_at hl 0 rfl) ?_
          refine x_egetN C0 hG hM 0 rfl rfl in_X6 6 (by decide) rfl (hG.2.1.f 4 rfl) dX0_copy_79 ?_
          have hM : XF D A dA ad X [] H := hM.tail
          refine x_ki (va_runV (b := (ad 0)) (As := [.int (-(nI 5))]) (rest := []) C0 (xx_refuse l D dA ad X ([]) _ 5 (by decide)) (cwV 1 C0.2.2.2.2 (lw_V q195 q197 qs0 q39 q198) rfl rfl rfl hdx_X0_refuse ⟨(Nat.le_of_ble_eq_true rfl), (Nat.le_of_ble_eq_true rfl)⟩) (x_preV hG hM hS 0 (xw_0 dA ad _ _) rfl rfl) rfl rfl hl.1 rfl (lv_room (Nat.le_of_ble_eq_true rfl)) dX0_copy_82 ⟨(Nat.le_of_ble_eq_true rfl), (Nat.le_of_ble_eq_true rfl)⟩) hG hM hS (fun r u H locs hr hM hS => ?_)
          obtain ⟨rfl, rfl⟩ := hr
          have hM : XF D A dA ad (refS X 5) ([]) H := hM
          exact x_iretS C0 hr hlk hM hS ⟨PB.of (copy_3 hx hy (Or.inr h0)), (XS.up hX.xs 22 _ _ rfl), rfl, rfl⟩ dX0_copy_85 (Nat.le_of_ble_eq_true rfl) (Nat.le_of_ble_eq_true rfl)
      · refine at_pc 74 rfl ?_
        obtain ⟨rfl, hk0⟩ := hK
        obtain ⟨h0, h5⟩ := lack5 hx hk0
        rw [h5] at hM
        have hM : XF D A dA ad X ([(q26, .inr (6, [.null, .null, .null, .null, .null, .int 0, .int (-(nI 5))]))]) H := hM
        refine lv_astore (lv' := [(6, .ref q26), (0, .ref (ad 0)), (1, .int (nI x)), (2, .int p1), (3, .int (nI y)), (4, .int p3), (5, .int p4)]) C0.1 C0.2.1 dX0_copy_74 hl (by decide) rfl (fun ls hl => ?_)
        refine lv_aload_n C0.1 C0.2.1 dX0_copy_76 rfl (lv_at hl 1 rfl) ?_
        refine lv_aload C0.1 C0.2.1 dX0_copy_77 (lv_at hl 0 rfl) ?_
        refine x_egetN C0 hG hM 0 rfl rfl in_X6 6 (by decide) rfl (hG.2.1.f 4 rfl) dX0_copy_79 ?_
        have hM : XF D A dA ad X [] H := hM.tail
        refine x_ki (va_runV (b := (ad 0)) (As := [.int (-(nI 5))]) (rest := []) C0 (xx_refuse l D dA ad X ([]) _ 5 (by decide)) (cwV 1 C0.2.2.2.2 (lw_V q195 q197 qs0 q39 q198) rfl rfl rfl hdx_X0_refuse ⟨(Nat.le_of_ble_eq_true rfl), (Nat.le_of_ble_eq_true rfl)⟩) (x_preV hG hM hS 0 (xw_0 dA ad _ _) rfl rfl) rfl rfl hl.1 rfl (lv_room (Nat.le_of_ble_eq_true rfl)) dX0_copy_82 ⟨(Nat.le_of_ble_eq_true rfl), (Nat.le_of_ble_eq_true rfl)⟩) hG hM hS (fun r u H locs hr hM hS => ?_)
        obtain ⟨rfl, rfl⟩ := hr
        have hM : XF D A dA ad (refS X 5) ([]) H := hM
        exact x_iretS C0 hr hlk hM hS ⟨PB.of (copy_3 hx hy (Or.inl h0)), (XS.up hX.xs 22 _ _ rfl), rfl, rfl⟩ dX0_copy_85 (Nat.le_of_ble_eq_true rfl) (Nat.le_of_ble_eq_true rfl)
    · have c_15 : ¬ ((inR p2 12).isSome = true) := b01_0.mp c_15
      refine lv_aload_n C0.1 C0.2.1 dX0_copy_18 rfl (lv_at hl 0 rfl) ?_
      refine lv_iconst (v := (-1)) C0.1 C0.2.1 dX0_copy_19 (by decide) ?_
      refine x_ki (va_runV (b := (ad 0)) (As := [.int (-1)]) (rest := []) C0 (xx_refuse l D dA ad X ([]) _ 1 (by omega)) (cwV 1 C0.2.2.2.2 (lw_V q195 q197 qs0 q39 q198) rfl rfl rfl hdx_X0_refuse ⟨(Nat.le_of_ble_eq_true rfl), (Nat.le_of_ble_eq_true rfl)⟩) (x_preV hG hM hS 0 (xw_0 dA ad _ _) rfl rfl) rfl rfl hl.1 rfl (lv_room (Nat.le_of_ble_eq_true rfl)) dX0_copy_20 ⟨(Nat.le_of_ble_eq_true rfl), (Nat.le_of_ble_eq_true rfl)⟩) hG hM hS (fun r u H locs hr hM hS => ?_)
      obtain ⟨rfl, rfl⟩ := hr
      have hM : XF D A dA ad (refS X 1) ([]) H := hM
      exact x_iretS C0 hr hlk hM hS ⟨PB.of (copy_2 (inR_none c_15)), (XS.up hX.xs 22 _ _ rfl), rfl, rfl⟩ dX0_copy_23 (Nat.le_of_ble_eq_true rfl) (Nat.le_of_ble_eq_true rfl)
