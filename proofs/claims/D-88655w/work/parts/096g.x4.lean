set_option maxRecDepth 100000
set_option linter.unusedVariables false
theorem hdx_X0_like : yX0_like.cls = RX0 ∧ yX0_like.cls ≠ "java/lang/invoke/MethodHandle" ∧ yX0_like.cls ≠ "java/lang/invoke/VarHandle" ∧ (parseMethodDescriptor yX0_like.desc).map (fun d => d.parameters.length) = some 2 := by decide +kernel
set_option maxHeartbeats 4000000 in
theorem xx_like (l : Launch) (D : va_G) (dA : Nat → ClassId) (ad : Nat → Nat) (X : St) (L : Ex) (sz : Nat) (p0 p1 : Int32) (hX : XOk X) : xCh l yX0_like cX0_like 4 (some .int) [(0, 48, 49, 7)] { frames := 6, cells := 100, slots := 1000, locals := 134 } D dA ad X ([]) sz [.ref (ad 0), .int p0, .int p1] 100 1000 (fun r u => PX (sp_like X p0 p1) ad r u) := by
  refine x_hH (by decide) (Nat.le_of_ble_eq_true rfl) ?_
  intro A p e s m below meth cd ls C0 hr hlk hT hG hM hS hl
  have hl : lv_has ls 4 [(0, .ref (ad 0)), (1, .int p0), (2, .int p1)] := hl
  have hO := hX.ok
  have hl2 := hO.len2
  have hl16 := hO.len16
  have hr16 := rl16 hX
  have hrl := hX.rl
  have hp12 := hO.pg12
  refine lv_iload_n C0.1 C0.2.1 dX0_like_0 rfl (lv_at hl 2 rfl) ?_
  refine lv_iconst (v := 4) C0.1 C0.2.1 dX0_like_1 (by decide) ?_
  refine st_call C0 (xx_isIn l p1 4) 2 (lw_S q207 q208 q39 q209) rfl rfl hdx_X0_isIn ⟨(Nat.le_of_ble_eq_true rfl), (Nat.le_of_ble_eq_true rfl)⟩ rfl hl.1 rfl (Nat.le_of_ble_eq_true rfl) dX0_like_2 ⟨(Nat.le_of_ble_eq_true rfl), (Nat.le_of_ble_eq_true rfl)⟩ (fun r hr => ?_)
  subst hr
  refine tp_eq (y := (if (inR p1 4).isSome = true then 1 else 0)) (b01_c (inR_lt (n := 4) (by decide))) ?_
  refine lv_if_ne (tgt := 17) C0.1 C0.2.1 dX0_like_5 (by decide) (fun c_5 => ?_) (fun c_5 => ?_)
  · have c_5 : (inR p1 4).isSome = true := b01_1.mp c_5
    obtain ⟨k, hk, bk, rfl⟩ := inR_get c_5 (by decide)
    refine lv_aload_n C0.1 C0.2.1 dX0_like_17 rfl (lv_at hl 0 rfl) ?_
    refine lv_iload_n C0.1 C0.2.1 dX0_like_18 rfl (lv_at hl 1 rfl) ?_
    refine x_ct (av := [.int p0]) (rest := []) (x := exE (0, 48, 49, 7)) C0 hG hM hS (xx_camAt l D dA ad X ([]) _ p0) 1 (lw_V q225 q227 qs1 q39 q228) rfl rfl hdx_X0_camAt ⟨(Nat.le_of_ble_eq_true rfl), (Nat.le_of_ble_eq_true rfl)⟩ rfl hl.1 rfl (Nat.le_of_ble_eq_true rfl) dX0_like_19 ⟨(Nat.le_of_ble_eq_true rfl), (Nat.le_of_ble_eq_true rfl)⟩ ⟨[], _, hT, by decide⟩ (by decide) (by decide) q224 (fun v locs hP hS => ?_) (fun q19 k19 H locs hK hM hS => ?_)
    · obtain ⟨j, hj, hth, rfl⟩ := hP
      obtain ⟨bj, rfl⟩ := inR_some hj (by decide)
      refine at_fr 22 [.ref (ad (100 + j))] rfl rfl ?_
      refine lv_astore_n (lv' := [(3, .ref (ad (100 + j))), (0, .ref (ad 0)), (1, .int (nI j)), (2, .int (nI k))]) C0.1 C0.2.1 dX0_like_22 rfl hl (by decide) rfl (fun ls hl => ?_)
      refine lv_aload_n C0.1 C0.2.1 dX0_like_23 rfl (lv_at hl 1 rfl) ?_
      refine x_geta C0 hG hM 11 21 (by decide) rfl rfl q129 dX0_like_24 ?_
      refine lv_iload_n C0.1 C0.2.1 dX0_like_27 rfl (lv_at hl 3 rfl) ?_
      refine x_iald C0 hG hM 21 k rfl rfl rfl (show k < 4 from (by omega)) (by decide) dX0_like_28 ?_
      refine lv_if_ne (tgt := 42) C0.1 C0.2.1 dX0_like_29 (by decide) (fun c_29 => ?_) (fun c_29 => ?_)
      · refine lv_aload_n C0.1 C0.2.1 dX0_like_42 rfl (lv_at hl 1 rfl) ?_
        refine lv_aload_n C0.1 C0.2.1 dX0_like_43 rfl (lv_at hl 0 rfl) ?_
        refine lv_iload_n C0.1 C0.2.1 dX0_like_44 rfl (lv_at hl 3 rfl) ?_
        refine fw_cp (va_runV (b := (ad 0)) (As := [.ref (ad (100 + j)), .int (nI k)]) (rest := []) C0 (xx_likeOf l D dA ad X ([]) _ j k hX (by omega) hth (by omega)) (cwV 2 C0.2.2.2.2 (lw_V q609 q611 qs16 q39 q612) rfl rfl rfl hdx_X0_likeOf ⟨(Nat.le_of_ble_eq_true rfl), (Nat.le_of_ble_eq_true rfl)⟩) (x_preV hG hM hS 0 (xw_0 dA ad _ _) rfl rfl) rfl rfl hl.1 rfl (lv_room (Nat.le_of_ble_eq_true rfl)) dX0_like_45 ⟨(Nat.le_of_ble_eq_true rfl), (Nat.le_of_ble_eq_true rfl)⟩) (fun r hr => ?_)
        subst hr
        exact x_iretS C0 hr hlk hM hS ⟨PB.of ((onMk_t hj hk hth).trans (by (try dsimp only); rw [if_neg c_29])), hX.xs, rfl, rfl⟩ dX0_like_48 (Nat.le_of_ble_eq_true rfl) (Nat.le_of_ble_eq_true rfl)
      · refine x_newC (ci := 6) C0 hG hM hS [.null, .null, .null, .null, .null, .int 0, .int 0] rfl in_X6 tyX6 tyX6_ok q224 q229 q48 (by decide) (Nat.le_of_ble_eq_true rfl) (Nat.le_of_ble_eq_true rfl) dX0_like_32 (fun q32 H hM hS => ?_)
        refine lv_dup C0.1 C0.2.1 dX0_like_35 rfl ?_
        refine lv_bipush (v := (-3)) C0.1 C0.2.1 dX0_like_36 (by decide) ?_
        refine x_kv (va_runI (b := q32) (As := [.int (-3)]) (rest := [.ref q32]) C0 (x6_init l D dA ad X ([]) _ q32 3) (cwI 1 C0.2.2.2.2 (lw_meth q269) rfl rfl rfl (C0.2.2.2.2 _ q48) (C0.2.2.2.2 _ q267) (C0.2.2.2.2 _ q268) rfl hdx_X6_init ⟨(Nat.le_of_ble_eq_true rfl), (Nat.le_of_ble_eq_true rfl)⟩) (x_preS hG hM hS) rfl rfl hl.1 rfl (lv_room (Nat.le_of_ble_eq_true rfl)) dX0_like_38 ⟨(Nat.le_of_ble_eq_true rfl), (Nat.le_of_ble_eq_true rfl)⟩) hG hM hS (fun u H locs hr hM hS => ?_)
        subst hr
        have hM : XF D A dA ad X ([(q32, .inr (6, [.null, .null, .null, .null, .null, .int 0, .int (-(nI 3))]))]) H := hM
        refine x_thrC (x := exE (0, 48, 49, 7)) C0 hG hM 0 rfl ⟨[], _, hT, by decide⟩ (by decide) (by decide) q224 dX0_like_41 ?_
        refine at_pc 49 rfl ?_
        refine lv_astore_n (lv' := [(3, .ref q32), (0, .ref (ad 0)), (1, .int (nI j)), (2, .int (nI k))]) C0.1 C0.2.1 dX0_like_49 rfl hl (by decide) rfl (fun ls hl => ?_)
        refine lv_aload_n C0.1 C0.2.1 dX0_like_50 rfl (lv_at hl 1 rfl) ?_
        refine lv_aload_n C0.1 C0.2.1 dX0_like_51 rfl (lv_at hl 0 rfl) ?_
        refine x_egetN C0 hG hM 0 rfl rfl in_X6 6 (by decide) rfl (hG.2.1.f 4 rfl) dX0_like_52 ?_
        have hM : XF D A dA ad X [] H := hM.tail
        refine x_ki (va_runV (b := (ad 0)) (As := [.int (-(nI 3))]) (rest := []) C0 (xx_refuse l D dA ad X ([]) _ 3 (by decide)) (cwV 1 C0.2.2.2.2 (lw_V q195 q197 qs0 q39 q198) rfl rfl rfl hdx_X0_refuse ⟨(Nat.le_of_ble_eq_true rfl), (Nat.le_of_ble_eq_true rfl)⟩) (x_preV hG hM hS 0 (xw_0 dA ad _ _) rfl rfl) rfl rfl hl.1 rfl (lv_room (Nat.le_of_ble_eq_true rfl)) dX0_like_55 ⟨(Nat.le_of_ble_eq_true rfl), (Nat.le_of_ble_eq_true rfl)⟩) hG hM hS (fun r u H locs hr hM hS => ?_)
        obtain ⟨rfl, rfl⟩ := hr
        have hM : XF D A dA ad (refS X 3) ([]) H := hM
        exact x_iretS C0 hr hlk hM hS ⟨PB.of ((onMk_t hj hk hth).trans (by (try dsimp only); rw [if_pos c_29]; rfl)), (XS.up hX.xs 22 _ _ rfl), rfl, rfl⟩ dX0_like_58 (Nat.le_of_ble_eq_true rfl) (Nat.le_of_ble_eq_true rfl)
    · refine at_pc 49 rfl ?_
      obtain ⟨rfl, hk0⟩ := hK
      refine lv_astore_n (lv' := [(3, .ref q19), (0, .ref (ad 0)), (1, .int p0), (2, .int (nI k))]) C0.1 C0.2.1 dX0_like_49 rfl hl (by decide) rfl (fun ls hl => ?_)
      refine lv_aload_n C0.1 C0.2.1 dX0_like_50 rfl (lv_at hl 1 rfl) ?_
      refine lv_aload_n C0.1 C0.2.1 dX0_like_51 rfl (lv_at hl 0 rfl) ?_
      refine x_egetN C0 hG hM 0 rfl rfl in_X6 6 (by decide) rfl (hG.2.1.f 4 rfl) dX0_like_52 ?_
      have hM : XF D A dA ad X [] H := hM.tail
      refine x_ki (va_runV (b := (ad 0)) (As := [.int (-(nI (lackN X p0)))]) (rest := []) C0 (xx_refuse l D dA ad X ([]) _ (lackN X p0) (lackN_lt X p0)) (cwV 1 C0.2.2.2.2 (lw_V q195 q197 qs0 q39 q198) rfl rfl rfl hdx_X0_refuse ⟨(Nat.le_of_ble_eq_true rfl), (Nat.le_of_ble_eq_true rfl)⟩) (x_preV hG hM hS 0 (xw_0 dA ad _ _) rfl rfl) rfl rfl hl.1 rfl (lv_room (Nat.le_of_ble_eq_true rfl)) dX0_like_55 ⟨(Nat.le_of_ble_eq_true rfl), (Nat.le_of_ble_eq_true rfl)⟩) hG hM hS (fun r u H locs hr hM hS => ?_)
      obtain ⟨rfl, rfl⟩ := hr
      have hM : XF D A dA ad (refS X (lackN X p0)) ([]) H := hM
      exact x_iretS C0 hr hlk hM hS ⟨PB.of (onMk_l hk hk0), (XS.up hX.xs 22 _ _ rfl), rfl, rfl⟩ dX0_like_58 (Nat.le_of_ble_eq_true rfl) (Nat.le_of_ble_eq_true rfl)
  · have c_5 : ¬ ((inR p1 4).isSome = true) := b01_0.mp c_5
    refine x_newC (ci := 6) C0 hG hM hS [.null, .null, .null, .null, .null, .int 0, .int 0] rfl in_X6 tyX6 tyX6_ok q224 q229 q48 (by decide) (Nat.le_of_ble_eq_true rfl) (Nat.le_of_ble_eq_true rfl) dX0_like_8 (fun q8 H hM hS => ?_)
    refine lv_dup C0.1 C0.2.1 dX0_like_11 rfl ?_
    refine lv_iconst (v := (-1)) C0.1 C0.2.1 dX0_like_12 (by decide) ?_
    refine x_kv (va_runI (b := q8) (As := [.int (-1)]) (rest := [.ref q8]) C0 (x6_init l D dA ad X ([]) _ q8 1) (cwI 1 C0.2.2.2.2 (lw_meth q269) rfl rfl rfl (C0.2.2.2.2 _ q48) (C0.2.2.2.2 _ q267) (C0.2.2.2.2 _ q268) rfl hdx_X6_init ⟨(Nat.le_of_ble_eq_true rfl), (Nat.le_of_ble_eq_true rfl)⟩) (x_preS hG hM hS) rfl rfl hl.1 rfl (lv_room (Nat.le_of_ble_eq_true rfl)) dX0_like_13 ⟨(Nat.le_of_ble_eq_true rfl), (Nat.le_of_ble_eq_true rfl)⟩) hG hM hS (fun u H locs hr hM hS => ?_)
    subst hr
    have hM : XF D A dA ad X ([(q8, .inr (6, [.null, .null, .null, .null, .null, .int 0, .int (-(nI 1))]))]) H := hM
    refine x_thrC (x := exE (0, 48, 49, 7)) C0 hG hM 0 rfl ⟨[], _, hT, by decide⟩ (by decide) (by decide) q224 dX0_like_16 ?_
    refine at_pc 49 rfl ?_
    refine lv_astore_n (lv' := [(3, .ref q8), (0, .ref (ad 0)), (1, .int p0), (2, .int p1)]) C0.1 C0.2.1 dX0_like_49 rfl hl (by decide) rfl (fun ls hl => ?_)
    refine lv_aload_n C0.1 C0.2.1 dX0_like_50 rfl (lv_at hl 1 rfl) ?_
    refine lv_aload_n C0.1 C0.2.1 dX0_like_51 rfl (lv_at hl 0 rfl) ?_
    refine x_egetN C0 hG hM 0 rfl rfl in_X6 6 (by decide) rfl (hG.2.1.f 4 rfl) dX0_like_52 ?_
    have hM : XF D A dA ad X [] H := hM.tail
    refine x_ki (va_runV (b := (ad 0)) (As := [.int (-(nI 1))]) (rest := []) C0 (xx_refuse l D dA ad X ([]) _ 1 (by decide)) (cwV 1 C0.2.2.2.2 (lw_V q195 q197 qs0 q39 q198) rfl rfl rfl hdx_X0_refuse ⟨(Nat.le_of_ble_eq_true rfl), (Nat.le_of_ble_eq_true rfl)⟩) (x_preV hG hM hS 0 (xw_0 dA ad _ _) rfl rfl) rfl rfl hl.1 rfl (lv_room (Nat.le_of_ble_eq_true rfl)) dX0_like_55 ⟨(Nat.le_of_ble_eq_true rfl), (Nat.le_of_ble_eq_true rfl)⟩) hG hM hS (fun r u H locs hr hM hS => ?_)
    obtain ⟨rfl, rfl⟩ := hr
    have hM : XF D A dA ad (refS X 1) ([]) H := hM
    exact x_iretS C0 hr hlk hM hS ⟨PB.of (onMk_2 (inR_none c_5)), (XS.up hX.xs 22 _ _ rfl), rfl, rfl⟩ dX0_like_58 (Nat.le_of_ble_eq_true rfl) (Nat.le_of_ble_eq_true rfl)
theorem hdx_X0_whose : yX0_whose.cls = RX0 ∧ yX0_whose.cls ≠ "java/lang/invoke/MethodHandle" ∧ yX0_whose.cls ≠ "java/lang/invoke/VarHandle" ∧ (parseMethodDescriptor yX0_whose.desc).map (fun d => d.parameters.length) = some 1 := by decide +kernel
set_option maxHeartbeats 4000000 in
theorem xx_whose (l : Launch) (D : va_G) (dA : Nat → ClassId) (ad : Nat → Nat) (X : St) (L : Ex) (sz : Nat) (p0 : Int32) (hX : XOk X) : xCh l yX0_whose cX0_whose 5 (some .int) [(0, 78, 79, 7)] { frames := 6, cells := 100, slots := 1000, locals := 134 } D dA ad X ([]) sz [.ref (ad 0), .int p0] 100 1000 (fun r u => PX (sp_whose X p0) ad r u) := by
  refine x_hH (by decide) (Nat.le_of_ble_eq_true rfl) ?_
  intro A p e s m below meth cd ls C0 hr hlk hT hG hM hS hl
  have hl : lv_has ls 5 [(0, .ref (ad 0)), (1, .int p0)] := hl
  have hO := hX.ok
  have hl2 := hO.len2
  have hl16 := hO.len16
  have hr16 := rl16 hX
  have hrl := hX.rl
  have hp12 := hO.pg12
  refine lv_aload_n C0.1 C0.2.1 dX0_whose_0 rfl (lv_at hl 0 rfl) ?_
  refine lv_iload_n C0.1 C0.2.1 dX0_whose_1 rfl (lv_at hl 1 rfl) ?_
  refine x_ct (av := [.int p0]) (rest := []) (x := exE (0, 78, 79, 7)) C0 hG hM hS (xx_camAt l D dA ad X ([]) _ p0) 1 (lw_V q225 q227 qs1 q39 q228) rfl rfl hdx_X0_camAt ⟨(Nat.le_of_ble_eq_true rfl), (Nat.le_of_ble_eq_true rfl)⟩ rfl hl.1 rfl (Nat.le_of_ble_eq_true rfl) dX0_whose_2 ⟨(Nat.le_of_ble_eq_true rfl), (Nat.le_of_ble_eq_true rfl)⟩ ⟨[], _, hT, by decide⟩ (by decide) (by decide) q224 (fun v locs hP hS => ?_) (fun q2 k2 H locs hK hM hS => ?_)
  · obtain ⟨j, hj, hth, rfl⟩ := hP
    obtain ⟨bj, rfl⟩ := inR_some hj (by decide)
    refine at_fr 5 [.ref (ad (100 + j))] rfl rfl ?_
    refine lv_astore_n (lv' := [(2, .ref (ad (100 + j))), (0, .ref (ad 0)), (1, .int (nI j))]) C0.1 C0.2.1 dX0_whose_5 rfl hl (by decide) rfl (fun ls hl => ?_)
    refine lv_bipush (v := (-9)) C0.1 C0.2.1 dX0_whose_6 (by decide) ?_
    refine lv_istore_n (lv' := [(3, .int (-9)), (2, .ref (ad (100 + j))), (0, .ref (ad 0)), (1, .int (nI j))]) C0.1 C0.2.1 dX0_whose_8 rfl hl (by decide) rfl (fun ls hl => ?_)
    refine lv_iconst (v := 0) C0.1 C0.2.1 dX0_whose_9 (by decide) ?_
    refine lv_istore (lv' := [(4, .int 0), (3, .int (-9)), (2, .ref (ad (100 + j))), (0, .ref (ad 0)), (1, .int (nI j))]) C0.1 C0.2.1 dX0_whose_10 hl (by decide) rfl (fun ls hl => ?_)
    refine W_loop 4 (fun i H locs ls => XF D A dA ad X ([]) H ∧ va_S A s.heap H locs ∧ lv_has ls 5 [(0, .ref (ad 0)), (1, .int (nI j)), (2, .ref (ad (100 + j))), (3, .int (rotI (whoF X j i))), (4, .int (nI i))]) 12 ?_ ?_ 0 _ _ ls (Nat.zero_le _) ⟨hM, hS, lv_sub hl [3, 4, 2, 1, 0] rfl⟩
    · intro H locs ls ⟨hM, hS, hl⟩
      refine lv_iload C0.1 C0.2.1 dX0_whose_12 (lv_at hl 4 rfl) ?_
      refine lv_iconst (v := 4) C0.1 C0.2.1 dX0_whose_14 (by decide) ?_
      refine lv_icmp_ge (tgt := 77) C0.1 C0.2.1 dX0_whose_15 (by decide) (fun c_15 => ?_) (fun c_15 => ?_)
      · have n_15 : 4 ≤ 4 := (nI_leI (a := 4) (b := 4) (by omega) (by omega)).mp c_15
        refine lv_iload_n C0.1 C0.2.1 dX0_whose_77 rfl (lv_at hl 3 rfl) ?_
        exact x_iretS C0 hr hlk hM hS ⟨PB.of (onCam_j hj hth), hX.xs, rfl, rfl⟩ dX0_whose_78 (Nat.le_of_ble_eq_true rfl) (Nat.le_of_ble_eq_true rfl)
      · have n_15 : ¬ 4 ≤ 4 := fun z => c_15 ((nI_leI (a := 4) (b := 4) (by omega) (by omega)).mpr z)
        omega
    · intro i H locs ls hi ⟨hM, hS, hl⟩ K12
      refine lv_iload C0.1 C0.2.1 dX0_whose_12 (lv_at hl 4 rfl) ?_
      refine lv_iconst (v := 4) C0.1 C0.2.1 dX0_whose_14 (by decide) ?_
      refine lv_icmp_ge (tgt := 77) C0.1 C0.2.1 dX0_whose_15 (by decide) (fun c_15 => ?_) (fun c_15 => ?_)
      · have n_15 : 4 ≤ i := (nI_leI (a := 4) (b := i) (by omega) (by omega)).mp c_15
        omega
      · have n_15 : ¬ 4 ≤ i := fun z => c_15 ((nI_leI (a := 4) (b := i) (by omega) (by omega)).mpr z)
        refine jnP 71 (fun ls => lv_has ls 5 [(0, .ref (ad 0)), (1, .int (nI j)), (2, .ref (ad (100 + j))), (3, .int (rotI (whoF X j (i + 1)))), (4, .int (nI i))]) (fun ls hl => ?_) (fun J => ?_)
        · refine lv_iinc (v := nI (i + 1)) (lv' := [(4, .int (nI (i + 1))), (0, .ref (ad 0)), (1, .int (nI j)), (2, .ref (ad (100 + j))), (3, .int (rotI (whoF X j (i + 1))))]) C0.1 C0.2.1 dX0_whose_71 hl (k := 4) rfl (nI_1 i) (by decide) rfl (fun ls hl => ?_)
          refine lv_goto (tgt := 12) C0.1 C0.2.1 dX0_whose_74 (by decide) ?_
          exact K12 _ _ ls ⟨hM, hS, lv_sub hl [1, 2, 3, 4, 0] rfl⟩
        · refine lv_aload_n C0.1 C0.2.1 dX0_whose_18 rfl (lv_at hl 0 rfl) ?_
          refine x_geta C0 hG hM 11 21 (by decide) rfl rfl q129 dX0_whose_19 ?_
          refine lv_iload C0.1 C0.2.1 dX0_whose_22 (lv_at hl 4 rfl) ?_
          refine x_iald C0 hG hM 21 i rfl rfl rfl (show i < 4 from (by omega)) (by decide) dX0_whose_24 ?_
          refine lv_if_le (tgt := 71) C0.1 C0.2.1 dX0_whose_25 (by decide) (fun c_25 => ?_) (fun c_25 => ?_)
          · exact J _ (by rw [who_0 c_25]; exact lv_sub hl [0, 1, 2, 3, 4] rfl)
          · rcases ho : whoF X j i with _ | b
            · rw [ho] at hl
              have hl : lv_has ls 5 [(0, .ref (ad 0)), (1, .int (nI j)), (2, .ref (ad (100 + j))), (3, .int (-9)), (4, .int (nI i))] := hl
              refine lv_iload_n C0.1 C0.2.1 dX0_whose_28 rfl (lv_at hl 3 rfl) ?_
              refine lv_if_lt (tgt := 68) C0.1 C0.2.1 dX0_whose_29 (by decide) (fun c_29 => ?_) (fun c_29 => ?_)
              · refine lv_iload C0.1 C0.2.1 dX0_whose_68 (lv_at hl 4 rfl) ?_
                refine lv_istore_n (lv' := [(3, .int (nI i)), (0, .ref (ad 0)), (1, .int (nI j)), (2, .ref (ad (100 + j))), (4, .int (nI i))]) C0.1 C0.2.1 dX0_whose_70 rfl hl (by decide) rfl (fun ls hl => ?_)
                exact J _ (by rw [who_n c_25 ho]; exact lv_sub hl [1, 2, 3, 0, 4] rfl)
              · exact absurd (by decide) c_29
            · have hbi := whoF_lt X j i b ho
              rw [ho] at hl
              have hl : lv_has ls 5 [(0, .ref (ad 0)), (1, .int (nI j)), (2, .ref (ad (100 + j))), (3, .int (nI b)), (4, .int (nI i))] := hl
              refine lv_iload_n C0.1 C0.2.1 dX0_whose_28 rfl (lv_at hl 3 rfl) ?_
              refine lv_if_lt (tgt := 68) C0.1 C0.2.1 dX0_whose_29 (by decide) (fun c_29 => ?_) (fun c_29 => ?_)
              · have n_29 : b < 0 := (nI_ltI (a := b) (b := 0) (by omega) (by omega)).mp c_29
                exact absurd c_29 (nI_pos (by omega))
              · have n_29 : ¬ b < 0 := fun z => c_29 ((nI_ltI (a := b) (b := 0) (by omega) (by omega)).mpr z)
                refine lv_aload_n C0.1 C0.2.1 dX0_whose_32 rfl (lv_at hl 0 rfl) ?_
                refine lv_aload_n C0.1 C0.2.1 dX0_whose_33 rfl (lv_at hl 2 rfl) ?_
                refine lv_iload C0.1 C0.2.1 dX0_whose_34 (lv_at hl 4 rfl) ?_
                refine fw_cp (va_runV (b := (ad 0)) (As := [.ref (ad (100 + j)), .int (nI i)]) (rest := []) C0 (xx_likeOf l D dA ad X ([]) _ j i hX (by omega) hth (by omega)) (cwV 2 C0.2.2.2.2 (lw_V q609 q611 qs16 q39 q612) rfl rfl rfl hdx_X0_likeOf ⟨(Nat.le_of_ble_eq_true rfl), (Nat.le_of_ble_eq_true rfl)⟩) (x_preV hG hM hS 0 (xw_0 dA ad _ _) rfl rfl) rfl rfl hl.1 rfl (lv_room (Nat.le_of_ble_eq_true rfl)) dX0_whose_36 ⟨(Nat.le_of_ble_eq_true rfl), (Nat.le_of_ble_eq_true rfl)⟩) (fun r hr => ?_)
                subst hr
                refine lv_i2l (v := (likeF X j i 10).toInt64) C0.1 C0.2.1 dX0_whose_39 rfl ?_
                refine lv_aload_n C0.1 C0.2.1 dX0_whose_40 rfl (lv_at hl 0 rfl) ?_
                refine x_geta C0 hG hM 11 21 (by decide) rfl rfl q129 dX0_whose_41 ?_
                refine lv_iload_n C0.1 C0.2.1 dX0_whose_44 rfl (lv_at hl 3 rfl) ?_
                refine x_iald C0 hG hM 21 b rfl rfl rfl (show b < 4 from (by omega)) (by decide) dX0_whose_45 ?_
                refine lv_i2l (v := (X 21 b).toInt64) C0.1 C0.2.1 dX0_whose_46 rfl ?_
                refine lv_lmul C0.1 C0.2.1 dX0_whose_47 ?_
                refine lv_aload_n C0.1 C0.2.1 dX0_whose_48 rfl (lv_at hl 0 rfl) ?_
                refine lv_aload_n C0.1 C0.2.1 dX0_whose_49 rfl (lv_at hl 2 rfl) ?_
                refine lv_iload_n C0.1 C0.2.1 dX0_whose_50 rfl (lv_at hl 3 rfl) ?_
                refine fw_cp (va_runV (b := (ad 0)) (As := [.ref (ad (100 + j)), .int (nI b)]) (rest := [.long ((likeF X j i 10).toInt64 * (X 21 b).toInt64)]) C0 (xx_likeOf l D dA ad X ([]) _ j b hX (by omega) hth (by omega)) (cwV 2 C0.2.2.2.2 (lw_V q609 q611 qs16 q39 q612) rfl rfl rfl hdx_X0_likeOf ⟨(Nat.le_of_ble_eq_true rfl), (Nat.le_of_ble_eq_true rfl)⟩) (x_preV hG hM hS 0 (xw_0 dA ad _ _) rfl rfl) rfl rfl hl.1 rfl (lv_room (Nat.le_of_ble_eq_true rfl)) dX0_whose_51 ⟨(Nat.le_of_ble_eq_true rfl), (Nat.le_of_ble_eq_true rfl)⟩) (fun r hr => ?_)
                subst hr
                refine lv_i2l (v := (likeF X j b 10).toInt64) C0.1 C0.2.1 dX0_whose_54 rfl ?_
                refine lv_aload_n C0.1 C0.2.1 dX0_whose_55 rfl (lv_at hl 0 rfl) ?_
                refine x_geta C0 hG hM 11 21 (by decide) rfl rfl q129 dX0_whose_56 ?_
                refine lv_iload C0.1 C0.2.1 dX0_whose_59 (lv_at hl 4 rfl) ?_
                refine x_iald C0 hG hM 21 i rfl rfl rfl (show i < 4 from (by omega)) (by decide) dX0_whose_61 ?_
                refine lv_i2l (v := (X 21 i).toInt64) C0.1 C0.2.1 dX0_whose_62 rfl ?_
                refine lv_lmul C0.1 C0.2.1 dX0_whose_63 ?_
                refine W.lcmp C0.1 C0.2.1 dX0_whose_64 ?_
                refine lv_if_ge (tgt := 71) C0.1 C0.2.1 dX0_whose_65 (by decide) (fun c_65 => ?_) (fun c_65 => ?_)
                · exact J _ (by rw [who_f ho (Int64.not_lt.mpr ((lg_cmp_ge _ _).mp c_65)), ho]; exact lv_sub hl [0, 1, 2, 3, 4] rfl)
                · refine lv_iload C0.1 C0.2.1 dX0_whose_68 (lv_at hl 4 rfl) ?_
                  refine lv_istore_n (lv' := [(3, .int (nI i)), (0, .ref (ad 0)), (1, .int (nI j)), (2, .ref (ad (100 + j))), (4, .int (nI i))]) C0.1 C0.2.1 dX0_whose_70 rfl hl (by decide) rfl (fun ls hl => ?_)
                  exact J _ (by rw [who_t c_25 ho (Int64.not_le.mp (fun z => c_65 ((lg_cmp_ge _ _).mpr z)))]; exact lv_sub hl [1, 2, 3, 0, 4] rfl)
  · refine at_pc 79 rfl ?_
    obtain ⟨rfl, hk0⟩ := hK
    refine lv_astore_n (lv' := [(2, .ref q2), (0, .ref (ad 0)), (1, .int p0)]) C0.1 C0.2.1 dX0_whose_79 rfl hl (by decide) rfl (fun ls hl => ?_)
    refine lv_aload_n C0.1 C0.2.1 dX0_whose_80 rfl (lv_at hl 1 rfl) ?_
    refine lv_aload_n C0.1 C0.2.1 dX0_whose_81 rfl (lv_at hl 0 rfl) ?_
    refine x_egetN C0 hG hM 0 rfl rfl in_X6 6 (by decide) rfl (hG.2.1.f 4 rfl) dX0_whose_82 ?_
    have hM : XF D A dA ad X [] H := hM.tail
    refine x_ki (va_runV (b := (ad 0)) (As := [.int (-(nI (lackN X p0)))]) (rest := []) C0 (xx_refuse l D dA ad X ([]) _ (lackN X p0) (lackN_lt X p0)) (cwV 1 C0.2.2.2.2 (lw_V q195 q197 qs0 q39 q198) rfl rfl rfl hdx_X0_refuse ⟨(Nat.le_of_ble_eq_true rfl), (Nat.le_of_ble_eq_true rfl)⟩) (x_preV hG hM hS 0 (xw_0 dA ad _ _) rfl rfl) rfl rfl hl.1 rfl (lv_room (Nat.le_of_ble_eq_true rfl)) dX0_whose_85 ⟨(Nat.le_of_ble_eq_true rfl), (Nat.le_of_ble_eq_true rfl)⟩) hG hM hS (fun r u H locs hr hM hS => ?_)
    obtain ⟨rfl, rfl⟩ := hr
    have hM : XF D A dA ad (refS X (lackN X p0)) ([]) H := hM
    exact x_iretS C0 hr hlk hM hS ⟨PB.of (onCam_l hk0), (XS.up hX.xs 22 _ _ rfl), rfl, rfl⟩ dX0_whose_88 (Nat.le_of_ble_eq_true rfl) (Nat.le_of_ble_eq_true rfl)
