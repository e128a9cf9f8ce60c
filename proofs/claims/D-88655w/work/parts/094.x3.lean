set_option maxRecDepth 100000
set_option linter.unusedVariables false
theorem hdx_X0_length : yX0_length.cls = RX0 ∧ yX0_length.cls ≠ "java/lang/invoke/MethodHandle" ∧ yX0_length.cls ≠ "java/lang/invoke/VarHandle" ∧ (parseMethodDescriptor yX0_length.desc).map (fun d => d.parameters.length) = some 1 := by decide +kernel
set_option maxHeartbeats 4000000 in
theorem xx_length (l : Launch) (D : va_G) (dA : Nat → ClassId) (ad : Nat → Nat) (X : St) (L : Ex) (sz : Nat) (p0 : Int32) (hX : XOk X) : xCi l yX0_length cX0_length 5 (some .int) { frames := 1, cells := 100, slots := 1000, locals := 22 } D dA ad X ([]) sz [.ref (ad 0), .int p0] 100 1000 (fun r u => PX (sp_length X p0) ad r u) := by
  refine x_hI (by decide) (Nat.le_of_ble_eq_true rfl) ?_
  intro A p e s m below meth cd ls C0 hr hlk hnm hG hM hS hl
  have hl : lv_has ls 5 [(0, .ref (ad 0)), (1, .int p0)] := hl
  have hO := hX.ok
  have hl2 := hO.len2
  have hl16 := hO.len16
  have hr16 := rl16 hX
  have hrl := hX.rl
  have hp12 := hO.pg12
  refine lv_iload_n C0.1 C0.2.1 dX0_length_0 rfl (lv_at hl 1 rfl) ?_
  refine lv_iconst (v := 2) C0.1 C0.2.1 dX0_length_1 (by decide) ?_
  refine lv_bipush (v := 16) C0.1 C0.2.1 dX0_length_2 (by decide) ?_
  refine st_call C0 (xx_within l p0 2 16) 3 (lw_S q192 q193 q39 q194) rfl rfl hdx_X0_within ⟨(Nat.le_of_ble_eq_true rfl), (Nat.le_of_ble_eq_true rfl)⟩ rfl hl.1 rfl (Nat.le_of_ble_eq_true rfl) dX0_length_4 ⟨(Nat.le_of_ble_eq_true rfl), (Nat.le_of_ble_eq_true rfl)⟩ (fun r hr => ?_)
  subst hr
  refine lv_istore_n (lv' := [(2, .int (-(nI (wthF p0 2 16)))), (0, .ref (ad 0)), (1, .int p0)]) C0.1 C0.2.1 dX0_length_7 rfl hl (by decide) rfl (fun ls hl => ?_)
  refine lv_iload_n C0.1 C0.2.1 dX0_length_8 rfl (lv_at hl 0 rfl) ?_
  refine lv_if_eq (tgt := 18) C0.1 C0.2.1 dX0_length_9 (by decide) (fun c_9 => ?_) (fun c_9 => ?_)
  · have hw := wth_0 c_9
    refine lv_aload_n C0.1 C0.2.1 dX0_length_18 rfl (lv_at hl 1 rfl) ?_
    refine x_geti C0 hG hM 1 0 (by decide) rfl rfl q114 dX0_length_19 ?_
    refine lv_istore_n (lv' := [(3, .int (X 0 0)), (2, .int (-(nI (wthF p0 2 16)))), (0, .ref (ad 0)), (1, .int p0)]) C0.1 C0.2.1 dX0_length_22 rfl hl (by decide) rfl (fun ls hl => ?_)
    refine lv_aload_n C0.1 C0.2.1 dX0_length_23 rfl (lv_at hl 2 rfl) ?_
    refine lv_iload_n C0.1 C0.2.1 dX0_length_24 rfl (lv_at hl 3 rfl) ?_
    refine x_put C0 hG hM hS 1 0 (by decide) rfl rfl q114 rfl rfl dX0_length_25 (fun H locs hM hS => ?_)
    refine lv_iconst (v := 0) C0.1 C0.2.1 dX0_length_28 (by decide) ?_
    refine lv_istore (lv' := [(4, .int 0), (3, .int (X 0 0)), (2, .int (-(nI (wthF p0 2 16)))), (0, .ref (ad 0)), (1, .int p0)]) C0.1 C0.2.1 dX0_length_29 hl (by decide) rfl (fun ls hl => ?_)
    refine W_loop 12 (fun i H locs ls => XF D A dA ad (clrT (up2 X 0 0 p0) i) ([]) H ∧ va_S A s.heap H locs ∧ lv_has ls 5 [(0, .ref (ad 0)), (1, .int p0), (3, .int (X 0 0)), (4, .int (nI i))]) 31 ?_ ?_ 0 _ _ ls (Nat.zero_le _) ⟨hM, hS, lv_sub hl [3, 4, 1, 0] rfl⟩
    · intro H locs ls ⟨hM, hS, hl⟩
      refine lv_iload C0.1 C0.2.1 dX0_length_31 (lv_at hl 3 rfl) ?_
      refine lv_bipush (v := 12) C0.1 C0.2.1 dX0_length_33 (by decide) ?_
      refine lv_icmp_ge (tgt := 52) C0.1 C0.2.1 dX0_length_35 (by decide) (fun c_35 => ?_) (fun c_35 => ?_)
      · have n_35 : 12 ≤ 12 := (nI_leI (a := 12) (b := 12) (by omega) (by omega)).mp c_35
        refine lv_aload_n C0.1 C0.2.1 dX0_length_52 rfl (lv_at hl 0 rfl) ?_
        refine x_geta C0 hG hM 8 5 (by decide) rfl rfl q126 dX0_length_53 ?_
        refine x_kv (va_runV (b := (ad 5)) (As := []) (rest := []) C0 (x2_clear5 l D dA ad (clrT (up2 X 0 0 p0) 12) ([]) _ ) (cwV 0 C0.2.2.2.2 (lw_V q199 q200 q201 q41 q202) rfl rfl rfl hdx_X2_clear_5 ⟨(Nat.le_of_ble_eq_true rfl), (Nat.le_of_ble_eq_true rfl)⟩) (x_preV hG hM hS 5 (xw_5 dA ad _ _) rfl rfl) rfl rfl hl.1 rfl (lv_room (Nat.le_of_ble_eq_true rfl)) dX0_length_56 ⟨(Nat.le_of_ble_eq_true rfl), (Nat.le_of_ble_eq_true rfl)⟩) hG hM hS (fun u H locs hr hM hS => ?_)
        subst hr
        have hM : XF D A dA ad (clrA (clrT (up2 X 0 0 p0) 12) 23 1200) ([]) H := hM
        refine lv_iload_n C0.1 C0.2.1 dX0_length_59 rfl (lv_at hl 2 rfl) ?_
        have hM : XF D A dA ad (up2 (clrA (clrP (clrT (up2 X 0 0 p0) 12) 1200) 23 1200) 0 26 p0) ([]) H := by
          exact len_M _ hM
        exact x_iretS C0 hr hlk hM hS ⟨PB.sh (lim_0 hw) (len_fin _), (len_xs _), rfl, rfl⟩ dX0_length_60 (Nat.le_of_ble_eq_true rfl) (Nat.le_of_ble_eq_true rfl)
      · have n_35 : ¬ 12 ≤ 12 := fun z => c_35 ((nI_leI (a := 12) (b := 12) (by omega) (by omega)).mpr z)
        omega
    · intro i H locs ls hi ⟨hM, hS, hl⟩ K31
      refine lv_iload C0.1 C0.2.1 dX0_length_31 (lv_at hl 3 rfl) ?_
      refine lv_bipush (v := 12) C0.1 C0.2.1 dX0_length_33 (by decide) ?_
      refine lv_icmp_ge (tgt := 52) C0.1 C0.2.1 dX0_length_35 (by decide) (fun c_35 => ?_) (fun c_35 => ?_)
      · have n_35 : 12 ≤ i := (nI_leI (a := 12) (b := i) (by omega) (by omega)).mp c_35
        omega
      · have n_35 : ¬ 12 ≤ i := fun z => c_35 ((nI_leI (a := 12) (b := i) (by omega) (by omega)).mpr z)
        refine lv_aload_n C0.1 C0.2.1 dX0_length_38 rfl (lv_at hl 0 rfl) ?_
        refine x_geta C0 hG hM 0 1 (by decide) rfl rfl q112 dX0_length_39 ?_
        refine lv_iload C0.1 C0.2.1 dX0_length_42 (lv_at hl 3 rfl) ?_
        refine lv_null C0.1 C0.2.1 dX0_length_44 ?_
        refine x_camP C0 hG hM hS i rfl (by omega) dX0_length_45 (fun H locs hM hS => ?_)
        refine lv_iinc (v := nI (i + 1)) (lv' := [(4, .int (nI (i + 1))), (0, .ref (ad 0)), (1, .int p0), (3, .int (X 0 0))]) C0.1 C0.2.1 dX0_length_46 hl (k := 3) rfl (nI_1 i) (by decide) rfl (fun ls hl => ?_)
        refine lv_goto (tgt := 31) C0.1 C0.2.1 dX0_length_49 (by decide) ?_
        exact K31 _ _ ls ⟨hM, hS, lv_sub hl [1, 2, 3, 0] rfl⟩
  · have hw := wth_1 c_9
    refine lv_aload_n C0.1 C0.2.1 dX0_length_12 rfl (lv_at hl 1 rfl) ?_
    refine lv_iload_n C0.1 C0.2.1 dX0_length_13 rfl (lv_at hl 0 rfl) ?_
    refine x_ki (va_runV (b := (ad 0)) (As := [.int (-(nI (wthF p0 2 16)))]) (rest := []) C0 (xx_refuse l D dA ad X ([]) _ (wthF p0 2 16) (wth_lt _ _ _)) (cwV 1 C0.2.2.2.2 (lw_V q195 q197 qs0 q39 q198) rfl rfl rfl hdx_X0_refuse ⟨(Nat.le_of_ble_eq_true rfl), (Nat.le_of_ble_eq_true rfl)⟩) (x_preV hG hM hS 0 (xw_0 dA ad _ _) rfl rfl) rfl rfl hl.1 rfl (lv_room (Nat.le_of_ble_eq_true rfl)) dX0_length_14 ⟨(Nat.le_of_ble_eq_true rfl), (Nat.le_of_ble_eq_true rfl)⟩) hG hM hS (fun r u H locs hr hM hS => ?_)
    obtain ⟨rfl, rfl⟩ := hr
    have hM : XF D A dA ad (refS X (wthF p0 2 16)) ([]) H := hM
    exact x_iretS C0 hr hlk hM hS ⟨PB.of (lim_1 hw), (XS.up hX.xs 22 _ _ rfl), rfl, rfl⟩ dX0_length_17 (Nat.le_of_ble_eq_true rfl) (Nat.le_of_ble_eq_true rfl)
theorem hdx_X0_blank : yX0_blank.cls = RX0 ∧ yX0_blank.cls ≠ "java/lang/invoke/MethodHandle" ∧ yX0_blank.cls ≠ "java/lang/invoke/VarHandle" ∧ (parseMethodDescriptor yX0_blank.desc).map (fun d => d.parameters.length) = some 1 := by decide +kernel
set_option maxHeartbeats 4000000 in
theorem xx_blank (l : Launch) (D : va_G) (dA : Nat → ClassId) (ad : Nat → Nat) (X : St) (L : Ex) (sz : Nat) (p0 : Int32) (hX : XOk X) : xCi l yX0_blank cX0_blank 3 (some .int) { frames := 2, cells := 100, slots := 1000, locals := 41 } D dA ad X ([]) sz [.ref (ad 0), .int p0] 100 1000 (fun r u => PX (sp_blank X p0) ad r u) := by
  refine x_hI (by decide) (Nat.le_of_ble_eq_true rfl) ?_
  intro A p e s m below meth cd ls C0 hr hlk hnm hG hM hS hl
  have hl : lv_has ls 3 [(0, .ref (ad 0)), (1, .int p0)] := hl
  have hO := hX.ok
  have hl2 := hO.len2
  have hl16 := hO.len16
  have hr16 := rl16 hX
  have hrl := hX.rl
  have hp12 := hO.pg12
  refine lv_iload_n C0.1 C0.2.1 dX0_blank_0 rfl (lv_at hl 1 rfl) ?_
  refine lv_bipush (v := 12) C0.1 C0.2.1 dX0_blank_1 (by decide) ?_
  refine st_call C0 (xx_isIn l p0 12) 2 (lw_S q207 q208 q39 q209) rfl rfl hdx_X0_isIn ⟨(Nat.le_of_ble_eq_true rfl), (Nat.le_of_ble_eq_true rfl)⟩ rfl hl.1 rfl (Nat.le_of_ble_eq_true rfl) dX0_blank_3 ⟨(Nat.le_of_ble_eq_true rfl), (Nat.le_of_ble_eq_true rfl)⟩ (fun r hr => ?_)
  subst hr
  refine tp_eq (y := (if (inR p0 12).isSome = true then 1 else 0)) (b01_c (inR_lt (n := 12) (by decide))) ?_
  refine lv_if_ne (tgt := 15) C0.1 C0.2.1 dX0_blank_6 (by decide) (fun c_6 => ?_) (fun c_6 => ?_)
  · have c_6 : (inR p0 12).isSome = true := b01_1.mp c_6
    obtain ⟨j, hj, bj, rfl⟩ := inR_get c_6 (by decide)
    refine jn_i 29 [] (fun v => v = (if ¬ X 1 j = 0 then 1 else 0)) (fun v hv => ?_) (fun J => ?_)
    · subst hv
      refine lv_istore_n (lv' := [(2, .int (if ¬ X 1 j = 0 then 1 else 0)), (0, .ref (ad 0)), (1, .int (nI j))]) C0.1 C0.2.1 dX0_blank_29 rfl hl (by decide) rfl (fun ls hl => ?_)
      refine lv_aload_n C0.1 C0.2.1 dX0_blank_30 rfl (lv_at hl 1 rfl) ?_
      refine x_geta C0 hG hM 0 1 (by decide) rfl rfl q112 dX0_blank_31 ?_
      refine lv_iload_n C0.1 C0.2.1 dX0_blank_34 rfl (lv_at hl 2 rfl) ?_
      refine x_newC (ci := 5) C0 hG hM hS [.null] rfl in_X5 tyX5 tyX5_ok q63 q210 q44 (by decide) (Nat.le_of_ble_eq_true rfl) (Nat.le_of_ble_eq_true rfl) dX0_blank_35 (fun q35 H hM hS => ?_)
      refine lv_dup C0.1 C0.2.1 dX0_blank_38 rfl ?_
      refine lv_aload_n C0.1 C0.2.1 dX0_blank_39 rfl (lv_at hl 1 rfl) ?_
      refine x_geti C0 hG hM 1 0 (by decide) rfl rfl q114 dX0_blank_40 ?_
      refine tp_eq (y := nI (ln X)) (hO.len) ?_
      refine x_kv (va_runI (b := q35) (As := [.int (nI (ln X))]) (rest := [.ref q35, .int (nI j), .ref (ad 1)]) C0 (x5_init l D dA ad X ([]) _ q35 (ln X) (by omega)) (cwI 1 C0.2.2.2.2 (lw_meth q213) rfl rfl rfl (C0.2.2.2.2 _ q44) (C0.2.2.2.2 _ q211) (C0.2.2.2.2 _ q212) rfl hdx_X5_init ⟨(Nat.le_of_ble_eq_true rfl), (Nat.le_of_ble_eq_true rfl)⟩) (x_preS hG hM hS) rfl rfl hl.1 rfl (lv_room (Nat.le_of_ble_eq_true rfl)) dX0_blank_43 ⟨(Nat.le_of_ble_eq_true rfl), (Nat.le_of_ble_eq_true rfl)⟩) hG hM hS (fun u H locs hr hM hS => ?_)
      obtain ⟨r43, rfl⟩ := hr
      have hM : XF D A dA ad X ([(r43, .inl (dA 0, ln X, .inl (fun _ => 0))), (q35, .inr (5, [.ref r43]))]) H := hM
      refine x_camNew C0 hG hM hS j (clrC (up2 X 1 j 1) j 16) rfl bj hrl.symm (by omega) (by rw [clrC_at, if_neg (by omega), up2_self]; decide) (fun a i h1 h2 => by rw [clrC_at, if_neg (by omega), up2_ne _ _ (by omega)]) (fun t ht => by rw [clrC_at, if_pos ⟨rfl, by omega, by omega⟩]) dX0_blank_46 (fun H locs hM hS => ?_)
      refine lv_iload_n C0.1 C0.2.1 dX0_blank_47 rfl (lv_at hl 0 rfl) ?_
      refine lv_if_eq (tgt := 55) C0.1 C0.2.1 dX0_blank_48 (by decide) (fun c_48 => ?_) (fun c_48 => ?_)
      · have c_48 : ¬ (¬ X 1 j = 0) := b01_0.mp c_48
        refine lv_iconst (v := 1) C0.1 C0.2.1 dX0_blank_55 (by decide) ?_
        exact x_iretS C0 hr hlk hM hS ⟨PB.of (by rw [blank_some hj, if_pos (Decidable.not_not.mp c_48)]), (blank_xs hX.xs j), (by dsimp only; rw [va_up_ne _ _ (by omega), va_up_ne _ _ (by omega)]), rfl⟩ dX0_blank_56 (Nat.le_of_ble_eq_true rfl) (Nat.le_of_ble_eq_true rfl)
      · have c_48 : ¬ X 1 j = 0 := b01_1.mp c_48
        refine lv_iconst (v := 0) C0.1 C0.2.1 dX0_blank_51 (by decide) ?_
        refine lv_goto (tgt := 56) C0.1 C0.2.1 dX0_blank_52 (by decide) ?_
        exact x_iretS C0 hr hlk hM hS ⟨PB.of (by rw [blank_some hj, if_neg c_48]), (blank_xs hX.xs j), (by dsimp only; rw [va_up_ne _ _ (by omega), va_up_ne _ _ (by omega)]), rfl⟩ dX0_blank_56 (Nat.le_of_ble_eq_true rfl) (Nat.le_of_ble_eq_true rfl)
    · refine lv_aload_n C0.1 C0.2.1 dX0_blank_15 rfl (lv_at hl 0 rfl) ?_
      refine x_geta C0 hG hM 0 1 (by decide) rfl rfl q112 dX0_blank_16 ?_
      refine lv_iload_n C0.1 C0.2.1 dX0_blank_19 rfl (lv_at hl 1 rfl) ?_
      by_cases hc_20 : X 1 j = 0
      · refine x_camN C0 hG hM j hc_20 rfl (by omega) dX0_blank_20 ?_
        refine lv_ifnullN (tgt := 28) C0.1 C0.2.1 dX0_blank_21 (by decide) ?_
        refine lv_iconst (v := 0) C0.1 C0.2.1 dX0_blank_28 (by decide) ?_
        exact J _ (b0_of (fun z => z hc_20))
      · refine x_camS C0 hG hM j hc_20 rfl (by omega) dX0_blank_20 ?_
        refine lv_ifnull C0.1 C0.2.1 dX0_blank_21 ?_
        refine lv_iconst (v := 1) C0.1 C0.2.1 dX0_blank_24 (by decide) ?_
        refine lv_goto (tgt := 29) C0.1 C0.2.1 dX0_blank_25 (by decide) ?_
        exact J _ (b1_of hc_20)
  · have c_6 : ¬ ((inR p0 12).isSome = true) := b01_0.mp c_6
    refine lv_aload_n C0.1 C0.2.1 dX0_blank_9 rfl (lv_at hl 0 rfl) ?_
    refine lv_iconst (v := (-1)) C0.1 C0.2.1 dX0_blank_10 (by decide) ?_
    refine x_ki (va_runV (b := (ad 0)) (As := [.int (-1)]) (rest := []) C0 (xx_refuse l D dA ad X ([]) _ 1 (by omega)) (cwV 1 C0.2.2.2.2 (lw_V q195 q197 qs0 q39 q198) rfl rfl rfl hdx_X0_refuse ⟨(Nat.le_of_ble_eq_true rfl), (Nat.le_of_ble_eq_true rfl)⟩) (x_preV hG hM hS 0 (xw_0 dA ad _ _) rfl rfl) rfl rfl hl.1 rfl (lv_room (Nat.le_of_ble_eq_true rfl)) dX0_blank_11 ⟨(Nat.le_of_ble_eq_true rfl), (Nat.le_of_ble_eq_true rfl)⟩) hG hM hS (fun r u H locs hr hM hS => ?_)
    obtain ⟨rfl, rfl⟩ := hr
    have hM : XF D A dA ad (refS X 1) ([]) H := hM
    exact x_iretS C0 hr hlk hM hS ⟨PB.of (by unfold sp_blank; rw [inR_none c_6]; rfl), (XS.up hX.xs 22 _ _ rfl), rfl, rfl⟩ dX0_blank_14 (Nat.le_of_ble_eq_true rfl) (Nat.le_of_ble_eq_true rfl)
theorem hdx_X0_letter : yX0_letter.cls = RX0 ∧ yX0_letter.cls ≠ "java/lang/invoke/MethodHandle" ∧ yX0_letter.cls ≠ "java/lang/invoke/VarHandle" ∧ (parseMethodDescriptor yX0_letter.desc).map (fun d => d.parameters.length) = some 4 := by decide +kernel
set_option maxHeartbeats 4000000 in
theorem xx_letter (l : Launch) (D : va_G) (dA : Nat → ClassId) (ad : Nat → Nat) (X : St) (L : Ex) (sz : Nat) (p0 p1 p2 p3 : Int32) (hX : XOk X) : xCi l yX0_letter cX0_letter 5 (some .int) { frames := 1, cells := 100, slots := 1000, locals := 21 } D dA ad X ([]) sz [.ref (ad 0), .int p0, .int p1, .int p2, .int p3] 100 1000 (fun r u => PX (sp_letter X p0 p1 p2 p3) ad r u) := by
  refine x_hI (by decide) (Nat.le_of_ble_eq_true rfl) ?_
  intro A p e s m below meth cd ls C0 hr hlk hnm hG hM hS hl
  have hl : lv_has ls 5 [(0, .ref (ad 0)), (1, .int p0), (2, .int p1), (3, .int p2), (4, .int p3)] := hl
  have hO := hX.ok
  have hl2 := hO.len2
  have hl16 := hO.len16
  have hr16 := rl16 hX
  have hrl := hX.rl
  have hp12 := hO.pg12
  refine lv_iload_n C0.1 C0.2.1 dX0_letter_0 rfl (lv_at hl 1 rfl) ?_
  refine lv_bipush (v := 10) C0.1 C0.2.1 dX0_letter_1 (by decide) ?_
  refine st_call C0 (xx_isIn l p0 10) 2 (lw_S q207 q208 q39 q209) rfl rfl hdx_X0_isIn ⟨(Nat.le_of_ble_eq_true rfl), (Nat.le_of_ble_eq_true rfl)⟩ rfl hl.1 rfl (Nat.le_of_ble_eq_true rfl) dX0_letter_3 ⟨(Nat.le_of_ble_eq_true rfl), (Nat.le_of_ble_eq_true rfl)⟩ (fun r hr => ?_)
  subst hr
  refine tp_eq (y := (if (inR p0 10).isSome = true then 1 else 0)) (b01_c (inR_lt (n := 10) (by decide))) ?_
  refine lv_if_eq (tgt := 37) C0.1 C0.2.1 dX0_letter_6 (by decide) (fun c_6 => ?_) (fun c_6 => ?_)
  · have c_6 : ¬ ((inR p0 10).isSome = true) := b01_0.mp c_6
    refine lv_aload_n C0.1 C0.2.1 dX0_letter_37 rfl (lv_at hl 0 rfl) ?_
    refine lv_iconst (v := (-1)) C0.1 C0.2.1 dX0_letter_38 (by decide) ?_
    refine x_ki (va_runV (b := (ad 0)) (As := [.int (-1)]) (rest := []) C0 (xx_refuse l D dA ad X ([]) _ 1 (by omega)) (cwV 1 C0.2.2.2.2 (lw_V q195 q197 qs0 q39 q198) rfl rfl rfl hdx_X0_refuse ⟨(Nat.le_of_ble_eq_true rfl), (Nat.le_of_ble_eq_true rfl)⟩) (x_preV hG hM hS 0 (xw_0 dA ad _ _) rfl rfl) rfl rfl hl.1 rfl (lv_room (Nat.le_of_ble_eq_true rfl)) dX0_letter_39 ⟨(Nat.le_of_ble_eq_true rfl), (Nat.le_of_ble_eq_true rfl)⟩) hG hM hS (fun r u H locs hr hM hS => ?_)
    obtain ⟨rfl, rfl⟩ := hr
    have hM : XF D A dA ad (refS X 1) ([]) H := hM
    exact x_iretS C0 hr hlk hM hS ⟨PB.of (letter_1 (inR_none c_6)), (XS.up hX.xs 22 _ _ rfl), rfl, rfl⟩ dX0_letter_42 (Nat.le_of_ble_eq_true rfl) (Nat.le_of_ble_eq_true rfl)
  · have c_6 : (inR p0 10).isSome = true := b01_1.mp c_6
    refine lv_iload_n C0.1 C0.2.1 dX0_letter_9 rfl (lv_at hl 2 rfl) ?_
    refine lv_bipush (v := 12) C0.1 C0.2.1 dX0_letter_10 (by decide) ?_
    refine st_call C0 (xx_isIn l p1 12) 2 (lw_S q207 q208 q39 q209) rfl rfl hdx_X0_isIn ⟨(Nat.le_of_ble_eq_true rfl), (Nat.le_of_ble_eq_true rfl)⟩ rfl hl.1 rfl (Nat.le_of_ble_eq_true rfl) dX0_letter_12 ⟨(Nat.le_of_ble_eq_true rfl), (Nat.le_of_ble_eq_true rfl)⟩ (fun r hr => ?_)
    subst hr
    refine tp_eq (y := (if (inR p1 12).isSome = true then 1 else 0)) (b01_c (inR_lt (n := 12) (by decide))) ?_
    refine lv_if_eq (tgt := 37) C0.1 C0.2.1 dX0_letter_15 (by decide) (fun c_15 => ?_) (fun c_15 => ?_)
    · have c_15 : ¬ ((inR p1 12).isSome = true) := b01_0.mp c_15
      refine lv_aload_n C0.1 C0.2.1 dX0_letter_37 rfl (lv_at hl 0 rfl) ?_
      refine lv_iconst (v := (-1)) C0.1 C0.2.1 dX0_letter_38 (by decide) ?_
      refine x_ki (va_runV (b := (ad 0)) (As := [.int (-1)]) (rest := []) C0 (xx_refuse l D dA ad X ([]) _ 1 (by omega)) (cwV 1 C0.2.2.2.2 (lw_V q195 q197 qs0 q39 q198) rfl rfl rfl hdx_X0_refuse ⟨(Nat.le_of_ble_eq_true rfl), (Nat.le_of_ble_eq_true rfl)⟩) (x_preV hG hM hS 0 (xw_0 dA ad _ _) rfl rfl) rfl rfl hl.1 rfl (lv_room (Nat.le_of_ble_eq_true rfl)) dX0_letter_39 ⟨(Nat.le_of_ble_eq_true rfl), (Nat.le_of_ble_eq_true rfl)⟩) hG hM hS (fun r u H locs hr hM hS => ?_)
      obtain ⟨rfl, rfl⟩ := hr
      have hM : XF D A dA ad (refS X 1) ([]) H := hM
      exact x_iretS C0 hr hlk hM hS ⟨PB.of (letter_2 (inR_none c_15)), (XS.up hX.xs 22 _ _ rfl), rfl, rfl⟩ dX0_letter_42 (Nat.le_of_ble_eq_true rfl) (Nat.le_of_ble_eq_true rfl)
    · have c_15 : (inR p1 12).isSome = true := b01_1.mp c_15
      refine lv_iload_n C0.1 C0.2.1 dX0_letter_18 rfl (lv_at hl 3 rfl) ?_
      refine lv_bipush (v := 12) C0.1 C0.2.1 dX0_letter_19 (by decide) ?_
      refine st_call C0 (xx_isIn l p2 12) 2 (lw_S q207 q208 q39 q209) rfl rfl hdx_X0_isIn ⟨(Nat.le_of_ble_eq_true rfl), (Nat.le_of_ble_eq_true rfl)⟩ rfl hl.1 rfl (Nat.le_of_ble_eq_true rfl) dX0_letter_21 ⟨(Nat.le_of_ble_eq_true rfl), (Nat.le_of_ble_eq_true rfl)⟩ (fun r hr => ?_)
      subst hr
      refine tp_eq (y := (if (inR p2 12).isSome = true then 1 else 0)) (b01_c (inR_lt (n := 12) (by decide))) ?_
      refine lv_if_eq (tgt := 37) C0.1 C0.2.1 dX0_letter_24 (by decide) (fun c_24 => ?_) (fun c_24 => ?_)
      · have c_24 : ¬ ((inR p2 12).isSome = true) := b01_0.mp c_24
        refine lv_aload_n C0.1 C0.2.1 dX0_letter_37 rfl (lv_at hl 0 rfl) ?_
        refine lv_iconst (v := (-1)) C0.1 C0.2.1 dX0_letter_38 (by decide) ?_
        refine x_ki (va_runV (b := (ad 0)) (As := [.int (-1)]) (rest := []) C0 (xx_refuse l D dA ad X ([]) _ 1 (by omega)) (cwV 1 C0.2.2.2.2 (lw_V q195 q197 qs0 q39 q198) rfl rfl rfl hdx_X0_refuse ⟨(Nat.le_of_ble_eq_true rfl), (Nat.le_of_ble_eq_true rfl)⟩) (x_preV hG hM hS 0 (xw_0 dA ad _ _) rfl rfl) rfl rfl hl.1 rfl (lv_room (Nat.le_of_ble_eq_true rfl)) dX0_letter_39 ⟨(Nat.le_of_ble_eq_true rfl), (Nat.le_of_ble_eq_true rfl)⟩) hG hM hS (fun r u H locs hr hM hS => ?_)
        obtain ⟨rfl, rfl⟩ := hr
        have hM : XF D A dA ad (refS X 1) ([]) H := hM
        exact x_iretS C0 hr hlk hM hS ⟨PB.of (letter_3 (inR_none c_24)), (XS.up hX.xs 22 _ _ rfl), rfl, rfl⟩ dX0_letter_42 (Nat.le_of_ble_eq_true rfl) (Nat.le_of_ble_eq_true rfl)
      · have c_24 : (inR p2 12).isSome = true := b01_1.mp c_24
        refine lv_iload C0.1 C0.2.1 dX0_letter_27 (lv_at hl 4 rfl) ?_
        refine lv_bipush (v := 12) C0.1 C0.2.1 dX0_letter_29 (by decide) ?_
        refine st_call C0 (xx_isIn l p3 12) 2 (lw_S q207 q208 q39 q209) rfl rfl hdx_X0_isIn ⟨(Nat.le_of_ble_eq_true rfl), (Nat.le_of_ble_eq_true rfl)⟩ rfl hl.1 rfl (Nat.le_of_ble_eq_true rfl) dX0_letter_31 ⟨(Nat.le_of_ble_eq_true rfl), (Nat.le_of_ble_eq_true rfl)⟩ (fun r hr => ?_)
        subst hr
        refine tp_eq (y := (if (inR p3 12).isSome = true then 1 else 0)) (b01_c (inR_lt (n := 12) (by decide))) ?_
        refine lv_if_ne (tgt := 43) C0.1 C0.2.1 dX0_letter_34 (by decide) (fun c_34 => ?_) (fun c_34 => ?_)
        · have c_34 : (inR p3 12).isSome = true := b01_1.mp c_34
          obtain ⟨x, hx, bx, rfl⟩ := inR_get c_6 (by decide)
          obtain ⟨a, ha, -⟩ := inR_get c_15 (by decide)
          obtain ⟨u, hu, -⟩ := inR_get c_24 (by decide)
          obtain ⟨f, hf, -⟩ := inR_get c_34 (by decide)
          refine lv_aload_n C0.1 C0.2.1 dX0_letter_43 rfl (lv_at hl 0 rfl) ?_
          refine x_geta C0 hG hM 2 3 (by decide) rfl rfl q117 dX0_letter_44 ?_
          refine lv_iload_n C0.1 C0.2.1 dX0_letter_47 rfl (lv_at hl 1 rfl) ?_
          refine x_let C0 hG hM x rfl (by omega) dX0_letter_48 ?_
          refine lv_iload_n C0.1 C0.2.1 dX0_letter_49 rfl (lv_at hl 2 rfl) ?_
          refine x_letp C0 hG hM hS x 0 (by omega) (by decide) (hG.2.1.f 0 rfl) rfl rfl dX0_letter_50 (fun H locs hM hS => ?_)
          refine lv_aload_n C0.1 C0.2.1 dX0_letter_53 rfl (lv_at hl 0 rfl) ?_
          refine x_geta C0 hG hM 2 3 (by decide) rfl rfl q117 dX0_letter_54 ?_
          refine lv_iload_n C0.1 C0.2.1 dX0_letter_57 rfl (lv_at hl 1 rfl) ?_
          refine x_let C0 hG hM x rfl (by omega) dX0_letter_58 ?_
          refine lv_iload_n C0.1 C0.2.1 dX0_letter_59 rfl (lv_at hl 3 rfl) ?_
          refine x_letp C0 hG hM hS x 1 (by omega) (by decide) (hG.2.1.f 1 rfl) rfl rfl dX0_letter_60 (fun H locs hM hS => ?_)
          refine lv_aload_n C0.1 C0.2.1 dX0_letter_63 rfl (lv_at hl 0 rfl) ?_
          refine x_geta C0 hG hM 2 3 (by decide) rfl rfl q117 dX0_letter_64 ?_
          refine lv_iload_n C0.1 C0.2.1 dX0_letter_67 rfl (lv_at hl 1 rfl) ?_
          refine x_let C0 hG hM x rfl (by omega) dX0_letter_68 ?_
          refine lv_iload C0.1 C0.2.1 dX0_letter_69 (lv_at hl 4 rfl) ?_
          refine x_letp C0 hG hM hS x 2 (by omega) (by decide) (hG.2.1.f 2 rfl) rfl rfl dX0_letter_71 (fun H locs hM hS => ?_)
          refine lv_iconst (v := 1) C0.1 C0.2.1 dX0_letter_74 (by decide) ?_
          exact x_iretS C0 hr hlk hM hS ⟨PB.of (letter_some hx ha hu hf), (((hX.xs.up 3 _ _ rfl).up 4 _ _ rfl).up 5 _ _ rfl), rfl, rfl⟩ dX0_letter_75 (Nat.le_of_ble_eq_true rfl) (Nat.le_of_ble_eq_true rfl)
        · have c_34 : ¬ ((inR p3 12).isSome = true) := b01_0.mp c_34
          refine lv_aload_n C0.1 C0.2.1 dX0_letter_37 rfl (lv_at hl 0 rfl) ?_
          refine lv_iconst (v := (-1)) C0.1 C0.2.1 dX0_letter_38 (by decide) ?_
          refine x_ki (va_runV (b := (ad 0)) (As := [.int (-1)]) (rest := []) C0 (xx_refuse l D dA ad X ([]) _ 1 (by omega)) (cwV 1 C0.2.2.2.2 (lw_V q195 q197 qs0 q39 q198) rfl rfl rfl hdx_X0_refuse ⟨(Nat.le_of_ble_eq_true rfl), (Nat.le_of_ble_eq_true rfl)⟩) (x_preV hG hM hS 0 (xw_0 dA ad _ _) rfl rfl) rfl rfl hl.1 rfl (lv_room (Nat.le_of_ble_eq_true rfl)) dX0_letter_39 ⟨(Nat.le_of_ble_eq_true rfl), (Nat.le_of_ble_eq_true rfl)⟩) hG hM hS (fun r u H locs hr hM hS => ?_)
          obtain ⟨rfl, rfl⟩ := hr
          have hM : XF D A dA ad (refS X 1) ([]) H := hM
          exact x_iretS C0 hr hlk hM hS ⟨PB.of (letter_4 (inR_none c_34)), (XS.up hX.xs 22 _ _ rfl), rfl, rfl⟩ dX0_letter_42 (Nat.le_of_ble_eq_true rfl) (Nat.le_of_ble_eq_true rfl)
theorem hdx_X0_isCut : yX0_isCut.cls = RX0 ∧ yX0_isCut.cls ≠ "java/lang/invoke/MethodHandle" ∧ yX0_isCut.cls ≠ "java/lang/invoke/VarHandle" ∧ (parseMethodDescriptor yX0_isCut.desc).map (fun d => d.parameters.length) = some 1 := by decide +kernel
set_option maxHeartbeats 4000000 in
theorem xx_isCut (l : Launch) (D : va_G) (dA : Nat → ClassId) (ad : Nat → Nat) (X : St) (L : Ex) (sz : Nat) (p0 : Int32) (hX : XOk X) : xCi l yX0_isCut cX0_isCut 2 (some .int) { frames := 1, cells := 100, slots := 1000, locals := 21 } D dA ad X ([]) sz [.ref (ad 0), .int p0] 100 1000 (fun r u => PX (sp_isCut X p0) ad r u) := by
  refine x_hI (by decide) (Nat.le_of_ble_eq_true rfl) ?_
  intro A p e s m below meth cd ls C0 hr hlk hnm hG hM hS hl
  have hl : lv_has ls 2 [(0, .ref (ad 0)), (1, .int p0)] := hl
  have hO := hX.ok
  have hl2 := hO.len2
  have hl16 := hO.len16
  have hr16 := rl16 hX
  have hrl := hX.rl
  have hp12 := hO.pg12
  refine lv_iload_n C0.1 C0.2.1 dX0_isCut_0 rfl (lv_at hl 1 rfl) ?_
  refine lv_bipush (v := 10) C0.1 C0.2.1 dX0_isCut_1 (by decide) ?_
  refine st_call C0 (xx_isIn l p0 10) 2 (lw_S q207 q208 q39 q209) rfl rfl hdx_X0_isIn ⟨(Nat.le_of_ble_eq_true rfl), (Nat.le_of_ble_eq_true rfl)⟩ rfl hl.1 rfl (Nat.le_of_ble_eq_true rfl) dX0_isCut_3 ⟨(Nat.le_of_ble_eq_true rfl), (Nat.le_of_ble_eq_true rfl)⟩ (fun r hr => ?_)
  subst hr
  refine tp_eq (y := (if (inR p0 10).isSome = true then 1 else 0)) (b01_c (inR_lt (n := 10) (by decide))) ?_
  refine lv_if_eq (tgt := 30) C0.1 C0.2.1 dX0_isCut_6 (by decide) (fun c_6 => ?_) (fun c_6 => ?_)
  · have c_6 : ¬ ((inR p0 10).isSome = true) := b01_0.mp c_6
    refine lv_aload_n C0.1 C0.2.1 dX0_isCut_30 rfl (lv_at hl 0 rfl) ?_
    refine lv_iconst (v := (-1)) C0.1 C0.2.1 dX0_isCut_31 (by decide) ?_
    refine x_ki (va_runV (b := (ad 0)) (As := [.int (-1)]) (rest := []) C0 (xx_refuse l D dA ad X ([]) _ 1 (by omega)) (cwV 1 C0.2.2.2.2 (lw_V q195 q197 qs0 q39 q198) rfl rfl rfl hdx_X0_refuse ⟨(Nat.le_of_ble_eq_true rfl), (Nat.le_of_ble_eq_true rfl)⟩) (x_preV hG hM hS 0 (xw_0 dA ad _ _) rfl rfl) rfl rfl hl.1 rfl (lv_room (Nat.le_of_ble_eq_true rfl)) dX0_isCut_32 ⟨(Nat.le_of_ble_eq_true rfl), (Nat.le_of_ble_eq_true rfl)⟩) hG hM hS (fun r u H locs hr hM hS => ?_)
    obtain ⟨rfl, rfl⟩ := hr
    have hM : XF D A dA ad (refS X 1) ([]) H := hM
    exact x_iretS C0 hr hlk hM hS ⟨PB.of (by unfold sp_isCut; rw [inR_none c_6]; rfl), (XS.up hX.xs 22 _ _ rfl), rfl, rfl⟩ dX0_isCut_35 (Nat.le_of_ble_eq_true rfl) (Nat.le_of_ble_eq_true rfl)
  · have c_6 : (inR p0 10).isSome = true := b01_1.mp c_6
    obtain ⟨j, hj, bj, rfl⟩ := inR_get c_6 (by decide)
    refine lv_aload_n C0.1 C0.2.1 dX0_isCut_9 rfl (lv_at hl 0 rfl) ?_
    refine lv_aload_n C0.1 C0.2.1 dX0_isCut_10 rfl (lv_at hl 0 rfl) ?_
    refine x_geta C0 hG hM 2 3 (by decide) rfl rfl q117 dX0_isCut_11 ?_
    refine lv_iload_n C0.1 C0.2.1 dX0_isCut_14 rfl (lv_at hl 1 rfl) ?_
    refine x_let C0 hG hM j rfl (by omega) dX0_isCut_15 ?_
    refine fw_cp (va_runV (b := (ad 0)) (As := [.ref (ad (60 + j))]) (rest := []) C0 (xx_isCutLetter l D dA ad X ([]) _ j hO (by omega)) (cwV 1 C0.2.2.2.2 (lw_V q361 q363 qs6 q39 q364) rfl rfl rfl hdx_X0_isCutLetter ⟨(Nat.le_of_ble_eq_true rfl), (Nat.le_of_ble_eq_true rfl)⟩) (x_preV hG hM hS 0 (xw_0 dA ad _ _) rfl rfl) rfl rfl hl.1 rfl (lv_room (Nat.le_of_ble_eq_true rfl)) dX0_isCut_16 ⟨(Nat.le_of_ble_eq_true rfl), (Nat.le_of_ble_eq_true rfl)⟩) (fun r hr => ?_)
    subst hr
    refine lv_if_eq (tgt := 26) C0.1 C0.2.1 dX0_isCut_19 (by decide) (fun c_19 => ?_) (fun c_19 => ?_)
    · have c_19 : ¬ (isCutL X j = true) := b01_0.mp c_19
      refine lv_iconst (v := 0) C0.1 C0.2.1 dX0_isCut_26 (by decide) ?_
      refine lv_goto (tgt := 35) C0.1 C0.2.1 dX0_isCut_27 (by decide) ?_
      exact x_iretS C0 hr hlk hM hS ⟨PB.of (by unfold sp_isCut; rw [hj]; (try dsimp only); rw [if_neg c_19]), hX.xs, rfl, rfl⟩ dX0_isCut_35 (Nat.le_of_ble_eq_true rfl) (Nat.le_of_ble_eq_true rfl)
    · have c_19 : isCutL X j = true := b01_1.mp c_19
      refine lv_iconst (v := 1) C0.1 C0.2.1 dX0_isCut_22 (by decide) ?_
      refine lv_goto (tgt := 35) C0.1 C0.2.1 dX0_isCut_23 (by decide) ?_
      exact x_iretS C0 hr hlk hM hS ⟨PB.of (by unfold sp_isCut; rw [hj]; (try dsimp only); rw [if_pos c_19]), hX.xs, rfl, rfl⟩ dX0_isCut_35 (Nat.le_of_ble_eq_true rfl) (Nat.le_of_ble_eq_true rfl)
theorem hdx_X0_peg : yX0_peg.cls = RX0 ∧ yX0_peg.cls ≠ "java/lang/invoke/MethodHandle" ∧ yX0_peg.cls ≠ "java/lang/invoke/VarHandle" ∧ (parseMethodDescriptor yX0_peg.desc).map (fun d => d.parameters.length) = some 1 := by decide +kernel
set_option maxHeartbeats 4000000 in
theorem xx_peg (l : Launch) (D : va_G) (dA : Nat → ClassId) (ad : Nat → Nat) (X : St) (L : Ex) (sz : Nat) (p0 : Int32) (hX : XOk X) : xCi l yX0_peg cX0_peg 2 (some .int) { frames := 1, cells := 100, slots := 1000, locals := 21 } D dA ad X ([]) sz [.ref (ad 0), .int p0] 100 1000 (fun r u => PX (sp_peg X p0) ad r u) := by
  refine x_hI (by decide) (Nat.le_of_ble_eq_true rfl) ?_
  intro A p e s m below meth cd ls C0 hr hlk hnm hG hM hS hl
  have hl : lv_has ls 2 [(0, .ref (ad 0)), (1, .int p0)] := hl
  have hO := hX.ok
  have hl2 := hO.len2
  have hl16 := hO.len16
  have hr16 := rl16 hX
  have hrl := hX.rl
  have hp12 := hO.pg12
  refine lv_iload_n C0.1 C0.2.1 dX0_peg_0 rfl (lv_at hl 1 rfl) ?_
  refine lv_bipush (v := 10) C0.1 C0.2.1 dX0_peg_1 (by decide) ?_
  refine st_call C0 (xx_isIn l p0 10) 2 (lw_S q207 q208 q39 q209) rfl rfl hdx_X0_isIn ⟨(Nat.le_of_ble_eq_true rfl), (Nat.le_of_ble_eq_true rfl)⟩ rfl hl.1 rfl (Nat.le_of_ble_eq_true rfl) dX0_peg_3 ⟨(Nat.le_of_ble_eq_true rfl), (Nat.le_of_ble_eq_true rfl)⟩ (fun r hr => ?_)
  subst hr
  refine tp_eq (y := (if (inR p0 10).isSome = true then 1 else 0)) (b01_c (inR_lt (n := 10) (by decide))) ?_
  refine lv_if_ne (tgt := 15) C0.1 C0.2.1 dX0_peg_6 (by decide) (fun c_6 => ?_) (fun c_6 => ?_)
  · have c_6 : (inR p0 10).isSome = true := b01_1.mp c_6
    obtain ⟨j, hj, bj, rfl⟩ := inR_get c_6 (by decide)
    refine lv_aload_n C0.1 C0.2.1 dX0_peg_15 rfl (lv_at hl 0 rfl) ?_
    refine x_geti C0 hG hM 4 6 (by decide) rfl rfl q120 dX0_peg_16 ?_
    refine tp_eq (y := nI (pg X)) (hO.pgE) ?_
    refine lv_bipush (v := 12) C0.1 C0.2.1 dX0_peg_19 (by decide) ?_
    refine lv_icmp_ne (tgt := 31) C0.1 C0.2.1 dX0_peg_21 (by decide) (fun c_21 => ?_) (fun c_21 => ?_)
    · have n_21 : ¬ pg X = 12 := fun z => c_21 ((nI_eq (a := pg X) (b := 12) (by omega) (by omega)).mpr z)
      refine lv_aload_n C0.1 C0.2.1 dX0_peg_31 rfl (lv_at hl 0 rfl) ?_
      refine x_geta C0 hG hM 3 7 (by decide) rfl rfl q119 dX0_peg_32 ?_
      refine lv_aload_n C0.1 C0.2.1 dX0_peg_35 rfl (lv_at hl 0 rfl) ?_
      refine x_geti C0 hG hM 4 6 (by decide) rfl rfl q120 dX0_peg_36 ?_
      refine tp_eq (y := nI (pg X)) (hO.pgE) ?_
      refine lv_iload_n C0.1 C0.2.1 dX0_peg_39 rfl (lv_at hl 1 rfl) ?_
      refine x_iast C0 hG hM hS 7 (pg X) rfl rfl rfl (show pg X < 12 from (by omega)) (by decide) dX0_peg_40 (fun H locs hM hS => ?_)
      refine lv_aload_n C0.1 C0.2.1 dX0_peg_41 rfl (lv_at hl 0 rfl) ?_
      refine lv_dup C0.1 C0.2.1 dX0_peg_42 rfl ?_
      refine x_geti C0 hG hM 4 6 (by decide) rfl rfl q120 dX0_peg_43 ?_
      refine tp_eq (y := X 0 6) (by rw [up2_ne _ _ (Or.inl (by decide))]) ?_
      refine lv_iconst (v := 1) C0.1 C0.2.1 dX0_peg_46 (by decide) ?_
      refine lv_iadd C0.1 C0.2.1 dX0_peg_47 ?_
      refine x_put C0 hG hM hS 4 6 (by decide) rfl rfl q120 rfl rfl dX0_peg_48 (fun H locs hM hS => ?_)
      refine lv_aload_n C0.1 C0.2.1 dX0_peg_51 rfl (lv_at hl 0 rfl) ?_
      refine x_geti C0 hG hM 4 6 (by decide) rfl rfl q120 dX0_peg_52 ?_
      refine tp_eq (y := ((X 0 6) + 1)) (by rw [up2_self]) ?_
      exact x_iretS C0 hr hlk hM hS ⟨PB.of (by unfold sp_peg; rw [hj]; (try dsimp only); rw [if_neg (fun z => c_21 (hO.pgE.symm.trans z))]), ((hX.xs.up 7 _ _ rfl).up 0 _ _ rfl), rfl, rfl⟩ dX0_peg_55 (Nat.le_of_ble_eq_true rfl) (Nat.le_of_ble_eq_true rfl)
    · have n_21 : pg X = 12 := (nI_eq (a := pg X) (b := 12) (by omega) (by omega)).mp c_21
      refine lv_aload_n C0.1 C0.2.1 dX0_peg_24 rfl (lv_at hl 0 rfl) ?_
      refine lv_bipush (v := (-6)) C0.1 C0.2.1 dX0_peg_25 (by decide) ?_
      refine x_ki (va_runV (b := (ad 0)) (As := [.int (-6)]) (rest := []) C0 (xx_refuse l D dA ad X ([]) _ 6 (by omega)) (cwV 1 C0.2.2.2.2 (lw_V q195 q197 qs0 q39 q198) rfl rfl rfl hdx_X0_refuse ⟨(Nat.le_of_ble_eq_true rfl), (Nat.le_of_ble_eq_true rfl)⟩) (x_preV hG hM hS 0 (xw_0 dA ad _ _) rfl rfl) rfl rfl hl.1 rfl (lv_room (Nat.le_of_ble_eq_true rfl)) dX0_peg_27 ⟨(Nat.le_of_ble_eq_true rfl), (Nat.le_of_ble_eq_true rfl)⟩) hG hM hS (fun r u H locs hr hM hS => ?_)
      obtain ⟨rfl, rfl⟩ := hr
      have hM : XF D A dA ad (refS X 6) ([]) H := hM
      exact x_iretS C0 hr hlk hM hS ⟨PB.of (by unfold sp_peg; rw [hj]; (try dsimp only); rw [if_pos (hO.pgE.trans c_21)]; rfl), (XS.up hX.xs 22 _ _ rfl), rfl, rfl⟩ dX0_peg_30 (Nat.le_of_ble_eq_true rfl) (Nat.le_of_ble_eq_true rfl)
  · have c_6 : ¬ ((inR p0 10).isSome = true) := b01_0.mp c_6
    refine lv_aload_n C0.1 C0.2.1 dX0_peg_9 rfl (lv_at hl 0 rfl) ?_
    refine lv_iconst (v := (-1)) C0.1 C0.2.1 dX0_peg_10 (by decide) ?_
    refine x_ki (va_runV (b := (ad 0)) (As := [.int (-1)]) (rest := []) C0 (xx_refuse l D dA ad X ([]) _ 1 (by omega)) (cwV 1 C0.2.2.2.2 (lw_V q195 q197 qs0 q39 q198) rfl rfl rfl hdx_X0_refuse ⟨(Nat.le_of_ble_eq_true rfl), (Nat.le_of_ble_eq_true rfl)⟩) (x_preV hG hM hS 0 (xw_0 dA ad _ _) rfl rfl) rfl rfl hl.1 rfl (lv_room (Nat.le_of_ble_eq_true rfl)) dX0_peg_11 ⟨(Nat.le_of_ble_eq_true rfl), (Nat.le_of_ble_eq_true rfl)⟩) hG hM hS (fun r u H locs hr hM hS => ?_)
    obtain ⟨rfl, rfl⟩ := hr
    have hM : XF D A dA ad (refS X 1) ([]) H := hM
    exact x_iretS C0 hr hlk hM hS ⟨PB.of (by unfold sp_peg; rw [inR_none c_6]; rfl), (XS.up hX.xs 22 _ _ rfl), rfl, rfl⟩ dX0_peg_14 (Nat.le_of_ble_eq_true rfl) (Nat.le_of_ble_eq_true rfl)
theorem hdx_X0_unpeg : yX0_unpeg.cls = RX0 ∧ yX0_unpeg.cls ≠ "java/lang/invoke/MethodHandle" ∧ yX0_unpeg.cls ≠ "java/lang/invoke/VarHandle" ∧ (parseMethodDescriptor yX0_unpeg.desc).map (fun d => d.parameters.length) = some 0 := by decide +kernel
set_option maxHeartbeats 4000000 in
theorem xx_unpeg (l : Launch) (D : va_G) (dA : Nat → ClassId) (ad : Nat → Nat) (X : St) (L : Ex) (sz : Nat) (hX : XOk X) : xCi l yX0_unpeg cX0_unpeg 1 (some .int) { frames := 1, cells := 100, slots := 1000, locals := 21 } D dA ad X ([]) sz [.ref (ad 0)] 100 1000 (fun r u => PX (sp_unpeg X) ad r u) := by
  refine x_hI (by decide) (Nat.le_of_ble_eq_true rfl) ?_
  intro A p e s m below meth cd ls C0 hr hlk hnm hG hM hS hl
  have hl : lv_has ls 1 [(0, .ref (ad 0))] := hl
  have hO := hX.ok
  have hl2 := hO.len2
  have hl16 := hO.len16
  have hr16 := rl16 hX
  have hrl := hX.rl
  have hp12 := hO.pg12
  refine lv_aload_n C0.1 C0.2.1 dX0_unpeg_0 rfl (lv_at hl 0 rfl) ?_
  refine x_geti C0 hG hM 4 6 (by decide) rfl rfl q120 dX0_unpeg_1 ?_
  refine lv_if_ne (tgt := 14) C0.1 C0.2.1 dX0_unpeg_4 (by decide) (fun c_4 => ?_) (fun c_4 => ?_)
  · refine lv_aload_n C0.1 C0.2.1 dX0_unpeg_14 rfl (lv_at hl 0 rfl) ?_
    refine lv_dup C0.1 C0.2.1 dX0_unpeg_15 rfl ?_
    refine x_geti C0 hG hM 4 6 (by decide) rfl rfl q120 dX0_unpeg_16 ?_
    refine lv_iconst (v := 1) C0.1 C0.2.1 dX0_unpeg_19 (by decide) ?_
    refine lv_isub C0.1 C0.2.1 dX0_unpeg_20 ?_
    refine x_put C0 hG hM hS 4 6 (by decide) rfl rfl q120 rfl rfl dX0_unpeg_21 (fun H locs hM hS => ?_)
    refine lv_aload_n C0.1 C0.2.1 dX0_unpeg_24 rfl (lv_at hl 0 rfl) ?_
    refine x_geti C0 hG hM 4 6 (by decide) rfl rfl q120 dX0_unpeg_25 ?_
    refine tp_eq (y := ((X 0 6) - 1)) (by rw [up2_self]) ?_
    exact x_iretS C0 hr hlk hM hS ⟨PB.of (by unfold sp_unpeg; rw [if_neg c_4]), (hX.xs.up 0 _ _ rfl), rfl, rfl⟩ dX0_unpeg_28 (Nat.le_of_ble_eq_true rfl) (Nat.le_of_ble_eq_true rfl)
  · refine lv_aload_n C0.1 C0.2.1 dX0_unpeg_7 rfl (lv_at hl 0 rfl) ?_
    refine lv_bipush (v := (-3)) C0.1 C0.2.1 dX0_unpeg_8 (by decide) ?_
    refine x_ki (va_runV (b := (ad 0)) (As := [.int (-3)]) (rest := []) C0 (xx_refuse l D dA ad X ([]) _ 3 (by omega)) (cwV 1 C0.2.2.2.2 (lw_V q195 q197 qs0 q39 q198) rfl rfl rfl hdx_X0_refuse ⟨(Nat.le_of_ble_eq_true rfl), (Nat.le_of_ble_eq_true rfl)⟩) (x_preV hG hM hS 0 (xw_0 dA ad _ _) rfl rfl) rfl rfl hl.1 rfl (lv_room (Nat.le_of_ble_eq_true rfl)) dX0_unpeg_10 ⟨(Nat.le_of_ble_eq_true rfl), (Nat.le_of_ble_eq_true rfl)⟩) hG hM hS (fun r u H locs hr hM hS => ?_)
    obtain ⟨rfl, rfl⟩ := hr
    have hM : XF D A dA ad (refS X 3) ([]) H := hM
    exact x_iretS C0 hr hlk hM hS ⟨PB.of (by unfold sp_unpeg; rw [if_pos c_4]; rfl), (XS.up hX.xs 22 _ _ rfl), rfl, rfl⟩ dX0_unpeg_13 (Nat.le_of_ble_eq_true rfl) (Nat.le_of_ble_eq_true rfl)
theorem hdx_X0_advance : yX0_advance.cls = RX0 ∧ yX0_advance.cls ≠ "java/lang/invoke/MethodHandle" ∧ yX0_advance.cls ≠ "java/lang/invoke/VarHandle" ∧ (parseMethodDescriptor yX0_advance.desc).map (fun d => d.parameters.length) = some 1 := by decide +kernel
set_option maxHeartbeats 4000000 in
theorem xx_advance (l : Launch) (D : va_G) (dA : Nat → ClassId) (ad : Nat → Nat) (X : St) (L : Ex) (sz : Nat) (p0 : Int32) (hX : XOk X) : xCi l yX0_advance cX0_advance 4 (some .int) { frames := 1, cells := 100, slots := 1000, locals := 22 } D dA ad X ([]) sz [.ref (ad 0), .int p0] 100 1000 (fun r u => PX (sp_advance X p0) ad r u) := by
  refine x_hI (by decide) (Nat.le_of_ble_eq_true rfl) ?_
  intro A p e s m below meth cd ls C0 hr hlk hnm hG hM hS hl
  have hl : lv_has ls 4 [(0, .ref (ad 0)), (1, .int p0)] := hl
  have hO := hX.ok
  have hl2 := hO.len2
  have hl16 := hO.len16
  have hr16 := rl16 hX
  have hrl := hX.rl
  have hp12 := hO.pg12
  refine lv_iload_n C0.1 C0.2.1 dX0_advance_0 rfl (lv_at hl 1 rfl) ?_
  refine lv_iconst (v := 0) C0.1 C0.2.1 dX0_advance_1 (by decide) ?_
  refine lv_bipush (v := 9) C0.1 C0.2.1 dX0_advance_2 (by decide) ?_
  refine st_call C0 (xx_within l p0 0 9) 3 (lw_S q192 q193 q39 q194) rfl rfl hdx_X0_within ⟨(Nat.le_of_ble_eq_true rfl), (Nat.le_of_ble_eq_true rfl)⟩ rfl hl.1 rfl (Nat.le_of_ble_eq_true rfl) dX0_advance_4 ⟨(Nat.le_of_ble_eq_true rfl), (Nat.le_of_ble_eq_true rfl)⟩ (fun r hr => ?_)
  subst hr
  refine lv_istore_n (lv' := [(2, .int (-(nI (wthF p0 0 9)))), (0, .ref (ad 0)), (1, .int p0)]) C0.1 C0.2.1 dX0_advance_7 rfl hl (by decide) rfl (fun ls hl => ?_)
  refine lv_iload_n C0.1 C0.2.1 dX0_advance_8 rfl (lv_at hl 0 rfl) ?_
  refine lv_if_eq (tgt := 18) C0.1 C0.2.1 dX0_advance_9 (by decide) (fun c_9 => ?_) (fun c_9 => ?_)
  · have hw := wth_0 c_9
    refine lv_aload_n C0.1 C0.2.1 dX0_advance_18 rfl (lv_at hl 1 rfl) ?_
    refine x_geti C0 hG hM 5 8 (by decide) rfl rfl q123 dX0_advance_19 ?_
    refine lv_istore_n (lv' := [(3, .int (X 0 8)), (2, .int (-(nI (wthF p0 0 9)))), (0, .ref (ad 0)), (1, .int p0)]) C0.1 C0.2.1 dX0_advance_22 rfl hl (by decide) rfl (fun ls hl => ?_)
    refine lv_aload_n C0.1 C0.2.1 dX0_advance_23 rfl (lv_at hl 2 rfl) ?_
    refine lv_iload_n C0.1 C0.2.1 dX0_advance_24 rfl (lv_at hl 3 rfl) ?_
    refine x_put C0 hG hM hS 5 8 (by decide) rfl rfl q123 rfl rfl dX0_advance_25 (fun H locs hM hS => ?_)
    refine lv_iload_n C0.1 C0.2.1 dX0_advance_28 rfl (lv_at hl 0 rfl) ?_
    exact x_iretS C0 hr hlk hM hS ⟨PB.of (lim_0 hw), (hX.xs.up 0 _ _ rfl), rfl, rfl⟩ dX0_advance_29 (Nat.le_of_ble_eq_true rfl) (Nat.le_of_ble_eq_true rfl)
  · have hw := wth_1 c_9
    refine lv_aload_n C0.1 C0.2.1 dX0_advance_12 rfl (lv_at hl 1 rfl) ?_
    refine lv_iload_n C0.1 C0.2.1 dX0_advance_13 rfl (lv_at hl 0 rfl) ?_
    refine x_ki (va_runV (b := (ad 0)) (As := [.int (-(nI (wthF p0 0 9)))]) (rest := []) C0 (xx_refuse l D dA ad X ([]) _ (wthF p0 0 9) (wth_lt _ _ _)) (cwV 1 C0.2.2.2.2 (lw_V q195 q197 qs0 q39 q198) rfl rfl rfl hdx_X0_refuse ⟨(Nat.le_of_ble_eq_true rfl), (Nat.le_of_ble_eq_true rfl)⟩) (x_preV hG hM hS 0 (xw_0 dA ad _ _) rfl rfl) rfl rfl hl.1 rfl (lv_room (Nat.le_of_ble_eq_true rfl)) dX0_advance_14 ⟨(Nat.le_of_ble_eq_true rfl), (Nat.le_of_ble_eq_true rfl)⟩) hG hM hS (fun r u H locs hr hM hS => ?_)
    obtain ⟨rfl, rfl⟩ := hr
    have hM : XF D A dA ad (refS X (wthF p0 0 9)) ([]) H := hM
    exact x_iretS C0 hr hlk hM hS ⟨PB.of (lim_1 hw), (XS.up hX.xs 22 _ _ rfl), rfl, rfl⟩ dX0_advance_17 (Nat.le_of_ble_eq_true rfl) (Nat.le_of_ble_eq_true rfl)
theorem hdx_X0_pull : yX0_pull.cls = RX0 ∧ yX0_pull.cls ≠ "java/lang/invoke/MethodHandle" ∧ yX0_pull.cls ≠ "java/lang/invoke/VarHandle" ∧ (parseMethodDescriptor yX0_pull.desc).map (fun d => d.parameters.length) = some 1 := by decide +kernel
set_option maxHeartbeats 4000000 in
theorem xx_pull (l : Launch) (D : va_G) (dA : Nat → ClassId) (ad : Nat → Nat) (X : St) (L : Ex) (sz : Nat) (p0 : Int32) (hX : XOk X) : xCi l yX0_pull cX0_pull 4 (some .int) { frames := 1, cells := 100, slots := 1000, locals := 22 } D dA ad X ([]) sz [.ref (ad 0), .int p0] 100 1000 (fun r u => PX (sp_pull X p0) ad r u) := by
  refine x_hI (by decide) (Nat.le_of_ble_eq_true rfl) ?_
  intro A p e s m below meth cd ls C0 hr hlk hnm hG hM hS hl
  have hl : lv_has ls 4 [(0, .ref (ad 0)), (1, .int p0)] := hl
  have hO := hX.ok
  have hl2 := hO.len2
  have hl16 := hO.len16
  have hr16 := rl16 hX
  have hrl := hX.rl
  have hp12 := hO.pg12
  refine lv_iload_n C0.1 C0.2.1 dX0_pull_0 rfl (lv_at hl 1 rfl) ?_
  refine lv_iconst (v := 1) C0.1 C0.2.1 dX0_pull_1 (by decide) ?_
  refine lv_bipush (v := 20) C0.1 C0.2.1 dX0_pull_2 (by decide) ?_
  refine st_call C0 (xx_within l p0 1 20) 3 (lw_S q192 q193 q39 q194) rfl rfl hdx_X0_within ⟨(Nat.le_of_ble_eq_true rfl), (Nat.le_of_ble_eq_true rfl)⟩ rfl hl.1 rfl (Nat.le_of_ble_eq_true rfl) dX0_pull_4 ⟨(Nat.le_of_ble_eq_true rfl), (Nat.le_of_ble_eq_true rfl)⟩ (fun r hr => ?_)
  subst hr
  refine lv_istore_n (lv' := [(2, .int (-(nI (wthF p0 1 20)))), (0, .ref (ad 0)), (1, .int p0)]) C0.1 C0.2.1 dX0_pull_7 rfl hl (by decide) rfl (fun ls hl => ?_)
  refine lv_iload_n C0.1 C0.2.1 dX0_pull_8 rfl (lv_at hl 0 rfl) ?_
  refine lv_if_eq (tgt := 18) C0.1 C0.2.1 dX0_pull_9 (by decide) (fun c_9 => ?_) (fun c_9 => ?_)
  · have hw := wth_0 c_9
    refine lv_aload_n C0.1 C0.2.1 dX0_pull_18 rfl (lv_at hl 1 rfl) ?_
    refine x_geti C0 hG hM 14 10 (by decide) rfl rfl q132 dX0_pull_19 ?_
    refine lv_istore_n (lv' := [(3, .int (X 0 10)), (2, .int (-(nI (wthF p0 1 20)))), (0, .ref (ad 0)), (1, .int p0)]) C0.1 C0.2.1 dX0_pull_22 rfl hl (by decide) rfl (fun ls hl => ?_)
    refine lv_aload_n C0.1 C0.2.1 dX0_pull_23 rfl (lv_at hl 2 rfl) ?_
    refine lv_iload_n C0.1 C0.2.1 dX0_pull_24 rfl (lv_at hl 3 rfl) ?_
    refine x_put C0 hG hM hS 14 10 (by decide) rfl rfl q132 rfl rfl dX0_pull_25 (fun H locs hM hS => ?_)
    refine lv_iload_n C0.1 C0.2.1 dX0_pull_28 rfl (lv_at hl 0 rfl) ?_
    exact x_iretS C0 hr hlk hM hS ⟨PB.of (lim_0 hw), (hX.xs.up 0 _ _ rfl), rfl, rfl⟩ dX0_pull_29 (Nat.le_of_ble_eq_true rfl) (Nat.le_of_ble_eq_true rfl)
  · have hw := wth_1 c_9
    refine lv_aload_n C0.1 C0.2.1 dX0_pull_12 rfl (lv_at hl 1 rfl) ?_
    refine lv_iload_n C0.1 C0.2.1 dX0_pull_13 rfl (lv_at hl 0 rfl) ?_
    refine x_ki (va_runV (b := (ad 0)) (As := [.int (-(nI (wthF p0 1 20)))]) (rest := []) C0 (xx_refuse l D dA ad X ([]) _ (wthF p0 1 20) (wth_lt _ _ _)) (cwV 1 C0.2.2.2.2 (lw_V q195 q197 qs0 q39 q198) rfl rfl rfl hdx_X0_refuse ⟨(Nat.le_of_ble_eq_true rfl), (Nat.le_of_ble_eq_true rfl)⟩) (x_preV hG hM hS 0 (xw_0 dA ad _ _) rfl rfl) rfl rfl hl.1 rfl (lv_room (Nat.le_of_ble_eq_true rfl)) dX0_pull_14 ⟨(Nat.le_of_ble_eq_true rfl), (Nat.le_of_ble_eq_true rfl)⟩) hG hM hS (fun r u H locs hr hM hS => ?_)
    obtain ⟨rfl, rfl⟩ := hr
    have hM : XF D A dA ad (refS X (wthF p0 1 20)) ([]) H := hM
    exact x_iretS C0 hr hlk hM hS ⟨PB.of (lim_1 hw), (XS.up hX.xs 22 _ _ rfl), rfl, rfl⟩ dX0_pull_17 (Nat.le_of_ble_eq_true rfl) (Nat.le_of_ble_eq_true rfl)
theorem hdx_X0_wind : yX0_wind.cls = RX0 ∧ yX0_wind.cls ≠ "java/lang/invoke/MethodHandle" ∧ yX0_wind.cls ≠ "java/lang/invoke/VarHandle" ∧ (parseMethodDescriptor yX0_wind.desc).map (fun d => d.parameters.length) = some 1 := by decide +kernel
set_option maxHeartbeats 4000000 in
theorem xx_wind (l : Launch) (D : va_G) (dA : Nat → ClassId) (ad : Nat → Nat) (X : St) (L : Ex) (sz : Nat) (p0 : Int32) (hX : XOk X) : xCi l yX0_wind cX0_wind 3 (some .int) { frames := 1, cells := 100, slots := 1000, locals := 22 } D dA ad X ([]) sz [.ref (ad 0), .int p0] 100 1000 (fun r u => PX (sp_wind X p0) ad r u) := by
  refine x_hI (by decide) (Nat.le_of_ble_eq_true rfl) ?_
  intro A p e s m below meth cd ls C0 hr hlk hnm hG hM hS hl
  have hl : lv_has ls 3 [(0, .ref (ad 0)), (1, .int p0)] := hl
  have hO := hX.ok
  have hl2 := hO.len2
  have hl16 := hO.len16
  have hr16 := rl16 hX
  have hrl := hX.rl
  have hp12 := hO.pg12
  refine lv_iload_n C0.1 C0.2.1 dX0_wind_0 rfl (lv_at hl 1 rfl) ?_
  refine lv_iconst (v := 0) C0.1 C0.2.1 dX0_wind_1 (by decide) ?_
  refine lv_sipush (v := 5000) C0.1 C0.2.1 dX0_wind_2 (by decide) ?_
  refine st_call C0 (xx_within l p0 0 5000) 3 (lw_S q192 q193 q39 q194) rfl rfl hdx_X0_within ⟨(Nat.le_of_ble_eq_true rfl), (Nat.le_of_ble_eq_true rfl)⟩ rfl hl.1 rfl (Nat.le_of_ble_eq_true rfl) dX0_wind_5 ⟨(Nat.le_of_ble_eq_true rfl), (Nat.le_of_ble_eq_true rfl)⟩ (fun r hr => ?_)
  subst hr
  refine lv_istore_n (lv' := [(2, .int (-(nI (wthF p0 0 5000)))), (0, .ref (ad 0)), (1, .int p0)]) C0.1 C0.2.1 dX0_wind_8 rfl hl (by decide) rfl (fun ls hl => ?_)
  refine lv_iload_n C0.1 C0.2.1 dX0_wind_9 rfl (lv_at hl 0 rfl) ?_
  refine lv_if_eq (tgt := 19) C0.1 C0.2.1 dX0_wind_10 (by decide) (fun c_10 => ?_) (fun c_10 => ?_)
  · have hw := wth_0 c_10
    obtain ⟨b, hb5, rfl⟩ := lim_nat (n := 5000) (by decide) hw
    have hpw := hO.pow.le (by decide)
    refine lv_aload_n C0.1 C0.2.1 dX0_wind_19 rfl (lv_at hl 1 rfl) ?_
    refine lv_dup C0.1 C0.2.1 dX0_wind_20 rfl ?_
    refine x_geti C0 hG hM 16 12 (by decide) rfl rfl q134 dX0_wind_21 ?_
    refine lv_aload_n C0.1 C0.2.1 dX0_wind_24 rfl (lv_at hl 1 rfl) ?_
    refine x_geti C0 hG hM 13 9 (by decide) rfl rfl q131 dX0_wind_25 ?_
    refine tp_eq (y := nI (nv (X 0 9))) (hO.pow.eq (by decide)) ?_
    refine lv_iload_n C0.1 C0.2.1 dX0_wind_28 rfl (lv_at hl 2 rfl) ?_
    refine lv_iadd C0.1 C0.2.1 dX0_wind_29 ?_
    refine tp_eq (y := nI (nv (X 0 9) + b)) (nI_add (nv (X 0 9)) b) ?_
    refine lv_sipush (v := 1000) C0.1 C0.2.1 dX0_wind_30 (by decide) ?_
    refine lv_icmp_le (tgt := 40) C0.1 C0.2.1 dX0_wind_33 (by decide) (fun c_33 => ?_) (fun c_33 => ?_)
    · have n_33 : nv (X 0 9) + b ≤ 1000 := (nI_leI (a := nv (X 0 9) + b) (b := 1000) (by omega) (by omega)).mp c_33
      refine lv_iconst (v := 0) C0.1 C0.2.1 dX0_wind_40 (by decide) ?_
      refine lv_iadd C0.1 C0.2.1 dX0_wind_41 ?_
      refine x_put C0 hG hM hS 16 12 (by decide) rfl rfl q134 rfl rfl dX0_wind_42 (fun H locs hM hS => ?_)
      refine lv_aload_n C0.1 C0.2.1 dX0_wind_45 rfl (lv_at hl 1 rfl) ?_
      refine lv_sipush (v := 1000) C0.1 C0.2.1 dX0_wind_46 (by decide) ?_
      refine lv_aload_n C0.1 C0.2.1 dX0_wind_49 rfl (lv_at hl 1 rfl) ?_
      refine x_geti C0 hG hM 13 9 (by decide) rfl rfl q131 dX0_wind_50 ?_
      refine tp_eq (y := X 0 9) (by rw [up2_ne _ _ (Or.inr (by decide))]) ?_
      refine tp_eq (y := nI (nv (X 0 9))) (hO.pow.eq (by decide)) ?_
      refine lv_iload_n C0.1 C0.2.1 dX0_wind_53 rfl (lv_at hl 2 rfl) ?_
      refine lv_iadd C0.1 C0.2.1 dX0_wind_54 ?_
      refine tp_eq (y := nI (nv (X 0 9) + b)) (nI_add (nv (X 0 9)) b) ?_
      refine st_call C0 (j3_min l 1000 (nI (nv (X 0 9) + b))) 2 (lw_S q385 q386 q50 q387) rfl rfl hdx_J3_min ⟨(Nat.le_of_ble_eq_true rfl), (Nat.le_of_ble_eq_true rfl)⟩ rfl hl.1 rfl (Nat.le_of_ble_eq_true rfl) dX0_wind_55 ⟨(Nat.le_of_ble_eq_true rfl), (Nat.le_of_ble_eq_true rfl)⟩ (fun r hr => ?_)
      subst hr
      refine tp_eq (y := nI (nv (X 0 9) + b)) (imin_lo n_33) ?_
      refine x_put C0 hG hM hS 13 9 (by decide) rfl rfl q131 rfl rfl dX0_wind_58 (fun H locs hM hS => ?_)
      refine lv_aload_n C0.1 C0.2.1 dX0_wind_61 rfl (lv_at hl 1 rfl) ?_
      refine x_geti C0 hG hM 13 9 (by decide) rfl rfl q131 dX0_wind_62 ?_
      refine tp_eq (y := nI (nv (X 0 9) + b)) (by rw [up2_self]) ?_
      exact x_iretS C0 hr hlk hM hS ⟨PB.of (wind_lo hO.pow hb5 n_33), ((hX.xs.up 0 _ _ rfl).up 0 _ _ rfl), rfl, rfl⟩ dX0_wind_65 (Nat.le_of_ble_eq_true rfl) (Nat.le_of_ble_eq_true rfl)
    · have n_33 : ¬ nv (X 0 9) + b ≤ 1000 := fun z => c_33 ((nI_leI (a := nv (X 0 9) + b) (b := 1000) (by omega) (by omega)).mpr z)
      refine lv_iconst (v := 1) C0.1 C0.2.1 dX0_wind_36 (by decide) ?_
      refine lv_goto (tgt := 41) C0.1 C0.2.1 dX0_wind_37 (by decide) ?_
      refine lv_iadd C0.1 C0.2.1 dX0_wind_41 ?_
      refine x_put C0 hG hM hS 16 12 (by decide) rfl rfl q134 rfl rfl dX0_wind_42 (fun H locs hM hS => ?_)
      refine lv_aload_n C0.1 C0.2.1 dX0_wind_45 rfl (lv_at hl 1 rfl) ?_
      refine lv_sipush (v := 1000) C0.1 C0.2.1 dX0_wind_46 (by decide) ?_
      refine lv_aload_n C0.1 C0.2.1 dX0_wind_49 rfl (lv_at hl 1 rfl) ?_
      refine x_geti C0 hG hM 13 9 (by decide) rfl rfl q131 dX0_wind_50 ?_
      refine tp_eq (y := X 0 9) (by rw [up2_ne _ _ (Or.inr (by decide))]) ?_
      refine tp_eq (y := nI (nv (X 0 9))) (hO.pow.eq (by decide)) ?_
      refine lv_iload_n C0.1 C0.2.1 dX0_wind_53 rfl (lv_at hl 2 rfl) ?_
      refine lv_iadd C0.1 C0.2.1 dX0_wind_54 ?_
      refine tp_eq (y := nI (nv (X 0 9) + b)) (nI_add (nv (X 0 9)) b) ?_
      refine st_call C0 (j3_min l 1000 (nI (nv (X 0 9) + b))) 2 (lw_S q385 q386 q50 q387) rfl rfl hdx_J3_min ⟨(Nat.le_of_ble_eq_true rfl), (Nat.le_of_ble_eq_true rfl)⟩ rfl hl.1 rfl (Nat.le_of_ble_eq_true rfl) dX0_wind_55 ⟨(Nat.le_of_ble_eq_true rfl), (Nat.le_of_ble_eq_true rfl)⟩ (fun r hr => ?_)
      subst hr
      refine tp_eq (y := 1000) (imin_hi n_33 (by omega)) ?_
      refine x_put C0 hG hM hS 13 9 (by decide) rfl rfl q131 rfl rfl dX0_wind_58 (fun H locs hM hS => ?_)
      refine lv_aload_n C0.1 C0.2.1 dX0_wind_61 rfl (lv_at hl 1 rfl) ?_
      refine x_geti C0 hG hM 13 9 (by decide) rfl rfl q131 dX0_wind_62 ?_
      refine tp_eq (y := 1000) (by rw [up2_self]) ?_
      exact x_iretS C0 hr hlk hM hS ⟨PB.of (wind_hi hO.pow hb5 n_33), ((hX.xs.up 0 _ _ rfl).up 0 _ _ rfl), rfl, rfl⟩ dX0_wind_65 (Nat.le_of_ble_eq_true rfl) (Nat.le_of_ble_eq_true rfl)
  · have hw := wth_1 c_10
    refine lv_aload_n C0.1 C0.2.1 dX0_wind_13 rfl (lv_at hl 1 rfl) ?_
    refine lv_iload_n C0.1 C0.2.1 dX0_wind_14 rfl (lv_at hl 0 rfl) ?_
    refine x_ki (va_runV (b := (ad 0)) (As := [.int (-(nI (wthF p0 0 5000)))]) (rest := []) C0 (xx_refuse l D dA ad X ([]) _ (wthF p0 0 5000) (wth_lt _ _ _)) (cwV 1 C0.2.2.2.2 (lw_V q195 q197 qs0 q39 q198) rfl rfl rfl hdx_X0_refuse ⟨(Nat.le_of_ble_eq_true rfl), (Nat.le_of_ble_eq_true rfl)⟩) (x_preV hG hM hS 0 (xw_0 dA ad _ _) rfl rfl) rfl rfl hl.1 rfl (lv_room (Nat.le_of_ble_eq_true rfl)) dX0_wind_15 ⟨(Nat.le_of_ble_eq_true rfl), (Nat.le_of_ble_eq_true rfl)⟩) hG hM hS (fun r u H locs hr hM hS => ?_)
    obtain ⟨rfl, rfl⟩ := hr
    have hM : XF D A dA ad (refS X (wthF p0 0 5000)) ([]) H := hM
    exact x_iretS C0 hr hlk hM hS ⟨PB.of (lim_1 hw), (XS.up hX.xs 22 _ _ rfl), rfl, rfl⟩ dX0_wind_18 (Nat.le_of_ble_eq_true rfl) (Nat.le_of_ble_eq_true rfl)
theorem hdx_X0_marked : yX0_marked.cls = RX0 ∧ yX0_marked.cls ≠ "java/lang/invoke/MethodHandle" ∧ yX0_marked.cls ≠ "java/lang/invoke/VarHandle" ∧ (parseMethodDescriptor yX0_marked.desc).map (fun d => d.parameters.length) = some 2 := by decide +kernel
set_option maxHeartbeats 4000000 in
theorem xx_marked (l : Launch) (D : va_G) (dA : Nat → ClassId) (ad : Nat → Nat) (X : St) (L : Ex) (sz : Nat) (p0 p1 : Int32) (hX : XOk X) : xCi l yX0_marked cX0_marked 3 (some .int) { frames := 2, cells := 100, slots := 1000, locals := 42 } D dA ad X ([]) sz [.ref (ad 0), .int p0, .int p1] 100 1000 (fun r u => PX (sp_marked X p0 p1) ad r u) := by
  refine x_hI (by decide) (Nat.le_of_ble_eq_true rfl) ?_
  intro A p e s m below meth cd ls C0 hr hlk hnm hG hM hS hl
  have hl : lv_has ls 3 [(0, .ref (ad 0)), (1, .int p0), (2, .int p1)] := hl
  have hO := hX.ok
  have hl2 := hO.len2
  have hl16 := hO.len16
  have hr16 := rl16 hX
  have hrl := hX.rl
  have hp12 := hO.pg12
  refine lv_iload_n C0.1 C0.2.1 dX0_marked_0 rfl (lv_at hl 1 rfl) ?_
  refine lv_iload_n C0.1 C0.2.1 dX0_marked_1 rfl (lv_at hl 2 rfl) ?_
  refine st_call C0 (xx_isCell l p0 p1) 2 (lw_S q516 q517 q39 q518) rfl rfl hdx_X0_isCell ⟨(Nat.le_of_ble_eq_true rfl), (Nat.le_of_ble_eq_true rfl)⟩ rfl hl.1 rfl (Nat.le_of_ble_eq_true rfl) dX0_marked_2 ⟨(Nat.le_of_ble_eq_true rfl), (Nat.le_of_ble_eq_true rfl)⟩ (fun r hr => ?_)
  subst hr
  refine lv_if_eq (tgt := 33) C0.1 C0.2.1 dX0_marked_5 (by decide) (fun c_5 => ?_) (fun c_5 => ?_)
  · have c_5 : ¬ ((cellN p0 p1).isSome = true) := b01_0.mp c_5
    refine lv_aload_n C0.1 C0.2.1 dX0_marked_33 rfl (lv_at hl 0 rfl) ?_
    refine lv_iconst (v := (-1)) C0.1 C0.2.1 dX0_marked_34 (by decide) ?_
    refine x_ki (va_runV (b := (ad 0)) (As := [.int (-1)]) (rest := []) C0 (xx_refuse l D dA ad X ([]) _ 1 (by omega)) (cwV 1 C0.2.2.2.2 (lw_V q195 q197 qs0 q39 q198) rfl rfl rfl hdx_X0_refuse ⟨(Nat.le_of_ble_eq_true rfl), (Nat.le_of_ble_eq_true rfl)⟩) (x_preV hG hM hS 0 (xw_0 dA ad _ _) rfl rfl) rfl rfl hl.1 rfl (lv_room (Nat.le_of_ble_eq_true rfl)) dX0_marked_35 ⟨(Nat.le_of_ble_eq_true rfl), (Nat.le_of_ble_eq_true rfl)⟩) hG hM hS (fun r u H locs hr hM hS => ?_)
    obtain ⟨rfl, rfl⟩ := hr
    have hM : XF D A dA ad (refS X 1) ([]) H := hM
    exact x_iretS C0 hr hlk hM hS ⟨PB.of (by unfold sp_marked; rw [cellN_none c_5]; rfl), (XS.up hX.xs 22 _ _ rfl), rfl, rfl⟩ dX0_marked_38 (Nat.le_of_ble_eq_true rfl) (Nat.le_of_ble_eq_true rfl)
  · have c_5 : (cellN p0 p1).isSome = true := b01_1.mp c_5
    obtain ⟨a, b, hc, ha, hb, rfl, rfl⟩ := cellN_get c_5
    refine lv_aload_n C0.1 C0.2.1 dX0_marked_8 rfl (lv_at hl 0 rfl) ?_
    refine x_geta C0 hG hM 8 5 (by decide) rfl rfl q126 dX0_marked_9 ?_
    refine x_get C0 hG hM 5 (xw_5 dA ad _ _) rfl rfl in_X2 0 (by decide) rfl q83 dX0_marked_12 ?_
    refine lv_bipush (v := 10) C0.1 C0.2.1 dX0_marked_15 (by decide) ?_
    refine lv_iload_n C0.1 C0.2.1 dX0_marked_17 rfl (lv_at hl 1 rfl) ?_
    refine lv_imul C0.1 C0.2.1 dX0_marked_18 ?_
    refine tp_eq (y := nI (10 * a)) (pk_mul 10 a) ?_
    refine lv_iload_n C0.1 C0.2.1 dX0_marked_19 rfl (lv_at hl 2 rfl) ?_
    refine lv_iadd C0.1 C0.2.1 dX0_marked_20 ?_
    refine tp_eq (y := nI (10 * a + b)) (nI_add (10 * a) b) ?_
    refine x_zald C0 hG hM 23 (10 * a + b) rfl rfl rfl (show 10 * a + b < 1200 from (by omega)) (by decide) dX0_marked_21 ?_
    refine lv_if_eq (tgt := 29) C0.1 C0.2.1 dX0_marked_22 (by decide) (fun c_22 => ?_) (fun c_22 => ?_)
    · refine lv_iconst (v := 0) C0.1 C0.2.1 dX0_marked_29 (by decide) ?_
      refine lv_goto (tgt := 38) C0.1 C0.2.1 dX0_marked_30 (by decide) ?_
      exact x_iretS C0 hr hlk hM hS ⟨PB.of (by unfold sp_marked; rw [hc]; (try dsimp only); rw [if_pos ((mkr_0 hX.2.2 (by omega)).mp c_22)]), hX.xs, rfl, rfl⟩ dX0_marked_38 (Nat.le_of_ble_eq_true rfl) (Nat.le_of_ble_eq_true rfl)
    · refine lv_iconst (v := 1) C0.1 C0.2.1 dX0_marked_25 (by decide) ?_
      refine lv_goto (tgt := 38) C0.1 C0.2.1 dX0_marked_26 (by decide) ?_
      exact x_iretS C0 hr hlk hM hS ⟨PB.of (by unfold sp_marked; rw [hc]; (try dsimp only); rw [if_neg (fun z => c_22 ((mkr_0 hX.2.2 (by omega)).mpr z))]), hX.xs, rfl, rfl⟩ dX0_marked_38 (Nat.le_of_ble_eq_true rfl) (Nat.le_of_ble_eq_true rfl)
theorem hdx_X0_first : yX0_first.cls = RX0 ∧ yX0_first.cls ≠ "java/lang/invoke/MethodHandle" ∧ yX0_first.cls ≠ "java/lang/invoke/VarHandle" ∧ (parseMethodDescriptor yX0_first.desc).map (fun d => d.parameters.length) = some 3 := by decide +kernel
set_option maxHeartbeats 4000000 in
theorem xx_first (l : Launch) (D : va_G) (dA : Nat → ClassId) (ad : Nat → Nat) (X : St) (L : Ex) (sz : Nat) (p0 p1 p2 : Int32) (hX : XOk X) : xCi l yX0_first cX0_first 5 (some .int) { frames := 2, cells := 100, slots := 1000, locals := 42 } D dA ad X ([]) sz [.ref (ad 0), .int p0, .int p1, .int p2] 100 1000 (fun r u => PX (sp_first X p0 p1 p2) ad r u) := by
  refine x_hI (by decide) (Nat.le_of_ble_eq_true rfl) ?_
  intro A p e s m below meth cd ls C0 hr hlk hnm hG hM hS hl
  have hl : lv_has ls 5 [(0, .ref (ad 0)), (1, .int p0), (2, .int p1), (3, .int p2)] := hl
  have hO := hX.ok
  have hl2 := hO.len2
  have hl16 := hO.len16
  have hr16 := rl16 hX
  have hrl := hX.rl
  have hp12 := hO.pg12
  refine lv_iload_n C0.1 C0.2.1 dX0_first_0 rfl (lv_at hl 1 rfl) ?_
  refine lv_iload_n C0.1 C0.2.1 dX0_first_1 rfl (lv_at hl 2 rfl) ?_
  refine st_call C0 (xx_isCell l p0 p1) 2 (lw_S q516 q517 q39 q518) rfl rfl hdx_X0_isCell ⟨(Nat.le_of_ble_eq_true rfl), (Nat.le_of_ble_eq_true rfl)⟩ rfl hl.1 rfl (Nat.le_of_ble_eq_true rfl) dX0_first_2 ⟨(Nat.le_of_ble_eq_true rfl), (Nat.le_of_ble_eq_true rfl)⟩ (fun r hr => ?_)
  subst hr
  refine lv_if_ne (tgt := 14) C0.1 C0.2.1 dX0_first_5 (by decide) (fun c_5 => ?_) (fun c_5 => ?_)
  · have c_5 : (cellN p0 p1).isSome = true := b01_1.mp c_5
    obtain ⟨a, b, hc, ha, hb, rfl, rfl⟩ := cellN_get c_5
    refine lv_iload_n C0.1 C0.2.1 dX0_first_14 rfl (lv_at hl 3 rfl) ?_
    refine lv_iconst (v := 2) C0.1 C0.2.1 dX0_first_15 (by decide) ?_
    refine st_call C0 (xx_isIn l p2 2) 2 (lw_S q207 q208 q39 q209) rfl rfl hdx_X0_isIn ⟨(Nat.le_of_ble_eq_true rfl), (Nat.le_of_ble_eq_true rfl)⟩ rfl hl.1 rfl (Nat.le_of_ble_eq_true rfl) dX0_first_16 ⟨(Nat.le_of_ble_eq_true rfl), (Nat.le_of_ble_eq_true rfl)⟩ (fun r hr => ?_)
    subst hr
    refine tp_eq (y := (if (inR p2 2).isSome = true then 1 else 0)) (b01_c (inR_lt (n := 2) (by decide))) ?_
    refine lv_if_ne (tgt := 29) C0.1 C0.2.1 dX0_first_19 (by decide) (fun c_19 => ?_) (fun c_19 => ?_)
    · have c_19 : (inR p2 2).isSome = true := b01_1.mp c_19
      obtain ⟨d, hd, bd, rfl⟩ := inR_get c_19 (by decide)
      refine lv_bipush (v := 10) C0.1 C0.2.1 dX0_first_29 (by decide) ?_
      refine lv_iload_n C0.1 C0.2.1 dX0_first_31 rfl (lv_at hl 1 rfl) ?_
      refine lv_imul C0.1 C0.2.1 dX0_first_32 ?_
      refine tp_eq (y := nI (10 * a)) (pk_mul 10 a) ?_
      refine lv_iload_n C0.1 C0.2.1 dX0_first_33 rfl (lv_at hl 2 rfl) ?_
      refine lv_iadd C0.1 C0.2.1 dX0_first_34 ?_
      refine tp_eq (y := nI (10 * a + b)) (nI_add (10 * a) b) ?_
      refine lv_istore (lv' := [(4, .int (nI (10 * a + b))), (0, .ref (ad 0)), (1, .int (nI a)), (2, .int (nI b)), (3, .int (nI d))]) C0.1 C0.2.1 dX0_first_35 hl (by decide) rfl (fun ls hl => ?_)
      refine lv_aload_n C0.1 C0.2.1 dX0_first_37 rfl (lv_at hl 1 rfl) ?_
      refine x_geta C0 hG hM 8 5 (by decide) rfl rfl q126 dX0_first_38 ?_
      refine x_get C0 hG hM 5 (xw_5 dA ad _ _) rfl rfl in_X2 0 (by decide) rfl q83 dX0_first_41 ?_
      refine lv_iload C0.1 C0.2.1 dX0_first_44 (lv_at hl 0 rfl) ?_
      refine x_zald C0 hG hM 23 (10 * a + b) rfl rfl rfl (show 10 * a + b < 1200 from (by omega)) (by decide) dX0_first_46 ?_
      refine lv_if_ne (tgt := 53) C0.1 C0.2.1 dX0_first_47 (by decide) (fun c_47 => ?_) (fun c_47 => ?_)
      · obtain ⟨u9, v9, hu9, hv9, e17, e18, e23, e24⟩ := mkr_1 hX.2.2 (show 10 * a + b < 1200 by omega) c_47
        have e17 : X 17 (10 * a + b) = nI u9 := e17
        have e18 : X 18 (10 * a + b) = nI v9 := e18
        refine lv_iload_n C0.1 C0.2.1 dX0_first_53 rfl (lv_at hl 4 rfl) ?_
        refine lv_if_ne (tgt := 73) C0.1 C0.2.1 dX0_first_54 (by decide) (fun c_54 => ?_) (fun c_54 => ?_)
        · have n_54 : ¬ d = 0 := fun z => c_54 ((nI_eq (a := d) (b := 0) (by omega) (by omega)).mpr z)
          refine lv_aload_n C0.1 C0.2.1 dX0_first_73 rfl (lv_at hl 1 rfl) ?_
          refine x_geta C0 hG hM 8 5 (by decide) rfl rfl q126 dX0_first_74 ?_
          refine x_get C0 hG hM 5 (xw_5 dA ad _ _) rfl rfl in_X2 1 (by decide) rfl q85 dX0_first_77 ?_
          refine lv_iload C0.1 C0.2.1 dX0_first_80 (lv_at hl 0 rfl) ?_
          refine x_iald C0 hG hM 24 (10 * a + b) rfl rfl rfl (show 10 * a + b < 1200 from (by omega)) (by decide) dX0_first_82 ?_
          refine tp_eq (y := nI (100 * u9 + v9)) (e24) ?_
          refine lv_bipush (v := 100) C0.1 C0.2.1 dX0_first_83 (by decide) ?_
          refine lv_irem C0.1 C0.2.1 dX0_first_85 (by decide) ?_
          refine tp_eq (y := nI v9) ((pk_rem (a := 100 * u9 + v9) (d := 100) (by omega) (by omega) (by omega)).trans (by rw [show (100 * u9 + v9) % 100 = v9 by omega])) ?_
          exact x_iretS C0 hr hlk hM hS ⟨PB.of (by unfold sp_first; rw [hc]; (try dsimp only); rw [hd]; (try dsimp only); rw [if_neg (show ¬ X 17 (10 * a + b) < 0 from fun z => c_47 ((mkr_0 hX.2.2 (by omega)).mpr z)), if_neg n_54, e18]), hX.xs, rfl, rfl⟩ dX0_first_86 (Nat.le_of_ble_eq_true rfl) (Nat.le_of_ble_eq_true rfl)
        · have n_54 : d = 0 := (nI_eq (a := d) (b := 0) (by omega) (by omega)).mp c_54
          refine lv_aload_n C0.1 C0.2.1 dX0_first_57 rfl (lv_at hl 1 rfl) ?_
          refine x_geta C0 hG hM 8 5 (by decide) rfl rfl q126 dX0_first_58 ?_
          refine x_get C0 hG hM 5 (xw_5 dA ad _ _) rfl rfl in_X2 1 (by decide) rfl q85 dX0_first_61 ?_
          refine lv_iload C0.1 C0.2.1 dX0_first_64 (lv_at hl 0 rfl) ?_
          refine x_iald C0 hG hM 24 (10 * a + b) rfl rfl rfl (show 10 * a + b < 1200 from (by omega)) (by decide) dX0_first_66 ?_
          refine tp_eq (y := nI (100 * u9 + v9)) (e24) ?_
          refine lv_bipush (v := 100) C0.1 C0.2.1 dX0_first_67 (by decide) ?_
          refine lv_idiv C0.1 C0.2.1 dX0_first_69 (by decide) ?_
          refine tp_eq (y := nI u9) ((pk_div (a := 100 * u9 + v9) (d := 100) (by omega) (by omega) (by omega)).trans (by rw [show (100 * u9 + v9) / 100 = u9 by omega])) ?_
          refine lv_goto (tgt := 86) C0.1 C0.2.1 dX0_first_70 (by decide) ?_
          exact x_iretS C0 hr hlk hM hS ⟨PB.of (by unfold sp_first; rw [hc]; (try dsimp only); rw [hd]; (try dsimp only); rw [if_neg (show ¬ X 17 (10 * a + b) < 0 from fun z => c_47 ((mkr_0 hX.2.2 (by omega)).mpr z)), if_pos n_54, e17]), hX.xs, rfl, rfl⟩ dX0_first_86 (Nat.le_of_ble_eq_true rfl) (Nat.le_of_ble_eq_true rfl)
      · refine lv_bipush (v := (-9)) C0.1 C0.2.1 dX0_first_50 (by decide) ?_
        exact x_iretS C0 hr hlk hM hS ⟨PB.of (by unfold sp_first; rw [hc]; (try dsimp only); rw [hd]; (try dsimp only); rw [if_pos ((mkr_0 hX.2.2 (by omega)).mp c_47)]), hX.xs, rfl, rfl⟩ dX0_first_52 (Nat.le_of_ble_eq_true rfl) (Nat.le_of_ble_eq_true rfl)
    · have c_19 : ¬ ((inR p2 2).isSome = true) := b01_0.mp c_19
      refine lv_aload_n C0.1 C0.2.1 dX0_first_22 rfl (lv_at hl 0 rfl) ?_
      refine lv_bipush (v := (-2)) C0.1 C0.2.1 dX0_first_23 (by decide) ?_
      refine x_ki (va_runV (b := (ad 0)) (As := [.int (-2)]) (rest := []) C0 (xx_refuse l D dA ad X ([]) _ 2 (by omega)) (cwV 1 C0.2.2.2.2 (lw_V q195 q197 qs0 q39 q198) rfl rfl rfl hdx_X0_refuse ⟨(Nat.le_of_ble_eq_true rfl), (Nat.le_of_ble_eq_true rfl)⟩) (x_preV hG hM hS 0 (xw_0 dA ad _ _) rfl rfl) rfl rfl hl.1 rfl (lv_room (Nat.le_of_ble_eq_true rfl)) dX0_first_25 ⟨(Nat.le_of_ble_eq_true rfl), (Nat.le_of_ble_eq_true rfl)⟩) hG hM hS (fun r u H locs hr hM hS => ?_)
      obtain ⟨rfl, rfl⟩ := hr
      have hM : XF D A dA ad (refS X 2) ([]) H := hM
      exact x_iretS C0 hr hlk hM hS ⟨PB.of (by unfold sp_first; rw [hc]; (try dsimp only); rw [inR_none c_19]; rfl), (XS.up hX.xs 22 _ _ rfl), rfl, rfl⟩ dX0_first_28 (Nat.le_of_ble_eq_true rfl) (Nat.le_of_ble_eq_true rfl)
  · have c_5 : ¬ ((cellN p0 p1).isSome = true) := b01_0.mp c_5
    refine lv_aload_n C0.1 C0.2.1 dX0_first_8 rfl (lv_at hl 0 rfl) ?_
    refine lv_iconst (v := (-1)) C0.1 C0.2.1 dX0_first_9 (by decide) ?_
    refine x_ki (va_runV (b := (ad 0)) (As := [.int (-1)]) (rest := []) C0 (xx_refuse l D dA ad X ([]) _ 1 (by omega)) (cwV 1 C0.2.2.2.2 (lw_V q195 q197 qs0 q39 q198) rfl rfl rfl hdx_X0_refuse ⟨(Nat.le_of_ble_eq_true rfl), (Nat.le_of_ble_eq_true rfl)⟩) (x_preV hG hM hS 0 (xw_0 dA ad _ _) rfl rfl) rfl rfl hl.1 rfl (lv_room (Nat.le_of_ble_eq_true rfl)) dX0_first_10 ⟨(Nat.le_of_ble_eq_true rfl), (Nat.le_of_ble_eq_true rfl)⟩) hG hM hS (fun r u H locs hr hM hS => ?_)
    obtain ⟨rfl, rfl⟩ := hr
    have hM : XF D A dA ad (refS X 1) ([]) H := hM
    exact x_iretS C0 hr hlk hM hS ⟨PB.of (by unfold sp_first; rw [cellN_none c_5]; rfl), (XS.up hX.xs 22 _ _ rfl), rfl, rfl⟩ dX0_first_13 (Nat.le_of_ble_eq_true rfl) (Nat.le_of_ble_eq_true rfl)
theorem hdx_X0_marks : yX0_marks.cls = RX0 ∧ yX0_marks.cls ≠ "java/lang/invoke/MethodHandle" ∧ yX0_marks.cls ≠ "java/lang/invoke/VarHandle" ∧ (parseMethodDescriptor yX0_marks.desc).map (fun d => d.parameters.length) = some 0 := by decide +kernel
set_option maxHeartbeats 4000000 in
theorem xx_marks (l : Launch) (D : va_G) (dA : Nat → ClassId) (ad : Nat → Nat) (X : St) (L : Ex) (sz : Nat) (hX : XOk X) : xCi l yX0_marks cX0_marks 3 (some .int) { frames := 0, cells := 100, slots := 1000, locals := 0 } D dA ad X ([]) sz [.ref (ad 0)] 100 1000 (fun r u => PX (sp_marks X) ad r u) := by
  refine x_hI (by decide) (Nat.le_of_ble_eq_true rfl) ?_
  intro A p e s m below meth cd ls C0 hr hlk hnm hG hM hS hl
  have hl : lv_has ls 3 [(0, .ref (ad 0))] := hl
  have hO := hX.ok
  have hl2 := hO.len2
  have hl16 := hO.len16
  have hr16 := rl16 hX
  have hrl := hX.rl
  have hp12 := hO.pg12
  refine lv_iconst (v := 0) C0.1 C0.2.1 dX0_marks_0 (by decide) ?_
  refine lv_istore_n (lv' := [(1, .int 0), (0, .ref (ad 0))]) C0.1 C0.2.1 dX0_marks_1 rfl hl (by decide) rfl (fun ls hl => ?_)
  refine lv_iconst (v := 0) C0.1 C0.2.1 dX0_marks_2 (by decide) ?_
  refine lv_istore_n (lv' := [(2, .int 0), (1, .int 0), (0, .ref (ad 0))]) C0.1 C0.2.1 dX0_marks_3 rfl hl (by decide) rfl (fun ls hl => ?_)
  refine W_loop 1200 (fun i H locs ls => XF D A dA ad X ([]) H ∧ va_S A s.heap H locs ∧ lv_has ls 3 [(0, .ref (ad 0)), (1, .int (nI (marksF X i))), (2, .int (nI i))]) 4 ?_ ?_ 0 _ _ ls (Nat.zero_le _) ⟨hM, hS, lv_sub hl [2, 1, 0] rfl⟩
  · intro H locs ls ⟨hM, hS, hl⟩
    refine lv_iload_n C0.1 C0.2.1 dX0_marks_4 rfl (lv_at hl 2 rfl) ?_
    refine lv_sipush (v := 1200) C0.1 C0.2.1 dX0_marks_5 (by decide) ?_
    refine lv_icmp_ge (tgt := 37) C0.1 C0.2.1 dX0_marks_8 (by decide) (fun c_8 => ?_) (fun c_8 => ?_)
    · have n_8 : 1200 ≤ 1200 := (nI_leI (a := 1200) (b := 1200) (by omega) (by omega)).mp c_8
      refine lv_iload_n C0.1 C0.2.1 dX0_marks_37 rfl (lv_at hl 1 rfl) ?_
      exact x_iretS C0 hr hlk hM hS ⟨PB.of rfl, hX.xs, rfl, rfl⟩ dX0_marks_38 (Nat.le_of_ble_eq_true rfl) (Nat.le_of_ble_eq_true rfl)
    · have n_8 : ¬ 1200 ≤ 1200 := fun z => c_8 ((nI_leI (a := 1200) (b := 1200) (by omega) (by omega)).mpr z)
      omega
  · intro i H locs ls hi ⟨hM, hS, hl⟩ K4
    refine lv_iload_n C0.1 C0.2.1 dX0_marks_4 rfl (lv_at hl 2 rfl) ?_
    refine lv_sipush (v := 1200) C0.1 C0.2.1 dX0_marks_5 (by decide) ?_
    refine lv_icmp_ge (tgt := 37) C0.1 C0.2.1 dX0_marks_8 (by decide) (fun c_8 => ?_) (fun c_8 => ?_)
    · have n_8 : 1200 ≤ i := (nI_leI (a := 1200) (b := i) (by omega) (by omega)).mp c_8
      omega
    · have n_8 : ¬ 1200 ≤ i := fun z => c_8 ((nI_leI (a := 1200) (b := i) (by omega) (by omega)).mpr z)
      refine lv_iload_n C0.1 C0.2.1 dX0_marks_11 rfl (lv_at hl 1 rfl) ?_
      refine jn_i 29 [.int (nI (marksF X i))] (fun v => v = nI (if X 17 i < 0 then 0 else 1)) (fun v hv => ?_) (fun J => ?_)
      · subst hv
        refine lv_iadd C0.1 C0.2.1 dX0_marks_29 ?_
        refine tp_eq (y := nI (marksF X (i + 1))) (nI_add _ _) ?_
        refine lv_istore_n (lv' := [(1, .int (nI (marksF X (i + 1)))), (0, .ref (ad 0)), (2, .int (nI i))]) C0.1 C0.2.1 dX0_marks_30 rfl hl (by decide) rfl (fun ls hl => ?_)
        refine lv_iinc (v := nI (i + 1)) (lv' := [(2, .int (nI (i + 1))), (1, .int (nI (marksF X (i + 1)))), (0, .ref (ad 0))]) C0.1 C0.2.1 dX0_marks_31 hl (k := 2) rfl (nI_1 i) (by decide) rfl (fun ls hl => ?_)
        refine lv_goto (tgt := 4) C0.1 C0.2.1 dX0_marks_34 (by decide) ?_
        exact K4 _ _ ls ⟨hM, hS, lv_sub hl [2, 1, 0] rfl⟩
      · refine lv_aload_n C0.1 C0.2.1 dX0_marks_12 rfl (lv_at hl 0 rfl) ?_
        refine x_geta C0 hG hM 8 5 (by decide) rfl rfl q126 dX0_marks_13 ?_
        refine x_get C0 hG hM 5 (xw_5 dA ad _ _) rfl rfl in_X2 0 (by decide) rfl q83 dX0_marks_16 ?_
        refine lv_iload_n C0.1 C0.2.1 dX0_marks_19 rfl (lv_at hl 2 rfl) ?_
        refine x_zald C0 hG hM 23 i rfl rfl rfl (show i < 1200 from (by omega)) (by decide) dX0_marks_20 ?_
        refine lv_if_eq (tgt := 28) C0.1 C0.2.1 dX0_marks_21 (by decide) (fun c_21 => ?_) (fun c_21 => ?_)
        · refine lv_iconst (v := 0) C0.1 C0.2.1 dX0_marks_28 (by decide) ?_
          exact J _ (n10_t ((mkr_0 hX.2.2 hi).mp c_21))
        · refine lv_iconst (v := 1) C0.1 C0.2.1 dX0_marks_24 (by decide) ?_
          refine lv_goto (tgt := 29) C0.1 C0.2.1 dX0_marks_25 (by decide) ?_
          exact J _ (n10_f (fun z => c_21 ((mkr_0 hX.2.2 hi).mpr z)))
theorem hdx_X0_see : yX0_see.cls = RX0 ∧ yX0_see.cls ≠ "java/lang/invoke/MethodHandle" ∧ yX0_see.cls ≠ "java/lang/invoke/VarHandle" ∧ (parseMethodDescriptor yX0_see.desc).map (fun d => d.parameters.length) = some 3 := by decide +kernel
set_option maxHeartbeats 4000000 in
theorem xx_see (l : Launch) (D : va_G) (dA : Nat → ClassId) (ad : Nat → Nat) (X : St) (L : Ex) (sz : Nat) (p0 p1 p2 : Int32) (hX : XOk X) (hon : p2 = 0 ∨ p2 = 1) : xCi l yX0_see cX0_see 5 (some .int) { frames := 2, cells := 100, slots := 1000, locals := 42 } D dA ad X ([]) sz [.ref (ad 0), .int p0, .int p1, .int p2] 100 1000 (fun r u => PX (sp_see X p0 p1 p2) ad r u) := by
  refine x_hI (by decide) (Nat.le_of_ble_eq_true rfl) ?_
  intro A p e s m below meth cd ls C0 hr hlk hnm hG hM hS hl
  have hl : lv_has ls 5 [(0, .ref (ad 0)), (1, .int p0), (2, .int p1), (3, .int p2)] := hl
  have hO := hX.ok
  have hl2 := hO.len2
  have hl16 := hO.len16
  have hr16 := rl16 hX
  have hrl := hX.rl
  have hp12 := hO.pg12
  refine lv_iload_n C0.1 C0.2.1 dX0_see_0 rfl (lv_at hl 1 rfl) ?_
  refine lv_iload_n C0.1 C0.2.1 dX0_see_1 rfl (lv_at hl 2 rfl) ?_
  refine st_call C0 (xx_isCell l p0 p1) 2 (lw_S q516 q517 q39 q518) rfl rfl hdx_X0_isCell ⟨(Nat.le_of_ble_eq_true rfl), (Nat.le_of_ble_eq_true rfl)⟩ rfl hl.1 rfl (Nat.le_of_ble_eq_true rfl) dX0_see_2 ⟨(Nat.le_of_ble_eq_true rfl), (Nat.le_of_ble_eq_true rfl)⟩ (fun r hr => ?_)
  subst hr
  refine lv_if_ne (tgt := 14) C0.1 C0.2.1 dX0_see_5 (by decide) (fun c_5 => ?_) (fun c_5 => ?_)
  · have c_5 : (cellN p0 p1).isSome = true := b01_1.mp c_5
    obtain ⟨a, b, hc, ha, hb, rfl, rfl⟩ := cellN_get c_5
    refine lv_bipush (v := 10) C0.1 C0.2.1 dX0_see_14 (by decide) ?_
    refine lv_iload_n C0.1 C0.2.1 dX0_see_16 rfl (lv_at hl 1 rfl) ?_
    refine lv_imul C0.1 C0.2.1 dX0_see_17 ?_
    refine tp_eq (y := nI (10 * a)) (pk_mul 10 a) ?_
    refine lv_iload_n C0.1 C0.2.1 dX0_see_18 rfl (lv_at hl 2 rfl) ?_
    refine lv_iadd C0.1 C0.2.1 dX0_see_19 ?_
    refine tp_eq (y := nI (10 * a + b)) (nI_add (10 * a) b) ?_
    refine lv_istore (lv' := [(4, .int (nI (10 * a + b))), (0, .ref (ad 0)), (1, .int (nI a)), (2, .int (nI b)), (3, .int p2)]) C0.1 C0.2.1 dX0_see_20 hl (by decide) rfl (fun ls hl => ?_)
    refine lv_aload_n C0.1 C0.2.1 dX0_see_22 rfl (lv_at hl 1 rfl) ?_
    refine x_geta C0 hG hM 8 5 (by decide) rfl rfl q126 dX0_see_23 ?_
    refine x_get C0 hG hM 5 (xw_5 dA ad _ _) rfl rfl in_X2 0 (by decide) rfl q83 dX0_see_26 ?_
    refine lv_iload C0.1 C0.2.1 dX0_see_29 (lv_at hl 0 rfl) ?_
    refine x_zald C0 hG hM 23 (10 * a + b) rfl rfl rfl (show 10 * a + b < 1200 from (by omega)) (by decide) dX0_see_31 ?_
    refine lv_iload_n C0.1 C0.2.1 dX0_see_32 rfl (lv_at hl 4 rfl) ?_
    refine lv_icmp_ne (tgt := 38) C0.1 C0.2.1 dX0_see_33 (by decide) (fun c_33 => ?_) (fun c_33 => ?_)
    · refine lv_aload_n C0.1 C0.2.1 dX0_see_38 rfl (lv_at hl 1 rfl) ?_
      refine x_geta C0 hG hM 8 5 (by decide) rfl rfl q126 dX0_see_39 ?_
      refine x_get C0 hG hM 5 (xw_5 dA ad _ _) rfl rfl in_X2 0 (by decide) rfl q83 dX0_see_42 ?_
      refine lv_iload C0.1 C0.2.1 dX0_see_45 (lv_at hl 0 rfl) ?_
      refine lv_iload_n C0.1 C0.2.1 dX0_see_47 rfl (lv_at hl 4 rfl) ?_
      refine x_zast C0 hG hM hS 23 (10 * a + b) rfl rfl rfl (show 10 * a + b < 1200 from (by omega)) (by decide) (see_nar hon) dX0_see_48 (fun H locs hM hS => ?_)
      refine lv_aload_n C0.1 C0.2.1 dX0_see_49 rfl (lv_at hl 1 rfl) ?_
      refine x_geta C0 hG hM 8 5 (by decide) rfl rfl q126 dX0_see_50 ?_
      refine x_get C0 hG hM 5 (xw_5 dA ad _ _) rfl rfl in_X2 1 (by decide) rfl q85 dX0_see_53 ?_
      refine lv_iload C0.1 C0.2.1 dX0_see_56 (lv_at hl 0 rfl) ?_
      refine lv_sipush (v := 9999) C0.1 C0.2.1 dX0_see_58 (by decide) ?_
      refine x_iast C0 hG hM hS 24 (10 * a + b) rfl rfl rfl (show 10 * a + b < 1200 from (by omega)) (by decide) dX0_see_61 (fun H locs hM hS => ?_)
      refine lv_iconst (v := 1) C0.1 C0.2.1 dX0_see_62 (by decide) ?_
      have hM : XF D A dA ad (up2 (up2 (up2 (up2 X 17 (10 * a + b) (if p2 = 0 then -1 else 99)) 18 (10 * a + b) (if p2 = 0 then -1 else 99)) 23 (10 * a + b) p2) 24 (10 * a + b) 9999) ([]) H := by
        exact see_M hM
      exact x_iretS C0 hr hlk hM hS ⟨PB.sh (by unfold sp_see; rw [hc]; (try dsimp only); rw [if_neg (fun z => c_33 ((mkr_f hX.2.2 (by omega)).trans z))]) ((Sh.a0 _ (by decide)).trans (Sh.a0 _ (by decide))), (see_xs hX.xs hon), rfl, rfl⟩ dX0_see_63 (Nat.le_of_ble_eq_true rfl) (Nat.le_of_ble_eq_true rfl)
    · refine lv_iconst (v := 0) C0.1 C0.2.1 dX0_see_36 (by decide) ?_
      exact x_iretS C0 hr hlk hM hS ⟨PB.of (by unfold sp_see; rw [hc]; (try dsimp only); rw [if_pos ((mkr_f hX.2.2 (by omega)).symm.trans c_33)]), hX.xs, rfl, rfl⟩ dX0_see_37 (Nat.le_of_ble_eq_true rfl) (Nat.le_of_ble_eq_true rfl)
  · have c_5 : ¬ ((cellN p0 p1).isSome = true) := b01_0.mp c_5
    refine lv_aload_n C0.1 C0.2.1 dX0_see_8 rfl (lv_at hl 0 rfl) ?_
    refine lv_iconst (v := (-1)) C0.1 C0.2.1 dX0_see_9 (by decide) ?_
    refine x_ki (va_runV (b := (ad 0)) (As := [.int (-1)]) (rest := []) C0 (xx_refuse l D dA ad X ([]) _ 1 (by omega)) (cwV 1 C0.2.2.2.2 (lw_V q195 q197 qs0 q39 q198) rfl rfl rfl hdx_X0_refuse ⟨(Nat.le_of_ble_eq_true rfl), (Nat.le_of_ble_eq_true rfl)⟩) (x_preV hG hM hS 0 (xw_0 dA ad _ _) rfl rfl) rfl rfl hl.1 rfl (lv_room (Nat.le_of_ble_eq_true rfl)) dX0_see_10 ⟨(Nat.le_of_ble_eq_true rfl), (Nat.le_of_ble_eq_true rfl)⟩) hG hM hS (fun r u H locs hr hM hS => ?_)
    obtain ⟨rfl, rfl⟩ := hr
    have hM : XF D A dA ad (refS X 1) ([]) H := hM
    exact x_iretS C0 hr hlk hM hS ⟨PB.of (by unfold sp_see; rw [cellN_none c_5]; rfl), (XS.up hX.xs 22 _ _ rfl), rfl, rfl⟩ dX0_see_13 (Nat.le_of_ble_eq_true rfl) (Nat.le_of_ble_eq_true rfl)
theorem hdx_X0_fault : yX0_fault.cls = RX0 ∧ yX0_fault.cls ≠ "java/lang/invoke/MethodHandle" ∧ yX0_fault.cls ≠ "java/lang/invoke/VarHandle" ∧ (parseMethodDescriptor yX0_fault.desc).map (fun d => d.parameters.length) = some 2 := by decide +kernel
set_option maxHeartbeats 4000000 in
theorem xx_fault (l : Launch) (D : va_G) (dA : Nat → ClassId) (ad : Nat → Nat) (X : St) (L : Ex) (sz : Nat) (p0 p1 : Int32) (hX : XOk X) : xCi l yX0_fault cX0_fault 3 (some .int) { frames := 3, cells := 100, slots := 1000, locals := 61 } D dA ad X ([]) sz [.ref (ad 0), .int p0, .int p1] 100 1000 (fun r u => PX (sp_fault X p0 p1) ad r u) := by
  refine x_hI (by decide) (Nat.le_of_ble_eq_true rfl) ?_
  intro A p e s m below meth cd ls C0 hr hlk hnm hG hM hS hl
  have hl : lv_has ls 3 [(0, .ref (ad 0)), (1, .int p0), (2, .int p1)] := hl
  have hO := hX.ok
  have hl2 := hO.len2
  have hl16 := hO.len16
  have hr16 := rl16 hX
  have hrl := hX.rl
  have hp12 := hO.pg12
  refine lv_iload_n C0.1 C0.2.1 dX0_fault_0 rfl (lv_at hl 1 rfl) ?_
  refine lv_iconst (v := 1) C0.1 C0.2.1 dX0_fault_1 (by decide) ?_
  refine lv_isub C0.1 C0.2.1 dX0_fault_2 ?_
  refine lv_iconst (v := 3) C0.1 C0.2.1 dX0_fault_3 (by decide) ?_
  refine st_call C0 (xx_isIn l (p0 - 1) 3) 2 (lw_S q207 q208 q39 q209) rfl rfl hdx_X0_isIn ⟨(Nat.le_of_ble_eq_true rfl), (Nat.le_of_ble_eq_true rfl)⟩ rfl hl.1 rfl (Nat.le_of_ble_eq_true rfl) dX0_fault_4 ⟨(Nat.le_of_ble_eq_true rfl), (Nat.le_of_ble_eq_true rfl)⟩ (fun r hr => ?_)
  subst hr
  refine tp_eq (y := (if (inR (p0 - 1) 3).isSome = true then 1 else 0)) (b01_c (inR_lt (n := 3) (by decide))) ?_
  refine lv_if_ne (tgt := 17) C0.1 C0.2.1 dX0_fault_7 (by decide) (fun c_7 => ?_) (fun c_7 => ?_)
  · have c_7 : (inR (p0 - 1) 3).isSome = true := b01_1.mp c_7
    obtain ⟨k, hk, bk, rfl⟩ := inR_13g c_7
    refine lv_iload_n C0.1 C0.2.1 dX0_fault_17 rfl (lv_at hl 2 rfl) ?_
    refine jn_i 41 [.int p1] (fun v => v = nI (fltN X (k + 1))) (fun v hv => ?_) (fun J => ?_)
    · subst hv
      refine st_call C0 (xx_isIn l p1 (nI (fltN X (k + 1)))) 2 (lw_S q207 q208 q39 q209) rfl rfl hdx_X0_isIn ⟨(Nat.le_of_ble_eq_true rfl), (Nat.le_of_ble_eq_true rfl)⟩ rfl hl.1 rfl (Nat.le_of_ble_eq_true rfl) dX0_fault_41 ⟨(Nat.le_of_ble_eq_true rfl), (Nat.le_of_ble_eq_true rfl)⟩ (fun r hr => ?_)
      subst hr
      refine tp_eq (y := (if (inR p1 (fltN X (k + 1))).isSome = true then 1 else 0)) (b01_c (inR_lt (n := fltN X (k + 1)) (nI_toInt (by have := fltN_le hO (k + 1); omega)))) ?_
      refine lv_if_ne (tgt := 53) C0.1 C0.2.1 dX0_fault_44 (by decide) (fun c_44 => ?_) (fun c_44 => ?_)
      · have c_44 : (inR p1 (fltN X (k + 1))).isSome = true := b01_1.mp c_44
        obtain ⟨q, hq⟩ := Option.isSome_iff_exists.mp c_44
        have hnn := inR_nn c_44
        refine lv_aload_n C0.1 C0.2.1 dX0_fault_53 rfl (lv_at hl 0 rfl) ?_
        refine x_geta C0 hG hM 7 19 (by decide) rfl rfl q125 dX0_fault_54 ?_
        refine lv_iload_n C0.1 C0.2.1 dX0_fault_57 rfl (lv_at hl 1 rfl) ?_
        refine lv_iconst (v := 1) C0.1 C0.2.1 dX0_fault_58 (by decide) ?_
        refine lv_isub C0.1 C0.2.1 dX0_fault_59 ?_
        refine tp_eq (y := nI k) (nI_pred k) ?_
        refine lv_iload_n C0.1 C0.2.1 dX0_fault_60 rfl (lv_at hl 1 rfl) ?_
        refine lv_iconst (v := 1) C0.1 C0.2.1 dX0_fault_61 (by decide) ?_
        refine lv_icmp_ne (tgt := 76) C0.1 C0.2.1 dX0_fault_62 (by decide) (fun c_62 => ?_) (fun c_62 => ?_)
        · have n_62 : ¬ k + 1 = 1 := fun z => c_62 ((nI_eq (a := k + 1) (b := 1) (by omega) (by omega)).mpr z)
          refine lv_iload_n C0.1 C0.2.1 dX0_fault_76 rfl (lv_at hl 1 rfl) ?_
          refine lv_iconst (v := 2) C0.1 C0.2.1 dX0_fault_77 (by decide) ?_
          refine lv_icmp_ne (tgt := 92) C0.1 C0.2.1 dX0_fault_78 (by decide) (fun c_78 => ?_) (fun c_78 => ?_)
          · have n_78 : ¬ k + 1 = 2 := fun z => c_78 ((nI_eq (a := k + 1) (b := 2) (by omega) (by omega)).mpr z)
            obtain rfl : k = 2 := by omega
            refine x_newC (ci := 10) C0 hG hM hS [.int 0] rfl in_X10 tyX10 tyX10_ok q553 q554 q54 (by decide) (Nat.le_of_ble_eq_true rfl) (Nat.le_of_ble_eq_true rfl) dX0_fault_92 (fun q92 H hM hS => ?_)
            refine lv_dup C0.1 C0.2.1 dX0_fault_95 rfl ?_
            refine lv_iload_n C0.1 C0.2.1 dX0_fault_96 rfl (lv_at hl 2 rfl) ?_
            refine x_kv (va_runI (b := q92) (As := [.int p1]) (rest := [.ref q92, .int (nI 2), .ref (ad 19)]) C0 (x10_init l D dA ad X ([]) _ q92 p1) (cwI 1 C0.2.2.2.2 (lw_meth q557) rfl rfl rfl (C0.2.2.2.2 _ q54) (C0.2.2.2.2 _ q555) (C0.2.2.2.2 _ q556) rfl hdx_X10_init ⟨(Nat.le_of_ble_eq_true rfl), (Nat.le_of_ble_eq_true rfl)⟩) (x_preS hG hM hS) rfl rfl hl.1 rfl (lv_room (Nat.le_of_ble_eq_true rfl)) dX0_fault_97 ⟨(Nat.le_of_ble_eq_true rfl), (Nat.le_of_ble_eq_true rfl)⟩) hG hM hS (fun u H locs hr hM hS => ?_)
            subst hr
            have hM : XF D A dA ad X ([(q92, .inr (10, [.int p1]))]) H := hM
            refine x_fltNew C0 hG 2 hM hS rfl (by decide) hnn rfl rfl dX0_fault_100 (fun H locs hM hS => ?_)
            refine lv_iconst (v := 1) C0.1 C0.2.1 dX0_fault_101 (by decide) ?_
            exact x_iretS C0 hr hlk hM hS ⟨PB.of (by unfold sp_fault; rw [hk]; (try dsimp only); rw [hq]), (hX.xs.up 19 _ _ rfl), rfl, rfl⟩ dX0_fault_102 (Nat.le_of_ble_eq_true rfl) (Nat.le_of_ble_eq_true rfl)
          · have n_78 : k + 1 = 2 := (nI_eq (a := k + 1) (b := 2) (by omega) (by omega)).mp c_78
            obtain rfl : k = 1 := by omega
            refine x_newC (ci := 9) C0 hG hM hS [.int 0] rfl in_X9 tyX9 tyX9_ok q544 q545 q53 (by decide) (Nat.le_of_ble_eq_true rfl) (Nat.le_of_ble_eq_true rfl) dX0_fault_81 (fun q81 H hM hS => ?_)
            refine lv_dup C0.1 C0.2.1 dX0_fault_84 rfl ?_
            refine lv_iload_n C0.1 C0.2.1 dX0_fault_85 rfl (lv_at hl 2 rfl) ?_
            refine x_kv (va_runI (b := q81) (As := [.int p1]) (rest := [.ref q81, .int (nI 1), .ref (ad 19)]) C0 (x9_init l D dA ad X ([]) _ q81 p1) (cwI 1 C0.2.2.2.2 (lw_meth q548) rfl rfl rfl (C0.2.2.2.2 _ q53) (C0.2.2.2.2 _ q546) (C0.2.2.2.2 _ q547) rfl hdx_X9_init ⟨(Nat.le_of_ble_eq_true rfl), (Nat.le_of_ble_eq_true rfl)⟩) (x_preS hG hM hS) rfl rfl hl.1 rfl (lv_room (Nat.le_of_ble_eq_true rfl)) dX0_fault_86 ⟨(Nat.le_of_ble_eq_true rfl), (Nat.le_of_ble_eq_true rfl)⟩) hG hM hS (fun u H locs hr hM hS => ?_)
            subst hr
            have hM : XF D A dA ad X ([(q81, .inr (9, [.int p1]))]) H := hM
            refine lv_goto (tgt := 100) C0.1 C0.2.1 dX0_fault_89 (by decide) ?_
            refine x_fltNew C0 hG 1 hM hS rfl (by decide) hnn rfl rfl dX0_fault_100 (fun H locs hM hS => ?_)
            refine lv_iconst (v := 1) C0.1 C0.2.1 dX0_fault_101 (by decide) ?_
            exact x_iretS C0 hr hlk hM hS ⟨PB.of (by unfold sp_fault; rw [hk]; (try dsimp only); rw [hq]), (hX.xs.up 19 _ _ rfl), rfl, rfl⟩ dX0_fault_102 (Nat.le_of_ble_eq_true rfl) (Nat.le_of_ble_eq_true rfl)
        · have n_62 : k + 1 = 1 := (nI_eq (a := k + 1) (b := 1) (by omega) (by omega)).mp c_62
          obtain rfl : k = 0 := by omega
          refine x_newC (ci := 8) C0 hG hM hS [.int 0] rfl in_X8 tyX8 tyX8_ok q535 q536 q52 (by decide) (Nat.le_of_ble_eq_true rfl) (Nat.le_of_ble_eq_true rfl) dX0_fault_65 (fun q65 H hM hS => ?_)
          refine lv_dup C0.1 C0.2.1 dX0_fault_68 rfl ?_
          refine lv_iload_n C0.1 C0.2.1 dX0_fault_69 rfl (lv_at hl 2 rfl) ?_
          refine x_kv (va_runI (b := q65) (As := [.int p1]) (rest := [.ref q65, .int (nI 0), .ref (ad 19)]) C0 (x8_init l D dA ad X ([]) _ q65 p1) (cwI 1 C0.2.2.2.2 (lw_meth q539) rfl rfl rfl (C0.2.2.2.2 _ q52) (C0.2.2.2.2 _ q537) (C0.2.2.2.2 _ q538) rfl hdx_X8_init ⟨(Nat.le_of_ble_eq_true rfl), (Nat.le_of_ble_eq_true rfl)⟩) (x_preS hG hM hS) rfl rfl hl.1 rfl (lv_room (Nat.le_of_ble_eq_true rfl)) dX0_fault_70 ⟨(Nat.le_of_ble_eq_true rfl), (Nat.le_of_ble_eq_true rfl)⟩) hG hM hS (fun u H locs hr hM hS => ?_)
          subst hr
          have hM : XF D A dA ad X ([(q65, .inr (8, [.int p1]))]) H := hM
          refine lv_goto (tgt := 100) C0.1 C0.2.1 dX0_fault_73 (by decide) ?_
          refine x_fltNew C0 hG 0 hM hS rfl (by decide) hnn rfl rfl dX0_fault_100 (fun H locs hM hS => ?_)
          refine lv_iconst (v := 1) C0.1 C0.2.1 dX0_fault_101 (by decide) ?_
          exact x_iretS C0 hr hlk hM hS ⟨PB.of (by unfold sp_fault; rw [hk]; (try dsimp only); rw [hq]), (hX.xs.up 19 _ _ rfl), rfl, rfl⟩ dX0_fault_102 (Nat.le_of_ble_eq_true rfl) (Nat.le_of_ble_eq_true rfl)
      · have c_44 : ¬ ((inR p1 (fltN X (k + 1))).isSome = true) := b01_0.mp c_44
        refine lv_aload_n C0.1 C0.2.1 dX0_fault_47 rfl (lv_at hl 0 rfl) ?_
        refine lv_iconst (v := (-1)) C0.1 C0.2.1 dX0_fault_48 (by decide) ?_
        refine x_ki (va_runV (b := (ad 0)) (As := [.int (-1)]) (rest := []) C0 (xx_refuse l D dA ad X ([]) _ 1 (by omega)) (cwV 1 C0.2.2.2.2 (lw_V q195 q197 qs0 q39 q198) rfl rfl rfl hdx_X0_refuse ⟨(Nat.le_of_ble_eq_true rfl), (Nat.le_of_ble_eq_true rfl)⟩) (x_preV hG hM hS 0 (xw_0 dA ad _ _) rfl rfl) rfl rfl hl.1 rfl (lv_room (Nat.le_of_ble_eq_true rfl)) dX0_fault_49 ⟨(Nat.le_of_ble_eq_true rfl), (Nat.le_of_ble_eq_true rfl)⟩) hG hM hS (fun r u H locs hr hM hS => ?_)
        obtain ⟨rfl, rfl⟩ := hr
        have hM : XF D A dA ad (refS X 1) ([]) H := hM
        exact x_iretS C0 hr hlk hM hS ⟨PB.of (by unfold sp_fault; rw [hk]; (try dsimp only); rw [inR_none c_44]; rfl), (XS.up hX.xs 22 _ _ rfl), rfl, rfl⟩ dX0_fault_52 (Nat.le_of_ble_eq_true rfl) (Nat.le_of_ble_eq_true rfl)
    · refine lv_iload_n C0.1 C0.2.1 dX0_fault_18 rfl (lv_at hl 1 rfl) ?_
      refine lv_iconst (v := 1) C0.1 C0.2.1 dX0_fault_19 (by decide) ?_
      refine lv_icmp_ne (tgt := 28) C0.1 C0.2.1 dX0_fault_20 (by decide) (fun c_20 => ?_) (fun c_20 => ?_)
      · have n_20 : ¬ k + 1 = 1 := fun z => c_20 ((nI_eq (a := k + 1) (b := 1) (by omega) (by omega)).mpr z)
        refine lv_iload_n C0.1 C0.2.1 dX0_fault_28 rfl (lv_at hl 1 rfl) ?_
        refine lv_iconst (v := 2) C0.1 C0.2.1 dX0_fault_29 (by decide) ?_
        refine lv_icmp_ne (tgt := 40) C0.1 C0.2.1 dX0_fault_30 (by decide) (fun c_30 => ?_) (fun c_30 => ?_)
        · have n_30 : ¬ k + 1 = 2 := fun z => c_30 ((nI_eq (a := k + 1) (b := 2) (by omega) (by omega)).mpr z)
          refine lv_iconst (v := 2) C0.1 C0.2.1 dX0_fault_40 (by decide) ?_
          exact J _ (by rw [fltN, if_neg n_20, if_neg n_30]; rfl)
        · have n_30 : k + 1 = 2 := (nI_eq (a := k + 1) (b := 2) (by omega) (by omega)).mp c_30
          refine lv_aload_n C0.1 C0.2.1 dX0_fault_33 rfl (lv_at hl 0 rfl) ?_
          refine x_geti C0 hG hM 4 6 (by decide) rfl rfl q120 dX0_fault_34 ?_
          refine tp_eq (y := nI (pg X)) (hO.pgE) ?_
          refine lv_goto (tgt := 41) C0.1 C0.2.1 dX0_fault_37 (by decide) ?_
          exact J _ (by rw [fltN, if_neg n_20, if_pos n_30])
      · have n_20 : k + 1 = 1 := (nI_eq (a := k + 1) (b := 1) (by omega) (by omega)).mp c_20
        refine lv_bipush (v := 12) C0.1 C0.2.1 dX0_fault_23 (by decide) ?_
        refine lv_goto (tgt := 41) C0.1 C0.2.1 dX0_fault_25 (by decide) ?_
        exact J _ (by rw [fltN, if_pos n_20]; rfl)
  · have c_7 : ¬ ((inR (p0 - 1) 3).isSome = true) := b01_0.mp c_7
    refine lv_aload_n C0.1 C0.2.1 dX0_fault_10 rfl (lv_at hl 0 rfl) ?_
    refine lv_bipush (v := (-2)) C0.1 C0.2.1 dX0_fault_11 (by decide) ?_
    refine x_ki (va_runV (b := (ad 0)) (As := [.int (-2)]) (rest := []) C0 (xx_refuse l D dA ad X ([]) _ 2 (by omega)) (cwV 1 C0.2.2.2.2 (lw_V q195 q197 qs0 q39 q198) rfl rfl rfl hdx_X0_refuse ⟨(Nat.le_of_ble_eq_true rfl), (Nat.le_of_ble_eq_true rfl)⟩) (x_preV hG hM hS 0 (xw_0 dA ad _ _) rfl rfl) rfl rfl hl.1 rfl (lv_room (Nat.le_of_ble_eq_true rfl)) dX0_fault_13 ⟨(Nat.le_of_ble_eq_true rfl), (Nat.le_of_ble_eq_true rfl)⟩) hG hM hS (fun r u H locs hr hM hS => ?_)
    obtain ⟨rfl, rfl⟩ := hr
    have hM : XF D A dA ad (refS X 2) ([]) H := hM
    exact x_iretS C0 hr hlk hM hS ⟨PB.of (by unfold sp_fault; rw [inR_none c_7]; rfl), (XS.up hX.xs 22 _ _ rfl), rfl, rfl⟩ dX0_fault_16 (Nat.le_of_ble_eq_true rfl) (Nat.le_of_ble_eq_true rfl)
theorem hdx_X0_mend : yX0_mend.cls = RX0 ∧ yX0_mend.cls ≠ "java/lang/invoke/MethodHandle" ∧ yX0_mend.cls ≠ "java/lang/invoke/VarHandle" ∧ (parseMethodDescriptor yX0_mend.desc).map (fun d => d.parameters.length) = some 0 := by decide +kernel
set_option maxHeartbeats 4000000 in
theorem xx_mend (l : Launch) (D : va_G) (dA : Nat → ClassId) (ad : Nat → Nat) (X : St) (L : Ex) (sz : Nat) (hX : XOk X) : xCi l yX0_mend cX0_mend 3 (some .int) { frames := 1, cells := 100, slots := 1000, locals := 22 } D dA ad X ([]) sz [.ref (ad 0)] 100 1000 (fun r u => PX (sp_mend X) ad r u) := by
  refine x_hI (by decide) (Nat.le_of_ble_eq_true rfl) ?_
  intro A p e s m below meth cd ls C0 hr hlk hnm hG hM hS hl
  have hl : lv_has ls 3 [(0, .ref (ad 0))] := hl
  have hO := hX.ok
  have hl2 := hO.len2
  have hl16 := hO.len16
  have hr16 := rl16 hX
  have hrl := hX.rl
  have hp12 := hO.pg12
  refine lv_aload_n C0.1 C0.2.1 dX0_mend_0 rfl (lv_at hl 0 rfl) ?_
  refine fw_cp (va_runV (b := (ad 0)) (As := []) (rest := []) C0 (xx_told l D dA ad X ([]) _ ) (cwV 0 C0.2.2.2.2 (lw_V q567 q569 qs12 q39 q570) rfl rfl rfl hdx_X0_told ⟨(Nat.le_of_ble_eq_true rfl), (Nat.le_of_ble_eq_true rfl)⟩) (x_preV hG hM hS 0 (xw_0 dA ad _ _) rfl rfl) rfl rfl hl.1 rfl (lv_room (Nat.le_of_ble_eq_true rfl)) dX0_mend_1 ⟨(Nat.le_of_ble_eq_true rfl), (Nat.le_of_ble_eq_true rfl)⟩) (fun r hr => ?_)
  subst hr
  refine lv_istore_n (lv' := [(1, .int (nI (toldN X))), (0, .ref (ad 0))]) C0.1 C0.2.1 dX0_mend_4 rfl hl (by decide) rfl (fun ls hl => ?_)
  refine lv_iconst (v := 0) C0.1 C0.2.1 dX0_mend_5 (by decide) ?_
  refine lv_istore_n (lv' := [(2, .int 0), (1, .int (nI (toldN X))), (0, .ref (ad 0))]) C0.1 C0.2.1 dX0_mend_6 rfl hl (by decide) rfl (fun ls hl => ?_)
  refine W_loop 3 (fun i H locs ls => XF D A dA ad (mendF X i) ([]) H ∧ va_S A s.heap H locs ∧ lv_has ls 3 [(0, .ref (ad 0)), (1, .int (nI (toldN X))), (2, .int (nI i))]) 7 ?_ ?_ 0 _ _ ls (Nat.zero_le _) ⟨hM, hS, lv_sub hl [2, 1, 0] rfl⟩
  · intro H locs ls ⟨hM, hS, hl⟩
    refine lv_iload_n C0.1 C0.2.1 dX0_mend_7 rfl (lv_at hl 2 rfl) ?_
    refine lv_iconst (v := 3) C0.1 C0.2.1 dX0_mend_8 (by decide) ?_
    refine lv_icmp_ge (tgt := 25) C0.1 C0.2.1 dX0_mend_9 (by decide) (fun c_9 => ?_) (fun c_9 => ?_)
    · have n_9 : 3 ≤ 3 := (nI_leI (a := 3) (b := 3) (by omega) (by omega)).mp c_9
      refine lv_iload_n C0.1 C0.2.1 dX0_mend_25 rfl (lv_at hl 1 rfl) ?_
      exact x_iretS C0 hr hlk hM hS ⟨PB.of rfl, (mend_xs hX.xs), rfl, rfl⟩ dX0_mend_26 (Nat.le_of_ble_eq_true rfl) (Nat.le_of_ble_eq_true rfl)
    · have n_9 : ¬ 3 ≤ 3 := fun z => c_9 ((nI_leI (a := 3) (b := 3) (by omega) (by omega)).mpr z)
      omega
  · intro i H locs ls hi ⟨hM, hS, hl⟩ K7
    refine lv_iload_n C0.1 C0.2.1 dX0_mend_7 rfl (lv_at hl 2 rfl) ?_
    refine lv_iconst (v := 3) C0.1 C0.2.1 dX0_mend_8 (by decide) ?_
    refine lv_icmp_ge (tgt := 25) C0.1 C0.2.1 dX0_mend_9 (by decide) (fun c_9 => ?_) (fun c_9 => ?_)
    · have n_9 : 3 ≤ i := (nI_leI (a := 3) (b := i) (by omega) (by omega)).mp c_9
      omega
    · have n_9 : ¬ 3 ≤ i := fun z => c_9 ((nI_leI (a := 3) (b := i) (by omega) (by omega)).mpr z)
      refine lv_aload_n C0.1 C0.2.1 dX0_mend_12 rfl (lv_at hl 0 rfl) ?_
      refine x_geta C0 hG hM 7 19 (by decide) rfl rfl q125 dX0_mend_13 ?_
      refine lv_iload_n C0.1 C0.2.1 dX0_mend_16 rfl (lv_at hl 2 rfl) ?_
      refine lv_null C0.1 C0.2.1 dX0_mend_17 ?_
      refine x_fltP C0 hG hM hS i rfl (by omega) dX0_mend_18 (fun H locs hM hS => ?_)
      refine lv_iinc (v := nI (i + 1)) (lv' := [(2, .int (nI (i + 1))), (0, .ref (ad 0)), (1, .int (nI (toldN X)))]) C0.1 C0.2.1 dX0_mend_19 hl (k := 2) rfl (nI_1 i) (by decide) rfl (fun ls hl => ?_)
      refine lv_goto (tgt := 7) C0.1 C0.2.1 dX0_mend_22 (by decide) ?_
      exact K7 _ _ ls ⟨hM, hS, lv_sub hl [1, 2, 0] rfl⟩
theorem hdx_X0_blanks : yX0_blanks.cls = RX0 ∧ yX0_blanks.cls ≠ "java/lang/invoke/MethodHandle" ∧ yX0_blanks.cls ≠ "java/lang/invoke/VarHandle" ∧ (parseMethodDescriptor yX0_blanks.desc).map (fun d => d.parameters.length) = some 0 := by decide +kernel
set_option maxHeartbeats 4000000 in
theorem xx_blanks (l : Launch) (D : va_G) (dA : Nat → ClassId) (ad : Nat → Nat) (X : St) (L : Ex) (sz : Nat) (hX : XOk X) : xCi l yX0_blanks cX0_blanks 1 (some .int) { frames := 3, cells := 100, slots := 1000, locals := 70 } D dA ad X ([]) sz [.ref (ad 0)] 100 1000 (fun r u => PX (sp_blanks X) ad r u) := by
  refine x_hI (by decide) (Nat.le_of_ble_eq_true rfl) ?_
  intro A p e s m below meth cd ls C0 hr hlk hnm hG hM hS hl
  have hl : lv_has ls 1 [(0, .ref (ad 0))] := hl
  have hO := hX.ok
  have hl2 := hO.len2
  have hl16 := hO.len16
  have hr16 := rl16 hX
  have hrl := hX.rl
  have hp12 := hO.pg12
  refine lv_aload_n C0.1 C0.2.1 dX0_blanks_0 rfl (lv_at hl 0 rfl) ?_
  refine lv_bipush (v := 12) C0.1 C0.2.1 dX0_blanks_1 (by decide) ?_
  refine fw_cp (va_runV (b := (ad 0)) (As := [.int 12]) (rest := []) C0 (xx_blanksTo l D dA ad X ([]) _ 12 hX (by decide)) (cwV 1 C0.2.2.2.2 (lw_V q327 q329 qs4 q39 q330) rfl rfl rfl hdx_X0_blanksTo ⟨(Nat.le_of_ble_eq_true rfl), (Nat.le_of_ble_eq_true rfl)⟩) (x_preV hG hM hS 0 (xw_0 dA ad _ _) rfl rfl) rfl rfl hl.1 rfl (lv_room (Nat.le_of_ble_eq_true rfl)) dX0_blanks_3 ⟨(Nat.le_of_ble_eq_true rfl), (Nat.le_of_ble_eq_true rfl)⟩) (fun r hr => ?_)
  subst hr
  exact x_iretS C0 hr hlk hM hS ⟨PB.of rfl, hX.xs, rfl, rfl⟩ dX0_blanks_6 (Nat.le_of_ble_eq_true rfl) (Nat.le_of_ble_eq_true rfl)
theorem hdx_X0_count : yX0_count.cls = RX0 ∧ yX0_count.cls ≠ "java/lang/invoke/MethodHandle" ∧ yX0_count.cls ≠ "java/lang/invoke/VarHandle" ∧ (parseMethodDescriptor yX0_count.desc).map (fun d => d.parameters.length) = some 1 := by decide +kernel
set_option maxHeartbeats 4000000 in
theorem xx_count (l : Launch) (D : va_G) (dA : Nat → ClassId) (ad : Nat → Nat) (X : St) (L : Ex) (sz : Nat) (p0 : Int32) (hX : XOk X) : xCi l yX0_count cX0_count 4 (some .int) { frames := 1, cells := 100, slots := 1000, locals := 22 } D dA ad X ([]) sz [.ref (ad 0), .int p0] 100 1000 (fun r u => PX (sp_count X p0) ad r u) := by
  refine x_hI (by decide) (Nat.le_of_ble_eq_true rfl) ?_
  intro A p e s m below meth cd ls C0 hr hlk hnm hG hM hS hl
  have hl : lv_has ls 4 [(0, .ref (ad 0)), (1, .int p0)] := hl
  have hO := hX.ok
  have hl2 := hO.len2
  have hl16 := hO.len16
  have hr16 := rl16 hX
  have hrl := hX.rl
  have hp12 := hO.pg12
  refine lv_iload_n C0.1 C0.2.1 dX0_count_0 rfl (lv_at hl 1 rfl) ?_
  refine lv_bipush (v := 10) C0.1 C0.2.1 dX0_count_1 (by decide) ?_
  refine lv_icmp_le (tgt := 22) C0.1 C0.2.1 dX0_count_3 (by decide) (fun c_3 => ?_) (fun c_3 => ?_)
  · refine lv_iconst (v := 0) C0.1 C0.2.1 dX0_count_22 (by decide) ?_
    refine lv_istore_n (lv' := [(2, .int 0), (0, .ref (ad 0)), (1, .int p0)]) C0.1 C0.2.1 dX0_count_23 rfl hl (by decide) rfl (fun ls hl => ?_)
    refine lv_iload_n C0.1 C0.2.1 dX0_count_24 rfl (lv_at hl 2 rfl) ?_
    rcases hk : inR p0 11 with _ | k
    · refine lv_tableOut (tgt := 167) C0.1 C0.2.1 dX0_count_25 (inR_out hk) (by decide) ?_
      refine lv_bipush (v := (-9)) C0.1 C0.2.1 dX0_count_167 (by decide) ?_
      exact x_iretS C0 hr hlk hM hS ⟨PB.of (count_no hk (cnt_out (Or.inl c_3))), hX.xs, rfl, rfl⟩ dX0_count_169 (Nat.le_of_ble_eq_true rfl) (Nat.le_of_ble_eq_true rfl)
    · have hs := count_lo (S := X) hk
      obtain ⟨bk, rfl⟩ := inR_some hk (by decide)
      match k, bk, hs, C0, hl with
      | 0, _, hs, C0, hl => 
        refine lv_tableIn (tgt := 84) C0.1 C0.2.1 dX0_count_25 (by decide) (by decide) (off := 59) (by decide) (by decide) ?_
        refine lv_aload_n C0.1 C0.2.1 dX0_count_84 rfl (lv_at hl 1 rfl) ?_
        refine x_geti C0 hG hM 1 0 (by decide) rfl rfl q114 dX0_count_85 ?_
        exact x_iretS C0 hr hlk hM hS ⟨PB.of hs, hX.xs, rfl, rfl⟩ dX0_count_88 (Nat.le_of_ble_eq_true rfl) (Nat.le_of_ble_eq_true rfl)
      | 1, _, hs, C0, hl => 
        refine lv_tableIn (tgt := 89) C0.1 C0.2.1 dX0_count_25 (by decide) (by decide) (off := 64) (by decide) (by decide) ?_
        refine lv_iconst (v := 0) C0.1 C0.2.1 dX0_count_89 (by decide) ?_
        refine lv_istore_n (lv' := [(3, .int 0), (2, .int 0), (0, .ref (ad 0)), (1, .int (nI 1))]) C0.1 C0.2.1 dX0_count_90 rfl hl (by decide) rfl (fun ls hl => ?_)
        refine W_loop 12 (fun i H locs ls => XF D A dA ad X ([]) H ∧ va_S A s.heap H locs ∧ lv_has ls 4 [(0, .ref (ad 0)), (1, .int (nI 1)), (2, .int (nI (thereF X i))), (3, .int (nI i))]) 91 ?_ ?_ 0 _ _ ls (Nat.zero_le _) ⟨hM, hS, lv_sub hl [2, 3, 1, 0] rfl⟩
        · intro H locs ls ⟨hM, hS, hl⟩
          refine lv_iload_n C0.1 C0.2.1 dX0_count_91 rfl (lv_at hl 3 rfl) ?_
          refine lv_bipush (v := 12) C0.1 C0.2.1 dX0_count_92 (by decide) ?_
          refine lv_icmp_ge (tgt := 120) C0.1 C0.2.1 dX0_count_94 (by decide) (fun c_94 => ?_) (fun c_94 => ?_)
          · have n_94 : 12 ≤ 12 := (nI_leI (a := 12) (b := 12) (by omega) (by omega)).mp c_94
            refine lv_iload_n C0.1 C0.2.1 dX0_count_120 rfl (lv_at hl 2 rfl) ?_
            exact x_iretS C0 hr hlk hM hS ⟨PB.of hs, hX.xs, rfl, rfl⟩ dX0_count_121 (Nat.le_of_ble_eq_true rfl) (Nat.le_of_ble_eq_true rfl)
          · have n_94 : ¬ 12 ≤ 12 := fun z => c_94 ((nI_leI (a := 12) (b := 12) (by omega) (by omega)).mpr z)
            omega
        · intro i H locs ls hi ⟨hM, hS, hl⟩ K91
          refine lv_iload_n C0.1 C0.2.1 dX0_count_91 rfl (lv_at hl 3 rfl) ?_
          refine lv_bipush (v := 12) C0.1 C0.2.1 dX0_count_92 (by decide) ?_
          refine lv_icmp_ge (tgt := 120) C0.1 C0.2.1 dX0_count_94 (by decide) (fun c_94 => ?_) (fun c_94 => ?_)
          · have n_94 : 12 ≤ i := (nI_leI (a := 12) (b := i) (by omega) (by omega)).mp c_94
            omega
          · have n_94 : ¬ 12 ≤ i := fun z => c_94 ((nI_leI (a := 12) (b := i) (by omega) (by omega)).mpr z)
            refine lv_iload_n C0.1 C0.2.1 dX0_count_97 rfl (lv_at hl 2 rfl) ?_
            refine jn_i 112 [.int (nI (thereF X i))] (fun v => v = nI (if X 1 i = 0 then 0 else 1)) (fun v hv => ?_) (fun J => ?_)
            · subst hv
              refine lv_iadd C0.1 C0.2.1 dX0_count_112 ?_
              refine tp_eq (y := nI (thereF X (i + 1))) (nI_add _ _) ?_
              refine lv_istore_n (lv' := [(2, .int (nI (thereF X (i + 1)))), (0, .ref (ad 0)), (1, .int (nI 1)), (3, .int (nI i))]) C0.1 C0.2.1 dX0_count_113 rfl hl (by decide) rfl (fun ls hl => ?_)
              refine lv_iinc (v := nI (i + 1)) (lv' := [(3, .int (nI (i + 1))), (2, .int (nI (thereF X (i + 1)))), (0, .ref (ad 0)), (1, .int (nI 1))]) C0.1 C0.2.1 dX0_count_114 hl (k := 3) rfl (nI_1 i) (by decide) rfl (fun ls hl => ?_)
              refine lv_goto (tgt := 91) C0.1 C0.2.1 dX0_count_117 (by decide) ?_
              exact K91 _ _ ls ⟨hM, hS, lv_sub hl [2, 3, 1, 0] rfl⟩
            · refine lv_aload_n C0.1 C0.2.1 dX0_count_98 rfl (lv_at hl 0 rfl) ?_
              refine x_geta C0 hG hM 0 1 (by decide) rfl rfl q112 dX0_count_99 ?_
              refine lv_iload_n C0.1 C0.2.1 dX0_count_102 rfl (lv_at hl 3 rfl) ?_
              by_cases hc_103 : X 1 i = 0
              · refine x_camN C0 hG hM i hc_103 rfl (by omega) dX0_count_103 ?_
                refine lv_ifnonnullN C0.1 C0.2.1 dX0_count_104 ?_
                refine lv_iconst (v := 0) C0.1 C0.2.1 dX0_count_107 (by decide) ?_
                refine lv_goto (tgt := 112) C0.1 C0.2.1 dX0_count_108 (by decide) ?_
                exact J _ (n10_t hc_103)
              · refine x_camS C0 hG hM i hc_103 rfl (by omega) dX0_count_103 ?_
                refine lv_ifnonnull (tgt := 111) C0.1 C0.2.1 dX0_count_104 (by decide) ?_
                refine lv_iconst (v := 1) C0.1 C0.2.1 dX0_count_111 (by decide) ?_
                exact J _ (n10_f hc_103)
      | 2, _, hs, C0, hl => 
        refine lv_tableIn (tgt := 122) C0.1 C0.2.1 dX0_count_25 (by decide) (by decide) (off := 97) (by decide) (by decide) ?_
        refine lv_aload_n C0.1 C0.2.1 dX0_count_122 rfl (lv_at hl 1 rfl) ?_
        refine x_geti C0 hG hM 4 6 (by decide) rfl rfl q120 dX0_count_123 ?_
        exact x_iretS C0 hr hlk hM hS ⟨PB.of hs, hX.xs, rfl, rfl⟩ dX0_count_126 (Nat.le_of_ble_eq_true rfl) (Nat.le_of_ble_eq_true rfl)
      | 3, _, hs, C0, hl => 
        refine lv_tableIn (tgt := 127) C0.1 C0.2.1 dX0_count_25 (by decide) (by decide) (off := 102) (by decide) (by decide) ?_
        refine lv_aload_n C0.1 C0.2.1 dX0_count_127 rfl (lv_at hl 1 rfl) ?_
        refine x_geti C0 hG hM 13 9 (by decide) rfl rfl q131 dX0_count_128 ?_
        exact x_iretS C0 hr hlk hM hS ⟨PB.of hs, hX.xs, rfl, rfl⟩ dX0_count_131 (Nat.le_of_ble_eq_true rfl) (Nat.le_of_ble_eq_true rfl)
      | 4, _, hs, C0, hl => 
        refine lv_tableIn (tgt := 132) C0.1 C0.2.1 dX0_count_25 (by decide) (by decide) (off := 107) (by decide) (by decide) ?_
        refine lv_aload_n C0.1 C0.2.1 dX0_count_132 rfl (lv_at hl 1 rfl) ?_
        refine x_geti C0 hG hM 15 11 (by decide) rfl rfl q133 dX0_count_133 ?_
        exact x_iretS C0 hr hlk hM hS ⟨PB.of hs, hX.xs, rfl, rfl⟩ dX0_count_136 (Nat.le_of_ble_eq_true rfl) (Nat.le_of_ble_eq_true rfl)
      | 5, _, hs, C0, hl => 
        refine lv_tableIn (tgt := 137) C0.1 C0.2.1 dX0_count_25 (by decide) (by decide) (off := 112) (by decide) (by decide) ?_
        refine lv_aload_n C0.1 C0.2.1 dX0_count_137 rfl (lv_at hl 1 rfl) ?_
        refine x_geti C0 hG hM 16 12 (by decide) rfl rfl q134 dX0_count_138 ?_
        exact x_iretS C0 hr hlk hM hS ⟨PB.of hs, hX.xs, rfl, rfl⟩ dX0_count_141 (Nat.le_of_ble_eq_true rfl) (Nat.le_of_ble_eq_true rfl)
      | 6, _, hs, C0, hl => 
        refine lv_tableIn (tgt := 142) C0.1 C0.2.1 dX0_count_25 (by decide) (by decide) (off := 117) (by decide) (by decide) ?_
        refine lv_aload_n C0.1 C0.2.1 dX0_count_142 rfl (lv_at hl 1 rfl) ?_
        refine x_geti C0 hG hM 17 13 (by decide) rfl rfl q135 dX0_count_143 ?_
        exact x_iretS C0 hr hlk hM hS ⟨PB.of hs, hX.xs, rfl, rfl⟩ dX0_count_146 (Nat.le_of_ble_eq_true rfl) (Nat.le_of_ble_eq_true rfl)
      | 7, _, hs, C0, hl => 
        refine lv_tableIn (tgt := 147) C0.1 C0.2.1 dX0_count_25 (by decide) (by decide) (off := 122) (by decide) (by decide) ?_
        refine lv_aload_n C0.1 C0.2.1 dX0_count_147 rfl (lv_at hl 1 rfl) ?_
        refine x_geti C0 hG hM 18 14 (by decide) rfl rfl q136 dX0_count_148 ?_
        exact x_iretS C0 hr hlk hM hS ⟨PB.of hs, hX.xs, rfl, rfl⟩ dX0_count_151 (Nat.le_of_ble_eq_true rfl) (Nat.le_of_ble_eq_true rfl)
      | 8, _, hs, C0, hl => 
        refine lv_tableIn (tgt := 152) C0.1 C0.2.1 dX0_count_25 (by decide) (by decide) (off := 127) (by decide) (by decide) ?_
        refine lv_aload_n C0.1 C0.2.1 dX0_count_152 rfl (lv_at hl 1 rfl) ?_
        refine x_geti C0 hG hM 19 15 (by decide) rfl rfl q137 dX0_count_153 ?_
        exact x_iretS C0 hr hlk hM hS ⟨PB.of hs, hX.xs, rfl, rfl⟩ dX0_count_156 (Nat.le_of_ble_eq_true rfl) (Nat.le_of_ble_eq_true rfl)
      | 9, _, hs, C0, hl => 
        refine lv_tableIn (tgt := 157) C0.1 C0.2.1 dX0_count_25 (by decide) (by decide) (off := 132) (by decide) (by decide) ?_
        refine lv_aload_n C0.1 C0.2.1 dX0_count_157 rfl (lv_at hl 1 rfl) ?_
        refine x_geti C0 hG hM 20 16 (by decide) rfl rfl q138 dX0_count_158 ?_
        exact x_iretS C0 hr hlk hM hS ⟨PB.of hs, hX.xs, rfl, rfl⟩ dX0_count_161 (Nat.le_of_ble_eq_true rfl) (Nat.le_of_ble_eq_true rfl)
      | 10, _, hs, C0, hl => 
        refine lv_tableIn (tgt := 162) C0.1 C0.2.1 dX0_count_25 (by decide) (by decide) (off := 137) (by decide) (by decide) ?_
        refine lv_aload_n C0.1 C0.2.1 dX0_count_162 rfl (lv_at hl 1 rfl) ?_
        refine fw_cp (va_runV (b := (ad 0)) (As := []) (rest := []) C0 (xx_told l D dA ad X ([]) _ ) (cwV 0 C0.2.2.2.2 (lw_V q567 q569 qs12 q39 q570) rfl rfl rfl hdx_X0_told ⟨(Nat.le_of_ble_eq_true rfl), (Nat.le_of_ble_eq_true rfl)⟩) (x_preV hG hM hS 0 (xw_0 dA ad _ _) rfl rfl) rfl rfl hl.1 rfl (lv_room (Nat.le_of_ble_eq_true rfl)) dX0_count_163 ⟨(Nat.le_of_ble_eq_true rfl), (Nat.le_of_ble_eq_true rfl)⟩) (fun r hr => ?_)
        subst hr
        exact x_iretS C0 hr hlk hM hS ⟨PB.of hs, hX.xs, rfl, rfl⟩ dX0_count_166 (Nat.le_of_ble_eq_true rfl) (Nat.le_of_ble_eq_true rfl)
      | n + 11, h, _, _, _ => omega
  · refine lv_iload_n C0.1 C0.2.1 dX0_count_6 rfl (lv_at hl 1 rfl) ?_
    refine lv_bipush (v := 18) C0.1 C0.2.1 dX0_count_7 (by decide) ?_
    refine lv_icmp_ge (tgt := 22) C0.1 C0.2.1 dX0_count_9 (by decide) (fun c_9 => ?_) (fun c_9 => ?_)
    · refine lv_iconst (v := 0) C0.1 C0.2.1 dX0_count_22 (by decide) ?_
      refine lv_istore_n (lv' := [(2, .int 0), (0, .ref (ad 0)), (1, .int p0)]) C0.1 C0.2.1 dX0_count_23 rfl hl (by decide) rfl (fun ls hl => ?_)
      refine lv_iload_n C0.1 C0.2.1 dX0_count_24 rfl (lv_at hl 2 rfl) ?_
      rcases hk : inR p0 11 with _ | k
      · refine lv_tableOut (tgt := 167) C0.1 C0.2.1 dX0_count_25 (inR_out hk) (by decide) ?_
        refine lv_bipush (v := (-9)) C0.1 C0.2.1 dX0_count_167 (by decide) ?_
        exact x_iretS C0 hr hlk hM hS ⟨PB.of (count_no hk (cnt_out (Or.inr c_9))), hX.xs, rfl, rfl⟩ dX0_count_169 (Nat.le_of_ble_eq_true rfl) (Nat.le_of_ble_eq_true rfl)
      · have hs := count_lo (S := X) hk
        obtain ⟨bk, rfl⟩ := inR_some hk (by decide)
        match k, bk, hs, C0, hl with
        | 0, _, hs, C0, hl => 
          refine lv_tableIn (tgt := 84) C0.1 C0.2.1 dX0_count_25 (by decide) (by decide) (off := 59) (by decide) (by decide) ?_
          refine lv_aload_n C0.1 C0.2.1 dX0_count_84 rfl (lv_at hl 1 rfl) ?_
          refine x_geti C0 hG hM 1 0 (by decide) rfl rfl q114 dX0_count_85 ?_
          exact x_iretS C0 hr hlk hM hS ⟨PB.of hs, hX.xs, rfl, rfl⟩ dX0_count_88 (Nat.le_of_ble_eq_true rfl) (Nat.le_of_ble_eq_true rfl)
        | 1, _, hs, C0, hl => 
          refine lv_tableIn (tgt := 89) C0.1 C0.2.1 dX0_count_25 (by decide) (by decide) (off := 64) (by decide) (by decide) ?_
          refine lv_iconst (v := 0) C0.1 C0.2.1 dX0_count_89 (by decide) ?_
          refine lv_istore_n (lv' := [(3, .int 0), (2, .int 0), (0, .ref (ad 0)), (1, .int (nI 1))]) C0.1 C0.2.1 dX0_count_90 rfl hl (by decide) rfl (fun ls hl => ?_)
          refine W_loop 12 (fun i H locs ls => XF D A dA ad X ([]) H ∧ va_S A s.heap H locs ∧ lv_has ls 4 [(0, .ref (ad 0)), (1, .int (nI 1)), (2, .int (nI (thereF X i))), (3, .int (nI i))]) 91 ?_ ?_ 0 _ _ ls (Nat.zero_le _) ⟨hM, hS, lv_sub hl [2, 3, 1, 0] rfl⟩
          · intro H locs ls ⟨hM, hS, hl⟩
            refine lv_iload_n C0.1 C0.2.1 dX0_count_91 rfl (lv_at hl 3 rfl) ?_
            refine lv_bipush (v := 12) C0.1 C0.2.1 dX0_count_92 (by decide) ?_
            refine lv_icmp_ge (tgt := 120) C0.1 C0.2.1 dX0_count_94 (by decide) (fun c_94 => ?_) (fun c_94 => ?_)
            · have n_94 : 12 ≤ 12 := (nI_leI (a := 12) (b := 12) (by omega) (by omega)).mp c_94
              refine lv_iload_n C0.1 C0.2.1 dX0_count_120 rfl (lv_at hl 2 rfl) ?_
              exact x_iretS C0 hr hlk hM hS ⟨PB.of hs, hX.xs, rfl, rfl⟩ dX0_count_121 (Nat.le_of_ble_eq_true rfl) (Nat.le_of_ble_eq_true rfl)
            · have n_94 : ¬ 12 ≤ 12 := fun z => c_94 ((nI_leI (a := 12) (b := 12) (by omega) (by omega)).mpr z)
              omega
          · intro i H locs ls hi ⟨hM, hS, hl⟩ K91
            refine lv_iload_n C0.1 C0.2.1 dX0_count_91 rfl (lv_at hl 3 rfl) ?_
            refine lv_bipush (v := 12) C0.1 C0.2.1 dX0_count_92 (by decide) ?_
            refine lv_icmp_ge (tgt := 120) C0.1 C0.2.1 dX0_count_94 (by decide) (fun c_94 => ?_) (fun c_94 => ?_)
            · have n_94 : 12 ≤ i := (nI_leI (a := 12) (b := i) (by omega) (by omega)).mp c_94
              omega
            · have n_94 : ¬ 12 ≤ i := fun z => c_94 ((nI_leI (a := 12) (b := i) (by omega) (by omega)).mpr z)
              refine lv_iload_n C0.1 C0.2.1 dX0_count_97 rfl (lv_at hl 2 rfl) ?_
              refine jn_i 112 [.int (nI (thereF X i))] (fun v => v = nI (if X 1 i = 0 then 0 else 1)) (fun v hv => ?_) (fun J => ?_)
              · subst hv
                refine lv_iadd C0.1 C0.2.1 dX0_count_112 ?_
                refine tp_eq (y := nI (thereF X (i + 1))) (nI_add _ _) ?_
                refine lv_istore_n (lv' := [(2, .int (nI (thereF X (i + 1)))), (0, .ref (ad 0)), (1, .int (nI 1)), (3, .int (nI i))]) C0.1 C0.2.1 dX0_count_113 rfl hl (by decide) rfl (fun ls hl => ?_)
                refine lv_iinc (v := nI (i + 1)) (lv' := [(3, .int (nI (i + 1))), (2, .int (nI (thereF X (i + 1)))), (0, .ref (ad 0)), (1, .int (nI 1))]) C0.1 C0.2.1 dX0_count_114 hl (k := 3) rfl (nI_1 i) (by decide) rfl (fun ls hl => ?_)
                refine lv_goto (tgt := 91) C0.1 C0.2.1 dX0_count_117 (by decide) ?_
                exact K91 _ _ ls ⟨hM, hS, lv_sub hl [2, 3, 1, 0] rfl⟩
              · refine lv_aload_n C0.1 C0.2.1 dX0_count_98 rfl (lv_at hl 0 rfl) ?_
                refine x_geta C0 hG hM 0 1 (by decide) rfl rfl q112 dX0_count_99 ?_
                refine lv_iload_n C0.1 C0.2.1 dX0_count_102 rfl (lv_at hl 3 rfl) ?_
                by_cases hc_103 : X 1 i = 0
                · refine x_camN C0 hG hM i hc_103 rfl (by omega) dX0_count_103 ?_
                  refine lv_ifnonnullN C0.1 C0.2.1 dX0_count_104 ?_
                  refine lv_iconst (v := 0) C0.1 C0.2.1 dX0_count_107 (by decide) ?_
                  refine lv_goto (tgt := 112) C0.1 C0.2.1 dX0_count_108 (by decide) ?_
                  exact J _ (n10_t hc_103)
                · refine x_camS C0 hG hM i hc_103 rfl (by omega) dX0_count_103 ?_
                  refine lv_ifnonnull (tgt := 111) C0.1 C0.2.1 dX0_count_104 (by decide) ?_
                  refine lv_iconst (v := 1) C0.1 C0.2.1 dX0_count_111 (by decide) ?_
                  exact J _ (n10_f hc_103)
        | 2, _, hs, C0, hl => 
          refine lv_tableIn (tgt := 122) C0.1 C0.2.1 dX0_count_25 (by decide) (by decide) (off := 97) (by decide) (by decide) ?_
          refine lv_aload_n C0.1 C0.2.1 dX0_count_122 rfl (lv_at hl 1 rfl) ?_
          refine x_geti C0 hG hM 4 6 (by decide) rfl rfl q120 dX0_count_123 ?_
          exact x_iretS C0 hr hlk hM hS ⟨PB.of hs, hX.xs, rfl, rfl⟩ dX0_count_126 (Nat.le_of_ble_eq_true rfl) (Nat.le_of_ble_eq_true rfl)
        | 3, _, hs, C0, hl => 
          refine lv_tableIn (tgt := 127) C0.1 C0.2.1 dX0_count_25 (by decide) (by decide) (off := 102) (by decide) (by decide) ?_
          refine lv_aload_n C0.1 C0.2.1 dX0_count_127 rfl (lv_at hl 1 rfl) ?_
          refine x_geti C0 hG hM 13 9 (by decide) rfl rfl q131 dX0_count_128 ?_
          exact x_iretS C0 hr hlk hM hS ⟨PB.of hs, hX.xs, rfl, rfl⟩ dX0_count_131 (Nat.le_of_ble_eq_true rfl) (Nat.le_of_ble_eq_true rfl)
        | 4, _, hs, C0, hl => 
          refine lv_tableIn (tgt := 132) C0.1 C0.2.1 dX0_count_25 (by decide) (by decide) (off := 107) (by decide) (by decide) ?_
          refine lv_aload_n C0.1 C0.2.1 dX0_count_132 rfl (lv_at hl 1 rfl) ?_
          refine x_geti C0 hG hM 15 11 (by decide) rfl rfl q133 dX0_count_133 ?_
          exact x_iretS C0 hr hlk hM hS ⟨PB.of hs, hX.xs, rfl, rfl⟩ dX0_count_136 (Nat.le_of_ble_eq_true rfl) (Nat.le_of_ble_eq_true rfl)
        | 5, _, hs, C0, hl => 
          refine lv_tableIn (tgt := 137) C0.1 C0.2.1 dX0_count_25 (by decide) (by decide) (off := 112) (by decide) (by decide) ?_
          refine lv_aload_n C0.1 C0.2.1 dX0_count_137 rfl (lv_at hl 1 rfl) ?_
          refine x_geti C0 hG hM 16 12 (by decide) rfl rfl q134 dX0_count_138 ?_
          exact x_iretS C0 hr hlk hM hS ⟨PB.of hs, hX.xs, rfl, rfl⟩ dX0_count_141 (Nat.le_of_ble_eq_true rfl) (Nat.le_of_ble_eq_true rfl)
        | 6, _, hs, C0, hl => 
          refine lv_tableIn (tgt := 142) C0.1 C0.2.1 dX0_count_25 (by decide) (by decide) (off := 117) (by decide) (by decide) ?_
          refine lv_aload_n C0.1 C0.2.1 dX0_count_142 rfl (lv_at hl 1 rfl) ?_
          refine x_geti C0 hG hM 17 13 (by decide) rfl rfl q135 dX0_count_143 ?_
          exact x_iretS C0 hr hlk hM hS ⟨PB.of hs, hX.xs, rfl, rfl⟩ dX0_count_146 (Nat.le_of_ble_eq_true rfl) (Nat.le_of_ble_eq_true rfl)
        | 7, _, hs, C0, hl => 
          refine lv_tableIn (tgt := 147) C0.1 C0.2.1 dX0_count_25 (by decide) (by decide) (off := 122) (by decide) (by decide) ?_
          refine lv_aload_n C0.1 C0.2.1 dX0_count_147 rfl (lv_at hl 1 rfl) ?_
          refine x_geti C0 hG hM 18 14 (by decide) rfl rfl q136 dX0_count_148 ?_
          exact x_iretS C0 hr hlk hM hS ⟨PB.of hs, hX.xs, rfl, rfl⟩ dX0_count_151 (Nat.le_of_ble_eq_true rfl) (Nat.le_of_ble_eq_true rfl)
        | 8, _, hs, C0, hl => 
          refine lv_tableIn (tgt := 152) C0.1 C0.2.1 dX0_count_25 (by decide) (by decide) (off := 127) (by decide) (by decide) ?_
          refine lv_aload_n C0.1 C0.2.1 dX0_count_152 rfl (lv_at hl 1 rfl) ?_
          refine x_geti C0 hG hM 19 15 (by decide) rfl rfl q137 dX0_count_153 ?_
          exact x_iretS C0 hr hlk hM hS ⟨PB.of hs, hX.xs, rfl, rfl⟩ dX0_count_156 (Nat.le_of_ble_eq_true rfl) (Nat.le_of_ble_eq_true rfl)
        | 9, _, hs, C0, hl => 
          refine lv_tableIn (tgt := 157) C0.1 C0.2.1 dX0_count_25 (by decide) (by decide) (off := 132) (by decide) (by decide) ?_
          refine lv_aload_n C0.1 C0.2.1 dX0_count_157 rfl (lv_at hl 1 rfl) ?_
          refine x_geti C0 hG hM 20 16 (by decide) rfl rfl q138 dX0_count_158 ?_
          exact x_iretS C0 hr hlk hM hS ⟨PB.of hs, hX.xs, rfl, rfl⟩ dX0_count_161 (Nat.le_of_ble_eq_true rfl) (Nat.le_of_ble_eq_true rfl)
        | 10, _, hs, C0, hl => 
          refine lv_tableIn (tgt := 162) C0.1 C0.2.1 dX0_count_25 (by decide) (by decide) (off := 137) (by decide) (by decide) ?_
          refine lv_aload_n C0.1 C0.2.1 dX0_count_162 rfl (lv_at hl 1 rfl) ?_
          refine fw_cp (va_runV (b := (ad 0)) (As := []) (rest := []) C0 (xx_told l D dA ad X ([]) _ ) (cwV 0 C0.2.2.2.2 (lw_V q567 q569 qs12 q39 q570) rfl rfl rfl hdx_X0_told ⟨(Nat.le_of_ble_eq_true rfl), (Nat.le_of_ble_eq_true rfl)⟩) (x_preV hG hM hS 0 (xw_0 dA ad _ _) rfl rfl) rfl rfl hl.1 rfl (lv_room (Nat.le_of_ble_eq_true rfl)) dX0_count_163 ⟨(Nat.le_of_ble_eq_true rfl), (Nat.le_of_ble_eq_true rfl)⟩) (fun r hr => ?_)
          subst hr
          exact x_iretS C0 hr hlk hM hS ⟨PB.of hs, hX.xs, rfl, rfl⟩ dX0_count_166 (Nat.le_of_ble_eq_true rfl) (Nat.le_of_ble_eq_true rfl)
        | n + 11, h, _, _, _ => omega
    · obtain ⟨k, bk, rfl, hs⟩ := count_hi (S := X) (cnt_mid c_3 c_9)
      refine lv_aload_n C0.1 C0.2.1 dX0_count_12 rfl (lv_at hl 0 rfl) ?_
      refine x_geta C0 hG hM 12 22 (by decide) rfl rfl q130 dX0_count_13 ?_
      refine lv_iload_n C0.1 C0.2.1 dX0_count_16 rfl (lv_at hl 1 rfl) ?_
      refine lv_bipush (v := 10) C0.1 C0.2.1 dX0_count_17 (by decide) ?_
      refine lv_isub C0.1 C0.2.1 dX0_count_19 ?_
      refine tp_eq (y := nI (k + 1)) (pk_sub (a := k + 11) (b := 10) (by omega)) ?_
      refine x_iald C0 hG hM 22 (k + 1) rfl rfl rfl (show k + 1 < 8 from (by omega)) (by decide) dX0_count_20 ?_
      exact x_iretS C0 hr hlk hM hS ⟨PB.of hs, hX.xs, rfl, rfl⟩ dX0_count_21 (Nat.le_of_ble_eq_true rfl) (Nat.le_of_ble_eq_true rfl)
