set_option maxRecDepth 100000
set_option linter.unusedVariables false
theorem hdx_X0_turn : yX0_turn.cls = RX0 ∧ yX0_turn.cls ≠ "java/lang/invoke/MethodHandle" ∧ yX0_turn.cls ≠ "java/lang/invoke/VarHandle" ∧ (parseMethodDescriptor yX0_turn.desc).map (fun d => d.parameters.length) = some 2 := by decide +kernel
set_option maxHeartbeats 4000000 in
theorem xx_turn (l : Launch) (D : va_G) (dA : Nat → ClassId) (ad : Nat → Nat) (X : St) (L : Ex) (sz : Nat) (p0 p1 : Int32) (hX : XOk X) : xCh l yX0_turn cX0_turn 6 (some .int) [(0, 73, 74, 7)] { frames := 6, cells := 100, slots := 1000, locals := 135 } D dA ad X ([]) sz [.ref (ad 0), .int p0, .int p1] 100 1000 (fun r u => PX (sp_turn X p0 p1) ad r u) := by
  refine x_hH (by decide) (Nat.le_of_ble_eq_true rfl) ?_
  intro A p e s m below meth cd ls C0 hr hlk hT hG hM hS hl
  have hl : lv_has ls 6 [(0, .ref (ad 0)), (1, .int p0), (2, .int p1)] := hl
  have hO := hX.ok
  have hl2 := hO.len2
  have hl16 := hO.len16
  have hr16 := rl16 hX
  have hrl := hX.rl
  have hp12 := hO.pg12
  refine lv_aload_n C0.1 C0.2.1 dX0_turn_0 rfl (lv_at hl 0 rfl) ?_
  refine lv_iload_n C0.1 C0.2.1 dX0_turn_1 rfl (lv_at hl 1 rfl) ?_
  refine x_ct (av := [.int p0]) (rest := []) (x := exE (0, 73, 74, 7)) C0 hG hM hS (xx_camAt l D dA ad X ([]) _ p0) 1 (lw_V q225 q227 qs1 q39 q228) rfl rfl hdx_X0_camAt ⟨(Nat.le_of_ble_eq_true rfl), (Nat.le_of_ble_eq_true rfl)⟩ rfl hl.1 rfl (Nat.le_of_ble_eq_true rfl) dX0_turn_2 ⟨(Nat.le_of_ble_eq_true rfl), (Nat.le_of_ble_eq_true rfl)⟩ ⟨[], _, hT, by decide⟩ (by decide) (by decide) q224 (fun v locs hP hS => ?_) (fun q2 k2 H locs hK hM hS => ?_)
  · obtain ⟨j, hj, hth, rfl⟩ := hP
    obtain ⟨bj, rfl⟩ := inR_some hj (by decide)
    refine at_fr 5 [.ref (ad (100 + j))] rfl rfl ?_
    refine lv_astore_n (lv' := [(3, .ref (ad (100 + j))), (0, .ref (ad 0)), (1, .int (nI j)), (2, .int p1)]) C0.1 C0.2.1 dX0_turn_5 rfl hl (by decide) rfl (fun ls hl => ?_)
    refine lv_aload_n C0.1 C0.2.1 dX0_turn_6 rfl (lv_at hl 1 rfl) ?_
    refine lv_iload_n C0.1 C0.2.1 dX0_turn_7 rfl (lv_at hl 3 rfl) ?_
    refine lv_iconst (v := 1) C0.1 C0.2.1 dX0_turn_8 (by decide) ?_
    refine x_ct (av := [.int p1, .int 1]) (rest := []) (x := exE (0, 73, 74, 7)) C0 hG hM hS (xx_steps l D dA ad X ([]) _ p1 1) 2 (lw_V q300 q302 qs3 q39 q303) rfl rfl hdx_X0_steps ⟨(Nat.le_of_ble_eq_true rfl), (Nat.le_of_ble_eq_true rfl)⟩ rfl hl.1 rfl (Nat.le_of_ble_eq_true rfl) dX0_turn_9 ⟨(Nat.le_of_ble_eq_true rfl), (Nat.le_of_ble_eq_true rfl)⟩ ⟨[], _, hT, by decide⟩ (by decide) (by decide) q224 (fun v locs hP hS => ?_) (fun q9 k9 H locs hK hM hS => ?_)
    · obtain ⟨rfl, hst⟩ := hP
      refine at_fr 12 [] rfl rfl ?_
      obtain ⟨i, hi, bi, rfl⟩ := inR_get ((stp1 hO).mp hst) (by omega)
      refine x_newC (ci := 5) C0 hG hM hS [.null] rfl in_X5 tyX5 tyX5_ok q63 q210 q44 (by decide) (Nat.le_of_ble_eq_true rfl) (Nat.le_of_ble_eq_true rfl) dX0_turn_12 (fun q12 H hM hS => ?_)
      refine lv_dup C0.1 C0.2.1 dX0_turn_15 rfl ?_
      refine lv_aload_n C0.1 C0.2.1 dX0_turn_16 rfl (lv_at hl 1 rfl) ?_
      refine x_geti C0 hG hM 1 0 (by decide) rfl rfl q114 dX0_turn_17 ?_
      refine tp_eq (y := nI (ln X)) (hO.len) ?_
      refine x_kv (va_runI (b := q12) (As := [.int (nI (ln X))]) (rest := [.ref q12]) C0 (x5_init l D dA ad X ([]) _ q12 (ln X) (by omega)) (cwI 1 C0.2.2.2.2 (lw_meth q213) rfl rfl rfl (C0.2.2.2.2 _ q44) (C0.2.2.2.2 _ q211) (C0.2.2.2.2 _ q212) rfl hdx_X5_init ⟨(Nat.le_of_ble_eq_true rfl), (Nat.le_of_ble_eq_true rfl)⟩) (x_preS hG hM hS) rfl rfl hl.1 rfl (lv_room (Nat.le_of_ble_eq_true rfl)) dX0_turn_20 ⟨(Nat.le_of_ble_eq_true rfl), (Nat.le_of_ble_eq_true rfl)⟩) hG hM hS (fun u H locs hr hM hS => ?_)
      obtain ⟨r20, rfl⟩ := hr
      have hM : XF D A dA ad X ([(r20, .inl (dA 0, ln X, .inl (fun _ => 0))), (q12, .inr (5, [.ref r20]))]) H := hM
      refine lv_astore (lv' := [(4, .ref q12), (3, .ref (ad (100 + j))), (0, .ref (ad 0)), (1, .int (nI j)), (2, .int (nI i))]) C0.1 C0.2.1 dX0_turn_23 hl (by decide) rfl (fun ls hl => ?_)
      refine lv_iconst (v := 0) C0.1 C0.2.1 dX0_turn_25 (by decide) ?_
      refine lv_istore (lv' := [(5, .int 0), (4, .ref q12), (3, .ref (ad (100 + j))), (0, .ref (ad 0)), (1, .int (nI j)), (2, .int (nI i))]) C0.1 C0.2.1 dX0_turn_26 hl (by decide) rfl (fun ls hl => ?_)
      refine W_loop (ln X) (fun t H locs ls => XF D A dA ad X ([(r20, .inl (dA 0, ln X, .inl (rtF (fun _ => 0) (ln X) i (row X j) t))), (q12, .inr (5, [.ref r20]))]) H ∧ va_S A s.heap H locs ∧ lv_has ls 6 [(0, .ref (ad 0)), (1, .int (nI j)), (2, .int (nI i)), (3, .ref (ad (100 + j))), (4, .ref q12), (5, .int (nI t))]) 28 ?_ ?_ 0 _ _ ls (Nat.zero_le _) ⟨hM, hS, lv_sub hl [3, 4, 5, 2, 1, 0] rfl⟩
      · intro H locs ls ⟨hM, hS, hl⟩
        refine lv_iload C0.1 C0.2.1 dX0_turn_28 (lv_at hl 5 rfl) ?_
        refine lv_aload_n C0.1 C0.2.1 dX0_turn_30 rfl (lv_at hl 0 rfl) ?_
        refine x_geti C0 hG hM 1 0 (by decide) rfl rfl q114 dX0_turn_31 ?_
        refine tp_eq (y := nI (ln X)) (hO.len) ?_
        refine lv_icmp_ge (tgt := 64) C0.1 C0.2.1 dX0_turn_34 (by decide) (fun c_34 => ?_) (fun c_34 => ?_)
        · have n_34 : ln X ≤ ln X := (nI_leI (a := ln X) (b := ln X) (by omega) (by omega)).mp c_34
          refine lv_aload_n C0.1 C0.2.1 dX0_turn_64 rfl (lv_at hl 0 rfl) ?_
          refine x_geta C0 hG hM 0 1 (by decide) rfl rfl q112 dX0_turn_65 ?_
          refine lv_iload_n C0.1 C0.2.1 dX0_turn_68 rfl (lv_at hl 1 rfl) ?_
          refine lv_aload C0.1 C0.2.1 dX0_turn_69 (lv_at hl 4 rfl) ?_
          refine x_camNew C0 hG hM hS j (put X 2 (trnF (X 2) j i (ln X))) rfl bj hrl.symm (by omega) (by rw [put_ne _ _ (by decide)]; exact hth) (fun a k h1 h2 => turn_h2 a k h1 h2 hl16) (turn_h3 bi) dX0_turn_71 (fun H locs hM hS => ?_)
          refine lv_iconst (v := 1) C0.1 C0.2.1 dX0_turn_72 (by decide) ?_
          exact x_iretS C0 hr hlk hM hS ⟨PB.of ((onCam_j hj hth).trans (by (try dsimp only); rw [hi])), (put2_xs hX.xs _), (by dsimp only; rw [va_up_ne _ _ (by omega), va_up_ne _ _ (by omega)]), rfl⟩ dX0_turn_73 (Nat.le_of_ble_eq_true rfl) (Nat.le_of_ble_eq_true rfl)
        · have n_34 : ¬ ln X ≤ ln X := fun z => c_34 ((nI_leI (a := ln X) (b := ln X) (by omega) (by omega)).mpr z)
          omega
      · intro t H locs ls ht ⟨hM, hS, hl⟩ K28
        refine lv_iload C0.1 C0.2.1 dX0_turn_28 (lv_at hl 5 rfl) ?_
        refine lv_aload_n C0.1 C0.2.1 dX0_turn_30 rfl (lv_at hl 0 rfl) ?_
        refine x_geti C0 hG hM 1 0 (by decide) rfl rfl q114 dX0_turn_31 ?_
        refine tp_eq (y := nI (ln X)) (hO.len) ?_
        refine lv_icmp_ge (tgt := 64) C0.1 C0.2.1 dX0_turn_34 (by decide) (fun c_34 => ?_) (fun c_34 => ?_)
        · have n_34 : ln X ≤ t := (nI_leI (a := ln X) (b := t) (by omega) (by omega)).mp c_34
          omega
        · have n_34 : ¬ ln X ≤ t := fun z => c_34 ((nI_leI (a := ln X) (b := t) (by omega) (by omega)).mpr z)
          refine lv_aload C0.1 C0.2.1 dX0_turn_37 (lv_at hl 4 rfl) ?_
          refine x_egetN C0 hG hM 1 rfl rfl in_X5 0 (by decide) rfl (hG.2.1.f 3 rfl) dX0_turn_39 ?_
          refine lv_iload C0.1 C0.2.1 dX0_turn_42 (lv_at hl 5 rfl) ?_
          refine lv_iload_n C0.1 C0.2.1 dX0_turn_44 rfl (lv_at hl 2 rfl) ?_
          refine lv_iadd C0.1 C0.2.1 dX0_turn_45 ?_
          refine tp_eq (y := nI (t + i)) (nI_add t i) ?_
          refine lv_aload_n C0.1 C0.2.1 dX0_turn_46 rfl (lv_at hl 0 rfl) ?_
          refine x_geti C0 hG hM 1 0 (by decide) rfl rfl q114 dX0_turn_47 ?_
          refine tp_eq (y := nI (ln X)) (hO.len) ?_
          refine lv_irem C0.1 C0.2.1 dX0_turn_50 (nI_ne0 (by omega) (by omega)) ?_
          refine tp_eq (y := nI ((t + i) % (ln X))) (pk_rem (a := t + i) (d := ln X) (by omega) (by omega) (by omega)) ?_
          refine lv_aload_n C0.1 C0.2.1 dX0_turn_51 rfl (lv_at hl 3 rfl) ?_
          refine lv_iload C0.1 C0.2.1 dX0_turn_52 (lv_at hl 5 rfl) ?_
          refine fw_cp (va_runV (b := (ad (100 + j))) (As := [.int (nI t)]) (rest := [.int (nI ((t + i) % (ln X))), .ref r20]) C0 (x5_at l D dA ad X ([(r20, .inl (dA 0, ln X, .inl (rtF (fun _ => 0) (ln X) i (row X j) t))), (q12, .inr (5, [.ref r20]))]) _ j t (by omega) hth (by omega) hr16) (cwV 1 C0.2.2.2.2 (lw_V q308 q309 q310 q44 q311) rfl rfl rfl hdx_X5_at ⟨(Nat.le_of_ble_eq_true rfl), (Nat.le_of_ble_eq_true rfl)⟩) (x_preV hG hM hS (100 + j) (xw_cam dA ad _ _ (by omega) hth) (cb_lt ad _ (by omega)) rfl) rfl rfl hl.1 rfl (lv_room (Nat.le_of_ble_eq_true rfl)) dX0_turn_54 ⟨(Nat.le_of_ble_eq_true rfl), (Nat.le_of_ble_eq_true rfl)⟩) (fun r hr => ?_)
          subst hr
          refine x_eiast C0 hG hM hS 0 ((t + i) % (ln X)) rfl rfl (Nat.mod_lt _ (by omega)) (by omega) dX0_turn_57 (fun H locs hM hS => ?_)
          have hM : XF D A dA ad X ([(r20, .inl (dA 0, ln X, .inl (upd (rtF (fun _ => 0) (ln X) i (row X j) t) ((t + i) % (ln X)) (X 2 (16 * j + t))))), (q12, .inr (5, [.ref r20]))]) H := hM
          refine lv_iinc (v := nI (t + 1)) (lv' := [(5, .int (nI (t + 1))), (0, .ref (ad 0)), (1, .int (nI j)), (2, .int (nI i)), (3, .ref (ad (100 + j))), (4, .ref q12)]) C0.1 C0.2.1 dX0_turn_58 hl (k := 5) rfl (nI_1 t) (by decide) rfl (fun ls hl => ?_)
          refine lv_goto (tgt := 28) C0.1 C0.2.1 dX0_turn_61 (by decide) ?_
          exact K28 _ _ ls ⟨hM, hS, lv_sub hl [1, 2, 3, 4, 5, 0] rfl⟩
    · refine at_pc 74 rfl ?_
      obtain ⟨rfl, hst⟩ := hK
      refine lv_astore_n (lv' := [(3, .ref q9), (0, .ref (ad 0)), (1, .int (nI j)), (2, .int p1)]) C0.1 C0.2.1 dX0_turn_74 rfl hl (by decide) rfl (fun ls hl => ?_)
      refine lv_aload_n C0.1 C0.2.1 dX0_turn_75 rfl (lv_at hl 1 rfl) ?_
      refine lv_aload_n C0.1 C0.2.1 dX0_turn_76 rfl (lv_at hl 0 rfl) ?_
      refine x_egetN C0 hG hM 0 rfl rfl in_X6 6 (by decide) rfl (hG.2.1.f 4 rfl) dX0_turn_77 ?_
      have hM : XF D A dA ad X [] H := hM.tail
      refine x_ki (va_runV (b := (ad 0)) (As := [.int (-(nI 7))]) (rest := []) C0 (xx_refuse l D dA ad X ([]) _ 7 (by decide)) (cwV 1 C0.2.2.2.2 (lw_V q195 q197 qs0 q39 q198) rfl rfl rfl hdx_X0_refuse ⟨(Nat.le_of_ble_eq_true rfl), (Nat.le_of_ble_eq_true rfl)⟩) (x_preV hG hM hS 0 (xw_0 dA ad _ _) rfl rfl) rfl rfl hl.1 rfl (lv_room (Nat.le_of_ble_eq_true rfl)) dX0_turn_80 ⟨(Nat.le_of_ble_eq_true rfl), (Nat.le_of_ble_eq_true rfl)⟩) hG hM hS (fun r u H locs hr hM hS => ?_)
      obtain ⟨rfl, rfl⟩ := hr
      have hM : XF D A dA ad (refS X 7) ([]) H := hM
      exact x_iretS C0 hr hlk hM hS ⟨PB.of ((onCam_j hj hth).trans (by (try dsimp only); rw [inR_none (fun z => hst ((stp1 hO).mpr z))]; rfl)), (XS.up hX.xs 22 _ _ rfl), rfl, rfl⟩ dX0_turn_83 (Nat.le_of_ble_eq_true rfl) (Nat.le_of_ble_eq_true rfl)
  · refine at_pc 74 rfl ?_
    obtain ⟨rfl, hk0⟩ := hK
    refine lv_astore_n (lv' := [(3, .ref q2), (0, .ref (ad 0)), (1, .int p0), (2, .int p1)]) C0.1 C0.2.1 dX0_turn_74 rfl hl (by decide) rfl (fun ls hl => ?_)
    refine lv_aload_n C0.1 C0.2.1 dX0_turn_75 rfl (lv_at hl 1 rfl) ?_
    refine lv_aload_n C0.1 C0.2.1 dX0_turn_76 rfl (lv_at hl 0 rfl) ?_
    refine x_egetN C0 hG hM 0 rfl rfl in_X6 6 (by decide) rfl (hG.2.1.f 4 rfl) dX0_turn_77 ?_
    have hM : XF D A dA ad X [] H := hM.tail
    refine x_ki (va_runV (b := (ad 0)) (As := [.int (-(nI (lackN X p0)))]) (rest := []) C0 (xx_refuse l D dA ad X ([]) _ (lackN X p0) (lackN_lt X p0)) (cwV 1 C0.2.2.2.2 (lw_V q195 q197 qs0 q39 q198) rfl rfl rfl hdx_X0_refuse ⟨(Nat.le_of_ble_eq_true rfl), (Nat.le_of_ble_eq_true rfl)⟩) (x_preV hG hM hS 0 (xw_0 dA ad _ _) rfl rfl) rfl rfl hl.1 rfl (lv_room (Nat.le_of_ble_eq_true rfl)) dX0_turn_80 ⟨(Nat.le_of_ble_eq_true rfl), (Nat.le_of_ble_eq_true rfl)⟩) hG hM hS (fun r u H locs hr hM hS => ?_)
    obtain ⟨rfl, rfl⟩ := hr
    have hM : XF D A dA ad (refS X (lackN X p0)) ([]) H := hM
    exact x_iretS C0 hr hlk hM hS ⟨PB.of (onCam_l hk0), (XS.up hX.xs 22 _ _ rfl), rfl, rfl⟩ dX0_turn_83 (Nat.le_of_ble_eq_true rfl) (Nat.le_of_ble_eq_true rfl)
