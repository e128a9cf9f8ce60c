set_option maxRecDepth 100000
set_option linter.unusedVariables false
theorem hdx_X7_line_6 : yX7_line.cls = RX7 ∧ yX7_line.cls ≠ "java/lang/invoke/MethodHandle" ∧ yX7_line.cls ≠ "java/lang/invoke/VarHandle" ∧ (parseMethodDescriptor yX7_line.desc).map (fun d => d.parameters.length) = some 4 := by decide +kernel
set_option maxHeartbeats 4000000 in
theorem x7_line6 (l : Launch) (D : va_G) (dA : Nat → ClassId) (ad : Nat → Nat) (X : St) (L : Ex) (sz : Nat) (pa wa la ba x0 y0 : Nat) (pd : Int32) (x1 y1 k t : Nat) (hx0 : x0 ≤ 109) (hy0 : y0 ≤ 9) (hx1 : x1 ≤ 109) (hy1 : y1 ≤ 9) : xCv l yX7_line cX7_line 7 { frames := 1, cells := 0, slots := 0, locals := 25 } D dA ad X ((pa, .inr (7, [.ref (ad 6), .ref wa, .ref la, .ref ba, .int (nI x0), .int (nI y0), .int pd, .ref (ad 0)])) :: L) sz [.ref pa, .int (nI x1), .int (nI y1), .int (nI k), .int (nI t)] 0 0 (fun u => u = (ad, lnX X 29 30 x0 y0 x1 y1 k t (max (adist x1 x0) (adist y1 y0) - 1), (pa, penE ad (ad 6) wa la ba (nI x0) (nI y0) pd) :: L)) := by
  refine x_hV (by decide) (Nat.le_of_ble_eq_true rfl) ?_
  intro A p e s m below meth cd ls C0 hr hlk hnm hG hM hS hl
  have hl : lv_has ls 7 [(0, .ref pa), (1, .int (nI x1)), (2, .int (nI y1)), (3, .int (nI k)), (4, .int (nI t))] := hl
  obtain ⟨M, hMM⟩ : ∃ M, M = max (adist x1 x0) (adist y1 y0) := ⟨_, rfl⟩
  have bdx : adist x1 x0 ≤ M := by rw [hMM]; exact Nat.le_max_left _ _
  have bdy : adist y1 y0 ≤ M := by rw [hMM]; exact Nat.le_max_right _ _
  have bM : M ≤ 120 := by rw [hMM]; unfold adist; omega
  refine lv_iload_n C0.1 C0.2.1 dX7_line_0 rfl (lv_at hl 1 rfl) ?_
  refine lv_aload_n C0.1 C0.2.1 dX7_line_1 rfl (lv_at hl 0 rfl) ?_
  refine x_eget C0 hG hM 0 rfl rfl in_X7 4 (by decide) rfl q410 dX7_line_2 ?_
  refine lv_isub C0.1 C0.2.1 dX7_line_5 ?_
  refine st_call C0 (j3_abs l (nI x1 - nI x0)) 1 (lw_S q507 q348 q50 q349) rfl rfl hdx_J3_abs ⟨(Nat.le_of_ble_eq_true rfl), (Nat.le_of_ble_eq_true rfl)⟩ rfl hl.1 rfl (Nat.le_of_ble_eq_true rfl) dX7_line_6 ⟨(Nat.le_of_ble_eq_true rfl), (Nat.le_of_ble_eq_true rfl)⟩ (fun r hr => ?_)
  subst hr
  refine tp_eq (y := nI (adist x1 x0)) (iabs_ad (by omega) (by omega)) ?_
  refine lv_iload_n C0.1 C0.2.1 dX7_line_9 rfl (lv_at hl 2 rfl) ?_
  refine lv_aload_n C0.1 C0.2.1 dX7_line_10 rfl (lv_at hl 0 rfl) ?_
  refine x_eget C0 hG hM 0 rfl rfl in_X7 5 (by decide) rfl q411 dX7_line_11 ?_
  refine lv_isub C0.1 C0.2.1 dX7_line_14 ?_
  refine st_call C0 (j3_abs l (nI y1 - nI y0)) 1 (lw_S q507 q348 q50 q349) rfl rfl hdx_J3_abs ⟨(Nat.le_of_ble_eq_true rfl), (Nat.le_of_ble_eq_true rfl)⟩ rfl hl.1 rfl (Nat.le_of_ble_eq_true rfl) dX7_line_15 ⟨(Nat.le_of_ble_eq_true rfl), (Nat.le_of_ble_eq_true rfl)⟩ (fun r hr => ?_)
  subst hr
  refine tp_eq (y := nI (adist y1 y0)) (iabs_ad (by omega) (by omega)) ?_
  refine st_call C0 (j3_max l (nI (adist x1 x0)) (nI (adist y1 y0))) 2 (lw_S q508 q351 q50 q352) rfl rfl hdx_J3_max ⟨(Nat.le_of_ble_eq_true rfl), (Nat.le_of_ble_eq_true rfl)⟩ rfl hl.1 rfl (Nat.le_of_ble_eq_true rfl) dX7_line_18 ⟨(Nat.le_of_ble_eq_true rfl), (Nat.le_of_ble_eq_true rfl)⟩ (fun r hr => ?_)
  subst hr
  refine tp_eq (y := nI M) (by rw [imax_nI (by omega) (by omega), hMM]) ?_
  refine lv_istore (lv' := [(5, .int (nI M)), (0, .ref pa), (1, .int (nI x1)), (2, .int (nI y1)), (3, .int (nI k)), (4, .int (nI t))]) C0.1 C0.2.1 dX7_line_21 hl (by decide) rfl (fun ls hl => ?_)
  refine lv_iconst (v := 1) C0.1 C0.2.1 dX7_line_23 (by decide) ?_
  refine lv_istore (lv' := [(6, .int 1), (5, .int (nI M)), (0, .ref pa), (1, .int (nI x1)), (2, .int (nI y1)), (3, .int (nI k)), (4, .int (nI t))]) C0.1 C0.2.1 dX7_line_24 hl (by decide) rfl (fun ls hl => ?_)
  refine W_loop (M - 1) (fun i H locs ls => XF D A dA ad (lnX X 29 30 x0 y0 x1 y1 k t i) ((pa, .inr (7, [.ref (ad 6), .ref wa, .ref la, .ref ba, .int (nI x0), .int (nI y0), .int pd, .ref (ad 0)])) :: L) H ∧ va_S A s.heap H locs ∧ lv_has ls 7 [(0, .ref pa), (1, .int (nI x1)), (2, .int (nI y1)), (3, .int (nI k)), (4, .int (nI t)), (5, .int (nI M)), (6, .int (nI (i + 1)))]) 26 ?_ ?_ 0 _ _ ls (Nat.zero_le _) ⟨hM, hS, lv_sub hl [2, 3, 4, 5, 6, 1, 0] rfl⟩
  · intro H locs ls ⟨hM, hS, hl⟩
    refine lv_iload C0.1 C0.2.1 dX7_line_26 (lv_at hl 6 rfl) ?_
    refine lv_iload C0.1 C0.2.1 dX7_line_28 (lv_at hl 5 rfl) ?_
    refine lv_icmp_ge (tgt := 103) C0.1 C0.2.1 dX7_line_30 (by decide) (fun c_30 => ?_) (fun c_30 => ?_)
    · have n_30 : M ≤ (M - 1) + 1 := (nI_leI (a := M) (b := (M - 1) + 1) (by omega) (by omega)).mp c_30
      exact x_vretS C0 hr hlk hM hS (by subst hMM; rfl) dX7_line_103 (Nat.le_of_ble_eq_true rfl) (Nat.le_of_ble_eq_true rfl)
    · have n_30 : ¬ M ≤ (M - 1) + 1 := fun z => c_30 ((nI_leI (a := M) (b := (M - 1) + 1) (by omega) (by omega)).mpr z)
      omega
  · intro i H locs ls hi ⟨hM, hS, hl⟩ K26
    refine lv_iload C0.1 C0.2.1 dX7_line_26 (lv_at hl 6 rfl) ?_
    refine lv_iload C0.1 C0.2.1 dX7_line_28 (lv_at hl 5 rfl) ?_
    refine lv_icmp_ge (tgt := 103) C0.1 C0.2.1 dX7_line_30 (by decide) (fun c_30 => ?_) (fun c_30 => ?_)
    · have n_30 : M ≤ i + 1 := (nI_leI (a := M) (b := i + 1) (by omega) (by omega)).mp c_30
      omega
    · have n_30 : ¬ M ≤ i + 1 := fun z => c_30 ((nI_leI (a := M) (b := i + 1) (by omega) (by omega)).mpr z)
      refine lv_aload_n C0.1 C0.2.1 dX7_line_33 rfl (lv_at hl 0 rfl) ?_
      refine x_eget C0 hG hM 0 rfl rfl in_X7 0 (by decide) rfl q406 dX7_line_34 ?_
      refine lv_aload_n C0.1 C0.2.1 dX7_line_37 rfl (lv_at hl 0 rfl) ?_
      refine x_eget C0 hG hM 0 rfl rfl in_X7 4 (by decide) rfl q410 dX7_line_38 ?_
      refine lv_iconst (v := 2) C0.1 C0.2.1 dX7_line_41 (by decide) ?_
      refine lv_iload C0.1 C0.2.1 dX7_line_42 (lv_at hl 6 rfl) ?_
      refine lv_imul C0.1 C0.2.1 dX7_line_44 ?_
      refine tp_eq (y := nI (2 * (i + 1))) (pk_mul 2 (i + 1)) ?_
      refine lv_iload_n C0.1 C0.2.1 dX7_line_45 rfl (lv_at hl 1 rfl) ?_
      refine lv_aload_n C0.1 C0.2.1 dX7_line_46 rfl (lv_at hl 0 rfl) ?_
      refine x_eget C0 hG hM 0 rfl rfl in_X7 4 (by decide) rfl q410 dX7_line_47 ?_
      refine lv_isub C0.1 C0.2.1 dX7_line_50 ?_
      refine lv_imul C0.1 C0.2.1 dX7_line_51 ?_
      refine lv_iload C0.1 C0.2.1 dX7_line_52 (lv_at hl 5 rfl) ?_
      refine lv_iadd C0.1 C0.2.1 dX7_line_54 ?_
      refine lv_iconst (v := 2) C0.1 C0.2.1 dX7_line_55 (by decide) ?_
      refine lv_iload C0.1 C0.2.1 dX7_line_56 (lv_at hl 5 rfl) ?_
      refine lv_imul C0.1 C0.2.1 dX7_line_58 ?_
      refine tp_eq (y := nI (2 * M)) (pk_mul 2 M) ?_
      refine st_call C0 (j3_floorDiv l (((nI (2 * (i + 1))) * (nI x1 - nI x0)) + nI M) (nI (2 * M)) (nI_ne0 (by omega) (by omega))) 2 (lw_S q509 q510 q50 q511) rfl rfl hdx_J3_floorDiv ⟨(Nat.le_of_ble_eq_true rfl), (Nat.le_of_ble_eq_true rfl)⟩ rfl hl.1 rfl (Nat.le_of_ble_eq_true rfl) dX7_line_59 ⟨(Nat.le_of_ble_eq_true rfl), (Nat.le_of_ble_eq_true rfl)⟩ (fun r hr => ?_)
      subst hr
      refine lv_iadd C0.1 C0.2.1 dX7_line_62 ?_
      refine tp_eq (y := nI (pnt x0 x1 M (i + 1))) (pntf_eq (by omega) (by omega) (by omega) bdx (by omega)) ?_
      refine lv_aload_n C0.1 C0.2.1 dX7_line_63 rfl (lv_at hl 0 rfl) ?_
      refine x_eget C0 hG hM 0 rfl rfl in_X7 5 (by decide) rfl q411 dX7_line_64 ?_
      refine lv_iconst (v := 2) C0.1 C0.2.1 dX7_line_67 (by decide) ?_
      refine lv_iload C0.1 C0.2.1 dX7_line_68 (lv_at hl 6 rfl) ?_
      refine lv_imul C0.1 C0.2.1 dX7_line_70 ?_
      refine tp_eq (y := nI (2 * (i + 1))) (pk_mul 2 (i + 1)) ?_
      refine lv_iload_n C0.1 C0.2.1 dX7_line_71 rfl (lv_at hl 2 rfl) ?_
      refine lv_aload_n C0.1 C0.2.1 dX7_line_72 rfl (lv_at hl 0 rfl) ?_
      refine x_eget C0 hG hM 0 rfl rfl in_X7 5 (by decide) rfl q411 dX7_line_73 ?_
      refine lv_isub C0.1 C0.2.1 dX7_line_76 ?_
      refine lv_imul C0.1 C0.2.1 dX7_line_77 ?_
      refine lv_iload C0.1 C0.2.1 dX7_line_78 (lv_at hl 5 rfl) ?_
      refine lv_iadd C0.1 C0.2.1 dX7_line_80 ?_
      refine lv_iconst (v := 2) C0.1 C0.2.1 dX7_line_81 (by decide) ?_
      refine lv_iload C0.1 C0.2.1 dX7_line_82 (lv_at hl 5 rfl) ?_
      refine lv_imul C0.1 C0.2.1 dX7_line_84 ?_
      refine tp_eq (y := nI (2 * M)) (pk_mul 2 M) ?_
      refine st_call C0 (j3_floorDiv l (((nI (2 * (i + 1))) * (nI y1 - nI y0)) + nI M) (nI (2 * M)) (nI_ne0 (by omega) (by omega))) 2 (lw_S q509 q510 q50 q511) rfl rfl hdx_J3_floorDiv ⟨(Nat.le_of_ble_eq_true rfl), (Nat.le_of_ble_eq_true rfl)⟩ rfl hl.1 rfl (Nat.le_of_ble_eq_true rfl) dX7_line_85 ⟨(Nat.le_of_ble_eq_true rfl), (Nat.le_of_ble_eq_true rfl)⟩ (fun r hr => ?_)
      subst hr
      refine lv_iadd C0.1 C0.2.1 dX7_line_88 ?_
      refine tp_eq (y := nI (pnt y0 y1 M (i + 1))) (pntf_eq (by omega) (by omega) (by omega) bdy (by omega)) ?_
      refine lv_iload_n C0.1 C0.2.1 dX7_line_89 rfl (lv_at hl 3 rfl) ?_
      refine lv_iload C0.1 C0.2.1 dX7_line_90 (lv_at hl 4 rfl) ?_
      refine x_kv5 (va_runF (b := (ad 6)) (As := [.int (nI (pnt x0 x1 M (i + 1))), .int (nI (pnt y0 y1 M (i + 1))), .int (nI k), .int (nI t)]) (rest := []) (hG.1.1 2 _ rfl).2 C0 (x2_mark6 l D dA ad (lnX X 29 30 x0 y0 x1 y1 k t i) ((pa, .inr (7, [.ref (ad 6), .ref wa, .ref la, .ref ba, .int (nI x0), .int (nI y0), .int pd, .ref (ad 0)])) :: L) _ (pnt x0 x1 M (i + 1)) (pnt y0 y1 M (i + 1)) k t (by have := pnt_le (N := 109) bdx (show i + 1 < M by omega) (by omega) (by omega); omega) (by have := pnt_le (N := 9) bdy (show i + 1 < M by omega) (by omega) (by omega); omega)) (va_cwF 4 C0.2.2.2.2 (lw_F q494 q498 q500 q41 q502) rfl rfl rfl hG.2.1.2.2.2.2.2 hdx_marks ⟨(Nat.le_of_ble_eq_true rfl), (Nat.le_of_ble_eq_true rfl)⟩) (x_preV hG hM hS 6 (xw_6 dA ad _ _) rfl rfl) rfl rfl hl.1 rfl (lv_room (Nat.le_of_ble_eq_true rfl)) dX7_line_92 ⟨(Nat.le_of_ble_eq_true rfl), (Nat.le_of_ble_eq_true rfl)⟩) hG hM hS (fun u H locs hr hM hS => ?_)
      subst hr
      have hM : XF D A dA ad (mkX (lnX X 29 30 x0 y0 x1 y1 k t i) 29 30 (10 * (pnt x0 x1 M (i + 1)) + (pnt y0 y1 M (i + 1))) k t) ((pa, .inr (7, [.ref (ad 6), .ref wa, .ref la, .ref ba, .int (nI x0), .int (nI y0), .int pd, .ref (ad 0)])) :: L) H := hM
      refine lv_iinc (v := nI (i + 1 + 1)) (lv' := [(6, .int (nI (i + 1 + 1))), (0, .ref pa), (1, .int (nI x1)), (2, .int (nI y1)), (3, .int (nI k)), (4, .int (nI t)), (5, .int (nI M))]) C0.1 C0.2.1 dX7_line_97 hl (k := 6) rfl (nI_1 (i + 1)) (by decide) rfl (fun ls hl => ?_)
      refine lv_goto (tgt := 26) C0.1 C0.2.1 dX7_line_100 (by decide) ?_
      have hM : XF D A dA ad (lnX X 29 30 x0 y0 x1 y1 k t (i + 1)) ((pa, .inr (7, [.ref (ad 6), .ref wa, .ref la, .ref ba, .int (nI x0), .int (nI y0), .int pd, .ref (ad 0)])) :: L) H := by
        subst hMM; exact hM
      exact K26 _ _ ls ⟨hM, hS, lv_sub hl [1, 2, 3, 4, 5, 6, 0] rfl⟩
theorem hdx_X7_step_6 : yX7_step.cls = RX7 ∧ yX7_step.cls ≠ "java/lang/invoke/MethodHandle" ∧ yX7_step.cls ≠ "java/lang/invoke/VarHandle" ∧ (parseMethodDescriptor yX7_step.desc).map (fun d => d.parameters.length) = some 2 := by decide +kernel
set_option maxHeartbeats 4000000 in
theorem x7_step6 (l : Launch) (D : va_G) (dA : Nat → ClassId) (ad : Nat → Nat) (X : St) (L : Ex) (sz : Nat) (pa wa la ba : Nat) (px py pd : Int32) (w bb : Int32) (k t : Nat) (hO : OkW X) (hw : PW dA ad X ((pa, penE ad (ad 6) wa la ba px py pd) :: L) wa 8 w) (hb : PW dA ad X ((pa, penE ad (ad 6) wa la ba px py pd) :: L) ba 10 bb) (hk : k < 12) (ht : t < rl X) (hr16 : rl X ≤ 16) (h3 : ¬ X 1 (nv (X 3 (nv (X 7 k)))) = 0) (h4 : ¬ X 1 (nv (X 4 (nv (X 7 k)))) = 0) (h5 : ¬ X 1 (nv (X 5 (nv (X 7 k)))) = 0) (hp : 0 < t → px = nI (xA X w bb k (t - 1)) ∧ py = nI (yA X w bb k (t - 1)) ∧ pd = if dwn X w k (t - 1) = true then 1 else 0) : xCv l yX7_step cX7_step 7 { frames := 3, cells := 0, slots := 0, locals := 66 } D dA ad X ((pa, .inr (7, [.ref (ad 6), .ref wa, .ref la, .ref ba, .int px, .int py, .int pd, .ref (ad 0)])) :: L) sz [.ref pa, .int (nI k), .int (nI t)] 0 0 (fun u => u = (ad, wrX X w bb 29 30 k t, (pa, penE ad (ad 6) wa la ba (nI (xA X w bb k t)) (nI (yA X w bb k t)) (if dwn X w k t = true then 1 else 0)) :: L)) := by
  refine x_hV (by decide) (Nat.le_of_ble_eq_true rfl) ?_
  intro A p e s m below meth cd ls C0 hr hlk hnm hG hM hS hl
  have hl : lv_has ls 7 [(0, .ref pa), (1, .int (nI k)), (2, .int (nI t))] := hl
  have ht16 : t < 16 := by omega
  have p7 : nv (X 7 k) ≤ 9 := (hO.peg hk).le (by decide)
  have p3 : nv (X 3 (nv (X 7 k))) ≤ 11 := (hO.ac (by omega)).le (by decide)
  have p4 : nv (X 4 (nv (X 7 k))) ≤ 11 := (hO.upp (by omega)).le (by decide)
  have p5 : nv (X 5 (nv (X 7 k))) ≤ 11 := (hO.li (by omega)).le (by decide)
  have hg4 := hgt_le hO w (show nv (X 4 (nv (X 7 k))) < 12 by omega) ht16
  have hg5 := hgt_le hO w (show nv (X 5 (nv (X 7 k))) < 12 by omega) ht16
  have hg3 := hgt_le hO w (show nv (X 3 (nv (X 7 k))) < 12 by omega) ht16
  have bx := xA_le hO w bb hk ht16
  have b_y := yA_le X w bb k t
  have bx0 := xA_le hO w bb hk (show t - 1 < 16 by omega)
  have by0 := yA_le X w bb k (t - 1)
  have hadv : nv (X 0 8) ≤ 9 := hO.adv.le (by decide)
  have hka : k * nv (X 0 8) ≤ 99 := by have := Nat.mul_le_mul (show k ≤ 11 by omega) hadv; omega
  refine lv_aload_n C0.1 C0.2.1 dX7_step_0 rfl (lv_at hl 0 rfl) ?_
  refine x_eget C0 hG hM 0 rfl rfl in_X7 7 (by decide) rfl q413 dX7_step_1 ?_
  refine x_getaN C0 hG hM 2 3 (by decide) rfl rfl (hG.2.1.f 10 rfl) dX7_step_4 ?_
  refine lv_aload_n C0.1 C0.2.1 dX7_step_7 rfl (lv_at hl 0 rfl) ?_
  refine x_eget C0 hG hM 0 rfl rfl in_X7 7 (by decide) rfl q413 dX7_step_8 ?_
  refine x_getaN C0 hG hM 3 7 (by decide) rfl rfl (hG.2.1.f 11 rfl) dX7_step_11 ?_
  refine lv_iload_n C0.1 C0.2.1 dX7_step_14 rfl (lv_at hl 1 rfl) ?_
  refine x_iald C0 hG hM 7 k rfl rfl rfl (show k < 12 from (by omega)) (by decide) dX7_step_15 ?_
  refine tp_eq (y := nI (nv (X 7 k))) ((hO.peg hk).eq (by decide)) ?_
  refine x_let C0 hG hM (nv (X 7 k)) rfl (by omega) dX7_step_16 ?_
  refine lv_astore_n (lv' := [(3, .ref (ad (60 + nv (X 7 k)))), (0, .ref pa), (1, .int (nI k)), (2, .int (nI t))]) C0.1 C0.2.1 dX7_step_17 rfl hl (by decide) rfl (fun ls hl => ?_)
  refine jn_i 44 [] (fun v => v = nI (xA X w bb k t)) (fun v hv => ?_) (fun J => ?_)
  · subst hv
    refine lv_istore (lv' := [(4, .int (nI (xA X w bb k t))), (3, .ref (ad (60 + nv (X 7 k)))), (0, .ref pa), (1, .int (nI k)), (2, .int (nI t))]) C0.1 C0.2.1 dX7_step_44 hl (by decide) rfl (fun ls hl => ?_)
    refine jn_i 62 [] (fun v => v = nI (yA X w bb k t)) (fun v hv => ?_) (fun J => ?_)
    · subst hv
      refine lv_istore (lv' := [(5, .int (nI (yA X w bb k t))), (4, .int (nI (xA X w bb k t))), (3, .ref (ad (60 + nv (X 7 k)))), (0, .ref pa), (1, .int (nI k)), (2, .int (nI t))]) C0.1 C0.2.1 dX7_step_62 hl (by decide) rfl (fun ls hl => ?_)
      refine jn_i 81 [] (fun v => v = (if dwn X w k t = true then 1 else 0)) (fun v hv => ?_) (fun J => ?_)
      · subst hv
        refine lv_istore (lv' := [(6, .int (if dwn X w k t = true then 1 else 0)), (5, .int (nI (yA X w bb k t))), (4, .int (nI (xA X w bb k t))), (3, .ref (ad (60 + nv (X 7 k)))), (0, .ref pa), (1, .int (nI k)), (2, .int (nI t))]) C0.1 C0.2.1 dX7_step_81 hl (by decide) rfl (fun ls hl => ?_)
        refine lv_iload C0.1 C0.2.1 dX7_step_83 (lv_at hl 0 rfl) ?_
        refine lv_if_eq (tgt := 124) C0.1 C0.2.1 dX7_step_85 (by decide) (fun c_85 => ?_) (fun c_85 => ?_)
        · have c_85 : ¬ (dwn X w k t = true) := b01_0.mp c_85
          refine lv_aload_n C0.1 C0.2.1 dX7_step_124 rfl (lv_at hl 4 rfl) ?_
          refine lv_iload C0.1 C0.2.1 dX7_step_125 (lv_at hl 2 rfl) ?_
          refine x_eput C0 hG hM hS 0 rfl rfl in_X7 tyX7 tyX7_ok nmX7 4 (by decide) q410 rfl rfl rfl rfl (Nat.le_of_ble_eq_true rfl) dX7_step_127 (fun H locs hM hS => ?_)
          have hM : XF D A dA ad X ((pa, .inr (7, [.ref (ad 6), .ref wa, .ref la, .ref ba, .int (nI (xA X w bb k t)), .int py, .int pd, .ref (ad 0)])) :: L) H := hM
          refine lv_aload_n C0.1 C0.2.1 dX7_step_130 rfl (lv_at hl 4 rfl) ?_
          refine lv_iload C0.1 C0.2.1 dX7_step_131 (lv_at hl 1 rfl) ?_
          refine x_eput C0 hG hM hS 0 rfl rfl in_X7 tyX7 tyX7_ok nmX7 5 (by decide) q411 rfl rfl rfl rfl (Nat.le_of_ble_eq_true rfl) dX7_step_133 (fun H locs hM hS => ?_)
          have hM : XF D A dA ad X ((pa, .inr (7, [.ref (ad 6), .ref wa, .ref la, .ref ba, .int (nI (xA X w bb k t)), .int (nI (yA X w bb k t)), .int pd, .ref (ad 0)])) :: L) H := hM
          refine lv_aload_n C0.1 C0.2.1 dX7_step_136 rfl (lv_at hl 4 rfl) ?_
          refine lv_iload C0.1 C0.2.1 dX7_step_137 (lv_at hl 0 rfl) ?_
          refine x_eput C0 hG hM hS 0 rfl rfl in_X7 tyX7 tyX7_ok nmX7 6 (by decide) q412 rfl rfl nar_b fit_b (Nat.le_of_ble_eq_true rfl) dX7_step_139 (fun H locs hM hS => ?_)
          have hM : XF D A dA ad X ((pa, .inr (7, [.ref (ad 6), .ref wa, .ref la, .ref ba, .int (nI (xA X w bb k t)), .int (nI (yA X w bb k t)), .int (if dwn X w k t = true then 1 else 0), .ref (ad 0)])) :: L) H := hM
          have hM : XF D A dA ad (wrX X w bb 29 30 k t) ((pa, .inr (7, [.ref (ad 6), .ref wa, .ref la, .ref ba, .int (nI (xA X w bb k t)), .int (nI (yA X w bb k t)), .int (if dwn X w k t = true then 1 else 0), .ref (ad 0)])) :: L) H := by
            rw [wrX, if_neg c_85]; exact hM
          exact x_vretS C0 hr hlk hM hS rfl dX7_step_142 (Nat.le_of_ble_eq_true rfl) (Nat.le_of_ble_eq_true rfl)
        · have c_85 : dwn X w k t = true := b01_1.mp c_85
          refine lv_aload_n C0.1 C0.2.1 dX7_step_88 rfl (lv_at hl 4 rfl) ?_
          refine x_eget C0 hG hM 0 rfl rfl in_X7 0 (by decide) rfl q406 dX7_step_89 ?_
          refine lv_iload C0.1 C0.2.1 dX7_step_92 (lv_at hl 2 rfl) ?_
          refine lv_iload C0.1 C0.2.1 dX7_step_94 (lv_at hl 1 rfl) ?_
          refine lv_iload_n C0.1 C0.2.1 dX7_step_96 rfl (lv_at hl 5 rfl) ?_
          refine lv_iload_n C0.1 C0.2.1 dX7_step_97 rfl (lv_at hl 6 rfl) ?_
          refine x_kv5 (va_runF (b := (ad 6)) (As := [.int (nI (xA X w bb k t)), .int (nI (yA X w bb k t)), .int (nI k), .int (nI t)]) (rest := []) (hG.1.1 2 _ rfl).2 C0 (x2_mark6 l D dA ad X ((pa, .inr (7, [.ref (ad 6), .ref wa, .ref la, .ref ba, .int px, .int py, .int pd, .ref (ad 0)])) :: L) _ (xA X w bb k t) (yA X w bb k t) k t (by omega) (by omega)) (va_cwF 4 C0.2.2.2.2 (lw_F q494 q498 q500 q41 q502) rfl rfl rfl hG.2.1.2.2.2.2.2 hdx_marks ⟨(Nat.le_of_ble_eq_true rfl), (Nat.le_of_ble_eq_true rfl)⟩) (x_preV hG hM hS 6 (xw_6 dA ad _ _) rfl rfl) rfl rfl hl.1 rfl (lv_room (Nat.le_of_ble_eq_true rfl)) dX7_step_98 ⟨(Nat.le_of_ble_eq_true rfl), (Nat.le_of_ble_eq_true rfl)⟩) hG hM hS (fun u H locs hr hM hS => ?_)
          subst hr
          have hM : XF D A dA ad (mkX X 29 30 (10 * (xA X w bb k t) + (yA X w bb k t)) k t) ((pa, .inr (7, [.ref (ad 6), .ref wa, .ref la, .ref ba, .int px, .int py, .int pd, .ref (ad 0)])) :: L) H := hM
          refine lv_aload_n C0.1 C0.2.1 dX7_step_103 rfl (lv_at hl 4 rfl) ?_
          refine x_eget C0 hG hM 0 rfl rfl in_X7 6 (by decide) rfl q412 dX7_step_104 ?_
          refine lv_if_eq (tgt := 124) C0.1 C0.2.1 dX7_step_107 (by decide) (fun c_107 => ?_) (fun c_107 => ?_)
          · refine lv_aload_n C0.1 C0.2.1 dX7_step_124 rfl (lv_at hl 4 rfl) ?_
            refine lv_iload C0.1 C0.2.1 dX7_step_125 (lv_at hl 2 rfl) ?_
            refine x_eput C0 hG hM hS 0 rfl rfl in_X7 tyX7 tyX7_ok nmX7 4 (by decide) q410 rfl rfl rfl rfl (Nat.le_of_ble_eq_true rfl) dX7_step_127 (fun H locs hM hS => ?_)
            have hM : XF D A dA ad (mkX X 29 30 (10 * (xA X w bb k t) + (yA X w bb k t)) k t) ((pa, .inr (7, [.ref (ad 6), .ref wa, .ref la, .ref ba, .int (nI (xA X w bb k t)), .int py, .int pd, .ref (ad 0)])) :: L) H := hM
            refine lv_aload_n C0.1 C0.2.1 dX7_step_130 rfl (lv_at hl 4 rfl) ?_
            refine lv_iload C0.1 C0.2.1 dX7_step_131 (lv_at hl 1 rfl) ?_
            refine x_eput C0 hG hM hS 0 rfl rfl in_X7 tyX7 tyX7_ok nmX7 5 (by decide) q411 rfl rfl rfl rfl (Nat.le_of_ble_eq_true rfl) dX7_step_133 (fun H locs hM hS => ?_)
            have hM : XF D A dA ad (mkX X 29 30 (10 * (xA X w bb k t) + (yA X w bb k t)) k t) ((pa, .inr (7, [.ref (ad 6), .ref wa, .ref la, .ref ba, .int (nI (xA X w bb k t)), .int (nI (yA X w bb k t)), .int pd, .ref (ad 0)])) :: L) H := hM
            refine lv_aload_n C0.1 C0.2.1 dX7_step_136 rfl (lv_at hl 4 rfl) ?_
            refine lv_iload C0.1 C0.2.1 dX7_step_137 (lv_at hl 0 rfl) ?_
            refine x_eput C0 hG hM hS 0 rfl rfl in_X7 tyX7 tyX7_ok nmX7 6 (by decide) q412 rfl rfl nar_b fit_b (Nat.le_of_ble_eq_true rfl) dX7_step_139 (fun H locs hM hS => ?_)
            have hM : XF D A dA ad (mkX X 29 30 (10 * (xA X w bb k t) + (yA X w bb k t)) k t) ((pa, .inr (7, [.ref (ad 6), .ref wa, .ref la, .ref ba, .int (nI (xA X w bb k t)), .int (nI (yA X w bb k t)), .int (if dwn X w k t = true then 1 else 0), .ref (ad 0)])) :: L) H := hM
            have hM : XF D A dA ad (wrX X w bb 29 30 k t) ((pa, .inr (7, [.ref (ad 6), .ref wa, .ref la, .ref ba, .int (nI (xA X w bb k t)), .int (nI (yA X w bb k t)), .int (if dwn X w k t = true then 1 else 0), .ref (ad 0)])) :: L) H := by
              rw [wrX, if_pos c_85, if_neg (fun z => (b01_0.mp ((hp z.1).2.2.symm.trans c_107)) z.2)]; exact hM
            exact x_vretS C0 hr hlk hM hS rfl dX7_step_142 (Nat.le_of_ble_eq_true rfl) (Nat.le_of_ble_eq_true rfl)
          · refine lv_iload_n C0.1 C0.2.1 dX7_step_110 rfl (lv_at hl 6 rfl) ?_
            refine lv_if_le (tgt := 124) C0.1 C0.2.1 dX7_step_111 (by decide) (fun c_111 => ?_) (fun c_111 => ?_)
            · have n_111 : t ≤ 0 := (nI_leI (a := t) (b := 0) (by omega) (by omega)).mp c_111
              refine lv_aload_n C0.1 C0.2.1 dX7_step_124 rfl (lv_at hl 4 rfl) ?_
              refine lv_iload C0.1 C0.2.1 dX7_step_125 (lv_at hl 2 rfl) ?_
              refine x_eput C0 hG hM hS 0 rfl rfl in_X7 tyX7 tyX7_ok nmX7 4 (by decide) q410 rfl rfl rfl rfl (Nat.le_of_ble_eq_true rfl) dX7_step_127 (fun H locs hM hS => ?_)
              have hM : XF D A dA ad (mkX X 29 30 (10 * (xA X w bb k t) + (yA X w bb k t)) k t) ((pa, .inr (7, [.ref (ad 6), .ref wa, .ref la, .ref ba, .int (nI (xA X w bb k t)), .int py, .int pd, .ref (ad 0)])) :: L) H := hM
              refine lv_aload_n C0.1 C0.2.1 dX7_step_130 rfl (lv_at hl 4 rfl) ?_
              refine lv_iload C0.1 C0.2.1 dX7_step_131 (lv_at hl 1 rfl) ?_
              refine x_eput C0 hG hM hS 0 rfl rfl in_X7 tyX7 tyX7_ok nmX7 5 (by decide) q411 rfl rfl rfl rfl (Nat.le_of_ble_eq_true rfl) dX7_step_133 (fun H locs hM hS => ?_)
              have hM : XF D A dA ad (mkX X 29 30 (10 * (xA X w bb k t) + (yA X w bb k t)) k t) ((pa, .inr (7, [.ref (ad 6), .ref wa, .ref la, .ref ba, .int (nI (xA X w bb k t)), .int (nI (yA X w bb k t)), .int pd, .ref (ad 0)])) :: L) H := hM
              refine lv_aload_n C0.1 C0.2.1 dX7_step_136 rfl (lv_at hl 4 rfl) ?_
              refine lv_iload C0.1 C0.2.1 dX7_step_137 (lv_at hl 0 rfl) ?_
              refine x_eput C0 hG hM hS 0 rfl rfl in_X7 tyX7 tyX7_ok nmX7 6 (by decide) q412 rfl rfl nar_b fit_b (Nat.le_of_ble_eq_true rfl) dX7_step_139 (fun H locs hM hS => ?_)
              have hM : XF D A dA ad (mkX X 29 30 (10 * (xA X w bb k t) + (yA X w bb k t)) k t) ((pa, .inr (7, [.ref (ad 6), .ref wa, .ref la, .ref ba, .int (nI (xA X w bb k t)), .int (nI (yA X w bb k t)), .int (if dwn X w k t = true then 1 else 0), .ref (ad 0)])) :: L) H := hM
              have hM : XF D A dA ad (wrX X w bb 29 30 k t) ((pa, .inr (7, [.ref (ad 6), .ref wa, .ref la, .ref ba, .int (nI (xA X w bb k t)), .int (nI (yA X w bb k t)), .int (if dwn X w k t = true then 1 else 0), .ref (ad 0)])) :: L) H := by
                rw [wrX, if_pos c_85, if_neg (fun z => by omega)]; exact hM
              exact x_vretS C0 hr hlk hM hS rfl dX7_step_142 (Nat.le_of_ble_eq_true rfl) (Nat.le_of_ble_eq_true rfl)
            · have n_111 : ¬ t ≤ 0 := fun z => c_111 ((nI_leI (a := t) (b := 0) (by omega) (by omega)).mpr z)
              obtain ⟨rfl, rfl, rfl⟩ := hp (by omega)
              have hM : XF D A dA ad (mkX X 29 30 (10 * (xA X w bb k t) + (yA X w bb k t)) k t) ((pa, .inr (7, [.ref (ad 6), .ref wa, .ref la, .ref ba, .int (nI (xA X w bb k (t - 1))), .int (nI (yA X w bb k (t - 1))), .int (if dwn X w k (t - 1) = true then 1 else 0), .ref (ad 0)])) :: L) H := hM
              have hdw : dwn X w k (t - 1) = true := b01_1.mp c_107
              refine lv_aload_n C0.1 C0.2.1 dX7_step_114 rfl (lv_at hl 4 rfl) ?_
              refine lv_iload C0.1 C0.2.1 dX7_step_115 (lv_at hl 2 rfl) ?_
              refine lv_iload C0.1 C0.2.1 dX7_step_117 (lv_at hl 1 rfl) ?_
              refine lv_iload_n C0.1 C0.2.1 dX7_step_119 rfl (lv_at hl 5 rfl) ?_
              refine lv_iload_n C0.1 C0.2.1 dX7_step_120 rfl (lv_at hl 6 rfl) ?_
              refine x_kv (va_runV (b := pa) (As := [.int (nI (xA X w bb k t)), .int (nI (yA X w bb k t)), .int (nI k), .int (nI t)]) (rest := []) C0 (x7_line6 l D dA ad (mkX X 29 30 (10 * (xA X w bb k t) + (yA X w bb k t)) k t) L _ pa wa la ba (xA X w bb k (t - 1)) (yA X w bb k (t - 1)) (if dwn X w k (t - 1) = true then 1 else 0) (xA X w bb k t) (yA X w bb k t) k t (by omega) (by omega) (by omega) (by omega)) (cwV 4 C0.2.2.2.2 (lw_V q503 q505 qs11 q51 q506) rfl rfl rfl hdx_X7_line_6 ⟨(Nat.le_of_ble_eq_true rfl), (Nat.le_of_ble_eq_true rfl)⟩) (x_preV hG hM hS (150 + 0) (xw_E dA ad _ _ (i := 0) rfl) (cb_E ad _ (i := 0) rfl) rfl) rfl rfl hl.1 rfl (lv_room (Nat.le_of_ble_eq_true rfl)) dX7_step_121 ⟨(Nat.le_of_ble_eq_true rfl), (Nat.le_of_ble_eq_true rfl)⟩) hG hM hS (fun u H locs hr hM hS => ?_)
              subst hr
              have hM : XF D A dA ad (lnX (mkX X 29 30 (10 * (xA X w bb k t) + (yA X w bb k t)) k t) 29 30 (xA X w bb k (t - 1)) (yA X w bb k (t - 1)) (xA X w bb k t) (yA X w bb k t) k t (max (adist (xA X w bb k t) (xA X w bb k (t - 1))) (adist (yA X w bb k t) (yA X w bb k (t - 1))) - 1)) ((pa, .inr (7, [.ref (ad 6), .ref wa, .ref la, .ref ba, .int (nI (xA X w bb k (t - 1))), .int (nI (yA X w bb k (t - 1))), .int (if dwn X w k (t - 1) = true then 1 else 0), .ref (ad 0)])) :: L) H := hM
              refine lv_aload_n C0.1 C0.2.1 dX7_step_124 rfl (lv_at hl 4 rfl) ?_
              refine lv_iload C0.1 C0.2.1 dX7_step_125 (lv_at hl 2 rfl) ?_
              refine x_eput C0 hG hM hS 0 rfl rfl in_X7 tyX7 tyX7_ok nmX7 4 (by decide) q410 rfl rfl rfl rfl (Nat.le_of_ble_eq_true rfl) dX7_step_127 (fun H locs hM hS => ?_)
              have hM : XF D A dA ad (lnX (mkX X 29 30 (10 * (xA X w bb k t) + (yA X w bb k t)) k t) 29 30 (xA X w bb k (t - 1)) (yA X w bb k (t - 1)) (xA X w bb k t) (yA X w bb k t) k t (max (adist (xA X w bb k t) (xA X w bb k (t - 1))) (adist (yA X w bb k t) (yA X w bb k (t - 1))) - 1)) ((pa, .inr (7, [.ref (ad 6), .ref wa, .ref la, .ref ba, .int (nI (xA X w bb k t)), .int (nI (yA X w bb k (t - 1))), .int (if dwn X w k (t - 1) = true then 1 else 0), .ref (ad 0)])) :: L) H := hM
              refine lv_aload_n C0.1 C0.2.1 dX7_step_130 rfl (lv_at hl 4 rfl) ?_
              refine lv_iload C0.1 C0.2.1 dX7_step_131 (lv_at hl 1 rfl) ?_
              refine x_eput C0 hG hM hS 0 rfl rfl in_X7 tyX7 tyX7_ok nmX7 5 (by decide) q411 rfl rfl rfl rfl (Nat.le_of_ble_eq_true rfl) dX7_step_133 (fun H locs hM hS => ?_)
              have hM : XF D A dA ad (lnX (mkX X 29 30 (10 * (xA X w bb k t) + (yA X w bb k t)) k t) 29 30 (xA X w bb k (t - 1)) (yA X w bb k (t - 1)) (xA X w bb k t) (yA X w bb k t) k t (max (adist (xA X w bb k t) (xA X w bb k (t - 1))) (adist (yA X w bb k t) (yA X w bb k (t - 1))) - 1)) ((pa, .inr (7, [.ref (ad 6), .ref wa, .ref la, .ref ba, .int (nI (xA X w bb k t)), .int (nI (yA X w bb k t)), .int (if dwn X w k (t - 1) = true then 1 else 0), .ref (ad 0)])) :: L) H := hM
              refine lv_aload_n C0.1 C0.2.1 dX7_step_136 rfl (lv_at hl 4 rfl) ?_
              refine lv_iload C0.1 C0.2.1 dX7_step_137 (lv_at hl 0 rfl) ?_
              refine x_eput C0 hG hM hS 0 rfl rfl in_X7 tyX7 tyX7_ok nmX7 6 (by decide) q412 rfl rfl nar_b fit_b (Nat.le_of_ble_eq_true rfl) dX7_step_139 (fun H locs hM hS => ?_)
              have hM : XF D A dA ad (lnX (mkX X 29 30 (10 * (xA X w bb k t) + (yA X w bb k t)) k t) 29 30 (xA X w bb k (t - 1)) (yA X w bb k (t - 1)) (xA X w bb k t) (yA X w bb k t) k t (max (adist (xA X w bb k t) (xA X w bb k (t - 1))) (adist (yA X w bb k t) (yA X w bb k (t - 1))) - 1)) ((pa, .inr (7, [.ref (ad 6), .ref wa, .ref la, .ref ba, .int (nI (xA X w bb k t)), .int (nI (yA X w bb k t)), .int (if dwn X w k t = true then 1 else 0), .ref (ad 0)])) :: L) H := hM
              have hM : XF D A dA ad (wrX X w bb 29 30 k t) ((pa, .inr (7, [.ref (ad 6), .ref wa, .ref la, .ref ba, .int (nI (xA X w bb k t)), .int (nI (yA X w bb k t)), .int (if dwn X w k t = true then 1 else 0), .ref (ad 0)])) :: L) H := by
                rw [wrX, if_pos c_85, if_pos ⟨by omega, hdw⟩]; exact hM
              exact x_vretS C0 hr hlk hM hS rfl dX7_step_142 (Nat.le_of_ble_eq_true rfl) (Nat.le_of_ble_eq_true rfl)
      · refine lv_aload_n C0.1 C0.2.1 dX7_step_64 rfl (lv_at hl 3 rfl) ?_
        refine lv_aload_n C0.1 C0.2.1 dX7_step_65 rfl (lv_at hl 2 rfl) ?_
        refine x_letg C0 hG hM (nv (X 7 k)) 2 (by omega) (by decide) (hG.2.1.f 7 rfl) dX7_step_66 ?_
        refine tp_eq (y := nI (nv (X 5 (nv (X 7 k))))) ((hO.li (by omega)).eq (by decide)) ?_
        refine lv_iload_n C0.1 C0.2.1 dX7_step_69 rfl (lv_at hl 5 rfl) ?_
        refine fw_cp (va_runV (b := pa) (As := [.int (nI (nv (X 5 (nv (X 7 k))))), .int (nI t)]) (rest := []) C0 (x7_read l D dA ad X L _ pa (ad 6) wa la ba px py pd w (nv (X 5 (nv (X 7 k)))) t hO hw (by omega) h5 ht hr16) (cwV 2 C0.2.2.2.2 (lw_V q455 q457 qs10 q51 q458) rfl rfl rfl hdx_X7_read ⟨(Nat.le_of_ble_eq_true rfl), (Nat.le_of_ble_eq_true rfl)⟩) (x_preV hG hM hS (150 + 0) (xw_E dA ad _ _ (i := 0) rfl) (cb_E ad _ (i := 0) rfl) rfl) rfl rfl hl.1 rfl (lv_room (Nat.le_of_ble_eq_true rfl)) dX7_step_70 ⟨(Nat.le_of_ble_eq_true rfl), (Nat.le_of_ble_eq_true rfl)⟩) (fun r hr => ?_)
        subst hr
        refine lv_if_ne (tgt := 80) C0.1 C0.2.1 dX7_step_73 (by decide) (fun c_73 => ?_) (fun c_73 => ?_)
        · have n_73 : ¬ hgt X w (nv (X 5 (nv (X 7 k)))) t = 0 := fun z => c_73 ((nI_eq (a := hgt X w (nv (X 5 (nv (X 7 k)))) t) (b := 0) (by omega) (by omega)).mpr z)
          refine lv_iconst (v := 0) C0.1 C0.2.1 dX7_step_80 (by decide) ?_
          exact J _ (b0_of (fun z => n_73 (of_decide_eq_true z)))
        · have n_73 : hgt X w (nv (X 5 (nv (X 7 k)))) t = 0 := (nI_eq (a := hgt X w (nv (X 5 (nv (X 7 k)))) t) (b := 0) (by omega) (by omega)).mp c_73
          refine lv_iconst (v := 1) C0.1 C0.2.1 dX7_step_76 (by decide) ?_
          refine lv_goto (tgt := 81) C0.1 C0.2.1 dX7_step_77 (by decide) ?_
          exact J _ (b1_of (decide_eq_true n_73))
    · refine lv_aload_n C0.1 C0.2.1 dX7_step_46 rfl (lv_at hl 2 rfl) ?_
      refine x_eget C0 hG hM 0 rfl rfl in_X7 3 (by decide) rfl q409 dX7_step_47 ?_
      refine lv_aload_n C0.1 C0.2.1 dX7_step_50 rfl (lv_at hl 2 rfl) ?_
      refine lv_aload_n C0.1 C0.2.1 dX7_step_51 rfl (lv_at hl 1 rfl) ?_
      refine x_letg C0 hG hM (nv (X 7 k)) 1 (by omega) (by decide) (hG.2.1.f 6 rfl) dX7_step_52 ?_
      refine tp_eq (y := nI (nv (X 4 (nv (X 7 k))))) ((hO.upp (by omega)).eq (by decide)) ?_
      refine lv_iload_n C0.1 C0.2.1 dX7_step_55 rfl (lv_at hl 4 rfl) ?_
      refine fw_cp (va_runV (b := pa) (As := [.int (nI (nv (X 4 (nv (X 7 k))))), .int (nI t)]) (rest := [.ref ba]) C0 (x7_read l D dA ad X L _ pa (ad 6) wa la ba px py pd w (nv (X 4 (nv (X 7 k)))) t hO hw (by omega) h4 ht hr16) (cwV 2 C0.2.2.2.2 (lw_V q455 q457 qs10 q51 q458) rfl rfl rfl hdx_X7_read ⟨(Nat.le_of_ble_eq_true rfl), (Nat.le_of_ble_eq_true rfl)⟩) (x_preV hG hM hS (150 + 0) (xw_E dA ad _ _ (i := 0) rfl) (cb_E ad _ (i := 0) rfl) rfl) rfl rfl hl.1 rfl (lv_room (Nat.le_of_ble_eq_true rfl)) dX7_step_56 ⟨(Nat.le_of_ble_eq_true rfl), (Nat.le_of_ble_eq_true rfl)⟩) (fun r hr => ?_)
      subst hr
      obtain ⟨n, ho, hq | hq⟩ := hb
      · refine fw_cp (va_runV (b := ba) (As := [.int (nI (hgt X w (nv (X 4 (nv (X 7 k)))) t))]) (rest := []) C0 (x1_up l D dA ad X ((pa, .inr (7, [.ref (ad 6), .ref wa, .ref la, .ref ba, .int px, .int py, .int pd, .ref (ad 0)])) :: L) _ ba (nI (hgt X w (nv (X 4 (nv (X 7 k)))) t))) (cwV 1 C0.2.2.2.2 (lw_V q482 q483 q484 q40 q492) rfl rfl rfl hdx_X1_up ⟨(Nat.le_of_ble_eq_true rfl), (Nat.le_of_ble_eq_true rfl)⟩) (x_preV hG hM hS n hq.1 ho rfl) rfl rfl hl.1 rfl (lv_room (Nat.le_of_ble_eq_true rfl)) dX7_step_59 ⟨(Nat.le_of_ble_eq_true rfl), (Nat.le_of_ble_eq_true rfl)⟩) (fun r hr => ?_)
        subst hr
        exact J _ (yA_f hq.2 hg4)
      · refine fw_cp (va_runU (b := ba) (As := [.int (nI (hgt X w (nv (X 4 (nv (X 7 k)))) t))]) (rest := []) C0 (x10_up l D dA ad X ((pa, .inr (7, [.ref (ad 6), .ref wa, .ref la, .ref ba, .int px, .int py, .int pd, .ref (ad 0)])) :: L) _ n ba bb (nI (hgt X w (nv (X 4 (nv (X 7 k)))) t)) hq.1 ho) (va_cwO 1 C0.2.2.2.2 (lw_O q482 q485 q483 q486 q487 q54 q488) rfl rfl rfl q492 hdx_X1_up.2 ⟨(Nat.le_of_ble_eq_true rfl), (Nat.le_of_ble_eq_true rfl)⟩) (x_preV hG hM hS n hq.1 ho rfl) rfl rfl hl.1 rfl (lv_room (Nat.le_of_ble_eq_true rfl)) dX7_step_59 ⟨(Nat.le_of_ble_eq_true rfl), (Nat.le_of_ble_eq_true rfl)⟩) (fun r hr => ?_)
        subst hr
        exact J _ (yA_b hg4)
  · refine lv_aload_n C0.1 C0.2.1 dX7_step_18 rfl (lv_at hl 1 rfl) ?_
    refine x_eget C0 hG hM 0 rfl rfl in_X7 3 (by decide) rfl q409 dX7_step_19 ?_
    refine lv_iload_n C0.1 C0.2.1 dX7_step_22 rfl (lv_at hl 2 rfl) ?_
    refine lv_aload_n C0.1 C0.2.1 dX7_step_23 rfl (lv_at hl 1 rfl) ?_
    refine x_eget C0 hG hM 0 rfl rfl in_X7 7 (by decide) rfl q413 dX7_step_24 ?_
    refine x_getiN C0 hG hM 5 8 (by decide) rfl rfl (hG.2.1.f 13 rfl) dX7_step_27 ?_
    refine tp_eq (y := nI (nv (X 0 8))) (hO.adv.eq (by decide)) ?_
    refine lv_imul C0.1 C0.2.1 dX7_step_30 ?_
    refine tp_eq (y := nI (k * (nv (X 0 8)))) (pk_mul k (nv (X 0 8))) ?_
    refine lv_aload_n C0.1 C0.2.1 dX7_step_31 rfl (lv_at hl 1 rfl) ?_
    refine lv_aload_n C0.1 C0.2.1 dX7_step_32 rfl (lv_at hl 0 rfl) ?_
    refine x_letg C0 hG hM (nv (X 7 k)) 0 (by omega) (by decide) (hG.2.1.f 5 rfl) dX7_step_33 ?_
    refine tp_eq (y := nI (nv (X 3 (nv (X 7 k))))) ((hO.ac (by omega)).eq (by decide)) ?_
    refine lv_iload_n C0.1 C0.2.1 dX7_step_36 rfl (lv_at hl 3 rfl) ?_
    refine fw_cp (va_runV (b := pa) (As := [.int (nI (nv (X 3 (nv (X 7 k))))), .int (nI t)]) (rest := [.int (nI (k * (nv (X 0 8)))), .ref ba]) C0 (x7_read l D dA ad X L _ pa (ad 6) wa la ba px py pd w (nv (X 3 (nv (X 7 k)))) t hO hw (by omega) h3 ht hr16) (cwV 2 C0.2.2.2.2 (lw_V q455 q457 qs10 q51 q458) rfl rfl rfl hdx_X7_read ⟨(Nat.le_of_ble_eq_true rfl), (Nat.le_of_ble_eq_true rfl)⟩) (x_preV hG hM hS (150 + 0) (xw_E dA ad _ _ (i := 0) rfl) (cb_E ad _ (i := 0) rfl) rfl) rfl rfl hl.1 rfl (lv_room (Nat.le_of_ble_eq_true rfl)) dX7_step_37 ⟨(Nat.le_of_ble_eq_true rfl), (Nat.le_of_ble_eq_true rfl)⟩) (fun r hr => ?_)
    subst hr
    refine lv_iadd C0.1 C0.2.1 dX7_step_40 ?_
    refine tp_eq (y := nI (k * (nv (X 0 8)) + hgt X w (nv (X 3 (nv (X 7 k)))) t)) (nI_add (k * (nv (X 0 8))) (hgt X w (nv (X 3 (nv (X 7 k)))) t)) ?_
    obtain ⟨n, ho, hq | hq⟩ := hb
    · refine fw_cp (va_runV (b := ba) (As := [.int (nI (k * (nv (X 0 8)) + hgt X w (nv (X 3 (nv (X 7 k)))) t))]) (rest := []) C0 (x1_across l D dA ad X ((pa, .inr (7, [.ref (ad 6), .ref wa, .ref la, .ref ba, .int px, .int py, .int pd, .ref (ad 0)])) :: L) _ ba (nI (k * (nv (X 0 8)) + hgt X w (nv (X 3 (nv (X 7 k)))) t))) (cwV 1 C0.2.2.2.2 (lw_V q472 q473 q474 q40 q481) rfl rfl rfl hdx_X1_across ⟨(Nat.le_of_ble_eq_true rfl), (Nat.le_of_ble_eq_true rfl)⟩) (x_preV hG hM hS n hq.1 ho rfl) rfl rfl hl.1 rfl (lv_room (Nat.le_of_ble_eq_true rfl)) dX7_step_41 ⟨(Nat.le_of_ble_eq_true rfl), (Nat.le_of_ble_eq_true rfl)⟩) (fun r hr => ?_)
      subst hr
      exact J _ (xA_f hq.2)
    · refine fw_cp (va_runU (b := ba) (As := [.int (nI (k * (nv (X 0 8)) + hgt X w (nv (X 3 (nv (X 7 k)))) t))]) (rest := []) C0 (x10_across l D dA ad X ((pa, .inr (7, [.ref (ad 6), .ref wa, .ref la, .ref ba, .int px, .int py, .int pd, .ref (ad 0)])) :: L) _ n ba bb (nI (k * (nv (X 0 8)) + hgt X w (nv (X 3 (nv (X 7 k)))) t)) hq.1 ho) (va_cwO 1 C0.2.2.2.2 (lw_O q472 q475 q473 q476 q477 q54 q478) rfl rfl rfl q481 hdx_X1_across.2 ⟨(Nat.le_of_ble_eq_true rfl), (Nat.le_of_ble_eq_true rfl)⟩) (x_preV hG hM hS n hq.1 ho rfl) rfl rfl hl.1 rfl (lv_room (Nat.le_of_ble_eq_true rfl)) dX7_step_41 ⟨(Nat.le_of_ble_eq_true rfl), (Nat.le_of_ble_eq_true rfl)⟩) (fun r hr => ?_)
      subst hr
      exact J _ (xA_b)
