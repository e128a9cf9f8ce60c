set_option maxRecDepth 100000
set_option linter.unusedVariables false
theorem sh_tr {X T : St} (h : Tr X T) : Sh T X := ⟨fun j _ _ _ _ => h 0 j (by decide) (by decide), fun k _ _ _ _ e f => funext fun i => h k i e f⟩
theorem expl_lk {X T : St} {w lz bb : Int32} (hX : XOk X) (hT : Tr (clrA X 29 1200) T) (hR : MkR (allK (clrA X 29 1200) w lz bb (pg (clrA X 29 1200))) (T 29) (T 30)) : allN (lkq T) 1200 = true ↔ expl X w lz bb = true := by
  have hc := clrA_tr X
  have h1 : MkR (X 17, X 18) (T 23) (T 24) := by
    rw [hT.k 23 rfl, hT.k 24 rfl, hc.k 23 rfl, hc.k 24 rfl]
    exact hX.2.2
  rw [allK_q hc.q.w hc.q.ln, hc.q.pg] at hR
  exact lk_like h1 hR 1200 (Nat.le_refl _)
theorem look_0 (X : St) : (if (((-9 : Int32), (-9 : Int32)) : Int32 × Int32).1 < 0 ∧ expl X (-1) (-1) (-1) = true then ((0 : Int32), (-9 : Int32)) else ((-9 : Int32), (-9 : Int32))) = stW X 0 := by
  show _ = if _ then _ else _
  by_cases h : expl X (-1) (-1) (-1) = true
  · rw [if_pos h, if_pos ⟨by decide, h⟩]
  · rw [if_neg h, if_neg (fun z => h z.2)]
theorem look_s {T T' : St} {v : Int32 × Int32} {k w : Int32} {P c : Prop} [Decidable P] [Decidable c] (hT' : Tr T T') (h : (T 0 27, T 0 28) = v) (e : P ↔ c) : (findF T' k w ((if P then (1 : Int32) else 0) = 1) 0 27, findF T' k w ((if P then (1 : Int32) else 0) = 1) 0 28) = if v.1 < 0 ∧ c then (k, w) else v := by
  rw [find_27, hT'.k 0 rfl, h]
  subst h
  have e1 : ((if P then (1 : Int32) else 0) = 1) ↔ c := by
    rw [← e]
    by_cases hp : P
    · rw [if_pos hp]; exact ⟨fun _ => hp, fun _ => rfl⟩
    · rw [if_neg hp]; exact ⟨fun z => absurd z (by decide), fun z => absurd z hp⟩
  by_cases hq : T 0 27 < 0 ∧ c
  · rw [if_pos hq, if_pos ⟨hq.1, e1.mpr hq.2⟩]
  · rw [if_neg hq, if_neg (fun z => hq ⟨z.1, e1.mp z.2⟩)]
section JC
variable {p : Program} {l : Launch} {e : Env} {R : Room} {s : State} {m : MethodId} {args : Array Value} {below : List Frame} {meth : Method} {c : Code} {H : Heap} {locs : List Loc} {cells slots : Nat} {Q : State → Prop} {pc : Nat} {ls : Array Slot} {st : List Value}
theorem jnC (pc' c' s' : Nat) (I : Heap → List Loc → Array Slot → Prop) (J : ∀ H' locs' ls', I H' locs' ls' → W p l e R s m args below meth c H' locs' c' s' Q (F0 m pc' ls' []))
    (K : (∀ H' locs' ls' k n, k ≤ c' → n ≤ s' → I H' locs' ls' → W p l e R s m args below meth c H' locs' k n Q (F0 m pc' ls' [])) → W p l e R s m args below meth c H locs cells slots Q (F0 m pc ls st)) : W p l e R s m args below meth c H locs cells slots Q (F0 m pc ls st) := K (fun H' locs' ls' k n h1 h2 hI => W.widen h1 h2 (J H' locs' ls' hI))
end JC
theorem hdx_X7_all : yX7_all.cls = RX7 ∧ yX7_all.cls ≠ "java/lang/invoke/MethodHandle" ∧ yX7_all.cls ≠ "java/lang/invoke/VarHandle" ∧ (parseMethodDescriptor yX7_all.desc).map (fun d => d.parameters.length) = some 0 := by decide +kernel
set_option maxHeartbeats 4000000 in
theorem x7_all (l : Launch) (D : va_G) (dA : Nat → ClassId) (ad : Nat → Nat) (X : St) (L : Ex) (sz : Nat) (pa wa la ba : Nat) (px py pd : Int32) (w lz bb : Int32) (hO : Ok X) (hrl : rl X = ln X) (hcut : areCutN X (pg X) = true) (hw : PW dA ad X ((pa, penE ad (ad 6) wa la ba px py pd) :: L) wa 8 w) (hz : PW dA ad X ((pa, penE ad (ad 6) wa la ba px py pd) :: L) la 9 lz) (hb : PW dA ad X ((pa, penE ad (ad 6) wa la ba px py pd) :: L) ba 10 bb) (h0 : MkR noMk (X 29) (X 30)) : xCv l yX7_all cX7_all 3 { frames := 4, cells := 0, slots := 0, locals := 92 } D dA ad X ((pa, .inr (7, [.ref (ad 6), .ref wa, .ref la, .ref ba, .int px, .int py, .int pd, .ref (ad 0)])) :: L) sz [.ref pa] 0 0 (fun u => ∃ T x y d, u = (ad, T, (pa, penE ad (ad 6) wa la ba x y d) :: L) ∧ Tr X T ∧ MkR (allK X w lz bb (pg X)) (T 29) (T 30)) := by
  refine x_hV (by decide) (Nat.le_of_ble_eq_true rfl) ?_
  intro A p e s m below meth cd ls C0 hr hlk hnm hG hM hS hl
  have hl : lv_has ls 3 [(0, .ref pa)] := hl
  have hl2 := hO.len2
  have hl16 := hO.len16
  have hp12 := hO.pg12
  refine lv_iconst (v := 0) C0.1 C0.2.1 dX7_all_0 (by decide) ?_
  refine lv_istore_n (lv' := [(1, .int 0), (0, .ref pa)]) C0.1 C0.2.1 dX7_all_1 rfl hl (by decide) rfl (fun ls hl => ?_)
  refine W_loop (pg X) (fun k H locs ls => ∃ T px py pd, (Tr X T ∧ MkR (allK X w lz bb k) (T 29) (T 30)) ∧ XF D A dA ad T ((pa, .inr (7, [.ref (ad 6), .ref wa, .ref la, .ref ba, .int px, .int py, .int pd, .ref (ad 0)])) :: L) H ∧ va_S A s.heap H locs ∧ lv_has ls 3 [(0, .ref pa), (1, .int (nI k))]) 2 ?_ ?_ 0 _ _ ls (Nat.zero_le _) ⟨_, _, _, _, ⟨fun _ _ _ _ => rfl, h0⟩, hM, hS, lv_sub hl [1, 0] rfl⟩
  · intro H locs ls ⟨T, px, py, pd, hP, hM, hS, hl⟩
    obtain ⟨hT, hR⟩ := hP
    refine lv_iload_n C0.1 C0.2.1 dX7_all_2 rfl (lv_at hl 1 rfl) ?_
    refine lv_aload_n C0.1 C0.2.1 dX7_all_3 rfl (lv_at hl 0 rfl) ?_
    refine x_eget C0 hG hM 0 rfl rfl in_X7 7 (by decide) rfl q413 dX7_all_4 ?_
    refine x_getiN C0 hG hM 4 6 (by decide) rfl rfl (hG.2.1.f 12 rfl) dX7_all_7 ?_
    refine tp_eq (y := nI (pg X)) ((hT 0 6 (by decide) (by decide)).trans hO.pgE) ?_
    refine lv_icmp_ge (tgt := 52) C0.1 C0.2.1 dX7_all_10 (by decide) (fun c_10 => ?_) (fun c_10 => ?_)
    · have n_10 : pg X ≤ pg X := (nI_leI (a := pg X) (b := pg X) (by omega) (by omega)).mp c_10
      exact x_vretS C0 hr hlk hM hS ⟨T, px, py, pd, rfl, hT, hR⟩ dX7_all_52 (Nat.le_of_ble_eq_true rfl) (Nat.le_of_ble_eq_true rfl)
    · have n_10 : ¬ pg X ≤ pg X := fun z => c_10 ((nI_leI (a := pg X) (b := pg X) (by omega) (by omega)).mpr z)
      omega
  · intro k H locs ls hk ⟨T, px, py, pd, hP, hM, hS, hl⟩ K2
    obtain ⟨hT, hR⟩ := hP
    have hk12 : k < 12 := by omega
    have hc3 := cutL_3 (cut_k hcut hk)
    have h19 : T 19 = X 19 := hT.k 19 rfl
    have hwT : PW dA ad T ((pa, penE ad (ad 6) wa la ba px py pd) :: L) wa 8 w := hw.mv h19 (by decide) (pen_ne (by decide))
    have hzT : PW dA ad T ((pa, penE ad (ad 6) wa la ba px py pd) :: L) la 9 lz := hz.mv h19 (by decide) (pen_ne (by decide))
    have hbT : PW dA ad T ((pa, penE ad (ad 6) wa la ba px py pd) :: L) ba 10 bb := hb.mv h19 (by decide) (pen_ne (by decide))
    refine lv_iload_n C0.1 C0.2.1 dX7_all_2 rfl (lv_at hl 1 rfl) ?_
    refine lv_aload_n C0.1 C0.2.1 dX7_all_3 rfl (lv_at hl 0 rfl) ?_
    refine x_eget C0 hG hM 0 rfl rfl in_X7 7 (by decide) rfl q413 dX7_all_4 ?_
    refine x_getiN C0 hG hM 4 6 (by decide) rfl rfl (hG.2.1.f 12 rfl) dX7_all_7 ?_
    refine tp_eq (y := nI (pg X)) ((hT 0 6 (by decide) (by decide)).trans hO.pgE) ?_
    refine lv_icmp_ge (tgt := 52) C0.1 C0.2.1 dX7_all_10 (by decide) (fun c_10 => ?_) (fun c_10 => ?_)
    · have n_10 : pg X ≤ k := (nI_leI (a := pg X) (b := k) (by omega) (by omega)).mp c_10
      omega
    · have n_10 : ¬ pg X ≤ k := fun z => c_10 ((nI_leI (a := pg X) (b := k) (by omega) (by omega)).mpr z)
      refine lv_iconst (v := 0) C0.1 C0.2.1 dX7_all_13 (by decide) ?_
      refine lv_istore_n (lv' := [(2, .int 0), (0, .ref pa), (1, .int (nI k))]) C0.1 C0.2.1 dX7_all_14 rfl hl (by decide) rfl (fun ls hl => ?_)
      by_cases hkl : nI k = lz
      · refine lv_iload_n C0.1 C0.2.1 dX7_all_15 rfl (lv_at hl 0 rfl) ?_
        refine lv_aload_n C0.1 C0.2.1 dX7_all_16 rfl (lv_at hl 1 rfl) ?_
        refine x_eget C0 hG hM 0 rfl rfl in_X7 7 (by decide) rfl q413 dX7_all_17 ?_
        refine x_getiN C0 hG hM 1 0 (by decide) rfl rfl (hG.2.1.f 9 rfl) dX7_all_20 ?_
        refine tp_eq (y := nI (ln X)) ((hT 0 0 (by decide) (by decide)).trans hO.len) ?_
        refine lv_icmp_ge (tgt := 46) C0.1 C0.2.1 dX7_all_23 (by decide) (fun c_23 => ?_) (fun c_23 => ?_)
        · have n_23 : ln X ≤ 0 := (nI_leI (a := ln X) (b := 0) (by omega) (by omega)).mp c_23
          omega
        · have n_23 : ¬ ln X ≤ 0 := fun z => c_23 ((nI_leI (a := ln X) (b := 0) (by omega) (by omega)).mpr z)
          refine lv_aload_n C0.1 C0.2.1 dX7_all_26 rfl (lv_at hl 1 rfl) ?_
          refine lv_iload_n C0.1 C0.2.1 dX7_all_27 rfl (lv_at hl 2 rfl) ?_
          refine fw_cp (va_runV (b := pa) (As := [.int (nI k)]) (rest := []) C0 (x7_writes l D dA ad T L _ pa (ad 6) wa la ba px py pd lz k (by omega) hzT) (cwV 1 C0.2.2.2.2 (lw_V q587 q432 q433 q51 q434) rfl rfl rfl hdx_X7_writes ⟨(Nat.le_of_ble_eq_true rfl), (Nat.le_of_ble_eq_true rfl)⟩) (x_preV hG hM hS (150 + 0) (xw_E dA ad _ _ (i := 0) rfl) (cb_E ad _ (i := 0) rfl) rfl) rfl rfl hl.1 rfl (lv_room (Nat.le_of_ble_eq_true rfl)) dX7_all_28 ⟨(Nat.le_of_ble_eq_true rfl), (Nat.le_of_ble_eq_true rfl)⟩) (fun r hr => ?_)
          subst hr
          refine lv_if_eq (tgt := 46) C0.1 C0.2.1 dX7_all_31 (by decide) (fun c_31 => ?_) (fun c_31 => ?_)
          · have c_31 : ¬ (¬ nI k = lz) := b01_0.mp c_31
            refine lv_iinc (v := nI (k + 1)) (lv' := [(1, .int (nI (k + 1))), (2, .int 0), (0, .ref pa)]) C0.1 C0.2.1 dX7_all_46 hl (k := 2) rfl (nI_1 k) (by decide) rfl (fun ls hl => ?_)
            refine lv_goto (tgt := 2) C0.1 C0.2.1 dX7_all_49 (by decide) ?_
            exact K2 _ _ ls ⟨_, _, _, _, ⟨hT, by rw [show allK X w lz bb (k + 1) = allK X w lz bb k from if_pos hkl]; exact hR⟩, hM, hS, lv_sub hl [2, 0] rfl⟩
          · have c_31 : ¬ nI k = lz := b01_1.mp c_31
            exact absurd hkl c_31
      · refine W_loop (ln X) (fun t H locs ls => ∃ T px py pd, (Tr X T ∧ MkR (allT X w bb k (allK X w lz bb k) t) (T 29) (T 30) ∧ (0 < t → px = nI (xA X w bb k (t - 1)) ∧ py = nI (yA X w bb k (t - 1)) ∧ pd = if dwn X w k (t - 1) = true then 1 else 0)) ∧ XF D A dA ad T ((pa, .inr (7, [.ref (ad 6), .ref wa, .ref la, .ref ba, .int px, .int py, .int pd, .ref (ad 0)])) :: L) H ∧ va_S A s.heap H locs ∧ lv_has ls 3 [(0, .ref pa), (1, .int (nI k)), (2, .int (nI t))]) 15 ?_ ?_ 0 _ _ ls (Nat.zero_le _) ⟨_, _, _, _, ⟨hT, hR, fun h => absurd h (Nat.lt_irrefl 0)⟩, hM, hS, lv_sub hl [1, 2, 0] rfl⟩
        · intro H locs ls ⟨T, px, py, pd, hP, hM, hS, hl⟩
          obtain ⟨hT, hR, hpq⟩ := hP
          refine lv_iload_n C0.1 C0.2.1 dX7_all_15 rfl (lv_at hl 2 rfl) ?_
          refine lv_aload_n C0.1 C0.2.1 dX7_all_16 rfl (lv_at hl 0 rfl) ?_
          refine x_eget C0 hG hM 0 rfl rfl in_X7 7 (by decide) rfl q413 dX7_all_17 ?_
          refine x_getiN C0 hG hM 1 0 (by decide) rfl rfl (hG.2.1.f 9 rfl) dX7_all_20 ?_
          refine tp_eq (y := nI (ln X)) ((hT 0 0 (by decide) (by decide)).trans hO.len) ?_
          refine lv_icmp_ge (tgt := 46) C0.1 C0.2.1 dX7_all_23 (by decide) (fun c_23 => ?_) (fun c_23 => ?_)
          · have n_23 : ln X ≤ ln X := (nI_leI (a := ln X) (b := ln X) (by omega) (by omega)).mp c_23
            refine lv_iinc (v := nI (k + 1)) (lv' := [(1, .int (nI (k + 1))), (0, .ref pa), (2, .int (nI (ln X)))]) C0.1 C0.2.1 dX7_all_46 hl (k := 1) rfl (nI_1 k) (by decide) rfl (fun ls hl => ?_)
            refine lv_goto (tgt := 2) C0.1 C0.2.1 dX7_all_49 (by decide) ?_
            exact K2 _ _ ls ⟨_, _, _, _, ⟨hT, by rw [show allK X w lz bb (k + 1) = allT X w bb k (allK X w lz bb k) (ln X) from if_neg hkl]; exact hR⟩, hM, hS, lv_sub hl [1, 0] rfl⟩
          · have n_23 : ¬ ln X ≤ ln X := fun z => c_23 ((nI_leI (a := ln X) (b := ln X) (by omega) (by omega)).mpr z)
            omega
        · intro t H locs ls ht ⟨T, px, py, pd, hP, hM, hS, hl⟩ K15
          obtain ⟨hT, hR, hpq⟩ := hP
          have h19 : T 19 = X 19 := hT.k 19 rfl
          have hwT : PW dA ad T ((pa, penE ad (ad 6) wa la ba px py pd) :: L) wa 8 w := hw.mv h19 (by decide) (pen_ne (by decide))
          have hzT : PW dA ad T ((pa, penE ad (ad 6) wa la ba px py pd) :: L) la 9 lz := hz.mv h19 (by decide) (pen_ne (by decide))
          have hbT : PW dA ad T ((pa, penE ad (ad 6) wa la ba px py pd) :: L) ba 10 bb := hb.mv h19 (by decide) (pen_ne (by decide))
          refine lv_iload_n C0.1 C0.2.1 dX7_all_15 rfl (lv_at hl 2 rfl) ?_
          refine lv_aload_n C0.1 C0.2.1 dX7_all_16 rfl (lv_at hl 0 rfl) ?_
          refine x_eget C0 hG hM 0 rfl rfl in_X7 7 (by decide) rfl q413 dX7_all_17 ?_
          refine x_getiN C0 hG hM 1 0 (by decide) rfl rfl (hG.2.1.f 9 rfl) dX7_all_20 ?_
          refine tp_eq (y := nI (ln X)) ((hT 0 0 (by decide) (by decide)).trans hO.len) ?_
          refine lv_icmp_ge (tgt := 46) C0.1 C0.2.1 dX7_all_23 (by decide) (fun c_23 => ?_) (fun c_23 => ?_)
          · have n_23 : ln X ≤ t := (nI_leI (a := ln X) (b := t) (by omega) (by omega)).mp c_23
            omega
          · have n_23 : ¬ ln X ≤ t := fun z => c_23 ((nI_leI (a := ln X) (b := t) (by omega) (by omega)).mpr z)
            refine lv_aload_n C0.1 C0.2.1 dX7_all_26 rfl (lv_at hl 0 rfl) ?_
            refine lv_iload_n C0.1 C0.2.1 dX7_all_27 rfl (lv_at hl 1 rfl) ?_
            refine fw_cp (va_runV (b := pa) (As := [.int (nI k)]) (rest := []) C0 (x7_writes l D dA ad T L _ pa (ad 6) wa la ba px py pd lz k (by omega) hzT) (cwV 1 C0.2.2.2.2 (lw_V q587 q432 q433 q51 q434) rfl rfl rfl hdx_X7_writes ⟨(Nat.le_of_ble_eq_true rfl), (Nat.le_of_ble_eq_true rfl)⟩) (x_preV hG hM hS (150 + 0) (xw_E dA ad _ _ (i := 0) rfl) (cb_E ad _ (i := 0) rfl) rfl) rfl rfl hl.1 rfl (lv_room (Nat.le_of_ble_eq_true rfl)) dX7_all_28 ⟨(Nat.le_of_ble_eq_true rfl), (Nat.le_of_ble_eq_true rfl)⟩) (fun r hr => ?_)
            subst hr
            refine lv_if_eq (tgt := 46) C0.1 C0.2.1 dX7_all_31 (by decide) (fun c_31 => ?_) (fun c_31 => ?_)
            · have c_31 : ¬ (¬ nI k = lz) := b01_0.mp c_31
              exact absurd hkl c_31
            · have c_31 : ¬ nI k = lz := b01_1.mp c_31
              refine lv_aload_n C0.1 C0.2.1 dX7_all_34 rfl (lv_at hl 0 rfl) ?_
              refine lv_iload_n C0.1 C0.2.1 dX7_all_35 rfl (lv_at hl 1 rfl) ?_
              refine lv_iload_n C0.1 C0.2.1 dX7_all_36 rfl (lv_at hl 2 rfl) ?_
              refine x_kv (va_runV (b := pa) (As := [.int (nI k), .int (nI t)]) (rest := []) C0 (x7_step6 l D dA ad T L _ pa wa la ba px py pd w bb k t (hO.w.q hT.q.w.symm) hwT hbT hk12 (by rw [hT.q.rl, hrl]; exact ht) (by rw [hT.q.rl, hrl]; exact hl16) (by rw [hT.q.k 1 rfl, hT.q.k 3 rfl, hT.q.k 7 rfl]; exact hc3.1) (by rw [hT.q.k 1 rfl, hT.q.k 4 rfl, hT.q.k 7 rfl]; exact hc3.2.1) (by rw [hT.q.k 1 rfl, hT.q.k 5 rfl, hT.q.k 7 rfl]; exact hc3.2.2) (fun h => by rw [xA_q hT.q.w, yA_q hT.q.w, dwn_q hT.q.w]; exact hpq h)) (cwV 2 C0.2.2.2.2 (lw_V q588 q452 q453 q51 q454) rfl rfl rfl hdx_X7_step_6 ⟨(Nat.le_of_ble_eq_true rfl), (Nat.le_of_ble_eq_true rfl)⟩) (x_preV hG hM hS (150 + 0) (xw_E dA ad _ _ (i := 0) rfl) (cb_E ad _ (i := 0) rfl) rfl) rfl rfl hl.1 rfl (lv_room (Nat.le_of_ble_eq_true rfl)) dX7_all_37 ⟨(Nat.le_of_ble_eq_true rfl), (Nat.le_of_ble_eq_true rfl)⟩) hG hM hS (fun u H locs hr hM hS => ?_)
              subst hr
              have hM : XF D A dA ad (wrX T w bb 29 30 k t) ((pa, .inr (7, [.ref (ad 6), .ref wa, .ref la, .ref ba, .int (nI (xA T w bb k t)), .int (nI (yA T w bb k t)), .int (if dwn T w k t = true then 1 else 0), .ref (ad 0)])) :: L) H := hM
              refine lv_iinc (v := nI (t + 1)) (lv' := [(2, .int (nI (t + 1))), (0, .ref pa), (1, .int (nI k))]) C0.1 C0.2.1 dX7_all_40 hl (k := 2) rfl (nI_1 t) (by decide) rfl (fun ls hl => ?_)
              refine lv_goto (tgt := 15) C0.1 C0.2.1 dX7_all_43 (by decide) ?_
              exact K15 _ _ ls ⟨_, _, _, _, ⟨hT.wr _ _ _ _, mkr_wrT w bb hT.q.w (hO.w.q hT.q.w.symm) (by decide) hk12 (by omega) hR, fun _ => ⟨by rw [xA_q hT.q.w]; rfl, by rw [yA_q hT.q.w]; rfl, by rw [dwn_q hT.q.w]; rfl⟩⟩, hM, hS, lv_sub hl [1, 2, 0] rfl⟩
theorem hdx_X0_explains : yX0_explains.cls = RX0 ∧ yX0_explains.cls ≠ "java/lang/invoke/MethodHandle" ∧ yX0_explains.cls ≠ "java/lang/invoke/VarHandle" ∧ (parseMethodDescriptor yX0_explains.desc).map (fun d => d.parameters.length) = some 3 := by decide +kernel
set_option maxHeartbeats 4000000 in
theorem xx_explains (l : Launch) (D : va_G) (dA : Nat → ClassId) (ad : Nat → Nat) (X : St) (L : Ex) (sz : Nat) (wa la ba : Nat) (w lz bb : Int32) (hX : XOk X) (hcut : areCutN X (pg X) = true) (hw : PW dA ad X L wa 8 w) (hz : PW dA ad X L la 9 lz) (hb : PW dA ad X L ba 10 bb) : xCi l yX0_explains cX0_explains 4 (some .boolean) { frames := 5, cells := 1, slots := 8, locals := 114 } D dA ad X L sz [.ref (ad 0), .ref wa, .ref la, .ref ba] 1 8 (fun r u => r = (if expl X w lz bb = true then 1 else 0) ∧ ∃ T, u = (ad, T, L) ∧ Tr X T) := by
  refine x_hI (by decide) (Nat.le_of_ble_eq_true rfl) ?_
  intro A p e s m below meth cd ls C0 hr hlk hnm hG hM hS hl
  have hl : lv_has ls 4 [(0, .ref (ad 0)), (1, .ref wa), (2, .ref la), (3, .ref ba)] := hl
  have hO := hX.ok
  have hrl := hX.rl
  refine lv_aload_n C0.1 C0.2.1 dX0_explains_0 rfl (lv_at hl 0 rfl) ?_
  refine x_geta C0 hG hM 9 6 (by decide) rfl rfl q127 dX0_explains_1 ?_
  refine x_kv (va_runV (b := (ad 6)) (As := []) (rest := []) C0 (x2_clear6 l D dA ad X L _ ) (cwV 0 C0.2.2.2.2 (lw_V q199 q200 q201 q41 q202) rfl rfl rfl hdx_X2_clear_6 ⟨(Nat.le_of_ble_eq_true rfl), (Nat.le_of_ble_eq_true rfl)⟩) (x_preV hG hM hS 6 (xw_6 dA ad _ _) rfl rfl) rfl rfl hl.1 rfl (lv_room (Nat.le_of_ble_eq_true rfl)) dX0_explains_4 ⟨(Nat.le_of_ble_eq_true rfl), (Nat.le_of_ble_eq_true rfl)⟩) hG hM hS (fun u H locs hr hM hS => ?_)
  subst hr
  have hM : XF D A dA ad (clrA X 29 1200) L H := hM
  refine x_newC (ci := 7) C0 hG hM hS [.null, .null, .null, .null, .int 0, .int 0, .int 0, .null] rfl in_X7 tyX7 tyX7_ok q396 q397 q51 (by decide) (Nat.le_of_ble_eq_true rfl) (Nat.le_of_ble_eq_true rfl) dX0_explains_7 (fun q7 H hM hS => ?_)
  refine lv_dup C0.1 C0.2.1 dX0_explains_10 rfl ?_
  refine lv_aload_n C0.1 C0.2.1 dX0_explains_11 rfl (lv_at hl 0 rfl) ?_
  refine lv_aload_n C0.1 C0.2.1 dX0_explains_12 rfl (lv_at hl 0 rfl) ?_
  refine x_geta C0 hG hM 9 6 (by decide) rfl rfl q127 dX0_explains_13 ?_
  refine lv_aload_n C0.1 C0.2.1 dX0_explains_16 rfl (lv_at hl 1 rfl) ?_
  refine lv_aload_n C0.1 C0.2.1 dX0_explains_17 rfl (lv_at hl 2 rfl) ?_
  refine lv_aload_n C0.1 C0.2.1 dX0_explains_18 rfl (lv_at hl 3 rfl) ?_
  refine x_kv (va_runI (b := q7) (As := [.ref (ad 0), .ref (ad 6), .ref wa, .ref la, .ref ba]) (rest := [.ref q7]) C0 (x7_init l D dA ad (clrA X 29 1200) L _ q7 (ad 6) wa la ba) (cwI 5 C0.2.2.2.2 (lw_meth q404) rfl rfl rfl (C0.2.2.2.2 _ q51) (C0.2.2.2.2 _ q402) (C0.2.2.2.2 _ q403) rfl hdx_X7_init ⟨(Nat.le_of_ble_eq_true rfl), (Nat.le_of_ble_eq_true rfl)⟩) (x_preS hG hM hS) rfl rfl hl.1 rfl (lv_room (Nat.le_of_ble_eq_true rfl)) dX0_explains_19 ⟨(Nat.le_of_ble_eq_true rfl), (Nat.le_of_ble_eq_true rfl)⟩) hG hM hS (fun u H locs hr hM hS => ?_)
  subst hr
  have hM : XF D A dA ad (clrA X 29 1200) ((q7, .inr (7, [.ref (ad 6), .ref wa, .ref la, .ref ba, .int 0, .int 0, .int 0, .ref (ad 0)])) :: L) H := hM
  refine x_kv (va_runV (b := q7) (As := []) (rest := []) C0 (x7_all l D dA ad (clrA X 29 1200) L _ q7 wa la ba 0 0 0 w lz bb (hO.sh (sh_tr (clrA_tr X)).symm) (by rw [(clrA_tr X).q.rl, (clrA_tr X).q.ln]; exact hrl) (by rw [areCut_sh (sh_tr (clrA_tr X)), (clrA_tr X).q.pg]; exact hcut) (hw.cons ((clrA_tr X).k 19 rfl) (by decide)) (hz.cons ((clrA_tr X).k 19 rfl) (by decide)) (hb.cons ((clrA_tr X).k 19 rfl) (by decide)) (clrA_mk X 29 30)) (cwV 0 C0.2.2.2.2 (lw_V q583 q584 q585 q51 q586) rfl rfl rfl hdx_X7_all ⟨(Nat.le_of_ble_eq_true rfl), (Nat.le_of_ble_eq_true rfl)⟩) (x_preV hG hM hS (150 + 0) (xw_E dA ad _ _ (i := 0) rfl) (cb_E ad _ (i := 0) rfl) rfl) rfl rfl hl.1 rfl (lv_room (Nat.le_of_ble_eq_true rfl)) dX0_explains_22 ⟨(Nat.le_of_ble_eq_true rfl), (Nat.le_of_ble_eq_true rfl)⟩) hG hM hS (fun u H locs hr hM hS => ?_)
  obtain ⟨T, x9, y9, d9, rfl, hT, hR⟩ := hr
  have hM : XF D A dA ad T ((q7, .inr (7, [.ref (ad 6), .ref wa, .ref la, .ref ba, .int x9, .int y9, .int d9, .ref (ad 0)])) :: L) H := hM
  have hM := hM.tail
  have hM : XF D A dA ad T L H := hM
  refine lv_aload_n C0.1 C0.2.1 dX0_explains_25 rfl (lv_at hl 0 rfl) ?_
  refine x_geta C0 hG hM 9 6 (by decide) rfl rfl q127 dX0_explains_26 ?_
  refine lv_aload_n C0.1 C0.2.1 dX0_explains_29 rfl (lv_at hl 0 rfl) ?_
  refine x_geta C0 hG hM 8 5 (by decide) rfl rfl q126 dX0_explains_30 ?_
  refine fw_cp (va_runV (b := (ad 6)) (As := [.ref (ad 5)]) (rest := []) C0 (x2_isLike l D dA ad T L _ ) (cwV 1 C0.2.2.2.2 (lw_V q589 q590 q591 q41 q592) rfl rfl rfl hdx_X2_isLike ⟨(Nat.le_of_ble_eq_true rfl), (Nat.le_of_ble_eq_true rfl)⟩) (x_preV hG hM hS 6 (xw_6 dA ad _ _) rfl rfl) rfl rfl hl.1 rfl (lv_room (Nat.le_of_ble_eq_true rfl)) dX0_explains_33 ⟨(Nat.le_of_ble_eq_true rfl), (Nat.le_of_ble_eq_true rfl)⟩) (fun r hr => ?_)
  subst hr
  refine tp_eq (y := (if expl X w lz bb = true then 1 else 0)) (b01_c (expl_lk hX hT hR)) ?_
  exact x_zretS C0 hr hlk hM hS nar_b ⟨rfl, T, rfl, fun a i h1 h2 => (hT a i h1 h2).trans ((clrA_tr X) a i h1 h2)⟩ dX0_explains_36 (Nat.le_of_ble_eq_true rfl) (Nat.le_of_ble_eq_true rfl)
theorem hdx_X0_looks : yX0_looks.cls = RX0 ∧ yX0_looks.cls ≠ "java/lang/invoke/MethodHandle" ∧ yX0_looks.cls ≠ "java/lang/invoke/VarHandle" ∧ (parseMethodDescriptor yX0_looks.desc).map (fun d => d.parameters.length) = some 0 := by decide +kernel
set_option maxHeartbeats 4000000 in
theorem xx_looks (l : Launch) (D : va_G) (dA : Nat → ClassId) (ad : Nat → Nat) (X : St) (L : Ex) (sz : Nat) (hX : XOk X) (hcut : areCutN X (pg X) = true) : xCv l yX0_looks cX0_looks 2 { frames := 6, cells := 60, slots := 600, locals := 137 } D dA ad X ([]) sz [.ref (ad 0)] 60 600 (fun u => ∃ T, u = (ad, T, []) ∧ Tl X T ∧ (T 0 27, T 0 28) = found X) := by
  refine x_hV (by decide) (Nat.le_of_ble_eq_true rfl) ?_
  intro A p e s m below meth cd ls C0 hr hlk hnm hG hM hS hl
  have hl : lv_has ls 2 [(0, .ref (ad 0))] := hl
  have hO := hX.ok
  have hp12 := hO.pg12
  refine lv_aload_n C0.1 C0.2.1 dX0_looks_0 rfl (lv_at hl 0 rfl) ?_
  refine lv_bipush (v := (-9)) C0.1 C0.2.1 dX0_looks_1 (by decide) ?_
  refine x_put C0 hG hM hS 21 27 (by decide) rfl rfl q139 rfl rfl dX0_looks_3 (fun H locs hM hS => ?_)
  refine lv_aload_n C0.1 C0.2.1 dX0_looks_6 rfl (lv_at hl 0 rfl) ?_
  refine lv_bipush (v := (-9)) C0.1 C0.2.1 dX0_looks_7 (by decide) ?_
  refine x_put C0 hG hM hS 22 28 (by decide) rfl rfl q140 rfl rfl dX0_looks_9 (fun H locs hM hS => ?_)
  have hTl := Tl_0 X
  have e27 : ((up2 (up2 X 0 27 (-9)) 0 28 (-9)) 0 27, (up2 (up2 X 0 27 (-9)) 0 28 (-9)) 0 28) = ((-9 : Int32), (-9 : Int32)) := by rw [up2_i _ _ (by decide), up2_self, up2_self]
  generalize up2 (up2 X 0 27 (-9)) 0 28 (-9) = T at hM hTl e27
  have hXT := hTl.ok hX
  have hcT : areCutN T (pg T) = true := by rw [areCut_sh hTl.sh, show pg T = pg X by unfold pg; rw [hTl.sh.at0 6 rfl]]; exact hcut
  refine lv_aload_n C0.1 C0.2.1 dX0_looks_12 rfl (lv_at hl 0 rfl) ?_
  refine lv_iconst (v := 0) C0.1 C0.2.1 dX0_looks_13 (by decide) ?_
  refine lv_bipush (v := (-9)) C0.1 C0.2.1 dX0_looks_14 (by decide) ?_
  refine lv_aload_n C0.1 C0.2.1 dX0_looks_16 rfl (lv_at hl 0 rfl) ?_
  refine lv_aload_n C0.1 C0.2.1 dX0_looks_17 rfl (lv_at hl 0 rfl) ?_
  refine x_geta C0 hG hM 6 4 (by decide) rfl rfl q124 dX0_looks_18 ?_
  refine lv_aload_n C0.1 C0.2.1 dX0_looks_21 rfl (lv_at hl 0 rfl) ?_
  refine x_geta C0 hG hM 6 4 (by decide) rfl rfl q124 dX0_looks_22 ?_
  refine lv_aload_n C0.1 C0.2.1 dX0_looks_25 rfl (lv_at hl 0 rfl) ?_
  refine x_geta C0 hG hM 6 4 (by decide) rfl rfl q124 dX0_looks_26 ?_
  refine x_ki (va_runV (b := (ad 0)) (As := [.ref (ad 4), .ref (ad 4), .ref (ad 4)]) (rest := [.int (-9), .int 0, .ref (ad 0)]) C0 (xx_explains l D dA ad T ([]) _ (ad 4) (ad 4) (ad 4) (-1) (-1) (-1) hXT hcT PW.fine PW.fine PW.fine) (cwV 3 C0.2.2.2.2 (lw_V q579 q581 qs14 q39 q582) rfl rfl rfl hdx_X0_explains ⟨(Nat.le_of_ble_eq_true rfl), (Nat.le_of_ble_eq_true rfl)⟩) (x_preV hG hM hS 0 (xw_0 dA ad _ _) rfl rfl) rfl rfl hl.1 rfl (lv_room (Nat.le_of_ble_eq_true rfl)) dX0_looks_29 ⟨(Nat.le_of_ble_eq_true rfl), (Nat.le_of_ble_eq_true rfl)⟩) hG hM hS (fun r u H locs hr hM hS => ?_)
  obtain ⟨rfl, T', rfl, hT'⟩ := hr
  have hM : XF D A dA ad T' ([]) H := hM
  refine tp_eq (y := (if expl X (-1) (-1) (-1) = true then 1 else 0)) (b01_c (by rw [expl_sh hTl.sh])) ?_
  refine x_kv (va_runV (b := (ad 0)) (As := [.int 0, .int (-9), .int (if expl X (-1) (-1) (-1) = true then 1 else 0)]) (rest := []) C0 (xx_finds l D dA ad T' ([]) _ 0 (-9) (if expl X (-1) (-1) (-1) = true then 1 else 0) b01_or) (cwV 3 C0.2.2.2.2 (lw_V q593 q595 qs15 q39 q596) rfl rfl rfl hdx_X0_finds ⟨(Nat.le_of_ble_eq_true rfl), (Nat.le_of_ble_eq_true rfl)⟩) (x_preV hG hM hS 0 (xw_0 dA ad _ _) rfl rfl) rfl rfl hl.1 rfl (lv_room (Nat.le_of_ble_eq_true rfl)) dX0_looks_32 ⟨(Nat.le_of_ble_eq_true rfl), (Nat.le_of_ble_eq_true rfl)⟩) hG hM hS (fun u H locs hr hM hS => ?_)
  subst hr
  have hM : XF D A dA ad (findF T' 0 (-9) (((if expl X (-1) (-1) (-1) = true then 1 else 0) : Int32) = 1)) ([]) H := hM
  have hst := (look_s (k := 0) (w := -9) (P := expl X (-1) (-1) (-1) = true) (c := expl X (-1) (-1) (-1) = true) hT' e27 Iff.rfl).trans (look_0 X)
  have hTl := (hTl.tr hT').find 0 (-9) ((if expl X (-1) (-1) (-1) = true then (1 : Int32) else 0) = 1)
  refine jnC 91 25 116 (fun H locs ls => ∃ T, (Tl X T ∧ (T 0 27, T 0 28) = stW X 12) ∧ XF D A dA ad T [] H ∧ va_S A s.heap H locs ∧ lv_has ls 2 [(0, .ref (ad 0))]) ?_ (fun J91 => ?_)
  · intro H locs ls ⟨T, hP, hM, hS, hl⟩
    obtain ⟨hTl, hst⟩ := hP
    have hXT := hTl.ok hX
    have hcT : areCutN T (pg T) = true := by rw [areCut_sh hTl.sh, show pg T = pg X by unfold pg; rw [hTl.sh.at0 6 rfl]]; exact hcut
    refine jnC 140 49 224 (fun H locs ls => ∃ T, (Tl X T ∧ (T 0 27, T 0 28) = stL X (pg X)) ∧ XF D A dA ad T [] H ∧ va_S A s.heap H locs ∧ lv_has ls 2 [(0, .ref (ad 0))]) ?_ (fun J140 => ?_)
    · intro H locs ls ⟨T, hP, hM, hS, hl⟩
      obtain ⟨hTl, hst⟩ := hP
      have hXT := hTl.ok hX
      have hcT : areCutN T (pg T) = true := by rw [areCut_sh hTl.sh, show pg T = pg X by unfold pg; rw [hTl.sh.at0 6 rfl]]; exact hcut
      refine jnC 186 53 242 (fun H locs ls => ∃ T, (Tl X T ∧ (T 0 27, T 0 28) = stB X 2) ∧ XF D A dA ad T [] H ∧ va_S A s.heap H locs ∧ lv_has ls 2 [(0, .ref (ad 0))]) ?_ (fun J186 => ?_)
      · intro H locs ls ⟨T, hP, hM, hS, hl⟩
        obtain ⟨hTl, hst⟩ := hP
        exact x_vretS C0 hr hlk hM hS ⟨T, rfl, hTl, hst.trans (found_st hp12).symm⟩ dX0_looks_186 (Nat.le_of_ble_eq_true rfl) (Nat.le_of_ble_eq_true rfl)
      · refine lv_iconst (v := 0) C0.1 C0.2.1 dX0_looks_140 (by decide) ?_
        refine lv_istore_n (lv' := [(1, .int 0), (0, .ref (ad 0))]) C0.1 C0.2.1 dX0_looks_141 rfl hl (by decide) rfl (fun ls hl => ?_)
        refine W_loopC 2 (fun i => 49 + 2 * i) (fun i => 224 + 9 * i) (fun i H locs ls => ∃ T, (Tl X T ∧ (T 0 27, T 0 28) = stB X i) ∧ XF D A dA ad T [] H ∧ va_S A s.heap H locs ∧ lv_has ls 2 [(0, .ref (ad 0)), (1, .int (nI i))]) 142 ?_ 0 _ _ ls (Nat.zero_le _) ⟨_, ⟨hTl, hst⟩, hM, hS, lv_sub hl [1, 0] rfl⟩
        intro i H locs ls hi ⟨T, ⟨hTl, hst⟩, hM, hS, hl⟩ _ KK
        show W p l e _ s m _ below meth cd H locs (49 + 2 * i) (224 + 9 * i) _ _
        have hXT := hTl.ok hX
        have hcT : areCutN T (pg T) = true := by rw [areCut_sh hTl.sh, show pg T = pg X by unfold pg; rw [hTl.sh.at0 6 rfl]]; exact hcut
        have h27 : T 0 27 = (stB X i).1 := congrArg Prod.fst hst
        refine lv_iload_n C0.1 C0.2.1 dX0_looks_142 rfl (lv_at hl 1 rfl) ?_
        refine lv_iconst (v := 2) C0.1 C0.2.1 dX0_looks_143 (by decide) ?_
        refine lv_icmp_ge (tgt := 186) C0.1 C0.2.1 dX0_looks_144 (by decide) (fun c_144 => ?_) (fun c_144 => ?_)
        · have n_144 : 2 ≤ i := (nI_leI (a := 2) (b := i) (by omega) (by omega)).mp c_144
          have hfin : stB X i = stB X 2 := by rw [show i = 2 by omega]
          exact J186 _ _ ls _ _ (by omega) (by omega) ⟨_, ⟨hTl, hst.trans hfin⟩, hM, hS, lv_sub hl [0] rfl⟩
        · have n_144 : ¬ 2 ≤ i := fun z => c_144 ((nI_leI (a := 2) (b := i) (by omega) (by omega)).mpr z)
          refine lv_aload_n C0.1 C0.2.1 dX0_looks_147 rfl (lv_at hl 0 rfl) ?_
          refine x_geti C0 hG hM 21 27 (by decide) rfl rfl q139 dX0_looks_148 ?_
          refine lv_if_ge (tgt := 186) C0.1 C0.2.1 dX0_looks_151 (by decide) (fun c_151 => ?_) (fun c_151 => ?_)
          · have hfin : stB X i = stB X 2 := stB_to hi (by rw [← h27]; exact Int32.not_lt.mpr c_151)
            exact J186 _ _ ls _ _ (by omega) (by omega) ⟨_, ⟨hTl, hst.trans hfin⟩, hM, hS, lv_sub hl [0] rfl⟩
          · refine lv_aload_n C0.1 C0.2.1 dX0_looks_154 rfl (lv_at hl 0 rfl) ?_
            refine lv_iconst (v := 3) C0.1 C0.2.1 dX0_looks_155 (by decide) ?_
            refine lv_iload_n C0.1 C0.2.1 dX0_looks_156 rfl (lv_at hl 1 rfl) ?_
            refine lv_aload_n C0.1 C0.2.1 dX0_looks_157 rfl (lv_at hl 0 rfl) ?_
            refine lv_aload_n C0.1 C0.2.1 dX0_looks_158 rfl (lv_at hl 0 rfl) ?_
            refine x_geta C0 hG hM 6 4 (by decide) rfl rfl q124 dX0_looks_159 ?_
            refine lv_aload_n C0.1 C0.2.1 dX0_looks_162 rfl (lv_at hl 0 rfl) ?_
            refine x_geta C0 hG hM 6 4 (by decide) rfl rfl q124 dX0_looks_163 ?_
            refine x_newC (ci := 10) C0 hG hM hS [.int 0] rfl in_X10 tyX10 tyX10_ok q553 q554 q54 (by decide) (by show _ ≤ 60; omega) (by show _ ≤ 600; omega) dX0_looks_166 (fun q166 H hM hS => ?_)
            refine lv_dup C0.1 C0.2.1 dX0_looks_169 rfl ?_
            refine lv_iload_n C0.1 C0.2.1 dX0_looks_170 rfl (lv_at hl 1 rfl) ?_
            refine x_kv (va_runI (b := q166) (As := [.int (nI i)]) (rest := [.ref q166, .ref (ad 4), .ref (ad 4), .ref (ad 0), .int (nI i), .int 3, .ref (ad 0)]) C0 (x10_init l D dA ad T ([]) _ q166 (nI i)) (cwI 1 C0.2.2.2.2 (lw_meth q557) rfl rfl rfl (C0.2.2.2.2 _ q54) (C0.2.2.2.2 _ q555) (C0.2.2.2.2 _ q556) rfl hdx_X10_init ⟨(Nat.le_of_ble_eq_true rfl), (Nat.le_of_ble_eq_true rfl)⟩) (x_preS hG hM hS) rfl rfl hl.1 rfl (lv_room (Nat.le_of_ble_eq_true rfl)) dX0_looks_171 ⟨(by show _ ≤ 60; omega), (by show _ ≤ 600; omega)⟩) hG hM hS (fun u H locs hr hM hS => ?_)
            subst hr
            have hM : XF D A dA ad T ([(q166, .inr (10, [.int (nI i)]))]) H := hM
            refine x_ki (va_runV (b := (ad 0)) (As := [.ref (ad 4), .ref (ad 4), .ref q166]) (rest := [.int (nI i), .int 3, .ref (ad 0)]) C0 (xx_explains l D dA ad T ([(q166, .inr (10, [.int (nI i)]))]) _ (ad 4) (ad 4) q166 (-1) (-1) (nI i) hXT hcT PW.fine PW.fine (PW.fst (nI_pos (by omega)))) (cwV 3 C0.2.2.2.2 (lw_V q579 q581 qs14 q39 q582) rfl rfl rfl hdx_X0_explains ⟨(Nat.le_of_ble_eq_true rfl), (Nat.le_of_ble_eq_true rfl)⟩) (x_preV hG hM hS 0 (xw_0 dA ad _ _) rfl rfl) rfl rfl hl.1 rfl (lv_room (Nat.le_of_ble_eq_true rfl)) dX0_looks_174 ⟨(by show _ ≤ 60; omega), (by show _ ≤ 600; omega)⟩) hG hM hS (fun r u H locs hr hM hS => ?_)
            obtain ⟨rfl, T', rfl, hT'⟩ := hr
            have hM : XF D A dA ad T' ([(q166, .inr (10, [.int (nI i)]))]) H := hM
            refine tp_eq (y := (if expl X (-1) (-1) (nI i) = true then 1 else 0)) (b01_c (by rw [expl_sh hTl.sh])) ?_
            have hM := hM.tail
            have hM : XF D A dA ad T' ([]) H := hM
            refine x_kv (va_runV (b := (ad 0)) (As := [.int 3, .int (nI i), .int (if expl X (-1) (-1) (nI i) = true then 1 else 0)]) (rest := []) C0 (xx_finds l D dA ad T' ([]) _ 3 (nI i) (if expl X (-1) (-1) (nI i) = true then 1 else 0) b01_or) (cwV 3 C0.2.2.2.2 (lw_V q593 q595 qs15 q39 q596) rfl rfl rfl hdx_X0_finds ⟨(Nat.le_of_ble_eq_true rfl), (Nat.le_of_ble_eq_true rfl)⟩) (x_preV hG hM hS 0 (xw_0 dA ad _ _) rfl rfl) rfl rfl hl.1 rfl (lv_room (Nat.le_of_ble_eq_true rfl)) dX0_looks_177 ⟨(by show _ ≤ 60; omega), (by show _ ≤ 600; omega)⟩) hG hM hS (fun u H locs hr hM hS => ?_)
            subst hr
            have hM : XF D A dA ad (findF T' 3 (nI i) (((if expl X (-1) (-1) (nI i) = true then 1 else 0) : Int32) = 1)) ([]) H := hM
            refine lv_iinc (v := nI (i + 1)) (lv' := [(1, .int (nI (i + 1))), (0, .ref (ad 0))]) C0.1 C0.2.1 dX0_looks_180 hl (k := 1) rfl (nI_1 i) (by decide) rfl (fun ls hl => ?_)
            refine lv_goto (tgt := 142) C0.1 C0.2.1 dX0_looks_183 (by decide) ?_
            refine W.widen (k := 49 + 2 * (i + 1)) (n := 224 + 9 * (i + 1)) (by omega) (by omega) ?_
            exact KK _ _ ls (by omega) ⟨_, ⟨(hTl.tr hT').find _ _ _, (look_s (k := 3) (w := nI i) (P := expl X (-1) (-1) (nI i) = true) (c := expl X (-1) (-1) (nI i) = true) hT' hst Iff.rfl)⟩, hM, hS, lv_sub hl [1, 0] rfl⟩
    · refine lv_iconst (v := 0) C0.1 C0.2.1 dX0_looks_91 (by decide) ?_
      refine lv_istore_n (lv' := [(1, .int 0), (0, .ref (ad 0))]) C0.1 C0.2.1 dX0_looks_92 rfl hl (by decide) rfl (fun ls hl => ?_)
      refine W_loopC (pg X) (fun i => 25 + 2 * i) (fun i => 116 + 9 * i) (fun i H locs ls => ∃ T, (Tl X T ∧ (T 0 27, T 0 28) = stL X i) ∧ XF D A dA ad T [] H ∧ va_S A s.heap H locs ∧ lv_has ls 2 [(0, .ref (ad 0)), (1, .int (nI i))]) 93 ?_ 0 _ _ ls (Nat.zero_le _) ⟨_, ⟨hTl, hst⟩, hM, hS, lv_sub hl [1, 0] rfl⟩
      intro i H locs ls hi ⟨T, ⟨hTl, hst⟩, hM, hS, hl⟩ _ KK
      show W p l e _ s m _ below meth cd H locs (25 + 2 * i) (116 + 9 * i) _ _
      have hXT := hTl.ok hX
      have hcT : areCutN T (pg T) = true := by rw [areCut_sh hTl.sh, show pg T = pg X by unfold pg; rw [hTl.sh.at0 6 rfl]]; exact hcut
      have h27 : T 0 27 = (stL X i).1 := congrArg Prod.fst hst
      refine lv_iload_n C0.1 C0.2.1 dX0_looks_93 rfl (lv_at hl 1 rfl) ?_
      refine lv_aload_n C0.1 C0.2.1 dX0_looks_94 rfl (lv_at hl 0 rfl) ?_
      refine x_geti C0 hG hM 4 6 (by decide) rfl rfl q120 dX0_looks_95 ?_
      refine tp_eq (y := nI (pg X)) ((hTl.sh.at0 6 rfl).trans hO.pgE) ?_
      refine lv_icmp_ge (tgt := 140) C0.1 C0.2.1 dX0_looks_98 (by decide) (fun c_98 => ?_) (fun c_98 => ?_)
      · have n_98 : pg X ≤ i := (nI_leI (a := pg X) (b := i) (by omega) (by omega)).mp c_98
        have hfin : stL X i = stL X (pg X) := by rw [show i = pg X by omega]
        exact J140 _ _ ls _ _ (by omega) (by omega) ⟨_, ⟨hTl, hst.trans hfin⟩, hM, hS, lv_sub hl [0] rfl⟩
      · have n_98 : ¬ pg X ≤ i := fun z => c_98 ((nI_leI (a := pg X) (b := i) (by omega) (by omega)).mpr z)
        refine lv_aload_n C0.1 C0.2.1 dX0_looks_101 rfl (lv_at hl 0 rfl) ?_
        refine x_geti C0 hG hM 21 27 (by decide) rfl rfl q139 dX0_looks_102 ?_
        refine lv_if_ge (tgt := 140) C0.1 C0.2.1 dX0_looks_105 (by decide) (fun c_105 => ?_) (fun c_105 => ?_)
        · have hfin : stL X i = stL X (pg X) := stL_to hi (by rw [← h27]; exact Int32.not_lt.mpr c_105)
          exact J140 _ _ ls _ _ (by omega) (by omega) ⟨_, ⟨hTl, hst.trans hfin⟩, hM, hS, lv_sub hl [0] rfl⟩
        · refine lv_aload_n C0.1 C0.2.1 dX0_looks_108 rfl (lv_at hl 0 rfl) ?_
          refine lv_iconst (v := 2) C0.1 C0.2.1 dX0_looks_109 (by decide) ?_
          refine lv_iload_n C0.1 C0.2.1 dX0_looks_110 rfl (lv_at hl 1 rfl) ?_
          refine lv_aload_n C0.1 C0.2.1 dX0_looks_111 rfl (lv_at hl 0 rfl) ?_
          refine lv_aload_n C0.1 C0.2.1 dX0_looks_112 rfl (lv_at hl 0 rfl) ?_
          refine x_geta C0 hG hM 6 4 (by decide) rfl rfl q124 dX0_looks_113 ?_
          refine x_newC (ci := 9) C0 hG hM hS [.int 0] rfl in_X9 tyX9 tyX9_ok q544 q545 q53 (by decide) (by show _ ≤ 60; omega) (by show _ ≤ 600; omega) dX0_looks_116 (fun q116 H hM hS => ?_)
          refine lv_dup C0.1 C0.2.1 dX0_looks_119 rfl ?_
          refine lv_iload_n C0.1 C0.2.1 dX0_looks_120 rfl (lv_at hl 1 rfl) ?_
          refine x_kv (va_runI (b := q116) (As := [.int (nI i)]) (rest := [.ref q116, .ref (ad 4), .ref (ad 0), .int (nI i), .int 2, .ref (ad 0)]) C0 (x9_init l D dA ad T ([]) _ q116 (nI i)) (cwI 1 C0.2.2.2.2 (lw_meth q548) rfl rfl rfl (C0.2.2.2.2 _ q53) (C0.2.2.2.2 _ q546) (C0.2.2.2.2 _ q547) rfl hdx_X9_init ⟨(Nat.le_of_ble_eq_true rfl), (Nat.le_of_ble_eq_true rfl)⟩) (x_preS hG hM hS) rfl rfl hl.1 rfl (lv_room (Nat.le_of_ble_eq_true rfl)) dX0_looks_121 ⟨(by show _ ≤ 60; omega), (by show _ ≤ 600; omega)⟩) hG hM hS (fun u H locs hr hM hS => ?_)
          subst hr
          have hM : XF D A dA ad T ([(q116, .inr (9, [.int (nI i)]))]) H := hM
          refine lv_aload_n C0.1 C0.2.1 dX0_looks_124 rfl (lv_at hl 0 rfl) ?_
          refine x_geta C0 hG hM 6 4 (by decide) rfl rfl q124 dX0_looks_125 ?_
          refine x_ki (va_runV (b := (ad 0)) (As := [.ref (ad 4), .ref q116, .ref (ad 4)]) (rest := [.int (nI i), .int 2, .ref (ad 0)]) C0 (xx_explains l D dA ad T ([(q116, .inr (9, [.int (nI i)]))]) _ (ad 4) q116 (ad 4) (-1) (nI i) (-1) hXT hcT PW.fine (PW.fst (nI_pos (by omega))) PW.fine) (cwV 3 C0.2.2.2.2 (lw_V q579 q581 qs14 q39 q582) rfl rfl rfl hdx_X0_explains ⟨(Nat.le_of_ble_eq_true rfl), (Nat.le_of_ble_eq_true rfl)⟩) (x_preV hG hM hS 0 (xw_0 dA ad _ _) rfl rfl) rfl rfl hl.1 rfl (lv_room (Nat.le_of_ble_eq_true rfl)) dX0_looks_128 ⟨(by show _ ≤ 60; omega), (by show _ ≤ 600; omega)⟩) hG hM hS (fun r u H locs hr hM hS => ?_)
          obtain ⟨rfl, T', rfl, hT'⟩ := hr
          have hM : XF D A dA ad T' ([(q116, .inr (9, [.int (nI i)]))]) H := hM
          refine tp_eq (y := (if expl X (-1) (nI i) (-1) = true then 1 else 0)) (b01_c (by rw [expl_sh hTl.sh])) ?_
          have hM := hM.tail
          have hM : XF D A dA ad T' ([]) H := hM
          refine x_kv (va_runV (b := (ad 0)) (As := [.int 2, .int (nI i), .int (if expl X (-1) (nI i) (-1) = true then 1 else 0)]) (rest := []) C0 (xx_finds l D dA ad T' ([]) _ 2 (nI i) (if expl X (-1) (nI i) (-1) = true then 1 else 0) b01_or) (cwV 3 C0.2.2.2.2 (lw_V q593 q595 qs15 q39 q596) rfl rfl rfl hdx_X0_finds ⟨(Nat.le_of_ble_eq_true rfl), (Nat.le_of_ble_eq_true rfl)⟩) (x_preV hG hM hS 0 (xw_0 dA ad _ _) rfl rfl) rfl rfl hl.1 rfl (lv_room (Nat.le_of_ble_eq_true rfl)) dX0_looks_131 ⟨(by show _ ≤ 60; omega), (by show _ ≤ 600; omega)⟩) hG hM hS (fun u H locs hr hM hS => ?_)
          subst hr
          have hM : XF D A dA ad (findF T' 2 (nI i) (((if expl X (-1) (nI i) (-1) = true then 1 else 0) : Int32) = 1)) ([]) H := hM
          refine lv_iinc (v := nI (i + 1)) (lv' := [(1, .int (nI (i + 1))), (0, .ref (ad 0))]) C0.1 C0.2.1 dX0_looks_134 hl (k := 1) rfl (nI_1 i) (by decide) rfl (fun ls hl => ?_)
          refine lv_goto (tgt := 93) C0.1 C0.2.1 dX0_looks_137 (by decide) ?_
          refine W.widen (k := 25 + 2 * (i + 1)) (n := 116 + 9 * (i + 1)) (by omega) (by omega) ?_
          exact KK _ _ ls (by omega) ⟨_, ⟨(hTl.tr hT').find _ _ _, (look_s (k := 2) (w := nI i) (P := expl X (-1) (nI i) (-1) = true) (c := expl X (-1) (nI i) (-1) = true) hT' hst Iff.rfl)⟩, hM, hS, lv_sub hl [1, 0] rfl⟩
  · refine lv_iconst (v := 0) C0.1 C0.2.1 dX0_looks_35 (by decide) ?_
    refine lv_istore_n (lv' := [(1, .int 0), (0, .ref (ad 0))]) C0.1 C0.2.1 dX0_looks_36 rfl hl (by decide) rfl (fun ls hl => ?_)
    refine W_loopC 12 (fun i => 1 + 2 * i) (fun i => 8 + 9 * i) (fun i H locs ls => ∃ T, (Tl X T ∧ (T 0 27, T 0 28) = stW X i) ∧ XF D A dA ad T [] H ∧ va_S A s.heap H locs ∧ lv_has ls 2 [(0, .ref (ad 0)), (1, .int (nI i))]) 37 ?_ 0 _ _ ls (Nat.zero_le _) ⟨_, ⟨hTl, hst⟩, hM, hS, lv_sub hl [1, 0] rfl⟩
    intro i H locs ls hi ⟨T, ⟨hTl, hst⟩, hM, hS, hl⟩ _ KK
    show W p l e _ s m _ below meth cd H locs (1 + 2 * i) (8 + 9 * i) _ _
    have hXT := hTl.ok hX
    have hcT : areCutN T (pg T) = true := by rw [areCut_sh hTl.sh, show pg T = pg X by unfold pg; rw [hTl.sh.at0 6 rfl]]; exact hcut
    have h27 : T 0 27 = (stW X i).1 := congrArg Prod.fst hst
    refine lv_iload_n C0.1 C0.2.1 dX0_looks_37 rfl (lv_at hl 1 rfl) ?_
    refine lv_bipush (v := 12) C0.1 C0.2.1 dX0_looks_38 (by decide) ?_
    refine lv_icmp_ge (tgt := 91) C0.1 C0.2.1 dX0_looks_40 (by decide) (fun c_40 => ?_) (fun c_40 => ?_)
    · have n_40 : 12 ≤ i := (nI_leI (a := 12) (b := i) (by omega) (by omega)).mp c_40
      have hfin : stW X i = stW X 12 := by rw [show i = 12 by omega]
      exact J91 _ _ ls _ _ (by omega) (by omega) ⟨_, ⟨hTl, hst.trans hfin⟩, hM, hS, lv_sub hl [0] rfl⟩
    · have n_40 : ¬ 12 ≤ i := fun z => c_40 ((nI_leI (a := 12) (b := i) (by omega) (by omega)).mpr z)
      refine lv_aload_n C0.1 C0.2.1 dX0_looks_43 rfl (lv_at hl 0 rfl) ?_
      refine x_geti C0 hG hM 21 27 (by decide) rfl rfl q139 dX0_looks_44 ?_
      refine lv_if_ge (tgt := 91) C0.1 C0.2.1 dX0_looks_47 (by decide) (fun c_47 => ?_) (fun c_47 => ?_)
      · have hfin : stW X i = stW X 12 := stW_to hi (by rw [← h27]; exact Int32.not_lt.mpr c_47)
        exact J91 _ _ ls _ _ (by omega) (by omega) ⟨_, ⟨hTl, hst.trans hfin⟩, hM, hS, lv_sub hl [0] rfl⟩
      · refine lv_aload_n C0.1 C0.2.1 dX0_looks_50 rfl (lv_at hl 0 rfl) ?_
        refine x_geta C0 hG hM 0 1 (by decide) rfl rfl q112 dX0_looks_51 ?_
        refine lv_iload_n C0.1 C0.2.1 dX0_looks_54 rfl (lv_at hl 1 rfl) ?_
        by_cases hc_55 : T 1 i = 0
        · refine x_camN C0 hG hM i hc_55 rfl (by omega) dX0_looks_55 ?_
          refine lv_ifnullN (tgt := 85) C0.1 C0.2.1 dX0_looks_56 (by decide) ?_
          refine lv_iinc (v := nI (i + 1)) (lv' := [(1, .int (nI (i + 1))), (0, .ref (ad 0))]) C0.1 C0.2.1 dX0_looks_85 hl (k := 1) rfl (nI_1 i) (by decide) rfl (fun ls hl => ?_)
          refine lv_goto (tgt := 37) C0.1 C0.2.1 dX0_looks_88 (by decide) ?_
          refine W.widen (k := 1 + 2 * (i + 1)) (n := 8 + 9 * (i + 1)) (by omega) (by omega) ?_
          exact KK _ _ ls (by omega) ⟨_, ⟨hTl, hst.trans (if_neg (fun z => z.2.1 (by rw [← hTl.k 1 rfl]; exact hc_55))).symm⟩, hM, hS, lv_sub hl [1, 0] rfl⟩
        · refine x_camS C0 hG hM i hc_55 rfl (by omega) dX0_looks_55 ?_
          refine lv_ifnull C0.1 C0.2.1 dX0_looks_56 ?_
          refine lv_aload_n C0.1 C0.2.1 dX0_looks_59 rfl (lv_at hl 0 rfl) ?_
          refine lv_iconst (v := 1) C0.1 C0.2.1 dX0_looks_60 (by decide) ?_
          refine lv_iload_n C0.1 C0.2.1 dX0_looks_61 rfl (lv_at hl 1 rfl) ?_
          refine lv_aload_n C0.1 C0.2.1 dX0_looks_62 rfl (lv_at hl 0 rfl) ?_
          refine x_newC (ci := 8) C0 hG hM hS [.int 0] rfl in_X8 tyX8 tyX8_ok q535 q536 q52 (by decide) (by show _ ≤ 60; omega) (by show _ ≤ 600; omega) dX0_looks_63 (fun q63 H hM hS => ?_)
          refine lv_dup C0.1 C0.2.1 dX0_looks_66 rfl ?_
          refine lv_iload_n C0.1 C0.2.1 dX0_looks_67 rfl (lv_at hl 1 rfl) ?_
          refine x_kv (va_runI (b := q63) (As := [.int (nI i)]) (rest := [.ref q63, .ref (ad 0), .int (nI i), .int 1, .ref (ad 0)]) C0 (x8_init l D dA ad T ([]) _ q63 (nI i)) (cwI 1 C0.2.2.2.2 (lw_meth q539) rfl rfl rfl (C0.2.2.2.2 _ q52) (C0.2.2.2.2 _ q537) (C0.2.2.2.2 _ q538) rfl hdx_X8_init ⟨(Nat.le_of_ble_eq_true rfl), (Nat.le_of_ble_eq_true rfl)⟩) (x_preS hG hM hS) rfl rfl hl.1 rfl (lv_room (Nat.le_of_ble_eq_true rfl)) dX0_looks_68 ⟨(by show _ ≤ 60; omega), (by show _ ≤ 600; omega)⟩) hG hM hS (fun u H locs hr hM hS => ?_)
          subst hr
          have hM : XF D A dA ad T ([(q63, .inr (8, [.int (nI i)]))]) H := hM
          refine lv_aload_n C0.1 C0.2.1 dX0_looks_71 rfl (lv_at hl 0 rfl) ?_
          refine x_geta C0 hG hM 6 4 (by decide) rfl rfl q124 dX0_looks_72 ?_
          refine lv_aload_n C0.1 C0.2.1 dX0_looks_75 rfl (lv_at hl 0 rfl) ?_
          refine x_geta C0 hG hM 6 4 (by decide) rfl rfl q124 dX0_looks_76 ?_
          refine x_ki (va_runV (b := (ad 0)) (As := [.ref q63, .ref (ad 4), .ref (ad 4)]) (rest := [.int (nI i), .int 1, .ref (ad 0)]) C0 (xx_explains l D dA ad T ([(q63, .inr (8, [.int (nI i)]))]) _ q63 (ad 4) (ad 4) (nI i) (-1) (-1) hXT hcT (PW.fst (nI_pos (by omega))) PW.fine PW.fine) (cwV 3 C0.2.2.2.2 (lw_V q579 q581 qs14 q39 q582) rfl rfl rfl hdx_X0_explains ⟨(Nat.le_of_ble_eq_true rfl), (Nat.le_of_ble_eq_true rfl)⟩) (x_preV hG hM hS 0 (xw_0 dA ad _ _) rfl rfl) rfl rfl hl.1 rfl (lv_room (Nat.le_of_ble_eq_true rfl)) dX0_looks_79 ⟨(by show _ ≤ 60; omega), (by show _ ≤ 600; omega)⟩) hG hM hS (fun r u H locs hr hM hS => ?_)
          obtain ⟨rfl, T', rfl, hT'⟩ := hr
          have hM : XF D A dA ad T' ([(q63, .inr (8, [.int (nI i)]))]) H := hM
          refine tp_eq (y := (if expl X (nI i) (-1) (-1) = true then 1 else 0)) (b01_c (by rw [expl_sh hTl.sh])) ?_
          have hM := hM.tail
          have hM : XF D A dA ad T' ([]) H := hM
          refine x_kv (va_runV (b := (ad 0)) (As := [.int 1, .int (nI i), .int (if expl X (nI i) (-1) (-1) = true then 1 else 0)]) (rest := []) C0 (xx_finds l D dA ad T' ([]) _ 1 (nI i) (if expl X (nI i) (-1) (-1) = true then 1 else 0) b01_or) (cwV 3 C0.2.2.2.2 (lw_V q593 q595 qs15 q39 q596) rfl rfl rfl hdx_X0_finds ⟨(Nat.le_of_ble_eq_true rfl), (Nat.le_of_ble_eq_true rfl)⟩) (x_preV hG hM hS 0 (xw_0 dA ad _ _) rfl rfl) rfl rfl hl.1 rfl (lv_room (Nat.le_of_ble_eq_true rfl)) dX0_looks_82 ⟨(by show _ ≤ 60; omega), (by show _ ≤ 600; omega)⟩) hG hM hS (fun u H locs hr hM hS => ?_)
          subst hr
          have hM : XF D A dA ad (findF T' 1 (nI i) (((if expl X (nI i) (-1) (-1) = true then 1 else 0) : Int32) = 1)) ([]) H := hM
          refine lv_iinc (v := nI (i + 1)) (lv' := [(1, .int (nI (i + 1))), (0, .ref (ad 0))]) C0.1 C0.2.1 dX0_looks_85 hl (k := 1) rfl (nI_1 i) (by decide) rfl (fun ls hl => ?_)
          refine lv_goto (tgt := 37) C0.1 C0.2.1 dX0_looks_88 (by decide) ?_
          refine W.widen (k := 1 + 2 * (i + 1)) (n := 8 + 9 * (i + 1)) (by omega) (by omega) ?_
          exact KK _ _ ls (by omega) ⟨_, ⟨(hTl.tr hT').find _ _ _, (look_s (k := 1) (w := nI i) (P := expl X (nI i) (-1) (-1) = true) (c := X 1 i ≠ 0 ∧ expl X (nI i) (-1) (-1) = true) hT' hst ⟨fun z => ⟨by rw [← hTl.k 1 rfl]; exact hc_55, z⟩, fun z => z.2⟩)⟩, hM, hS, lv_sub hl [1, 0] rfl⟩
theorem hdx_X0_explained : yX0_explained.cls = RX0 ∧ yX0_explained.cls ≠ "java/lang/invoke/MethodHandle" ∧ yX0_explained.cls ≠ "java/lang/invoke/VarHandle" ∧ (parseMethodDescriptor yX0_explained.desc).map (fun d => d.parameters.length) = some 1 := by decide +kernel
set_option maxHeartbeats 4000000 in
theorem xx_explained (l : Launch) (D : va_G) (dA : Nat → ClassId) (ad : Nat → Nat) (X : St) (L : Ex) (sz : Nat) (p0 : Int32) (hX : XOk X) : xCi l yX0_explained cX0_explained 2 (some .int) { frames := 7, cells := 100, slots := 1000, locals := 158 } D dA ad X ([]) sz [.ref (ad 0), .int p0] 100 1000 (fun r u => PX (sp_explained X p0) ad r u) := by
  refine x_hI (by decide) (Nat.le_of_ble_eq_true rfl) ?_
  intro A p e s m below meth cd ls C0 hr hlk hnm hG hM hS hl
  have hl : lv_has ls 2 [(0, .ref (ad 0)), (1, .int p0)] := hl
  have hO := hX.ok
  have hl2 := hO.len2
  have hl16 := hO.len16
  have hr16 := rl16 hX
  have hrl := hX.rl
  have hp12 := hO.pg12
  refine lv_iload_n C0.1 C0.2.1 dX0_explained_0 rfl (lv_at hl 1 rfl) ?_
  refine lv_iconst (v := 2) C0.1 C0.2.1 dX0_explained_1 (by decide) ?_
  refine st_call C0 (xx_isIn l p0 2) 2 (lw_S q207 q208 q39 q209) rfl rfl hdx_X0_isIn ⟨(Nat.le_of_ble_eq_true rfl), (Nat.le_of_ble_eq_true rfl)⟩ rfl hl.1 rfl (Nat.le_of_ble_eq_true rfl) dX0_explained_2 ⟨(Nat.le_of_ble_eq_true rfl), (Nat.le_of_ble_eq_true rfl)⟩ (fun r hr => ?_)
  subst hr
  refine tp_eq (y := (if (inR p0 2).isSome = true then 1 else 0)) (b01_c (inR_lt (n := 2) (by decide))) ?_
  refine lv_if_ne (tgt := 15) C0.1 C0.2.1 dX0_explained_5 (by decide) (fun c_5 => ?_) (fun c_5 => ?_)
  · have c_5 : (inR p0 2).isSome = true := b01_1.mp c_5
    obtain ⟨d, hd, bd, rfl⟩ := inR_get c_5 (by decide)
    refine lv_aload_n C0.1 C0.2.1 dX0_explained_15 rfl (lv_at hl 0 rfl) ?_
    refine fw_cp (va_runV (b := (ad 0)) (As := []) (rest := []) C0 (xx_areCut l D dA ad X ([]) _  hO) (cwV 0 C0.2.2.2.2 (lw_V q392 q394 qs7 q39 q395) rfl rfl rfl hdx_X0_areCut ⟨(Nat.le_of_ble_eq_true rfl), (Nat.le_of_ble_eq_true rfl)⟩) (x_preV hG hM hS 0 (xw_0 dA ad _ _) rfl rfl) rfl rfl hl.1 rfl (lv_room (Nat.le_of_ble_eq_true rfl)) dX0_explained_16 ⟨(Nat.le_of_ble_eq_true rfl), (Nat.le_of_ble_eq_true rfl)⟩) (fun r hr => ?_)
    subst hr
    refine lv_if_ne (tgt := 29) C0.1 C0.2.1 dX0_explained_19 (by decide) (fun c_19 => ?_) (fun c_19 => ?_)
    · have c_19 : areCutN X (pg X) = true := b01_1.mp c_19
      refine lv_aload_n C0.1 C0.2.1 dX0_explained_29 rfl (lv_at hl 0 rfl) ?_
      refine x_kv (va_runV (b := (ad 0)) (As := []) (rest := []) C0 (xx_looks l D dA ad X ([]) _  hX c_19) (cwV 0 C0.2.2.2.2 (lw_V q575 q577 qs13 q39 q578) rfl rfl rfl hdx_X0_looks ⟨(Nat.le_of_ble_eq_true rfl), (Nat.le_of_ble_eq_true rfl)⟩) (x_preV hG hM hS 0 (xw_0 dA ad _ _) rfl rfl) rfl rfl hl.1 rfl (lv_room (Nat.le_of_ble_eq_true rfl)) dX0_explained_30 ⟨(Nat.le_of_ble_eq_true rfl), (Nat.le_of_ble_eq_true rfl)⟩) hG hM hS (fun u H locs hr hM hS => ?_)
      obtain ⟨T, rfl, hTl, hfd⟩ := hr
      have hM : XF D A dA ad T ([]) H := hM
      refine lv_iload_n C0.1 C0.2.1 dX0_explained_33 rfl (lv_at hl 1 rfl) ?_
      refine lv_if_ne (tgt := 44) C0.1 C0.2.1 dX0_explained_34 (by decide) (fun c_34 => ?_) (fun c_34 => ?_)
      · have n_34 : ¬ d = 0 := fun z => c_34 ((nI_eq (a := d) (b := 0) (by omega) (by omega)).mpr z)
        refine lv_aload_n C0.1 C0.2.1 dX0_explained_44 rfl (lv_at hl 0 rfl) ?_
        refine x_geti C0 hG hM 22 28 (by decide) rfl rfl q140 dX0_explained_45 ?_
        refine tp_eq (y := (found X).2) (congrArg Prod.snd hfd) ?_
        exact x_iretS C0 hr hlk hM hS ⟨PB.sh (by unfold sp_explained; rw [hd]; (try dsimp only); rw [if_pos c_19, if_neg n_34]) hTl.sh, (hTl.xs hX.xs), rfl, rfl⟩ dX0_explained_48 (Nat.le_of_ble_eq_true rfl) (Nat.le_of_ble_eq_true rfl)
      · have n_34 : d = 0 := (nI_eq (a := d) (b := 0) (by omega) (by omega)).mp c_34
        refine lv_aload_n C0.1 C0.2.1 dX0_explained_37 rfl (lv_at hl 0 rfl) ?_
        refine x_geti C0 hG hM 21 27 (by decide) rfl rfl q139 dX0_explained_38 ?_
        refine tp_eq (y := (found X).1) (congrArg Prod.fst hfd) ?_
        refine lv_goto (tgt := 48) C0.1 C0.2.1 dX0_explained_41 (by decide) ?_
        exact x_iretS C0 hr hlk hM hS ⟨PB.sh (by unfold sp_explained; rw [hd]; (try dsimp only); rw [if_pos c_19, if_pos n_34]) hTl.sh, (hTl.xs hX.xs), rfl, rfl⟩ dX0_explained_48 (Nat.le_of_ble_eq_true rfl) (Nat.le_of_ble_eq_true rfl)
    · have c_19 : ¬ (areCutN X (pg X) = true) := b01_0.mp c_19
      refine lv_aload_n C0.1 C0.2.1 dX0_explained_22 rfl (lv_at hl 0 rfl) ?_
      refine lv_bipush (v := (-3)) C0.1 C0.2.1 dX0_explained_23 (by decide) ?_
      refine x_ki (va_runV (b := (ad 0)) (As := [.int (-3)]) (rest := []) C0 (xx_refuse l D dA ad X ([]) _ 3 (by omega)) (cwV 1 C0.2.2.2.2 (lw_V q195 q197 qs0 q39 q198) rfl rfl rfl hdx_X0_refuse ⟨(Nat.le_of_ble_eq_true rfl), (Nat.le_of_ble_eq_true rfl)⟩) (x_preV hG hM hS 0 (xw_0 dA ad _ _) rfl rfl) rfl rfl hl.1 rfl (lv_room (Nat.le_of_ble_eq_true rfl)) dX0_explained_25 ⟨(Nat.le_of_ble_eq_true rfl), (Nat.le_of_ble_eq_true rfl)⟩) hG hM hS (fun r u H locs hr hM hS => ?_)
      obtain ⟨rfl, rfl⟩ := hr
      have hM : XF D A dA ad (refS X 3) ([]) H := hM
      exact x_iretS C0 hr hlk hM hS ⟨PB.of (by unfold sp_explained; rw [hd]; (try dsimp only); rw [if_neg c_19]; rfl), (XS.up hX.xs 22 _ _ rfl), rfl, rfl⟩ dX0_explained_28 (Nat.le_of_ble_eq_true rfl) (Nat.le_of_ble_eq_true rfl)
  · have c_5 : ¬ ((inR p0 2).isSome = true) := b01_0.mp c_5
    refine lv_aload_n C0.1 C0.2.1 dX0_explained_8 rfl (lv_at hl 0 rfl) ?_
    refine lv_bipush (v := (-2)) C0.1 C0.2.1 dX0_explained_9 (by decide) ?_
    refine x_ki (va_runV (b := (ad 0)) (As := [.int (-2)]) (rest := []) C0 (xx_refuse l D dA ad X ([]) _ 2 (by omega)) (cwV 1 C0.2.2.2.2 (lw_V q195 q197 qs0 q39 q198) rfl rfl rfl hdx_X0_refuse ⟨(Nat.le_of_ble_eq_true rfl), (Nat.le_of_ble_eq_true rfl)⟩) (x_preV hG hM hS 0 (xw_0 dA ad _ _) rfl rfl) rfl rfl hl.1 rfl (lv_room (Nat.le_of_ble_eq_true rfl)) dX0_explained_11 ⟨(Nat.le_of_ble_eq_true rfl), (Nat.le_of_ble_eq_true rfl)⟩) hG hM hS (fun r u H locs hr hM hS => ?_)
    obtain ⟨rfl, rfl⟩ := hr
    have hM : XF D A dA ad (refS X 2) ([]) H := hM
    exact x_iretS C0 hr hlk hM hS ⟨PB.of (by unfold sp_explained; rw [inR_none c_5]; rfl), (XS.up hX.xs 22 _ _ rfl), rfl, rfl⟩ dX0_explained_14 (Nat.le_of_ble_eq_true rfl) (Nat.le_of_ble_eq_true rfl)
