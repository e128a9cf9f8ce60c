set_option maxRecDepth 100000
set_option linter.unusedVariables false
theorem hdd_show : yX4_show.cls = RX4 ∧ yX4_show.cls ≠ "java/lang/invoke/MethodHandle" ∧ yX4_show.cls ≠ "java/lang/invoke/VarHandle" ∧ (parseMethodDescriptor yX4_show.desc).map (fun d => d.parameters.length) = some 0 := by decide +kernel
set_option maxHeartbeats 4000000 in
theorem mm_show (l : Launch) (D : va_G) (dA : Nat → ClassId) (am : Nat → Nat) (S : St)  (hO : Ok S) : mCi l yX4_show cX4_show 5 (some .int) { frames := 3, cells := 0, slots := 0, locals := 78 } D dA am S [] (fun r S' => PB (sp_show S) r S') := by
  refine m_head (by decide) rfl (Nat.le_of_ble_eq_true rfl) ?_
  intro p e s m below meth cd ls C0 hr hlk hK hM hS hl
  have hl : lv_has ls 5 [(0, .ref (am 0))] := hl
  have hl2 := hO.len2
  have hl16 := hO.len16
  have hp12 := hO.pg12
  refine lv_aload_n C0.1 C0.2.1 dX4_show_0 rfl (lv_at hl 0 rfl) ?_
  refine m_cp C0 hK hM (mm_areCut l D dA am S  hO) 0 (lw_V q827 q829 qs24 q43 q830) rfl rfl hdd_areCut ⟨(Nat.le_of_ble_eq_true rfl), (Nat.le_of_ble_eq_true rfl)⟩ rfl hl.1 rfl (Nat.le_of_ble_eq_true rfl) dX4_show_1 ⟨(Nat.le_of_ble_eq_true rfl), (Nat.le_of_ble_eq_true rfl)⟩ (fun r hr => ?_)
  subst hr
  refine lv_if_ne (tgt := 14) C0.1 C0.2.1 dX4_show_4 (by decide) (fun c_4 => ?_) (fun c_4 => ?_)
  · have c_4 : areCutN S (pg S) = true := b01_1.mp c_4
    refine lv_aload_n C0.1 C0.2.1 dX4_show_14 rfl (lv_at hl 0 rfl) ?_
    refine lv_aload_n C0.1 C0.2.1 dX4_show_15 rfl (lv_at hl 0 rfl) ?_
    refine m_geta C0 hK hM 19 (by decide) rfl q651 dX4_show_16 ?_
    refine lv_iconst (v := 1) C0.1 C0.2.1 dX4_show_19 (by decide) ?_
    refine m_iald C0 hK hM 19 1 rfl rfl (by decide) (show 1 < 4 from (by omega)) (by decide) dX4_show_20 ?_
    refine lv_aload_n C0.1 C0.2.1 dX4_show_21 rfl (lv_at hl 0 rfl) ?_
    refine m_geta C0 hK hM 19 (by decide) rfl q651 dX4_show_22 ?_
    refine lv_iconst (v := 2) C0.1 C0.2.1 dX4_show_25 (by decide) ?_
    refine m_iald C0 hK hM 19 2 rfl rfl (by decide) (show 2 < 4 from (by omega)) (by decide) dX4_show_26 ?_
    refine lv_aload_n C0.1 C0.2.1 dX4_show_27 rfl (lv_at hl 0 rfl) ?_
    refine m_geta C0 hK hM 19 (by decide) rfl q651 dX4_show_28 ?_
    refine lv_iconst (v := 3) C0.1 C0.2.1 dX4_show_31 (by decide) ?_
    refine m_iald C0 hK hM 19 3 rfl rfl (by decide) (show 3 < 4 from (by omega)) (by decide) dX4_show_32 ?_
    refine m_cv C0 hK hM hS (fun _ h => h) (mm_holdFaults l D dA am S (S 19 1) (S 19 2) (S 19 3)) 3 (lw_V q831 q833 qs25 q43 q834) rfl rfl hdd_holdFaults ⟨(Nat.le_of_ble_eq_true rfl), (Nat.le_of_ble_eq_true rfl)⟩ rfl hl.1 rfl (Nat.le_of_ble_eq_true rfl) dX4_show_33 ⟨(Nat.le_of_ble_eq_true rfl), (Nat.le_of_ble_eq_true rfl)⟩ (fun S' H locs hr hM hS => ?_)
    subst hr
    refine lv_aload_n C0.1 C0.2.1 dX4_show_36 rfl (lv_at hl 0 rfl) ?_
    refine m_cv C0 hK hM hS (fun _ h => h) (mm_newMarks l D dA am (hold S (S 19 1) (S 19 2) (S 19 3)) ) 0 (lw_V q835 q837 qs26 q43 q838) rfl rfl hdd_newMarks ⟨(Nat.le_of_ble_eq_true rfl), (Nat.le_of_ble_eq_true rfl)⟩ rfl hl.1 rfl (Nat.le_of_ble_eq_true rfl) dX4_show_37 ⟨(Nat.le_of_ble_eq_true rfl), (Nat.le_of_ble_eq_true rfl)⟩ (fun S' H locs hr hM hS => ?_)
    subst hr
    refine lv_aload_n C0.1 C0.2.1 dX4_show_40 rfl (lv_at hl 0 rfl) ?_
    refine lv_dup C0.1 C0.2.1 dX4_show_41 rfl ?_
    refine m_geti C0 hK hM 15 (by decide) rfl q647 dX4_show_42 ?_
    refine tp_eq (y := S 0 15) (by rw [mk_0, hold_0 _ _ _ _ (by decide) (by decide) (by decide)]) ?_
    refine lv_iconst (v := 1) C0.1 C0.2.1 dX4_show_45 (by decide) ?_
    refine lv_iadd C0.1 C0.2.1 dX4_show_46 ?_
    refine m_put C0 hK hM hS 15 (by decide) rfl q647 rfl rfl dX4_show_47 (fun H locs hM hS => ?_)
    have hM : MP D dA am (shW S (shY S 0)) H := by
      rw [setMk_up0] at hM; exact hM
    refine lv_iconst (v := 0) C0.1 C0.2.1 dX4_show_50 (by decide) ?_
    refine lv_istore_n (lv' := [(1, .int 0), (0, .ref (am 0))]) C0.1 C0.2.1 dX4_show_51 rfl hl (by decide) rfl (fun ls hl => ?_)
    refine lv_iconst (v := 0) C0.1 C0.2.1 dX4_show_52 (by decide) ?_
    refine lv_istore_n (lv' := [(2, .int 0), (1, .int 0), (0, .ref (am 0))]) C0.1 C0.2.1 dX4_show_53 rfl hl (by decide) rfl (fun ls hl => ?_)
    refine lv_iconst (v := 0) C0.1 C0.2.1 dX4_show_54 (by decide) ?_
    refine lv_istore_n (lv' := [(3, .int 0), (2, .int 0), (1, .int 0), (0, .ref (am 0))]) C0.1 C0.2.1 dX4_show_55 rfl hl (by decide) rfl (fun ls hl => ?_)
    refine W_loop (pg S) (fun k H locs ls => MP D dA am (shW S (shY S k)) H ∧ va_S (MA am) s.heap H locs ∧ lv_has ls 5 [(0, .ref (am 0)), (1, .int (nI ((shY S k).2.2.2))), (2, .int (if (shY S k).2.1 = true then 1 else 0)), (3, .int (nI k))]) 56 ?_ ?_ 0 _ _ ls (Nat.zero_le _) ⟨hM, hS, lv_sub hl [3, 2, 1, 0] rfl⟩
    · intro H locs ls ⟨hM, hS, hl⟩
      refine lv_iload_n C0.1 C0.2.1 dX4_show_56 rfl (lv_at hl 3 rfl) ?_
      refine lv_aload_n C0.1 C0.2.1 dX4_show_57 rfl (lv_at hl 0 rfl) ?_
      refine m_geti C0 hK hM 6 (by decide) rfl q638 dX4_show_58 ?_
      refine tp_eq (y := nI (pg S)) (shW_pg hO _) ?_
      refine lv_icmp_ge (tgt := 230) C0.1 C0.2.1 dX4_show_61 (by decide) (fun c_61 => ?_) (fun c_61 => ?_)
      · have n_61 : pg S ≤ pg S := (nI_leI (a := pg S) (b := pg S) (by omega) (by omega)).mp c_61
        refine lv_aload_n C0.1 C0.2.1 dX4_show_230 rfl (lv_at hl 0 rfl) ?_
        refine lv_dup C0.1 C0.2.1 dX4_show_231 rfl ?_
        refine m_geti C0 hK hM 16 (by decide) rfl q648 dX4_show_232 ?_
        refine tp_eq (y := S 0 16) (shW_16 _ _) ?_
        refine jn_i 244 [.int (S 0 16), .ref (am 0)] (fun v => v = (if (shY S (pg S)).2.1 = true then 0 else 1)) (fun v hv => ?_) (fun J => ?_)
        · subst hv
          refine lv_iadd C0.1 C0.2.1 dX4_show_244 ?_
          refine m_put C0 hK hM hS 16 (by decide) rfl q648 rfl rfl dX4_show_245 (fun H locs hM hS => ?_)
          have hM : MP D dA am (shM (up2 (shY S (pg S)).1 0 16 (S 0 16 + (if (shY S (pg S)).2.1 = true then 0 else 1))) (S 19 1) (S 19 2) (S 19 3) (S 0 15 + 1) (shY S (pg S)).2.2.1) H := by
            rw [← shM_up _ _ _ _ _ _ _ rfl]; exact hM
          refine lv_iconst (v := 0) C0.1 C0.2.1 dX4_show_248 (by decide) ?_
          refine lv_istore_n (lv' := [(3, .int 0), (0, .ref (am 0)), (1, .int (nI ((shY S (pg S)).2.2.2))), (2, .int (if (shY S (pg S)).2.1 = true then 1 else 0))]) C0.1 C0.2.1 dX4_show_249 rfl hl (by decide) rfl (fun ls hl => ?_)
          refine W_loop 1200 (fun i H locs ls => MP D dA am (pcF (shM (up2 (shY S (pg S)).1 0 16 (S 0 16 + (if (shY S (pg S)).2.1 = true then 0 else 1))) (S 19 1) (S 19 2) (S 19 3) (S 0 15 + 1) (shY S (pg S)).2.2.1) (shY S (pg S)).2.2.1 i) H ∧ va_S (MA am) s.heap H locs ∧ lv_has ls 5 [(0, .ref (am 0)), (1, .int (nI ((shY S (pg S)).2.2.2))), (3, .int (nI i))]) 250 ?_ ?_ 0 _ _ ls (Nat.zero_le _) ⟨(by rw [pcF_0]; exact hM), hS, lv_sub hl [1, 2, 0] rfl⟩
          · intro H locs ls ⟨hM, hS, hl⟩
            refine lv_iload_n C0.1 C0.2.1 dX4_show_250 rfl (lv_at hl 2 rfl) ?_
            refine lv_sipush (v := 1200) C0.1 C0.2.1 dX4_show_251 (by decide) ?_
            refine lv_icmp_ge (tgt := 287) C0.1 C0.2.1 dX4_show_254 (by decide) (fun c_254 => ?_) (fun c_254 => ?_)
            · have n_254 : 1200 ≤ 1200 := (nI_leI (a := 1200) (b := 1200) (by omega) (by omega)).mp c_254
              refine lv_iload_n C0.1 C0.2.1 dX4_show_287 rfl (lv_at hl 1 rfl) ?_
              have hM : MP D dA am (put (put (shM (up2 (shY S (pg S)).1 0 16 (S 0 16 + (if (shY S (pg S)).2.1 = true then 0 else 1))) (S 19 1) (S 19 2) (S 19 3) (S 0 15 + 1) (shY S (pg S)).2.2.1) 17 (shY S (pg S)).2.2.1.1) 18 (shY S (pg S)).2.2.1.2) H := by
                exact hM.cong (pcF_eq _ _).1 (pcF_eq _ _).2
              exact m_iretS C0 hr hlk hM hS (PB.sh (sp_show_t c_4) (show_fin _ _ _ _ _ _ _)) dX4_show_288
            · have n_254 : ¬ 1200 ≤ 1200 := fun z => c_254 ((nI_leI (a := 1200) (b := 1200) (by omega) (by omega)).mpr z)
              omega
          · intro i H locs ls hi ⟨hM, hS, hl⟩ K250
            refine lv_iload_n C0.1 C0.2.1 dX4_show_250 rfl (lv_at hl 2 rfl) ?_
            refine lv_sipush (v := 1200) C0.1 C0.2.1 dX4_show_251 (by decide) ?_
            refine lv_icmp_ge (tgt := 287) C0.1 C0.2.1 dX4_show_254 (by decide) (fun c_254 => ?_) (fun c_254 => ?_)
            · have n_254 : 1200 ≤ i := (nI_leI (a := 1200) (b := i) (by omega) (by omega)).mp c_254
              omega
            · have n_254 : ¬ 1200 ≤ i := fun z => c_254 ((nI_leI (a := 1200) (b := i) (by omega) (by omega)).mpr z)
              refine lv_aload_n C0.1 C0.2.1 dX4_show_257 rfl (lv_at hl 0 rfl) ?_
              refine m_geta C0 hK hM 17 (by decide) rfl q649 dX4_show_258 ?_
              refine lv_iload_n C0.1 C0.2.1 dX4_show_261 rfl (lv_at hl 2 rfl) ?_
              refine lv_aload_n C0.1 C0.2.1 dX4_show_262 rfl (lv_at hl 0 rfl) ?_
              refine m_geta C0 hK hM 29 (by decide) rfl q661 dX4_show_263 ?_
              refine lv_iload_n C0.1 C0.2.1 dX4_show_266 rfl (lv_at hl 2 rfl) ?_
              refine m_iald C0 hK hM 29 i rfl rfl rfl (show i < 1200 from (by omega)) (by decide) dX4_show_267 ?_
              refine tp_eq (y := (shY S (pg S)).2.2.1.1 i) (by rw [pcF_k _ _ _ (by decide) (by decide)]; exact congrFun (setMk_29 _ _) i) ?_
              refine m_iast C0 hK hM hS 17 i rfl rfl rfl (show i < 1200 from (by omega)) (by decide) dX4_show_268 (fun H locs hM hS => ?_)
              refine lv_aload_n C0.1 C0.2.1 dX4_show_269 rfl (lv_at hl 0 rfl) ?_
              refine m_geta C0 hK hM 18 (by decide) rfl q650 dX4_show_270 ?_
              refine lv_iload_n C0.1 C0.2.1 dX4_show_273 rfl (lv_at hl 2 rfl) ?_
              refine lv_aload_n C0.1 C0.2.1 dX4_show_274 rfl (lv_at hl 0 rfl) ?_
              refine m_geta C0 hK hM 30 (by decide) rfl q662 dX4_show_275 ?_
              refine lv_iload_n C0.1 C0.2.1 dX4_show_278 rfl (lv_at hl 2 rfl) ?_
              refine m_iald C0 hK hM 30 i rfl rfl rfl (show i < 1200 from (by omega)) (by decide) dX4_show_279 ?_
              refine tp_eq (y := (pcF (shM (up2 (shY S (pg S)).1 0 16 (S 0 16 + (if (shY S (pg S)).2.1 = true then 0 else 1))) (S 19 1) (S 19 2) (S 19 3) (S 0 15 + 1) (shY S (pg S)).2.2.1) (shY S (pg S)).2.2.1 i) 30 i) (by rw [up2_ne _ _ (Or.inl (by decide))]) ?_
              refine tp_eq (y := (shY S (pg S)).2.2.1.2 i) (by rw [pcF_k _ _ _ (by decide) (by decide)]; exact congrFun (setMk_30 _ _) i) ?_
              refine m_iast C0 hK hM hS 18 i rfl rfl rfl (show i < 1200 from (by omega)) (by decide) dX4_show_280 (fun H locs hM hS => ?_)
              refine lv_iinc (v := nI (i + 1)) (lv' := [(3, .int (nI (i + 1))), (0, .ref (am 0)), (1, .int (nI ((shY S (pg S)).2.2.2)))]) C0.1 C0.2.1 dX4_show_281 hl (k := 2) rfl (nI_1 i) (by decide) rfl (fun ls hl => ?_)
              refine lv_goto (tgt := 250) C0.1 C0.2.1 dX4_show_284 (by decide) ?_
              have hM : MP D dA am (pcF (shM (up2 (shY S (pg S)).1 0 16 (S 0 16 + (if (shY S (pg S)).2.1 = true then 0 else 1))) (S 19 1) (S 19 2) (S 19 3) (S 0 15 + 1) (shY S (pg S)).2.2.1) (shY S (pg S)).2.2.1 (i + 1)) H := by
                rw [← pcF_s]; exact hM
              exact K250 _ _ ls ⟨hM, hS, lv_sub hl [1, 2, 0] rfl⟩
        · refine lv_iload_n C0.1 C0.2.1 dX4_show_235 rfl (lv_at hl 2 rfl) ?_
          refine lv_if_eq (tgt := 243) C0.1 C0.2.1 dX4_show_236 (by decide) (fun c_236 => ?_) (fun c_236 => ?_)
          · have c_236 : ¬ ((shY S (pg S)).2.1 = true) := b01_0.mp c_236
            refine lv_iconst (v := 1) C0.1 C0.2.1 dX4_show_243 (by decide) ?_
            exact J _ ((if_neg c_236).symm)
          · have c_236 : (shY S (pg S)).2.1 = true := b01_1.mp c_236
            refine lv_iconst (v := 0) C0.1 C0.2.1 dX4_show_239 (by decide) ?_
            refine lv_goto (tgt := 244) C0.1 C0.2.1 dX4_show_240 (by decide) ?_
            exact J _ ((if_pos c_236).symm)
      · have n_61 : ¬ pg S ≤ pg S := fun z => c_61 ((nI_leI (a := pg S) (b := pg S) (by omega) (by omega)).mpr z)
        omega
    · intro k H locs ls hk ⟨hM, hS, hl⟩ K56
      refine lv_iload_n C0.1 C0.2.1 dX4_show_56 rfl (lv_at hl 3 rfl) ?_
      refine lv_aload_n C0.1 C0.2.1 dX4_show_57 rfl (lv_at hl 0 rfl) ?_
      refine m_geti C0 hK hM 6 (by decide) rfl q638 dX4_show_58 ?_
      refine tp_eq (y := nI (pg S)) (shW_pg hO _) ?_
      refine lv_icmp_ge (tgt := 230) C0.1 C0.2.1 dX4_show_61 (by decide) (fun c_61 => ?_) (fun c_61 => ?_)
      · have n_61 : pg S ≤ k := (nI_leI (a := pg S) (b := k) (by omega) (by omega)).mp c_61
        omega
      · have n_61 : ¬ pg S ≤ k := fun z => c_61 ((nI_leI (a := pg S) (b := k) (by omega) (by omega)).mpr z)
        refine lv_iconst (v := 0) C0.1 C0.2.1 dX4_show_64 (by decide) ?_
        refine lv_istore (lv' := [(4, .int 0), (0, .ref (am 0)), (1, .int (nI ((shY S k).2.2.2))), (2, .int (if (shY S k).2.1 = true then 1 else 0)), (3, .int (nI k))]) C0.1 C0.2.1 dX4_show_65 hl (by decide) rfl (fun ls hl => ?_)
        refine W_loop (ln S) (fun t H locs ls => MP D dA am (shW S (shZ S k t)) H ∧ va_S (MA am) s.heap H locs ∧ lv_has ls 5 [(0, .ref (am 0)), (1, .int (nI ((shZ S k t).2.2.2))), (2, .int (if (shZ S k t).2.1 = true then 1 else 0)), (3, .int (nI k)), (4, .int (nI t))]) 67 ?_ ?_ 0 _ _ ls (Nat.zero_le _) ⟨hM, hS, lv_sub hl [1, 2, 3, 4, 0] rfl⟩
        · intro H locs ls ⟨hM, hS, hl⟩
          refine lv_iload C0.1 C0.2.1 dX4_show_67 (lv_at hl 4 rfl) ?_
          refine lv_aload_n C0.1 C0.2.1 dX4_show_69 rfl (lv_at hl 0 rfl) ?_
          refine m_geti C0 hK hM 0 (by decide) rfl q632 dX4_show_70 ?_
          refine tp_eq (y := nI (ln S)) (shW_ln hO _ _) ?_
          refine lv_icmp_ge (tgt := 224) C0.1 C0.2.1 dX4_show_73 (by decide) (fun c_73 => ?_) (fun c_73 => ?_)
          · have n_73 : ln S ≤ ln S := (nI_leI (a := ln S) (b := ln S) (by omega) (by omega)).mp c_73
            refine lv_iinc (v := nI (k + 1)) (lv' := [(3, .int (nI (k + 1))), (0, .ref (am 0)), (1, .int (nI ((shZ S k (ln S)).2.2.2))), (2, .int (if (shZ S k (ln S)).2.1 = true then 1 else 0)), (4, .int (nI (ln S)))]) C0.1 C0.2.1 dX4_show_224 hl (k := 3) rfl (nI_1 k) (by decide) rfl (fun ls hl => ?_)
            refine lv_goto (tgt := 56) C0.1 C0.2.1 dX4_show_227 (by decide) ?_
            exact K56 _ _ ls ⟨hM, hS, lv_sub hl [1, 2, 3, 0] rfl⟩
          · have n_73 : ¬ ln S ≤ ln S := fun z => c_73 ((nI_leI (a := ln S) (b := ln S) (by omega) (by omega)).mpr z)
            omega
        · intro t H locs ls ht ⟨hM, hS, hl⟩ K67
          refine lv_iload C0.1 C0.2.1 dX4_show_67 (lv_at hl 4 rfl) ?_
          refine lv_aload_n C0.1 C0.2.1 dX4_show_69 rfl (lv_at hl 0 rfl) ?_
          refine m_geti C0 hK hM 0 (by decide) rfl q632 dX4_show_70 ?_
          refine tp_eq (y := nI (ln S)) (shW_ln hO _ _) ?_
          refine lv_icmp_ge (tgt := 224) C0.1 C0.2.1 dX4_show_73 (by decide) (fun c_73 => ?_) (fun c_73 => ?_)
          · have n_73 : ln S ≤ t := (nI_leI (a := ln S) (b := t) (by omega) (by omega)).mp c_73
            omega
          · have n_73 : ¬ ln S ≤ t := fun z => c_73 ((nI_leI (a := ln S) (b := t) (by omega) (by omega)).mpr z)
            refine lv_iload_n C0.1 C0.2.1 dX4_show_76 rfl (lv_at hl 3 rfl) ?_
            refine lv_aload_n C0.1 C0.2.1 dX4_show_77 rfl (lv_at hl 0 rfl) ?_
            refine m_geti C0 hK hM 27 (by decide) rfl q659 dX4_show_78 ?_
            refine tp_eq (y := S 19 2) (shW_27 _ _) ?_
            refine lv_icmp_eq (tgt := 224) C0.1 C0.2.1 dX4_show_81 (by decide) (fun c_81 => ?_) (fun c_81 => ?_)
            · have e := shZ_idle (S := S) (k := k) (t := t) (by omega) (Or.inl c_81)
              rw [e] at hM hl
              refine lv_iinc (v := nI (k + 1)) (lv' := [(3, .int (nI (k + 1))), (0, .ref (am 0)), (1, .int (nI ((shY S (k + 1)).2.2.2))), (2, .int (if (shY S (k + 1)).2.1 = true then 1 else 0)), (4, .int (nI t))]) C0.1 C0.2.1 dX4_show_224 hl (k := 3) rfl (nI_1 k) (by decide) rfl (fun ls hl => ?_)
              refine lv_goto (tgt := 56) C0.1 C0.2.1 dX4_show_227 (by decide) ?_
              exact K56 _ _ ls ⟨hM, hS, lv_sub hl [1, 2, 3, 0] rfl⟩
            · refine lv_iload_n C0.1 C0.2.1 dX4_show_84 rfl (lv_at hl 2 rfl) ?_
              refine lv_if_ne (tgt := 224) C0.1 C0.2.1 dX4_show_85 (by decide) (fun c_85 => ?_) (fun c_85 => ?_)
              · have c_85 : (shZ S k t).2.1 = true := b01_1.mp c_85
                have e := shZ_idle (S := S) (k := k) (t := t) (by omega) (Or.inr c_85)
                rw [e] at hM hl
                refine lv_iinc (v := nI (k + 1)) (lv' := [(3, .int (nI (k + 1))), (0, .ref (am 0)), (1, .int (nI ((shY S (k + 1)).2.2.2))), (2, .int (if (shY S (k + 1)).2.1 = true then 1 else 0)), (4, .int (nI t))]) C0.1 C0.2.1 dX4_show_224 hl (k := 3) rfl (nI_1 k) (by decide) rfl (fun ls hl => ?_)
                refine lv_goto (tgt := 56) C0.1 C0.2.1 dX4_show_227 (by decide) ?_
                exact K56 _ _ ls ⟨hM, hS, lv_sub hl [1, 2, 3, 0] rfl⟩
              · have c_85 : ¬ ((shZ S k t).2.1 = true) := b01_0.mp c_85
                have hz : (shZ S k t).2.1 = false := Bool.eq_false_iff.mpr c_85
                rw [hz] at hl
                have hl : lv_has ls 5 [(0, .ref (am 0)), (1, .int (nI ((shZ S k t).2.2.2))), (2, .int 0), (3, .int (nI k)), (4, .int (nI t))] := hl
                refine lv_aload_n C0.1 C0.2.1 dX4_show_88 rfl (lv_at hl 0 rfl) ?_
                refine m_geti C0 hK hM 9 (by decide) rfl q641 dX4_show_89 ?_
                refine tp_eq (y := (shZ S k t).1 0 9) (shW_0 _ _ rfl) ?_
                refine lv_aload_n C0.1 C0.2.1 dX4_show_92 rfl (lv_at hl 0 rfl) ?_
                refine m_geti C0 hK hM 10 (by decide) rfl q642 dX4_show_93 ?_
                refine tp_eq (y := (shZ S k t).1 0 10) (shW_0 _ _ rfl) ?_
                refine lv_aload_n C0.1 C0.2.1 dX4_show_96 rfl (lv_at hl 0 rfl) ?_
                refine m_geti C0 hK hM 11 (by decide) rfl q643 dX4_show_97 ?_
                refine tp_eq (y := (shZ S k t).1 0 11) (shW_0 _ _ rfl) ?_
                refine lv_iadd C0.1 C0.2.1 dX4_show_100 ?_
                refine lv_icmp_ge (tgt := 109) C0.1 C0.2.1 dX4_show_101 (by decide) (fun c_101 => ?_) (fun c_101 => ?_)
                · refine lv_aload_n C0.1 C0.2.1 dX4_show_109 rfl (lv_at hl 0 rfl) ?_
                  refine lv_dup C0.1 C0.2.1 dX4_show_110 rfl ?_
                  refine m_geti C0 hK hM 13 (by decide) rfl q645 dX4_show_111 ?_
                  refine tp_eq (y := (shZ S k t).1 0 13) (shW_0 _ _ rfl) ?_
                  refine jn_i 143 [.int ((shZ S k t).1 0 13), .ref (am 0)] (fun v => v = (if 500 ≤ (shZ S k t).1 0 9 then 1 else if 200 ≤ (shZ S k t).1 0 9 then 2 else 4)) (fun v hv => ?_) (fun J => ?_)
                  · subst hv
                    refine lv_iadd C0.1 C0.2.1 dX4_show_143 ?_
                    refine m_put C0 hK hM hS 13 (by decide) rfl q645 rfl rfl dX4_show_144 (fun H locs hM hS => ?_)
                    refine lv_aload_n C0.1 C0.2.1 dX4_show_147 rfl (lv_at hl 0 rfl) ?_
                    refine lv_dup C0.1 C0.2.1 dX4_show_148 rfl ?_
                    refine m_geti C0 hK hM 9 (by decide) rfl q641 dX4_show_149 ?_
                    refine tp_eq (y := (shW S (shZ S k t)) 0 9) (by rw [up2_ne _ _ (Or.inr (by decide))]) ?_
                    refine tp_eq (y := (shZ S k t).1 0 9) (shW_0 _ _ rfl) ?_
                    refine lv_aload_n C0.1 C0.2.1 dX4_show_152 rfl (lv_at hl 0 rfl) ?_
                    refine m_geti C0 hK hM 10 (by decide) rfl q642 dX4_show_153 ?_
                    refine tp_eq (y := (shW S (shZ S k t)) 0 10) (by rw [up2_ne _ _ (Or.inr (by decide))]) ?_
                    refine tp_eq (y := (shZ S k t).1 0 10) (shW_0 _ _ rfl) ?_
                    refine lv_aload_n C0.1 C0.2.1 dX4_show_156 rfl (lv_at hl 0 rfl) ?_
                    refine m_geti C0 hK hM 11 (by decide) rfl q643 dX4_show_157 ?_
                    refine tp_eq (y := (shW S (shZ S k t)) 0 11) (by rw [up2_ne _ _ (Or.inr (by decide))]) ?_
                    refine tp_eq (y := (shZ S k t).1 0 11) (shW_0 _ _ rfl) ?_
                    refine lv_iadd C0.1 C0.2.1 dX4_show_160 ?_
                    refine lv_isub C0.1 C0.2.1 dX4_show_161 ?_
                    refine m_put C0 hK hM hS 9 (by decide) rfl q641 rfl rfl dX4_show_162 (fun H locs hM hS => ?_)
                    have hM : MP D dA am (shM (up2 (up2 (shZ S k t).1 0 13 ((shZ S k t).1 0 13 + (if 500 ≤ (shZ S k t).1 0 9 then 1 else if 200 ≤ (shZ S k t).1 0 9 then 2 else 4))) 0 9 ((shZ S k t).1 0 9 - ((shZ S k t).1 0 10 + (shZ S k t).1 0 11))) (S 19 1) (S 19 2) (S 19 3) (S 0 15 + 1) ((shZ S k t).2.2.1)) H := by
                      rw [← shM_up _ _ _ _ _ _ _ rfl, ← shM_up _ _ _ _ _ _ _ rfl]; exact hM
                    refine lv_aload_n C0.1 C0.2.1 dX4_show_165 rfl (lv_at hl 0 rfl) ?_
                    refine lv_iload_n C0.1 C0.2.1 dX4_show_166 rfl (lv_at hl 3 rfl) ?_
                    refine lv_iload C0.1 C0.2.1 dX4_show_167 (lv_at hl 4 rfl) ?_
                    refine m_cv C0 hK hM hS (fun _ h => h) (mm_write l D dA am (shM (up2 (up2 (shZ S k t).1 0 13 ((shZ S k t).1 0 13 + (if 500 ≤ (shZ S k t).1 0 9 then 1 else if 200 ≤ (shZ S k t).1 0 9 then 2 else 4))) 0 9 ((shZ S k t).1 0 9 - ((shZ S k t).1 0 10 + (shZ S k t).1 0 11))) (S 19 1) (S 19 2) (S 19 3) (S 0 15 + 1) ((shZ S k t).2.2.1)) k t (hO.w.q (((shM_q _ _ _ _ _ _).trans ((Gq.up _ _ (by decide)).trans (Gq.up _ _ (by decide))).w).trans (shZ_g S k t).w).symm) (by omega) (by omega)) 2 (lw_V q839 q841 qs27 q43 q842) rfl rfl hdd_write ⟨(Nat.le_of_ble_eq_true rfl), (Nat.le_of_ble_eq_true rfl)⟩ rfl hl.1 rfl (Nat.le_of_ble_eq_true rfl) dX4_show_169 ⟨(Nat.le_of_ble_eq_true rfl), (Nat.le_of_ble_eq_true rfl)⟩ (fun S' H locs hr hM hS => ?_)
                    subst hr
                    have hM : MP D dA am (shM (up2 (up2 (shZ S k t).1 0 13 ((shZ S k t).1 0 13 + (if 500 ≤ (shZ S k t).1 0 9 then 1 else if 200 ≤ (shZ S k t).1 0 9 then 2 else 4))) 0 9 ((shZ S k t).1 0 9 - ((shZ S k t).1 0 10 + (shZ S k t).1 0 11))) (S 19 1) (S 19 2) (S 19 3) (S 0 15 + 1) (wrt (shZ S k t).1 (S 19 1) (S 19 3) (shZ S k t).2.2.1 k t)) H := by
                      rw [shM_wr, wrt_q ((Gq.up _ _ (by decide)).trans (Gq.up _ _ (by decide))).w] at hM; exact hM
                    refine lv_iinc (v := nI ((shZ S k t).2.2.2 + 1)) (lv' := [(1, .int (nI ((shZ S k t).2.2.2 + 1))), (0, .ref (am 0)), (2, .int 0), (3, .int (nI k)), (4, .int (nI t))]) C0.1 C0.2.1 dX4_show_172 hl (k := 1) rfl (nI_1 ((shZ S k t).2.2.2)) (by decide) rfl (fun ls hl => ?_)
                    refine lv_aload_n C0.1 C0.2.1 dX4_show_175 rfl (lv_at hl 1 rfl) ?_
                    refine lv_dup C0.1 C0.2.1 dX4_show_176 rfl ?_
                    refine m_geti C0 hK hM 14 (by decide) rfl q646 dX4_show_177 ?_
                    refine tp_eq (y := (shZ S k t).1 0 14) (by rw [shM_0 _ _ _ _ _ _ rfl, up2_i _ _ (by decide), up2_i _ _ (by decide)]) ?_
                    refine lv_iconst (v := 1) C0.1 C0.2.1 dX4_show_180 (by decide) ?_
                    refine lv_iadd C0.1 C0.2.1 dX4_show_181 ?_
                    refine m_put C0 hK hM hS 14 (by decide) rfl q646 rfl rfl dX4_show_182 (fun H locs hM hS => ?_)
                    have hM : MP D dA am (shM (up2 (up2 (up2 (shZ S k t).1 0 13 ((shZ S k t).1 0 13 + (if 500 ≤ (shZ S k t).1 0 9 then 1 else if 200 ≤ (shZ S k t).1 0 9 then 2 else 4))) 0 9 ((shZ S k t).1 0 9 - ((shZ S k t).1 0 10 + (shZ S k t).1 0 11))) 0 14 ((shZ S k t).1 0 14 + 1)) (S 19 1) (S 19 2) (S 19 3) (S 0 15 + 1) (wrt (shZ S k t).1 (S 19 1) (S 19 3) (shZ S k t).2.2.1 k t)) H := by
                      rw [← shM_up _ _ _ _ _ _ _ rfl]; exact hM
                    refine lv_aload_n C0.1 C0.2.1 dX4_show_185 rfl (lv_at hl 1 rfl) ?_
                    refine lv_dup C0.1 C0.2.1 dX4_show_186 rfl ?_
                    refine m_geti C0 hK hM 11 (by decide) rfl q643 dX4_show_187 ?_
                    refine tp_eq (y := (shZ S k t).1 0 11) (by rw [shM_0 _ _ _ _ _ _ rfl, up2_i _ _ (by decide), up2_i _ _ (by decide), up2_i _ _ (by decide)]) ?_
                    refine jn_i 214 [.int ((shZ S k t).1 0 11), .ref (am 0)] (fun v => v = (if ((shZ S k t).1 0 14 + 1) - ((shZ S k t).1 0 14 + 1) / 100 * 100 = 0 ∧ (shZ S k t).1 0 11 < 20 then 1 else 0)) (fun v hv => ?_) (fun J => ?_)
                    · subst hv
                      refine lv_iadd C0.1 C0.2.1 dX4_show_214 ?_
                      refine m_put C0 hK hM hS 11 (by decide) rfl q643 rfl rfl dX4_show_215 (fun H locs hM hS => ?_)
                      have hM : MP D dA am (shM (goF (shZ S k t).1) (S 19 1) (S 19 2) (S 19 3) (S 0 15 + 1) (wrt (shZ S k t).1 (S 19 1) (S 19 3) (shZ S k t).2.2.1 k t)) H := by
                        unfold goF; rw [← shM_up _ _ _ _ _ _ _ rfl]; exact hM
                      refine lv_iinc (v := nI (t + 1)) (lv' := [(4, .int (nI (t + 1))), (1, .int (nI ((shZ S k t).2.2.2 + 1))), (0, .ref (am 0)), (2, .int 0), (3, .int (nI k))]) C0.1 C0.2.1 dX4_show_218 hl (k := 4) rfl (nI_1 t) (by decide) rfl (fun ls hl => ?_)
                      refine lv_goto (tgt := 67) C0.1 C0.2.1 dX4_show_221 (by decide) ?_
                      exact K67 _ _ ls (by rw [shZ_go c_81 hz c_101]; exact ⟨hM, hS, lv_sub hl [2, 1, 3, 4, 0] rfl⟩)
                    · refine lv_aload_n C0.1 C0.2.1 dX4_show_190 rfl (lv_at hl 1 rfl) ?_
                      refine m_geti C0 hK hM 14 (by decide) rfl q646 dX4_show_191 ?_
                      refine tp_eq (y := ((shZ S k t).1 0 14 + 1)) (by rw [shM_0 _ _ _ _ _ _ rfl, up2_self]) ?_
                      refine lv_bipush (v := 100) C0.1 C0.2.1 dX4_show_194 (by decide) ?_
                      refine lv_irem C0.1 C0.2.1 dX4_show_196 (by decide) ?_
                      refine lv_if_ne (tgt := 213) C0.1 C0.2.1 dX4_show_197 (by decide) (fun c_197 => ?_) (fun c_197 => ?_)
                      · refine lv_iconst (v := 0) C0.1 C0.2.1 dX4_show_213 (by decide) ?_
                        exact J _ (b0_of (fun z => c_197 z.1))
                      · refine lv_aload_n C0.1 C0.2.1 dX4_show_200 rfl (lv_at hl 1 rfl) ?_
                        refine m_geti C0 hK hM 11 (by decide) rfl q643 dX4_show_201 ?_
                        refine tp_eq (y := (shZ S k t).1 0 11) (by rw [shM_0 _ _ _ _ _ _ rfl, up2_i _ _ (by decide), up2_i _ _ (by decide), up2_i _ _ (by decide)]) ?_
                        refine lv_bipush (v := 20) C0.1 C0.2.1 dX4_show_204 (by decide) ?_
                        refine lv_icmp_ge (tgt := 213) C0.1 C0.2.1 dX4_show_206 (by decide) (fun c_206 => ?_) (fun c_206 => ?_)
                        · refine lv_iconst (v := 0) C0.1 C0.2.1 dX4_show_213 (by decide) ?_
                          exact J _ (b0_of (fun z => Int32.not_lt.mpr c_206 z.2))
                        · refine lv_iconst (v := 1) C0.1 C0.2.1 dX4_show_209 (by decide) ?_
                          refine lv_goto (tgt := 214) C0.1 C0.2.1 dX4_show_210 (by decide) ?_
                          exact J _ (b1_of ⟨c_197, Int32.not_le.mp c_206⟩)
                  · refine lv_aload_n C0.1 C0.2.1 dX4_show_114 rfl (lv_at hl 0 rfl) ?_
                    refine m_geti C0 hK hM 9 (by decide) rfl q641 dX4_show_115 ?_
                    refine tp_eq (y := (shZ S k t).1 0 9) (shW_0 _ _ rfl) ?_
                    refine lv_sipush (v := 500) C0.1 C0.2.1 dX4_show_118 (by decide) ?_
                    refine lv_icmp_lt (tgt := 128) C0.1 C0.2.1 dX4_show_121 (by decide) (fun c_121 => ?_) (fun c_121 => ?_)
                    · refine lv_aload_n C0.1 C0.2.1 dX4_show_128 rfl (lv_at hl 0 rfl) ?_
                      refine m_geti C0 hK hM 9 (by decide) rfl q641 dX4_show_129 ?_
                      refine tp_eq (y := (shZ S k t).1 0 9) (shW_0 _ _ rfl) ?_
                      refine lv_sipush (v := 200) C0.1 C0.2.1 dX4_show_132 (by decide) ?_
                      refine lv_icmp_lt (tgt := 142) C0.1 C0.2.1 dX4_show_135 (by decide) (fun c_135 => ?_) (fun c_135 => ?_)
                      · refine lv_iconst (v := 4) C0.1 C0.2.1 dX4_show_142 (by decide) ?_
                        exact J _ (by rw [if_neg (Int32.not_le.mpr c_121), if_neg (Int32.not_le.mpr c_135)])
                      · refine lv_iconst (v := 2) C0.1 C0.2.1 dX4_show_138 (by decide) ?_
                        refine lv_goto (tgt := 143) C0.1 C0.2.1 dX4_show_139 (by decide) ?_
                        exact J _ (by rw [if_neg (Int32.not_le.mpr c_121), if_pos (Int32.not_lt.mp c_135)])
                    · refine lv_iconst (v := 1) C0.1 C0.2.1 dX4_show_124 (by decide) ?_
                      refine lv_goto (tgt := 143) C0.1 C0.2.1 dX4_show_125 (by decide) ?_
                      exact J _ ((if_pos (Int32.not_lt.mp c_121)).symm)
                · refine lv_iconst (v := 1) C0.1 C0.2.1 dX4_show_104 (by decide) ?_
                  refine lv_istore_n (lv' := [(2, .int 1), (0, .ref (am 0)), (1, .int (nI ((shZ S k t).2.2.2))), (3, .int (nI k)), (4, .int (nI t))]) C0.1 C0.2.1 dX4_show_105 rfl hl (by decide) rfl (fun ls hl => ?_)
                  refine lv_goto (tgt := 218) C0.1 C0.2.1 dX4_show_106 (by decide) ?_
                  refine lv_iinc (v := nI (t + 1)) (lv' := [(4, .int (nI (t + 1))), (2, .int 1), (0, .ref (am 0)), (1, .int (nI ((shZ S k t).2.2.2))), (3, .int (nI k))]) C0.1 C0.2.1 dX4_show_218 hl (k := 4) rfl (nI_1 t) (by decide) rfl (fun ls hl => ?_)
                  refine lv_goto (tgt := 67) C0.1 C0.2.1 dX4_show_221 (by decide) ?_
                  exact K67 _ _ ls (by rw [shZ_stop c_81 hz c_101]; exact ⟨hM, hS, lv_sub hl [2, 3, 1, 4, 0] rfl⟩)
  · have c_4 : ¬ (areCutN S (pg S) = true) := b01_0.mp c_4
    refine lv_aload_n C0.1 C0.2.1 dX4_show_7 rfl (lv_at hl 0 rfl) ?_
    refine lv_bipush (v := (-3)) C0.1 C0.2.1 dX4_show_8 (by decide) ?_
    refine m_ci C0 hK hM hS (fun _ h => h) (mm_refuse l D dA am S 3 (by omega)) 1 (lw_V q733 q735 qs18 q43 q736) rfl rfl hdd_refuse ⟨(Nat.le_of_ble_eq_true rfl), (Nat.le_of_ble_eq_true rfl)⟩ rfl hl.1 rfl (Nat.le_of_ble_eq_true rfl) dX4_show_10 ⟨(Nat.le_of_ble_eq_true rfl), (Nat.le_of_ble_eq_true rfl)⟩ (fun r S' H locs hr hM hS _ => ?_)
    obtain ⟨rfl, rfl⟩ := hr
    exact m_iretS C0 hr hlk hM hS (PB.of (by unfold sp_show; rw [if_neg c_4]; rfl)) dX4_show_13
