set_option maxRecDepth 100000
set_option linter.unusedVariables false
theorem hdd_findBlanks : yX4_findBlanks.cls = RX4 ∧ yX4_findBlanks.cls ≠ "java/lang/invoke/MethodHandle" ∧ yX4_findBlanks.cls ≠ "java/lang/invoke/VarHandle" ∧ (parseMethodDescriptor yX4_findBlanks.desc).map (fun d => d.parameters.length) = some 0 := by decide +kernel
theorem hdd_blanks : yX4_blanks.cls = RX4 ∧ yX4_blanks.cls ≠ "java/lang/invoke/MethodHandle" ∧ yX4_blanks.cls ≠ "java/lang/invoke/VarHandle" ∧ (parseMethodDescriptor yX4_blanks.desc).map (fun d => d.parameters.length) = some 0 := by decide +kernel
theorem hdd_camOf : yX4_camOf.cls = RX4 ∧ yX4_camOf.cls ≠ "java/lang/invoke/MethodHandle" ∧ yX4_camOf.cls ≠ "java/lang/invoke/VarHandle" ∧ (parseMethodDescriptor yX4_camOf.desc).map (fun d => d.parameters.length) = some 2 := by decide +kernel
set_option maxHeartbeats 4000000 in
theorem mm_findBlanks (l : Launch) (D : va_G) (dA : Nat → ClassId) (am : Nat → Nat) (S : St) (hO : Ok S) : mCi l yX4_findBlanks cX4_findBlanks 4 (some .int) { frames := 1, cells := 0, slots := 0, locals := 25 } D dA am S [] (fun r S' => r = nI (blanksN S 12) ∧ Sh S' S ∧ FBI S S' 12) := by
  refine m_head (by decide) rfl (Nat.le_of_ble_eq_true rfl) ?_
  intro p e s m below meth cd ls C0 hr hlk hK hM hS hl
  have hl : lv_has ls 4 [(0, .ref (am 0))] := hl
  have hl2 := hO.len2
  have hl16 := hO.len16
  refine lv_iconst (v := 0) C0.1 C0.2.1 dX4_findBlanks_0 (by decide) ?_
  refine lv_istore_n (lv' := [(1, .int 0), (0, .ref (am 0))]) C0.1 C0.2.1 dX4_findBlanks_1 rfl hl (by decide) rfl (fun ls hl => ?_)
  refine lv_iconst (v := 0) C0.1 C0.2.1 dX4_findBlanks_2 (by decide) ?_
  refine lv_istore_n (lv' := [(2, .int 0), (1, .int 0), (0, .ref (am 0))]) C0.1 C0.2.1 dX4_findBlanks_3 rfl hl (by decide) rfl (fun ls hl => ?_)
  refine W_loop 12 (fun c H locs ls => ∃ T, (Sh T S ∧ FBI S T c) ∧ MP D dA am T H ∧ va_S (MA am) s.heap H locs ∧ lv_has ls 4 [(0, .ref (am 0)), (1, .int (nI (blanksN S c))), (2, .int (nI c))]) 4 ?_ ?_ 0 _ _ ls (Nat.zero_le _) ⟨_, ⟨Sh.rfl, fun c h => absurd h (Nat.not_lt_zero c)⟩, hM, hS, lv_sub hl [2, 1, 0] rfl⟩
  · intro H locs ls ⟨T, hP, hM, hS, hl⟩
    obtain ⟨hT, hF⟩ := hP
    refine lv_iload_n C0.1 C0.2.1 dX4_findBlanks_4 rfl (lv_at hl 2 rfl) ?_
    refine lv_bipush (v := 12) C0.1 C0.2.1 dX4_findBlanks_5 (by decide) ?_
    refine lv_icmp_ge (tgt := 145) C0.1 C0.2.1 dX4_findBlanks_7 (by decide) (fun c_7 => ?_) (fun c_7 => ?_)
    · have n_7 : 12 ≤ 12 := (nI_leI (a := 12) (b := 12) (by omega) (by omega)).mp c_7
      refine lv_iload_n C0.1 C0.2.1 dX4_findBlanks_145 rfl (lv_at hl 1 rfl) ?_
      exact m_iretS C0 hr hlk hM hS ⟨rfl, hT, hF⟩ dX4_findBlanks_146
    · have n_7 : ¬ 12 ≤ 12 := fun z => c_7 ((nI_leI (a := 12) (b := 12) (by omega) (by omega)).mpr z)
      omega
  · intro c H locs ls hc ⟨T, hP, hM, hS, hl⟩ K4
    obtain ⟨hT, hF⟩ := hP
    refine lv_iload_n C0.1 C0.2.1 dX4_findBlanks_4 rfl (lv_at hl 2 rfl) ?_
    refine lv_bipush (v := 12) C0.1 C0.2.1 dX4_findBlanks_5 (by decide) ?_
    refine lv_icmp_ge (tgt := 145) C0.1 C0.2.1 dX4_findBlanks_7 (by decide) (fun c_7 => ?_) (fun c_7 => ?_)
    · have n_7 : 12 ≤ c := (nI_leI (a := 12) (b := c) (by omega) (by omega)).mp c_7
      omega
    · have n_7 : ¬ 12 ≤ c := fun z => c_7 ((nI_leI (a := 12) (b := c) (by omega) (by omega)).mpr z)
      refine lv_aload_n C0.1 C0.2.1 dX4_findBlanks_10 rfl (lv_at hl 0 rfl) ?_
      refine m_geta C0 hK hM 24 (by decide) rfl q656 dX4_findBlanks_11 ?_
      refine lv_iload_n C0.1 C0.2.1 dX4_findBlanks_14 rfl (lv_at hl 2 rfl) ?_
      refine lv_bipush (v := (-9)) C0.1 C0.2.1 dX4_findBlanks_15 (by decide) ?_
      refine m_iast C0 hK hM hS 24 c rfl rfl rfl (show c < 12 from (by omega)) (by decide) dX4_findBlanks_17 (fun H locs hM hS => ?_)
      refine lv_aload_n C0.1 C0.2.1 dX4_findBlanks_18 rfl (lv_at hl 0 rfl) ?_
      refine m_geta C0 hK hM 25 (by decide) rfl q657 dX4_findBlanks_19 ?_
      refine lv_iload_n C0.1 C0.2.1 dX4_findBlanks_22 rfl (lv_at hl 2 rfl) ?_
      refine lv_bipush (v := (-9)) C0.1 C0.2.1 dX4_findBlanks_23 (by decide) ?_
      refine m_iast C0 hK hM hS 25 c rfl rfl rfl (show c < 12 from (by omega)) (by decide) dX4_findBlanks_25 (fun H locs hM hS => ?_)
      have hT : Sh (up2 (up2 T 24 c (-9)) 25 c (-9)) S := sh_2425 hT
      have hF : FBI S (up2 (up2 T 24 c (-9)) 25 c (-9)) c := FBI_up hF
      have hN : fbN S (up2 (up2 T 24 c (-9)) 25 c (-9)) c 0 := fbN_0
      generalize up2 (up2 T 24 c (-9)) 25 c (-9) = T at hM hT hF hN
      refine jn 104 (fun H locs ls => ∃ T, (Sh T S ∧ FBI S T c ∧ fbJ S T c) ∧ MP D dA am T H ∧ va_S (MA am) s.heap H locs ∧ lv_has ls 4 [(0, .ref (am 0)), (1, .int (nI (blanksN S c))), (2, .int (nI c))]) ?_ (fun J => ?_)
      · intro H locs ls ⟨T, hP, hM, hS, hl⟩
        obtain ⟨hT, hF, hJ⟩ := hP
        rcases hJ with hJ | hJ | hJ
        · obtain ⟨h1, h2, h3⟩ := hJ
          refine lv_aload_n C0.1 C0.2.1 dX4_findBlanks_104 rfl (lv_at hl 0 rfl) ?_
          refine m_geta C0 hK hM 1 (by decide) rfl q633 dX4_findBlanks_105 ?_
          refine lv_iload_n C0.1 C0.2.1 dX4_findBlanks_108 rfl (lv_at hl 2 rfl) ?_
          refine m_zald C0 hK hM 1 c rfl rfl rfl (show c < 12 from (by omega)) (by decide) dX4_findBlanks_109 ?_
          refine tp_eq (y := S 1 c) (by rw [hT.ata 1 rfl]) ?_
          refine lv_if_eq (tgt := 139) C0.1 C0.2.1 dX4_findBlanks_110 (by decide) (fun c_110 => ?_) (fun c_110 => ?_)
          · refine lv_iinc (v := nI (c + 1)) (lv' := [(2, .int (nI (c + 1))), (0, .ref (am 0)), (1, .int (nI (blanksN S c)))]) C0.1 C0.2.1 dX4_findBlanks_139 hl (k := 2) rfl (nI_1 c) (by decide) rfl (fun ls hl => ?_)
            refine lv_goto (tgt := 4) C0.1 C0.2.1 dX4_findBlanks_142 (by decide) ?_
            exact K4 _ _ ls (by rw [blanks_0 (fun z => z.1 h1)]; exact ⟨_, ⟨hT, FBI_s hF ⟨fun z => absurd h1 z, fun _ => ⟨h2, h3⟩⟩⟩, hM, hS, lv_sub hl [1, 2, 0] rfl⟩)
          · exact absurd h1 c_110
        · obtain ⟨h1, h2, h3⟩ := hJ
          refine lv_aload_n C0.1 C0.2.1 dX4_findBlanks_104 rfl (lv_at hl 0 rfl) ?_
          refine m_geta C0 hK hM 1 (by decide) rfl q633 dX4_findBlanks_105 ?_
          refine lv_iload_n C0.1 C0.2.1 dX4_findBlanks_108 rfl (lv_at hl 2 rfl) ?_
          refine m_zald C0 hK hM 1 c rfl rfl rfl (show c < 12 from (by omega)) (by decide) dX4_findBlanks_109 ?_
          refine tp_eq (y := S 1 c) (by rw [hT.ata 1 rfl]) ?_
          refine lv_if_eq (tgt := 139) C0.1 C0.2.1 dX4_findBlanks_110 (by decide) (fun c_110 => ?_) (fun c_110 => ?_)
          · exact absurd c_110 h1
          · refine lv_aload_n C0.1 C0.2.1 dX4_findBlanks_113 rfl (lv_at hl 0 rfl) ?_
            refine m_geta C0 hK hM 24 (by decide) rfl q656 dX4_findBlanks_114 ?_
            refine lv_iload_n C0.1 C0.2.1 dX4_findBlanks_117 rfl (lv_at hl 2 rfl) ?_
            refine m_iald C0 hK hM 24 c rfl rfl rfl (show c < 12 from (by omega)) (by decide) dX4_findBlanks_118 ?_
            refine tp_eq (y := (-9)) (h2) ?_
            refine lv_if_ge (tgt := 139) C0.1 C0.2.1 dX4_findBlanks_119 (by decide) (fun c_119 => ?_) (fun c_119 => ?_)
            · exact absurd c_119 (by decide)
            · refine lv_aload_n C0.1 C0.2.1 dX4_findBlanks_122 rfl (lv_at hl 0 rfl) ?_
              refine m_geta C0 hK hM 24 (by decide) rfl q656 dX4_findBlanks_123 ?_
              refine lv_iload_n C0.1 C0.2.1 dX4_findBlanks_126 rfl (lv_at hl 2 rfl) ?_
              refine lv_iload_n C0.1 C0.2.1 dX4_findBlanks_127 rfl (lv_at hl 2 rfl) ?_
              refine m_iast C0 hK hM hS 24 c rfl rfl rfl (show c < 12 from (by omega)) (by decide) dX4_findBlanks_128 (fun H locs hM hS => ?_)
              refine lv_aload_n C0.1 C0.2.1 dX4_findBlanks_129 rfl (lv_at hl 0 rfl) ?_
              refine m_geta C0 hK hM 25 (by decide) rfl q657 dX4_findBlanks_130 ?_
              refine lv_iload_n C0.1 C0.2.1 dX4_findBlanks_133 rfl (lv_at hl 2 rfl) ?_
              refine lv_iload_n C0.1 C0.2.1 dX4_findBlanks_134 rfl (lv_at hl 1 rfl) ?_
              refine m_iast C0 hK hM hS 25 c rfl rfl rfl (show c < 12 from (by omega)) (by decide) dX4_findBlanks_135 (fun H locs hM hS => ?_)
              have hT : Sh (up2 (up2 T 24 c (nI c)) 25 c (nI (blanksN S c))) S := sh_2425 hT
              have hF : FBI S (up2 (up2 T 24 c (nI c)) 25 c (nI (blanksN S c))) c := FBI_up hF
              refine lv_iinc (v := nI (blanksN S c + 1)) (lv' := [(1, .int (nI (blanksN S c + 1))), (0, .ref (am 0)), (2, .int (nI c))]) C0.1 C0.2.1 dX4_findBlanks_136 hl (k := 1) rfl (nI_1 (blanksN S c)) (by decide) rfl (fun ls hl => ?_)
              refine lv_iinc (v := nI (c + 1)) (lv' := [(2, .int (nI (c + 1))), (1, .int (nI (blanksN S c + 1))), (0, .ref (am 0))]) C0.1 C0.2.1 dX4_findBlanks_139 hl (k := 2) rfl (nI_1 c) (by decide) rfl (fun ls hl => ?_)
              refine lv_goto (tgt := 4) C0.1 C0.2.1 dX4_findBlanks_142 (by decide) ?_
              exact K4 _ _ ls (by rw [blanks_1 h1 h3]; exact ⟨_, ⟨hT, FBI_s hF ⟨fun _ => ⟨by rw [h3, up_24], by rw [h3, up2_self]⟩, fun z => absurd z h1⟩⟩, hM, hS, lv_sub hl [2, 1, 0] rfl⟩)
        · obtain ⟨h1, h2, h3, h4⟩ := hJ
          refine lv_aload_n C0.1 C0.2.1 dX4_findBlanks_104 rfl (lv_at hl 0 rfl) ?_
          refine m_geta C0 hK hM 1 (by decide) rfl q633 dX4_findBlanks_105 ?_
          refine lv_iload_n C0.1 C0.2.1 dX4_findBlanks_108 rfl (lv_at hl 2 rfl) ?_
          refine m_zald C0 hK hM 1 c rfl rfl rfl (show c < 12 from (by omega)) (by decide) dX4_findBlanks_109 ?_
          refine tp_eq (y := S 1 c) (by rw [hT.ata 1 rfl]) ?_
          refine lv_if_eq (tgt := 139) C0.1 C0.2.1 dX4_findBlanks_110 (by decide) (fun c_110 => ?_) (fun c_110 => ?_)
          · exact absurd c_110 h1
          · refine lv_aload_n C0.1 C0.2.1 dX4_findBlanks_113 rfl (lv_at hl 0 rfl) ?_
            refine m_geta C0 hK hM 24 (by decide) rfl q656 dX4_findBlanks_114 ?_
            refine lv_iload_n C0.1 C0.2.1 dX4_findBlanks_117 rfl (lv_at hl 2 rfl) ?_
            refine m_iald C0 hK hM 24 c rfl rfl rfl (show c < 12 from (by omega)) (by decide) dX4_findBlanks_118 ?_
            refine tp_eq (y := nI (leastN S c)) (h3) ?_
            refine lv_if_ge (tgt := 139) C0.1 C0.2.1 dX4_findBlanks_119 (by decide) (fun c_119 => ?_) (fun c_119 => ?_)
            · have n_119 : 0 ≤ leastN S c := (nI_leI (a := 0) (b := leastN S c) (by omega) (by omega)).mp c_119
              refine lv_iinc (v := nI (c + 1)) (lv' := [(2, .int (nI (c + 1))), (0, .ref (am 0)), (1, .int (nI (blanksN S c)))]) C0.1 C0.2.1 dX4_findBlanks_139 hl (k := 2) rfl (nI_1 c) (by decide) rfl (fun ls hl => ?_)
              refine lv_goto (tgt := 4) C0.1 C0.2.1 dX4_findBlanks_142 (by decide) ?_
              exact K4 _ _ ls (by rw [blanks_0 (fun z => by omega)]; exact ⟨_, ⟨hT, FBI_s hF ⟨fun _ => ⟨h3, h4⟩, fun z => absurd z h1⟩⟩, hM, hS, lv_sub hl [1, 2, 0] rfl⟩)
            · have n_119 : ¬ 0 ≤ leastN S c := fun z => c_119 ((nI_leI (a := 0) (b := leastN S c) (by omega) (by omega)).mpr z)
              exact absurd (nI_pos' (by omega)) c_119
      · refine lv_iconst (v := 0) C0.1 C0.2.1 dX4_findBlanks_26 (by decide) ?_
        refine lv_istore_n (lv' := [(3, .int 0), (0, .ref (am 0)), (1, .int (nI (blanksN S c))), (2, .int (nI c))]) C0.1 C0.2.1 dX4_findBlanks_27 rfl hl (by decide) rfl (fun ls hl => ?_)
        refine W_loop c (fun a H locs ls => ∃ T, (Sh T S ∧ FBI S T c ∧ (fbN S T c a ∨ fbD S T c)) ∧ MP D dA am T H ∧ va_S (MA am) s.heap H locs ∧ lv_has ls 4 [(0, .ref (am 0)), (1, .int (nI (blanksN S c))), (2, .int (nI c)), (3, .int (nI a))]) 28 ?_ ?_ 0 _ _ ls (Nat.zero_le _) ⟨_, ⟨hT, hF, Or.inl hN⟩, hM, hS, lv_sub hl [1, 2, 3, 0] rfl⟩
        · intro H locs ls ⟨T, hP, hM, hS, hl⟩
          obtain ⟨hT, hF, hQ⟩ := hP
          refine lv_iload_n C0.1 C0.2.1 dX4_findBlanks_28 rfl (lv_at hl 3 rfl) ?_
          refine lv_iload_n C0.1 C0.2.1 dX4_findBlanks_29 rfl (lv_at hl 2 rfl) ?_
          refine lv_icmp_ge (tgt := 104) C0.1 C0.2.1 dX4_findBlanks_30 (by decide) (fun c_30 => ?_) (fun c_30 => ?_)
          · have n_30 : c ≤ c := (nI_leI (a := c) (b := c) (by omega) (by omega)).mp c_30
            exact J _ _ ls ⟨_, ⟨hT, hF, fbJ_of (by omega) hc hQ⟩, hM, hS, lv_sub hl [0, 1, 2] rfl⟩
          · have n_30 : ¬ c ≤ c := fun z => c_30 ((nI_leI (a := c) (b := c) (by omega) (by omega)).mpr z)
            omega
        · intro a H locs ls ha ⟨T, hP, hM, hS, hl⟩ K28
          obtain ⟨hT, hF, hQ⟩ := hP
          refine lv_iload_n C0.1 C0.2.1 dX4_findBlanks_28 rfl (lv_at hl 3 rfl) ?_
          refine lv_iload_n C0.1 C0.2.1 dX4_findBlanks_29 rfl (lv_at hl 2 rfl) ?_
          refine lv_icmp_ge (tgt := 104) C0.1 C0.2.1 dX4_findBlanks_30 (by decide) (fun c_30 => ?_) (fun c_30 => ?_)
          · have n_30 : c ≤ a := (nI_leI (a := c) (b := a) (by omega) (by omega)).mp c_30
            omega
          · have n_30 : ¬ c ≤ a := fun z => c_30 ((nI_leI (a := c) (b := a) (by omega) (by omega)).mpr z)
            refine lv_aload_n C0.1 C0.2.1 dX4_findBlanks_33 rfl (lv_at hl 0 rfl) ?_
            refine m_geta C0 hK hM 1 (by decide) rfl q633 dX4_findBlanks_34 ?_
            refine lv_iload_n C0.1 C0.2.1 dX4_findBlanks_37 rfl (lv_at hl 2 rfl) ?_
            refine m_zald C0 hK hM 1 c rfl rfl rfl (show c < 12 from (by omega)) (by decide) dX4_findBlanks_38 ?_
            refine tp_eq (y := S 1 c) (by rw [hT.ata 1 rfl]) ?_
            refine lv_if_eq (tgt := 104) C0.1 C0.2.1 dX4_findBlanks_39 (by decide) (fun c_39 => ?_) (fun c_39 => ?_)
            · exact J _ _ ls ⟨_, ⟨hT, hF, hQ.elim (fun z => Or.inl ⟨c_39, z.1, z.2.1⟩) (fun z => absurd c_39 z.1)⟩, hM, hS, lv_sub hl [0, 1, 2] rfl⟩
            · rcases hQ with hQ | hQ
              · refine lv_aload_n C0.1 C0.2.1 dX4_findBlanks_42 rfl (lv_at hl 0 rfl) ?_
                refine m_geta C0 hK hM 24 (by decide) rfl q656 dX4_findBlanks_43 ?_
                refine lv_iload_n C0.1 C0.2.1 dX4_findBlanks_46 rfl (lv_at hl 2 rfl) ?_
                refine m_iald C0 hK hM 24 c rfl rfl rfl (show c < 12 from (by omega)) (by decide) dX4_findBlanks_47 ?_
                refine tp_eq (y := (-9)) (hQ.1) ?_
                refine lv_if_ge (tgt := 104) C0.1 C0.2.1 dX4_findBlanks_48 (by decide) (fun c_48 => ?_) (fun c_48 => ?_)
                · exact absurd c_48 (by decide)
                · refine lv_aload_n C0.1 C0.2.1 dX4_findBlanks_51 rfl (lv_at hl 0 rfl) ?_
                  refine m_geta C0 hK hM 1 (by decide) rfl q633 dX4_findBlanks_52 ?_
                  refine lv_iload_n C0.1 C0.2.1 dX4_findBlanks_55 rfl (lv_at hl 3 rfl) ?_
                  refine m_zald C0 hK hM 1 a rfl rfl rfl (show a < 12 from (by omega)) (by decide) dX4_findBlanks_56 ?_
                  refine tp_eq (y := S 1 a) (by rw [hT.ata 1 rfl]) ?_
                  refine lv_if_eq (tgt := 98) C0.1 C0.2.1 dX4_findBlanks_57 (by decide) (fun c_57 => ?_) (fun c_57 => ?_)
                  · refine lv_iinc (v := nI (a + 1)) (lv' := [(3, .int (nI (a + 1))), (0, .ref (am 0)), (1, .int (nI (blanksN S c))), (2, .int (nI c))]) C0.1 C0.2.1 dX4_findBlanks_98 hl (k := 3) rfl (nI_1 a) (by decide) rfl (fun ls hl => ?_)
                    refine lv_goto (tgt := 28) C0.1 C0.2.1 dX4_findBlanks_101 (by decide) ?_
                    exact K28 _ _ ls ⟨_, ⟨hT, hF, Or.inl (fbN_s hQ (fun _ z => z.1 c_57))⟩, hM, hS, lv_sub hl [1, 2, 3, 0] rfl⟩
                  · refine lv_aload_n C0.1 C0.2.1 dX4_findBlanks_60 rfl (lv_at hl 0 rfl) ?_
                    refine m_geta C0 hK hM 24 (by decide) rfl q656 dX4_findBlanks_61 ?_
                    refine lv_iload_n C0.1 C0.2.1 dX4_findBlanks_64 rfl (lv_at hl 3 rfl) ?_
                    refine m_iald C0 hK hM 24 a rfl rfl rfl (show a < 12 from (by omega)) (by decide) dX4_findBlanks_65 ?_
                    refine tp_eq (y := nI (leastN S a)) (((hF a ha).1 c_57).1) ?_
                    have hla := leastN_le S a
                    refine lv_iload_n C0.1 C0.2.1 dX4_findBlanks_66 rfl (lv_at hl 3 rfl) ?_
                    refine lv_icmp_ne (tgt := 98) C0.1 C0.2.1 dX4_findBlanks_67 (by decide) (fun c_67 => ?_) (fun c_67 => ?_)
                    · have n_67 : ¬ leastN S a = a := fun z => c_67 ((nI_eq (a := leastN S a) (b := a) (by omega) (by omega)).mpr z)
                      refine lv_iinc (v := nI (a + 1)) (lv' := [(3, .int (nI (a + 1))), (0, .ref (am 0)), (1, .int (nI (blanksN S c))), (2, .int (nI c))]) C0.1 C0.2.1 dX4_findBlanks_98 hl (k := 3) rfl (nI_1 a) (by decide) rfl (fun ls hl => ?_)
                      refine lv_goto (tgt := 28) C0.1 C0.2.1 dX4_findBlanks_101 (by decide) ?_
                      exact K28 _ _ ls ⟨_, ⟨hT, hF, Or.inl (fbN_s hQ (fun _ z => n_67 z.2.1))⟩, hM, hS, lv_sub hl [1, 2, 3, 0] rfl⟩
                    · have n_67 : leastN S a = a := (nI_eq (a := leastN S a) (b := a) (by omega) (by omega)).mp c_67
                      refine lv_aload_n C0.1 C0.2.1 dX4_findBlanks_70 rfl (lv_at hl 0 rfl) ?_
                      refine lv_iload_n C0.1 C0.2.1 dX4_findBlanks_71 rfl (lv_at hl 3 rfl) ?_
                      refine lv_iload_n C0.1 C0.2.1 dX4_findBlanks_72 rfl (lv_at hl 2 rfl) ?_
                      refine m_cp C0 hK hM (mm_turnedBy l D dA am T a c (hO.sh hT.symm) (by omega) (by omega)) 2 (lw_V q779 q781 qs21 q43 q782) rfl rfl hdd_turnedBy ⟨(Nat.le_of_ble_eq_true rfl), (Nat.le_of_ble_eq_true rfl)⟩ rfl hl.1 rfl (Nat.le_of_ble_eq_true rfl) dX4_findBlanks_73 ⟨(Nat.le_of_ble_eq_true rfl), (Nat.le_of_ble_eq_true rfl)⟩ (fun r hr => ?_)
                      subst hr
                      refine tp_eq (y := rotI (rotN (ln S) (row S a) (row S c))) (by rw [rot_sh hT]) ?_
                      refine lv_if_lt (tgt := 98) C0.1 C0.2.1 dX4_findBlanks_76 (by decide) (fun c_76 => ?_) (fun c_76 => ?_)
                      · refine lv_iinc (v := nI (a + 1)) (lv' := [(3, .int (nI (a + 1))), (0, .ref (am 0)), (1, .int (nI (blanksN S c))), (2, .int (nI c))]) C0.1 C0.2.1 dX4_findBlanks_98 hl (k := 3) rfl (nI_1 a) (by decide) rfl (fun ls hl => ?_)
                        refine lv_goto (tgt := 28) C0.1 C0.2.1 dX4_findBlanks_101 (by decide) ?_
                        exact K28 _ _ ls ⟨_, ⟨hT, hF, Or.inl (fbN_s hQ (fun _ z => (rotI_lt hl16).mp c_76 z.2.2))⟩, hM, hS, lv_sub hl [1, 2, 3, 0] rfl⟩
                      · refine lv_aload_n C0.1 C0.2.1 dX4_findBlanks_79 rfl (lv_at hl 0 rfl) ?_
                        refine m_geta C0 hK hM 24 (by decide) rfl q656 dX4_findBlanks_80 ?_
                        refine lv_iload_n C0.1 C0.2.1 dX4_findBlanks_83 rfl (lv_at hl 2 rfl) ?_
                        refine lv_iload_n C0.1 C0.2.1 dX4_findBlanks_84 rfl (lv_at hl 3 rfl) ?_
                        refine m_iast C0 hK hM hS 24 c rfl rfl rfl (show c < 12 from (by omega)) (by decide) dX4_findBlanks_85 (fun H locs hM hS => ?_)
                        refine lv_aload_n C0.1 C0.2.1 dX4_findBlanks_86 rfl (lv_at hl 0 rfl) ?_
                        refine m_geta C0 hK hM 25 (by decide) rfl q657 dX4_findBlanks_87 ?_
                        refine lv_iload_n C0.1 C0.2.1 dX4_findBlanks_90 rfl (lv_at hl 2 rfl) ?_
                        refine lv_aload_n C0.1 C0.2.1 dX4_findBlanks_91 rfl (lv_at hl 0 rfl) ?_
                        refine m_geta C0 hK hM 25 (by decide) rfl q657 dX4_findBlanks_92 ?_
                        refine lv_iload_n C0.1 C0.2.1 dX4_findBlanks_95 rfl (lv_at hl 3 rfl) ?_
                        refine m_iald C0 hK hM 25 a rfl rfl rfl (show a < 12 from (by omega)) (by decide) dX4_findBlanks_96 ?_
                        refine tp_eq (y := T 25 a) (by rw [up2_ne _ _ (Or.inl (by decide))]) ?_
                        refine tp_eq (y := nI (blanksN S a)) ((((hF a ha).1 c_57).2).trans (by rw [n_67])) ?_
                        refine m_iast C0 hK hM hS 25 c rfl rfl rfl (show c < 12 from (by omega)) (by decide) dX4_findBlanks_97 (fun H locs hM hS => ?_)
                        refine lv_iinc (v := nI (a + 1)) (lv' := [(3, .int (nI (a + 1))), (0, .ref (am 0)), (1, .int (nI (blanksN S c))), (2, .int (nI c))]) C0.1 C0.2.1 dX4_findBlanks_98 hl (k := 3) rfl (nI_1 a) (by decide) rfl (fun ls hl => ?_)
                        refine lv_goto (tgt := 28) C0.1 C0.2.1 dX4_findBlanks_101 (by decide) ?_
                        exact K28 _ _ ls ⟨_, ⟨sh_2425 hT, FBI_up hF, Or.inr (fbD_of (by omega) hc ha hQ c_39 ⟨c_57, n_67, Classical.byContradiction (fun z => c_76 ((rotI_lt hl16).mpr z))⟩)⟩, hM, hS, lv_sub hl [1, 2, 3, 0] rfl⟩
              · have hlc := leastN_le S c
                refine lv_aload_n C0.1 C0.2.1 dX4_findBlanks_42 rfl (lv_at hl 0 rfl) ?_
                refine m_geta C0 hK hM 24 (by decide) rfl q656 dX4_findBlanks_43 ?_
                refine lv_iload_n C0.1 C0.2.1 dX4_findBlanks_46 rfl (lv_at hl 2 rfl) ?_
                refine m_iald C0 hK hM 24 c rfl rfl rfl (show c < 12 from (by omega)) (by decide) dX4_findBlanks_47 ?_
                refine tp_eq (y := nI (leastN S c)) (hQ.2.2.1) ?_
                refine lv_if_ge (tgt := 104) C0.1 C0.2.1 dX4_findBlanks_48 (by decide) (fun c_48 => ?_) (fun c_48 => ?_)
                · have n_48 : 0 ≤ leastN S c := (nI_leI (a := 0) (b := leastN S c) (by omega) (by omega)).mp c_48
                  exact J _ _ ls ⟨_, ⟨hT, hF, Or.inr (Or.inr hQ)⟩, hM, hS, lv_sub hl [0, 1, 2] rfl⟩
                · have n_48 : ¬ 0 ≤ leastN S c := fun z => c_48 ((nI_leI (a := 0) (b := leastN S c) (by omega) (by omega)).mpr z)
                  exact absurd (nI_pos' (by have := leastN_le S c; omega)) c_48
set_option maxHeartbeats 4000000 in
theorem mm_blanks (l : Launch) (D : va_G) (dA : Nat → ClassId) (am : Nat → Nat) (S : St)  (hO : Ok S) : mCi l yX4_blanks cX4_blanks 1 (some .int) { frames := 2, cells := 0, slots := 0, locals := 48 } D dA am S [] (fun r S' => PB (sp_blanks S) r S') := by
  refine m_head (by decide) rfl (Nat.le_of_ble_eq_true rfl) ?_
  intro p e s m below meth cd ls C0 hr hlk hK hM hS hl
  have hl : lv_has ls 1 [(0, .ref (am 0))] := hl
  refine lv_aload_n C0.1 C0.2.1 dX4_blanks_0 rfl (lv_at hl 0 rfl) ?_
  refine m_ci C0 hK hM hS (fun _ h => h) (mm_findBlanks l D dA am S  hO) 0 (lw_V q775 q777 qs20 q43 q778) rfl rfl hdd_findBlanks ⟨(Nat.le_of_ble_eq_true rfl), (Nat.le_of_ble_eq_true rfl)⟩ rfl hl.1 rfl (Nat.le_of_ble_eq_true rfl) dX4_blanks_1 ⟨(Nat.le_of_ble_eq_true rfl), (Nat.le_of_ble_eq_true rfl)⟩ (fun r S' H locs hr hM hS _ => ?_)
  obtain ⟨rfl, hT, hF⟩ := hr
  exact m_iretS C0 hr hlk hM hS (PB.sh rfl hT) dX4_blanks_4
set_option maxHeartbeats 4000000 in
theorem mm_camOf (l : Launch) (D : va_G) (dA : Nat → ClassId) (am : Nat → Nat) (S : St) (p0 p1 : Int32) (hO : Ok S) : mCi l yX4_camOf cX4_camOf 5 (some .int) { frames := 3, cells := 0, slots := 0, locals := 63 } D dA am S [.int p0, .int p1] (fun r S' => PB (sp_camOf S p0 p1) r S') := by
  refine m_head (by decide) rfl (Nat.le_of_ble_eq_true rfl) ?_
  intro p e s m below meth cd ls C0 hr hlk hK hM hS hl
  have hl : lv_has ls 5 [(0, .ref (am 0)), (1, .int p0), (2, .int p1)] := hl
  have hl2 := hO.len2
  have hl16 := hO.len16
  refine lv_aload_n C0.1 C0.2.1 dX4_camOf_0 rfl (lv_at hl 0 rfl) ?_
  refine lv_iload_n C0.1 C0.2.1 dX4_camOf_1 rfl (lv_at hl 1 rfl) ?_
  refine m_cp C0 hK hM (mm_lacks l D dA am S p0) 1 (lw_V q751 q753 qs19 q43 q754) rfl rfl hdd_lacks ⟨(Nat.le_of_ble_eq_true rfl), (Nat.le_of_ble_eq_true rfl)⟩ rfl hl.1 rfl (Nat.le_of_ble_eq_true rfl) dX4_camOf_2 ⟨(Nat.le_of_ble_eq_true rfl), (Nat.le_of_ble_eq_true rfl)⟩ (fun r hr => ?_)
  subst hr
  refine lv_istore_n (lv' := [(3, .int (-(nI (lackN S p0)))), (0, .ref (am 0)), (1, .int p0), (2, .int p1)]) C0.1 C0.2.1 dX4_camOf_5 rfl hl (by decide) rfl (fun ls hl => ?_)
  refine lv_iload_n C0.1 C0.2.1 dX4_camOf_6 rfl (lv_at hl 0 rfl) ?_
  refine lv_if_ge (tgt := 16) C0.1 C0.2.1 dX4_camOf_7 (by decide) (fun c_7 => ?_) (fun c_7 => ?_)
  · obtain ⟨j, hj, bj, rfl, hth, hon⟩ := onCam_t (lk0 c_7)
    have hls := (least_spec (show 0 < ln S by omega) bj hth).1
    refine lv_iload_n C0.1 C0.2.1 dX4_camOf_16 rfl (lv_at hl 3 rfl) ?_
    refine lv_iconst (v := 0) C0.1 C0.2.1 dX4_camOf_17 (by decide) ?_
    refine lv_iconst (v := 2) C0.1 C0.2.1 dX4_camOf_18 (by decide) ?_
    refine st_call C0 (mm_in l p1 0 2) 3 (lw_S q744 q745 q43 q746) rfl rfl hdd_in ⟨(Nat.le_of_ble_eq_true rfl), (Nat.le_of_ble_eq_true rfl)⟩ rfl hl.1 rfl (Nat.le_of_ble_eq_true rfl) dX4_camOf_19 ⟨(Nat.le_of_ble_eq_true rfl), (Nat.le_of_ble_eq_true rfl)⟩ (fun r hr => ?_)
    subst hr
    refine tp_eq (y := (if (inR p1 3).isSome = true then 1 else 0)) (b01_c (inR_le (n := 3) (by decide))) ?_
    refine lv_if_ne (tgt := 32) C0.1 C0.2.1 dX4_camOf_22 (by decide) (fun c_22 => ?_) (fun c_22 => ?_)
    · have c_22 : (inR p1 3).isSome = true := b01_1.mp c_22
      refine lv_aload_n C0.1 C0.2.1 dX4_camOf_32 rfl (lv_at hl 1 rfl) ?_
      refine m_ci C0 hK hM hS (fun _ h => h) (mm_findBlanks l D dA am S  hO) 0 (lw_V q775 q777 qs20 q43 q778) rfl rfl hdd_findBlanks ⟨(Nat.le_of_ble_eq_true rfl), (Nat.le_of_ble_eq_true rfl)⟩ rfl hl.1 rfl (Nat.le_of_ble_eq_true rfl) dX4_camOf_33 ⟨(Nat.le_of_ble_eq_true rfl), (Nat.le_of_ble_eq_true rfl)⟩ (fun r S' H locs hr hM hS _ => ?_)
      obtain ⟨rfl, hT, hF⟩ := hr
      refine lv_istore (lv' := [(4, .int (nI (blanksN S 12))), (3, .int (-(nI (lackN S (nI j))))), (0, .ref (am 0)), (1, .int (nI j)), (2, .int p1)]) C0.1 C0.2.1 dX4_camOf_36 hl (by decide) rfl (fun ls hl => ?_)
      refine lv_iload_n C0.1 C0.2.1 dX4_camOf_38 rfl (lv_at hl 4 rfl) ?_
      refine lv_if_ne (tgt := 51) C0.1 C0.2.1 dX4_camOf_39 (by decide) (fun c_39 => ?_) (fun c_39 => ?_)
      · refine lv_iload_n C0.1 C0.2.1 dX4_camOf_51 rfl (lv_at hl 4 rfl) ?_
        refine lv_iconst (v := 1) C0.1 C0.2.1 dX4_camOf_52 (by decide) ?_
        refine lv_icmp_ne (tgt := 70) C0.1 C0.2.1 dX4_camOf_53 (by decide) (fun c_53 => ?_) (fun c_53 => ?_)
        · refine lv_aload_n C0.1 C0.2.1 dX4_camOf_70 rfl (lv_at hl 2 rfl) ?_
          refine lv_iload_n C0.1 C0.2.1 dX4_camOf_71 rfl (lv_at hl 3 rfl) ?_
          refine m_cp C0 hK hM (mm_smoothOf l D dA am S' j (hO.sh hT.symm) (by omega)) 1 (lw_V q787 q789 qs22 q43 q790) rfl rfl hdd_smoothOf ⟨(Nat.le_of_ble_eq_true rfl), (Nat.le_of_ble_eq_true rfl)⟩ rfl hl.1 rfl (Nat.le_of_ble_eq_true rfl) dX4_camOf_72 ⟨(Nat.le_of_ble_eq_true rfl), (Nat.le_of_ble_eq_true rfl)⟩ (fun r hr => ?_)
          subst hr
          refine tp_eq (y := smoothF (ln S) (row S j) (ln S)) (smooth_sh hT j) ?_
          exact m_iretS C0 hr hlk hM hS (PB.sh ((hon _).trans (by (try dsimp only); rw [if_neg c_39, if_neg c_53, if_pos (((inR_02 c_22).resolve_left c_39).resolve_left c_53)])) hT) dX4_camOf_75
        · refine lv_aload_n C0.1 C0.2.1 dX4_camOf_56 rfl (lv_at hl 2 rfl) ?_
          refine lv_aload_n C0.1 C0.2.1 dX4_camOf_57 rfl (lv_at hl 2 rfl) ?_
          refine m_geta C0 hK hM 24 (by decide) rfl q656 dX4_camOf_58 ?_
          refine lv_iload_n C0.1 C0.2.1 dX4_camOf_61 rfl (lv_at hl 3 rfl) ?_
          refine m_iald C0 hK hM 24 j rfl rfl rfl (show j < 12 from (by omega)) (by decide) dX4_camOf_62 ?_
          refine tp_eq (y := nI (leastN S j)) (((hF j bj).1 hth).1) ?_
          refine lv_iload_n C0.1 C0.2.1 dX4_camOf_63 rfl (lv_at hl 3 rfl) ?_
          refine m_cp C0 hK hM (mm_turnedBy l D dA am S' (leastN S j) j (hO.sh hT.symm) (by omega) (by omega)) 2 (lw_V q779 q781 qs21 q43 q782) rfl rfl hdd_turnedBy ⟨(Nat.le_of_ble_eq_true rfl), (Nat.le_of_ble_eq_true rfl)⟩ rfl hl.1 rfl (Nat.le_of_ble_eq_true rfl) dX4_camOf_64 ⟨(Nat.le_of_ble_eq_true rfl), (Nat.le_of_ble_eq_true rfl)⟩ (fun r hr => ?_)
          subst hr
          refine tp_eq (y := rotI (rotN (ln S) (row S (leastN S j)) (row S j))) (by rw [rot_sh hT]) ?_
          refine lv_goto (tgt := 75) C0.1 C0.2.1 dX4_camOf_67 (by decide) ?_
          exact m_iretS C0 hr hlk hM hS (PB.sh ((hon _).trans (by (try dsimp only); rw [if_neg c_39, if_pos c_53])) hT) dX4_camOf_75
      · refine lv_aload_n C0.1 C0.2.1 dX4_camOf_42 rfl (lv_at hl 2 rfl) ?_
        refine m_geta C0 hK hM 25 (by decide) rfl q657 dX4_camOf_43 ?_
        refine lv_iload_n C0.1 C0.2.1 dX4_camOf_46 rfl (lv_at hl 3 rfl) ?_
        refine m_iald C0 hK hM 25 j rfl rfl rfl (show j < 12 from (by omega)) (by decide) dX4_camOf_47 ?_
        refine tp_eq (y := nI (blanksN S (leastN S j))) (((hF j bj).1 hth).2) ?_
        refine lv_goto (tgt := 75) C0.1 C0.2.1 dX4_camOf_48 (by decide) ?_
        exact m_iretS C0 hr hlk hM hS (PB.sh ((hon _).trans (by (try dsimp only); rw [if_pos c_39])) hT) dX4_camOf_75
    · have c_22 : ¬ ((inR p1 3).isSome = true) := b01_0.mp c_22
      refine lv_aload_n C0.1 C0.2.1 dX4_camOf_25 rfl (lv_at hl 1 rfl) ?_
      refine lv_bipush (v := (-2)) C0.1 C0.2.1 dX4_camOf_26 (by decide) ?_
      refine m_ci C0 hK hM hS (fun _ h => h) (mm_refuse l D dA am S 2 (by omega)) 1 (lw_V q733 q735 qs18 q43 q736) rfl rfl hdd_refuse ⟨(Nat.le_of_ble_eq_true rfl), (Nat.le_of_ble_eq_true rfl)⟩ rfl hl.1 rfl (Nat.le_of_ble_eq_true rfl) dX4_camOf_28 ⟨(Nat.le_of_ble_eq_true rfl), (Nat.le_of_ble_eq_true rfl)⟩ (fun r S' H locs hr hM hS _ => ?_)
      obtain ⟨rfl, rfl⟩ := hr
      exact m_iretS C0 hr hlk hM hS (PB.of ((hon _).trans (by (try dsimp only); rw [if_neg (inR_02n (inR_none c_22)).1, if_neg (inR_02n (inR_none c_22)).2.1, if_neg (inR_02n (inR_none c_22)).2.2]; rfl))) dX4_camOf_31
  · refine lv_aload_n C0.1 C0.2.1 dX4_camOf_10 rfl (lv_at hl 1 rfl) ?_
    refine lv_iload_n C0.1 C0.2.1 dX4_camOf_11 rfl (lv_at hl 0 rfl) ?_
    refine m_ci C0 hK hM hS (fun _ h => h) (mm_refuse l D dA am S (lackN S p0) (lackN_lt S p0)) 1 (lw_V q733 q735 qs18 q43 q736) rfl rfl hdd_refuse ⟨(Nat.le_of_ble_eq_true rfl), (Nat.le_of_ble_eq_true rfl)⟩ rfl hl.1 rfl (Nat.le_of_ble_eq_true rfl) dX4_camOf_12 ⟨(Nat.le_of_ble_eq_true rfl), (Nat.le_of_ble_eq_true rfl)⟩ (fun r S' H locs hr hM hS _ => ?_)
    obtain ⟨rfl, rfl⟩ := hr
    exact m_iretS C0 hr hlk hM hS (PB.of (onCam_l (lk1 c_7))) dX4_camOf_15
