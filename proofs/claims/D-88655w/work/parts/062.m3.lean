set_option maxRecDepth 100000
set_option linter.unusedVariables false
theorem hdd_turnedBy : yX4_turnedBy.cls = RX4 ∧ yX4_turnedBy.cls ≠ "java/lang/invoke/MethodHandle" ∧ yX4_turnedBy.cls ≠ "java/lang/invoke/VarHandle" ∧ (parseMethodDescriptor yX4_turnedBy.desc).map (fun d => d.parameters.length) = some 2 := by decide +kernel
theorem hdd_smoothOf : yX4_smoothOf.cls = RX4 ∧ yX4_smoothOf.cls ≠ "java/lang/invoke/MethodHandle" ∧ yX4_smoothOf.cls ≠ "java/lang/invoke/VarHandle" ∧ (parseMethodDescriptor yX4_smoothOf.desc).map (fun d => d.parameters.length) = some 1 := by decide +kernel
theorem hdd_copy : yX4_copy.cls = RX4 ∧ yX4_copy.cls ≠ "java/lang/invoke/MethodHandle" ∧ yX4_copy.cls ≠ "java/lang/invoke/VarHandle" ∧ (parseMethodDescriptor yX4_copy.desc).map (fun d => d.parameters.length) = some 5 := by decide +kernel
theorem hdd_turn : yX4_turn.cls = RX4 ∧ yX4_turn.cls ≠ "java/lang/invoke/MethodHandle" ∧ yX4_turn.cls ≠ "java/lang/invoke/VarHandle" ∧ (parseMethodDescriptor yX4_turn.desc).map (fun d => d.parameters.length) = some 2 := by decide +kernel
set_option maxHeartbeats 4000000 in
theorem mm_turnedBy (l : Launch) (D : va_G) (dA : Nat → ClassId) (am : Nat → Nat) (S : St) (a b : Nat) (hO : Ok S) (ha : a < 12) (hb : b < 12) : mCp l yX4_turnedBy cX4_turnedBy 6 (some .int) { frames := 0, cells := 0, slots := 0, locals := 0 } D dA am S [.int (nI a), .int (nI b)] (fun r => r = rotI (rotN (ln S) (row S a) (row S b))) := by
  refine m_head (by decide) rfl (Nat.le_of_ble_eq_true rfl) ?_
  intro p e s m below meth cd ls C0 hr hlk hK hM hS hl
  have hl : lv_has ls 6 [(0, .ref (am 0)), (1, .int (nI a)), (2, .int (nI b))] := hl
  have hl2 := hO.len2
  have hl16 := hO.len16
  refine lv_iconst (v := 0) C0.1 C0.2.1 dX4_turnedBy_0 (by decide) ?_
  refine lv_istore_n (lv' := [(3, .int 0), (0, .ref (am 0)), (1, .int (nI a)), (2, .int (nI b))]) C0.1 C0.2.1 dX4_turnedBy_1 rfl hl (by decide) rfl (fun ls hl => ?_)
  refine W_loopP (ln S) (fun n ls => (∀ m, m < n → rotQ (ln S) (row S a) (row S b) m = false) ∧ lv_has ls 6 [(0, .ref (am 0)), (1, .int (nI a)), (2, .int (nI b)), (3, .int (nI n))]) 2 ?_ ?_ 0 ls (Nat.zero_le _) ⟨fun m h => absurd h (Nat.not_lt_zero m), lv_sub hl [1, 2, 3, 0] rfl⟩
  · intro ls ⟨hPn, hl⟩
    refine lv_iload_n C0.1 C0.2.1 dX4_turnedBy_2 rfl (lv_at hl 3 rfl) ?_
    refine lv_aload_n C0.1 C0.2.1 dX4_turnedBy_3 rfl (lv_at hl 0 rfl) ?_
    refine m_geti C0 hK hM 0 (by decide) rfl q632 dX4_turnedBy_4 ?_
    refine tp_eq (y := nI (ln S)) (hO.len) ?_
    refine lv_icmp_ge (tgt := 90) C0.1 C0.2.1 dX4_turnedBy_7 (by decide) (fun c_7 => ?_) (fun c_7 => ?_)
    · have n_7 : ln S ≤ ln S := (nI_leI (a := ln S) (b := ln S) (by omega) (by omega)).mp c_7
      refine lv_bipush (v := (-9)) C0.1 C0.2.1 dX4_turnedBy_90 (by decide) ?_
      exact m_iret C0 hr hlk (by rw [rotN_none hPn]; rfl) dX4_turnedBy_92
    · have n_7 : ¬ ln S ≤ ln S := fun z => c_7 ((nI_leI (a := ln S) (b := ln S) (by omega) (by omega)).mpr z)
      omega
  · intro n ls hn ⟨hPn, hl⟩ K2
    refine lv_iload_n C0.1 C0.2.1 dX4_turnedBy_2 rfl (lv_at hl 3 rfl) ?_
    refine lv_aload_n C0.1 C0.2.1 dX4_turnedBy_3 rfl (lv_at hl 0 rfl) ?_
    refine m_geti C0 hK hM 0 (by decide) rfl q632 dX4_turnedBy_4 ?_
    refine tp_eq (y := nI (ln S)) (hO.len) ?_
    refine lv_icmp_ge (tgt := 90) C0.1 C0.2.1 dX4_turnedBy_7 (by decide) (fun c_7 => ?_) (fun c_7 => ?_)
    · have n_7 : ln S ≤ n := (nI_leI (a := ln S) (b := n) (by omega) (by omega)).mp c_7
      omega
    · have n_7 : ¬ ln S ≤ n := fun z => c_7 ((nI_leI (a := ln S) (b := n) (by omega) (by omega)).mpr z)
      refine lv_iconst (v := 1) C0.1 C0.2.1 dX4_turnedBy_10 (by decide) ?_
      refine lv_istore (lv' := [(4, .int 1), (0, .ref (am 0)), (1, .int (nI a)), (2, .int (nI b)), (3, .int (nI n))]) C0.1 C0.2.1 dX4_turnedBy_11 hl (by decide) rfl (fun ls hl => ?_)
      refine lv_iconst (v := 0) C0.1 C0.2.1 dX4_turnedBy_13 (by decide) ?_
      refine lv_istore (lv' := [(5, .int 0), (4, .int 1), (0, .ref (am 0)), (1, .int (nI a)), (2, .int (nI b)), (3, .int (nI n))]) C0.1 C0.2.1 dX4_turnedBy_14 hl (by decide) rfl (fun ls hl => ?_)
      refine W_loopP (ln S) (fun t ls => lv_has ls 6 [(0, .ref (am 0)), (1, .int (nI a)), (2, .int (nI b)), (3, .int (nI n)), (4, .int (if allN (rq (ln S) (row S a) (row S b) n) t = true then 1 else 0)), (5, .int (nI t))]) 16 ?_ ?_ 0 ls (Nat.zero_le _) (lv_sub hl [2, 3, 4, 5, 1, 0] rfl)
      · intro ls hl
        refine lv_iload C0.1 C0.2.1 dX4_turnedBy_16 (lv_at hl 5 rfl) ?_
        refine lv_aload_n C0.1 C0.2.1 dX4_turnedBy_18 rfl (lv_at hl 0 rfl) ?_
        refine m_geti C0 hK hM 0 (by decide) rfl q632 dX4_turnedBy_19 ?_
        refine tp_eq (y := nI (ln S)) (hO.len) ?_
        refine lv_icmp_ge (tgt := 77) C0.1 C0.2.1 dX4_turnedBy_22 (by decide) (fun c_22 => ?_) (fun c_22 => ?_)
        · have n_22 : ln S ≤ ln S := (nI_leI (a := ln S) (b := ln S) (by omega) (by omega)).mp c_22
          refine lv_iload C0.1 C0.2.1 dX4_turnedBy_77 (lv_at hl 4 rfl) ?_
          refine lv_if_eq (tgt := 84) C0.1 C0.2.1 dX4_turnedBy_79 (by decide) (fun c_79 => ?_) (fun c_79 => ?_)
          · have c_79 : ¬ (allN (rq (ln S) (row S a) (row S b) n) (ln S) = true) := b01_0.mp c_79
            refine lv_iinc (v := nI (n + 1)) (lv' := [(3, .int (nI (n + 1))), (0, .ref (am 0)), (1, .int (nI a)), (2, .int (nI b)), (4, .int (if allN (rq (ln S) (row S a) (row S b) n) (ln S) = true then 1 else 0)), (5, .int (nI (ln S)))]) C0.1 C0.2.1 dX4_turnedBy_84 hl (k := 3) rfl (nI_1 n) (by decide) rfl (fun ls hl => ?_)
            refine lv_goto (tgt := 2) C0.1 C0.2.1 dX4_turnedBy_87 (by decide) ?_
            exact K2 ls ⟨rotQ_next hPn c_79, lv_sub hl [1, 2, 3, 0] rfl⟩
          · have c_79 : allN (rq (ln S) (row S a) (row S b) n) (ln S) = true := b01_1.mp c_79
            refine lv_iload_n C0.1 C0.2.1 dX4_turnedBy_82 rfl (lv_at hl 3 rfl) ?_
            exact m_iret C0 hr hlk (by rw [rotN_some hn hPn c_79]; rfl) dX4_turnedBy_83
        · have n_22 : ¬ ln S ≤ ln S := fun z => c_22 ((nI_leI (a := ln S) (b := ln S) (by omega) (by omega)).mpr z)
          omega
      · intro t ls ht hl K16
        refine lv_iload C0.1 C0.2.1 dX4_turnedBy_16 (lv_at hl 5 rfl) ?_
        refine lv_aload_n C0.1 C0.2.1 dX4_turnedBy_18 rfl (lv_at hl 0 rfl) ?_
        refine m_geti C0 hK hM 0 (by decide) rfl q632 dX4_turnedBy_19 ?_
        refine tp_eq (y := nI (ln S)) (hO.len) ?_
        refine lv_icmp_ge (tgt := 77) C0.1 C0.2.1 dX4_turnedBy_22 (by decide) (fun c_22 => ?_) (fun c_22 => ?_)
        · have n_22 : ln S ≤ t := (nI_leI (a := ln S) (b := t) (by omega) (by omega)).mp c_22
          omega
        · have n_22 : ¬ ln S ≤ t := fun z => c_22 ((nI_leI (a := ln S) (b := t) (by omega) (by omega)).mpr z)
          refine jn_i 69 [] (fun v => v = (if allN (rq (ln S) (row S a) (row S b) n) (t + 1) = true then 1 else 0)) (fun v hv => ?_) (fun J => ?_)
          · subst hv
            refine lv_istore (lv' := [(4, .int (if allN (rq (ln S) (row S a) (row S b) n) (t + 1) = true then 1 else 0)), (0, .ref (am 0)), (1, .int (nI a)), (2, .int (nI b)), (3, .int (nI n)), (5, .int (nI t))]) C0.1 C0.2.1 dX4_turnedBy_69 hl (by decide) rfl (fun ls hl => ?_)
            refine lv_iinc (v := nI (t + 1)) (lv' := [(5, .int (nI (t + 1))), (4, .int (if allN (rq (ln S) (row S a) (row S b) n) (t + 1) = true then 1 else 0)), (0, .ref (am 0)), (1, .int (nI a)), (2, .int (nI b)), (3, .int (nI n))]) C0.1 C0.2.1 dX4_turnedBy_71 hl (k := 5) rfl (nI_1 t) (by decide) rfl (fun ls hl => ?_)
            refine lv_goto (tgt := 16) C0.1 C0.2.1 dX4_turnedBy_74 (by decide) ?_
            exact K16 ls (lv_sub hl [2, 3, 4, 5, 1, 0] rfl)
          · refine lv_iload C0.1 C0.2.1 dX4_turnedBy_25 (lv_at hl 4 rfl) ?_
            refine lv_if_eq (tgt := 68) C0.1 C0.2.1 dX4_turnedBy_27 (by decide) (fun c_27 => ?_) (fun c_27 => ?_)
            · have c_27 : ¬ (allN (rq (ln S) (row S a) (row S b) n) t = true) := b01_0.mp c_27
              refine lv_iconst (v := 0) C0.1 C0.2.1 dX4_turnedBy_68 (by decide) ?_
              exact J _ (b0_of (allN_f1 c_27))
            · have c_27 : allN (rq (ln S) (row S a) (row S b) n) t = true := b01_1.mp c_27
              refine lv_aload_n C0.1 C0.2.1 dX4_turnedBy_30 rfl (lv_at hl 0 rfl) ?_
              refine m_geta C0 hK hM 2 (by decide) rfl q634 dX4_turnedBy_31 ?_
              refine lv_bipush (v := 16) C0.1 C0.2.1 dX4_turnedBy_34 (by decide) ?_
              refine lv_iload_n C0.1 C0.2.1 dX4_turnedBy_36 rfl (lv_at hl 2 rfl) ?_
              refine lv_imul C0.1 C0.2.1 dX4_turnedBy_37 ?_
              refine tp_eq (y := nI (16 * b)) (pk_mul 16 b) ?_
              refine lv_iload C0.1 C0.2.1 dX4_turnedBy_38 (lv_at hl 5 rfl) ?_
              refine lv_iload_n C0.1 C0.2.1 dX4_turnedBy_40 rfl (lv_at hl 3 rfl) ?_
              refine lv_iadd C0.1 C0.2.1 dX4_turnedBy_41 ?_
              refine tp_eq (y := nI (t + n)) (nI_add t n) ?_
              refine lv_aload_n C0.1 C0.2.1 dX4_turnedBy_42 rfl (lv_at hl 0 rfl) ?_
              refine m_geti C0 hK hM 0 (by decide) rfl q632 dX4_turnedBy_43 ?_
              refine tp_eq (y := nI (ln S)) (hO.len) ?_
              refine lv_irem C0.1 C0.2.1 dX4_turnedBy_46 (nI_ne0 (by omega) (by omega)) ?_
              refine tp_eq (y := nI ((t + n) % (ln S))) (pk_rem (a := t + n) (d := ln S) (by omega) (by omega) (by omega)) ?_
              refine lv_iadd C0.1 C0.2.1 dX4_turnedBy_47 ?_
              refine tp_eq (y := nI (16 * b + (t + n) % (ln S))) (nI_add (16 * b) ((t + n) % (ln S))) ?_
              refine m_iald C0 hK hM 2 (16 * b + (t + n) % (ln S)) rfl rfl rfl (show 16 * b + (t + n) % (ln S) < 192 from (by have := Nat.mod_lt (t + n) (show 0 < ln S by omega); omega)) (by decide) dX4_turnedBy_48 ?_
              refine lv_aload_n C0.1 C0.2.1 dX4_turnedBy_49 rfl (lv_at hl 0 rfl) ?_
              refine m_geta C0 hK hM 2 (by decide) rfl q634 dX4_turnedBy_50 ?_
              refine lv_bipush (v := 16) C0.1 C0.2.1 dX4_turnedBy_53 (by decide) ?_
              refine lv_iload_n C0.1 C0.2.1 dX4_turnedBy_55 rfl (lv_at hl 1 rfl) ?_
              refine lv_imul C0.1 C0.2.1 dX4_turnedBy_56 ?_
              refine tp_eq (y := nI (16 * a)) (pk_mul 16 a) ?_
              refine lv_iload C0.1 C0.2.1 dX4_turnedBy_57 (lv_at hl 5 rfl) ?_
              refine lv_iadd C0.1 C0.2.1 dX4_turnedBy_59 ?_
              refine tp_eq (y := nI (16 * a + t)) (nI_add (16 * a) t) ?_
              refine m_iald C0 hK hM 2 (16 * a + t) rfl rfl rfl (show 16 * a + t < 192 from (by omega)) (by decide) dX4_turnedBy_60 ?_
              refine lv_icmp_ne (tgt := 68) C0.1 C0.2.1 dX4_turnedBy_61 (by decide) (fun c_61 => ?_) (fun c_61 => ?_)
              · refine lv_iconst (v := 0) C0.1 C0.2.1 dX4_turnedBy_68 (by decide) ?_
                exact J _ (b0_of (allN_f2 (fun z => c_61 (beq_iff_eq.mp z).symm)))
              · refine lv_iconst (v := 1) C0.1 C0.2.1 dX4_turnedBy_64 (by decide) ?_
                refine lv_goto (tgt := 69) C0.1 C0.2.1 dX4_turnedBy_65 (by decide) ?_
                exact J _ (b1_of (allN_s c_27 (beq_iff_eq.mpr c_61.symm)))
set_option maxHeartbeats 4000000 in
theorem mm_smoothOf (l : Launch) (D : va_G) (dA : Nat → ClassId) (am : Nat → Nat) (S : St) (c : Nat) (hO : Ok S) (hc : c < 12) : mCp l yX4_smoothOf cX4_smoothOf 5 (some .int) { frames := 0, cells := 0, slots := 0, locals := 0 } D dA am S [.int (nI c)] (fun r => r = smoothF (ln S) (row S c) (ln S)) := by
  refine m_head (by decide) rfl (Nat.le_of_ble_eq_true rfl) ?_
  intro p e s m below meth cd ls C0 hr hlk hK hM hS hl
  have hl : lv_has ls 5 [(0, .ref (am 0)), (1, .int (nI c))] := hl
  have hl2 := hO.len2
  have hl16 := hO.len16
  refine lv_iconst (v := 0) C0.1 C0.2.1 dX4_smoothOf_0 (by decide) ?_
  refine lv_istore_n (lv' := [(2, .int 0), (0, .ref (am 0)), (1, .int (nI c))]) C0.1 C0.2.1 dX4_smoothOf_1 rfl hl (by decide) rfl (fun ls hl => ?_)
  refine lv_iconst (v := 0) C0.1 C0.2.1 dX4_smoothOf_2 (by decide) ?_
  refine lv_istore_n (lv' := [(3, .int 0), (2, .int 0), (0, .ref (am 0)), (1, .int (nI c))]) C0.1 C0.2.1 dX4_smoothOf_3 rfl hl (by decide) rfl (fun ls hl => ?_)
  refine W_loopP (ln S) (fun i ls => lv_has ls 5 [(0, .ref (am 0)), (1, .int (nI c)), (2, .int (smoothF (ln S) (row S c) i)), (3, .int (nI i))]) 4 ?_ ?_ 0 ls (Nat.zero_le _) (lv_sub hl [2, 3, 1, 0] rfl)
  · intro ls hl
    refine lv_iload_n C0.1 C0.2.1 dX4_smoothOf_4 rfl (lv_at hl 3 rfl) ?_
    refine lv_aload_n C0.1 C0.2.1 dX4_smoothOf_5 rfl (lv_at hl 0 rfl) ?_
    refine m_geti C0 hK hM 0 (by decide) rfl q632 dX4_smoothOf_6 ?_
    refine tp_eq (y := nI (ln S)) (hO.len) ?_
    refine lv_icmp_ge (tgt := 78) C0.1 C0.2.1 dX4_smoothOf_9 (by decide) (fun c_9 => ?_) (fun c_9 => ?_)
    · have n_9 : ln S ≤ ln S := (nI_leI (a := ln S) (b := ln S) (by omega) (by omega)).mp c_9
      refine lv_iload_n C0.1 C0.2.1 dX4_smoothOf_78 rfl (lv_at hl 2 rfl) ?_
      exact m_iret C0 hr hlk rfl dX4_smoothOf_79
    · have n_9 : ¬ ln S ≤ ln S := fun z => c_9 ((nI_leI (a := ln S) (b := ln S) (by omega) (by omega)).mpr z)
      omega
  · intro i ls hi hl K4
    refine lv_iload_n C0.1 C0.2.1 dX4_smoothOf_4 rfl (lv_at hl 3 rfl) ?_
    refine lv_aload_n C0.1 C0.2.1 dX4_smoothOf_5 rfl (lv_at hl 0 rfl) ?_
    refine m_geti C0 hK hM 0 (by decide) rfl q632 dX4_smoothOf_6 ?_
    refine tp_eq (y := nI (ln S)) (hO.len) ?_
    refine lv_icmp_ge (tgt := 78) C0.1 C0.2.1 dX4_smoothOf_9 (by decide) (fun c_9 => ?_) (fun c_9 => ?_)
    · have n_9 : ln S ≤ i := (nI_leI (a := ln S) (b := i) (by omega) (by omega)).mp c_9
      omega
    · have n_9 : ¬ ln S ≤ i := fun z => c_9 ((nI_leI (a := ln S) (b := i) (by omega) (by omega)).mpr z)
      refine lv_aload_n C0.1 C0.2.1 dX4_smoothOf_12 rfl (lv_at hl 0 rfl) ?_
      refine m_geta C0 hK hM 2 (by decide) rfl q634 dX4_smoothOf_13 ?_
      refine lv_bipush (v := 16) C0.1 C0.2.1 dX4_smoothOf_16 (by decide) ?_
      refine lv_iload_n C0.1 C0.2.1 dX4_smoothOf_18 rfl (lv_at hl 1 rfl) ?_
      refine lv_imul C0.1 C0.2.1 dX4_smoothOf_19 ?_
      refine tp_eq (y := nI (16 * c)) (pk_mul 16 c) ?_
      refine lv_iload_n C0.1 C0.2.1 dX4_smoothOf_20 rfl (lv_at hl 3 rfl) ?_
      refine lv_iadd C0.1 C0.2.1 dX4_smoothOf_21 ?_
      refine tp_eq (y := nI (16 * c + i)) (nI_add (16 * c) i) ?_
      refine m_iald C0 hK hM 2 (16 * c + i) rfl rfl rfl (show 16 * c + i < 192 from (by omega)) (by decide) dX4_smoothOf_22 ?_
      refine lv_aload_n C0.1 C0.2.1 dX4_smoothOf_23 rfl (lv_at hl 0 rfl) ?_
      refine m_geta C0 hK hM 2 (by decide) rfl q634 dX4_smoothOf_24 ?_
      refine lv_bipush (v := 16) C0.1 C0.2.1 dX4_smoothOf_27 (by decide) ?_
      refine lv_iload_n C0.1 C0.2.1 dX4_smoothOf_29 rfl (lv_at hl 1 rfl) ?_
      refine lv_imul C0.1 C0.2.1 dX4_smoothOf_30 ?_
      refine tp_eq (y := nI (16 * c)) (pk_mul 16 c) ?_
      refine lv_iload_n C0.1 C0.2.1 dX4_smoothOf_31 rfl (lv_at hl 3 rfl) ?_
      refine lv_iconst (v := 1) C0.1 C0.2.1 dX4_smoothOf_32 (by decide) ?_
      refine lv_iadd C0.1 C0.2.1 dX4_smoothOf_33 ?_
      refine tp_eq (y := nI (i + 1)) (nI_1 i) ?_
      refine lv_aload_n C0.1 C0.2.1 dX4_smoothOf_34 rfl (lv_at hl 0 rfl) ?_
      refine m_geti C0 hK hM 0 (by decide) rfl q632 dX4_smoothOf_35 ?_
      refine tp_eq (y := nI (ln S)) (hO.len) ?_
      refine lv_irem C0.1 C0.2.1 dX4_smoothOf_38 (nI_ne0 (by omega) (by omega)) ?_
      refine tp_eq (y := nI ((i + 1) % (ln S))) (pk_rem (a := i + 1) (d := ln S) (by omega) (by omega) (by omega)) ?_
      refine lv_iadd C0.1 C0.2.1 dX4_smoothOf_39 ?_
      refine tp_eq (y := nI (16 * c + (i + 1) % (ln S))) (nI_add (16 * c) ((i + 1) % (ln S))) ?_
      refine m_iald C0 hK hM 2 (16 * c + (i + 1) % (ln S)) rfl rfl rfl (show 16 * c + (i + 1) % (ln S) < 192 from (by have := Nat.mod_lt (i + 1) (show 0 < ln S by omega); omega)) (by decide) dX4_smoothOf_40 ?_
      refine lv_isub C0.1 C0.2.1 dX4_smoothOf_41 ?_
      refine tp_eq (y := (S 2 (16 * c + i) - S 2 (16 * c + (i + 1) % ln S))) (rfl) ?_
      refine lv_istore (lv' := [(4, .int (S 2 (16 * c + i) - S 2 (16 * c + (i + 1) % ln S))), (0, .ref (am 0)), (1, .int (nI c)), (2, .int (smoothF (ln S) (row S c) i)), (3, .int (nI i))]) C0.1 C0.2.1 dX4_smoothOf_42 hl (by decide) rfl (fun ls hl => ?_)
      refine jn_i 57 [] (fun v => v = iabs (S 2 (16 * c + i) - S 2 (16 * c + (i + 1) % ln S))) (fun v hv => ?_) (fun J => ?_)
      · subst hv
        refine lv_istore (lv' := [(4, .int (iabs (S 2 (16 * c + i) - S 2 (16 * c + (i + 1) % ln S)))), (0, .ref (am 0)), (1, .int (nI c)), (2, .int (smoothF (ln S) (row S c) i)), (3, .int (nI i))]) C0.1 C0.2.1 dX4_smoothOf_57 hl (by decide) rfl (fun ls hl => ?_)
        refine jn_i 71 [] (fun v => v = smoothF (ln S) (row S c) (i + 1)) (fun v hv => ?_) (fun J => ?_)
        · subst hv
          refine lv_istore_n (lv' := [(2, .int (smoothF (ln S) (row S c) (i + 1))), (4, .int (iabs (S 2 (16 * c + i) - S 2 (16 * c + (i + 1) % ln S)))), (0, .ref (am 0)), (1, .int (nI c)), (3, .int (nI i))]) C0.1 C0.2.1 dX4_smoothOf_71 rfl hl (by decide) rfl (fun ls hl => ?_)
          refine lv_iinc (v := nI (i + 1)) (lv' := [(3, .int (nI (i + 1))), (2, .int (smoothF (ln S) (row S c) (i + 1))), (4, .int (iabs (S 2 (16 * c + i) - S 2 (16 * c + (i + 1) % ln S)))), (0, .ref (am 0)), (1, .int (nI c))]) C0.1 C0.2.1 dX4_smoothOf_72 hl (k := 4) rfl (nI_1 i) (by decide) rfl (fun ls hl => ?_)
          refine lv_goto (tgt := 4) C0.1 C0.2.1 dX4_smoothOf_75 (by decide) ?_
          exact K4 ls (lv_sub hl [3, 4, 1, 0] rfl)
        · refine lv_iload C0.1 C0.2.1 dX4_smoothOf_59 (lv_at hl 0 rfl) ?_
          refine lv_iload_n C0.1 C0.2.1 dX4_smoothOf_61 rfl (lv_at hl 3 rfl) ?_
          refine lv_icmp_le (tgt := 70) C0.1 C0.2.1 dX4_smoothOf_62 (by decide) (fun c_62 => ?_) (fun c_62 => ?_)
          · refine lv_iload_n C0.1 C0.2.1 dX4_smoothOf_70 rfl (lv_at hl 3 rfl) ?_
            exact J _ ((if_neg (Int32.not_lt.mpr c_62)).symm)
          · refine lv_iload C0.1 C0.2.1 dX4_smoothOf_65 (lv_at hl 0 rfl) ?_
            refine lv_goto (tgt := 71) C0.1 C0.2.1 dX4_smoothOf_67 (by decide) ?_
            exact J _ ((if_pos (Int32.not_le.mp c_62)).symm)
      · refine lv_iload C0.1 C0.2.1 dX4_smoothOf_44 (lv_at hl 0 rfl) ?_
        refine lv_if_ge (tgt := 55) C0.1 C0.2.1 dX4_smoothOf_46 (by decide) (fun c_46 => ?_) (fun c_46 => ?_)
        · refine lv_iload C0.1 C0.2.1 dX4_smoothOf_55 (lv_at hl 0 rfl) ?_
          exact J _ ((if_neg (Int32.not_lt.mpr c_46)).symm)
        · refine lv_iload C0.1 C0.2.1 dX4_smoothOf_49 (lv_at hl 0 rfl) ?_
          refine lv_ineg C0.1 C0.2.1 dX4_smoothOf_51 ?_
          refine lv_goto (tgt := 57) C0.1 C0.2.1 dX4_smoothOf_52 (by decide) ?_
          exact J _ ((if_pos (Int32.not_le.mp c_46)).symm)
set_option maxHeartbeats 4000000 in
theorem mm_copy (l : Launch) (D : va_G) (dA : Nat → ClassId) (am : Nat → Nat) (S : St) (p0 p1 p2 p3 p4 : Int32) (hO : Ok S) : mCi l yX4_copy cX4_copy 7 (some .int) { frames := 2, cells := 0, slots := 0, locals := 42 } D dA am S [.int p0, .int p1, .int p2, .int p3, .int p4] (fun r S' => PB (sp_copy S p0 p1 p2 p3 p4) r S') := by
  refine m_head (by decide) rfl (Nat.le_of_ble_eq_true rfl) ?_
  intro p e s m below meth cd ls C0 hr hlk hK hM hS hl
  have hl : lv_has ls 7 [(0, .ref (am 0)), (1, .int p0), (2, .int p1), (3, .int p2), (4, .int p3), (5, .int p4)] := hl
  have hl2 := hO.len2
  have hl16 := hO.len16
  refine lv_iload_n C0.1 C0.2.1 dX4_copy_0 rfl (lv_at hl 1 rfl) ?_
  refine st_call C0 (mm_isCam l p0) 1 (lw_S q741 q742 q43 q743) rfl rfl hdd_isCam ⟨(Nat.le_of_ble_eq_true rfl), (Nat.le_of_ble_eq_true rfl)⟩ rfl hl.1 rfl (Nat.le_of_ble_eq_true rfl) dX4_copy_1 ⟨(Nat.le_of_ble_eq_true rfl), (Nat.le_of_ble_eq_true rfl)⟩ (fun r hr => ?_)
  subst hr
  refine lv_if_eq (tgt := 14) C0.1 C0.2.1 dX4_copy_4 (by decide) (fun c_4 => ?_) (fun c_4 => ?_)
  · have c_4 : ¬ ((inR p0 12).isSome = true) := b01_0.mp c_4
    refine lv_aload_n C0.1 C0.2.1 dX4_copy_14 rfl (lv_at hl 0 rfl) ?_
    refine lv_iconst (v := (-1)) C0.1 C0.2.1 dX4_copy_15 (by decide) ?_
    refine m_ci C0 hK hM hS (fun _ h => h) (mm_refuse l D dA am S 1 (by omega)) 1 (lw_V q733 q735 qs18 q43 q736) rfl rfl hdd_refuse ⟨(Nat.le_of_ble_eq_true rfl), (Nat.le_of_ble_eq_true rfl)⟩ rfl hl.1 rfl (Nat.le_of_ble_eq_true rfl) dX4_copy_16 ⟨(Nat.le_of_ble_eq_true rfl), (Nat.le_of_ble_eq_true rfl)⟩ (fun r S' H locs hr hM hS _ => ?_)
    obtain ⟨rfl, rfl⟩ := hr
    exact m_iretS C0 hr hlk hM hS (PB.of (copy_1 (inR_none c_4))) dX4_copy_19
  · have c_4 : (inR p0 12).isSome = true := b01_1.mp c_4
    refine lv_iload_n C0.1 C0.2.1 dX4_copy_7 rfl (lv_at hl 3 rfl) ?_
    refine st_call C0 (mm_isCam l p2) 1 (lw_S q741 q742 q43 q743) rfl rfl hdd_isCam ⟨(Nat.le_of_ble_eq_true rfl), (Nat.le_of_ble_eq_true rfl)⟩ rfl hl.1 rfl (Nat.le_of_ble_eq_true rfl) dX4_copy_8 ⟨(Nat.le_of_ble_eq_true rfl), (Nat.le_of_ble_eq_true rfl)⟩ (fun r hr => ?_)
    subst hr
    refine lv_if_ne (tgt := 20) C0.1 C0.2.1 dX4_copy_11 (by decide) (fun c_11 => ?_) (fun c_11 => ?_)
    · have c_11 : (inR p2 12).isSome = true := b01_1.mp c_11
      obtain ⟨x, hx, bx, rfl⟩ := inR_get c_4 (by decide)
      obtain ⟨y, hy, b_y, rfl⟩ := inR_get c_11 (by decide)
      refine lv_aload_n C0.1 C0.2.1 dX4_copy_20 rfl (lv_at hl 0 rfl) ?_
      refine m_geta C0 hK hM 1 (by decide) rfl q633 dX4_copy_21 ?_
      refine lv_iload_n C0.1 C0.2.1 dX4_copy_24 rfl (lv_at hl 1 rfl) ?_
      refine m_zald C0 hK hM 1 x rfl rfl rfl (show x < 12 from (by omega)) (by decide) dX4_copy_25 ?_
      refine lv_if_eq (tgt := 38) C0.1 C0.2.1 dX4_copy_26 (by decide) (fun c_26 => ?_) (fun c_26 => ?_)
      · refine lv_aload_n C0.1 C0.2.1 dX4_copy_38 rfl (lv_at hl 0 rfl) ?_
        refine lv_bipush (v := (-5)) C0.1 C0.2.1 dX4_copy_39 (by decide) ?_
        refine m_ci C0 hK hM hS (fun _ h => h) (mm_refuse l D dA am S 5 (by omega)) 1 (lw_V q733 q735 qs18 q43 q736) rfl rfl hdd_refuse ⟨(Nat.le_of_ble_eq_true rfl), (Nat.le_of_ble_eq_true rfl)⟩ rfl hl.1 rfl (Nat.le_of_ble_eq_true rfl) dX4_copy_41 ⟨(Nat.le_of_ble_eq_true rfl), (Nat.le_of_ble_eq_true rfl)⟩ (fun r S' H locs hr hM hS _ => ?_)
        obtain ⟨rfl, rfl⟩ := hr
        exact m_iretS C0 hr hlk hM hS (PB.of (copy_3 hx hy (Or.inl c_26))) dX4_copy_44
      · refine lv_aload_n C0.1 C0.2.1 dX4_copy_29 rfl (lv_at hl 0 rfl) ?_
        refine m_geta C0 hK hM 1 (by decide) rfl q633 dX4_copy_30 ?_
        refine lv_iload_n C0.1 C0.2.1 dX4_copy_33 rfl (lv_at hl 3 rfl) ?_
        refine m_zald C0 hK hM 1 y rfl rfl rfl (show y < 12 from (by omega)) (by decide) dX4_copy_34 ?_
        refine lv_if_ne (tgt := 45) C0.1 C0.2.1 dX4_copy_35 (by decide) (fun c_35 => ?_) (fun c_35 => ?_)
        · refine lv_iload C0.1 C0.2.1 dX4_copy_45 (lv_at hl 5 rfl) ?_
          refine lv_if_lt (tgt := 91) C0.1 C0.2.1 dX4_copy_47 (by decide) (fun c_47 => ?_) (fun c_47 => ?_)
          · refine lv_aload_n C0.1 C0.2.1 dX4_copy_91 rfl (lv_at hl 0 rfl) ?_
            refine lv_bipush (v := (-7)) C0.1 C0.2.1 dX4_copy_92 (by decide) ?_
            refine m_ci C0 hK hM hS (fun _ h => h) (mm_refuse l D dA am S 7 (by omega)) 1 (lw_V q733 q735 qs18 q43 q736) rfl rfl hdd_refuse ⟨(Nat.le_of_ble_eq_true rfl), (Nat.le_of_ble_eq_true rfl)⟩ rfl hl.1 rfl (Nat.le_of_ble_eq_true rfl) dX4_copy_94 ⟨(Nat.le_of_ble_eq_true rfl), (Nat.le_of_ble_eq_true rfl)⟩ (fun r S' H locs hr hM hS _ => ?_)
            obtain ⟨rfl, rfl⟩ := hr
            exact m_iretS C0 hr hlk hM hS (PB.of (copy_4 hx hy c_26 c_35 (cpOk_n c_47))) dX4_copy_97
          · refine lv_iload C0.1 C0.2.1 dX4_copy_50 (lv_at hl 5 rfl) ?_
            refine lv_aload_n C0.1 C0.2.1 dX4_copy_52 rfl (lv_at hl 0 rfl) ?_
            refine m_geti C0 hK hM 0 (by decide) rfl q632 dX4_copy_53 ?_
            refine tp_eq (y := nI (ln S)) (hO.len) ?_
            refine lv_icmp_gt (tgt := 91) C0.1 C0.2.1 dX4_copy_56 (by decide) (fun c_56 => ?_) (fun c_56 => ?_)
            · refine lv_aload_n C0.1 C0.2.1 dX4_copy_91 rfl (lv_at hl 0 rfl) ?_
              refine lv_bipush (v := (-7)) C0.1 C0.2.1 dX4_copy_92 (by decide) ?_
              refine m_ci C0 hK hM hS (fun _ h => h) (mm_refuse l D dA am S 7 (by omega)) 1 (lw_V q733 q735 qs18 q43 q736) rfl rfl hdd_refuse ⟨(Nat.le_of_ble_eq_true rfl), (Nat.le_of_ble_eq_true rfl)⟩ rfl hl.1 rfl (Nat.le_of_ble_eq_true rfl) dX4_copy_94 ⟨(Nat.le_of_ble_eq_true rfl), (Nat.le_of_ble_eq_true rfl)⟩ (fun r S' H locs hr hM hS _ => ?_)
              obtain ⟨rfl, rfl⟩ := hr
              exact m_iretS C0 hr hlk hM hS (PB.of (copy_4 hx hy c_26 c_35 (cpOk_l hO.len16 c_56))) dX4_copy_97
            · refine lv_iload_n C0.1 C0.2.1 dX4_copy_59 rfl (lv_at hl 2 rfl) ?_
              refine lv_if_lt (tgt := 91) C0.1 C0.2.1 dX4_copy_60 (by decide) (fun c_60 => ?_) (fun c_60 => ?_)
              · refine lv_aload_n C0.1 C0.2.1 dX4_copy_91 rfl (lv_at hl 0 rfl) ?_
                refine lv_bipush (v := (-7)) C0.1 C0.2.1 dX4_copy_92 (by decide) ?_
                refine m_ci C0 hK hM hS (fun _ h => h) (mm_refuse l D dA am S 7 (by omega)) 1 (lw_V q733 q735 qs18 q43 q736) rfl rfl hdd_refuse ⟨(Nat.le_of_ble_eq_true rfl), (Nat.le_of_ble_eq_true rfl)⟩ rfl hl.1 rfl (Nat.le_of_ble_eq_true rfl) dX4_copy_94 ⟨(Nat.le_of_ble_eq_true rfl), (Nat.le_of_ble_eq_true rfl)⟩ (fun r S' H locs hr hM hS _ => ?_)
                obtain ⟨rfl, rfl⟩ := hr
                exact m_iretS C0 hr hlk hM hS (PB.of (copy_4 hx hy c_26 c_35 (cpOk_i c_60))) dX4_copy_97
              · refine lv_iload C0.1 C0.2.1 dX4_copy_63 (lv_at hl 4 rfl) ?_
                refine lv_if_lt (tgt := 91) C0.1 C0.2.1 dX4_copy_65 (by decide) (fun c_65 => ?_) (fun c_65 => ?_)
                · refine lv_aload_n C0.1 C0.2.1 dX4_copy_91 rfl (lv_at hl 0 rfl) ?_
                  refine lv_bipush (v := (-7)) C0.1 C0.2.1 dX4_copy_92 (by decide) ?_
                  refine m_ci C0 hK hM hS (fun _ h => h) (mm_refuse l D dA am S 7 (by omega)) 1 (lw_V q733 q735 qs18 q43 q736) rfl rfl hdd_refuse ⟨(Nat.le_of_ble_eq_true rfl), (Nat.le_of_ble_eq_true rfl)⟩ rfl hl.1 rfl (Nat.le_of_ble_eq_true rfl) dX4_copy_94 ⟨(Nat.le_of_ble_eq_true rfl), (Nat.le_of_ble_eq_true rfl)⟩ (fun r S' H locs hr hM hS _ => ?_)
                  obtain ⟨rfl, rfl⟩ := hr
                  exact m_iretS C0 hr hlk hM hS (PB.of (copy_4 hx hy c_26 c_35 (cpOk_j c_65))) dX4_copy_97
                · refine lv_iload_n C0.1 C0.2.1 dX4_copy_68 rfl (lv_at hl 2 rfl) ?_
                  refine lv_aload_n C0.1 C0.2.1 dX4_copy_69 rfl (lv_at hl 0 rfl) ?_
                  refine m_geti C0 hK hM 0 (by decide) rfl q632 dX4_copy_70 ?_
                  refine tp_eq (y := nI (ln S)) (hO.len) ?_
                  refine lv_iload C0.1 C0.2.1 dX4_copy_73 (lv_at hl 5 rfl) ?_
                  refine lv_isub C0.1 C0.2.1 dX4_copy_75 ?_
                  refine lv_icmp_gt (tgt := 91) C0.1 C0.2.1 dX4_copy_76 (by decide) (fun c_76 => ?_) (fun c_76 => ?_)
                  · refine lv_aload_n C0.1 C0.2.1 dX4_copy_91 rfl (lv_at hl 0 rfl) ?_
                    refine lv_bipush (v := (-7)) C0.1 C0.2.1 dX4_copy_92 (by decide) ?_
                    refine m_ci C0 hK hM hS (fun _ h => h) (mm_refuse l D dA am S 7 (by omega)) 1 (lw_V q733 q735 qs18 q43 q736) rfl rfl hdd_refuse ⟨(Nat.le_of_ble_eq_true rfl), (Nat.le_of_ble_eq_true rfl)⟩ rfl hl.1 rfl (Nat.le_of_ble_eq_true rfl) dX4_copy_94 ⟨(Nat.le_of_ble_eq_true rfl), (Nat.le_of_ble_eq_true rfl)⟩ (fun r S' H locs hr hM hS _ => ?_)
                    obtain ⟨rfl, rfl⟩ := hr
                    exact m_iretS C0 hr hlk hM hS (PB.of (copy_4 hx hy c_26 c_35 (cpOk_ii hO.len16 c_76))) dX4_copy_97
                  · refine lv_iload C0.1 C0.2.1 dX4_copy_79 (lv_at hl 4 rfl) ?_
                    refine lv_aload_n C0.1 C0.2.1 dX4_copy_81 rfl (lv_at hl 0 rfl) ?_
                    refine m_geti C0 hK hM 0 (by decide) rfl q632 dX4_copy_82 ?_
                    refine tp_eq (y := nI (ln S)) (hO.len) ?_
                    refine lv_iload C0.1 C0.2.1 dX4_copy_85 (lv_at hl 5 rfl) ?_
                    refine lv_isub C0.1 C0.2.1 dX4_copy_87 ?_
                    refine lv_icmp_le (tgt := 98) C0.1 C0.2.1 dX4_copy_88 (by decide) (fun c_88 => ?_) (fun c_88 => ?_)
                    · have hcp := cpOk_of hO.len16 c_47 c_60 c_65 c_76 c_88
                      obtain ⟨nn, ii, jj, rfl, rfl, rfl, hin, hjn⟩ := cpOk_get hcp
                      refine lv_iconst (v := 0) C0.1 C0.2.1 dX4_copy_98 (by decide) ?_
                      refine lv_istore (lv' := [(6, .int 0), (0, .ref (am 0)), (1, .int (nI x)), (2, .int (nI ii)), (3, .int (nI y)), (4, .int (nI jj)), (5, .int (nI nn))]) C0.1 C0.2.1 dX4_copy_99 hl (by decide) rfl (fun ls hl => ?_)
                      refine W_loop nn (fun k H locs ls => MP D dA am (cpT S (16 * x + ii) k) H ∧ va_S (MA am) s.heap H locs ∧ lv_has ls 7 [(0, .ref (am 0)), (1, .int (nI x)), (2, .int (nI ii)), (3, .int (nI y)), (4, .int (nI jj)), (5, .int (nI nn)), (6, .int (nI k))]) 101 ?_ ?_ 0 _ _ ls (Nat.zero_le _) ⟨(by rw [show cpT S (16 * x + ii) 0 = S from put_id S 23]; exact hM), hS, lv_sub hl [1, 2, 3, 4, 5, 6, 0] rfl⟩
                      · intro H locs ls ⟨hM, hS, hl⟩
                        refine lv_iload C0.1 C0.2.1 dX4_copy_101 (lv_at hl 6 rfl) ?_
                        refine lv_iload C0.1 C0.2.1 dX4_copy_103 (lv_at hl 5 rfl) ?_
                        refine lv_icmp_ge (tgt := 135) C0.1 C0.2.1 dX4_copy_105 (by decide) (fun c_105 => ?_) (fun c_105 => ?_)
                        · have n_105 : nn ≤ nn := (nI_leI (a := nn) (b := nn) (by omega) (by omega)).mp c_105
                          refine lv_iconst (v := 0) C0.1 C0.2.1 dX4_copy_135 (by decide) ?_
                          refine lv_istore (lv' := [(6, .int 0), (0, .ref (am 0)), (1, .int (nI x)), (2, .int (nI ii)), (3, .int (nI y)), (4, .int (nI jj)), (5, .int (nI nn))]) C0.1 C0.2.1 dX4_copy_136 hl (by decide) rfl (fun ls hl => ?_)
                          refine W_loop nn (fun k H locs ls => MP D dA am (cpU S (16 * x + ii) nn (16 * y + jj) k) H ∧ va_S (MA am) s.heap H locs ∧ lv_has ls 7 [(0, .ref (am 0)), (1, .int (nI x)), (2, .int (nI ii)), (3, .int (nI y)), (4, .int (nI jj)), (5, .int (nI nn)), (6, .int (nI k))]) 138 ?_ ?_ 0 _ _ ls (Nat.zero_le _) ⟨(by rw [cpU_0]; exact hM), hS, lv_sub hl [1, 2, 3, 4, 5, 6, 0] rfl⟩
                          · intro H locs ls ⟨hM, hS, hl⟩
                            refine lv_iload C0.1 C0.2.1 dX4_copy_138 (lv_at hl 6 rfl) ?_
                            refine lv_iload C0.1 C0.2.1 dX4_copy_140 (lv_at hl 5 rfl) ?_
                            refine lv_icmp_ge (tgt := 173) C0.1 C0.2.1 dX4_copy_142 (by decide) (fun c_142 => ?_) (fun c_142 => ?_)
                            · have n_142 : nn ≤ nn := (nI_leI (a := nn) (b := nn) (by omega) (by omega)).mp c_142
                              refine lv_iload C0.1 C0.2.1 dX4_copy_173 (lv_at hl 5 rfl) ?_
                              exact m_iretS C0 hr hlk hM hS (PB.sh (copy_5 hx hy c_26 c_35 hcp (by omega) (by omega) (by omega)) (cp_fin _ _ _ _)) dX4_copy_175
                            · have n_142 : ¬ nn ≤ nn := fun z => c_142 ((nI_leI (a := nn) (b := nn) (by omega) (by omega)).mpr z)
                              omega
                          · intro k H locs ls hk ⟨hM, hS, hl⟩ K138
                            refine lv_iload C0.1 C0.2.1 dX4_copy_138 (lv_at hl 6 rfl) ?_
                            refine lv_iload C0.1 C0.2.1 dX4_copy_140 (lv_at hl 5 rfl) ?_
                            refine lv_icmp_ge (tgt := 173) C0.1 C0.2.1 dX4_copy_142 (by decide) (fun c_142 => ?_) (fun c_142 => ?_)
                            · have n_142 : nn ≤ k := (nI_leI (a := nn) (b := k) (by omega) (by omega)).mp c_142
                              omega
                            · have n_142 : ¬ nn ≤ k := fun z => c_142 ((nI_leI (a := nn) (b := k) (by omega) (by omega)).mpr z)
                              refine lv_aload_n C0.1 C0.2.1 dX4_copy_145 rfl (lv_at hl 0 rfl) ?_
                              refine m_geta C0 hK hM 2 (by decide) rfl q634 dX4_copy_146 ?_
                              refine lv_bipush (v := 16) C0.1 C0.2.1 dX4_copy_149 (by decide) ?_
                              refine lv_iload_n C0.1 C0.2.1 dX4_copy_151 rfl (lv_at hl 3 rfl) ?_
                              refine lv_imul C0.1 C0.2.1 dX4_copy_152 ?_
                              refine tp_eq (y := nI (16 * y)) (pk_mul 16 y) ?_
                              refine lv_iload C0.1 C0.2.1 dX4_copy_153 (lv_at hl 4 rfl) ?_
                              refine lv_iadd C0.1 C0.2.1 dX4_copy_155 ?_
                              refine tp_eq (y := nI (16 * y + jj)) (nI_add (16 * y) jj) ?_
                              refine lv_iload C0.1 C0.2.1 dX4_copy_156 (lv_at hl 6 rfl) ?_
                              refine lv_iadd C0.1 C0.2.1 dX4_copy_158 ?_
                              refine tp_eq (y := nI (16 * y + jj + k)) (nI_add (16 * y + jj) k) ?_
                              refine lv_aload_n C0.1 C0.2.1 dX4_copy_159 rfl (lv_at hl 0 rfl) ?_
                              refine m_geta C0 hK hM 23 (by decide) rfl q655 dX4_copy_160 ?_
                              refine lv_iload C0.1 C0.2.1 dX4_copy_163 (lv_at hl 6 rfl) ?_
                              refine m_iald C0 hK hM 23 k rfl rfl rfl (show k < 16 from (by omega)) (by decide) dX4_copy_165 ?_
                              refine tp_eq (y := cpT S (16 * x + ii) nn 23 k) (by rw [cpU_23]) ?_
                              refine m_iast C0 hK hM hS 2 (16 * y + jj + k) rfl rfl rfl (show 16 * y + jj + k < 192 from (by omega)) (by decide) dX4_copy_166 (fun H locs hM hS => ?_)
                              refine lv_iinc (v := nI (k + 1)) (lv' := [(6, .int (nI (k + 1))), (0, .ref (am 0)), (1, .int (nI x)), (2, .int (nI ii)), (3, .int (nI y)), (4, .int (nI jj)), (5, .int (nI nn))]) C0.1 C0.2.1 dX4_copy_167 hl (k := 6) rfl (nI_1 k) (by decide) rfl (fun ls hl => ?_)
                              refine lv_goto (tgt := 138) C0.1 C0.2.1 dX4_copy_170 (by decide) ?_
                              have hM : MP D dA am (cpU S (16 * x + ii) nn (16 * y + jj) (k + 1)) H := by
                                rw [← cpU_s]; exact hM
                              exact K138 _ _ ls ⟨hM, hS, lv_sub hl [1, 2, 3, 4, 5, 6, 0] rfl⟩
                        · have n_105 : ¬ nn ≤ nn := fun z => c_105 ((nI_leI (a := nn) (b := nn) (by omega) (by omega)).mpr z)
                          omega
                      · intro k H locs ls hk ⟨hM, hS, hl⟩ K101
                        refine lv_iload C0.1 C0.2.1 dX4_copy_101 (lv_at hl 6 rfl) ?_
                        refine lv_iload C0.1 C0.2.1 dX4_copy_103 (lv_at hl 5 rfl) ?_
                        refine lv_icmp_ge (tgt := 135) C0.1 C0.2.1 dX4_copy_105 (by decide) (fun c_105 => ?_) (fun c_105 => ?_)
                        · have n_105 : nn ≤ k := (nI_leI (a := nn) (b := k) (by omega) (by omega)).mp c_105
                          omega
                        · have n_105 : ¬ nn ≤ k := fun z => c_105 ((nI_leI (a := nn) (b := k) (by omega) (by omega)).mpr z)
                          refine lv_aload_n C0.1 C0.2.1 dX4_copy_108 rfl (lv_at hl 0 rfl) ?_
                          refine m_geta C0 hK hM 23 (by decide) rfl q655 dX4_copy_109 ?_
                          refine lv_iload C0.1 C0.2.1 dX4_copy_112 (lv_at hl 6 rfl) ?_
                          refine lv_aload_n C0.1 C0.2.1 dX4_copy_114 rfl (lv_at hl 0 rfl) ?_
                          refine m_geta C0 hK hM 2 (by decide) rfl q634 dX4_copy_115 ?_
                          refine lv_bipush (v := 16) C0.1 C0.2.1 dX4_copy_118 (by decide) ?_
                          refine lv_iload_n C0.1 C0.2.1 dX4_copy_120 rfl (lv_at hl 1 rfl) ?_
                          refine lv_imul C0.1 C0.2.1 dX4_copy_121 ?_
                          refine tp_eq (y := nI (16 * x)) (pk_mul 16 x) ?_
                          refine lv_iload_n C0.1 C0.2.1 dX4_copy_122 rfl (lv_at hl 2 rfl) ?_
                          refine lv_iadd C0.1 C0.2.1 dX4_copy_123 ?_
                          refine tp_eq (y := nI (16 * x + ii)) (nI_add (16 * x) ii) ?_
                          refine lv_iload C0.1 C0.2.1 dX4_copy_124 (lv_at hl 6 rfl) ?_
                          refine lv_iadd C0.1 C0.2.1 dX4_copy_126 ?_
                          refine tp_eq (y := nI (16 * x + ii + k)) (nI_add (16 * x + ii) k) ?_
                          refine m_iald C0 hK hM 2 (16 * x + ii + k) rfl rfl rfl (show 16 * x + ii + k < 192 from (by omega)) (by decide) dX4_copy_127 ?_
                          refine tp_eq (y := S 2 (16 * x + ii + k)) (by rw [cpT_k _ _ _ (by decide)]) ?_
                          refine m_iast C0 hK hM hS 23 k rfl rfl rfl (show k < 16 from (by omega)) (by decide) dX4_copy_128 (fun H locs hM hS => ?_)
                          refine lv_iinc (v := nI (k + 1)) (lv' := [(6, .int (nI (k + 1))), (0, .ref (am 0)), (1, .int (nI x)), (2, .int (nI ii)), (3, .int (nI y)), (4, .int (nI jj)), (5, .int (nI nn))]) C0.1 C0.2.1 dX4_copy_129 hl (k := 6) rfl (nI_1 k) (by decide) rfl (fun ls hl => ?_)
                          refine lv_goto (tgt := 101) C0.1 C0.2.1 dX4_copy_132 (by decide) ?_
                          have hM : MP D dA am (cpT S (16 * x + ii) (k + 1)) H := by
                            rw [← cpT_s]; exact hM
                          exact K101 _ _ ls ⟨hM, hS, lv_sub hl [1, 2, 3, 4, 5, 6, 0] rfl⟩
                    · refine lv_aload_n C0.1 C0.2.1 dX4_copy_91 rfl (lv_at hl 0 rfl) ?_
                      refine lv_bipush (v := (-7)) C0.1 C0.2.1 dX4_copy_92 (by decide) ?_
                      refine m_ci C0 hK hM hS (fun _ h => h) (mm_refuse l D dA am S 7 (by omega)) 1 (lw_V q733 q735 qs18 q43 q736) rfl rfl hdd_refuse ⟨(Nat.le_of_ble_eq_true rfl), (Nat.le_of_ble_eq_true rfl)⟩ rfl hl.1 rfl (Nat.le_of_ble_eq_true rfl) dX4_copy_94 ⟨(Nat.le_of_ble_eq_true rfl), (Nat.le_of_ble_eq_true rfl)⟩ (fun r S' H locs hr hM hS _ => ?_)
                      obtain ⟨rfl, rfl⟩ := hr
                      exact m_iretS C0 hr hlk hM hS (PB.of (copy_4 hx hy c_26 c_35 (cpOk_jj hO.len16 c_88))) dX4_copy_97
        · refine lv_aload_n C0.1 C0.2.1 dX4_copy_38 rfl (lv_at hl 0 rfl) ?_
          refine lv_bipush (v := (-5)) C0.1 C0.2.1 dX4_copy_39 (by decide) ?_
          refine m_ci C0 hK hM hS (fun _ h => h) (mm_refuse l D dA am S 5 (by omega)) 1 (lw_V q733 q735 qs18 q43 q736) rfl rfl hdd_refuse ⟨(Nat.le_of_ble_eq_true rfl), (Nat.le_of_ble_eq_true rfl)⟩ rfl hl.1 rfl (Nat.le_of_ble_eq_true rfl) dX4_copy_41 ⟨(Nat.le_of_ble_eq_true rfl), (Nat.le_of_ble_eq_true rfl)⟩ (fun r S' H locs hr hM hS _ => ?_)
          obtain ⟨rfl, rfl⟩ := hr
          exact m_iretS C0 hr hlk hM hS (PB.of (copy_3 hx hy (Or.inr c_35))) dX4_copy_44
    · have c_11 : ¬ ((inR p2 12).isSome = true) := b01_0.mp c_11
      refine lv_aload_n C0.1 C0.2.1 dX4_copy_14 rfl (lv_at hl 0 rfl) ?_
      refine lv_iconst (v := (-1)) C0.1 C0.2.1 dX4_copy_15 (by decide) ?_
      refine m_ci C0 hK hM hS (fun _ h => h) (mm_refuse l D dA am S 1 (by omega)) 1 (lw_V q733 q735 qs18 q43 q736) rfl rfl hdd_refuse ⟨(Nat.le_of_ble_eq_true rfl), (Nat.le_of_ble_eq_true rfl)⟩ rfl hl.1 rfl (Nat.le_of_ble_eq_true rfl) dX4_copy_16 ⟨(Nat.le_of_ble_eq_true rfl), (Nat.le_of_ble_eq_true rfl)⟩ (fun r S' H locs hr hM hS _ => ?_)
      obtain ⟨rfl, rfl⟩ := hr
      exact m_iretS C0 hr hlk hM hS (PB.of (copy_2 (inR_none c_11))) dX4_copy_19
set_option maxHeartbeats 4000000 in
theorem mm_turn (l : Launch) (D : va_G) (dA : Nat → ClassId) (am : Nat → Nat) (S : St) (p0 p1 : Int32) (hO : Ok S) : mCi l yX4_turn cX4_turn 5 (some .int) { frames := 3, cells := 0, slots := 0, locals := 63 } D dA am S [.int p0, .int p1] (fun r S' => PB (sp_turn S p0 p1) r S') := by
  refine m_head (by decide) rfl (Nat.le_of_ble_eq_true rfl) ?_
  intro p e s m below meth cd ls C0 hr hlk hK hM hS hl
  have hl : lv_has ls 5 [(0, .ref (am 0)), (1, .int p0), (2, .int p1)] := hl
  have hl2 := hO.len2
  have hl16 := hO.len16
  refine lv_aload_n C0.1 C0.2.1 dX4_turn_0 rfl (lv_at hl 0 rfl) ?_
  refine lv_iload_n C0.1 C0.2.1 dX4_turn_1 rfl (lv_at hl 1 rfl) ?_
  refine m_cp C0 hK hM (mm_lacks l D dA am S p0) 1 (lw_V q751 q753 qs19 q43 q754) rfl rfl hdd_lacks ⟨(Nat.le_of_ble_eq_true rfl), (Nat.le_of_ble_eq_true rfl)⟩ rfl hl.1 rfl (Nat.le_of_ble_eq_true rfl) dX4_turn_2 ⟨(Nat.le_of_ble_eq_true rfl), (Nat.le_of_ble_eq_true rfl)⟩ (fun r hr => ?_)
  subst hr
  refine lv_istore_n (lv' := [(3, .int (-(nI (lackN S p0)))), (0, .ref (am 0)), (1, .int p0), (2, .int p1)]) C0.1 C0.2.1 dX4_turn_5 rfl hl (by decide) rfl (fun ls hl => ?_)
  refine lv_iload_n C0.1 C0.2.1 dX4_turn_6 rfl (lv_at hl 0 rfl) ?_
  refine lv_if_ge (tgt := 16) C0.1 C0.2.1 dX4_turn_7 (by decide) (fun c_7 => ?_) (fun c_7 => ?_)
  · obtain ⟨j, hj, bj, rfl, hth, hon⟩ := onCam_t (lk0 c_7)
    refine lv_iload_n C0.1 C0.2.1 dX4_turn_16 rfl (lv_at hl 3 rfl) ?_
    refine lv_iconst (v := 0) C0.1 C0.2.1 dX4_turn_17 (by decide) ?_
    refine lv_aload_n C0.1 C0.2.1 dX4_turn_18 rfl (lv_at hl 1 rfl) ?_
    refine m_geti C0 hK hM 0 (by decide) rfl q632 dX4_turn_19 ?_
    refine tp_eq (y := nI (ln S)) (hO.len) ?_
    refine lv_iconst (v := 1) C0.1 C0.2.1 dX4_turn_22 (by decide) ?_
    refine lv_isub C0.1 C0.2.1 dX4_turn_23 ?_
    refine tp_eq (y := nI (ln S - 1)) (pk_sub (a := ln S) (b := 1) (by omega)) ?_
    refine st_call C0 (mm_in l p1 0 (nI (ln S - 1))) 3 (lw_S q744 q745 q43 q746) rfl rfl hdd_in ⟨(Nat.le_of_ble_eq_true rfl), (Nat.le_of_ble_eq_true rfl)⟩ rfl hl.1 rfl (Nat.le_of_ble_eq_true rfl) dX4_turn_24 ⟨(Nat.le_of_ble_eq_true rfl), (Nat.le_of_ble_eq_true rfl)⟩ (fun r hr => ?_)
    subst hr
    refine tp_eq (y := (if (inR p1 (ln S)).isSome = true then 1 else 0)) (b01_c (inR_len hO)) ?_
    refine lv_if_ne (tgt := 37) C0.1 C0.2.1 dX4_turn_27 (by decide) (fun c_27 => ?_) (fun c_27 => ?_)
    · have c_27 : (inR p1 (ln S)).isSome = true := b01_1.mp c_27
      obtain ⟨i, hi, bi, rfl⟩ := inR_get c_27 (by omega)
      refine lv_iconst (v := 0) C0.1 C0.2.1 dX4_turn_37 (by decide) ?_
      refine lv_istore (lv' := [(4, .int 0), (3, .int (-(nI (lackN S (nI j))))), (0, .ref (am 0)), (1, .int (nI j)), (2, .int (nI i))]) C0.1 C0.2.1 dX4_turn_38 hl (by decide) rfl (fun ls hl => ?_)
      refine W_loop (ln S) (fun k H locs ls => MP D dA am (trT S j i k) H ∧ va_S (MA am) s.heap H locs ∧ lv_has ls 5 [(0, .ref (am 0)), (1, .int (nI j)), (2, .int (nI i)), (4, .int (nI k))]) 40 ?_ ?_ 0 _ _ ls (Nat.zero_le _) ⟨(by rw [show trT S j i 0 = S from put_id S 23]; exact hM), hS, lv_sub hl [2, 3, 4, 0] rfl⟩
      · intro H locs ls ⟨hM, hS, hl⟩
        refine lv_iload C0.1 C0.2.1 dX4_turn_40 (lv_at hl 3 rfl) ?_
        refine lv_aload_n C0.1 C0.2.1 dX4_turn_42 rfl (lv_at hl 0 rfl) ?_
        refine m_geti C0 hK hM 0 (by decide) rfl q632 dX4_turn_43 ?_
        refine tp_eq (y := nI (ln S)) (by rw [trT_k _ _ _ _ (by decide)]; exact hO.len) ?_
        refine lv_icmp_ge (tgt := 81) C0.1 C0.2.1 dX4_turn_46 (by decide) (fun c_46 => ?_) (fun c_46 => ?_)
        · have n_46 : ln S ≤ ln S := (nI_leI (a := ln S) (b := ln S) (by omega) (by omega)).mp c_46
          refine lv_iconst (v := 0) C0.1 C0.2.1 dX4_turn_81 (by decide) ?_
          refine lv_istore (lv' := [(4, .int 0), (0, .ref (am 0)), (1, .int (nI j)), (2, .int (nI i))]) C0.1 C0.2.1 dX4_turn_82 hl (by decide) rfl (fun ls hl => ?_)
          refine W_loop (ln S) (fun k H locs ls => MP D dA am (trU S j i k) H ∧ va_S (MA am) s.heap H locs ∧ lv_has ls 5 [(0, .ref (am 0)), (1, .int (nI j)), (2, .int (nI i)), (4, .int (nI k))]) 84 ?_ ?_ 0 _ _ ls (Nat.zero_le _) ⟨(by rw [trU_0]; exact hM), hS, lv_sub hl [1, 2, 3, 0] rfl⟩
          · intro H locs ls ⟨hM, hS, hl⟩
            refine lv_iload C0.1 C0.2.1 dX4_turn_84 (lv_at hl 3 rfl) ?_
            refine lv_aload_n C0.1 C0.2.1 dX4_turn_86 rfl (lv_at hl 0 rfl) ?_
            refine m_geti C0 hK hM 0 (by decide) rfl q632 dX4_turn_87 ?_
            refine tp_eq (y := nI (ln S)) (by rw [trU_k _ _ _ _ (by decide) (by decide)]; exact hO.len) ?_
            refine lv_icmp_ge (tgt := 118) C0.1 C0.2.1 dX4_turn_90 (by decide) (fun c_90 => ?_) (fun c_90 => ?_)
            · have n_90 : ln S ≤ ln S := (nI_leI (a := ln S) (b := ln S) (by omega) (by omega)).mp c_90
              refine lv_iconst (v := 1) C0.1 C0.2.1 dX4_turn_118 (by decide) ?_
              exact m_iretS C0 hr hlk hM hS (PB.sh ((hon _).trans (by (try dsimp only); rw [hi])) (tr_fin S j i bi)) dX4_turn_119
            · have n_90 : ¬ ln S ≤ ln S := fun z => c_90 ((nI_leI (a := ln S) (b := ln S) (by omega) (by omega)).mpr z)
              omega
          · intro k H locs ls hk ⟨hM, hS, hl⟩ K84
            refine lv_iload C0.1 C0.2.1 dX4_turn_84 (lv_at hl 3 rfl) ?_
            refine lv_aload_n C0.1 C0.2.1 dX4_turn_86 rfl (lv_at hl 0 rfl) ?_
            refine m_geti C0 hK hM 0 (by decide) rfl q632 dX4_turn_87 ?_
            refine tp_eq (y := nI (ln S)) (by rw [trU_k _ _ _ _ (by decide) (by decide)]; exact hO.len) ?_
            refine lv_icmp_ge (tgt := 118) C0.1 C0.2.1 dX4_turn_90 (by decide) (fun c_90 => ?_) (fun c_90 => ?_)
            · have n_90 : ln S ≤ k := (nI_leI (a := ln S) (b := k) (by omega) (by omega)).mp c_90
              omega
            · have n_90 : ¬ ln S ≤ k := fun z => c_90 ((nI_leI (a := ln S) (b := k) (by omega) (by omega)).mpr z)
              refine lv_aload_n C0.1 C0.2.1 dX4_turn_93 rfl (lv_at hl 0 rfl) ?_
              refine m_geta C0 hK hM 2 (by decide) rfl q634 dX4_turn_94 ?_
              refine lv_bipush (v := 16) C0.1 C0.2.1 dX4_turn_97 (by decide) ?_
              refine lv_iload_n C0.1 C0.2.1 dX4_turn_99 rfl (lv_at hl 1 rfl) ?_
              refine lv_imul C0.1 C0.2.1 dX4_turn_100 ?_
              refine tp_eq (y := nI (16 * j)) (pk_mul 16 j) ?_
              refine lv_iload C0.1 C0.2.1 dX4_turn_101 (lv_at hl 3 rfl) ?_
              refine lv_iadd C0.1 C0.2.1 dX4_turn_103 ?_
              refine tp_eq (y := nI (16 * j + k)) (nI_add (16 * j) k) ?_
              refine lv_aload_n C0.1 C0.2.1 dX4_turn_104 rfl (lv_at hl 0 rfl) ?_
              refine m_geta C0 hK hM 23 (by decide) rfl q655 dX4_turn_105 ?_
              refine lv_iload C0.1 C0.2.1 dX4_turn_108 (lv_at hl 3 rfl) ?_
              refine m_iald C0 hK hM 23 k rfl rfl rfl (show k < 16 from (by omega)) (by decide) dX4_turn_110 ?_
              refine tp_eq (y := trT S j i (ln S) 23 k) (by rw [trU_23]) ?_
              refine m_iast C0 hK hM hS 2 (16 * j + k) rfl rfl rfl (show 16 * j + k < 192 from (by omega)) (by decide) dX4_turn_111 (fun H locs hM hS => ?_)
              refine lv_iinc (v := nI (k + 1)) (lv' := [(4, .int (nI (k + 1))), (0, .ref (am 0)), (1, .int (nI j)), (2, .int (nI i))]) C0.1 C0.2.1 dX4_turn_112 hl (k := 3) rfl (nI_1 k) (by decide) rfl (fun ls hl => ?_)
              refine lv_goto (tgt := 84) C0.1 C0.2.1 dX4_turn_115 (by decide) ?_
              have hM : MP D dA am (trU S j i (k + 1)) H := by
                rw [← trU_s]; exact hM
              exact K84 _ _ ls ⟨hM, hS, lv_sub hl [1, 2, 3, 0] rfl⟩
        · have n_46 : ¬ ln S ≤ ln S := fun z => c_46 ((nI_leI (a := ln S) (b := ln S) (by omega) (by omega)).mpr z)
          omega
      · intro k H locs ls hk ⟨hM, hS, hl⟩ K40
        refine lv_iload C0.1 C0.2.1 dX4_turn_40 (lv_at hl 3 rfl) ?_
        refine lv_aload_n C0.1 C0.2.1 dX4_turn_42 rfl (lv_at hl 0 rfl) ?_
        refine m_geti C0 hK hM 0 (by decide) rfl q632 dX4_turn_43 ?_
        refine tp_eq (y := nI (ln S)) (by rw [trT_k _ _ _ _ (by decide)]; exact hO.len) ?_
        refine lv_icmp_ge (tgt := 81) C0.1 C0.2.1 dX4_turn_46 (by decide) (fun c_46 => ?_) (fun c_46 => ?_)
        · have n_46 : ln S ≤ k := (nI_leI (a := ln S) (b := k) (by omega) (by omega)).mp c_46
          omega
        · have n_46 : ¬ ln S ≤ k := fun z => c_46 ((nI_leI (a := ln S) (b := k) (by omega) (by omega)).mpr z)
          refine lv_aload_n C0.1 C0.2.1 dX4_turn_49 rfl (lv_at hl 0 rfl) ?_
          refine m_geta C0 hK hM 23 (by decide) rfl q655 dX4_turn_50 ?_
          refine lv_iload C0.1 C0.2.1 dX4_turn_53 (lv_at hl 3 rfl) ?_
          refine lv_iload_n C0.1 C0.2.1 dX4_turn_55 rfl (lv_at hl 2 rfl) ?_
          refine lv_iadd C0.1 C0.2.1 dX4_turn_56 ?_
          refine tp_eq (y := nI (k + i)) (nI_add k i) ?_
          refine lv_aload_n C0.1 C0.2.1 dX4_turn_57 rfl (lv_at hl 0 rfl) ?_
          refine m_geti C0 hK hM 0 (by decide) rfl q632 dX4_turn_58 ?_
          refine tp_eq (y := nI (ln S)) (by rw [trT_k _ _ _ _ (by decide)]; exact hO.len) ?_
          refine lv_irem C0.1 C0.2.1 dX4_turn_61 (nI_ne0 (by omega) (by omega)) ?_
          refine tp_eq (y := nI ((k + i) % (ln S))) (pk_rem (a := k + i) (d := ln S) (by omega) (by omega) (by omega)) ?_
          refine lv_aload_n C0.1 C0.2.1 dX4_turn_62 rfl (lv_at hl 0 rfl) ?_
          refine m_geta C0 hK hM 2 (by decide) rfl q634 dX4_turn_63 ?_
          refine lv_bipush (v := 16) C0.1 C0.2.1 dX4_turn_66 (by decide) ?_
          refine lv_iload_n C0.1 C0.2.1 dX4_turn_68 rfl (lv_at hl 1 rfl) ?_
          refine lv_imul C0.1 C0.2.1 dX4_turn_69 ?_
          refine tp_eq (y := nI (16 * j)) (pk_mul 16 j) ?_
          refine lv_iload C0.1 C0.2.1 dX4_turn_70 (lv_at hl 3 rfl) ?_
          refine lv_iadd C0.1 C0.2.1 dX4_turn_72 ?_
          refine tp_eq (y := nI (16 * j + k)) (nI_add (16 * j) k) ?_
          refine m_iald C0 hK hM 2 (16 * j + k) rfl rfl rfl (show 16 * j + k < 192 from (by omega)) (by decide) dX4_turn_73 ?_
          refine tp_eq (y := S 2 (16 * j + k)) (by rw [trT_k _ _ _ _ (by decide)]) ?_
          refine m_iast C0 hK hM hS 23 ((k + i) % (ln S)) rfl rfl rfl (show (k + i) % (ln S) < 16 from (by have := Nat.mod_lt (k + i) (show 0 < ln S by omega); omega)) (by decide) dX4_turn_74 (fun H locs hM hS => ?_)
          refine lv_iinc (v := nI (k + 1)) (lv' := [(4, .int (nI (k + 1))), (0, .ref (am 0)), (1, .int (nI j)), (2, .int (nI i))]) C0.1 C0.2.1 dX4_turn_75 hl (k := 3) rfl (nI_1 k) (by decide) rfl (fun ls hl => ?_)
          refine lv_goto (tgt := 40) C0.1 C0.2.1 dX4_turn_78 (by decide) ?_
          have hM : MP D dA am (trT S j i (k + 1)) H := by
            rw [← trT_s]; exact hM
          exact K40 _ _ ls ⟨hM, hS, lv_sub hl [1, 2, 3, 0] rfl⟩
    · have c_27 : ¬ ((inR p1 (ln S)).isSome = true) := b01_0.mp c_27
      refine lv_aload_n C0.1 C0.2.1 dX4_turn_30 rfl (lv_at hl 1 rfl) ?_
      refine lv_bipush (v := (-7)) C0.1 C0.2.1 dX4_turn_31 (by decide) ?_
      refine m_ci C0 hK hM hS (fun _ h => h) (mm_refuse l D dA am S 7 (by omega)) 1 (lw_V q733 q735 qs18 q43 q736) rfl rfl hdd_refuse ⟨(Nat.le_of_ble_eq_true rfl), (Nat.le_of_ble_eq_true rfl)⟩ rfl hl.1 rfl (Nat.le_of_ble_eq_true rfl) dX4_turn_33 ⟨(Nat.le_of_ble_eq_true rfl), (Nat.le_of_ble_eq_true rfl)⟩ (fun r S' H locs hr hM hS _ => ?_)
      obtain ⟨rfl, rfl⟩ := hr
      exact m_iretS C0 hr hlk hM hS (PB.of ((hon _).trans (by (try dsimp only); rw [inR_none c_27]; rfl))) dX4_turn_36
  · refine lv_aload_n C0.1 C0.2.1 dX4_turn_10 rfl (lv_at hl 1 rfl) ?_
    refine lv_iload_n C0.1 C0.2.1 dX4_turn_11 rfl (lv_at hl 0 rfl) ?_
    refine m_ci C0 hK hM hS (fun _ h => h) (mm_refuse l D dA am S (lackN S p0) (lackN_lt S p0)) 1 (lw_V q733 q735 qs18 q43 q736) rfl rfl hdd_refuse ⟨(Nat.le_of_ble_eq_true rfl), (Nat.le_of_ble_eq_true rfl)⟩ rfl hl.1 rfl (Nat.le_of_ble_eq_true rfl) dX4_turn_12 ⟨(Nat.le_of_ble_eq_true rfl), (Nat.le_of_ble_eq_true rfl)⟩ (fun r S' H locs hr hM hS _ => ?_)
    obtain ⟨rfl, rfl⟩ := hr
    exact m_iretS C0 hr hlk hM hS (PB.of (onCam_l (lk1 c_7))) dX4_turn_15
