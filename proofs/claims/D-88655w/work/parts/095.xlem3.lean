/-! rows for the component's methods that catch -/
set_option maxRecDepth 100000
set_option linter.unusedVariables false
theorem onCam_j {S : St} {c : Int32} {j : Nat} {f : Nat → Res} (h : inR c 12 = some j) (h1 : ¬ S 1 j = 0) : onCam S c f = f j := by
  unfold onCam
  rw [h]
  exact if_neg h1
theorem lack5 {S : St} {c : Int32} {j : Nat} (h : inR c 12 = some j) (hk : ¬ lackN S c = 0) : S 1 j = 0 ∧ lackN S c = 5 := by
  by_cases h1 : S 1 j = 0
  · exact ⟨h1, lackN_0 h h1⟩
  · exact absurd (lackN_1 h h1) hk
theorem onMk_l {S : St} {c m : Int32} {k : Nat} {f : Nat → Nat → Res} (hm : inR m 4 = some k) (h : ¬ lackN S c = 0) : onMk S c m f = ref S (lackN S c) := by
  rcases hc : inR c 12 with _ | j
  · rw [onMk_1 hc, lackN_none hc]
  · obtain ⟨h1, h2⟩ := lack5 hc h
    rw [onMk_0 hc hm h1, h2]
theorem stp_cp {X : St} {f n : Int32} (hO : Ok X) : stpOk X f n ↔ 0 ≤ n.toInt ∧ 0 ≤ f.toInt ∧ f.toInt + n.toInt ≤ ln X := by
  unfold stpOk
  rw [hO.len]
  constructor
  · intro ⟨h1, h2, h3⟩
    rw [Int32.lt_iff_toInt_lt, i0] at h1 h2
    rw [Int32.le_iff_toInt_le, len_sub hO.len16 (by omega)] at h3
    exact ⟨by omega, by omega, by omega⟩
  · intro ⟨h1, h2, h3⟩
    refine ⟨?_, ?_, ?_⟩
    · rw [Int32.lt_iff_toInt_lt, i0]; omega
    · rw [Int32.lt_iff_toInt_lt, i0]; omega
    · rw [Int32.le_iff_toInt_le, len_sub hO.len16 h1]; omega
theorem stp2 {X : St} {i j n : Int32} (hO : Ok X) (h1 : stpOk X i n) (h2 : stpOk X j n) : cpOk (ln X) n i j := by
  obtain ⟨a1, a2, a3⟩ := (stp_cp hO).mp h1
  obtain ⟨b1, b2, b3⟩ := (stp_cp hO).mp h2
  exact ⟨a1, a2, b2, a3, b3⟩
theorem stp2a {X : St} {i j n : Int32} (hO : Ok X) (h1 : ¬ stpOk X i n) : ¬ cpOk (ln X) n i j := fun z => h1 ((stp_cp hO).mpr ⟨z.1, z.2.1, z.2.2.2.1⟩)
theorem stp2b {X : St} {i j n : Int32} (hO : Ok X) (h1 : ¬ stpOk X j n) : ¬ cpOk (ln X) n i j := fun z => h1 ((stp_cp hO).mpr ⟨z.1, z.2.2.1, z.2.2.2.2⟩)
section FCP
variable {p : Program} {l : Launch} {e : Env} {R : Room} {s : State} {m : MethodId} {args : Array Value} {below : List Frame} {meth : Method} {c : Code} {H : Heap} {locs : List Loc} {cells slots : Nat} {Q : State → Prop}
variable {cc : ByteArray} {nL pc : Nat} {ls : Array Slot} {rest : List Value} {D : va_G} {dA : Nat → ClassId} {A : Nat → Prop} {ad : Nat → Nat} {w : Wd} {H0 : Heap} {own : String}
/-- System.arraycopy between two arrays of ints of the world -/
theorem fw_copyi (C0 : CallFix p m c cc nL s args lw_all own) (hK : va_K D vwCl (tyL dA) s) (hP : FW D A ad w H) (hS : va_S A H0 H locs) {index : Nat} (hlink : Cond.methodLink own index arraycopyName ∈ lw_all) (hnat : Cond.native arraycopyName ∈ lw_all) (hstat : Cond.static arraycopyName ∈ lw_all) (hini : Cond.initialized "java/lang/System" ∈ lw_all)
    {n1 n2 L1 L2 : Nat} {f g : Nat → Int32} (h1 : w n1 = some (.inl (dA 0, L1, .inl f))) (h2 : w n2 = some (.inl (dA 0, L2, .inl g))) {sp dp n : Nat} (b1 : sp + n ≤ L1) (b2 : dp + n ≤ L2) (hL1 : L1 < 2 ^ 30) (hL2 : L2 < 2 ^ 30) (hsz : ls.size = nL)
    (hframes : 1 ≤ R.frames) (hlocals : (rest.map fun v => v.category).sum + (nativeFrameWords "java/lang/System" "arraycopy" 5 + 11) ≤ R.locals) (hd : decode cc pc = .ok (.invokestatic index, 3))
    (kk : ∀ (H1 : Heap) (locs1 : List Loc), FW D A ad (va_up w n2 (some (.inl (dA 0, L2, .inl (va_cpy f g sp dp n))))) H1 → va_S A H0 H1 locs1 → W p l e R s m args below meth c H1 locs1 cells slots Q (F0 m (pc + 3) ls rest)) : W p l e R s m args below meth c H locs cells slots Q (F0 m pc ls (.int (nI n) :: .int (nI dp) :: .ref (ad n2) :: .int (nI sp) :: .ref (ad n1) :: rest)) := by
  obtain ⟨hx, hb, hml, hown, hts⟩ := C0
  have c1 : H[ad n1]? = some (vp_cell (dA 0) (L1, .inl f)) := hP.1 n1 _ h1
  have c2 : H[ad n2]? = some (vp_cell (dA 0) (L2, .inl g)) := hP.1 n2 _ h2
  have hA2 := hP.isA h2
  obtain ⟨-, k1, hk1, m1, hkk1⟩ := (hK.2 0 (dA 0, .int) rfl).1 L1 (fun j => .int (f j))
  obtain ⟨-, k2, hk2, m2, hkk2⟩ := (hK.2 0 (dA 0, .int) rfl).1 L2 (fun j => .int (g j))
  have t1 : (nI sp).toNatClampNeg = sp := nI_clamp (by omega)
  have t2 : (nI dp).toNatClampNeg = dp := nI_clamp (by omega)
  have t3 : (nI n).toNatClampNeg = n := nI_clamp (by omega)
  intro T hT X
  obtain ⟨vm', X', step⟩ := X.arraycopy hx hown (hts _ hlink) (hts _ hnat) (hts _ hstat) (hts _ hini) (src := ad n1) (dst := ad n2) (cs := vp_cell (dA 0) (L1, .inl f)) (cd := vp_cell (dA 0) (L2, .inl g)) (srcPos := nI sp) (destPos := nI dp) (n := nI n) (by rw [hT]; exact c1) (by rw [hT]; exact c2)
    (fun _ h => by cases h) (fun _ h => by cases h) (fun h => by cases h) (fun h => by cases h) hk1 hk2 hkk1 hkk2 (by simp [refKind]) (nI_pos (by omega)) (nI_pos (by omega)) (nI_pos (by omega))
    (by rw [nI_toInt (by omega), nI_toInt (by omega)]; show ¬ _ > ((arrV (dA 0) L1 (fun j => .int (f j))).slots.size : Int); rw [arrV_size]; omega)
    (by rw [nI_toInt (by omega), nI_toInt (by omega)]; show ¬ _ > ((arrV (dA 0) L2 (fun j => .int (g j))).slots.size : Int); rw [arrV_size]; omega)
    (fun vm₁ _ i hi => by
      rw [t3] at hi
      have e9 : (vp_cell (dA 0) (L1, .inl f)).slots.getD ((nI sp).toNatClampNeg + i) .null = .int (f (sp + i)) := by
        rw [t1]
        show (arrV (dA 0) L1 (fun j => .int (f j))).slots.getD _ _ = _
        rw [Array.getD_eq_getD_getElem?, arrV_read _ _ (by omega)]
        rfl
      rw [e9]
      exact ⟨rfl, trivial⟩)
    (g := F0 m pc ls (.int (nI n) :: .int (nI dp) :: .ref (ad n2) :: .int (nI sp) :: .ref (ad n1) :: rest)) rfl (hsz.trans hml.symm) (rest := rest) rfl (by rw [hb]; exact hd) hframes (by show 2 * 0 + _ + _ ≤ _; omega)
  have e1 : copied (vp_cell (dA 0) (L1, .inl f)) (vp_cell (dA 0) (L2, .inl g)) (nI sp) (nI dp) (nI n) = vp_cell (dA 0) (L2, .inl (va_cpy f g (nI sp).toNatClampNeg (nI dp).toNatClampNeg (nI n).toNatClampNeg)) := va_copied (fun z => .int z) (dA 0) (dA 0) f g (by rw [t1, t3]; exact b1)
  rw [t1, t2, t3] at e1
  rw [e1] at X' step
  have hlt : ad n2 < H.size := (Array.getElem?_eq_some_iff.mp c2).1
  have hheap : ((T.setVm vm').setCell (ad n2) (vp_cell (dA 0) (L2, .inl (va_cpy f g sp dp n)))).heap = H.setIfInBounds (ad n2) (vp_cell (dA 0) (L2, .inl (va_cpy f g sp dp n))) := by rw [← hT]; rfl
  have oq : ∀ q : Nat, q ≠ ad n2 → (H.setIfInBounds (ad n2) (vp_cell (dA 0) (L2, .inl (va_cpy f g sp dp n))))[q]? = H[q]? := fun q hq => by simp [Array.getElem?_setIfInBounds, Ne.symm hq]
  obtain ⟨t, a1, b1⟩ := kk _ _ (hP.set h2 (show (H.setIfInBounds (ad n2) _)[ad n2]? = some _ by simp [Array.getElem?_setIfInBounds, hlt]) oq) ⟨by simp; exact hS.1, fun q g1 g2 => by
      rw [oq q (fun z => g2 (by rw [z]; exact hA2))]
      exact hS.2.1 q g1 g2, fun q hq => by
      rcases List.mem_append.mp hq with h | h
      · exact hS.2.2 q h
      · obtain ⟨z, -, hz⟩ := List.mem_map.mp h
        rw [← hz]
        exact hA2⟩ _ hheap X'
  exact ⟨t, step t a1, b1⟩
variable {X : St} {L : Ex}
theorem x_copy (C0 : CallFix p m c cc nL s args lw_all own) (hG : XG D dA A s) (hM : XF D A dA ad X L H) (hS : va_S A s.heap H locs) {index : Nat} (hlink : Cond.methodLink own index arraycopyName ∈ lw_all) (x y ii jj nn : Nat) (hx : x < 12) (hy : y < 12) (hX : ¬ X 1 x = 0) (hY : ¬ X 1 y = 0) (h16 : rl X ≤ 16) (b1 : ii + nn ≤ rl X) (b2 : jj + nn ≤ rl X) (hsz : ls.size = nL)
    (hframes : 1 ≤ R.frames) (hlocals : (rest.map fun v => v.category).sum + (nativeFrameWords "java/lang/System" "arraycopy" 5 + 11) ≤ R.locals) (hd : decode cc pc = .ok (.invokestatic index, 3))
    (kk : ∀ (H1 : Heap) (locs1 : List Loc), XF D A dA ad (put X 2 (cpyF (X 2) (16 * x + ii) (16 * y + jj) nn)) L H1 → va_S A s.heap H1 locs1 → W p l e R s m args below meth c H1 locs1 cells slots Q (F0 m (pc + 3) ls rest)) : W p l e R s m args below meth c H locs cells slots Q (F0 m pc ls (.int (nI nn) :: .int (nI jj) :: .ref (ad (120 + y)) :: .int (nI ii) :: .ref (ad (120 + x)) :: rest)) := by
  rw [← cb_lt ad L (k := 120 + y) (by omega), ← cb_lt ad L (k := 120 + x) (by omega)]
  refine fw_copyi C0 hG.1 hM hS hlink q318 q317 q49 (xw_hts dA ad X L hx hX) (xw_hts dA ad X L hy hY) b1 b2 (by omega) (by omega) hsz hframes hlocals hd (fun H1 locs1 g1 g2 => kk H1 locs1 (XF.of g1 ?_ rfl) g2)
  funext k
  have hcp : ∀ a i, ¬ (a = 2 ∧ i / 16 = y) → put X 2 (cpyF (X 2) (16 * x + ii) (16 * y + jj) nn) a i = X a i := by
    intro a i hai
    by_cases h2 : a = 2
    · subst h2
      rw [put_self]
      unfold cpyF
      rw [if_neg (by omega)]
    · rw [put_ne _ _ h2]
  by_cases hk : k = 120 + y
  · subst hk
    have e1 : rl (put X 2 (cpyF (X 2) (16 * x + ii) (16 * y + jj) nn)) = rl X := by unfold rl; rw [hcp 0 26 (by omega)]
    have e2 : hts (put X 2 (cpyF (X 2) (16 * x + ii) (16 * y + jj) nn)) y = va_cpy (hts X x) (hts X y) ii jj nn := by
      funext t
      show (if t < 16 then put X 2 (cpyF (X 2) (16 * x + ii) (16 * y + jj) nn) 2 (16 * y + t) else 0) = if jj ≤ t ∧ t < jj + nn then (if ii + (t - jj) < 16 then X 2 (16 * x + (ii + (t - jj))) else 0) else if t < 16 then X 2 (16 * y + t) else 0
      rw [put_self]
      unfold cpyF
      by_cases h1 : jj ≤ t ∧ t < jj + nn
      · rw [if_pos h1, if_pos (by omega), if_pos (by omega), if_pos (by omega), show 16 * x + ii + (16 * y + t - (16 * y + jj)) = 16 * x + (ii + (t - jj)) by omega]
      · rw [if_neg h1]
        by_cases h3 : t < 16
        · rw [if_pos h3, if_pos h3, if_neg (by omega)]
        · rw [if_neg h3, if_neg h3]
    rw [va_up_self, xw_hts _ _ _ _ hy (by rw [put_ne _ _ (by decide)]; exact hY), e1, e2]
  · rw [va_up_ne _ _ hk]
    refine xw_cong dA ad L (fun a i hdp => (hcp a i (fun z => ?_)).symm)
    obtain ⟨rfl, hz⟩ := z
    have hi : i = 16 * y + (i - 16 * y) := by omega
    rw [hi, dep_hts (by omega) hk] at hdp
    cases hdp
end FCP
theorem put2_xs {X : St} (h : XS X) (f : Nat → Int32) : XS (put X 2 f) := h.ext fun a i ha => by rw [put_ne _ _ (by omega)]
theorem turn_h2 {X : St} {j k : Nat} : ∀ a i, ¬ (a = 1 ∧ i = j) → ¬ (a = 2 ∧ i / 16 = j) → ln X ≤ 16 → put X 2 (trnF (X 2) j k (ln X)) a i = X a i := by
  intro a i h1 h2 h16
  by_cases h : a = 2
  · subst h
    rw [put_self]
    unfold trnF
    rw [if_neg (by omega)]
  · rw [put_ne _ _ h]
theorem turn_h3 {X : St} {j k : Nat} (hk : k < ln X) : ∀ t, t < ln X → put X 2 (trnF (X 2) j k (ln X)) 2 (16 * j + t) = rtF (fun _ => 0) (ln X) k (row X j) (ln X) t := by
  intro t ht
  rw [put_self]
  unfold trnF
  rw [if_pos ⟨by omega, by omega⟩, show 16 * j + t - 16 * j = t by omega]
  have := rtF_at (fun _ => 0) (ln X) k (row X j) (ln X) (Nat.le_refl _) ((t + (ln X - k)) % ln X) (Nat.mod_lt _ (by omega))
  rw [back_mod hk ht] at this
  exact this.symm
theorem habF_rl (S : St) (c m h : Nat) : rl (habF S c m h) = rl S := by unfold rl; rw [habF_k S c m (by decide) h]
theorem hab_xs {X : St} (h : XS X) (j k : Nat) : ∀ n, XS (habF X j k n)
  | 0 => h
  | n + 1 => (hab_xs h j k n).up 20 _ _ rfl
theorem camOf_0 {S : St} {c w : Int32} {j : Nat} (h : inR c 12 = some j) (h1 : ¬ S 1 j = 0) (hw : inR w 3 = none) : sp_camOf S c w = ref S 2 := by
  unfold sp_camOf
  rw [onCam_j h h1]
  rw [if_neg (inR_02n hw).1, if_neg (inR_02n hw).2.1, if_neg (inR_02n hw).2.2]
