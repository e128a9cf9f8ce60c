/-! rows for the component's public methods -/
set_option maxRecDepth 100000
set_option linter.unusedVariables false
section MR4
variable {p : Program} {l : Launch} {e : Env} {R : Room} {s : State} {m : MethodId} {args : Array Value} {below : List Frame} {meth : Method} {c : Code} {H : Heap} {locs : List Loc} {cells slots : Nat} {Q : State → Prop} {pc : Nat} {ls : Array Slot} {st : List Value}
theorem at_fr (pc' : Nat) (st' : List Value) (h : pc = pc') (h2 : st = st') (k : W p l e R s m args below meth c H locs cells slots Q (F0 m pc' ls st')) : W p l e R s m args below meth c H locs cells slots Q (F0 m pc ls st) := by
  subst h; subst h2; exact k
end MR4
def XS (X : St) : Prop := X 0 26 = X 0 0 ∧ MkR (X 17, X 18) (X 23) (X 24)
theorem XOk.xs {X : St} (h : XOk X) : XS X := h.2
def xsq (k i : Nat) : Bool := (k != 17 && (k != 18 && (k != 23 && k != 24))) && (k != 0 || (i != 0 && i != 26))
theorem XS.up {X : St} (h : XS X) (k i : Nat) (v : Int32) (hq : xsq k i = true) : XS (up2 X k i v) := by
  unfold xsq at hq
  simp only [Bool.and_eq_true, Bool.or_eq_true, bne_iff_ne, ne_eq] at hq
  obtain ⟨⟨h1, h2, h3, h4⟩, h5⟩ := hq
  unfold XS
  rw [up2_k _ _ _ (Ne.symm h1), up2_k _ _ _ (Ne.symm h2), up2_k _ _ _ (Ne.symm h3), up2_k _ _ _ (Ne.symm h4), up2_ne _ _ (k' := 0) (i' := 26) (by omega), up2_ne _ _ (k' := 0) (i' := 0) (by omega)]
  exact h
/-- what a public method of the component answers -/
def PX (Y : Res) (ad : Nat → Nat) (r : Int32) (u : U3) : Prop := PB Y r u.2.1 ∧ XS u.2.1 ∧ u.1 0 = ad 0 ∧ u.2.2 = []
theorem lim_1 {S : St} {v a b : Int32} {Y : Res} (h : ¬ wthF v a b = 0) : (if v < a then ref S 4 else if b < v then ref S 6 else Y) = ref S (wthF v a b) := by
  unfold wthF at h ⊢
  by_cases h1 : v < a
  · rw [if_pos h1, if_pos h1]
  · rw [if_neg h1] at h
    rw [if_neg h1, if_neg h1]
    by_cases h2 : b < v
    · rw [if_pos h2, if_pos h2]
    · rw [if_neg h2] at h
      exact absurd rfl h
theorem lim_0 {S : St} {v a b : Int32} {Y : Res} (h : ¬ v < a ∧ ¬ b < v) : (if v < a then ref S 4 else if b < v then ref S 6 else Y) = Y := by rw [if_neg h.1, if_neg h.2]
theorem clrA_at (X : St) (a : Nat) : ∀ n k i, clrA X a n k i = if k = a ∧ i < n then 0 else X k i
  | 0, k, i => by rw [if_neg (by omega)]; rfl
  | n + 1, k, i => by
    show up2 (clrA X a n) a n 0 k i = _
    by_cases h : k = a ∧ i = n
    · obtain ⟨rfl, rfl⟩ := h
      rw [up2_self, if_pos ⟨rfl, by omega⟩]
    · rw [up2_ne _ _ (by omega), clrA_at X a n k i]
      by_cases h2 : k = a ∧ i < n
      · rw [if_pos h2, if_pos ⟨h2.1, by omega⟩]
      · rw [if_neg h2, if_neg (by omega)]
theorem clrP_at (X : St) : ∀ n k i, clrP X n k i = if (k = 17 ∨ k = 18) ∧ i < n then -1 else X k i
  | 0, k, i => by rw [if_neg (by omega)]; rfl
  | n + 1, k, i => by
    show up2 (up2 (clrP X n) 17 n (-1)) 18 n (-1) k i = _
    by_cases h : k = 18 ∧ i = n
    · obtain ⟨rfl, rfl⟩ := h
      rw [up2_self, if_pos ⟨Or.inr rfl, by omega⟩]
    · rw [up2_ne _ _ (by omega)]
      by_cases h' : k = 17 ∧ i = n
      · obtain ⟨rfl, rfl⟩ := h'
        rw [up2_self, if_pos ⟨Or.inl rfl, by omega⟩]
      · rw [up2_ne _ _ (by omega), clrP_at X n k i]
        by_cases h2 : (k = 17 ∨ k = 18) ∧ i < n
        · rw [if_pos h2, if_pos ⟨h2.1, by omega⟩]
        · rw [if_neg h2, if_neg (by omega)]
theorem clrT_at (X : St) : ∀ n k i, clrT X n k i = if k = 1 ∧ i < n then 0 else X k i
  | 0, k, i => by rw [if_neg (by omega)]; rfl
  | n + 1, k, i => by
    show up2 (clrT X n) 1 n 0 k i = _
    by_cases h : k = 1 ∧ i = n
    · obtain ⟨rfl, rfl⟩ := h
      rw [up2_self, if_pos ⟨rfl, by omega⟩]
    · rw [up2_ne _ _ (by omega), clrT_at X n k i]
      by_cases h2 : k = 1 ∧ i < n
      · rw [if_pos h2, if_pos ⟨h2.1, by omega⟩]
      · rw [if_neg h2, if_neg (by omega)]
theorem clrC_at (X : St) (j : Nat) : ∀ n k i, clrC X j n k i = if k = 2 ∧ 16 * j ≤ i ∧ i < 16 * j + n then 0 else X k i
  | 0, k, i => by rw [if_neg (by omega)]; rfl
  | n + 1, k, i => by
    show up2 (clrC X j n) 2 (16 * j + n) 0 k i = _
    by_cases h : k = 2 ∧ i = 16 * j + n
    · obtain ⟨rfl, rfl⟩ := h
      rw [up2_self, if_pos ⟨rfl, by omega, by omega⟩]
    · rw [up2_ne _ _ (by omega), clrC_at X j n k i]
      by_cases h2 : k = 2 ∧ 16 * j ≤ i ∧ i < 16 * j + n
      · rw [if_pos h2, if_pos ⟨h2.1, h2.2.1, by omega⟩]
      · rw [if_neg h2, if_neg (by omega)]
/-- no cam is there: their rows' length may be any -/
theorem XF.len {D : va_G} {A : Nat → Prop} {dA : Nat → ClassId} {ad : Nat → Nat} {X : St} {L : Ex} {H : Heap} (h : XF D A dA ad X L H) (h0 : ∀ c, c < 12 → X 1 c = 0) (v : Int32) : XF D A dA ad (up2 X 0 26 v) L H := by
  refine FW.to h (funext fun k => ?_)
  by_cases hk : 120 ≤ k ∧ k < 150
  · rw [xw_in _ _ _ _ hk.2, xw_in _ _ _ _ hk.2]
    unfold xin
    rw [if_pos hk.1, if_pos hk.1, up2_ne _ _ (Or.inl (by decide))]
    by_cases h12 : k - 120 < 12
    · rw [if_neg (fun z => z.2 (h0 _ h12)), if_neg (fun z => z.2 (h0 _ h12))]
    · rw [if_neg (fun z => h12 z.1), if_neg (fun z => h12 z.1)]
  · by_cases h150 : k < 150
    · refine (xw_up dA ad L X v ?_).symm
      unfold dep
      rw [if_neg (by omega)]
      repeat' split
      all_goals simp_all
      all_goals (rename_i hx; have := xarr_lt hx; omega)
    · unfold xw
      rw [if_neg h150, if_neg h150]
theorem len_fin {X : St} (n : Int32) : Sh (up2 (clrA (clrP (clrT (up2 X 0 0 n) 12) 1200) 23 1200) 0 26 n) (clrP (clrT (up2 X 0 0 n) 12) 1200) := by
  refine ⟨fun j a b c d => ?_, fun k a b c d e f => ?_⟩
  · rw [up2_ne _ _ (Or.inr a), clrA_at, if_neg (by omega)]
  · funext i
    rw [up2_ne _ _ (Or.inl a), clrA_at, if_neg (by omega)]
theorem len_xs {X : St} (n : Int32) : XS (up2 (clrA (clrP (clrT (up2 X 0 0 n) 12) 1200) 23 1200) 0 26 n) := by
  constructor
  · rw [up2_self, up2_ne _ _ (Or.inr (by decide)), clrA_at, if_neg (by omega), clrP_at, if_neg (by omega), clrT_at, if_neg (by omega), up2_self]
  · intro c hc
    left
    dsimp only
    rw [up2_ne _ _ (Or.inl (by decide)), up2_ne _ _ (Or.inl (by decide)), clrA_at, if_neg (by omega), clrP_at, if_pos ⟨Or.inl rfl, hc⟩, clrA_at, if_pos ⟨rfl, hc⟩]
    exact ⟨rfl, rfl⟩
theorem len_M {D : va_G} {A : Nat → Prop} {dA : Nat → ClassId} {ad : Nat → Nat} {X : St} {L : Ex} {H : Heap} (n : Int32) (h : XF D A dA ad (clrA (clrT (up2 X 0 0 n) 12) 23 1200) L H) : XF D A dA ad (up2 (clrA (clrP (clrT (up2 X 0 0 n) 12) 1200) 23 1200) 0 26 n) L H := by
  refine XF.len (XF.cong h (fun k a i hd => ?_)) (fun c hc => ?_) n
  · rw [clrA_at, clrA_at, clrP_at]
    have h1 : ¬ (a = 17 ∨ a = 18) := fun z => by
      rw [dep_gh (by omega)] at hd
      cases hd
    rw [if_neg (show ¬ ((a = 17 ∨ a = 18) ∧ i < 1200) from fun z => h1 z.1)]
  · rw [clrA_at, if_neg (by omega), clrP_at, if_neg (by omega), clrT_at, if_pos ⟨rfl, hc⟩]
theorem mkr_0 {P : Mk} {f g : Nat → Int32} (h : MkR P f g) {c : Nat} (hc : c < 1200) : f c = 0 ↔ P.1 c < 0 := by
  rcases h c hc with ⟨h1, h2⟩ | ⟨a, b, ha, hb, h1, h2, h3, h4⟩
  · rw [h1, h2]; exact ⟨fun _ => by decide, fun _ => rfl⟩
  · rw [h1, h3]
    exact ⟨fun z => absurd z (by decide), fun z => absurd z (nI_pos (by omega))⟩
theorem mkr_1 {P : Mk} {f g : Nat → Int32} (h : MkR P f g) {c : Nat} (hc : c < 1200) (h0 : ¬ f c = 0) : ∃ a b, a ≤ 99 ∧ b ≤ 99 ∧ P.1 c = nI a ∧ P.2 c = nI b ∧ f c = 1 ∧ g c = nI (100 * a + b) := by
  rcases h c hc with ⟨h1, h2⟩ | h1
  · exact absurd h2 h0
  · exact h1
theorem mkr_f {P : Mk} {f g : Nat → Int32} (h : MkR P f g) {c : Nat} (hc : c < 1200) : f c = if P.1 c < 0 then 0 else 1 := by
  by_cases h0 : P.1 c < 0
  · rw [if_pos h0]; exact (mkr_0 h hc).mpr h0
  · rw [if_neg h0]
    obtain ⟨a, b, -, -, -, -, h3, -⟩ := mkr_1 h hc (fun z => h0 ((mkr_0 h hc).mp z))
    exact h3
/-- addresses of other names -/
theorem xin_ad1 (dA : Nat → ClassId) {ad ad' : Nat → Nat} (X : St) {j k : Nat} (hj : j < 12) (h : ∀ n, n ≠ 100 + j → n ≠ 120 + j → ad' n = ad n) (h1 : k ≠ 1) (h2 : k ≠ 100 + j) : xin dA ad' X k = xin dA ad X k := by
  unfold xin
  by_cases c1 : 120 ≤ k
  · rw [if_pos c1, if_pos c1]
  rw [if_neg c1, if_neg c1]
  by_cases c2 : 100 ≤ k
  · rw [if_pos c2, if_pos c2, h (120 + (k - 100)) (by omega) (by omega)]
  rw [if_neg c2, if_neg c2]
  by_cases c3 : 80 ≤ k
  · rw [if_pos c3, if_pos c3]
  rw [if_neg c3, if_neg c3]
  by_cases c4 : 60 ≤ k
  · rw [if_pos c4, if_pos c4]
  rw [if_neg c4, if_neg c4]
  by_cases c5 : 40 ≤ k
  · rw [if_pos c5, if_pos c5]
  rw [if_neg c5, if_neg c5]
  have e0 : xfs ad' X = xfs ad X := by
    unfold xfs
    apply List.map_congr_left
    intro i hi
    have hx : xref i < 40 := by unfold xref; repeat' split
                                all_goals omega
    rw [h (xref i) (by omega) (by omega)]
  have e3 : letF ad' = letF ad := by
    funext l
    unfold letF
    by_cases hl : l < 10
    · rw [if_pos hl, if_pos hl, h (60 + l) (by omega) (by omega)]
    · rw [if_neg hl, if_neg hl]
  have e19 : fltF ad' X = fltF ad X := by
    funext l
    unfold fltF
    by_cases hl : l < 3
    · rw [h (80 + l) (by omega) (by omega)]
    · rw [if_neg (fun z => hl z.1), if_neg (fun z => hl z.1)]
  have e20 : habA ad' = habA ad := by
    funext l
    unfold habA
    by_cases hl : l < 4
    · rw [if_pos hl, if_pos hl, h (40 + l) (by omega) (by omega)]
    · rw [if_neg hl, if_neg hl]
  unfold xlow
  rw [e0, e3, e19, e20, h 23 (by omega) (by omega), h 24 (by omega) (by omega), h 29 (by omega) (by omega), h 30 (by omega) (by omega), if_neg h1, if_neg h1]
theorem xin_ad2 (dA : Nat → ClassId) {ad ad' : Nat → Nat} (X : St) {j k : Nat} (hj : j < 3) (h : ∀ n, n ≠ 80 + j → ad' n = ad n) (h1 : k ≠ 19) : xin dA ad' X k = xin dA ad X k := by
  unfold xin
  by_cases c1 : 120 ≤ k
  · rw [if_pos c1, if_pos c1]
  rw [if_neg c1, if_neg c1]
  by_cases c2 : 100 ≤ k
  · rw [if_pos c2, if_pos c2, h (120 + (k - 100)) (by omega)]
  rw [if_neg c2, if_neg c2]
  by_cases c3 : 80 ≤ k
  · rw [if_pos c3, if_pos c3]
  rw [if_neg c3, if_neg c3]
  by_cases c4 : 60 ≤ k
  · rw [if_pos c4, if_pos c4]
  rw [if_neg c4, if_neg c4]
  by_cases c5 : 40 ≤ k
  · rw [if_pos c5, if_pos c5]
  rw [if_neg c5, if_neg c5]
  have e0 : xfs ad' X = xfs ad X := by
    unfold xfs
    apply List.map_congr_left
    intro i hi
    have hx : xref i < 40 := by unfold xref; repeat' split
                                all_goals omega
    rw [h (xref i) (by omega)]
  have e3 : letF ad' = letF ad := by
    funext l
    unfold letF
    by_cases hl : l < 10
    · rw [if_pos hl, if_pos hl, h (60 + l) (by omega)]
    · rw [if_neg hl, if_neg hl]
  have e1 : camF ad' X = camF ad X := by
    funext l
    unfold camF
    by_cases hl : l < 12
    · rw [h (100 + l) (by omega)]
    · rw [if_neg (fun z => hl z.1), if_neg (fun z => hl z.1)]
  have e20 : habA ad' = habA ad := by
    funext l
    unfold habA
    by_cases hl : l < 4
    · rw [if_pos hl, if_pos hl, h (40 + l) (by omega)]
    · rw [if_neg hl, if_neg hl]
  unfold xlow
  rw [e0, e3, e1, e20, h 23 (by omega), h 24 (by omega), h 29 (by omega), h 30 (by omega), if_neg h1, if_neg h1]
/-- a new cam takes its place -/
theorem cam_commit {D : va_G} {A : Nat → Prop} {dA : Nat → ClassId} {ad : Nat → Nat} {X X' : St} {H : Heap} {q r j len : Nat} {f : Nat → Int32} (hj : j < 12) (hlen : len = rl X) (h16 : len ≤ 16)
    (h : FW D A (cb ad [(r, .inl (dA 0, len, .inl f)), (q, .inr (5, [.ref r]))]) (va_up (xw dA ad X [(r, .inl (dA 0, len, .inl f)), (q, .inr (5, [.ref r]))]) 1 (some (.inl (dA 2, 12, .inr (.inr (.inr (.inr (va_up (camF ad X) j (some q))))))))) H)
    (h1 : ¬ X' 1 j = 0) (h2 : ∀ a i, ¬ (a = 1 ∧ i = j) → ¬ (a = 2 ∧ i / 16 = j) → X' a i = X a i) (h3 : ∀ t, t < len → X' 2 (16 * j + t) = f t) :
    XF D A dA (va_up (va_up ad (100 + j) q) (120 + j) r) X' [] H := by
  have hrl : rl X' = rl X := by unfold rl; rw [h2 0 26 (by omega) (by omega)]
  have hfr := FW.arr h (n := 150) (len := len) (c := dA 0) (f := f) (g := hts X' j) (by rw [va_up_ne _ _ (by decide)]; rfl) (fun i hi => by unfold hts; rw [if_pos (by omega), h3 i hi])
  have had' : ∀ n, n ≠ 100 + j → n ≠ 120 + j → va_up (va_up ad (100 + j) q) (120 + j) r n = ad n := fun n a b => by rw [va_up_ne _ _ b, va_up_ne _ _ a]
  have h150 : ∀ k, (xw dA (va_up (va_up ad (100 + j) q) (120 + j) r) X' [] k).isSome = true → k < 150 := by
    intro k hk
    rcases Nat.lt_or_ge k 150 with z | z
    · exact z
    · unfold xw at hk
      rw [if_neg (by omega)] at hk
      cases hk
  refine FW.ren hfr (fun k => if k = 100 + j then 151 else if k = 120 + j then 150 else k) (fun k e hk => ?_) (fun a b ha hb hab => ?_)
  · have hk150 := h150 k (by rw [hk]; rfl)
    by_cases e1 : k = 100 + j
    · subst e1
      rw [if_pos rfl]
      rw [xw_cam dA _ X' [] hj h1, va_up_self] at hk
      rw [va_up_ne _ _ (by decide), va_up_ne _ _ (by decide)]
      refine ⟨hk, ?_⟩
      rw [cb_lt _ _ (by omega), va_up_ne _ _ (by omega), va_up_self]
      rfl
    · rw [if_neg e1]
      by_cases e2 : k = 120 + j
      · subst e2
        rw [if_pos rfl]
        rw [xw_hts dA _ X' [] hj h1, hrl, ← hlen] at hk
        rw [va_up_self]
        refine ⟨hk, ?_⟩
        rw [cb_lt _ _ (by omega), va_up_self]
        rfl
      · rw [if_neg e2]
        refine ⟨?_, by rw [cb_lt _ _ hk150, cb_lt _ _ hk150, had' k e1 e2]⟩
        rw [va_up_ne _ _ (by omega)]
        by_cases e3 : k = 1
        · subst e3
          rw [va_up_self, ← hk, xw_1]
          have e9 : va_up (camF ad X) j (some q) = camF (va_up (va_up ad (100 + j) q) (120 + j) r) X' := by
            funext c
            unfold camF
            by_cases hc : c = j
            · subst hc
              rw [va_up_self, if_pos ⟨hj, h1⟩, va_up_ne _ _ (by omega), va_up_self]
            · rw [va_up_ne _ _ hc, h2 1 c (by omega) (by omega)]
              by_cases hx : c < 12 ∧ ¬ X 1 c = 0
              · rw [if_pos hx, if_pos hx, had' _ (by omega) (by omega)]
              · rw [if_neg hx, if_neg hx]
          rw [e9]
        · rw [va_up_ne _ _ e3, ← hk, xw_in _ _ _ _ hk150, xw_in _ _ _ _ hk150, xin_ad1 dA X' hj had' e3 e1]
          refine xin_cong dA ad (fun a i hd => (h2 a i (fun z => ?_) (fun z => ?_)).symm)
          · obtain ⟨rfl, rfl⟩ := z
            rw [dep_cam e3 e1 e2] at hd
            cases hd
          · obtain ⟨rfl, hz⟩ := z
            have hi : i = 16 * j + (i - 16 * j) := by omega
            rw [hi, dep_hts (by omega) e2] at hd
            cases hd
  · have ha' := h150 a ha
    have hb' := h150 b hb
    repeat' split at hab
    all_goals omega
theorem flt_commit {D : va_G} {A : Nat → Prop} {dA : Nat → ClassId} {ad : Nat → Nat} {X : St} {H : Heap} {q j : Nat} {v : Int32} (hj : j < 3) (hv : ¬ v < 0)
    (h : FW D A (cb ad [(q, .inr (8 + j, [.int v]))]) (va_up (xw dA ad X [(q, .inr (8 + j, [.int v]))]) 19 (some (.inl (dA 4, 3, .inr (.inr (.inr (.inr (va_up (fltF ad X) j (some q))))))))) H) :
    XF D A dA (va_up ad (80 + j) q) (up2 X 19 (j + 1) v) [] H := by
  have had' : ∀ n, n ≠ 80 + j → va_up ad (80 + j) q n = ad n := fun n a => va_up_ne _ _ a
  have h150 : ∀ k, (xw dA (va_up ad (80 + j) q) (up2 X 19 (j + 1) v) [] k).isSome = true → k < 150 := by
    intro k hk
    rcases Nat.lt_or_ge k 150 with z | z
    · exact z
    · unfold xw at hk
      rw [if_neg (by omega)] at hk
      cases hk
  refine FW.ren h (fun k => if k = 80 + j then 150 else k) (fun k e hk => ?_) (fun a b ha hb hab => ?_)
  · have hk150 := h150 k (by rw [hk]; rfl)
    by_cases e1 : k = 80 + j
    · subst e1
      rw [if_pos rfl]
      rw [xw_flt dA _ _ [] hj (by rw [up2_self]; exact hv), up2_self] at hk
      rw [va_up_ne _ _ (by decide)]
      refine ⟨hk, ?_⟩
      rw [cb_lt _ _ (by omega), va_up_self]
      rfl
    · rw [if_neg e1]
      refine ⟨?_, by rw [cb_lt _ _ hk150, cb_lt _ _ hk150, had' k e1]⟩
      by_cases e3 : k = 19
      · subst e3
        rw [va_up_self, ← hk, xw_19]
        have e9 : va_up (fltF ad X) j (some q) = fltF (va_up ad (80 + j) q) (up2 X 19 (j + 1) v) := by
          funext c
          unfold fltF
          by_cases hc : c = j
          · subst hc
            rw [va_up_self, up2_self, if_pos ⟨hj, hv⟩, va_up_self]
          · rw [va_up_ne _ _ hc, up2_i _ _ (by omega), had' _ (by omega)]
        rw [e9]
      · rw [va_up_ne _ _ e3, ← hk, xw_in _ _ _ _ hk150, xw_in _ _ _ _ hk150, xin_ad2 dA _ hj had' e3]
        have := xw_up dA ad [] X v (dep_flt (k := k) (c := j) e3 e1 (by omega))
        rw [xw_in _ _ _ _ hk150, xw_in _ _ _ _ hk150] at this
        exact this.symm
  · have ha' := h150 a ha
    have hb' := h150 b hb
    repeat' split at hab
    all_goals omega
section XNW
variable {p : Program} {l : Launch} {e : Env} {R : Room} {s : State} {m : MethodId} {args : Array Value} {below : List Frame} {meth : Method} {c : Code} {H : Heap} {locs : List Loc} {cells slots : Nat} {Q : State → Prop}
variable {cc : ByteArray} {nL pc : Nat} {ls : Array Slot} {rest : List Value} {D : va_G} {dA : Nat → ClassId} {A : Nat → Prop} {ad : Nat → Nat} {X : St} {own : String}
theorem x_camNew (C0 : CallFix p m c cc nL s args lw_all own) (hG : XG D dA A s) {q r len : Nat} {f : Nat → Int32} (hM : XF D A dA ad X [(r, .inl (dA 0, len, .inl f)), (q, .inr (5, [.ref r]))] H) (hS : va_S A s.heap H locs) (j : Nat) {x : Int32} (X' : St) (hx : x = nI j) (hj : j < 12) (hlen : len = rl X) (h16 : len ≤ 16)
    (h1 : ¬ X' 1 j = 0) (h2 : ∀ a i, ¬ (a = 1 ∧ i = j) → ¬ (a = 2 ∧ i / 16 = j) → X' a i = X a i) (h3 : ∀ t, t < len → X' 2 (16 * j + t) = f t) (hd : decode cc pc = .ok (.aastore, 1))
    (kk : ∀ (H1 : Heap) (locs1 : List Loc), XF D A dA (va_up (va_up ad (100 + j) q) (120 + j) r) X' [] H1 → va_S A s.heap H1 locs1 → W p l e R s m args below meth c H1 locs1 cells slots Q (F0 m (pc + 1) ls rest)) : W p l e R s m args below meth c H locs cells slots Q (F0 m pc ls (.ref q :: .int x :: .ref (ad 1) :: rest)) := by
  obtain ⟨-, hf5, k5, hk5, -⟩ := hG.1.1 5 _ rfl
  refine fw_aast (n := 1) (nv := 151) C0 hG.1 hM hS 2 j (xw_1 dA ad X _) rfl (ci := 5) (vs := [.ref r]) (r := (RX5, TX5, 1)) rfl rfl (fun comp hc => vb_asgS (C := RX5) comp _ hc hf5) ⟨_, k5, hf5, hk5⟩ hx hj (by decide) hd (fun H1 locs1 g1 g2 => kk H1 locs1 (cam_commit hj hlen h16 g1 h1 h2 h3) g2)
theorem x_fltNew (C0 : CallFix p m c cc nL s args lw_all own) (hG : XG D dA A s) (j : Nat) {q N : Nat} {v : Int32} {C : String} {T : u_T} (hM : XF D A dA ad X [(q, .inr (8 + j, [.int v]))] H) (hS : va_S A s.heap H locs) {x : Int32} (hx : x = nI j) (hj : j < 3) (hv : ¬ v < 0) (hc : vwCl[8 + j]? = some (C, T, N)) (hcal : cal[j]? = some (C, RX1)) (hd : decode cc pc = .ok (.aastore, 1))
    (kk : ∀ (H1 : Heap) (locs1 : List Loc), XF D A dA (va_up ad (80 + j) q) (up2 X 19 (j + 1) v) [] H1 → va_S A s.heap H1 locs1 → W p l e R s m args below meth c H1 locs1 cells slots Q (F0 m (pc + 1) ls rest)) : W p l e R s m args below meth c H locs cells slots Q (F0 m pc ls (.ref q :: .int x :: .ref (ad 19) :: rest)) := by
  obtain ⟨-, hf1, k1, hk1, -⟩ := hG.1.1 1 _ rfl
  obtain ⟨-, hfC, -⟩ := hG.1.1 (8 + j) _ hc
  refine fw_aast (n := 19) (nv := 150) C0 hG.1 hM hS 4 j (xw_19 dA ad X _) rfl (ci := 8 + j) (vs := [.int v]) (r := (C, T, N)) rfl hc (fun comp hcm => vb_asgC (hG.2.1.c j hcal) comp _ hcm hfC) ⟨_, k1, hf1, hk1⟩ hx hj (by decide) hd (fun H1 locs1 g1 g2 => kk H1 locs1 (flt_commit hj hv g1) g2)
end XNW
/-- from and number of steps lie within -/
def stpOk (X : St) (f n : Int32) : Prop := ¬ n < 0 ∧ ¬ f < 0 ∧ f ≤ X 0 0 - n
theorem XS.ext {X X' : St} (h : XS X) (hx : ∀ a i, (a = 17 ∨ a = 18 ∨ a = 23 ∨ a = 24 ∨ (a = 0 ∧ (i = 0 ∨ i = 26))) → X' a i = X a i) : XS X' := by
  refine ⟨?_, fun c hc => ?_⟩
  · rw [hx 0 26 (by omega), hx 0 0 (by omega)]; exact h.1
  · have := h.2 c hc
    dsimp only at this ⊢
    rw [hx 17 c (by omega), hx 18 c (by omega), hx 23 c (by omega), hx 24 c (by omega)]
    exact this
theorem blank_xs {X : St} (h : XS X) (j : Nat) : XS (clrC (up2 X 1 j 1) j 16) := h.ext fun a i ha => by rw [clrC_at, if_neg (by omega), up2_ne _ _ (by omega)]
theorem lim_nat {v : Int32} {n : Nat} (hn : n < 2 ^ 31) (h : ¬ v < 0 ∧ ¬ nI n < v) : ∃ b, b ≤ n ∧ v = nI b := by
  have h1 := Int32.not_lt.mp h.1
  have h2 := Int32.not_lt.mp h.2
  rw [Int32.le_iff_toInt_le] at h1 h2
  rw [nI_toInt hn] at h2
  have h0 : (0 : Int32).toInt = 0 := by decide
  rw [h0] at h1
  refine ⟨v.toInt.toNat, by omega, ?_⟩
  apply Int32.toInt_inj.mp
  rw [nI_toInt (by omega)]
  omega
theorem wind_lo {X : St} {b : Nat} (hp : inv (X 0 9) 1000) (hb : b ≤ 5000) (h : nv (X 0 9) + b ≤ 1000) : sp_wind X (nI b) = (nI (nv (X 0 9) + b), up2 (up2 X 0 12 (X 0 12 + 0)) 0 9 (nI (nv (X 0 9) + b))) := by
  obtain ⟨a, ha, e⟩ := hp
  rw [e, nv_nI (by omega)] at h
  unfold sp_wind
  rw [e, nv_nI (by omega), if_neg (nI_pos (by omega)), if_neg (show ¬ (5000 : Int32) < nI b from fun z => by have := (nI_ltI (a := 5000) (b := b) (by omega) (by omega)).mp z; omega), if_neg (show ¬ (1000 : Int32) - nI a < nI b from ?_), nI_add]
  rw [show (1000 : Int32) = nI 1000 from rfl, pk_sub (by omega)]
  exact fun z => by have := (nI_ltI (a := 1000 - a) (b := b) (by omega) (by omega)).mp z; omega
theorem wind_hi {X : St} {b : Nat} (hp : inv (X 0 9) 1000) (hb : b ≤ 5000) (h : ¬ nv (X 0 9) + b ≤ 1000) : sp_wind X (nI b) = (1000, up2 (up2 X 0 12 (X 0 12 + 1)) 0 9 1000) := by
  obtain ⟨a, ha, e⟩ := hp
  rw [e, nv_nI (by omega)] at h
  unfold sp_wind
  rw [e, if_neg (nI_pos (by omega)), if_neg (show ¬ (5000 : Int32) < nI b from fun z => by have := (nI_ltI (a := 5000) (b := b) (by omega) (by omega)).mp z; omega), if_pos (show (1000 : Int32) - nI a < nI b from ?_)]
  rw [show (1000 : Int32) = nI 1000 from rfl, pk_sub (by omega)]
  exact (nI_ltI (a := 1000 - a) (b := b) (by omega) (by omega)).mpr (by omega)
theorem imin_lo {n : Nat} (h : n ≤ 1000) : imin 1000 (nI n) = nI n := by
  unfold imin
  by_cases h1 : nI n < 1000
  · rw [if_pos h1]
  · rw [if_neg h1]
    have : ¬ n < 1000 := fun z => h1 ((nI_ltI (a := n) (b := 1000) (by omega) (by omega)).mpr z)
    have : n = 1000 := by omega
    rw [this]; rfl
theorem imin_hi {n : Nat} (h : ¬ n ≤ 1000) (h2 : n ≤ 10000) : imin 1000 (nI n) = 1000 := by
  unfold imin
  rw [if_neg (fun z => by have := (nI_ltI (a := n) (b := 1000) (by omega) (by omega)).mp z; omega)]
theorem see_nar {b : Int32} (h : b = 0 ∨ b = 1) : vp_nar .boolean b = b := by rcases h with rfl | rfl <;> decide +kernel
theorem see_M {D : va_G} {A : Nat → Prop} {dA : Nat → ClassId} {ad : Nat → Nat} {X : St} {L : Ex} {H : Heap} {c : Nat} {b u v : Int32} (h : XF D A dA ad (up2 (up2 X 23 c b) 24 c 9999) L H) : XF D A dA ad (up2 (up2 (up2 (up2 X 17 c u) 18 c v) 23 c b) 24 c 9999) L H := by
  refine XF.cong h (fun k a i hd => ?_)
  have h1 : a ≠ 17 := fun z => by rw [dep_gh (by omega)] at hd; cases hd
  have h2 : a ≠ 18 := fun z => by rw [dep_gh (by omega)] at hd; cases hd
  unfold up2
  simp only [h1, h2, false_and, if_false]
theorem see_xs {X : St} (h : XS X) {c : Nat} {b : Int32} (hb : b = 0 ∨ b = 1) : XS (up2 (up2 (up2 (up2 X 17 c (if b = 0 then -1 else 99)) 18 c (if b = 0 then -1 else 99)) 23 c b) 24 c 9999) := by
  refine ⟨?_, fun k hk => ?_⟩
  · rw [up2_ne _ _ (by omega), up2_ne _ _ (by omega), up2_ne _ _ (by omega), up2_ne _ _ (by omega), up2_ne _ _ (by omega), up2_ne _ _ (by omega), up2_ne _ _ (by omega), up2_ne _ _ (by omega)]
    exact h.1
  · dsimp only
    by_cases hc : k = c
    · subst hc
      rw [up2_ne _ _ (k' := 17) (by omega), up2_ne _ _ (k' := 17) (by omega), up2_ne _ _ (k' := 17) (by omega), up2_self, up2_ne _ _ (k' := 18) (by omega), up2_ne _ _ (k' := 18) (by omega), up2_self, up2_ne _ _ (k' := 23) (by omega), up2_self, up2_self]
      rcases hb with rfl | rfl
      · left; exact ⟨rfl, rfl⟩
      · right; exact ⟨99, 99, by omega, by omega, rfl, rfl, rfl, rfl⟩
    · have := h.2 k hk
      dsimp only at this
      rw [up2_ne _ _ (k' := 17) (by omega), up2_ne _ _ (k' := 17) (by omega), up2_ne _ _ (k' := 17) (by omega), up2_i _ _ hc, up2_ne _ _ (k' := 18) (by omega), up2_ne _ _ (k' := 18) (by omega), up2_i _ _ hc, up2_ne _ _ (k' := 18) (by omega), up2_ne _ _ (k' := 23) (by omega), up2_i _ _ hc, up2_ne _ _ (k' := 23) (by omega), up2_ne _ _ (k' := 23) (by omega), up2_i _ _ hc, up2_ne _ _ (k' := 24) (by omega), up2_ne _ _ (k' := 24) (by omega), up2_ne _ _ (k' := 24) (by omega)]
      exact this
theorem fltN_le {X : St} (h : Ok X) (k : Nat) : fltN X k ≤ 12 := by
  unfold fltN
  have := h.pg12
  repeat' split
  all_goals omega
theorem inR_nn {x : Int32} {n : Nat} (h : (inR x n).isSome = true) : ¬ x < 0 := by
  have := (inR_iff.mp h).1
  rw [Int32.lt_iff_toInt_lt]
  have h0 : (0 : Int32).toInt = 0 := by decide
  omega
theorem cnt_mid {x : Int32} (h1 : ¬ x ≤ 10) (h2 : ¬ 18 ≤ x) : (11 : Int32) ≤ x ∧ x ≤ 17 := by
  rw [Int32.le_iff_toInt_le] at h1 h2 ⊢
  rw [Int32.le_iff_toInt_le]
  have e1 : (10 : Int32).toInt = 10 := by decide
  have e2 : (18 : Int32).toInt = 18 := by decide
  have e3 : (11 : Int32).toInt = 11 := by decide
  have e4 : (17 : Int32).toInt = 17 := by decide
  rw [e1] at h1
  rw [e2] at h2
  rw [e3, e4]
  omega
theorem cnt_out {x : Int32} (h : x ≤ 10 ∨ 18 ≤ x) : ¬ ((11 : Int32) ≤ x ∧ x ≤ 17) := by
  rw [Int32.le_iff_toInt_le, Int32.le_iff_toInt_le] at h ⊢
  have e1 : (10 : Int32).toInt = 10 := by decide
  have e2 : (18 : Int32).toInt = 18 := by decide
  have e3 : (11 : Int32).toInt = 11 := by decide
  have e4 : (17 : Int32).toInt = 17 := by decide
  rw [e1, e2] at h
  rw [e3, e4]
  omega
theorem mend_xs {X : St} (h : XS X) : XS (mendF X 3) := ((h.up 19 _ _ rfl).up 19 _ _ rfl).up 19 _ _ rfl
theorem b01_or {P : Prop} {h : Decidable P} : (if P then (1 : Int32) else 0) = 0 ∨ (if P then (1 : Int32) else 0) = 1 := by
  by_cases q : P
  · right; rw [if_pos q]
  · left; rw [if_neg q]
theorem stp1 {X : St} {f : Int32} (hO : Ok X) : stpOk X f 1 ↔ (inR f (ln X)).isSome = true := by
  unfold stpOk
  have hl2 := hO.len2
  have hl16 := hO.len16
  rw [← inR_len hO, hO.len, show nI (ln X) - 1 = nI (ln X - 1) from pk_sub (a := ln X) (b := 1) (by omega)]
  exact ⟨fun z => ⟨Int32.not_lt.mp z.2.1, z.2.2⟩, fun z => ⟨by decide, Int32.not_lt.mpr z.1, z.2⟩⟩
