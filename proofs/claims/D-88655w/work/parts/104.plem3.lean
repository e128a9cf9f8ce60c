/-! pure rows: a show of the component -/
set_option maxRecDepth 100000
set_option linter.unusedVariables false
def Ts (Y T : St) : Prop := ∀ a i, a ≠ 23 → a ≠ 24 → T a i = Y a i
theorem Ts.k {Y T : St} (h : Ts Y T) (k : Nat) (hk : (k != 23 && k != 24) = true) : T k = Y k := by
  simp only [Bool.and_eq_true, bne_iff_ne] at hk
  funext i
  exact h k i hk.1 hk.2
theorem Ts.w {Y T : St} (h : Ts Y T) : Wq T Y := ⟨h.k 2 rfl, h.k 3 rfl, h.k 4 rfl, h.k 5 rfl, h.k 7 rfl, by rw [h.k 0 rfl]⟩
theorem Ts.up {Y T : St} (h : Ts Y T) (k i : Nat) (v : Int32) : Ts (up2 Y k i v) (up2 T k i v) := fun a j h1 h2 => by
  unfold up2
  rw [h a j h1 h2]
theorem Ts.go {Y T : St} (h : Ts Y T) : Ts (goF Y) (goF T) := by
  unfold goF
  rw [h.k 0 rfl]
  exact (((h.up _ _ _).up _ _ _).up _ _ _).up _ _ _
theorem Ts.wr {Y T : St} (h : Ts Y T) (w bb : Int32) (k t : Nat) : Ts Y (wrX T w bb 23 24 k t) := fun a i h1 h2 => by rw [wrX_o T w bb h1 h2]; exact h a i h1 h2
theorem Ts.clr (X : St) : Ts X (clrA X 23 1200) := fun a i h1 h2 => by rw [clrA_at, if_neg (by omega)]
theorem prt_c (ad : Nat → Nat) (X : St) (k : Nat) : prt ad (clrA X 23 1200) k = prt ad X k := by
  unfold prt
  rw [(Ts.clr X).k 19 rfl]
theorem go_wear {S : St} (h : inv (S 0 11) 20) : inv (goF S 0 11) 20 := by
  unfold goF
  rw [up2_self]
  obtain ⟨a, ha, e⟩ := h
  by_cases hc : S 0 14 + 1 - (S 0 14 + 1) / 100 * 100 = 0 ∧ S 0 11 < 20
  · rw [if_pos hc, e, nI_1]
    have := hc.2
    rw [e] at this
    have := (nI_ltI (a := a) (b := 20) (by omega) (by omega)).mp this
    exact inv_nI (by omega)
  · rw [if_neg hc, e]
    exact ⟨a, ha, Int32.add_zero _⟩
theorem shT_wear (w l b : Int32) (k : Nat) (X : Sho) (h : inv (X.1 0 11) 20) : ∀ t, inv ((shT w l b k t X).1 0 11) 20
  | 0 => h
  | t + 1 => by
    have ih := shT_wear w l b k X h t
    show inv ((if nI k = l ∨ (shT w l b k t X).2.1 = true then shT w l b k t X else if (shT w l b k t X).1 0 9 < (shT w l b k t X).1 0 10 + (shT w l b k t X).1 0 11 then ((shT w l b k t X).1, true, (shT w l b k t X).2.2.1, (shT w l b k t X).2.2.2) else (goF (shT w l b k t X).1, false, wrt (shT w l b k t X).1 w b (shT w l b k t X).2.2.1 k t, (shT w l b k t X).2.2.2 + 1)).1 0 11) 20
    split
    · exact ih
    · split
      · exact ih
      · exact go_wear ih
theorem shK_wear (w l b : Int32) (L : Nat) (X : Sho) (h : inv (X.1 0 11) 20) : ∀ k, inv ((shK w l b L k X).1 0 11) 20
  | 0 => h
  | k + 1 => shT_wear w l b k _ (shK_wear w l b L X h k) L
theorem shZ_wear {X : St} (h : Ok X) (k t : Nat) : inv ((shZ X k t).1 0 11) 20 := shT_wear _ _ _ _ _ (shK_wear _ _ _ _ _ h.wea k) t
/-- the steps are counted -/
def cnt (X0 : St) (Y : Sho) : Prop := Y.1 0 14 = X0 0 14 + nI Y.2.2.2
theorem shT_cnt (X0 : St) (w l b : Int32) (k : Nat) (X : Sho) (h : cnt X0 X) : ∀ t, cnt X0 (shT w l b k t X)
  | 0 => h
  | t + 1 => by
    have ih := shT_cnt X0 w l b k X h t
    show cnt X0 (if nI k = l ∨ (shT w l b k t X).2.1 = true then shT w l b k t X else if (shT w l b k t X).1 0 9 < (shT w l b k t X).1 0 10 + (shT w l b k t X).1 0 11 then ((shT w l b k t X).1, true, (shT w l b k t X).2.2.1, (shT w l b k t X).2.2.2) else (goF (shT w l b k t X).1, false, wrt (shT w l b k t X).1 w b (shT w l b k t X).2.2.1 k t, (shT w l b k t X).2.2.2 + 1))
    split
    · exact ih
    · split
      · exact ih
      · unfold cnt at ih ⊢
        show goF (shT w l b k t X).1 0 14 = X0 0 14 + nI ((shT w l b k t X).2.2.2 + 1)
        unfold goF
        rw [up2_i _ _ (by decide), up2_self, ih, ← nI_1, Int32.add_assoc]
theorem shK_cnt (X0 : St) (w l b : Int32) (L : Nat) (X : Sho) (h : cnt X0 X) : ∀ k, cnt X0 (shK w l b L k X)
  | 0 => h
  | k + 1 => shT_cnt X0 w l b k _ (shK_cnt X0 w l b L X h k) L
theorem shY_cnt (X : St) (k : Nat) : (shY X k).1 0 14 = X 0 14 + nI (shY X k).2.2.2 := shK_cnt X _ _ _ _ (X, false, noMk, 0) (Int32.add_zero _).symm k
theorem cnt_sub {a b c : Int32} (h : a = b + c) : a - b = c := by
  subst h
  rw [Int32.add_comm, Int32.add_sub_cancel]
theorem XF.gh {D : va_G} {A : Nat → Prop} {dA : Nat → ClassId} {ad : Nat → Nat} {X : St} {L : Ex} {H : Heap} (h : XF D A dA ad X L H) (f g : Nat → Int32) : XF D A dA ad (put (put X 17 f) 18 g) L H := by
  refine XF.cong h (fun k a i hd => ?_)
  have h1 : a ≠ 17 := fun z => by rw [dep_gh (by omega)] at hd; cases hd
  have h2 : a ≠ 18 := fun z => by rw [dep_gh (by omega)] at hd; cases hd
  rw [put_ne _ _ h2, put_ne _ _ h1]
theorem show_sh {Z T : St} (h : Ts Z T) (u v : Int32) (f g : Nat → Int32) : Sh (put (put (up2 (up2 T 0 15 u) 0 16 v) 17 f) 18 g) (put (put (up2 (up2 Z 0 15 u) 0 16 v) 17 f) 18 g) := by
  have h2 := (h.up 0 15 u).up 0 16 v
  refine ⟨fun j a b c d => ?_, fun k a b c d e f' => ?_⟩
  · rw [put_ne _ _ (by decide), put_ne _ _ (by decide), put_ne _ _ (by decide), put_ne _ _ (by decide)]
    exact h2 0 j (by decide) (by decide)
  · by_cases h18 : k = 18
    · subst h18; rw [put_self, put_self]
    · rw [put_ne _ _ h18, put_ne _ _ h18]
      by_cases h17 : k = 17
      · subst h17; rw [put_self, put_self]
      · rw [put_ne _ _ h17, put_ne _ _ h17]
        funext i
        exact h2 k i b c
theorem show_xs {X Z T : St} (hX : XS X) (hg : Gq Z X) (h : Ts Z T) {u v : Int32} {P : Mk} (hR : MkR P (T 23) (T 24)) : XS (put (put (up2 (up2 T 0 15 u) 0 16 v) 17 P.1) 18 P.2) := by
  constructor
  · rw [put_ne _ _ (by decide), put_ne _ _ (by decide), up2_i _ _ (by decide), up2_i _ _ (by decide), up2_i _ _ (by decide), up2_i _ _ (by decide), h 0 26 (by decide) (by decide), h 0 0 (by decide) (by decide), hg.1 26 (by decide) (by decide) (by decide) (by decide), hg.1 0 (by decide) (by decide) (by decide) (by decide)]
    exact hX.1
  · rw [put_ne _ _ (k' := 17) (by decide), put_self, put_self, put_ne _ _ (k' := 23) (by decide), put_ne _ _ (k' := 23) (by decide), up2_k _ _ _ (k' := 23) (by decide), up2_k _ _ _ (k' := 23) (by decide), put_ne _ _ (k' := 24) (by decide), put_ne _ _ (k' := 24) (by decide), up2_k _ _ _ (k' := 24) (by decide), up2_k _ _ _ (k' := 24) (by decide)]
    exact hR
