/-! pure rows: a show -/
set_option maxRecDepth 100000
set_option linter.unusedVariables false
def shM (Z : St) (w l b v : Int32) (P : Mk) : St := setMk (up2 (hold Z w l b) 0 15 v) P
theorem setMk_up0 (S : St) (P : Mk) (j : Nat) (v : Int32) : up2 (setMk S P) 0 j v = setMk (up2 S 0 j v) P := by
  funext k
  by_cases h0 : k = 0
  · subst h0
    rw [setMk_ne _ _ (by decide) (by decide), up2_row, up2_row, setMk_ne _ _ (by decide) (by decide)]
  · rw [up2_k _ _ _ h0]
    by_cases h1 : k = 29
    · subst h1; rw [setMk_29, setMk_29]
    · by_cases h2 : k = 30
      · subst h2; rw [setMk_30, setMk_30]
      · rw [setMk_ne _ _ h1 h2, setMk_ne _ _ h1 h2, up2_k _ _ _ h0]
theorem up2_comm (S : St) {j j' : Nat} (v v' : Int32) (h : j ≠ j') : up2 (up2 S 0 j v) 0 j' v' = up2 (up2 S 0 j' v') 0 j v := by
  funext k i
  unfold up2
  by_cases a : k = 0 ∧ i = j'
  · rw [if_pos a, if_neg (by omega), if_pos a]
  · rw [if_neg a]
    by_cases b : k = 0 ∧ i = j
    · rw [if_pos b, if_pos b]
    · rw [if_neg b, if_neg b, if_neg a]
theorem hold_up (Z : St) (w l b : Int32) {j : Nat} (v : Int32) (h1 : j ≠ 26) (h2 : j ≠ 27) (h3 : j ≠ 28) : up2 (hold Z w l b) 0 j v = hold (up2 Z 0 j v) w l b := by
  unfold hold
  rw [up2_comm _ _ _ (Ne.symm h3), up2_comm _ _ _ (Ne.symm h2), up2_comm _ _ _ (Ne.symm h1)]
def sj (j : Nat) : Bool := j != 15 && (j != 26 && (j != 27 && j != 28))
theorem shM_up (Z : St) (w l b v : Int32) (P : Mk) {j : Nat} (x : Int32) (h : sj j = true) : up2 (shM Z w l b v P) 0 j x = shM (up2 Z 0 j x) w l b v P := by
  simp [sj] at h
  unfold shM
  rw [setMk_up0, up2_comm _ _ _ (Ne.symm h.1), hold_up _ _ _ _ _ h.2.1 h.2.2.1 h.2.2.2]
theorem shM_0 (Z : St) (w l b v : Int32) (P : Mk) {j : Nat} (h : sj j = true) : shM Z w l b v P 0 j = Z 0 j := by
  simp [sj] at h
  unfold shM
  rw [mk_0, up2_i _ _ h.1, hold_0 _ _ _ _ h.2.1 h.2.2.1 h.2.2.2]
theorem shM_26 (Z : St) (w l b v : Int32) (P : Mk) : shM Z w l b v P 0 26 = w := by unfold shM; rw [mk_0, up2_i _ _ (by decide), hold_26]
theorem shM_27 (Z : St) (w l b v : Int32) (P : Mk) : shM Z w l b v P 0 27 = l := by unfold shM; rw [mk_0, up2_i _ _ (by decide), hold_27]
theorem shM_28 (Z : St) (w l b v : Int32) (P : Mk) : shM Z w l b v P 0 28 = b := by unfold shM; rw [mk_0, up2_i _ _ (by decide), hold_28]
theorem shM_k (Z : St) (w l b v : Int32) (P : Mk) {k : Nat} (h0 : k ≠ 0) (h1 : k ≠ 29) (h2 : k ≠ 30) : shM Z w l b v P k = Z k := by unfold shM; rw [setMk_ne _ _ h1 h2, up2_k _ _ _ h0, hold_k _ _ _ _ h0]
theorem shM_q (Z : St) (w l b v : Int32) (P : Mk) : Wq (shM Z w l b v P) Z := ⟨shM_k _ _ _ _ _ _ (by decide) (by decide) (by decide), shM_k _ _ _ _ _ _ (by decide) (by decide) (by decide), shM_k _ _ _ _ _ _ (by decide) (by decide) (by decide), shM_k _ _ _ _ _ _ (by decide) (by decide) (by decide), shM_k _ _ _ _ _ _ (by decide) (by decide) (by decide), shM_0 _ _ _ _ _ _ rfl⟩
theorem shM_wr (Z : St) (w l b v : Int32) (P : Mk) (k t : Nat) : setMk (shM Z w l b v P) (wrt (shM Z w l b v P) (shM Z w l b v P 0 26) (shM Z w l b v P 0 28) (shM Z w l b v P 29, shM Z w l b v P 30) k t) = shM Z w l b v (wrt Z w b P k t) := by
  rw [shM_26, shM_28, wrt_q (shM_q _ _ _ _ _ _)]
  have e1 : shM Z w l b v P 29 = P.1 := setMk_29 _ _
  have e2 : shM Z w l b v P 30 = P.2 := setMk_30 _ _
  rw [e1, e2]
  exact setMk_set _ _ _
/-- all but the spring's numbers is as it was -/
def Gq (Z S : St) : Prop := (∀ j, j ≠ 9 → j ≠ 11 → j ≠ 13 → j ≠ 14 → Z 0 j = S 0 j) ∧ ∀ k, k ≠ 0 → Z k = S k
theorem Gq.rfl {S : St} : Gq S S := ⟨fun _ _ _ _ _ => Eq.refl _, fun _ _ => Eq.refl _⟩
theorem Gq.trans {S S' S'' : St} (h : Gq S S') (g : Gq S' S'') : Gq S S'' := ⟨fun j a b c d => (h.1 j a b c d).trans (g.1 j a b c d), fun k a => (h.2 k a).trans (g.2 k a)⟩
theorem Gq.up (S : St) {j : Nat} (v : Int32) (h : j = 9 ∨ j = 11 ∨ j = 13 ∨ j = 14) : Gq (up2 S 0 j v) S := ⟨fun i a b c d => up2_i _ _ (by omega), fun k hk => up2_k _ _ _ hk⟩
theorem Gq.w {S S' : St} (h : Gq S S') : Wq S S' := ⟨h.2 2 (by decide), h.2 3 (by decide), h.2 4 (by decide), h.2 5 (by decide), h.2 7 (by decide), h.1 8 (by decide) (by decide) (by decide) (by decide)⟩
theorem goF_g (S : St) : Gq (goF S) S := by
  unfold goF
  exact (Gq.up _ _ (by decide)).trans ((Gq.up _ _ (by decide)).trans ((Gq.up _ _ (by decide)).trans (Gq.up _ _ (by decide))))
theorem shT_g (w l b : Int32) (k : Nat) (X : Sho) : ∀ t, Gq (shT w l b k t X).1 X.1
  | 0 => Gq.rfl
  | t + 1 => by
    have ih := shT_g w l b k X t
    show Gq (if _ then _ else if _ then _ else _ : Sho).1 X.1
    split
    · exact ih
    · split
      · exact ih
      · exact (goF_g _).trans ih
theorem shK_g (w l b : Int32) (L : Nat) (X : Sho) : ∀ k, Gq (shK w l b L k X).1 X.1
  | 0 => Gq.rfl
  | k + 1 => (shT_g w l b k _ L).trans (shK_g w l b L X k)
theorem shT_idle (w l b : Int32) (k : Nat) (X : Sho) {t : Nat} (h : nI k = l ∨ (shT w l b k t X).2.1 = true) : ∀ d, shT w l b k (t + d) X = shT w l b k t X
  | 0 => rfl
  | d + 1 => by
    have ih := shT_idle w l b k X h d
    show (if nI k = l ∨ (shT w l b k (t + d) X).2.1 = true then _ else _) = _
    rw [ih, if_pos h]
    exact ih
def shY (S : St) (k : Nat) : Sho := shK (S 19 1) (S 19 2) (S 19 3) (ln S) k (S, false, noMk, 0)
def shZ (S : St) (k t : Nat) : Sho := shT (S 19 1) (S 19 2) (S 19 3) k t (shY S k)
def shW (S : St) (Y : Sho) : St := shM Y.1 (S 19 1) (S 19 2) (S 19 3) (S 0 15 + 1) Y.2.2.1
theorem shY_g (S : St) (k : Nat) : Gq (shY S k).1 S := shK_g _ _ _ _ _ _
theorem shZ_g (S : St) (k t : Nat) : Gq (shZ S k t).1 S := (shT_g _ _ _ _ _ _).trans (shY_g S k)
theorem shZ_idle {S : St} {k t : Nat} (ht : t ≤ ln S) (h : nI k = S 19 2 ∨ (shZ S k t).2.1 = true) : shZ S k t = shY S (k + 1) := by
  have := shT_idle (S 19 1) (S 19 2) (S 19 3) k (shY S k) h (ln S - t)
  rw [show t + (ln S - t) = ln S by omega] at this
  exact this.symm
theorem shZ_s (S : St) (k t : Nat) (h1 : ¬ nI k = S 19 2) (h2 : (shZ S k t).2.1 = false) : shZ S k (t + 1) = if (shZ S k t).1 0 9 < (shZ S k t).1 0 10 + (shZ S k t).1 0 11 then ((shZ S k t).1, true, (shZ S k t).2.2.1, (shZ S k t).2.2.2) else (goF (shZ S k t).1, false, wrt (shZ S k t).1 (S 19 1) (S 19 3) (shZ S k t).2.2.1 k t, (shZ S k t).2.2.2 + 1) := by
  show (if nI k = S 19 2 ∨ (shZ S k t).2.1 = true then _ else _) = _
  rw [if_neg (fun z => z.elim h1 (fun q => by rw [h2] at q; cases q))]
  rfl
theorem shZ_stop {S : St} {k t : Nat} (h1 : ¬ nI k = S 19 2) (h2 : (shZ S k t).2.1 = false) (h3 : ¬ (shZ S k t).1 0 10 + (shZ S k t).1 0 11 ≤ (shZ S k t).1 0 9) : shZ S k (t + 1) = ((shZ S k t).1, true, (shZ S k t).2.2.1, (shZ S k t).2.2.2) := by
  rw [shZ_s S k t h1 h2, if_pos (Int32.not_le.mp h3)]
theorem shZ_go {S : St} {k t : Nat} (h1 : ¬ nI k = S 19 2) (h2 : (shZ S k t).2.1 = false) (h3 : (shZ S k t).1 0 10 + (shZ S k t).1 0 11 ≤ (shZ S k t).1 0 9) : shZ S k (t + 1) = (goF (shZ S k t).1, false, wrt (shZ S k t).1 (S 19 1) (S 19 3) (shZ S k t).2.2.1 k t, (shZ S k t).2.2.2 + 1) := by
  rw [shZ_s S k t h1 h2, if_neg (Int32.not_lt.mpr h3)]
theorem shW_0 (S : St) (Y : Sho) {j : Nat} (h : sj j = true) : shW S Y 0 j = Y.1 0 j := shM_0 _ _ _ _ _ _ h
theorem shW_pg {S : St} (hO : Ok S) (k : Nat) : shW S (shY S k) 0 6 = nI (pg S) := by
  rw [shW_0 _ _ rfl, (shY_g S k).1 6 (by decide) (by decide) (by decide) (by decide)]
  exact hO.pgE
theorem shW_ln {S : St} (hO : Ok S) (k t : Nat) : shW S (shZ S k t) 0 0 = nI (ln S) := by
  rw [shW_0 _ _ rfl, (shZ_g S k t).1 0 (by decide) (by decide) (by decide) (by decide)]
  exact hO.len
theorem shW_27 (S : St) (Y : Sho) : shW S Y 0 27 = S 19 2 := shM_27 _ _ _ _ _ _
theorem shW_16 (S : St) (k : Nat) : shW S (shY S k) 0 16 = S 0 16 := by
  rw [shW_0 _ _ rfl, (shY_g S k).1 16 (by decide) (by decide) (by decide) (by decide)]
/-- the marks go to the paper -/
def pcF (T : St) (P : Mk) (i : Nat) : St := put (put T 17 (wrF (T 17) 0 P.1 i)) 18 (wrF (T 18) 0 P.2 i)
theorem pcF_0 (T : St) (P : Mk) : pcF T P 0 = T := by
  show put (put T 17 (T 17)) 18 (T 18) = T
  rw [put_id, put_id]
theorem pcF_k (T : St) (P : Mk) (i : Nat) {k : Nat} (h1 : k ≠ 17) (h2 : k ≠ 18) : pcF T P i k = T k := by unfold pcF; rw [put_ne _ _ h2, put_ne _ _ h1]
theorem pcF_s (T : St) (P : Mk) (i : Nat) : up2 (up2 (pcF T P i) 17 i (P.1 i)) 18 i (P.2 i) = pcF T P (i + 1) := by
  unfold pcF
  rw [put_comm _ _ _ (by decide : (17 : Nat) ≠ 18), wr_up _ 17 (T 17) 0 P.1 i (Nat.zero_add i).symm, ← put_comm _ _ _ (by decide : (17 : Nat) ≠ 18), wr_up _ 18 (T 18) 0 P.2 i (Nat.zero_add i).symm]
theorem pcF_eq (T : St) (P : Mk) : pcF T P 1200 0 = put (put T 17 P.1) 18 P.2 0 ∧ ∀ k, marr k = true → ∀ i, i < mlen k → pcF T P 1200 k i = put (put T 17 P.1) 18 P.2 k i := by
  refine ⟨by rw [pcF_k _ _ _ (by decide) (by decide), put_ne _ _ (by decide), put_ne _ _ (by decide)], fun k hm i hi => ?_⟩
  by_cases a : k = 18
  · subst a
    unfold pcF
    rw [put_self, put_self, wrF_at, if_pos ⟨Nat.zero_le _, by rw [Nat.zero_add]; exact hi⟩]
    rfl
  · by_cases b : k = 17
    · subst b
      unfold pcF
      rw [put_ne _ _ a, put_self, put_ne _ _ a, put_self, wrF_at, if_pos ⟨Nat.zero_le _, by rw [Nat.zero_add]; exact hi⟩]
      rfl
    · rw [pcF_k _ _ _ b a, put_ne _ _ a, put_ne _ _ b]
theorem show_fin (Z : St) (w l b v v' : Int32) (P : Mk) : Sh (put (put (shM (up2 Z 0 16 v') w l b v P) 17 P.1) 18 P.2) (put (put (up2 (up2 Z 0 15 v) 0 16 v') 17 P.1) 18 P.2) := by
  refine ⟨fun j a b' c d => ?_, fun k a b' c d e f => ?_⟩
  · rw [put_ne _ _ (by decide), put_ne _ _ (by decide), put_ne _ _ (by decide), put_ne _ _ (by decide)]
    unfold shM
    rw [mk_0]
    by_cases h : j = 15
    · subst h
      rw [up2_self, up2_i _ _ (by decide), up2_self]
    · rw [up2_i _ _ h, hold_0 _ _ _ _ a b' c]
      by_cases h2 : j = 16
      · subst h2; rw [up2_self, up2_self]
      · rw [up2_i _ _ h2, up2_i _ _ h2, up2_i _ _ h]
  · by_cases h : k = 18
    · subst h; rw [put_self, put_self]
    · by_cases h2 : k = 17
      · subst h2; rw [put_ne _ _ h, put_self, put_ne _ _ h, put_self]
      · rw [put_ne _ _ h, put_ne _ _ h2, put_ne _ _ h, put_ne _ _ h2, shM_k _ _ _ _ _ _ a e f, up2_k _ _ _ a, up2_k _ _ _ a, up2_k _ _ _ a]
theorem sp_show_t {S : St} (h : areCutN S (pg S) = true) : sp_show S = (nI (shY S (pg S)).2.2.2, put (put (up2 (up2 (shY S (pg S)).1 0 15 (S 0 15 + 1)) 0 16 (S 0 16 + if (shY S (pg S)).2.1 = true then 0 else 1)) 17 (shY S (pg S)).2.2.1.1) 18 (shY S (pg S)).2.2.1.2) := if_pos h
