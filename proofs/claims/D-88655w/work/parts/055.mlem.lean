/-! small pure rows for the reference's walks -/
set_option maxRecDepth 100000
set_option linter.unusedVariables false
theorem b01_c {P P' : Prop} {h : Decidable P} {h' : Decidable P'} (e : P ↔ P') : (if P then (1 : Int32) else 0) = if P' then 1 else 0 := by
  by_cases q : P
  · rw [if_pos q, if_pos (e.mp q)]
  · rw [if_neg q, if_neg (fun z => q (e.mpr z))]
theorem cellN_is {x y : Int32} (hx : (inR x 120).isSome = true) (hy : (inR y 10).isSome = true) : (cellN x y).isSome = true := by
  obtain ⟨a, ha⟩ := Option.isSome_iff_exists.mp hx
  obtain ⟨b, hb⟩ := Option.isSome_iff_exists.mp hy
  unfold cellN
  rw [ha, hb]
  rfl
theorem cellN_of {x y : Int32} (h : (cellN x y).isSome = true) : (inR x 120).isSome = true ∧ (inR y 10).isSome = true := by
  unfold cellN at h
  cases hx : inR x 120 with
  | none => rw [hx] at h; cases h
  | some a =>
    cases hy : inR y 10 with
    | none => rw [hx, hy] at h; cases h
    | some b => exact ⟨rfl, rfl⟩
theorem cellN_get {x y : Int32} (h : (cellN x y).isSome = true) : ∃ a b, cellN x y = some (10 * a + b) ∧ a < 120 ∧ b < 10 ∧ x = nI a ∧ y = nI b := by
  obtain ⟨h1, h2⟩ := cellN_of h
  obtain ⟨a, e1, ha, rfl⟩ := inR_get h1 (by decide)
  obtain ⟨b, e2, hb, rfl⟩ := inR_get h2 (by decide)
  refine ⟨a, b, ?_, ha, hb, rfl, rfl⟩
  unfold cellN
  rw [e1, e2]
theorem cellN_none {x y : Int32} (h : ¬ (cellN x y).isSome = true) : cellN x y = none := by
  cases hx : cellN x y with
  | none => rfl
  | some j => rw [hx] at h; exact absurd rfl h
def lowF (a b : Int32) : Int32 := if a - a / b * b < 0 then a / b - 1 else a / b
def setMk (S : St) (P : Mk) : St := put (put S 29 P.1) 30 P.2
def nmkF (S : St) : Nat → St
  | 0 => S
  | i + 1 => up2 (up2 (nmkF S i) 29 i (-1)) 30 i (-1)
def hold (S : St) (w l b : Int32) : St := up2 (up2 (up2 S 0 26 w) 0 27 l) 0 28 b
theorem put_self (S : St) (k : Nat) (f : Nat → Int32) : put S k f k = f := by simp [put]
theorem put_ne (S : St) {k k' : Nat} (f : Nat → Int32) (h : k' ≠ k) : put S k f k' = S k' := by simp [put, h]
theorem put_up (S : St) (k i : Nat) (v : Int32) : up2 S k i v = put S k (upd (S k) i v) := by
  funext k'
  by_cases h : k' = k
  · subst h; rw [up2_row, put_self]
  · rw [up2_k _ _ _ h, put_ne _ _ h]
theorem put_put (S : St) (k : Nat) (f g : Nat → Int32) : put (put S k f) k g = put S k g := by
  funext k'
  by_cases h : k' = k
  · subst h; rw [put_self, put_self]
  · rw [put_ne _ _ h, put_ne _ _ h, put_ne _ _ h]
theorem put_id (S : St) (k : Nat) : put S k (S k) = S := by
  funext k'
  by_cases h : k' = k
  · subst h; rw [put_self]
  · rw [put_ne _ _ h]
theorem put_comm (S : St) {k k' : Nat} (f g : Nat → Int32) (h : k ≠ k') : put (put S k f) k' g = put (put S k' g) k f := by
  funext q
  unfold put
  by_cases h1 : q = k'
  · subst h1
    rw [if_pos rfl, if_neg (Ne.symm h), if_pos rfl]
  · rw [if_neg h1]
    by_cases h2 : q = k
    · rw [if_pos h2, if_pos h2]
    · rw [if_neg h2, if_neg h2, if_neg h1]
theorem setMk_29 (S : St) (P : Mk) : setMk S P 29 = P.1 := by unfold setMk; rw [put_ne _ _ (by decide), put_self]
theorem setMk_30 (S : St) (P : Mk) : setMk S P 30 = P.2 := by unfold setMk; rw [put_self]
theorem setMk_ne (S : St) (P : Mk) {k : Nat} (h1 : k ≠ 29) (h2 : k ≠ 30) : setMk S P k = S k := by unfold setMk; rw [put_ne _ _ h2, put_ne _ _ h1]
theorem setMk_id (S : St) : setMk S (S 29, S 30) = S := by
  unfold setMk
  rw [put_id, put_id]
theorem setMk_set (S : St) (P P' : Mk) : setMk (setMk S P) P' = setMk S P' := by
  funext k
  by_cases h1 : k = 29
  · subst h1; rw [setMk_29, setMk_29]
  · by_cases h2 : k = 30
    · subst h2; rw [setMk_30, setMk_30]
    · rw [setMk_ne _ _ h1 h2, setMk_ne _ _ h1 h2, setMk_ne _ _ h1 h2]
theorem setMk_sh (S : St) (P : Mk) : Sh (setMk S P) S := ⟨fun j _ _ _ _ => by rw [setMk_ne _ _ (by decide) (by decide)], fun k _ _ _ _ h1 h2 => setMk_ne _ _ h1 h2⟩
theorem hold_sh (S : St) (w l b : Int32) : Sh (hold S w l b) S := ((Sh.s0 b (by decide)).trans (Sh.s0 l (by decide))).trans (Sh.s0 w (by decide))
theorem hold_26 (S : St) (w l b : Int32) : hold S w l b 0 26 = w := by unfold hold; rw [up2_i _ _ (by decide), up2_i _ _ (by decide), up2_self]
theorem hold_27 (S : St) (w l b : Int32) : hold S w l b 0 27 = l := by unfold hold; rw [up2_i _ _ (by decide), up2_self]
theorem hold_28 (S : St) (w l b : Int32) : hold S w l b 0 28 = b := by unfold hold; rw [up2_self]
theorem hold_k (S : St) (w l b : Int32) {k : Nat} (h : k ≠ 0) : hold S w l b k = S k := by unfold hold; rw [up2_k _ _ _ h, up2_k _ _ _ h, up2_k _ _ _ h]
theorem MP.cong {D : va_G} {dA : Nat → ClassId} {am : Nat → Nat} {S S' : St} {H : Heap} (h : MP D dA am S H) (h0 : S 0 = S' 0) (hk : ∀ k, marr k = true → ∀ i, i < mlen k → S k i = S' k i) : MP D dA am S' H := by
  have hf : mfs am S' = mfs am S := by unfold mfs; rw [h0]
  have e0 : mw dA am S' 0 = mw dA am S 0 := by rw [mw_0, mw_0, hf]
  have is : ∀ k, (mw dA am S' k).isSome = true → (mw dA am S k).isSome = true := by
    intro k hk'
    by_cases h0' : k = 0
    · subst h0'; rfl
    · by_cases hm : marr k = true
      · rw [mw_arr _ _ _ hm]; rfl
      · unfold mw at hk'
        rw [if_neg h0', if_neg hm] at hk'
        cases hk'
  refine ⟨fun k e he => ?_, fun i j hi hj => h.2.1 i j (is i hi) (is j hj), fun k hk' => h.2.2 k (is k hk')⟩
  by_cases h0' : k = 0
  · subst h0'
    rw [e0] at he
    exact h.1 0 e he
  · by_cases hm : marr k = true
    · rw [mw_arr _ _ _ hm] at he
      cases he
      have h1 : H[am k]? = some (vp_cell (dA (mty k)) (mlen k, .inl (S k))) := h.1 k _ (mw_arr _ _ _ hm)
      show H[am k]? = some (vp_cell (dA (mty k)) (mlen k, .inl (S' k)))
      rw [h1, vp_cell_i, vp_cell_i]
      exact congrArg some (arrV_cong fun i hi => by rw [hk k hm i hi])
    · unfold mw at he
      rw [if_neg h0', if_neg hm] at he
      cases he
theorem nmkF_at (S : St) : ∀ n, (∀ k, k ≠ 29 → k ≠ 30 → nmkF S n k = S k) ∧ ∀ i, i < n → nmkF S n 29 i = -1 ∧ nmkF S n 30 i = -1
  | 0 => ⟨fun _ _ _ => rfl, fun i h => absurd h (Nat.not_lt_zero i)⟩
  | n + 1 => by
    obtain ⟨h1, h2⟩ := nmkF_at S n
    refine ⟨fun k a b => ?_, fun i hi => ?_⟩
    · show up2 (up2 (nmkF S n) 29 n (-1)) 30 n (-1) k = S k
      rw [up2_k _ _ _ b, up2_k _ _ _ a, h1 k a b]
    · show up2 (up2 (nmkF S n) 29 n (-1)) 30 n (-1) 29 i = -1 ∧ up2 (up2 (nmkF S n) 29 n (-1)) 30 n (-1) 30 i = -1
      rw [up2_k _ _ _ (by decide : (29 : Nat) ≠ 30)]
      by_cases e : i = n
      · subst e
        rw [up2_self, up2_self]
        exact ⟨rfl, rfl⟩
      · rw [up2_i _ _ e, up2_i _ _ e, up2_k _ _ _ (by decide : (30 : Nat) ≠ 29)]
        exact h2 i (by omega)
theorem nmkF_eq (S : St) : nmkF S 1200 0 = setMk S noMk 0 ∧ ∀ k, marr k = true → ∀ i, i < mlen k → nmkF S 1200 k i = setMk S noMk k i := by
  obtain ⟨h1, h2⟩ := nmkF_at S 1200
  refine ⟨by rw [h1 0 (by decide) (by decide), setMk_ne _ _ (by decide) (by decide)], fun k hm i hi => ?_⟩
  by_cases a : k = 29
  · subst a
    rw [setMk_29, (h2 i hi).1]
    rfl
  · by_cases b : k = 30
    · subst b
      rw [setMk_30, (h2 i hi).2]
      rfl
    · rw [h1 k a b, setMk_ne _ _ a b]
theorem lackN_none {S : St} {c : Int32} (h : inR c 12 = none) : lackN S c = 1 := by unfold lackN; rw [h]
theorem lackN_0 {S : St} {c : Int32} {j : Nat} (h : inR c 12 = some j) (h0 : S 1 j = 0) : lackN S c = 5 := by unfold lackN; rw [h]; exact if_pos h0
theorem lackN_1 {S : St} {c : Int32} {j : Nat} (h : inR c 12 = some j) (h0 : ¬ S 1 j = 0) : lackN S c = 0 := by unfold lackN; rw [h]; exact if_neg h0
theorem lackN_lt (S : St) (c : Int32) : lackN S c < 8 := by
  unfold lackN
  cases inR c 12 with
  | none => exact (by decide : 1 < 8)
  | some j =>
    show (if S 1 j = 0 then 5 else 0) < 8
    by_cases h : S 1 j = 0
    · rw [if_pos h]; decide
    · rw [if_neg h]; decide
/-- a cam is wanting: what any call says then -/
theorem onCam_l {S : St} {c : Int32} {f : Nat → Res} (h : ¬ lackN S c = 0) : onCam S c f = ref S (lackN S c) := by
  unfold onCam lackN at *
  cases hc : inR c 12 with
  | none => rfl
  | some j =>
    rw [hc] at h
    by_cases h0 : S 1 j = 0
    · simp [h0]
    · exact absurd (if_neg h0) h
theorem onCam_t {S : St} {c : Int32} (h : lackN S c = 0) : ∃ j, inR c 12 = some j ∧ j < 12 ∧ c = nI j ∧ ¬ S 1 j = 0 ∧ ∀ f : Nat → Res, onCam S c f = f j := by
  unfold lackN at h
  cases hc : inR c 12 with
  | none => rw [hc] at h; cases h
  | some j =>
    rw [hc] at h
    obtain ⟨h1, h2⟩ := inR_some hc (by decide)
    by_cases h0 : S 1 j = 0
    · exact absurd ((if_pos h0).symm.trans h) (by decide)
    · refine ⟨j, rfl, h1, h2, h0, fun f => ?_⟩
      unfold onCam
      rw [hc]
      exact if_neg h0
theorem neg_lt0 {k : Nat} (hk : k < 8) : ¬ (0 : Int32) ≤ -(nI k) ↔ ¬ k = 0 := by
  have : ∀ k, k < 8 → (¬ (0 : Int32) ≤ -(nI k) ↔ ¬ k = 0) := by decide
  exact this k hk
/-- what writing asks of the state, and all that it looks at -/
def OkW (S : St) : Prop := (∀ i, i < 192 → inv (S 2 i) 9) ∧ (∀ l, l < 10 → inv (S 3 l) 11 ∧ inv (S 4 l) 11 ∧ inv (S 5 l) 11) ∧ (∀ k, k < 12 → inv (S 7 k) 9) ∧ inv (S 0 8) 9
def Wq (S S' : St) : Prop := S 2 = S' 2 ∧ S 3 = S' 3 ∧ S 4 = S' 4 ∧ S 5 = S' 5 ∧ S 7 = S' 7 ∧ S 0 8 = S' 0 8
theorem Ok.w {S : St} (h : Ok S) : OkW S := ⟨fun i hi => h.cam hi, fun l hl => ⟨h.ac hl, h.upp hl, h.li hl⟩, fun k hk => h.peg hk, h.adv⟩
theorem OkW.cam {S : St} (h : OkW S) {i : Nat} (hi : i < 192) : inv (S 2 i) 9 := h.1 i hi
theorem OkW.ac {S : St} (h : OkW S) {i : Nat} (hi : i < 10) : inv (S 3 i) 11 := (h.2.1 i hi).1
theorem OkW.upp {S : St} (h : OkW S) {i : Nat} (hi : i < 10) : inv (S 4 i) 11 := (h.2.1 i hi).2.1
theorem OkW.li {S : St} (h : OkW S) {i : Nat} (hi : i < 10) : inv (S 5 i) 11 := (h.2.1 i hi).2.2
theorem OkW.peg {S : St} (h : OkW S) {k : Nat} (hk : k < 12) : inv (S 7 k) 9 := h.2.2.1 k hk
theorem OkW.adv {S : St} (h : OkW S) : inv (S 0 8) 9 := h.2.2.2
theorem Wq.symm {S S' : St} (h : Wq S S') : Wq S' S := ⟨h.1.symm, h.2.1.symm, h.2.2.1.symm, h.2.2.2.1.symm, h.2.2.2.2.1.symm, h.2.2.2.2.2.symm⟩
theorem Wq.trans {S S' S'' : St} (h : Wq S S') (g : Wq S' S'') : Wq S S'' := ⟨h.1.trans g.1, h.2.1.trans g.2.1, h.2.2.1.trans g.2.2.1, h.2.2.2.1.trans g.2.2.2.1, h.2.2.2.2.1.trans g.2.2.2.2.1, h.2.2.2.2.2.trans g.2.2.2.2.2⟩
theorem Sh.w {S S' : St} (h : Sh S S') : Wq S S' := ⟨h.2 2 (by decide) (by decide) (by decide) (by decide) (by decide) (by decide), h.2 3 (by decide) (by decide) (by decide) (by decide) (by decide) (by decide), h.2 4 (by decide) (by decide) (by decide) (by decide) (by decide) (by decide), h.2 5 (by decide) (by decide) (by decide) (by decide) (by decide) (by decide), h.2 7 (by decide) (by decide) (by decide) (by decide) (by decide) (by decide), h.1 8 (by decide) (by decide) (by decide) (by decide)⟩
theorem OkW.q {S S' : St} (h : OkW S) (w : Wq S S') : OkW S' := by
  obtain ⟨a, b, c, d, e, f⟩ := w
  unfold OkW at *
  rw [← a, ← b, ← c, ← d, ← e, ← f]
  exact h
theorem hgt_le {S : St} (hO : OkW S) (w : Int32) {c t : Nat} (hc : c < 12) (ht : t < 16) : hgt S w c t ≤ 9 := by
  have h := (hO.cam (i := 16 * c + t) (by omega)).le (by decide)
  unfold hgt
  by_cases q : nI c = w ∧ 0 < nv (S 2 (16 * c + t))
  · rw [if_pos q]; omega
  · rw [if_neg q]; exact h
theorem mk1_f (S : St) {c k t : Nat} (h : (0 : Int32) ≤ S 29 c) : setMk S (mk1 (S 29, S 30) c k t) = S := by
  unfold mk1
  rw [if_neg (Int32.not_lt.mpr h), setMk_id]
theorem mk1_t (S : St) {c k t : Nat} (h : ¬ (0 : Int32) ≤ S 29 c) : setMk S (mk1 (S 29, S 30) c k t) = up2 (up2 S 29 c (nI k)) 30 c (nI t) := by
  unfold mk1
  rw [if_pos (Int32.not_le.mp h), put_up, put_up, put_ne _ _ (by decide : (30 : Nat) ≠ 29)]
  rfl
theorem isCutL_t {S : St} {x : Nat} (h1 : ¬ S 1 (nv (S 3 x)) = 0) (h2 : ¬ S 1 (nv (S 4 x)) = 0) (h3 : ¬ S 1 (nv (S 5 x)) = 0) : isCutL S x = true := by simp [isCutL, h1, h2, h3]
theorem isCutL_f1 {S : St} {x : Nat} (h : S 1 (nv (S 3 x)) = 0) : ¬ isCutL S x = true := by simp [isCutL, h]
theorem isCutL_f2 {S : St} {x : Nat} (h : S 1 (nv (S 4 x)) = 0) : ¬ isCutL S x = true := by simp [isCutL, h]
theorem isCutL_f3 {S : St} {x : Nat} (h : S 1 (nv (S 5 x)) = 0) : ¬ isCutL S x = true := by simp [isCutL, h]
theorem areCutN_s {S : St} {k : Nat} (h : areCutN S k = true) (h2 : isCutL S (nv (S 7 k)) = true) : areCutN S (k + 1) = true := by simp [areCutN, h, h2]
theorem areCutN_f1 {S : St} {k : Nat} (h : ¬ areCutN S k = true) : ¬ areCutN S (k + 1) = true := by simp [areCutN, h]
theorem areCutN_f2 {S : St} {k : Nat} (h2 : ¬ isCutL S (nv (S 7 k)) = true) : ¬ areCutN S (k + 1) = true := by simp [areCutN, h2]
