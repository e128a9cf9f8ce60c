/-! pure rows: all that a pen writes, what explains a paper, a show -/
set_option maxRecDepth 100000
set_option linter.unusedVariables false
theorem xin_part {dA : Nat → ClassId} {ad : Nat → Nat} {X : St} {n c : Nat} {fs : List Value} (h : xin dA ad X n = some (.inr (c, fs))) (hc : c = 1 ∨ 8 ≤ c) : n = 4 ∨ (80 ≤ n ∧ n < 100) := by
  have ci : ∀ {o : Nat × List Value}, (some (.inr o) : Option va_E) = some (.inr (c, fs)) → o.1 = c := fun z => by cases z; rfl
  unfold xin at h
  by_cases h1 : 120 ≤ n
  · rw [if_pos h1] at h
    split at h <;> cases h
  rw [if_neg h1] at h
  by_cases h2 : 100 ≤ n
  · rw [if_pos h2] at h
    split at h
    · have := ci h; dsimp only at this; omega
    · cases h
  rw [if_neg h2] at h
  by_cases h3 : 80 ≤ n
  · exact Or.inr ⟨h3, by omega⟩
  rw [if_neg h3] at h
  by_cases h4 : 60 ≤ n
  · rw [if_pos h4] at h
    split at h
    · have := ci h; dsimp only at this; omega
    · cases h
  rw [if_neg h4] at h
  by_cases h5 : 40 ≤ n
  · rw [if_pos h5] at h
    split at h <;> cases h
  rw [if_neg h5] at h
  unfold xlow at h
  by_cases e0 : xarr n = true
  · rw [if_pos e0] at h; cases h
  rw [if_neg e0] at h
  by_cases e1 : n = 0
  · rw [if_pos e1] at h; have := ci h; dsimp only at this; omega
  rw [if_neg e1] at h
  by_cases e2 : n = 1
  · rw [if_pos e2] at h; cases h
  rw [if_neg e2] at h
  by_cases e3 : n = 3
  · rw [if_pos e3] at h; cases h
  rw [if_neg e3] at h
  by_cases e4 : n = 4
  · exact Or.inl e4
  rw [if_neg e4] at h
  by_cases e5 : n = 5
  · rw [if_pos e5] at h; have := ci h; dsimp only at this; omega
  rw [if_neg e5] at h
  by_cases e6 : n = 6
  · rw [if_pos e6] at h; have := ci h; dsimp only at this; omega
  rw [if_neg e6] at h
  by_cases e7 : n = 19
  · rw [if_pos e7] at h; cases h
  rw [if_neg e7] at h
  by_cases e8 : n = 20
  · rw [if_pos e8] at h; cases h
  rw [if_neg e8] at h
  cases h
theorem xin_pt {dA : Nat → ClassId} {ad : Nat → Nat} {X T : St} {n c : Nat} {fs : List Value} (hT : T 19 = X 19) (h : xin dA ad X n = some (.inr (c, fs))) (hc : c = 1 ∨ 8 ≤ c) : xin dA ad T n = some (.inr (c, fs)) := by
  rw [← h]
  refine xin_cong dA ad (fun a i hd => ?_)
  rcases xin_part h hc with rfl | ⟨h1, h2⟩
  · rw [dep_lo (by decide) rfl (by decide)] at hd; cases hd
  · unfold dep at hd
    rw [if_neg (by omega), if_neg (by omega), if_pos h1] at hd
    simp only [Bool.and_eq_true, beq_iff_eq] at hd
    rw [hd.1, hT]
/-- a part stays when the faults stay -/
theorem PW.mv {dA : Nat → ClassId} {ad : Nat → Nat} {X T : St} {L : Ex} {pa a c : Nat} {e e' : va_E} {w : Int32} (hT : T 19 = X 19) (hc : 8 ≤ c) (he : ∀ fs, e ≠ .inr (1, fs) ∧ e ≠ .inr (c, fs)) (h : PW dA ad X ((pa, e) :: L) a c w) : PW dA ad T ((pa, e') :: L) a c w := by
  obtain ⟨n, hn, h⟩ := h
  have key : ∀ (ci : Nat) (fs : List Value), (ci = 1 ∨ 8 ≤ ci) → (∀ gs, e ≠ .inr (ci, gs)) → xw dA ad X ((pa, e) :: L) n = some (.inr (ci, fs)) → xw dA ad T ((pa, e') :: L) n = some (.inr (ci, fs)) := by
    intro ci fs hci he' hx
    by_cases h150 : n < 150
    · rw [xw_in _ _ _ _ h150] at hx ⊢
      exact xin_pt hT hx hci
    · by_cases e150 : n = 150
      · subst e150
        have hx' : some e = some (.inr (ci, fs)) := hx
        exact absurd (Option.some.inj hx') (he' fs)
      · unfold xw at hx ⊢
        rw [if_neg h150] at hx ⊢
        have e1 : n - 150 = (n - 151) + 1 := by omega
        rw [e1, List.getElem?_cons_succ] at hx ⊢
        exact hx
  refine ⟨n, ?_, ?_⟩
  · rw [← hn]
    unfold cb
    by_cases h150 : n < 150
    · rw [if_pos h150, if_pos h150]
    · rw [if_neg h150, if_neg h150]
      by_cases e150 : n = 150
      · subst e150; rfl
      · have e1 : n - 150 = (n - 151) + 1 := by omega
        rw [e1, List.getElem?_cons_succ, List.getElem?_cons_succ]
  · rcases h with ⟨h1, h2⟩ | ⟨h1, h2⟩
    · exact Or.inl ⟨key 1 _ (Or.inl rfl) (fun gs => (he gs).1) h1, h2⟩
    · exact Or.inr ⟨key c _ (Or.inr hc) (fun gs => (he gs).2) h1, h2⟩
/-- .. and when something is laid ahead of all that lies beside -/
theorem PW.cons {dA : Nat → ClassId} {ad : Nat → Nat} {X T : St} {L : Ex} {pa a c : Nat} {e : va_E} {w : Int32} (hT : T 19 = X 19) (hc : 8 ≤ c) (h : PW dA ad X L a c w) : PW dA ad T ((pa, e) :: L) a c w := by
  obtain ⟨n, hn, h⟩ := h
  by_cases h150 : n < 150
  · refine ⟨n, by rw [← hn, cb_lt _ _ h150, cb_lt _ _ h150], ?_⟩
    rw [xw_in _ _ _ _ h150] at h ⊢
    rcases h with ⟨h1, h2⟩ | ⟨h1, h2⟩
    · exact Or.inl ⟨xin_pt hT h1 (Or.inl rfl), h2⟩
    · exact Or.inr ⟨xin_pt hT h1 (Or.inr hc), h2⟩
  · have e1 : n + 1 - 150 = (n - 150) + 1 := by omega
    refine ⟨n + 1, ?_, ?_⟩
    · rw [← hn]
      unfold cb
      rw [if_neg h150, if_neg (by omega), e1, List.getElem?_cons_succ]
    · unfold xw at h ⊢
      rw [if_neg h150] at h
      rw [if_neg (by omega), e1, List.getElem?_cons_succ]
      exact h
theorem PW.fine {dA : Nat → ClassId} {ad : Nat → Nat} {X : St} {L : Ex} {c : Nat} : PW dA ad X L (ad 4) c (-1) := ⟨4, rfl, Or.inl ⟨xw_4 dA ad X L, rfl⟩⟩
theorem PW.fst {dA : Nat → ClassId} {ad : Nat → Nat} {X : St} {L : Ex} {q c : Nat} {v : Int32} (hv : ¬ v < 0) : PW dA ad X ((q, .inr (c, [.int v])) :: L) q c v := ⟨150, rfl, Or.inr ⟨rfl, hv⟩⟩
theorem PW.prt {dA : Nat → ClassId} {ad : Nat → Nat} {X : St} {L : Ex} {k : Nat} (hk : k < 3) (h : X 19 (k + 1) = -1 ∨ ∃ n, inv (X 19 (k + 1)) n ∧ n < 100) : PW dA ad X L (prt ad X k) (8 + k) (X 19 (k + 1)) := by
  unfold _root_.Jvm.Pilot.@@N@@.prt
  rcases h with h | ⟨n, ⟨a, ha, h⟩, hn⟩
  · rw [if_pos (by rw [h]; decide)]
    exact ⟨4, rfl, Or.inl ⟨xw_4 dA ad X L, h⟩⟩
  · have h0 : ¬ X 19 (k + 1) < 0 := by rw [h]; exact nI_pos (by omega)
    rw [if_neg h0]
    exact ⟨80 + k, cb_lt _ _ (by omega), Or.inr ⟨xw_flt dA ad X L hk h0, h0⟩⟩
/-- alike but for the trial paper -/
def Tr (X T : St) : Prop := ∀ a i, a ≠ 29 → a ≠ 30 → T a i = X a i
theorem Tr.q {X T : St} (h : Tr X T) : Tq X T := fun a i _ _ h3 h4 => h a i h3 h4
theorem Tr.k {X T : St} (h : Tr X T) (k : Nat) (hk : (k != 29 && k != 30) = true) : T k = X k := by
  simp only [Bool.and_eq_true, bne_iff_ne] at hk
  funext i
  exact h k i hk.1 hk.2
theorem Tr.wr {X T : St} (h : Tr X T) (w bb : Int32) (k t : Nat) : Tr X (wrX T w bb 29 30 k t) := fun a i h1 h2 => by rw [wrX_o T w bb h1 h2]; exact h a i h1 h2
theorem mkr_wrT {P : Mk} {X T : St} {a b k t : Nat} (w bb : Int32) (hT : Wq T X) (hO : OkW T) (hab : a ≠ b) (hk : k < 12) (ht : t < 16) (h : MkR P (T a) (T b)) : MkR (wrt X w bb P k t) (wrX T w bb a b k t a) (wrX T w bb a b k t b) := by
  rw [← wrt_q hT]
  exact mkr_wr w bb hO hab hk ht h
theorem cut_k {X : St} {n k : Nat} (h : areCutN X n = true) (hk : k < n) : isCutL X (nv (X 7 k)) = true := by
  induction n with
  | zero => omega
  | succ n ih =>
    have h' : (areCutN X n && isCutL X (nv (X 7 n))) = true := h
    rw [Bool.and_eq_true] at h'
    by_cases e : k = n
    · rw [e]; exact h'.2
    · exact ih h'.1 (by omega)
theorem cutL_3 {X : St} {x : Nat} (h : isCutL X x = true) : ¬ X 1 (nv (X 3 x)) = 0 ∧ ¬ X 1 (nv (X 4 x)) = 0 ∧ ¬ X 1 (nv (X 5 x)) = 0 := by
  unfold isCutL at h
  simp only [Bool.and_eq_true, Bool.not_eq_true', beq_eq_false_iff_ne] at h
  exact h
theorem clrA_tr (X : St) : Tr X (clrA X 29 1200) := fun a i h1 h2 => by rw [clrA_at, if_neg (by omega)]
theorem clrA_mk (X : St) (a b : Nat) : MkR noMk (clrA X a 1200 a) (clrA X a 1200 b) := fun c hc => Or.inl ⟨rfl, by rw [clrA_at, if_pos ⟨rfl, hc⟩]⟩
theorem lk_like {X T : St} {P : Mk} (h1 : MkR (X 17, X 18) (T 23) (T 24)) (h2 : MkR P (T 29) (T 30)) : ∀ n, n ≤ 1200 → (allN (lkq T) n = true ↔ likeN X P n = true)
  | 0, _ => Iff.rfl
  | n + 1, hn => by
    have ih := lk_like h1 h2 n (by omega)
    show (allN (lkq T) n && lkq T n) = true ↔ (likeN X P n && ((X 17 n < 0) == (P.1 n < 0) : Bool)) = true
    rw [Bool.and_eq_true, Bool.and_eq_true, ih]
    have e : lkq T n = ((X 17 n < 0) == (P.1 n < 0) : Bool) := by
      unfold lkq
      rw [mkr_f h1 (show n < 1200 by omega), mkr_f h2 (show n < 1200 by omega)]
      dsimp only
      by_cases a1 : X 17 n < 0 <;> by_cases a2 : P.1 n < 0 <;> simp [a1, a2]
    rw [e]
theorem areCut_sh {S T : St} (h : Sh T S) : ∀ n, areCutN T n = areCutN S n
  | 0 => rfl
  | n + 1 => by
    show (areCutN T n && isCutL T (nv (T 7 n))) = (areCutN S n && isCutL S (nv (S 7 n)))
    rw [areCut_sh h n]
    unfold isCutL
    rw [h.ata 1 rfl, h.ata 3 rfl, h.ata 4 rfl, h.ata 5 rfl, h.ata 7 rfl]
/-! what is found -/
def stW (X : St) : Nat → Int32 × Int32
  | 0 => if expl X (-1) (-1) (-1) = true then (0, -9) else (-9, -9)
  | c + 1 => if (stW X c).1 < 0 ∧ (X 1 c ≠ 0 ∧ expl X (nI c) (-1) (-1) = true) then (1, nI c) else stW X c
def stL (X : St) : Nat → Int32 × Int32
  | 0 => stW X 12
  | c + 1 => if (stL X c).1 < 0 ∧ expl X (-1) (nI c) (-1) = true then (2, nI c) else stL X c
def stB (X : St) : Nat → Int32 × Int32
  | 0 => stL X (pg X)
  | c + 1 => if (stB X c).1 < 0 ∧ expl X (-1) (-1) (nI c) = true then (3, nI c) else stB X c
theorem stW_id {X : St} {c : Nat} (h : ¬ (stW X c).1 < 0) : ∀ d, stW X (c + d) = stW X c
  | 0 => rfl
  | d + 1 => by
    show (if (stW X (c + d)).1 < 0 ∧ _ then _ else stW X (c + d)) = _
    have e := stW_id h d
    exact (if_neg (fun z => h (by rw [← e]; exact z.1))).trans e
theorem stL_id {X : St} {c : Nat} (h : ¬ (stL X c).1 < 0) : ∀ d, stL X (c + d) = stL X c
  | 0 => rfl
  | d + 1 => by
    show (if (stL X (c + d)).1 < 0 ∧ _ then _ else stL X (c + d)) = _
    have e := stL_id h d
    exact (if_neg (fun z => h (by rw [← e]; exact z.1))).trans e
theorem stB_id {X : St} {c : Nat} (h : ¬ (stB X c).1 < 0) : ∀ d, stB X (c + d) = stB X c
  | 0 => rfl
  | d + 1 => by
    show (if (stB X (c + d)).1 < 0 ∧ _ then _ else stB X (c + d)) = _
    have e := stB_id h d
    exact (if_neg (fun z => h (by rw [← e]; exact z.1))).trans e
theorem stW_to {X : St} {c n : Nat} (hc : c ≤ n) (h : ¬ (stW X c).1 < 0) : stW X c = stW X n := by
  have := stW_id h (n - c)
  rw [Nat.add_sub_cancel' hc] at this
  exact this.symm
theorem stL_to {X : St} {c n : Nat} (hc : c ≤ n) (h : ¬ (stL X c).1 < 0) : stL X c = stL X n := by
  have := stL_id h (n - c)
  rw [Nat.add_sub_cancel' hc] at this
  exact this.symm
theorem stB_to {X : St} {c n : Nat} (hc : c ≤ n) (h : ¬ (stB X c).1 < 0) : stB X c = stB X n := by
  have := stB_id h (n - c)
  rw [Nat.add_sub_cancel' hc] at this
  exact this.symm
theorem stW_eq (X : St) (h0 : ¬ expl X (-1) (-1) (-1) = true) : ∀ c, c ≤ 100 → stW X c = match fndW X c with | some a => (1, nI a) | none => (-9, -9)
  | 0, _ => by show (if _ then _ else _) = _; rw [if_neg h0]; rfl
  | c + 1, hc => by
    have ih := stW_eq X h0 c (by omega)
    show (if (stW X c).1 < 0 ∧ (X 1 c ≠ 0 ∧ expl X (nI c) (-1) (-1) = true) then ((1 : Int32), nI c) else stW X c) = _
    rw [ih]
    cases hf : fndW X c with
    | some a =>
      rw [show fndW X (c + 1) = some a from fndW_m hf 1]
      exact if_neg (fun z => absurd z.1 (show ¬ (1 : Int32) < 0 by decide))
    | none =>
      rw [fndW_s hf]
      by_cases h1 : X 1 c ≠ 0 ∧ expl X (nI c) (-1) (-1) = true
      · rw [if_pos h1, if_pos ⟨by decide, h1⟩]
      · rw [if_neg h1, if_neg (fun z => h1 z.2)]
theorem stL_eq (X : St) (h0 : stW X 12 = (-9, -9)) : ∀ c, c ≤ 100 → stL X c = match fndL X c with | some a => (2, nI a) | none => (-9, -9)
  | 0, _ => h0
  | c + 1, hc => by
    have ih := stL_eq X h0 c (by omega)
    show (if (stL X c).1 < 0 ∧ expl X (-1) (nI c) (-1) = true then ((2 : Int32), nI c) else stL X c) = _
    rw [ih]
    cases hf : fndL X c with
    | some a =>
      rw [show fndL X (c + 1) = some a from fndL_m hf 1]
      exact if_neg (fun z => absurd z.1 (show ¬ (2 : Int32) < 0 by decide))
    | none =>
      rw [fndL_s hf]
      by_cases h1 : expl X (-1) (nI c) (-1) = true
      · rw [if_pos h1, if_pos ⟨by decide, h1⟩]
      · rw [if_neg h1, if_neg (fun z => h1 z.2)]
theorem stB_eq (X : St) (h0 : stL X (pg X) = (-9, -9)) : ∀ c, c ≤ 100 → stB X c = match fndB X c with | some a => (3, nI a) | none => (-9, -9)
  | 0, _ => h0
  | c + 1, hc => by
    have ih := stB_eq X h0 c (by omega)
    show (if (stB X c).1 < 0 ∧ expl X (-1) (-1) (nI c) = true then ((3 : Int32), nI c) else stB X c) = _
    rw [ih]
    cases hf : fndB X c with
    | some a =>
      rw [show fndB X (c + 1) = some a from fndB_m hf 1]
      exact if_neg (fun z => absurd z.1 (show ¬ (3 : Int32) < 0 by decide))
    | none =>
      rw [fndB_s hf]
      by_cases h1 : expl X (-1) (-1) (nI c) = true
      · rw [if_pos h1, if_pos ⟨by decide, h1⟩]
      · rw [if_neg h1, if_neg (fun z => h1 z.2)]
theorem stL_0 (X : St) : stL X 0 = stW X 12 := rfl
theorem stB_0 (X : St) : stB X 0 = stL X (pg X) := rfl
theorem st_WB {X : St} {v : Int32 × Int32} (hv : stW X 12 = v) (h0 : ¬ v.1 < 0) : stB X 2 = v := by
  have e1 := stL_to (X := X) (Nat.zero_le (pg X)) (by rw [stL_0, hv]; exact h0)
  rw [stL_0, hv] at e1
  have e2 := stB_to (X := X) (Nat.zero_le 2) (by rw [stB_0, ← e1]; exact h0)
  rw [stB_0, ← e1] at e2
  exact e2.symm
theorem st_LB {X : St} {v : Int32 × Int32} (hv : stL X (pg X) = v) (h0 : ¬ v.1 < 0) : stB X 2 = v := by
  have e2 := stB_to (X := X) (Nat.zero_le 2) (by rw [stB_0, hv]; exact h0)
  rw [stB_0, hv] at e2
  exact e2.symm
theorem stW_00 {X : St} (h : expl X (-1) (-1) (-1) = true) : stW X 0 = (0, -9) := if_pos h
theorem found_st {X : St} (hp : pg X ≤ 12) : found X = stB X 2 := by
  by_cases h0 : expl X (-1) (-1) (-1) = true
  · rw [found_0 h0]
    have e := stW_to (X := X) (Nat.zero_le 12) (by rw [stW_00 h0]; exact (show ¬ (0 : Int32) < 0 by decide))
    rw [stW_00 h0] at e
    exact (st_WB e.symm (show ¬ (0 : Int32) < 0 by decide)).symm
  · have hW := stW_eq X h0 12 (by omega)
    cases hf : fndW X 12 with
    | some a =>
      rw [hf] at hW
      rw [found_1 h0 hf]
      exact (st_WB hW (show ¬ (1 : Int32) < 0 by decide)).symm
    | none =>
      rw [hf] at hW
      have hL := stL_eq X hW (pg X) (by omega)
      cases hg : fndL X (pg X) with
      | some a =>
        rw [hg] at hL
        rw [found_2 h0 hf hg]
        exact (st_LB hL (show ¬ (2 : Int32) < 0 by decide)).symm
      | none =>
        rw [hg] at hL
        have hB := stB_eq X hL 2 (by omega)
        cases hh : fndB X 2 with
        | some a => rw [hh] at hB; rw [found_3 h0 hf hg hh]; exact hB.symm
        | none => rw [hh] at hB; rw [found_4 h0 hf hg hh]; exact hB.symm
/-- alike but for the trial paper and what is found -/
def Tl (X T : St) : Prop := ∀ a i, a ≠ 29 → a ≠ 30 → ¬ (a = 0 ∧ (i = 27 ∨ i = 28)) → T a i = X a i
theorem Tl.sh {X T : St} (h : Tl X T) : Sh T X := ⟨fun j a b c d => h 0 j (by decide) (by decide) (by omega), fun k a b c d e f => funext fun i => h k i e f (fun z => a z.1)⟩
theorem Tl.k {X T : St} (h : Tl X T) (k : Nat) (hk : (k != 0 && (k != 29 && k != 30)) = true) : T k = X k := by
  simp only [Bool.and_eq_true, bne_iff_ne] at hk
  funext i
  exact h k i hk.2.1 hk.2.2 (fun z => hk.1 z.1)
theorem Tl.xs {X T : St} (h : Tl X T) (hx : XS X) : XS T := hx.ext fun a i ha => h a i (by omega) (by omega) (by omega)
theorem Tl.ok {X T : St} (h : Tl X T) (hX : XOk X) : XOk T := ⟨hX.1.sh h.sh.symm, (h.xs hX.xs).1, (h.xs hX.xs).2⟩
theorem Tl.tr {X T U : St} (h : Tl X T) (h' : Tr T U) : Tl X U := fun a i h1 h2 h3 => (h' a i h1 h2).trans (h a i h1 h2 h3)
theorem Tl.find {X T : St} (h : Tl X T) (k w : Int32) (b : Prop) [Decidable b] : Tl X (findF T k w b) := by
  unfold findF
  split
  · intro a i h1 h2 h3
    rw [up2_ne _ _ (by omega), up2_ne _ _ (by omega)]
    exact h a i h1 h2 h3
  · exact h
theorem find_27 {T : St} {k w : Int32} {b : Prop} [Decidable b] : (findF T k w b 0 27, findF T k w b 0 28) = if T 0 27 < 0 ∧ b then (k, w) else (T 0 27, T 0 28) := by
  unfold findF
  by_cases h : T 0 27 < 0 ∧ b
  · rw [if_pos h, if_pos h, up2_i _ _ (by decide), up2_self, up2_self]
  · rw [if_neg h, if_neg h]
theorem Tl_0 (X : St) : Tl X (up2 (up2 X 0 27 (-9)) 0 28 (-9)) := fun a i h1 h2 h3 => by rw [up2_ne _ _ (by omega), up2_ne _ _ (by omega)]
