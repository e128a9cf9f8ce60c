/-! pure rows: cams that are one -/
set_option maxRecDepth 100000
set_option linter.unusedVariables false
def rotE (L : Nat) (f g : Nat → Int32) : Prop := ∃ n, n < L ∧ ∀ t, t < L → f t = g ((t + n) % L)
theorem rotQ_iff {L : Nat} {f g : Nat → Int32} {n : Nat} : rotQ L f g n = true ↔ ∀ t, t < L → f t = g ((t + n) % L) := by
  rw [rotQ_all, allN_iff]
  constructor
  · intro h t ht; exact beq_iff_eq.mp (h t ht)
  · intro h t ht; exact beq_iff_eq.mpr (h t ht)
theorem rotN_iff {L : Nat} {f g : Nat → Int32} : (rotN L f g).isSome = true ↔ rotE L f g := by
  constructor
  · intro h
    obtain ⟨n, hn⟩ := Option.isSome_iff_exists.mp h
    obtain ⟨h1, h2, -⟩ := find_inv hn
    exact ⟨n, h1, rotQ_iff.mp h2⟩
  · intro ⟨n, h1, h2⟩
    rw [Option.isSome_iff_ne_none]
    intro h
    have := List.find?_eq_none.mp h n (List.mem_range.mpr h1)
    exact this (rotQ_iff.mpr h2)
theorem rotE_refl {L : Nat} (hL : 0 < L) (f : Nat → Int32) : rotE L f f := ⟨0, hL, fun t ht => by rw [Nat.add_zero, Nat.mod_eq_of_lt ht]⟩
theorem rotE_trans {L : Nat} {f g h : Nat → Int32} (hL : 0 < L) (a : rotE L f g) (b : rotE L g h) : rotE L f h := by
  obtain ⟨n, -, h1⟩ := a
  obtain ⟨m, -, h2⟩ := b
  refine ⟨(n + m) % L, Nat.mod_lt _ hL, fun t ht => ?_⟩
  rw [h1 t ht, h2 _ (Nat.mod_lt _ hL)]
  congr 1
  rw [Nat.mod_add_mod, Nat.add_mod_mod, Nat.add_assoc]
def cand (S : St) (c a : Nat) : Prop := S 1 a ≠ 0 ∧ leastN S a = a ∧ rotE (ln S) (row S a) (row S c)
theorem camQ_iff {S : St} {c a : Nat} : camQ S c a = true ↔ S 1 a ≠ 0 ∧ rotE (ln S) (row S a) (row S c) := by
  unfold camQ
  rw [Bool.and_eq_true, rotN_iff]
  simp
theorem least_spec {S : St} {c : Nat} (hL : 0 < ln S) (hc : c < 12) (h : S 1 c ≠ 0) : leastN S c ≤ c ∧ S 1 (leastN S c) ≠ 0 ∧ rotE (ln S) (row S (leastN S c)) (row S c) ∧ (∀ a, a < leastN S c → ¬ (S 1 a ≠ 0 ∧ rotE (ln S) (row S a) (row S c))) ∧ leastN S (leastN S c) = leastN S c := by
  have hcc : camQ S c c = true := camQ_iff.mpr ⟨h, rotE_refl hL _⟩
  have hs : ((List.range 12).find? (camQ S c)).isSome = true := by
    rw [Option.isSome_iff_ne_none]
    intro z
    exact List.find?_eq_none.mp z c (List.mem_range.mpr hc) hcc
  obtain ⟨m, hm⟩ := Option.isSome_iff_exists.mp hs
  have hl : leastN S c = m := by unfold leastN; rw [hm]; rfl
  obtain ⟨h1, h2, h3⟩ := find_inv hm
  have h2' := camQ_iff.mp h2
  have h3' : ∀ a, a < m → ¬ (S 1 a ≠ 0 ∧ rotE (ln S) (row S a) (row S c)) := fun a ha z => by
    have := camQ_iff.mpr z
    rw [h3 a ha] at this
    cases this
  have hmc : m ≤ c := by
    rcases Nat.lt_or_ge c m with q | q
    · exact absurd ⟨h, rotE_refl hL _⟩ (h3' c q)
    · exact q
  have hmm : leastN S m = m := by
    unfold leastN
    rw [find_some (k := m) h1 (fun a ha => ?_) (camQ_iff.mpr ⟨h2'.1, rotE_refl hL _⟩)]
    · rfl
    · cases hq : camQ S m a with
      | false => rfl
      | true =>
        have q := camQ_iff.mp hq
        exact absurd ⟨q.1, rotE_trans hL q.2 h2'.2⟩ (h3' a ha)
  rw [hl]
  exact ⟨hmc, h2'.1, h2'.2, h3', hmm⟩
theorem leastN_le (S : St) (c : Nat) : leastN S c ≤ 12 := by
  unfold leastN
  cases h : (List.range 12).find? (camQ S c) with
  | none => exact Nat.le_refl 12
  | some m => have := (find_inv h).1; show m ≤ 12; omega
theorem least_found {S : St} {c a : Nat} (hL : 0 < ln S) (hc : c < 12) (h : S 1 c ≠ 0) (ha : cand S c a) (hno : ∀ a', a' < a → ¬ cand S c a') : leastN S c = a := by
  obtain ⟨h1, h2, h3, h4, h5⟩ := least_spec hL hc h
  rcases Nat.lt_trichotomy (leastN S c) a with q | q | q
  · exact absurd ⟨h2, h5, h3⟩ (hno _ q)
  · exact q
  · exact absurd ⟨ha.1, ha.2.2⟩ (h4 a q)
theorem least_self {S : St} {c : Nat} (hL : 0 < ln S) (hc : c < 12) (h : S 1 c ≠ 0) (hno : ∀ a', a' < c → ¬ cand S c a') : leastN S c = c := by
  obtain ⟨h1, h2, h3, h4, h5⟩ := least_spec hL hc h
  rcases Nat.lt_or_ge (leastN S c) c with q | q
  · exact absurd ⟨h2, h5, h3⟩ (hno _ q)
  · omega
theorem blanksN_le (S : St) : ∀ n, blanksN S n ≤ n
  | 0 => Nat.le_refl 0
  | n + 1 => by
    have := blanksN_le S n
    show blanksN S n + (if S 1 n ≠ 0 ∧ leastN S n = n then 1 else 0) ≤ n + 1
    split <;> omega
theorem blanks_1 {S : St} {c : Nat} (h : S 1 c ≠ 0) (h2 : leastN S c = c) : blanksN S (c + 1) = blanksN S c + 1 := by
  show blanksN S c + (if S 1 c ≠ 0 ∧ leastN S c = c then 1 else 0) = _
  rw [if_pos ⟨h, h2⟩]
theorem blanks_0 {S : St} {c : Nat} (h : ¬ (S 1 c ≠ 0 ∧ leastN S c = c)) : blanksN S (c + 1) = blanksN S c := by
  show blanksN S c + (if S 1 c ≠ 0 ∧ leastN S c = c then 1 else 0) = _
  rw [if_neg h]
  rfl
/-- what stands in the reference's rows when c cams have been looked at -/
def FBI (S T : St) (n : Nat) : Prop := ∀ c, c < n → (S 1 c ≠ 0 → T 24 c = nI (leastN S c) ∧ T 25 c = nI (blanksN S (leastN S c))) ∧ (S 1 c = 0 → T 24 c = -9 ∧ T 25 c = -9)
def fbN (S T : St) (c a : Nat) : Prop := T 24 c = -9 ∧ T 25 c = -9 ∧ ∀ a', a' < a → S 1 c ≠ 0 → ¬ cand S c a'
def fbD (S T : St) (c : Nat) : Prop := S 1 c ≠ 0 ∧ leastN S c < c ∧ T 24 c = nI (leastN S c) ∧ T 25 c = nI (blanksN S (leastN S c))
def fbJ (S T : St) (c : Nat) : Prop := (S 1 c = 0 ∧ T 24 c = -9 ∧ T 25 c = -9) ∨ (S 1 c ≠ 0 ∧ T 24 c = -9 ∧ leastN S c = c) ∨ fbD S T c
theorem FBI_up {S T : St} {c : Nat} {x y : Int32} (h : FBI S T c) : FBI S (up2 (up2 T 24 c x) 25 c y) c := by
  intro c' hc
  rw [up2_k _ _ _ (by decide : (24 : Nat) ≠ 25), up2_i _ _ (show c' ≠ c by omega), up2_i _ _ (show c' ≠ c by omega), up2_k _ _ _ (by decide : (25 : Nat) ≠ 24)]
  exact h c' hc
theorem up_24 {T : St} {c : Nat} {x y : Int32} : up2 (up2 T 24 c x) 25 c y 24 c = x := by rw [up2_k _ _ _ (by decide : (24 : Nat) ≠ 25), up2_self]
theorem sh_2425 {S T : St} {c : Nat} {x y : Int32} (h : Sh T S) : Sh (up2 (up2 T 24 c x) 25 c y) S := ((Sh.a0 _ (by decide)).trans (Sh.a0 _ (by decide))).trans h
theorem fbN_0 {S T : St} {c : Nat} : fbN S (up2 (up2 T 24 c (-9)) 25 c (-9)) c 0 := ⟨up_24, up2_self _ _ _ _, fun a h => absurd h (Nat.not_lt_zero a)⟩
theorem fbN_s {S T : St} {c a : Nat} (h : fbN S T c a) (hno : S 1 c ≠ 0 → ¬ cand S c a) : fbN S T c (a + 1) := by
  refine ⟨h.1, h.2.1, fun a' ha' hc => ?_⟩
  by_cases e : a' = a
  · rw [e]; exact hno hc
  · exact h.2.2 a' (by omega) hc
theorem fbD_of {S T : St} {c a : Nat} (hL : 0 < ln S) (hc : c < 12) (hac : a < c) (h : fbN S T c a) (h1 : S 1 c ≠ 0) (ha : cand S c a) : fbD S (up2 (up2 T 24 c (nI a)) 25 c (nI (blanksN S a))) c := by
  have e := least_found hL hc h1 ha (fun a' h' => h.2.2 a' h' h1)
  refine ⟨h1, by omega, ?_, ?_⟩
  · rw [up_24, e]
  · rw [up2_self, e]
theorem fbJ_of {S T : St} {c : Nat} (hL : 0 < ln S) (hc : c < 12) (h : fbN S T c c ∨ fbD S T c) : fbJ S T c := by
  rcases h with h | h
  · by_cases h1 : S 1 c = 0
    · exact Or.inl ⟨h1, h.1, h.2.1⟩
    · exact Or.inr (Or.inl ⟨h1, h.1, least_self hL hc h1 (fun a' h' => h.2.2 a' h' h1)⟩)
  · exact Or.inr (Or.inr h)
theorem FBI_s {S T : St} {c : Nat} (h : FBI S T c) (hc : (S 1 c ≠ 0 → T 24 c = nI (leastN S c) ∧ T 25 c = nI (blanksN S (leastN S c))) ∧ (S 1 c = 0 → T 24 c = -9 ∧ T 25 c = -9)) : FBI S T (c + 1) := by
  intro c' h'
  by_cases e : c' = c
  · rw [e]; exact hc
  · exact h c' (by omega)
theorem rot_sh {S T : St} (h : Sh T S) (a c : Nat) : rotN (ln T) (row T a) (row T c) = rotN (ln S) (row S a) (row S c) := by
  unfold ln row
  rw [h.at0 0 rfl, h.ata 2 rfl]
theorem smooth_sh {S T : St} (h : Sh T S) (c : Nat) : smoothF (ln T) (row T c) (ln T) = smoothF (ln S) (row S c) (ln S) := by
  unfold ln row
  rw [h.at0 0 rfl, h.ata 2 rfl]
theorem rotI_lt {L : Nat} {f g : Nat → Int32} (hL : L ≤ 16) : rotI (rotN L f g) < 0 ↔ ¬ rotE L f g := by
  rw [← rotN_iff]
  cases h : rotN L f g with
  | none => simp [rotI]
  | some n =>
    have := (find_inv h).1
    simp only [rotI, Option.isSome_some, not_true_eq_false, iff_false]
    exact nI_pos (by omega)
theorem inR_02 {w : Int32} (h : (inR w 3).isSome = true) : w = 0 ∨ w = 1 ∨ w = 2 := by
  obtain ⟨j, -, h3, rfl⟩ := inR_get h (by decide)
  have : j = 0 ∨ j = 1 ∨ j = 2 := by omega
  rcases this with rfl | rfl | rfl
  · exact Or.inl rfl
  · exact Or.inr (Or.inl rfl)
  · exact Or.inr (Or.inr rfl)
theorem inR_02n {w : Int32} (h : inR w 3 = none) : ¬ w = 0 ∧ ¬ w = 1 ∧ ¬ w = 2 := by
  refine ⟨?_, ?_, ?_⟩ <;> rintro rfl <;> revert h <;> decide
