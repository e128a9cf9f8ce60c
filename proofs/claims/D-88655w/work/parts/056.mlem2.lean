/-! more small pure rows -/
set_option maxRecDepth 100000
set_option linter.unusedVariables false
/-- a public call's answer and state are what the law says -/
def PB (X : Res) (r : Int32) (S' : St) : Prop := r = X.1 ∧ Sh S' X.2
theorem PB.of {X : Res} {r : Int32} {S' : St} (h : X = (r, S')) : PB X r S' := by subst h; exact ⟨rfl, Sh.rfl⟩
theorem PB.sh {X : Res} {r : Int32} {S0 S' : St} (h : X = (r, S0)) (hs : Sh S' S0) : PB X r S' := by subst h; exact ⟨rfl, hs⟩
theorem lk0 {S : St} {c : Int32} (h : (0 : Int32) ≤ -(nI (lackN S c))) : lackN S c = 0 := Decidable.not_not.mp fun z => (neg_lt0 (lackN_lt S c)).mpr z h
theorem lk1 {S : St} {c : Int32} (h : ¬ (0 : Int32) ≤ -(nI (lackN S c))) : ¬ lackN S c = 0 := (neg_lt0 (lackN_lt S c)).mp h
theorem inR_len {S : St} (hO : Ok S) {x : Int32} : ((0 : Int32) ≤ x ∧ x ≤ nI (ln S - 1)) ↔ (inR x (ln S)).isSome = true := by
  have h2 := hO.len2
  have h16 := hO.len16
  refine inR_le ?_
  rw [nI_toInt (by omega)]
  omega
theorem sub1_toInt {x : Int32} (h : ¬ x.toInt = -2147483648) : (x - 1).toInt = x.toInt - 1 := by
  have h1 : (1 : Int32).toInt = 1 := by decide
  have hl := Int32.le_toInt x
  have hu := Int32.toInt_lt x
  rw [Int32.toInt_sub, h1]
  apply Int.bmod_eq_of_le <;> omega
theorem inR_13 {x : Int32} : ((1 : Int32) ≤ x ∧ x ≤ 3) ↔ (inR (x - 1) 3).isSome = true := by
  rw [inR_iff, Int32.le_iff_toInt_le, Int32.le_iff_toInt_le]
  have h1 : (1 : Int32).toInt = 1 := by decide
  have h3 : (3 : Int32).toInt = 3 := by decide
  rw [h1, h3]
  by_cases h : x.toInt = -2147483648
  · have : x = -2147483648 := by
      apply Int32.toInt_inj.mp
      rw [h]; decide
    subst this
    decide
  · rw [sub1_toInt h]
    omega
theorem inR_13g {x : Int32} (h : (inR (x - 1) 3).isSome = true) : ∃ k, inR (x - 1) 3 = some k ∧ k < 3 ∧ x = nI (k + 1) := by
  obtain ⟨k, hk, h3, e⟩ := inR_get h (by decide)
  refine ⟨k, hk, h3, ?_⟩
  rw [← nI_1, ← e]
  exact (Int32.sub_add_cancel x 1).symm
theorem inR_pg {x : Int32} {n : Nat} (hn : n ≤ 12) : ((0 : Int32) ≤ x ∧ x ≤ nI n - 1) ↔ (inR x n).isSome = true := by
  refine inR_le ?_
  have : ∀ n, n < 13 → (nI n - 1).toInt = (n : Int) - 1 := by decide
  exact this n (by omega)
theorem t01_0 {x : Int32} (h : (0 : Int32) ≤ x) : (1 : Int32) = nI (if x < 0 then 0 else 1) := by
  rw [if_neg (Int32.not_lt.mpr h)]; rfl
theorem t01_1 {x : Int32} (h : ¬ (0 : Int32) ≤ x) : (0 : Int32) = nI (if x < 0 then 0 else 1) := by
  rw [if_pos (Int32.not_le.mp h)]; rfl
theorem n01_t {P : Prop} {h : Decidable P} (q : P) : (1 : Int32) = nI (if P then 1 else 0) := by rw [if_pos q]; rfl
theorem n01_f {P : Prop} {h : Decidable P} (q : ¬ P) : (0 : Int32) = nI (if P then 1 else 0) := by rw [if_neg q]; rfl
theorem n10_t {P : Prop} {h : Decidable P} (q : P) : (0 : Int32) = nI (if P then 0 else 1) := by rw [if_pos q]; rfl
theorem n10_f {P : Prop} {h : Decidable P} (q : ¬ P) : (1 : Int32) = nI (if P then 0 else 1) := by rw [if_neg q]; rfl
def mendF (S : St) : Nat → St
  | 0 => S
  | i + 1 => up2 (mendF S i) 19 (i + 1) (-1)
theorem onMk_1 {S : St} {c m : Int32} {f : Nat → Nat → Res} (h : inR c 12 = none) : onMk S c m f = ref S 1 := by unfold onMk; rw [h]
theorem onMk_2 {S : St} {c m : Int32} {f : Nat → Nat → Res} (h : inR m 4 = none) : onMk S c m f = ref S 1 := by
  unfold onMk
  rw [h]
  cases inR c 12 <;> rfl
theorem onMk_0 {S : St} {c m : Int32} {j k : Nat} {f : Nat → Nat → Res} (hj : inR c 12 = some j) (hk : inR m 4 = some k) (h : S 1 j = 0) : onMk S c m f = ref S 5 := by
  unfold onMk
  rw [hj, hk]
  exact if_pos h
theorem onMk_t {S : St} {c m : Int32} {j k : Nat} {f : Nat → Nat → Res} (hj : inR c 12 = some j) (hk : inR m 4 = some k) (h : ¬ S 1 j = 0) : onMk S c m f = f j k := by
  unfold onMk
  rw [hj, hk]
  exact if_neg h
theorem habF_k (S : St) (c m : Nat) {k : Nat} (hk : k ≠ 20) : ∀ h, habF S c m h k = S k
  | 0 => rfl
  | h + 1 => by
    show up2 (habF S c m h) 20 _ _ k = S k
    rw [up2_k _ _ _ hk, habF_k S c m hk h]
theorem habF_row (S : St) (c m h j : Nat) : row (habF S c m h) j = row S j := by unfold row; rw [habF_k S c m (by decide) h]
theorem habF_ln (S : St) (c m h : Nat) : ln (habF S c m h) = ln S := by unfold ln; rw [habF_k S c m (by decide) h]
theorem timesF_le (f : Nat → Int32) (h : Int32) : ∀ t, timesF f h t ≤ t
  | 0 => Nat.le_refl 0
  | t + 1 => by
    have := timesF_le f h t
    show timesF f h t + (if f t = h then 1 else 0) ≤ t + 1
    by_cases q : f t = h
    · rw [if_pos q]; omega
    · rw [if_neg q]; omega
theorem whoF_lt (S : St) (c : Nat) : ∀ m b, whoF S c m = some b → b < m
  | 0, b, h => by cases h
  | m + 1, b, h => by
    unfold whoF at h
    by_cases q : 0 < S 21 m ∧ whoQ S c m (whoF S c m) = true
    · rw [if_pos q] at h; cases h; omega
    · rw [if_neg q] at h
      have := whoF_lt S c m b h
      omega
theorem who_0 {S : St} {c m : Nat} (h : S 21 m ≤ 0) : whoF S c (m + 1) = whoF S c m := by
  show (if _ then _ else _) = _
  rw [if_neg (fun z => Int32.not_lt.mpr h z.1)]
theorem who_n {S : St} {c m : Nat} (h : ¬ S 21 m ≤ 0) (h2 : whoF S c m = none) : whoF S c (m + 1) = some m := by
  show (if _ then _ else _) = _
  rw [if_pos ⟨Int32.not_le.mp h, by rw [h2]; rfl⟩]
theorem who_t {S : St} {c m b : Nat} (h : ¬ S 21 m ≤ 0) (h2 : whoF S c m = some b) (h3 : (likeF S c m 10).toInt64 * (S 21 b).toInt64 < (likeF S c b 10).toInt64 * (S 21 m).toInt64) : whoF S c (m + 1) = some m := by
  show (if _ then _ else _) = _
  rw [if_pos ⟨Int32.not_le.mp h, by rw [h2]; exact decide_eq_true h3⟩]
theorem who_f {S : St} {c m b : Nat} (h2 : whoF S c m = some b) (h3 : ¬ (likeF S c m 10).toInt64 * (S 21 b).toInt64 < (likeF S c b 10).toInt64 * (S 21 m).toInt64) : whoF S c (m + 1) = whoF S c m := by
  show (if _ then _ else _) = _
  rw [if_neg (fun z => by rw [h2] at z; exact h3 (of_decide_eq_true z.2))]
theorem count_lo {S : St} {x : Int32} {k : Nat} (hk : inR x 11 = some k) : sp_count S x = (cntF S k, S) := by
  obtain ⟨h1, rfl⟩ := inR_some hk (by decide)
  unfold sp_count
  rw [inR_nI (by omega) (by decide)]
theorem count_hi {S : St} {x : Int32} (h : (11 : Int32) ≤ x ∧ x ≤ 17) : ∃ k, k < 7 ∧ x = nI (k + 11) ∧ sp_count S x = (S 22 (k + 1), S) := by
  have h11 : (11 : Int32).toInt = 11 := by decide
  have h17 : (17 : Int32).toInt = 17 := by decide
  rw [Int32.le_iff_toInt_le, Int32.le_iff_toInt_le, h11, h17] at h
  have hs : (inR x 18).isSome = true := inR_iff.mpr (by omega)
  obtain ⟨j, hj, hj18, rfl⟩ := inR_get hs (by decide)
  rw [nI_toInt (by omega)] at h
  refine ⟨j - 11, by omega, by congr 1; omega, ?_⟩
  unfold sp_count
  rw [hj]
  show (cntF S j, S) = _
  unfold cntF
  rw [if_neg (by omega), if_neg (by omega), if_neg (by omega), if_neg (by omega), if_neg (by omega), if_neg (by omega), if_neg (by omega), if_neg (by omega), if_neg (by omega), if_neg (by omega), if_neg (by omega), show j - 11 + 1 = j - 10 by omega]
theorem count_no {S : St} {x : Int32} (h0 : inR x 11 = none) (h : ¬ ((11 : Int32) ≤ x ∧ x ≤ 17)) : sp_count S x = (-9, S) := by
  have h11 : (11 : Int32).toInt = 11 := by decide
  have h17 : (17 : Int32).toInt = 17 := by decide
  rw [Int32.le_iff_toInt_le, Int32.le_iff_toInt_le, h11, h17] at h
  unfold sp_count
  rw [show inR x 18 = none from ?_]
  apply inR_none
  rw [inR_iff]
  intro z
  have : (inR x 11).isSome = true := inR_iff.mpr (by omega)
  rw [h0] at this
  cases this
theorem inR_out {x : Int32} {n : Nat} (h : inR x n = none) : x.toInt < 0 ∨ (n : Int) - 1 < x.toInt := by
  rcases Int.lt_or_le x.toInt 0 with q | q
  · exact Or.inl q
  · refine Or.inr ?_
    rcases Int.lt_or_le x.toInt n with q2 | q2
    · have := inR_iff.mpr ⟨q, q2⟩
      rw [h] at this; cases this
    · omega
theorem blank_some {S : St} {c : Int32} {j : Nat} (h : inR c 12 = some j) : sp_blank S c = (if S 1 j = 0 then 1 else 0, clrC (up2 S 1 j 1) j 16) := by unfold sp_blank; rw [h]
theorem letter_some {S : St} {l a u f : Int32} {x a' u' f' : Nat} (h1 : inR l 10 = some x) (h2 : inR a 12 = some a') (h3 : inR u 12 = some u') (h4 : inR f 12 = some f') : sp_letter S l a u f = (1, up2 (up2 (up2 S 3 x a) 4 x u) 5 x f) := by unfold sp_letter; rw [h1, h2, h3, h4]
theorem letter_1 {S : St} {l a u f : Int32} (h : inR l 10 = none) : sp_letter S l a u f = ref S 1 := by unfold sp_letter; rw [h]
theorem letter_2 {S : St} {l a u f : Int32} (h : inR a 12 = none) : sp_letter S l a u f = ref S 1 := by
  unfold sp_letter; rw [h]; cases inR l 10 <;> rfl
theorem letter_3 {S : St} {l a u f : Int32} (h : inR u 12 = none) : sp_letter S l a u f = ref S 1 := by
  unfold sp_letter; rw [h]; cases inR l 10 <;> cases inR a 12 <;> rfl
theorem letter_4 {S : St} {l a u f : Int32} (h : inR f 12 = none) : sp_letter S l a u f = ref S 1 := by
  unfold sp_letter; rw [h]; cases inR l 10 <;> cases inR a 12 <;> cases inR u 12 <;> rfl
