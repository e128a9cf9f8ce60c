/-! pure rows: turns, copies -/
set_option maxRecDepth 100000
set_option linter.unusedVariables false
def allN (p : Nat → Bool) : Nat → Bool
  | 0 => true
  | i + 1 => allN p i && p i
theorem all_range (p : Nat → Bool) : ∀ n, (List.range n).all p = allN p n
  | 0 => rfl
  | n + 1 => by rw [List.range_succ, List.all_append, all_range p n]; simp [allN]
theorem allN_iff {p : Nat → Bool} : ∀ {n : Nat}, allN p n = true ↔ ∀ i, i < n → p i = true
  | 0 => ⟨fun _ i h => absurd h (Nat.not_lt_zero i), fun _ => rfl⟩
  | n + 1 => by
    have ih := allN_iff (p := p) (n := n)
    simp only [allN, Bool.and_eq_true, ih]
    constructor
    · intro h i hi
      by_cases e : i = n
      · rw [e]; exact h.2
      · exact h.1 i (by omega)
    · intro h
      exact ⟨fun i hi => h i (by omega), h n (by omega)⟩
theorem allN_s {p : Nat → Bool} {i : Nat} (h : allN p i = true) (h2 : p i = true) : allN p (i + 1) = true := by simp [allN, h, h2]
theorem allN_f1 {p : Nat → Bool} {i : Nat} (h : ¬ allN p i = true) : ¬ allN p (i + 1) = true := by simp [allN, h]
theorem allN_f2 {p : Nat → Bool} {i : Nat} (h : ¬ p i = true) : ¬ allN p (i + 1) = true := by simp [allN, h]
def rq (L : Nat) (f g : Nat → Int32) (n t : Nat) : Bool := f t == g ((t + n) % L)
theorem rotQ_all (L : Nat) (f g : Nat → Int32) (n : Nat) : rotQ L f g n = allN (rq L f g n) L := all_range _ _
theorem find_none {p : Nat → Bool} {n : Nat} (h : ∀ m, m < n → p m = false) : (List.range n).find? p = none := by
  rw [List.find?_eq_none]
  intro x hx
  rw [h x (List.mem_range.mp hx)]
  decide
theorem find_some {p : Nat → Bool} {n k : Nat} (hk : k < n) (h : ∀ m, m < k → p m = false) (hp : p k = true) : (List.range n).find? p = some k := by
  rw [List.find?_eq_some_iff_append]
  refine ⟨hp, List.range k, (List.range n).drop (k + 1), ?_, ?_⟩
  · have e : List.range n = (List.range n).take k ++ (List.range n).drop k := (List.take_append_drop k _).symm
    have e1 : (List.range n).take k = List.range k := by
      rw [List.take_range]
      congr 1
      omega
    have e2 : (List.range n).drop k = k :: (List.range n).drop (k + 1) := by
      rw [List.drop_eq_getElem_cons (by simpa using hk)]
      simp
    rw [← e2, ← e1]
    exact e
  · intro x hx
    simp [h x (List.mem_range.mp hx)]
theorem find_inv {p : Nat → Bool} {n k : Nat} (h : (List.range n).find? p = some k) : k < n ∧ p k = true ∧ ∀ m, m < k → p m = false := by
  obtain ⟨hp, as, bs, e, hs⟩ := List.find?_eq_some_iff_append.mp h
  have hl : as.length < n := by
    have := congrArg List.length e
    simp at this
    omega
  have hk : k = as.length := by
    have h1 : (List.range n)[as.length]? = some k := by rw [e]; simp
    rw [List.getElem?_range hl] at h1
    exact (Option.some.inj h1).symm
  refine ⟨by omega, hp, fun m hm => ?_⟩
  have hm2 : m ∈ as := by
    have h1 : (List.range n)[m]? = some m := List.getElem?_range (by omega)
    rw [e, List.getElem?_append_left (by omega)] at h1
    exact List.mem_of_getElem? h1
  have := hs m hm2
  simpa using this
theorem rotN_some {L : Nat} {f g : Nat → Int32} {n : Nat} (hn : n < L) (h : ∀ m, m < n → rotQ L f g m = false) (hq : allN (rq L f g n) L = true) : rotN L f g = some n := find_some hn h (by rw [rotQ_all]; exact hq)
theorem rotN_none {L : Nat} {f g : Nat → Int32} (h : ∀ m, m < L → rotQ L f g m = false) : rotN L f g = none := find_none h
theorem rotQ_next {L : Nat} {f g : Nat → Int32} {n : Nat} (h : ∀ m, m < n → rotQ L f g m = false) (hq : ¬ allN (rq L f g n) L = true) : ∀ m, m < n + 1 → rotQ L f g m = false := by
  intro m hm
  by_cases e : m = n
  · subst e
    rw [rotQ_all]
    simpa using hq
  · exact h m (by omega)
/-- one place after another -/
def wrF (f : Nat → Int32) (d : Nat) (g : Nat → Int32) : Nat → Nat → Int32
  | 0 => f
  | i + 1 => upd (wrF f d g i) (d + i) (g i)
theorem wrF_at (f : Nat → Int32) (d : Nat) (g : Nat → Int32) : ∀ n x, wrF f d g n x = if d ≤ x ∧ x < d + n then g (x - d) else f x
  | 0, x => by rw [if_neg (by omega)]; rfl
  | n + 1, x => by
    show upd (wrF f d g n) (d + n) (g n) x = _
    unfold upd
    by_cases e : x = d + n
    · rw [if_pos e, if_pos (by omega), e, Nat.add_sub_cancel_left]
    · rw [if_neg e, wrF_at f d g n x]
      by_cases h : d ≤ x ∧ x < d + n
      · rw [if_pos h, if_pos (by omega)]
      · rw [if_neg h, if_neg (by omega)]
theorem wr_up (S : St) (k : Nat) (f : Nat → Int32) (d : Nat) (g : Nat → Int32) (i : Nat) {x : Nat} (hx : x = d + i) : up2 (put S k (wrF f d g i)) k x (g i) = put S k (wrF f d g (i + 1)) := by
  rw [put_up, put_put, put_self, hx]
  rfl
/-- one place after another, going on by n -/
def rtF (f : Nat → Int32) (L n : Nat) (g : Nat → Int32) : Nat → Nat → Int32
  | 0 => f
  | i + 1 => upd (rtF f L n g i) ((i + n) % L) (g i)
theorem rt_up (S : St) (k : Nat) (f : Nat → Int32) (L n : Nat) (g : Nat → Int32) (i : Nat) : up2 (put S k (rtF f L n g i)) k ((i + n) % L) (g i) = put S k (rtF f L n g (i + 1)) := by
  rw [put_up, put_put, put_self]
  rfl
theorem mod_inj {L a b n : Nat} (ha : a < L) (hb : b < L) (h : (a + n) % L = (b + n) % L) : a = b := by
  have e1 := Nat.div_add_mod (a + n) L
  have e2 := Nat.div_add_mod (b + n) L
  rw [h] at e1
  have l1 : (a + n) % L < L := Nat.mod_lt _ (by omega)
  rcases Nat.lt_trichotomy ((a + n) / L) ((b + n) / L) with q | q | q
  · have : L * ((a + n) / L) + L ≤ L * ((b + n) / L) := by rw [← Nat.mul_succ]; exact Nat.mul_le_mul_left L q
    omega
  · rw [q] at e1
    omega
  · have : L * ((b + n) / L) + L ≤ L * ((a + n) / L) := by rw [← Nat.mul_succ]; exact Nat.mul_le_mul_left L q
    omega
theorem rtF_at (f : Nat → Int32) (L n : Nat) (g : Nat → Int32) : ∀ i, i ≤ L → ∀ t, t < i → rtF f L n g i ((t + n) % L) = g t
  | 0, _, t, h => absurd h (Nat.not_lt_zero t)
  | i + 1, hi, t, ht => by
    show upd (rtF f L n g i) ((i + n) % L) (g i) ((t + n) % L) = g t
    unfold upd
    by_cases e : t = i
    · rw [e, if_pos rfl]
    · rw [if_neg (fun z => e (mod_inj (by omega) (by omega) z)), rtF_at f L n g i (by omega) t (by omega)]
theorem back_mod {L n u : Nat} (hn : n < L) (hu : u < L) : ((u + (L - n)) % L + n) % L = u := by
  rcases Nat.lt_or_ge u n with q | q
  · rw [Nat.mod_eq_of_lt (show u + (L - n) < L by omega), show u + (L - n) + n = u + L by omega, Nat.add_mod_right, Nat.mod_eq_of_lt hu]
  · have e : (u + (L - n)) % L = u - n := by
      rw [show u + (L - n) = (u - n) + L by omega, Nat.add_mod_right, Nat.mod_eq_of_lt (by omega)]
    rw [e, Nat.sub_add_cancel q, Nat.mod_eq_of_lt hu]
def cpT (S : St) (src n : Nat) : St := put S 23 (wrF (S 23) 0 (fun k => S 2 (src + k)) n)
def cpU (S : St) (src n d k : Nat) : St := put (cpT S src n) 2 (wrF (S 2) d (cpT S src n 23) k)
theorem cpT_k (S : St) (src n : Nat) {k : Nat} (h : k ≠ 23) : cpT S src n k = S k := put_ne _ _ h
theorem cpT_s (S : St) (src n : Nat) : up2 (cpT S src n) 23 n (S 2 (src + n)) = cpT S src (n + 1) := wr_up S 23 (S 23) 0 (fun k => S 2 (src + k)) n (Nat.zero_add n).symm
theorem cpU_0 (S : St) (src n d : Nat) : cpU S src n d 0 = cpT S src n := by
  show put (cpT S src n) 2 (S 2) = _
  rw [← cpT_k S src n (by decide : (2 : Nat) ≠ 23)]
  exact put_id _ _
theorem cpU_k (S : St) (src n d i : Nat) {k : Nat} (h : k ≠ 23) (h2 : k ≠ 2) : cpU S src n d i k = S k := by
  unfold cpU
  rw [put_ne _ _ h2, cpT_k _ _ _ h]
theorem cpU_23 (S : St) (src n d i : Nat) : cpU S src n d i 23 = cpT S src n 23 := put_ne _ _ (by decide)
theorem cpU_s (S : St) (src n d k : Nat) : up2 (cpU S src n d k) 2 (d + k) (cpT S src n 23 k) = cpU S src n d (k + 1) := wr_up (cpT S src n) 2 (S 2) d (cpT S src n 23) k rfl
theorem put_sh {S T : St} (f : Nat → Int32) (h : Sh T S) : Sh (put T 2 f) (put S 2 f) := by
  refine ⟨fun j a b c d => ?_, fun k a b c d e f' => ?_⟩
  · rw [put_ne _ _ (by decide), put_ne _ _ (by decide)]
    exact h.1 j a b c d
  · by_cases q : k = 2
    · subst q; rw [put_self, put_self]
    · rw [put_ne _ _ q, put_ne _ _ q]
      exact h.2 k a b c d e f'
theorem cp_fin (S : St) (src n d : Nat) : Sh (cpU S src n d n) (put S 2 (cpyF (S 2) src d n)) := by
  have hs : Sh (cpT S src n) S := ⟨fun j _ _ _ _ => by rw [cpT_k S src n (by decide)], fun k _ h23 _ _ _ _ => cpT_k S src n h23⟩
  have e : wrF (S 2) d (cpT S src n 23) n = cpyF (S 2) src d n := by
    funext x
    rw [wrF_at]
    unfold cpyF
    by_cases h : d ≤ x ∧ x < d + n
    · rw [if_pos h, if_pos h]
      show put S 23 _ 23 (x - d) = _
      rw [put_self, wrF_at, if_pos (by omega)]
      rfl
    · rw [if_neg h, if_neg h]
  unfold cpU
  rw [e]
  exact put_sh _ hs
def trT (S : St) (j n : Nat) (k : Nat) : St := put S 23 (rtF (S 23) (ln S) n (row S j) k)
def trU (S : St) (j n k : Nat) : St := put (trT S j n (ln S)) 2 (wrF (S 2) (16 * j) (trT S j n (ln S) 23) k)
theorem trT_k (S : St) (j n i : Nat) {k : Nat} (h : k ≠ 23) : trT S j n i k = S k := put_ne _ _ h
theorem trT_s (S : St) (j n i : Nat) : up2 (trT S j n i) 23 ((i + n) % ln S) (S 2 (16 * j + i)) = trT S j n (i + 1) := rt_up S 23 (S 23) (ln S) n (row S j) i
theorem trU_0 (S : St) (j n : Nat) : trU S j n 0 = trT S j n (ln S) := by
  show put (trT S j n (ln S)) 2 (S 2) = _
  rw [← trT_k S j n (ln S) (by decide : (2 : Nat) ≠ 23)]
  exact put_id _ _
theorem trU_k (S : St) (j n i : Nat) {k : Nat} (h : k ≠ 23) (h2 : k ≠ 2) : trU S j n i k = S k := by
  unfold trU
  rw [put_ne _ _ h2, trT_k _ _ _ _ h]
theorem trU_23 (S : St) (j n i : Nat) : trU S j n i 23 = trT S j n (ln S) 23 := put_ne _ _ (by decide)
theorem trU_s (S : St) (j n k : Nat) : up2 (trU S j n k) 2 (16 * j + k) (trT S j n (ln S) 23 k) = trU S j n (k + 1) := wr_up (trT S j n (ln S)) 2 (S 2) (16 * j) (trT S j n (ln S) 23) k rfl
theorem tr_fin (S : St) (j n : Nat) (hn : n < ln S) : Sh (trU S j n (ln S)) (put S 2 (trnF (S 2) j n (ln S))) := by
  have hs : Sh (trT S j n (ln S)) S := ⟨fun i _ _ _ _ => by rw [trT_k S j n _ (by decide)], fun k _ h23 _ _ _ _ => trT_k S j n _ h23⟩
  have e : wrF (S 2) (16 * j) (trT S j n (ln S) 23) (ln S) = trnF (S 2) j n (ln S) := by
    funext x
    rw [wrF_at]
    unfold trnF
    by_cases h : 16 * j ≤ x ∧ x < 16 * j + ln S
    · rw [if_pos h, if_pos h]
      show put S 23 _ 23 (x - 16 * j) = _
      rw [put_self]
      have := rtF_at (S 23) (ln S) n (row S j) (ln S) (Nat.le_refl _) ((x - 16 * j + (ln S - n)) % ln S) (Nat.mod_lt _ (by omega))
      rw [back_mod hn (by omega)] at this
      exact this
    · rw [if_neg h, if_neg h]
  unfold trU
  rw [e]
  exact put_sh _ hs
/-- what a copy asks of its numbers -/
def cpOk (L : Nat) (n i j : Int32) : Prop := 0 ≤ n.toInt ∧ 0 ≤ i.toInt ∧ 0 ≤ j.toInt ∧ i.toInt + n.toInt ≤ L ∧ j.toInt + n.toInt ≤ L
theorem i0 : (0 : Int32).toInt = 0 := by decide
theorem len_sub {L : Nat} (hL : L ≤ 16) {n : Int32} (h0 : 0 ≤ n.toInt) : (nI L - n).toInt = (L : Int) - n.toInt := by
  have hu := Int32.toInt_lt n
  rw [Int32.toInt_sub, nI_toInt (by omega)]
  apply Int.bmod_eq_of_le <;> omega
theorem cpOk_of {L : Nat} (hL : L ≤ 16) {n i j : Int32} (h1 : ¬ n < 0) (h3 : ¬ i < 0) (h4 : ¬ j < 0) (h5 : ¬ nI L - n < i) (h6 : j ≤ nI L - n) : cpOk L n i j := by
  have a1 : 0 ≤ n.toInt := by rw [Int32.lt_iff_toInt_lt, i0] at h1; omega
  rw [Int32.lt_iff_toInt_lt, i0] at h3 h4
  rw [Int32.lt_iff_toInt_lt, len_sub hL a1] at h5
  rw [Int32.le_iff_toInt_le, len_sub hL a1] at h6
  exact ⟨a1, by omega, by omega, by omega, by omega⟩
theorem cpOk_n {L : Nat} {n i j : Int32} (h : n < 0) : ¬ cpOk L n i j := fun z => by rw [Int32.lt_iff_toInt_lt, i0] at h; have := z.1; omega
theorem cpOk_i {L : Nat} {n i j : Int32} (h : i < 0) : ¬ cpOk L n i j := fun z => by rw [Int32.lt_iff_toInt_lt, i0] at h; have := z.2.1; omega
theorem cpOk_j {L : Nat} {n i j : Int32} (h : j < 0) : ¬ cpOk L n i j := fun z => by rw [Int32.lt_iff_toInt_lt, i0] at h; have := z.2.2.1; omega
theorem cpOk_l {L : Nat} (hL : L ≤ 16) {n i j : Int32} (h : nI L < n) : ¬ cpOk L n i j := fun z => by
  rw [Int32.lt_iff_toInt_lt, nI_toInt (by omega)] at h
  obtain ⟨z1, z2, z3, z4, z5⟩ := z
  omega
theorem cpOk_ii {L : Nat} (hL : L ≤ 16) {n i j : Int32} (h : nI L - n < i) : ¬ cpOk L n i j := fun z => by
  obtain ⟨z1, z2, z3, z4, z5⟩ := z
  rw [Int32.lt_iff_toInt_lt, len_sub hL z1] at h
  omega
theorem cpOk_jj {L : Nat} (hL : L ≤ 16) {n i j : Int32} (h : ¬ j ≤ nI L - n) : ¬ cpOk L n i j := fun z => by
  obtain ⟨z1, z2, z3, z4, z5⟩ := z
  rw [Int32.le_iff_toInt_le, len_sub hL z1] at h
  omega
theorem nI_of_toInt {x : Int32} (h : 0 ≤ x.toInt) : x = nI x.toInt.toNat := by
  have hu := Int32.toInt_lt x
  apply Int32.toInt_inj.mp
  rw [nI_toInt (by omega)]
  omega
theorem cpOk_get {L : Nat} {n i j : Int32} (h : cpOk L n i j) : ∃ n' i' j' : Nat, n = nI n' ∧ i = nI i' ∧ j = nI j' ∧ i' + n' ≤ L ∧ j' + n' ≤ L := by
  obtain ⟨z1, z2, z3, z4, z5⟩ := h
  exact ⟨_, _, _, nI_of_toInt z1, nI_of_toInt z2, nI_of_toInt z3, by omega, by omega⟩
theorem copy_1 {S : St} {a i b j n : Int32} (h : inR a 12 = none) : sp_copy S a i b j n = ref S 1 := by unfold sp_copy; rw [h]
theorem copy_2 {S : St} {a i b j n : Int32} (h : inR b 12 = none) : sp_copy S a i b j n = ref S 1 := by unfold sp_copy; rw [h]; cases inR a 12 <;> rfl
theorem copy_3 {S : St} {a i b j n : Int32} {x y : Nat} (hx : inR a 12 = some x) (hy : inR b 12 = some y) (h : S 1 x = 0 ∨ S 1 y = 0) : sp_copy S a i b j n = ref S 5 := by
  unfold sp_copy
  rw [hx, hy]
  exact if_pos h
theorem copy_4 {S : St} {a i b j n : Int32} {x y : Nat} (hx : inR a 12 = some x) (hy : inR b 12 = some y) (h1 : ¬ S 1 x = 0) (h2 : ¬ S 1 y = 0) (h : ¬ cpOk (ln S) n i j) : sp_copy S a i b j n = ref S 7 := by
  unfold sp_copy
  rw [hx, hy]
  show (if S 1 x = 0 ∨ S 1 y = 0 then _ else _) = _
  rw [if_neg (fun z => z.elim h1 h2)]
  exact if_neg h
theorem copy_5 {S : St} {a b : Int32} {i j n : Nat} {x y : Nat} (hx : inR a 12 = some x) (hy : inR b 12 = some y) (h1 : ¬ S 1 x = 0) (h2 : ¬ S 1 y = 0) (h : cpOk (ln S) (nI n) (nI i) (nI j)) (hi : i < 2 ^ 31) (hj : j < 2 ^ 31) (hn : n < 2 ^ 31) : sp_copy S a (nI i) b (nI j) (nI n) = (nI n, put S 2 (cpyF (S 2) (16 * x + i) (16 * y + j) n)) := by
  unfold sp_copy
  rw [hx, hy]
  show (if S 1 x = 0 ∨ S 1 y = 0 then _ else _) = _
  rw [if_neg (fun z => z.elim h1 h2)]
  refine (if_pos h).trans ?_
  rw [nv_nI hi, nv_nI hj, nv_nI hn]
