/-! pure rows: writing -/
set_option maxRecDepth 100000
set_option linter.unusedVariables false
theorem hgt_q {S S' : St} (h : Wq S S') (w : Int32) (c t : Nat) : hgt S w c t = hgt S' w c t := by unfold hgt; rw [h.1]
theorem xA_q {S S' : St} (h : Wq S S') (w b : Int32) (k t : Nat) : xA S w b k t = xA S' w b k t := by unfold xA; rw [hgt_q h, h.2.1, h.2.2.2.2.1, h.2.2.2.2.2]
theorem yA_q {S S' : St} (h : Wq S S') (w b : Int32) (k t : Nat) : yA S w b k t = yA S' w b k t := by unfold yA; rw [hgt_q h, h.2.2.1, h.2.2.2.2.1]
theorem dwn_q {S S' : St} (h : Wq S S') (w : Int32) (k t : Nat) : dwn S w k t = dwn S' w k t := by unfold dwn; rw [hgt_q h, h.2.2.2.1, h.2.2.2.2.1]
theorem wrt_q {S S' : St} (h : Wq S S') (w b : Int32) (P : Mk) (k t : Nat) : wrt S w b P k t = wrt S' w b P k t := by unfold wrt; rw [dwn_q h, dwn_q h, xA_q h, xA_q h, yA_q h, yA_q h]
theorem xA_le {S : St} (hO : OkW S) (w b : Int32) {k t : Nat} (hk : k < 12) (ht : t < 16) : xA S w b k t ≤ 109 := by
  have h7 := (hO.peg hk).le (by decide)
  have h3 := (hO.ac (i := nv (S 7 k)) (by omega)).le (by decide)
  have h8 := hO.adv.le (by decide)
  have hh := hgt_le hO w (c := nv (S 3 (nv (S 7 k)))) (by omega) ht
  have hm : k * nv (S 0 8) ≤ 11 * 9 := Nat.mul_le_mul (by omega) h8
  have hb : (if b = 0 then 1 else 0) ≤ 1 := by by_cases q : b = 0 <;> simp [q]
  unfold xA
  omega
theorem yA_le (S : St) (w b : Int32) (k t : Nat) : yA S w b k t ≤ 9 := Nat.min_le_left _ _
theorem pk_subT {a b : Nat} (ha : a < 2 ^ 30) (hb : b < 2 ^ 30) : (nI a - nI b).toInt = (a : Int) - b := pk_sub_toInt ha hb
theorem ad_ge {a b : Nat} (ha : a ≤ 120) (hb : b ≤ 120) (h : (0 : Int32) ≤ nI a - nI b) : nI a - nI b = nI (adist a b) := by
  rw [Int32.le_iff_toInt_le, i0, pk_subT (by omega) (by omega)] at h
  apply Int32.toInt_inj.mp
  rw [pk_subT (by omega) (by omega), nI_toInt (by unfold adist; omega)]
  unfold adist
  omega
theorem neg_sub {a b : Nat} : -(nI a - nI b) = nI b - nI a := Int32.neg_sub
theorem ad_lt {a b : Nat} (ha : a ≤ 120) (hb : b ≤ 120) (h : ¬ (0 : Int32) ≤ nI a - nI b) : -(nI a - nI b) = nI (adist a b) := by
  rw [Int32.le_iff_toInt_le, i0, pk_subT (by omega) (by omega)] at h
  rw [neg_sub]
  apply Int32.toInt_inj.mp
  rw [pk_subT (by omega) (by omega), nI_toInt (by unfold adist; omega)]
  unfold adist
  omega
/-- to the lower whole number -/
theorem lowF_toInt {a b : Int32} (hb : 0 < b.toInt) (h1 : -1000000 ≤ a.toInt) (h2 : a.toInt ≤ 1000000) (hb2 : b.toInt ≤ 1000000) : (lowF a b).toInt = a.toInt / b.toInt := by
  have hq0 : -1000000 ≤ a.toInt / b.toInt := by
    apply Int.le_ediv_of_mul_le hb
    have : -1000000 * b.toInt ≤ -1000000 := by omega
    omega
  have hq1 : a.toInt / b.toInt ≤ 1000000 := by
    apply Int.le_of_lt_add_one
    apply Int.ediv_lt_of_lt_mul hb
    have : (1000000 + 1) * b.toInt ≥ 1000000 + 1 := by omega
    omega
  have e := Int.tdiv_eq_ediv (a := a.toInt) (b := b.toInt)
  have hs : Int.sign b.toInt = 1 := Int.sign_eq_one_of_pos hb
  rw [hs] at e
  have hd : (a / b).toInt = a.toInt.tdiv b.toInt := by
    rw [Int32.toInt_div]
    apply Int.bmod_eq_of_le
    · rw [e]; split <;> omega
    · rw [e]; split <;> omega
  have hbd : -1000000 ≤ a.toInt.tdiv b.toInt ∧ a.toInt.tdiv b.toInt ≤ 1000001 := by rw [e]; split <;> omega
  have hm0 := Int.emod_nonneg a.toInt (show b.toInt ≠ 0 by omega)
  have hm1 := Int.emod_lt_of_pos a.toInt hb
  have hdm := Int.mul_ediv_add_emod a.toInt b.toInt
  have hmul : (a / b * b).toInt = a.toInt.tdiv b.toInt * b.toInt := by
    rw [Int32.toInt_mul, hd]
    have e2 : a.toInt.tdiv b.toInt * b.toInt = a.toInt - a.toInt % b.toInt + (if 0 ≤ a.toInt ∨ b.toInt ∣ a.toInt then 0 else b.toInt) := by
      rw [e, Int.add_mul]
      have : a.toInt / b.toInt * b.toInt = b.toInt * (a.toInt / b.toInt) := Int.mul_comm _ _
      rw [this]
      split <;> omega
    apply Int.bmod_eq_of_le
    · rw [e2]; split <;> omega
    · rw [e2]; split <;> omega
  have hsub : (a - a / b * b).toInt = a.toInt - a.toInt.tdiv b.toInt * b.toInt := by
    rw [Int32.toInt_sub, hmul]
    have e2 : a.toInt.tdiv b.toInt * b.toInt = a.toInt - a.toInt % b.toInt + (if 0 ≤ a.toInt ∨ b.toInt ∣ a.toInt then 0 else b.toInt) := by
      rw [e, Int.add_mul]
      have : a.toInt / b.toInt * b.toInt = b.toInt * (a.toInt / b.toInt) := Int.mul_comm _ _
      rw [this]
      split <;> omega
    apply Int.bmod_eq_of_le
    · rw [e2]; split <;> omega
    · rw [e2]; split <;> omega
  have e2 : a.toInt.tdiv b.toInt * b.toInt = a.toInt - a.toInt % b.toInt + (if 0 ≤ a.toInt ∨ b.toInt ∣ a.toInt then 0 else b.toInt) := by
    rw [e, Int.add_mul]
    have : a.toInt / b.toInt * b.toInt = b.toInt * (a.toInt / b.toInt) := Int.mul_comm _ _
    rw [this]
    split <;> omega
  unfold lowF
  by_cases h : 0 ≤ a.toInt ∨ b.toInt ∣ a.toInt
  · rw [if_pos h] at e e2
    rw [if_neg (by rw [Int32.lt_iff_toInt_lt, i0, hsub]; omega), hd, e]
    omega
  · rw [if_neg h] at e e2
    rw [if_pos (by rw [Int32.lt_iff_toInt_lt, i0, hsub]; omega), sub1_toInt (by rw [hd]; omega), hd, e]
    omega
theorem pnt_lo {a b m i : Nat} (hd : adist b a ≤ m) (hi2 : i < m) : min (a : Int) b ≤ (a : Int) + (2 * (i : Int) * ((b : Int) - a) + m) / (2 * (m : Int)) ∧ (a : Int) + (2 * (i : Int) * ((b : Int) - a) + m) / (2 * (m : Int)) ≤ max (a : Int) b := by
  unfold adist at hd
  have hm : (0 : Int) < 2 * (m : Int) := by omega
  rcases Int.le_total 0 ((b : Int) - a) with q | q
  · have h1 : 0 ≤ (2 * (i : Int) * ((b : Int) - a) + m) / (2 * (m : Int)) := by
      apply Int.ediv_nonneg
      · have : 0 ≤ 2 * (i : Int) * ((b : Int) - a) := Int.mul_nonneg (by omega) q
        omega
      · omega
    have h2 : (2 * (i : Int) * ((b : Int) - a) + m) / (2 * (m : Int)) ≤ (b : Int) - a := by
      apply Int.le_of_lt_add_one
      apply Int.ediv_lt_of_lt_mul hm
      have h3 : 2 * (i : Int) * ((b : Int) - a) ≤ 2 * (m : Int) * ((b : Int) - a) := Int.mul_le_mul_of_nonneg_right (by omega) q
      rw [Int.add_mul, Int.mul_comm ((b : Int) - a)]
      omega
    omega
  · have h1 : (2 * (i : Int) * ((b : Int) - a) + m) / (2 * (m : Int)) ≤ 0 := by
      apply Int.le_of_lt_add_one
      apply Int.ediv_lt_of_lt_mul hm
      have : 2 * (i : Int) * ((b : Int) - a) ≤ 0 := Int.mul_nonpos_of_nonneg_of_nonpos (by omega) q
      omega
    have h2 : (b : Int) - a ≤ (2 * (i : Int) * ((b : Int) - a) + m) / (2 * (m : Int)) := by
      apply Int.le_ediv_of_mul_le hm
      have h3 : 2 * (m : Int) * ((b : Int) - a) ≤ 2 * (i : Int) * ((b : Int) - a) := Int.mul_le_mul_of_nonpos_right (by omega) q
      rw [Int.mul_comm ((b : Int) - a)]
      omega
    omega
theorem pnt_le {a b m i N : Nat} (hd : adist b a ≤ m) (hi2 : i < m) (ha : a ≤ N) (hb : b ≤ N) : pnt a b m i ≤ N := by
  have := pnt_lo hd hi2
  unfold pnt
  omega
theorem pnt_eq {a b m i : Nat} (ha : a ≤ 120) (hb : b ≤ 120) (hm : m ≤ 120) (hd : adist b a ≤ m) (hi2 : i < m) : nI a + lowF (nI (2 * i) * (nI b - nI a) + nI m) (nI (2 * m)) = nI (pnt a b m i) := by
  have hp := pnt_lo hd hi2
  have hx : (nI (2 * i) * (nI b - nI a)).toInt = 2 * (i : Int) * ((b : Int) - a) := by
    rw [Int32.toInt_mul, nI_toInt (by omega), pk_subT (by omega) (by omega)]
    have h1 : ((2 * i : Nat) : Int) = 2 * (i : Int) := by omega
    rw [h1]
    have h2 : -(240 * 120) ≤ 2 * (i : Int) * ((b : Int) - a) := by
      have : 2 * (i : Int) * (-120) ≤ 2 * (i : Int) * ((b : Int) - a) := Int.mul_le_mul_of_nonneg_left (by omega) (by omega)
      omega
    have h3 : 2 * (i : Int) * ((b : Int) - a) ≤ 240 * 120 := by
      have : 2 * (i : Int) * ((b : Int) - a) ≤ 2 * (i : Int) * 120 := Int.mul_le_mul_of_nonneg_left (by omega) (by omega)
      omega
    apply Int.bmod_eq_of_le <;> omega
  have h2 : -(240 * 120) ≤ 2 * (i : Int) * ((b : Int) - a) := by
    have : 2 * (i : Int) * (-120) ≤ 2 * (i : Int) * ((b : Int) - a) := Int.mul_le_mul_of_nonneg_left (by omega) (by omega)
    omega
  have h3 : 2 * (i : Int) * ((b : Int) - a) ≤ 240 * 120 := by
    have : 2 * (i : Int) * ((b : Int) - a) ≤ 2 * (i : Int) * 120 := Int.mul_le_mul_of_nonneg_left (by omega) (by omega)
    omega
  have hy : (nI (2 * i) * (nI b - nI a) + nI m).toInt = 2 * (i : Int) * ((b : Int) - a) + m := by
    rw [Int32.toInt_add, hx, nI_toInt (by omega)]
    apply Int.bmod_eq_of_le <;> omega
  have hz : (nI (2 * m)).toInt = 2 * (m : Int) := by rw [nI_toInt (by omega)]; omega
  have hl := lowF_toInt (a := nI (2 * i) * (nI b - nI a) + nI m) (b := nI (2 * m)) (by rw [hz]; omega) (by rw [hy]; omega) (by rw [hy]; omega) (by rw [hz]; omega)
  rw [hy, hz] at hl
  apply Int32.toInt_inj.mp
  have hpn : ((pnt a b m i : Nat) : Int) = (a : Int) + (2 * (i : Int) * ((b : Int) - a) + m) / (2 * (m : Int)) := by
    unfold pnt
    omega
  rw [Int32.toInt_add, hl, nI_toInt (by omega), nI_toInt (by have := pnt_le hd hi2 ha hb; omega), hpn]
  apply Int.bmod_eq_of_le <;> omega
theorem mk_w (S : St) (P : Mk) : Wq (setMk S P) S := (setMk_sh S P).w
theorem mk_0 (S : St) (P : Mk) (j : Nat) : setMk S P 0 j = S 0 j := by rw [setMk_ne _ _ (by decide) (by decide)]
theorem wrt_no {S : St} {w b : Int32} {P : Mk} {k t : Nat} (h : ¬ dwn S w k t = true) : wrt S w b P k t = P := if_neg h
theorem wrt_1 {S : St} {w b : Int32} {P : Mk} {k t : Nat} (h : dwn S w k t = true) (h2 : ¬ (0 < t ∧ dwn S w k (t - 1) = true)) : wrt S w b P k t = mk1 P (10 * xA S w b k t + yA S w b k t) k t := by
  unfold wrt
  rw [if_pos h, if_neg h2]
theorem wrt_2 {S : St} {w b : Int32} {P : Mk} {k t : Nat} (h : dwn S w k t = true) (h2 : 0 < t ∧ dwn S w k (t - 1) = true) : wrt S w b P k t = lineF (mk1 P (10 * xA S w b k t + yA S w b k t) k t) (xA S w b k (t - 1)) (yA S w b k (t - 1)) (xA S w b k t) (yA S w b k t) k t (max (adist (xA S w b k t) (xA S w b k (t - 1))) (adist (yA S w b k t) (yA S w b k (t - 1))) - 1) := by
  unfold wrt
  rw [if_pos h, if_pos h2]
theorem allK_q {S S' : St} (h : Wq S S') (hl : ln S = ln S') (w l b : Int32) : ∀ k, allK S w l b k = allK S' w l b k
  | 0 => rfl
  | k + 1 => by
    have aT : ∀ (P : Mk) (t : Nat), allT S w b k P t = allT S' w b k P t := by
      intro P t
      induction t with
      | zero => rfl
      | succ t ih => show wrt S w b (allT S w b k P t) k t = wrt S' w b (allT S' w b k P t) k t; rw [ih, wrt_q h]
    show (if nI k = l then allK S w l b k else allT S w b k (allK S w l b k) (ln S)) = _
    rw [allK_q h hl w l b k, aT, hl]
    rfl
theorem Sh.at0 {S S' : St} (h : Sh S S') (j : Nat) (hj : (j != 26 && (j != 27 && (j != 28 && j != 31))) = true) : S 0 j = S' 0 j := by
  simp at hj
  exact h.1 j hj.1 hj.2.1 hj.2.2.1 hj.2.2.2
theorem Sh.ata {S S' : St} (h : Sh S S') (k : Nat) (hk : (k != 0 && (k != 23 && (k != 24 && (k != 25 && (k != 29 && k != 30))))) = true) : S k = S' k := by
  simp at hk
  exact h.2 k hk.1 hk.2.1 hk.2.2.1 hk.2.2.2.1 hk.2.2.2.2.1 hk.2.2.2.2.2
theorem likeN_q {S S' : St} (h : S 17 = S' 17) (P : Mk) : ∀ n, likeN S P n = likeN S' P n
  | 0 => rfl
  | n + 1 => by
    show (likeN S P n && _) = (likeN S' P n && _)
    rw [likeN_q h P n, h]
theorem expl_sh {S S' : St} (h : Sh S S') (w l b : Int32) : expl S w l b = expl S' w l b := by
  have e0 : S 0 0 = S' 0 0 := h.at0 0 rfl
  have e6 : S 0 6 = S' 0 6 := h.at0 6 rfl
  have hl : ln S = ln S' := by unfold ln; rw [e0]
  have hp : pg S = pg S' := by unfold pg; rw [e6]
  unfold expl
  rw [hp, allK_q h.w hl, likeN_q (h.ata 17 rfl)]
theorem like_s {S : St} {P : Mk} {i : Nat} (h : likeN S P i = true) (h2 : (if S 17 i < 0 then (1 : Int32) else 0) = if P.1 i < 0 then 1 else 0) : likeN S P (i + 1) = true := by
  show (likeN S P i && _) = true
  rw [h]
  by_cases a : S 17 i < 0 <;> by_cases b : P.1 i < 0 <;> simp [a, b] at h2 ⊢
theorem like_f1 {S : St} {P : Mk} {i : Nat} (h : ¬ likeN S P i = true) : ¬ likeN S P (i + 1) = true := by
  show ¬ (likeN S P i && _) = true
  simp [h]
theorem like_f2 {S : St} {P : Mk} {i : Nat} (h2 : ¬ (if S 17 i < 0 then (1 : Int32) else 0) = if P.1 i < 0 then 1 else 0) : ¬ likeN S P (i + 1) = true := by
  show ¬ (likeN S P i && _) = true
  by_cases a : S 17 i < 0 <;> by_cases b : P.1 i < 0 <;> simp [a, b] at h2 ⊢
theorem hold_0 (S : St) (w l b : Int32) {j : Nat} (h1 : j ≠ 26) (h2 : j ≠ 27) (h3 : j ≠ 28) : hold S w l b 0 j = S 0 j := by unfold hold; rw [up2_i _ _ h3, up2_i _ _ h2, up2_i _ _ h1]
theorem fndW_s {S : St} {c : Nat} (h : fndW S c = none) : fndW S (c + 1) = if S 1 c ≠ 0 ∧ expl S (nI c) (-1) (-1) = true then some c else none := by
  show (match fndW S c with | some a => some a | none => _) = _
  rw [h]
theorem fndL_s {S : St} {c : Nat} (h : fndL S c = none) : fndL S (c + 1) = if expl S (-1) (nI c) (-1) = true then some c else none := by
  show (match fndL S c with | some a => some a | none => _) = _
  rw [h]
theorem fndB_s {S : St} {c : Nat} (h : fndB S c = none) : fndB S (c + 1) = if expl S (-1) (-1) (nI c) = true then some c else none := by
  show (match fndB S c with | some a => some a | none => _) = _
  rw [h]
theorem fndW_m {S : St} {c a : Nat} (h : fndW S c = some a) : ∀ d, fndW S (c + d) = some a
  | 0 => h
  | d + 1 => by
    show (match fndW S (c + d) with | some a => some a | none => _) = _
    rw [fndW_m h d]
theorem fndL_m {S : St} {c a : Nat} (h : fndL S c = some a) : ∀ d, fndL S (c + d) = some a
  | 0 => h
  | d + 1 => by
    show (match fndL S (c + d) with | some a => some a | none => _) = _
    rw [fndL_m h d]
theorem fndB_m {S : St} {c a : Nat} (h : fndB S c = some a) : ∀ d, fndB S (c + d) = some a
  | 0 => h
  | d + 1 => by
    show (match fndB S (c + d) with | some a => some a | none => _) = _
    rw [fndB_m h d]
theorem fW {S : St} {c : Nat} (hc : c < 12) (h : fndW S c = none) (h1 : ¬ S 1 c = 0) (h2 : expl S (nI c) (-1) (-1) = true) : fndW S 12 = some c := by
  have : fndW S (c + 1) = some c := by rw [fndW_s h, if_pos ⟨h1, h2⟩]
  have := fndW_m this (11 - c)
  rwa [show c + 1 + (11 - c) = 12 by omega] at this
theorem fL {S : St} {c n : Nat} (hc : c < n) (h : fndL S c = none) (h2 : expl S (-1) (nI c) (-1) = true) : fndL S n = some c := by
  have : fndL S (c + 1) = some c := by rw [fndL_s h, if_pos h2]
  have := fndL_m this (n - 1 - c)
  rwa [show c + 1 + (n - 1 - c) = n by omega] at this
theorem fB {S : St} {c : Nat} (hc : c < 2) (h : fndB S c = none) (h2 : expl S (-1) (-1) (nI c) = true) : fndB S 2 = some c := by
  have : fndB S (c + 1) = some c := by rw [fndB_s h, if_pos h2]
  have := fndB_m this (1 - c)
  rwa [show c + 1 + (1 - c) = 2 by omega] at this
theorem found_0 {S : St} (h : expl S (-1) (-1) (-1) = true) : found S = (0, -9) := if_pos h
theorem found_1 {S : St} {c : Nat} (h : ¬ expl S (-1) (-1) (-1) = true) (h1 : fndW S 12 = some c) : found S = (1, nI c) := by unfold found; rw [if_neg h, h1]
theorem found_2 {S : St} {c : Nat} (h : ¬ expl S (-1) (-1) (-1) = true) (h1 : fndW S 12 = none) (h2 : fndL S (pg S) = some c) : found S = (2, nI c) := by unfold found; rw [if_neg h, h1, h2]
theorem found_3 {S : St} {c : Nat} (h : ¬ expl S (-1) (-1) (-1) = true) (h1 : fndW S 12 = none) (h2 : fndL S (pg S) = none) (h3 : fndB S 2 = some c) : found S = (3, nI c) := by unfold found; rw [if_neg h, h1, h2, h3]
theorem found_4 {S : St} (h : ¬ expl S (-1) (-1) (-1) = true) (h1 : fndW S 12 = none) (h2 : fndL S (pg S) = none) (h3 : fndB S 2 = none) : found S = (-9, -9) := by unfold found; rw [if_neg h, h1, h2, h3]
theorem isW_sh (S : St) (w l b : Int32) (P : Mk) : Sh (setMk (hold S w l b) P) S := (setMk_sh _ _).trans (hold_sh _ _ _ _)
