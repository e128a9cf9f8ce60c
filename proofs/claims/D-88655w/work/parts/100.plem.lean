/-! pure rows for the pen -/
set_option maxRecDepth 100000
set_option linter.unusedVariables false
/-- the cell at a is a part without a fault (w = -1), or one of class c with the number w -/
def PW (dA : Nat → ClassId) (ad : Nat → Nat) (X : St) (L : Ex) (a c : Nat) (w : Int32) : Prop := ∃ n, cb ad L n = a ∧ ((xw dA ad X L n = some (.inr (1, [])) ∧ w = -1) ∨ (xw dA ad X L n = some (.inr (c, [.int w])) ∧ ¬ w < 0))
/-- alike but for the papers -/
def Tq (X T : St) : Prop := ∀ a i, a ≠ 23 → a ≠ 24 → a ≠ 29 → a ≠ 30 → T a i = X a i
theorem Tq_id {X : St} : Tq X X := fun _ _ _ _ _ _ => Eq.refl _
theorem Tq.trans {X T U : St} (h : Tq X T) (h' : Tq T U) : Tq X U := fun a i h1 h2 h3 h4 => (h' a i h1 h2 h3 h4).trans (h a i h1 h2 h3 h4)
theorem Tq.k {X T : St} (h : Tq X T) (k : Nat) (hk : (k != 23 && (k != 24 && (k != 29 && k != 30))) = true) : T k = X k := by
  simp only [Bool.and_eq_true, bne_iff_ne] at hk
  funext i
  exact h k i hk.1 hk.2.1 hk.2.2.1 hk.2.2.2
theorem Tq.w {X T : St} (h : Tq X T) : Wq T X := ⟨h.k 2 rfl, h.k 3 rfl, h.k 4 rfl, h.k 5 rfl, h.k 7 rfl, by rw [h.k 0 rfl]⟩
theorem Tq.up {X T : St} (h : Tq X T) (k i : Nat) (v : Int32) (hk : k = 23 ∨ k = 24 ∨ k = 29 ∨ k = 30) : Tq X (up2 T k i v) := fun a j h1 h2 h3 h4 => by rw [up2_ne _ _ (by omega)]; exact h a j h1 h2 h3 h4
theorem Tq.mk {X T : St} (h : Tq X T) {a b : Nat} (c k t : Nat) (ha : a = 23 ∨ a = 24 ∨ a = 29 ∨ a = 30) (hb : b = 23 ∨ b = 24 ∨ b = 29 ∨ b = 30) : Tq X (mkX T a b c k t) := by
  unfold mkX
  split
  · exact (h.up a _ _ ha).up b _ _ hb
  · exact h
theorem Tq.rl {X T : St} (h : Tq X T) : rl T = rl X := by unfold _root_.Jvm.Pilot.@@N@@.rl; rw [h.k 0 rfl]
theorem Tq.ln {X T : St} (h : Tq X T) : ln T = ln X := by unfold _root_.Jvm.Pilot.@@N@@.ln; rw [h.k 0 rfl]
theorem Tq.pg {X T : St} (h : Tq X T) : pg T = pg X := by unfold _root_.Jvm.Pilot.@@N@@.pg; rw [h.k 0 rfl]
theorem dep_pap {n a i : Nat} (ha : a = 23 ∨ a = 24 ∨ a = 29 ∨ a = 30) (h : dep n a i = true) : n = a := by
  by_cases h' : n = a
  · exact h'
  · rw [dep_arr (by rcases ha with rfl | rfl | rfl | rfl <;> rfl) h'] at h
    cases h
/-- a part stays when the papers change, and what lies first beside -/
theorem PW.moved {dA : Nat → ClassId} {ad : Nat → Nat} {X T : St} {L : Ex} {pa a c : Nat} {e e' : va_E} {w : Int32} (hT : Tq X T) (he : ∀ fs, e ≠ .inr (1, fs) ∧ e ≠ .inr (c, fs)) (h : PW dA ad X ((pa, e) :: L) a c w) : PW dA ad T ((pa, e') :: L) a c w := by
  obtain ⟨n, hn, h⟩ := h
  have key : ∀ (ci : Nat) (fs : List Value), (∀ gs, e ≠ .inr (ci, gs)) → xw dA ad X ((pa, e) :: L) n = some (.inr (ci, fs)) → xw dA ad T ((pa, e') :: L) n = some (.inr (ci, fs)) := by
    intro ci fs hci hx
    by_cases h150 : n < 150
    · rw [xw_in _ _ _ _ h150] at hx ⊢
      rw [← hx]
      refine xin_cong dA ad (fun a i hd => ?_)
      by_cases hp : a = 23 ∨ a = 24 ∨ a = 29 ∨ a = 30
      · have hna := dep_pap hp hd
        subst hna
        have : xin dA ad X n = some (.inl (dA (xty n), xlen n, .inl (X n))) := by
          rw [← xw_in dA ad X [] h150, xw_arr _ _ _ _ (by rcases hp with rfl | rfl | rfl | rfl <;> rfl)]
        rw [this] at hx
        cases hx
      · exact hT a i (by omega) (by omega) (by omega) (by omega)
    · by_cases e150 : n = 150
      · subst e150
        have hx' : some e = some (.inr (ci, fs)) := hx
        exact absurd (Option.some.inj hx') (hci fs)
      · unfold xw at hx ⊢
        rw [if_neg h150] at hx ⊢
        have e1 : n - 150 = (n - 151) + 1 := by omega
        rw [e1, List.getElem?_cons_succ] at hx ⊢
        exact hx
  refine ⟨n, ?_, ?_⟩
  · rw [← hn]
    unfold cb
    by_cases h150 : n < 150
    · rw [if_pos h150, if_pos h150]
    · rw [if_neg h150, if_neg h150]
      by_cases e150 : n = 150
      · subst e150; rfl
      · have e1 : n - 150 = (n - 151) + 1 := by omega
        rw [e1, List.getElem?_cons_succ, List.getElem?_cons_succ]
  · rcases h with ⟨h1, h2⟩ | ⟨h1, h2⟩
    · exact Or.inl ⟨key 1 _ (fun gs => (he gs).1) h1, h2⟩
    · exact Or.inr ⟨key c _ (fun gs => (he gs).2) h1, h2⟩
theorem pen_ne {ad : Nat → Nat} {on wa la ba : Nat} {px py pd : Int32} {c : Nat} (hc : c ≠ 7) : ∀ fs, penE ad on wa la ba px py pd ≠ .inr (1, fs) ∧ penE ad on wa la ba px py pd ≠ .inr (c, fs) := by
  intro fs
  constructor
  · intro h
    have := congrArg (fun z : va_E => match z with | .inr o => o.1 | .inl _ => 0) h
    exact absurd (show (7 : Nat) = 1 from this) (by decide)
  · intro h
    have := congrArg (fun z : va_E => match z with | .inr o => o.1 | .inl _ => 0) h
    exact hc (show (7 : Nat) = c from this).symm
theorem hgt_fine {X : St} {c t : Nat} (hc : c < 12) : hgt X (-1) c t = nv (X 2 (16 * c + t)) := by
  unfold hgt
  rw [if_neg (fun z => absurd (congrArg Int32.toInt z.1) (by rw [nI_toInt (by omega)]; show ¬ _ = (-1 : Int); omega))]
theorem hgt_worn {X : St} {w : Int32} {c t : Nat} (hv : nv (X 2 (16 * c + t)) ≤ 9) : (if nI c = w ∧ 0 < nI (nv (X 2 (16 * c + t))) then nI (nv (X 2 (16 * c + t))) - 1 else nI (nv (X 2 (16 * c + t)))) = nI (hgt X w c t) := by
  unfold hgt
  have h0 : (0 : Int32) < nI (nv (X 2 (16 * c + t))) ↔ 0 < nv (X 2 (16 * c + t)) := nI_ltI (a := 0) (by omega) (by omega)
  by_cases h : nI c = w ∧ 0 < nv (X 2 (16 * c + t))
  · rw [if_pos h, if_pos ⟨h.1, h0.mpr h.2⟩]
    exact pk_sub (b := 1) (by omega)
  · rw [if_neg h, if_neg (fun z => h ⟨z.1, h0.mp z.2⟩)]
theorem nI_nm1 {k : Nat} (hk : k < 100) : ¬ nI k = -1 := fun z => absurd (congrArg Int32.toInt z) (by rw [nI_toInt (by omega)]; show ¬ _ = (-1 : Int); omega)
/-- the points of a line -/
def lnX (X : St) (a b x0 y0 x1 y1 k t : Nat) : Nat → St
  | 0 => X
  | i + 1 => mkX (lnX X a b x0 y0 x1 y1 k t i) a b (10 * pnt x0 x1 (max (adist x1 x0) (adist y1 y0)) (i + 1) + pnt y0 y1 (max (adist x1 x0) (adist y1 y0)) (i + 1)) k t
def wrX (X : St) (w bb : Int32) (a b k t : Nat) : St :=
  if dwn X w k t = true then
    if 0 < t ∧ dwn X w k (t - 1) = true then lnX (mkX X a b (10 * xA X w bb k t + yA X w bb k t) k t) a b (xA X w bb k (t - 1)) (yA X w bb k (t - 1)) (xA X w bb k t) (yA X w bb k t) k t (max (adist (xA X w bb k t) (xA X w bb k (t - 1))) (adist (yA X w bb k t) (yA X w bb k (t - 1))) - 1)
    else mkX X a b (10 * xA X w bb k t + yA X w bb k t) k t
  else X
theorem mkr_mk {P : Mk} {X : St} {a b c k t : Nat} (hab : a ≠ b) (hk : k ≤ 99) (ht : t ≤ 99) (h : MkR P (X a) (X b)) (hc : c < 1200) : MkR (mk1 P c k t) (mkX X a b c k t a) (mkX X a b c k t b) := by
  intro q hq
  have h0 := mkr_0 h hc
  unfold mk1 mkX
  by_cases h1 : X a c = 0
  · rw [if_pos h1, if_pos (h0.mp h1)]
    by_cases hqc : q = c
    · subst hqc
      right
      refine ⟨k, t, hk, ht, by simp [upd], by simp [upd], ?_, by rw [up2_self]⟩
      rw [up2_ne _ _ (Or.inl hab), up2_self]
    · have := h q hq
      rw [up2_ne _ _ (Or.inl hab), up2_i _ _ hqc, up2_i _ _ hqc, up2_k _ _ _ (Ne.symm hab)]
      simpa [upd, hqc] using this
  · rw [if_neg h1, if_neg (fun z => h1 (h0.mpr z))]
    exact h q hq
theorem mkr_ln {P : Mk} {X : St} {a b x0 y0 x1 y1 k t : Nat} (hab : a ≠ b) (hk : k ≤ 99) (ht : t ≤ 99) (hx0 : x0 ≤ 109) (hx1 : x1 ≤ 109) (hy0 : y0 ≤ 9) (hy1 : y1 ≤ 9) (h : MkR P (X a) (X b)) : ∀ i, i < max (adist x1 x0) (adist y1 y0) → MkR (lineF P x0 y0 x1 y1 k t i) (lnX X a b x0 y0 x1 y1 k t i a) (lnX X a b x0 y0 x1 y1 k t i b)
  | 0, _ => h
  | i + 1, hi => by
    have p1 := pnt_le (N := 109) (Nat.le_max_left (adist x1 x0) (adist y1 y0)) hi hx0 hx1
    have p2 := pnt_le (N := 9) (Nat.le_max_right (adist x1 x0) (adist y1 y0)) hi hy0 hy1
    exact mkr_mk hab hk ht (mkr_ln hab hk ht hx0 hx1 hy0 hy1 h i (by omega)) (by omega)
theorem lnX_q {X : St} {a b : Nat} (ha : a = 23 ∨ a = 24 ∨ a = 29 ∨ a = 30) (hb : b = 23 ∨ b = 24 ∨ b = 29 ∨ b = 30) (x0 y0 x1 y1 k t : Nat) : ∀ i, Tq X (lnX X a b x0 y0 x1 y1 k t i)
  | 0 => Tq_id
  | i + 1 => (lnX_q ha hb x0 y0 x1 y1 k t i).mk _ _ _ ha hb
theorem lnX_o {X : St} {a b q : Nat} (h1 : q ≠ a) (h2 : q ≠ b) (x0 y0 x1 y1 k t : Nat) : ∀ i, lnX X a b x0 y0 x1 y1 k t i q = X q
  | 0 => rfl
  | i + 1 => by
    show mkX _ a b _ k t q = X q
    unfold mkX
    split
    · rw [up2_k _ _ _ h2, up2_k _ _ _ h1, lnX_o h1 h2 x0 y0 x1 y1 k t i]
    · exact lnX_o h1 h2 x0 y0 x1 y1 k t i
theorem wrX_q (X : St) (w bb : Int32) {a b : Nat} (ha : a = 23 ∨ a = 24 ∨ a = 29 ∨ a = 30) (hb : b = 23 ∨ b = 24 ∨ b = 29 ∨ b = 30) (k t : Nat) : Tq X (wrX X w bb a b k t) := by
  unfold wrX
  split
  · split
    · exact (Tq_id.mk _ _ _ ha hb).trans (lnX_q ha hb _ _ _ _ _ _ _)
    · exact Tq_id.mk _ _ _ ha hb
  · exact Tq_id
theorem wrX_o (X : St) (w bb : Int32) {a b q : Nat} (h1 : q ≠ a) (h2 : q ≠ b) (k t : Nat) : wrX X w bb a b k t q = X q := by
  have hm : ∀ c, mkX X a b c k t q = X q := fun c => by
    unfold mkX
    split
    · rw [up2_k _ _ _ h2, up2_k _ _ _ h1]
    · rfl
  unfold wrX
  split
  · split
    · rw [lnX_o h1 h2, hm]
    · exact hm _
  · rfl
theorem mkr_wr {P : Mk} {X : St} {a b k t : Nat} (w bb : Int32) (hO : OkW X) (hab : a ≠ b) (hk : k < 12) (ht : t < 16) (h : MkR P (X a) (X b)) : MkR (wrt X w bb P k t) (wrX X w bb a b k t a) (wrX X w bb a b k t b) := by
  have bx := xA_le hO w bb hk ht
  have b_y := yA_le X w bb k t
  have h1 := mkr_mk (c := 10 * xA X w bb k t + yA X w bb k t) hab (show k ≤ 99 by omega) (show t ≤ 99 by omega) h (by omega)
  unfold wrt wrX
  by_cases hd : dwn X w k t = true
  · rw [if_pos hd, if_pos hd]
    by_cases hd2 : 0 < t ∧ dwn X w k (t - 1) = true
    · rw [if_pos hd2, if_pos hd2]
      have bx0 := xA_le hO w bb hk (show t - 1 < 16 by omega)
      have by0 := yA_le X w bb k (t - 1)
      by_cases hm : max (adist (xA X w bb k t) (xA X w bb k (t - 1))) (adist (yA X w bb k t) (yA X w bb k (t - 1))) = 0
      · rw [hm]; exact h1
      · exact mkr_ln hab (by omega) (by omega) bx0 bx by0 b_y h1 _ (by omega)
    · rw [if_neg hd2, if_neg hd2]; exact h1
  · rw [if_neg hd, if_neg hd]; exact h
theorem xor_neg {a b : Int32} (hb : 0 < b.toInt) : (a ^^^ b) < 0 ↔ a < 0 := by
  have hm : ∀ x : Int32, x < 0 ↔ x.toBitVec.msb = true := fun x => by
    rw [Int32.lt_iff_toInt_lt, i0, BitVec.msb_eq_toInt]
    show x.toBitVec.toInt < 0 ↔ _
    exact decide_eq_true_iff.symm
  rw [hm, hm]
  have hb' : b.toBitVec.msb = false := by
    rw [BitVec.msb_eq_toInt]
    simp only [decide_eq_false_iff_not]
    show ¬ b.toInt < 0
    omega
  show (a.toBitVec ^^^ b.toBitVec).msb = true ↔ _
  rw [BitVec.msb_xor, hb']
  simp
theorem fd_low {a b : Int32} (hb : 0 < b.toInt) (h1 : -1000000 ≤ a.toInt) (h2 : a.toInt ≤ 1000000) (hb2 : b.toInt ≤ 1000000) : fdF a b = lowF a b := by
  have hq0 : -1000000 ≤ a.toInt / b.toInt := by
    apply Int.le_ediv_of_mul_le hb
    have : -1000000 * b.toInt ≤ -1000000 := by omega
    omega
  have hq1 : a.toInt / b.toInt ≤ 1000000 := by
    apply Int.le_of_lt_add_one
    apply Int.ediv_lt_of_lt_mul hb
    have : (1000000 + 1) * b.toInt ≥ 1000000 + 1 := by omega
    omega
  have e := Int.tdiv_eq_ediv (a := a.toInt) (b := b.toInt)
  have hs : Int.sign b.toInt = 1 := Int.sign_eq_one_of_pos hb
  rw [hs] at e
  have hd : (a / b).toInt = a.toInt.tdiv b.toInt := by
    rw [Int32.toInt_div]
    apply Int.bmod_eq_of_le
    · rw [e]; split <;> omega
    · rw [e]; split <;> omega
  have hm0 := Int.emod_nonneg a.toInt (show b.toInt ≠ 0 by omega)
  have hm1 := Int.emod_lt_of_pos a.toInt hb
  have hdm := Int.mul_ediv_add_emod a.toInt b.toInt
  have e2 : a.toInt.tdiv b.toInt * b.toInt = a.toInt - a.toInt % b.toInt + (if 0 ≤ a.toInt ∨ b.toInt ∣ a.toInt then 0 else b.toInt) := by
    rw [e, Int.add_mul]
    have : a.toInt / b.toInt * b.toInt = b.toInt * (a.toInt / b.toInt) := Int.mul_comm _ _
    rw [this]
    split <;> omega
  have hmul : (a / b * b).toInt = a.toInt.tdiv b.toInt * b.toInt := by
    rw [Int32.toInt_mul, hd]
    apply Int.bmod_eq_of_le
    · rw [e2]; split <;> omega
    · rw [e2]; split <;> omega
  have hsub : (a - a / b * b).toInt = a.toInt - a.toInt.tdiv b.toInt * b.toInt := by
    rw [Int32.toInt_sub, hmul]
    apply Int.bmod_eq_of_le
    · rw [e2]; split <;> omega
    · rw [e2]; split <;> omega
  have hx := xor_neg (a := a) hb
  rw [show (a < 0) = (a.toInt < 0) from propext (by rw [Int32.lt_iff_toInt_lt, i0])] at hx
  unfold fdF lowF
  by_cases h : 0 ≤ a.toInt ∨ b.toInt ∣ a.toInt
  · rw [if_pos h] at e2
    rw [if_neg (show ¬ a - a / b * b < 0 by rw [Int32.lt_iff_toInt_lt, i0, hsub]; omega)]
    rw [if_neg]
    intro z
    have hz := hx.mp z.1
    rcases h with h | h
    · omega
    · refine z.2 (Int32.toInt_inj.mp ?_)
      have := Int.emod_eq_zero_of_dvd h
      rw [hmul, e2]; omega
  · rw [if_neg h] at e2
    rw [if_pos (show a - a / b * b < 0 by rw [Int32.lt_iff_toInt_lt, i0, hsub]; omega)]
    rw [if_pos]
    refine ⟨hx.mpr (by omega), fun z => ?_⟩
    have := congrArg Int32.toInt z
    rw [hmul, e2] at this
    omega
theorem pntf_eq {a b m i : Nat} (ha : a ≤ 120) (hb : b ≤ 120) (hm : m ≤ 120) (hd : adist b a ≤ m) (hi2 : i < m) : nI a + fdF (nI (2 * i) * (nI b - nI a) + nI m) (nI (2 * m)) = nI (pnt a b m i) := by
  rw [← pnt_eq ha hb hm hd hi2]
  have hs : (nI b - nI a).toInt = (b : Int) - a := pk_subT (by omega) (by omega)
  have hbd : -120 ≤ (b : Int) - a ∧ (b : Int) - a ≤ 120 := by omega
  have hi0 : (0 : Int) ≤ ((2 * i : Nat) : Int) ∧ ((2 * i : Nat) : Int) ≤ 240 := by omega
  have hp : -28800 ≤ ((2 * i : Nat) : Int) * ((b : Int) - a) ∧ ((2 * i : Nat) : Int) * ((b : Int) - a) ≤ 28800 := by
    constructor
    · have h1 : ((2 * i : Nat) : Int) * (-120) ≤ ((2 * i : Nat) : Int) * ((b : Int) - a) := Int.mul_le_mul_of_nonneg_left hbd.1 hi0.1
      omega
    · have h1 : ((2 * i : Nat) : Int) * ((b : Int) - a) ≤ ((2 * i : Nat) : Int) * 120 := Int.mul_le_mul_of_nonneg_left hbd.2 hi0.1
      omega
  have e1 : (nI (2 * i) * (nI b - nI a)).toInt = ((2 * i : Nat) : Int) * ((b : Int) - a) := by
    rw [Int32.toInt_mul, nI_toInt (by omega), hs]
    apply Int.bmod_eq_of_le <;> omega
  have e2 : (nI (2 * i) * (nI b - nI a) + nI m).toInt = ((2 * i : Nat) : Int) * ((b : Int) - a) + m := by
    rw [Int32.toInt_add, e1, nI_toInt (by omega)]
    apply Int.bmod_eq_of_le <;> omega
  rw [fd_low (by rw [nI_toInt (by omega)]; omega) (by rw [e2]; omega) (by rw [e2]; omega) (by rw [nI_toInt (by omega)]; omega)]
theorem iabs_ad {a b : Nat} (ha : a ≤ 120) (hb : b ≤ 120) : iabs (nI a - nI b) = nI (adist a b) := by
  unfold iabs
  by_cases h : nI a - nI b < 0
  · rw [if_pos h]; exact ad_lt ha hb (Int32.not_le.mpr h)
  · rw [if_neg h]; exact ad_ge ha hb (Int32.not_lt.mp h)
theorem imax_nI {a b : Nat} (ha : a < 2 ^ 31) (hb : b < 2 ^ 31) : imax (nI a) (nI b) = nI (max a b) := by
  unfold imax
  by_cases h : nI a < nI b
  · rw [if_pos h, Nat.max_eq_right (Nat.le_of_lt ((nI_ltI ha hb).mp h))]
  · rw [if_neg h, Nat.max_eq_left (Nat.le_of_not_lt (fun z => h ((nI_ltI ha hb).mpr z)))]
theorem xA_f {X : St} {w bb : Int32} {k t : Nat} (h : bb = -1) : nI (k * nv (X 0 8) + hgt X w (nv (X 3 (nv (X 7 k)))) t) = nI (xA X w bb k t) := by
  unfold xA
  rw [if_neg (by rw [h]; decide), Nat.add_zero]
theorem xA_b {X : St} {w bb : Int32} {k t : Nat} : (if bb = 0 then nI (k * nv (X 0 8) + hgt X w (nv (X 3 (nv (X 7 k)))) t) + 1 else nI (k * nv (X 0 8) + hgt X w (nv (X 3 (nv (X 7 k)))) t)) = nI (xA X w bb k t) := by
  unfold xA
  by_cases h : bb = 0
  · rw [if_pos h, if_pos h, nI_1]
  · rw [if_neg h, if_neg h, Nat.add_zero]
theorem yA_f {X : St} {w bb : Int32} {k t : Nat} (h : bb = -1) (h9 : hgt X w (nv (X 4 (nv (X 7 k)))) t ≤ 9) : nI (hgt X w (nv (X 4 (nv (X 7 k)))) t) = nI (yA X w bb k t) := by
  unfold yA
  rw [if_neg (by rw [h]; decide), Nat.add_zero, Nat.min_eq_right h9]
theorem yA_b {X : St} {w bb : Int32} {k t : Nat} (h9 : hgt X w (nv (X 4 (nv (X 7 k)))) t ≤ 9) : (if bb = 1 then imin 9 (nI (hgt X w (nv (X 4 (nv (X 7 k)))) t) + 1) else nI (hgt X w (nv (X 4 (nv (X 7 k)))) t)) = nI (yA X w bb k t) := by
  unfold yA
  by_cases h : bb = 1
  · rw [if_pos h, if_pos h, nI_1]
    unfold imin
    by_cases h3 : nI (hgt X w (nv (X 4 (nv (X 7 k)))) t + 1) < 9
    · rw [if_pos h3, Nat.min_eq_right (by have := (nI_ltI (b := 9) (by omega) (by omega)).mp h3; omega)]
    · have h4 : ¬ hgt X w (nv (X 4 (nv (X 7 k)))) t + 1 < 9 := fun z => h3 ((nI_ltI (b := 9) (by omega) (by omega)).mpr z)
      rw [if_neg h3, Nat.min_eq_left (by omega)]
      rfl
  · rw [if_neg h, if_neg h, Nat.add_zero, Nat.min_eq_right h9]
