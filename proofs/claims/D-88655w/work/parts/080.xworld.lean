/-! LAYER 4: the component's world (CamFigures), as a function of its state: X k: its arrays (7 pegs, 21 cuts, 22 refusals, 23 isMarked, 24 firsts, 29 and 30 the trial paper's), X 0 j its numbers; X 1 c: cam c is there, X 2 (16 c + t) its heights, X 0 26 their length (rl); X 3, 4, 5 the letters, X 19 the faults, X 20 the habits; X 17 and X 18 aren't in the heap -/
set_option maxRecDepth 100000
set_option linter.unusedVariables false
def xisr (j : Nat) : Bool := j == 0 || j == 2 || j == 3 || j == 6 || j == 7 || j == 8 || j == 9 || j == 10 || j == 11 || j == 12
def xref (j : Nat) : Nat := if j = 0 then 1 else if j = 2 then 3 else if j = 3 then 7 else if j = 6 then 4 else if j = 7 then 19 else if j = 8 then 5 else if j = 9 then 6 else if j = 10 then 20 else if j = 11 then 21 else 22
def xnum (j : Nat) : Nat := if j = 1 then 0 else if j = 4 then 6 else if j = 5 then 8 else if j = 13 then 9 else if j = 14 then 10 else if j = 15 then 11 else if j = 16 then 12 else if j = 17 then 13 else if j = 18 then 14 else if j = 19 then 15 else if j = 20 then 16 else if j = 21 then 27 else 28
def xfs (ad : Nat → Nat) (X : St) : List Value := (List.range 23).map fun j => if xisr j = true then .ref (ad (xref j)) else .int (X 0 (xnum j))
theorem xfs_len (ad : Nat → Nat) (X : St) : (xfs ad X).length = 23 := by simp [xfs]
theorem xfs_at (ad : Nat → Nat) (X : St) {j : Nat} (hj : j < 23) : (xfs ad X)[j]? = some (if xisr j = true then .ref (ad (xref j)) else .int (X 0 (xnum j))) := by
  unfold xfs
  rw [List.getElem?_map, List.getElem?_range hj]
  rfl
theorem xnum_inj : ∀ a, a < 23 → ∀ b, b < 23 → xisr a = false → xisr b = false → xnum a = xnum b → a = b := by decide
theorem xfs_set (ad : Nat → Nat) (X : St) {j : Nat} (hj : j < 23) (hm : xisr j = false) (v : Int32) : (xfs ad X).set j (.int v) = xfs ad (up2 X 0 (xnum j) v) := by
  apply List.ext_getElem?
  intro i
  by_cases hi : i < 23
  · by_cases hij : i = j
    · subst hij
      rw [List.getElem?_set_self (by rw [xfs_len]; exact hi), xfs_at _ _ hi, hm, up2_self]
      rfl
    · rw [List.getElem?_set_ne (Ne.symm hij), xfs_at _ _ hi, xfs_at _ _ hi]
      cases h : xisr i with
      | true => rfl
      | false => rw [up2_i _ _ (fun z => hij (xnum_inj i hi j hj h hm z))]
  · rw [List.getElem?_eq_none (by rw [List.length_set, xfs_len]; omega), List.getElem?_eq_none (by rw [xfs_len]; omega)]
def xarr (k : Nat) : Bool := k == 7 || k == 21 || k == 22 || k == 23 || k == 24 || k == 29 || k == 30
def xlen (k : Nat) : Nat := if k = 7 then 12 else if k = 21 then 4 else if k = 22 then 8 else 1200
def xty (k : Nat) : Nat := if k = 23 then 1 else if k = 29 then 1 else 0
/-- the length of the cams' rows -/
def rl (X : St) : Nat := nv (X 0 26)
def hts (X : St) (c : Nat) : Nat → Int32 := fun t => if t < 16 then X 2 (16 * c + t) else 0
def hab (X : St) (m : Nat) : Nat → Int32 := fun h => if h < 10 then X 20 (10 * m + h) else 0
def camF (ad : Nat → Nat) (X : St) : Nat → Option Nat := fun c => if c < 12 ∧ ¬ X 1 c = 0 then some (ad (100 + c)) else none
def fltF (ad : Nat → Nat) (X : St) : Nat → Option Nat := fun k => if k < 3 ∧ ¬ X 19 (k + 1) < 0 then some (ad (80 + k)) else none
def letF (ad : Nat → Nat) : Nat → Option Nat := fun l => if l < 10 then some (ad (60 + l)) else none
def habA (ad : Nat → Nat) : Nat → Option Nat := fun m => if m < 4 then some (ad (40 + m)) else none
def xlow (dA : Nat → ClassId) (ad : Nat → Nat) (X : St) (k : Nat) : Option va_E :=
  if xarr k = true then some (.inl (dA (xty k), xlen k, .inl (X k)))
  else if k = 0 then some (.inr (0, xfs ad X))
  else if k = 1 then some (.inl (dA 2, 12, .inr (.inr (.inr (.inr (camF ad X))))))
  else if k = 3 then some (.inl (dA 3, 10, .inr (.inr (.inr (.inr (letF ad))))))
  else if k = 4 then some (.inr (1, []))
  else if k = 5 then some (.inr (2, [.ref (ad 23), .ref (ad 24)]))
  else if k = 6 then some (.inr (2, [.ref (ad 29), .ref (ad 30)]))
  else if k = 19 then some (.inl (dA 4, 3, .inr (.inr (.inr (.inr (fltF ad X))))))
  else if k = 20 then some (.inl (dA 5, 4, .inr (.inr (.inr (.inr (habA ad))))))
  else none
def xin (dA : Nat → ClassId) (ad : Nat → Nat) (X : St) (k : Nat) : Option va_E :=
  if 120 ≤ k then (if k - 120 < 12 ∧ X 1 (k - 120) ≠ 0 then some (.inl (dA 0, rl X, .inl (hts X (k - 120)))) else none)
  else if 100 ≤ k then (if k - 100 < 12 ∧ X 1 (k - 100) ≠ 0 then some (.inr (5, [.ref (ad (120 + (k - 100)))])) else none)
  else if 80 ≤ k then (if k - 80 < 3 ∧ ¬ X 19 (k - 80 + 1) < 0 then some (.inr (8 + (k - 80), [.int (X 19 (k - 80 + 1))])) else none)
  else if 60 ≤ k then (if k - 60 < 10 then some (.inr (3, [.int (X 3 (k - 60)), .int (X 4 (k - 60)), .int (X 5 (k - 60))])) else none)
  else if 40 ≤ k then (if k - 40 < 4 then some (.inl (dA 0, 10, .inl (hab X (k - 40)))) else none)
  else xlow dA ad X k
/-- what a method has made beside: cells by their places in a list -/
abbrev Ex : Type := List (Nat × va_E)
def cb (ad : Nat → Nat) (L : Ex) : Nat → Nat := fun k => if k < 150 then ad k else ((L[k - 150]?).map Prod.fst).getD 0
def xw (dA : Nat → ClassId) (ad : Nat → Nat) (X : St) (L : Ex) : Wd := fun k => if k < 150 then xin dA ad X k else (L[k - 150]?).map Prod.snd
section XR
variable (dA : Nat → ClassId) (ad : Nat → Nat) (X : St) (L : Ex)
theorem xw_0 : xw dA ad X L 0 = some (.inr (0, xfs ad X)) := rfl
theorem xw_1 : xw dA ad X L 1 = some (.inl (dA 2, 12, .inr (.inr (.inr (.inr (camF ad X)))))) := rfl
theorem xw_3 : xw dA ad X L 3 = some (.inl (dA 3, 10, .inr (.inr (.inr (.inr (letF ad)))))) := rfl
theorem xw_4 : xw dA ad X L 4 = some (.inr (1, [])) := rfl
theorem xw_5 : xw dA ad X L 5 = some (.inr (2, [.ref (ad 23), .ref (ad 24)])) := rfl
theorem xw_6 : xw dA ad X L 6 = some (.inr (2, [.ref (ad 29), .ref (ad 30)])) := rfl
theorem xw_19 : xw dA ad X L 19 = some (.inl (dA 4, 3, .inr (.inr (.inr (.inr (fltF ad X)))))) := rfl
theorem xw_20 : xw dA ad X L 20 = some (.inl (dA 5, 4, .inr (.inr (.inr (.inr (habA ad)))))) := rfl
theorem cb_lt {k : Nat} (h : k < 150) : cb ad L k = ad k := if_pos h
theorem xw_in {k : Nat} (h : k < 150) : xw dA ad X L k = xin dA ad X k := if_pos h
theorem xw_E {i q : Nat} {e : va_E} (h : L[i]? = some (q, e)) : xw dA ad X L (150 + i) = some e := by
  unfold xw
  rw [if_neg (by omega), show 150 + i - 150 = i by omega, h]
  rfl
theorem cb_E {i q : Nat} {e : va_E} (h : L[i]? = some (q, e)) : cb ad L (150 + i) = q := by
  unfold cb
  rw [if_neg (by omega), show 150 + i - 150 = i by omega, h]
  rfl
theorem xin_low {k : Nat} (hk : k < 40) : xin dA ad X k = xlow dA ad X k := by
  unfold xin
  rw [if_neg (by omega), if_neg (by omega), if_neg (by omega), if_neg (by omega), if_neg (by omega)]
theorem xarr_lt {k : Nat} (h : xarr k = true) : k < 40 ∧ k ≠ 0 ∧ k ≠ 1 ∧ k ≠ 2 ∧ k ≠ 3 ∧ k ≠ 4 ∧ k ≠ 5 ∧ k ≠ 6 ∧ k ≠ 19 ∧ k ≠ 20 := by
  have : k = 7 ∨ k = 21 ∨ k = 22 ∨ k = 23 ∨ k = 24 ∨ k = 29 ∨ k = 30 := by simpa [xarr, or_assoc] using h
  omega
theorem xw_arr {k : Nat} (h : xarr k = true) : xw dA ad X L k = some (.inl (dA (xty k), xlen k, .inl (X k))) := by
  have h40 := (xarr_lt h).1
  rw [xw_in _ _ _ _ (by omega), xin_low _ _ _ h40]
  unfold xlow
  rw [if_pos h]
theorem xw_hts {c : Nat} (hc : c < 12) (h : ¬ X 1 c = 0) : xw dA ad X L (120 + c) = some (.inl (dA 0, rl X, .inl (hts X c))) := by
  have e : 120 + c - 120 = c := by omega
  rw [xw_in _ _ _ _ (by omega)]
  unfold xin
  rw [if_pos (by omega), e, if_pos ⟨hc, h⟩]
theorem xw_cam {c : Nat} (hc : c < 12) (h : ¬ X 1 c = 0) : xw dA ad X L (100 + c) = some (.inr (5, [.ref (ad (120 + c))])) := by
  have e : 100 + c - 100 = c := by omega
  rw [xw_in _ _ _ _ (by omega)]
  unfold xin
  rw [if_neg (by omega), if_pos (by omega), e, if_pos ⟨hc, h⟩]
theorem xw_flt {k : Nat} (hc : k < 3) (h : ¬ X 19 (k + 1) < 0) : xw dA ad X L (80 + k) = some (.inr (8 + k, [.int (X 19 (k + 1))])) := by
  have e : 80 + k - 80 = k := by omega
  rw [xw_in _ _ _ _ (by omega)]
  unfold xin
  rw [if_neg (by omega), if_neg (by omega), if_pos (by omega), e, if_pos ⟨hc, h⟩]
theorem xw_let {l : Nat} (hc : l < 10) : xw dA ad X L (60 + l) = some (.inr (3, [.int (X 3 l), .int (X 4 l), .int (X 5 l)])) := by
  have e : 60 + l - 60 = l := by omega
  rw [xw_in _ _ _ _ (by omega)]
  unfold xin
  rw [if_neg (by omega), if_neg (by omega), if_neg (by omega), if_pos (by omega), e, if_pos hc]
theorem xw_hab {l : Nat} (hc : l < 4) : xw dA ad X L (40 + l) = some (.inl (dA 0, 10, .inl (hab X l))) := by
  have e : 40 + l - 40 = l := by omega
  rw [xw_in _ _ _ _ (by omega)]
  unfold xin
  rw [if_neg (by omega), if_neg (by omega), if_neg (by omega), if_neg (by omega), if_pos (by omega), e, if_pos hc]
end XR
/-- which places of the state a name's cell shows -/
def dep (k a i : Nat) : Bool :=
  if 120 ≤ k then (a == 1 && i == k - 120) || ((a == 2 && i / 16 == k - 120) || (a == 0 && i == 26))
  else if 100 ≤ k then a == 1 && i == k - 100
  else if 80 ≤ k then a == 19 && i == k - 80 + 1
  else if 60 ≤ k then (a == 3 || (a == 4 || a == 5)) && i == k - 60
  else if 40 ≤ k then a == 20 && i / 10 == k - 40
  else if xarr k = true then a == k
  else if k = 0 then a == 0 && i != 26
  else if k = 1 then a == 1
  else if k = 19 then a == 19
  else false
theorem xnum_26 : ∀ j, j < 23 → xnum j ≠ 26 := by decide
theorem xfs_cong {ad : Nat → Nat} {X X' : St} (h : ∀ i, i ≠ 26 → X 0 i = X' 0 i) : xfs ad X = xfs ad X' := by
  unfold xfs
  apply List.map_congr_left
  intro j hj
  rw [h (xnum j) (xnum_26 j (List.mem_range.mp hj))]
theorem xin_cong (dA : Nat → ClassId) (ad : Nat → Nat) {X X' : St} {k : Nat} (h : ∀ a i, dep k a i = true → X a i = X' a i) : xin dA ad X k = xin dA ad X' k := by
  unfold xin
  by_cases h120 : 120 ≤ k
  · have hd : ∀ a i, ((a == 1 && i == k - 120) || ((a == 2 && i / 16 == k - 120) || (a == 0 && i == 26))) = true → X a i = X' a i := fun a i q => h a i (by unfold dep; rw [if_pos h120]; exact q)
    have e1 : X 1 (k - 120) = X' 1 (k - 120) := hd _ _ (by simp)
    have e2 : rl X = rl X' := by unfold rl; rw [hd 0 26 (by simp)]
    have e3 : hts X (k - 120) = hts X' (k - 120) := by
      funext t
      unfold hts
      by_cases ht : t < 16
      · have e9 : (16 * (k - 120) + t) / 16 = k - 120 := by omega
        rw [if_pos ht, if_pos ht, hd 2 (16 * (k - 120) + t) (by simp [e9])]
      · rw [if_neg ht, if_neg ht]
    rw [if_pos h120, if_pos h120, e1, e2, e3]
  rw [if_neg h120, if_neg h120]
  by_cases h100 : 100 ≤ k
  · have hd : ∀ a i, (a == 1 && i == k - 100) = true → X a i = X' a i := fun a i q => h a i (by unfold dep; rw [if_neg h120, if_pos h100]; exact q)
    rw [if_pos h100, if_pos h100, hd 1 (k - 100) (by simp)]
  rw [if_neg h100, if_neg h100]
  by_cases h80 : 80 ≤ k
  · have hd : ∀ a i, (a == 19 && i == k - 80 + 1) = true → X a i = X' a i := fun a i q => h a i (by unfold dep; rw [if_neg h120, if_neg h100, if_pos h80]; exact q)
    rw [if_pos h80, if_pos h80, hd 19 (k - 80 + 1) (by simp)]
  rw [if_neg h80, if_neg h80]
  by_cases h60 : 60 ≤ k
  · have hd : ∀ a i, ((a == 3 || (a == 4 || a == 5)) && i == k - 60) = true → X a i = X' a i := fun a i q => h a i (by unfold dep; rw [if_neg h120, if_neg h100, if_neg h80, if_pos h60]; exact q)
    rw [if_pos h60, if_pos h60, hd 3 (k - 60) (by simp), hd 4 (k - 60) (by simp), hd 5 (k - 60) (by simp)]
  rw [if_neg h60, if_neg h60]
  by_cases h40 : 40 ≤ k
  · have hd : ∀ a i, (a == 20 && i / 10 == k - 40) = true → X a i = X' a i := fun a i q => h a i (by unfold dep; rw [if_neg h120, if_neg h100, if_neg h80, if_neg h60, if_pos h40]; exact q)
    have e3 : hab X (k - 40) = hab X' (k - 40) := by
      funext t
      unfold hab
      by_cases ht : t < 10
      · have e9 : (10 * (k - 40) + t) / 10 = k - 40 := by omega
        rw [if_pos ht, if_pos ht, hd 20 (10 * (k - 40) + t) (by simp [e9])]
      · rw [if_neg ht, if_neg ht]
    rw [if_pos h40, if_pos h40, e3]
  rw [if_neg h40, if_neg h40]
  unfold xlow
  by_cases ha : xarr k = true
  · have hd : ∀ i, X k i = X' k i := fun i => h k i (by unfold dep; rw [if_neg h120, if_neg h100, if_neg h80, if_neg h60, if_neg h40, if_pos ha]; simp)
    rw [if_pos ha, if_pos ha, funext hd]
  rw [if_neg ha, if_neg ha]
  by_cases h0 : k = 0
  · rw [if_pos h0, if_pos h0, xfs_cong (X := X) (X' := X') (fun i hi => h 0 i (by unfold dep; rw [if_neg h120, if_neg h100, if_neg h80, if_neg h60, if_neg h40, if_neg ha, if_pos h0]; simp [hi]))]
  rw [if_neg h0, if_neg h0]
  by_cases h1 : k = 1
  · have hd : camF ad X = camF ad X' := by
      funext c
      unfold camF
      rw [h 1 c (by unfold dep; rw [if_neg h120, if_neg h100, if_neg h80, if_neg h60, if_neg h40, if_neg ha, if_neg h0, if_pos h1]; rfl)]
    rw [if_pos h1, if_pos h1, hd]
  rw [if_neg h1, if_neg h1]
  by_cases h19 : k = 19
  · have hd : fltF ad X = fltF ad X' := by
      funext c
      unfold fltF
      rw [h 19 (c + 1) (by unfold dep; rw [if_neg h120, if_neg h100, if_neg h80, if_neg h60, if_neg h40, if_neg ha, if_neg h0, if_neg h1, if_pos h19]; rfl)]
    rw [hd]
  rw [if_neg h19, if_neg h19]
theorem xw_cong (dA : Nat → ClassId) (ad : Nat → Nat) (L : Ex) {X X' : St} {k : Nat} (h : ∀ a i, dep k a i = true → X a i = X' a i) : xw dA ad X L k = xw dA ad X' L k := by
  unfold xw
  rw [xin_cong dA ad h]
theorem xw_up (dA : Nat → ClassId) (ad : Nat → Nat) (L : Ex) (X : St) {k a i : Nat} (v : Int32) (h : dep k a i = false) : xw dA ad (up2 X a i v) L k = xw dA ad X L k := by
  refine xw_cong dA ad L (fun a' i' h' => ?_)
  refine up2_ne _ _ ?_
  by_cases e1 : a' = a
  · by_cases e2 : i' = i
    · subst e1; subst e2
      rw [h] at h'
      cases h'
    · exact Or.inr e2
  · exact Or.inl e1
theorem dep_lo {k a i : Nat} (h40 : k < 40) (hx : xarr k = false) (h : k ≠ 0 ∧ k ≠ 1 ∧ k ≠ 19) : dep k a i = false := by
  unfold dep
  rw [if_neg (by omega), if_neg (by omega), if_neg (by omega), if_neg (by omega), if_neg (by omega), if_neg (by rw [hx]; decide), if_neg h.1, if_neg h.2.1, if_neg h.2.2]
/-- a number of the object -/
theorem dep_num {k j : Nat} (hk : k ≠ 0) (hj : j ≠ 26) : dep k 0 j = false := by
  unfold dep
  by_cases hx : xarr k = true
  · have := xarr_lt hx
    rw [if_neg (by omega), if_neg (by omega), if_neg (by omega), if_neg (by omega), if_neg (by omega), if_pos hx]
    simp; omega
  · rw [if_neg hx]
    repeat' split
    all_goals simp <;> omega
theorem dep_arr {k a i : Nat} (ha : xarr a = true) (hk : k ≠ a) : dep k a i = false := by
  have h := xarr_lt ha
  have h' : a = 7 ∨ a = 21 ∨ a = 22 ∨ a = 23 ∨ a = 24 ∨ a = 29 ∨ a = 30 := by simpa [xarr, or_assoc] using ha
  unfold dep
  repeat' split
  all_goals simp <;> omega
theorem dep_hts {k c t : Nat} (ht : t < 16) (hk : k ≠ 120 + c) : dep k 2 (16 * c + t) = false := by
  have e : (16 * c + t) / 16 = c := by omega
  unfold dep
  by_cases hx : xarr k = true
  · have := xarr_lt hx
    rw [if_neg (by omega), if_neg (by omega), if_neg (by omega), if_neg (by omega), if_neg (by omega), if_pos hx]
    simp; omega
  · rw [if_neg hx, e]
    repeat' split
    all_goals simp <;> omega
theorem dep_hab {k c t : Nat} (ht : t < 10) (hk : k ≠ 40 + c) : dep k 20 (10 * c + t) = false := by
  have e : (10 * c + t) / 10 = c := by omega
  unfold dep
  by_cases hx : xarr k = true
  · have := xarr_lt hx
    rw [if_neg (by omega), if_neg (by omega), if_neg (by omega), if_neg (by omega), if_neg (by omega), if_pos hx]
    simp; omega
  · rw [if_neg hx, e]
    repeat' split
    all_goals simp <;> omega
theorem dep_let {k a l : Nat} (ha : a = 3 ∨ a = 4 ∨ a = 5) (hl : l < 20) (hk : k ≠ 60 + l) : dep k a l = false := by
  unfold dep
  by_cases hx : xarr k = true
  · have := xarr_lt hx
    rw [if_neg (by omega), if_neg (by omega), if_neg (by omega), if_neg (by omega), if_neg (by omega), if_pos hx]
    simp; omega
  · rw [if_neg hx]
    repeat' split
    all_goals simp <;> omega
theorem dep_cam {k c : Nat} (h1 : k ≠ 1) (h2 : k ≠ 100 + c) (h3 : k ≠ 120 + c) : dep k 1 c = false := by
  unfold dep
  by_cases hx : xarr k = true
  · have := xarr_lt hx
    rw [if_neg (by omega), if_neg (by omega), if_neg (by omega), if_neg (by omega), if_neg (by omega), if_pos hx]
    simp; omega
  · rw [if_neg hx]
    repeat' split
    all_goals simp <;> omega
theorem dep_flt {k c : Nat} (h1 : k ≠ 19) (h2 : k ≠ 80 + c) (hc : c < 20) : dep k 19 (c + 1) = false := by
  unfold dep
  by_cases hx : xarr k = true
  · have := xarr_lt hx
    rw [if_neg (by omega), if_neg (by omega), if_neg (by omega), if_neg (by omega), if_neg (by omega), if_pos hx]
    simp; omega
  · rw [if_neg hx]
    repeat' split
    all_goals simp <;> omega
theorem dep_gh {k a i : Nat} (ha : a = 17 ∨ a = 18 ∨ a = 25) : dep k a i = false := by
  unfold dep
  by_cases hx : xarr k = true
  · have := xarr_lt hx
    have h' : k = 7 ∨ k = 21 ∨ k = 22 ∨ k = 23 ∨ k = 24 ∨ k = 29 ∨ k = 30 := by simpa [xarr, or_assoc] using hx
    rw [if_neg (by omega), if_neg (by omega), if_neg (by omega), if_neg (by omega), if_neg (by omega), if_pos hx]
    simp; omega
  · rw [if_neg hx]
    repeat' split
    all_goals simp <;> omega
section XU
variable (dA : Nat → ClassId) (ad : Nat → Nat) (X : St) (L : Ex)
theorem xu_num {j : Nat} (hj : j < 23) (hm : xisr j = false) (v : Int32) : va_up (xw dA ad X L) 0 (some (.inr (0, (xfs ad X).set j (.int v)))) = xw dA ad (up2 X 0 (xnum j) v) L := by
  funext k
  by_cases hk : k = 0
  · subst hk
    rw [va_up_self, xw_0, xfs_set _ _ hj hm]
  · rw [va_up_ne _ _ hk, xw_up _ _ _ _ _ (dep_num hk (xnum_26 j hj))]
theorem xu_arr {a : Nat} (ha : xarr a = true) (i : Nat) (v : Int32) : va_up (xw dA ad X L) a (some (.inl (dA (xty a), xlen a, .inl (upd (X a) i v)))) = xw dA ad (up2 X a i v) L := by
  funext k
  by_cases hk : k = a
  · subst hk
    rw [va_up_self, xw_arr _ _ _ _ ha, up2_row]
  · rw [va_up_ne _ _ hk, xw_up _ _ _ _ _ (dep_arr ha hk)]
theorem xu_hts {c t : Nat} (hc : c < 12) (h : ¬ X 1 c = 0) (ht : t < 16) (v : Int32) : va_up (xw dA ad X L) (120 + c) (some (.inl (dA 0, rl X, .inl (upd (hts X c) t v)))) = xw dA ad (up2 X 2 (16 * c + t) v) L := by
  funext k
  by_cases hk : k = 120 + c
  · subst hk
    have e1 : rl (up2 X 2 (16 * c + t) v) = rl X := by unfold rl; rw [up2_ne _ _ (Or.inl (by decide))]
    have e2 : hts (up2 X 2 (16 * c + t) v) c = upd (hts X c) t v := by
      funext q
      unfold hts upd up2
      by_cases hq : q = t
      · subst hq
        simp [ht]
      · have : ¬ 16 * c + q = 16 * c + t := by omega
        simp [hq, this]
    rw [va_up_self, xw_hts _ _ _ _ hc (by rw [up2_ne _ _ (Or.inl (by decide))]; exact h), e1, e2]
  · rw [va_up_ne _ _ hk, xw_up _ _ _ _ _ (dep_hts ht hk)]
theorem xu_hab {c t : Nat} (hc : c < 4) (ht : t < 10) (v : Int32) : va_up (xw dA ad X L) (40 + c) (some (.inl (dA 0, 10, .inl (upd (hab X c) t v)))) = xw dA ad (up2 X 20 (10 * c + t) v) L := by
  funext k
  by_cases hk : k = 40 + c
  · subst hk
    have e2 : hab (up2 X 20 (10 * c + t) v) c = upd (hab X c) t v := by
      funext q
      unfold hab upd up2
      by_cases hq : q = t
      · subst hq
        simp [ht]
      · have : ¬ 10 * c + q = 10 * c + t := by omega
        simp [hq, this]
    rw [va_up_self, xw_hab _ _ _ _ hc, e2]
  · rw [va_up_ne _ _ hk, xw_up _ _ _ _ _ (dep_hab ht hk)]
theorem xu_let (f : Nat) {l : Nat} (hl : l < 10) (hf : f < 3) (v : Int32) : va_up (xw dA ad X L) (60 + l) (some (.inr (3, ([.int (X 3 l), .int (X 4 l), .int (X 5 l)] : List Value).set f (.int v)))) = xw dA ad (up2 X (3 + f) l v) L := by
  funext k
  by_cases hk : k = 60 + l
  · subst hk
    rw [va_up_self, xw_let _ _ _ _ hl]
    have : f = 0 ∨ f = 1 ∨ f = 2 := by omega
    rcases this with rfl | rfl | rfl <;> simp [up2]
  · rw [va_up_ne _ _ hk, xw_up _ _ _ _ _ (dep_let (by omega) (by omega) hk)]
theorem xu_E {i q : Nat} {e0 : va_E} (h : L[i]? = some (q, e0)) (e : va_E) : va_up (xw dA ad X L) (150 + i) (some e) = xw dA ad X (L.set i (q, e)) := by
  have hi : i < L.length := (List.getElem?_eq_some_iff.mp h).1
  funext k
  by_cases hk : k = 150 + i
  · subst hk
    rw [va_up_self, xw_E _ _ _ _ (i := i) (q := q) (e := e) (by rw [List.getElem?_set_self hi])]
  · rw [va_up_ne _ _ hk]
    unfold xw
    by_cases h1 : k < 150
    · rw [if_pos h1, if_pos h1]
    · rw [if_neg h1, if_neg h1, List.getElem?_set_ne (by omega)]
theorem cb_set {i q : Nat} {e0 e : va_E} (h : L[i]? = some (q, e0)) : cb ad (L.set i (q, e)) = cb ad L := by
  have hi : i < L.length := (List.getElem?_eq_some_iff.mp h).1
  funext k
  unfold cb
  by_cases h1 : k < 150
  · rw [if_pos h1, if_pos h1]
  · rw [if_neg h1, if_neg h1]
    by_cases hk : k - 150 = i
    · rw [hk, List.getElem?_set_self hi, h]; rfl
    · rw [List.getElem?_set_ne (Ne.symm hk)]
end XU
theorem FW.ren {D : va_G} {A : Nat → Prop} {ad ad' : Nat → Nat} {w w' : Wd} {H : Heap} (h : FW D A ad w H) (f : Nat → Nat) (hf : ∀ k e, w' k = some e → w (f k) = some e ∧ ad' k = ad (f k)) (inj : ∀ i j, (w' i).isSome = true → (w' j).isSome = true → f i = f j → i = j) : FW D A ad' w' H := by
  have key : ∀ k, (w' k).isSome = true → (w (f k)).isSome = true ∧ ad' k = ad (f k) := by
    intro k hk
    obtain ⟨e, he⟩ := Option.isSome_iff_exists.mp hk
    obtain ⟨h1, h2⟩ := hf k e he
    exact ⟨by rw [h1]; rfl, h2⟩
  refine ⟨fun k e hk => ?_, fun i j hi hj hij => ?_, fun k hk => ?_⟩
  · obtain ⟨h1, h2⟩ := hf k e hk
    rw [h2]
    exact h.1 _ _ h1
  · obtain ⟨a1, a2⟩ := key i hi
    obtain ⟨b1, b2⟩ := key j hj
    exact inj i j hi hj (h.2.1 _ _ a1 b1 (by rw [← a2, ← b2]; exact hij))
  · obtain ⟨a1, a2⟩ := key k hk
    rw [a2]
    exact h.2.2 _ a1
/-- the component stands in the heap with the state X, the cells L beside it -/
def XF (D : va_G) (A : Nat → Prop) (dA : Nat → ClassId) (ad : Nat → Nat) (X : St) (L : Ex) (H : Heap) : Prop := FW D A (cb ad L) (xw dA ad X L) H
/-- the component's cells, and those from sz on -/
def XA (dA : Nat → ClassId) (ad : Nat → Nat) (X : St) (L : Ex) (sz : Nat) : Nat → Prop := fun q => (∃ k, (xw dA ad X L k).isSome = true ∧ q = cb ad L k) ∨ sz ≤ q
theorem XF.self {D : va_G} {A : Nat → Prop} {dA : Nat → ClassId} {ad : Nat → Nat} {X : St} {L : Ex} {H : Heap} {sz : Nat} (h : XF D A dA ad X L H) : XF D (XA dA ad X L sz) dA ad X L H := FW.inA h (fun k e hk => Or.inl ⟨k, by rw [hk]; rfl, rfl⟩)
theorem XF.sub {D : va_G} {A B : Nat → Prop} {dA : Nat → ClassId} {ad : Nat → Nat} {X : St} {L : Ex} {H : Heap} (h : XF D A dA ad X L H) (hB : ∀ q, A q → B q) : XF D B dA ad X L H := FW.inA h (fun k e hk => hB _ (FW.isA h hk))
theorem XF.all {D : va_G} {A : Nat → Prop} {dA : Nat → ClassId} {ad : Nat → Nat} {X : St} {L : Ex} {H : Heap} (h : XF D A dA ad X L H) : XF D (fun _ => True) dA ad X L H := h.sub (fun _ _ => trivial)
theorem XF.inA {D : va_G} {A : Nat → Prop} {dA : Nat → ClassId} {ad : Nat → Nat} {X : St} {L : Ex} {H H0 : Heap} {locs : List Loc} (h : XF D A dA ad X L H) (hS : va_S A H0 H locs) (hA : ∀ q, H0.size ≤ q → A q) : ∀ q, XA dA ad X L H.size q → A q := by
  intro q hq
  rcases hq with ⟨k, h1, rfl⟩ | h1
  · exact FW.isA h (Option.isSome_iff_exists.mp h1).choose_spec
  · exact hA q (Nat.le_trans hS.1 h1)
theorem XF.cong {D : va_G} {A : Nat → Prop} {dA : Nat → ClassId} {ad : Nat → Nat} {X X' : St} {L : Ex} {H : Heap} (h : XF D A dA ad X L H) (hc : ∀ k a i, dep k a i = true → X a i = X' a i) : XF D A dA ad X' L H := FW.to h (funext fun k => xw_cong dA ad L (hc k))
