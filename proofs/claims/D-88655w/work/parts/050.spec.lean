/-! THE PURE LAW: what the reference's calls answer and do, as functions of its state (S k: the array of field k; S 0 j: the number field j) -/
set_option maxRecDepth 100000
set_option linter.unusedVariables false
def nv (x : Int32) : Nat := x.toNatClampNeg
theorem nv_nI {n : Nat} (h : n < 2 ^ 31) : nv (nI n) = n := nI_clamp h
/-- x is a natural number, at most n -/
def inv (x : Int32) (n : Nat) : Prop := ∃ a, a ≤ n ∧ x = nI a
theorem inv.eq {x : Int32} {n : Nat} (h : inv x n) (hn : n < 2 ^ 31) : x = nI (nv x) := by
  obtain ⟨a, h1, rfl⟩ := h
  rw [nv_nI (by omega)]
theorem inv.le {x : Int32} {n : Nat} (h : inv x n) (hn : n < 2 ^ 31) : nv x ≤ n := by
  obtain ⟨a, h1, rfl⟩ := h
  rw [nv_nI (by omega)]
  exact h1
theorem inv_nI {a n : Nat} (h : a ≤ n) : inv (nI a) n := ⟨a, h, rfl⟩
theorem inv.mono {x : Int32} {n n' : Nat} (h : inv x n) (hn : n ≤ n') : inv x n' := by
  obtain ⟨a, h1, h2⟩ := h
  exact ⟨a, by omega, h2⟩
/-- x as an index below n -/
def inR (x : Int32) (n : Nat) : Option Nat := if 0 ≤ x.toInt ∧ x.toInt < n then some x.toInt.toNat else none
theorem inR_some {x : Int32} {n j : Nat} (h : inR x n = some j) (hn : n < 2 ^ 31) : j < n ∧ x = nI j := by
  unfold inR at h
  by_cases hc : 0 ≤ x.toInt ∧ x.toInt < n
  · rw [if_pos hc] at h
    have hj : x.toInt.toNat = j := Option.some.inj h
    refine ⟨by omega, ?_⟩
    apply Int32.toInt_inj.mp
    rw [nI_toInt (by omega)]
    omega
  · rw [if_neg hc] at h
    cases h
theorem inR_nI {n j : Nat} (h : j < n) (hn : n < 2 ^ 31) : inR (nI j) n = some j := by
  unfold inR
  rw [nI_toInt (by omega), if_pos (by omega)]
  rfl
theorem inR_iff {x : Int32} {n : Nat} : (inR x n).isSome = true ↔ 0 ≤ x.toInt ∧ x.toInt < n := by
  unfold inR
  by_cases hc : 0 ≤ x.toInt ∧ x.toInt < n
  · rw [if_pos hc]; simp [hc]
  · rw [if_neg hc]; simp [hc]
theorem inR_none {x : Int32} {n : Nat} (h : ¬ (inR x n).isSome = true) : inR x n = none := by
  cases hx : inR x n with
  | none => rfl
  | some j => rw [hx] at h; exact absurd rfl h
theorem inR_get {x : Int32} {n : Nat} (h : (inR x n).isSome = true) (hn : n < 2 ^ 31) : ∃ j, inR x n = some j ∧ j < n ∧ x = nI j := by
  obtain ⟨j, hj⟩ := Option.isSome_iff_exists.mp h
  exact ⟨j, hj, inR_some hj hn⟩
theorem inR_le {x hi : Int32} {n : Nat} (hh : hi.toInt = (n : Int) - 1) : ((0 : Int32) ≤ x ∧ x ≤ hi) ↔ (inR x n).isSome = true := by
  rw [inR_iff, Int32.le_iff_toInt_le, Int32.le_iff_toInt_le, hh]
  have h0 : (0 : Int32).toInt = 0 := by decide
  rw [h0]
  omega
theorem inR_lt {x hi : Int32} {n : Nat} (hh : hi.toInt = n) : ((0 : Int32) ≤ x ∧ x < hi) ↔ (inR x n).isSome = true := by
  rw [inR_iff, Int32.le_iff_toInt_le, Int32.lt_iff_toInt_lt, hh]
  have h0 : (0 : Int32).toInt = 0 := by decide
  rw [h0]
abbrev Res : Type := Int32 × St
def refS (S : St) (k : Nat) : St := up2 S 22 k (S 22 k + 1)
def ref (S : St) (k : Nat) : Res := (-(nI k), refS S k)
def ln (S : St) : Nat := nv (S 0 0)
def pg (S : St) : Nat := nv (S 0 6)
/-- what both sides hold alike: all but the reference's own scratch -/
def Sh (S S' : St) : Prop := (∀ j, j ≠ 26 → j ≠ 27 → j ≠ 28 → j ≠ 31 → S 0 j = S' 0 j) ∧ ∀ k, k ≠ 0 → k ≠ 23 → k ≠ 24 → k ≠ 25 → k ≠ 29 → k ≠ 30 → S k = S' k
theorem Sh.rfl {S : St} : Sh S S := ⟨fun _ _ _ _ _ => Eq.refl _, fun _ _ _ _ _ _ _ => Eq.refl _⟩
theorem Sh.symm {S S' : St} (h : Sh S S') : Sh S' S := ⟨fun j a b c d => (h.1 j a b c d).symm, fun k a b c d e f => (h.2 k a b c d e f).symm⟩
theorem Sh.trans {S S' S'' : St} (h : Sh S S') (h' : Sh S' S'') : Sh S S'' := ⟨fun j a b c d => (h.1 j a b c d).trans (h'.1 j a b c d), fun k a b c d e f => (h.2 k a b c d e f).trans (h'.2 k a b c d e f)⟩
theorem Sh.up {S S' : St} (h : Sh S S') (k i : Nat) (v : Int32) : Sh (up2 S k i v) (up2 S' k i v) := by
  refine ⟨fun j a b c d => ?_, fun q a b c d e f => ?_⟩
  · unfold up2
    rw [h.1 j a b c d]
  · funext x
    unfold up2
    rw [h.2 q a b c d e f]
theorem Sh.s0 {S : St} {j : Nat} (v : Int32) (hj : j = 26 ∨ j = 27 ∨ j = 28 ∨ j = 31) : Sh (up2 S 0 j v) S := by
  refine ⟨fun i a b c d => up2_i _ _ (by omega), fun q a b c d e f => up2_k _ _ _ a⟩
theorem Sh.a0 {S : St} {k i : Nat} (v : Int32) (hk : k = 23 ∨ k = 24 ∨ k = 25 ∨ k = 29 ∨ k = 30) : Sh (up2 S k i v) S := by
  refine ⟨fun i a b c d => up2_ne _ _ (by omega), fun q a b c d e f => up2_k _ _ _ (by omega)⟩
/-! the state is sound -/
def Ok (S : St) : Prop :=
  (inv (S 0 0) 16 ∧ 2 ≤ ln S) ∧ (∀ c, c < 12 → S 1 c = 0 ∨ S 1 c = 1) ∧ (∀ i, i < 192 → inv (S 2 i) 9) ∧ (∀ l, l < 10 → inv (S 3 l) 11 ∧ inv (S 4 l) 11 ∧ inv (S 5 l) 11) ∧
  inv (S 0 6) 12 ∧ (∀ k, k < 12 → inv (S 7 k) 9) ∧ inv (S 0 8) 9 ∧ inv (S 0 9) 1000 ∧ (inv (S 0 10) 20 ∧ 1 ≤ nv (S 0 10)) ∧ inv (S 0 11) 20 ∧
  (∀ k, k < 1200 → (S 17 k = -1 ∧ S 18 k = -1) ∨ (inv (S 17 k) 99 ∧ inv (S 18 k) 99)) ∧
  (S 19 1 = -1 ∨ inv (S 19 1) 11) ∧ (S 19 2 = -1 ∨ inv (S 19 2) 11) ∧ (S 19 3 = -1 ∨ inv (S 19 3) 1) ∧ (∀ m, m < 4 → inv (S 21 m) 1000)
theorem Ok.sh {S S' : St} (h : Ok S) (hs : Sh S S') : Ok S' := by
  obtain ⟨h1, h2⟩ := hs
  have e0 := h1 0 (by decide) (by decide) (by decide) (by decide)
  have e6 := h1 6 (by decide) (by decide) (by decide) (by decide)
  have e8 := h1 8 (by decide) (by decide) (by decide) (by decide)
  have e9 := h1 9 (by decide) (by decide) (by decide) (by decide)
  have e10 := h1 10 (by decide) (by decide) (by decide) (by decide)
  have e11 := h1 11 (by decide) (by decide) (by decide) (by decide)
  have a1 := h2 1 (by decide) (by decide) (by decide) (by decide) (by decide) (by decide)
  have a2 := h2 2 (by decide) (by decide) (by decide) (by decide) (by decide) (by decide)
  have a3 := h2 3 (by decide) (by decide) (by decide) (by decide) (by decide) (by decide)
  have a4 := h2 4 (by decide) (by decide) (by decide) (by decide) (by decide) (by decide)
  have a5 := h2 5 (by decide) (by decide) (by decide) (by decide) (by decide) (by decide)
  have a7 := h2 7 (by decide) (by decide) (by decide) (by decide) (by decide) (by decide)
  have a17 := h2 17 (by decide) (by decide) (by decide) (by decide) (by decide) (by decide)
  have a18 := h2 18 (by decide) (by decide) (by decide) (by decide) (by decide) (by decide)
  have a19 := h2 19 (by decide) (by decide) (by decide) (by decide) (by decide) (by decide)
  have a21 := h2 21 (by decide) (by decide) (by decide) (by decide) (by decide) (by decide)
  unfold Ok ln at h ⊢
  rw [← e0, ← e6, ← e8, ← e9, ← e10, ← e11, ← a1, ← a2, ← a3, ← a4, ← a5, ← a7, ← a17, ← a18, ← a19, ← a21]
  exact h
theorem Ok.len {S : St} (h : Ok S) : S 0 0 = nI (ln S) := h.1.1.eq (by decide)
theorem Ok.len2 {S : St} (h : Ok S) : 2 ≤ ln S := h.1.2
theorem Ok.len16 {S : St} (h : Ok S) : ln S ≤ 16 := h.1.1.le (by decide)
theorem Ok.th {S : St} (h : Ok S) {c : Nat} (hc : c < 12) : S 1 c = 0 ∨ S 1 c = 1 := h.2.1 c hc
theorem Ok.cam {S : St} (h : Ok S) {i : Nat} (hi : i < 192) : inv (S 2 i) 9 := h.2.2.1 i hi
theorem Ok.ac {S : St} (h : Ok S) {i : Nat} (hi : i < 10) : inv (S 3 i) 11 := (h.2.2.2.1 i hi).1
theorem Ok.upp {S : St} (h : Ok S) {i : Nat} (hi : i < 10) : inv (S 4 i) 11 := (h.2.2.2.1 i hi).2.1
theorem Ok.li {S : St} (h : Ok S) {i : Nat} (hi : i < 10) : inv (S 5 i) 11 := (h.2.2.2.1 i hi).2.2
theorem Ok.pgs {S : St} (h : Ok S) : inv (S 0 6) 12 := h.2.2.2.2.1
theorem Ok.peg {S : St} (h : Ok S) {k : Nat} (hk : k < 12) : inv (S 7 k) 9 := h.2.2.2.2.2.1 k hk
theorem Ok.adv {S : St} (h : Ok S) : inv (S 0 8) 9 := h.2.2.2.2.2.2.1
theorem Ok.pow {S : St} (h : Ok S) : inv (S 0 9) 1000 := h.2.2.2.2.2.2.2.1
theorem Ok.pul {S : St} (h : Ok S) : inv (S 0 10) 20 := h.2.2.2.2.2.2.2.2.1.1
theorem Ok.pul1 {S : St} (h : Ok S) : 1 ≤ nv (S 0 10) := h.2.2.2.2.2.2.2.2.1.2
theorem Ok.wea {S : St} (h : Ok S) : inv (S 0 11) 20 := h.2.2.2.2.2.2.2.2.2.1
theorem Ok.pap {S : St} (h : Ok S) {k : Nat} (hk : k < 1200) : (S 17 k = -1 ∧ S 18 k = -1) ∨ (inv (S 17 k) 99 ∧ inv (S 18 k) 99) := h.2.2.2.2.2.2.2.2.2.2.1 k hk
theorem Ok.f1 {S : St} (h : Ok S) : S 19 1 = -1 ∨ inv (S 19 1) 11 := h.2.2.2.2.2.2.2.2.2.2.2.1
theorem Ok.f2 {S : St} (h : Ok S) : S 19 2 = -1 ∨ inv (S 19 2) 11 := h.2.2.2.2.2.2.2.2.2.2.2.2.1
theorem Ok.f3 {S : St} (h : Ok S) : S 19 3 = -1 ∨ inv (S 19 3) 1 := h.2.2.2.2.2.2.2.2.2.2.2.2.2.1
theorem Ok.cut {S : St} (h : Ok S) {m : Nat} (hm : m < 4) : inv (S 21 m) 1000 := h.2.2.2.2.2.2.2.2.2.2.2.2.2.2 m hm
theorem Ok.pgE {S : St} (h : Ok S) : S 0 6 = nI (pg S) := h.pgs.eq (by decide)
theorem Ok.pg12 {S : St} (h : Ok S) : pg S ≤ 12 := h.pgs.le (by decide)
/-! the calls -/
def clrT (S : St) : Nat → St
  | 0 => S
  | i + 1 => up2 (clrT S i) 1 i 0
def clrP (S : St) : Nat → St
  | 0 => S
  | i + 1 => up2 (up2 (clrP S i) 17 i (-1)) 18 i (-1)
def clrC (S : St) (j : Nat) : Nat → St
  | 0 => S
  | i + 1 => up2 (clrC S j i) 2 (16 * j + i) 0
def sp_length (S : St) (n : Int32) : Res := if n < 2 then ref S 4 else if 16 < n then ref S 6 else (S 0 0, clrP (clrT (up2 S 0 0 n) 12) 1200)
def sp_blank (S : St) (c : Int32) : Res := match inR c 12 with
  | none => ref S 1
  | some j => (if S 1 j = 0 then 1 else 0, clrC (up2 S 1 j 1) j 16)
def lackN (S : St) (c : Int32) : Nat := match inR c 12 with
  | none => 1
  | some j => if S 1 j = 0 then 5 else 0
/-- what a call does that asks for a cam first -/
def onCam (S : St) (c : Int32) (f : Nat → Res) : Res := match inR c 12 with
  | none => ref S 1
  | some j => if S 1 j = 0 then ref S 5 else f j
def sp_lose (S : St) (c : Int32) : Res := onCam S c fun j => (1, up2 S 1 j 0)
def sp_cutAt (S : St) (c t v : Int32) : Res := onCam S c fun j => match inR t (ln S) with
  | none => ref S 7
  | some i => if v < 0 then ref S 4 else if 9 < v then ref S 6 else (S 2 (16 * j + i), up2 S 2 (16 * j + i) v)
def sp_height (S : St) (c t : Int32) : Res := onCam S c fun j => match inR t (ln S) with
  | none => ref S 7
  | some i => (S 2 (16 * j + i), S)
/-- array k is f -/
def put (S : St) (k : Nat) (f : Nat → Int32) : St := fun k' => if k' = k then f else S k'
def cpyF (f : Nat → Int32) (sp dp n : Nat) : Nat → Int32 := fun x => if dp ≤ x ∧ x < dp + n then f (sp + (x - dp)) else f x
def sp_copy (S : St) (a i b j n : Int32) : Res := match inR a 12, inR b 12 with
  | some x, some y => if S 1 x = 0 ∨ S 1 y = 0 then ref S 5 else if 0 ≤ n.toInt ∧ 0 ≤ i.toInt ∧ 0 ≤ j.toInt ∧ i.toInt + n.toInt ≤ ln S ∧ j.toInt + n.toInt ≤ ln S then (n, put S 2 (cpyF (S 2) (16 * x + nv i) (16 * y + nv j) (nv n))) else ref S 7
  | _, _ => ref S 1
def trnF (f : Nat → Int32) (j n L : Nat) : Nat → Int32 := fun x => if 16 * j ≤ x ∧ x < 16 * j + L then f (16 * j + (x - 16 * j + (L - n)) % L) else f x
def sp_turn (S : St) (c n : Int32) : Res := onCam S c fun j => match inR n (ln S) with
  | none => ref S 7
  | some k => (1, put S 2 (trnF (S 2) j k (ln S)))
/-- going on by n steps, f is g -/
def rotQ (L : Nat) (f g : Nat → Int32) (n : Nat) : Bool := (List.range L).all fun t => f t == g ((t + n) % L)
def rotN (L : Nat) (f g : Nat → Int32) : Option Nat := (List.range L).find? (rotQ L f g)
def rotI (o : Option Nat) : Int32 := match o with
  | none => -9
  | some n => nI n
def row (S : St) (c : Nat) : Nat → Int32 := fun t => S 2 (16 * c + t)
def camQ (S : St) (c a : Nat) : Bool := !(S 1 a == 0) && (rotN (ln S) (row S a) (row S c)).isSome
/-- the least cam that cam c is one with (12: none) -/
def leastN (S : St) (c : Nat) : Nat := ((List.range 12).find? (camQ S c)).getD 12
def blanksN (S : St) : Nat → Nat
  | 0 => 0
  | k + 1 => blanksN S k + if S 1 k ≠ 0 ∧ leastN S k = k then 1 else 0
def sp_blanks (S : St) : Res := (nI (blanksN S 12), S)
def iabs (x : Int32) : Int32 := if x < 0 then -x else x
def smoothF (L : Nat) (f : Nat → Int32) : Nat → Int32
  | 0 => 0
  | t + 1 => if smoothF L f t < iabs (f t - f ((t + 1) % L)) then iabs (f t - f ((t + 1) % L)) else smoothF L f t
def sp_camOf (S : St) (c w : Int32) : Res := onCam S c fun j => if w = 0 then (nI (blanksN S (leastN S j)), S) else if w = 1 then (rotI (rotN (ln S) (row S (leastN S j)) (row S j)), S) else if w = 2 then (smoothF (ln S) (row S j) (ln S), S) else ref S 2
def sp_letter (S : St) (l a u f : Int32) : Res := match inR l 10, inR a 12, inR u 12, inR f 12 with
  | some x, some _, some _, some _ => (1, up2 (up2 (up2 S 3 x a) 4 x u) 5 x f)
  | _, _, _, _ => ref S 1
def isCutL (S : St) (x : Nat) : Bool := !(S 1 (nv (S 3 x)) == 0) && (!(S 1 (nv (S 4 x)) == 0) && !(S 1 (nv (S 5 x)) == 0))
def sp_isCut (S : St) (l : Int32) : Res := match inR l 10 with
  | none => ref S 1
  | some x => (if isCutL S x = true then 1 else 0, S)
def sp_peg (S : St) (l : Int32) : Res := match inR l 10 with
  | none => ref S 1
  | some x => if S 0 6 = 12 then ref S 6 else (S 0 6 + 1, up2 (up2 S 7 (pg S) l) 0 6 (S 0 6 + 1))
def sp_unpeg (S : St) : Res := if S 0 6 = 0 then ref S 3 else (S 0 6 - 1, up2 S 0 6 (S 0 6 - 1))
def sp_advance (S : St) (n : Int32) : Res := if n < 0 then ref S 4 else if 9 < n then ref S 6 else (S 0 8, up2 S 0 8 n)
def sp_pull (S : St) (n : Int32) : Res := if n < 1 then ref S 4 else if 20 < n then ref S 6 else (S 0 10, up2 S 0 10 n)
def sp_wind (S : St) (n : Int32) : Res := if n < 0 then ref S 4 else if 5000 < n then ref S 6 else
  if 1000 - S 0 9 < n then (1000, up2 (up2 S 0 12 (S 0 12 + 1)) 0 9 1000) else (S 0 9 + n, up2 (up2 S 0 12 (S 0 12 + 0)) 0 9 (S 0 9 + n))
/-! writing -/
def hgt (S : St) (w : Int32) (c t : Nat) : Nat := if nI c = w ∧ 0 < nv (S 2 (16 * c + t)) then nv (S 2 (16 * c + t)) - 1 else nv (S 2 (16 * c + t))
def xA (S : St) (w b : Int32) (k t : Nat) : Nat := k * nv (S 0 8) + hgt S w (nv (S 3 (nv (S 7 k)))) t + if b = 0 then 1 else 0
def yA (S : St) (w b : Int32) (k t : Nat) : Nat := min 9 (hgt S w (nv (S 4 (nv (S 7 k)))) t + if b = 1 then 1 else 0)
def dwn (S : St) (w : Int32) (k t : Nat) : Bool := hgt S w (nv (S 5 (nv (S 7 k)))) t == 0
abbrev Mk : Type := (Nat → Int32) × (Nat → Int32)
def mk1 (P : Mk) (c k t : Nat) : Mk := if P.1 c < 0 then (upd P.1 c (nI k), upd P.2 c (nI t)) else P
def adist (a b : Nat) : Nat := (a - b) + (b - a)
/-- the i-th point of m from a on to b -/
def pnt (a b m i : Nat) : Nat := ((a : Int) + ((2 * (i : Int) * ((b : Int) - a) + m) / (2 * (m : Int)))).toNat
/-- the points 1 .. i of a line are marked -/
def lineF (P : Mk) (x0 y0 x1 y1 k t : Nat) : Nat → Mk
  | 0 => P
  | i + 1 => mk1 (lineF P x0 y0 x1 y1 k t i) (10 * pnt x0 x1 (max (adist x1 x0) (adist y1 y0)) (i + 1) + pnt y0 y1 (max (adist x1 x0) (adist y1 y0)) (i + 1)) k t
def wrt (S : St) (w b : Int32) (P : Mk) (k t : Nat) : Mk :=
  if dwn S w k t = true then
    if 0 < t ∧ dwn S w k (t - 1) = true then lineF (mk1 P (10 * xA S w b k t + yA S w b k t) k t) (xA S w b k (t - 1)) (yA S w b k (t - 1)) (xA S w b k t) (yA S w b k t) k t (max (adist (xA S w b k t) (xA S w b k (t - 1))) (adist (yA S w b k t) (yA S w b k (t - 1))) - 1)
    else mk1 P (10 * xA S w b k t + yA S w b k t) k t
  else P
def areCutN (S : St) : Nat → Bool
  | 0 => true
  | k + 1 => areCutN S k && isCutL S (nv (S 7 k))
def noMk : Mk := (fun _ => -1, fun _ => -1)
/-- the spring: power, wear, ticks, steps; stopped; the marks; how many steps -/
def goF (S : St) : St := 
  up2 (up2 (up2 (up2 S 0 13 (S 0 13 + if 500 ≤ S 0 9 then 1 else if 200 ≤ S 0 9 then 2 else 4)) 0 9 (S 0 9 - (S 0 10 + S 0 11))) 0 14 (S 0 14 + 1)) 0 11 (S 0 11 + if S 0 14 + 1 - (S 0 14 + 1) / 100 * 100 = 0 ∧ S 0 11 < 20 then 1 else 0)
abbrev Sho : Type := St × Bool × Mk × Nat
def shT (w l b : Int32) (k : Nat) : Nat → Sho → Sho
  | 0, X => X
  | t + 1, X => let Y := shT w l b k t X
    if nI k = l ∨ Y.2.1 = true then Y else if Y.1 0 9 < Y.1 0 10 + Y.1 0 11 then (Y.1, true, Y.2.2.1, Y.2.2.2) else (goF Y.1, false, wrt Y.1 w b Y.2.2.1 k t, Y.2.2.2 + 1)
def shK (w l b : Int32) (L : Nat) : Nat → Sho → Sho
  | 0, X => X
  | k + 1, X => shT w l b k L (shK w l b L k X)
def sp_show (S : St) : Res := if areCutN S (pg S) = true then
    let Y := shK (S 19 1) (S 19 2) (S 19 3) (ln S) (pg S) (S, false, noMk, 0)
    (nI Y.2.2.2, put (put (up2 (up2 Y.1 0 15 (S 0 15 + 1)) 0 16 (S 0 16 + if Y.2.1 = true then 0 else 1)) 17 Y.2.2.1.1) 18 Y.2.2.1.2)
  else ref S 3
def cellN (x y : Int32) : Option Nat := match inR x 120, inR y 10 with
  | some a, some b => some (10 * a + b)
  | _, _ => none
def sp_marked (S : St) (x y : Int32) : Res := match cellN x y with
  | none => ref S 1
  | some c => (if S 17 c < 0 then 0 else 1, S)
def sp_first (S : St) (x y w : Int32) : Res := match cellN x y with
  | none => ref S 1
  | some c => match inR w 2 with
    | none => ref S 2
    | some d => (if S 17 c < 0 then -9 else if d = 0 then S 17 c else S 18 c, S)
def marksF (S : St) : Nat → Nat
  | 0 => 0
  | k + 1 => marksF S k + if S 17 k < 0 then 0 else 1
def sp_marks (S : St) : Res := (nI (marksF S 1200), S)
def sp_see (S : St) (x y on : Int32) : Res := match cellN x y with
  | none => ref S 1
  | some c => if (if S 17 c < 0 then (0 : Int32) else 1) = on then (0, S) else (1, up2 (up2 S 17 c (if on = 0 then -1 else 99)) 18 c (if on = 0 then -1 else 99))
def fltN (S : St) (k : Nat) : Nat := if k = 1 then 12 else if k = 2 then pg S else 2
def sp_fault (S : St) (kind a : Int32) : Res := match inR (kind - 1) 3 with
  | none => ref S 2
  | some k => match inR a (fltN S (k + 1)) with
    | none => ref S 1
    | some _ => (1, up2 S 19 (k + 1) a)
def toldN (S : St) : Nat := ((if S 19 1 < 0 then 0 else 1) + if S 19 2 < 0 then 0 else 1) + if S 19 3 < 0 then 0 else 1
def sp_mend (S : St) : Res := (nI (toldN S), up2 (up2 (up2 S 19 1 (-1)) 19 2 (-1)) 19 3 (-1))
def allT (S : St) (w b : Int32) (k : Nat) (P : Mk) : Nat → Mk
  | 0 => P
  | t + 1 => wrt S w b (allT S w b k P t) k t
def allK (S : St) (w l b : Int32) : Nat → Mk
  | 0 => noMk
  | k + 1 => if nI k = l then allK S w l b k else allT S w b k (allK S w l b k) (ln S)
/-- the paper is what is written to the end by some faults -/
def likeN (S : St) (P : Mk) : Nat → Bool
  | 0 => true
  | k + 1 => likeN S P k && ((S 17 k < 0) == (P.1 k < 0) : Bool)
def expl (S : St) (w l b : Int32) : Bool := likeN S (allK S w l b (pg S)) 1200
def fndW (S : St) : Nat → Option Nat
  | 0 => none
  | c + 1 => match fndW S c with
    | some a => some a
    | none => if S 1 c ≠ 0 ∧ expl S (nI c) (-1) (-1) = true then some c else none
def fndL (S : St) : Nat → Option Nat
  | 0 => none
  | c + 1 => match fndL S c with
    | some a => some a
    | none => if expl S (-1) (nI c) (-1) = true then some c else none
def fndB (S : St) : Nat → Option Nat
  | 0 => none
  | c + 1 => match fndB S c with
    | some a => some a
    | none => if expl S (-1) (-1) (nI c) = true then some c else none
def found (S : St) : Int32 × Int32 := if expl S (-1) (-1) (-1) = true then (0, -9) else match fndW S 12 with
  | some c => (1, nI c)
  | none => match fndL S (pg S) with
    | some k => (2, nI k)
    | none => match fndB S 2 with
      | some b => (3, nI b)
      | none => (-9, -9)
def sp_explained (S : St) (w : Int32) : Res := match inR w 2 with
  | none => ref S 2
  | some d => if areCutN S (pg S) = true then (if d = 0 then (found S).1 else (found S).2, S) else ref S 3
def timesF (f : Nat → Int32) (h : Int32) : Nat → Nat
  | 0 => 0
  | t + 1 => timesF f h t + if f t = h then 1 else 0
def habF (S : St) (c m : Nat) : Nat → St
  | 0 => S
  | h + 1 => up2 (habF S c m h) 20 (10 * m + h) (habF S c m h 20 (10 * m + h) + nI (timesF (row S c) (nI h) (ln S)))
/-- a call that asks for a maker, then for a cam -/
def onMk (S : St) (c m : Int32) (f : Nat → Nat → Res) : Res := match inR c 12, inR m 4 with
  | some j, some k => if S 1 j = 0 then ref S 5 else f j k
  | _, _ => ref S 1
def sp_made (S : St) (c m : Int32) : Res := onMk S c m fun j k => if 1000 < S 21 k + S 0 0 then ref S 6 else (S 21 k + S 0 0, up2 (habF S j k 10) 21 k (S 21 k + S 0 0))
def likeF (S : St) (c m : Nat) : Nat → Int32
  | 0 => 0
  | h + 1 => likeF S c m h + iabs (nI (timesF (row S c) (nI h) (ln S)) * S 21 m - S 20 (10 * m + h) * S 0 0)
def sp_like (S : St) (c m : Int32) : Res := onMk S c m fun j k => if S 21 k = 0 then ref S 3 else (likeF S j k 10, S)
def whoQ (S : St) (c m : Nat) (o : Option Nat) : Bool := match o with
  | none => true
  | some b => decide ((likeF S c m 10).toInt64 * (S 21 b).toInt64 < (likeF S c b 10).toInt64 * (S 21 m).toInt64)
def whoF (S : St) (c : Nat) : Nat → Option Nat
  | 0 => none
  | m + 1 => if 0 < S 21 m ∧ whoQ S c m (whoF S c m) = true then some m else whoF S c m
def sp_whose (S : St) (c : Int32) : Res := onCam S c fun j => (rotI (whoF S j 4), S)
def thereF (S : St) : Nat → Nat
  | 0 => 0
  | c + 1 => thereF S c + if S 1 c = 0 then 0 else 1
def cntF (S : St) (w : Nat) : Int32 := if w = 0 then S 0 0 else if w = 1 then nI (thereF S 12) else if w = 2 then S 0 6 else if w = 3 then S 0 9 else if w = 4 then S 0 11 else if w = 5 then S 0 12 else if w = 6 then S 0 13 else if w = 7 then S 0 14 else if w = 8 then S 0 15 else if w = 9 then S 0 16 else if w = 10 then nI (toldN S) else S 22 (w - 10)
def sp_count (S : St) (w : Int32) : Res := match inR w 18 with
  | none => (-9, S)
  | some k => (cntF S k, S)
