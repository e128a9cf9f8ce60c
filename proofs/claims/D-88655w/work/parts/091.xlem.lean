/-! pure rows for the component -/
set_option maxRecDepth 100000
set_option linter.unusedVariables false
theorem refV.narO {v : Value} (h : refV v) (C : String) : narrow (.object C) v = v := by rcases h with rfl | ⟨a, rfl⟩ <;> rfl
theorem refV.narA {v : Value} (h : refV v) (t : FieldType) : narrow (.array t) v = v := by rcases h with rfl | ⟨a, rfl⟩ <;> rfl
theorem refV.fitO {v : Value} (h : refV v) (C : String) : fits (.object C) v = true := by rcases h with rfl | ⟨a, rfl⟩ <;> rfl
theorem refV.fitA {v : Value} (h : refV v) (t : FieldType) : fits (.array t) v = true := by rcases h with rfl | ⟨a, rfl⟩ <;> rfl
/-- a pen -/
def penE (ad : Nat → Nat) (on wa la ba : Nat) (px py pd : Int32) : va_E := .inr (7, [.ref on, .ref wa, .ref la, .ref ba, .int px, .int py, .int pd, .ref (ad 0)])
theorem mkX_0 {X : St} {a b c k t : Nat} (h : X a c = 0) : mkX X a b c k t = up2 (up2 X a c 1) b c (nI (100 * k + t)) := if_pos h
theorem mkX_1 {X : St} {a b c k t : Nat} (h : ¬ X a c = 0) : mkX X a b c k t = X := if_neg h
def lkq (X : St) : Nat → Bool := fun k => X 29 k == X 23 k
theorem goF_lt {X : St} (h : ¬ X 0 14 + 1 - (X 0 14 + 1) / 100 * 100 = 0) : up2 (up2 (up2 X 0 13 (X 0 13 + if 500 ≤ X 0 9 then 1 else if 200 ≤ X 0 9 then 2 else 4)) 0 9 (X 0 9 - (X 0 10 + X 0 11))) 0 14 (X 0 14 + 1) = goF X := by
  unfold goF
  rw [if_neg (show ¬ (X 0 14 + 1 - (X 0 14 + 1) / 100 * 100 = 0 ∧ X 0 11 < 20) from fun z => h z.1)]
  funext k i
  by_cases hk : k = 0 ∧ i = 11
  · obtain ⟨rfl, rfl⟩ := hk
    rw [up2_self, up2_i _ _ (by decide), up2_i _ _ (by decide), up2_i _ _ (by decide)]
    exact (Int32.add_zero _).symm
  · have hk' : k ≠ 0 ∨ i ≠ 11 := by
      by_cases h0 : k = 0
      · exact Or.inr (fun z => hk ⟨h0, z⟩)
      · exact Or.inl h0
    rw [up2_ne _ _ hk']
theorem wear_min {x : Int32} (h : inv x 20) : imin 20 (x + 1) = x + if x < 20 then 1 else 0 := by
  obtain ⟨a, ha, rfl⟩ := h
  have : a = 20 ∨ a < 20 := by omega
  rcases this with rfl | h
  · decide
  · have h1 : nI a < 20 := (nI_ltI (a := a) (b := 20) (by omega) (by omega)).mpr h
    have h2 : ¬ nI a + 1 < 20 ∨ nI a + 1 < 20 := (Decidable.em _).symm
    unfold imin
    rw [if_pos h1, nI_1]
    by_cases h3 : nI (a + 1) < 20
    · rw [if_pos h3]
    · rw [if_neg h3]
      have h4 : ¬ a + 1 < 20 := fun z => h3 ((nI_ltI (a := a + 1) (b := 20) (by omega) (by omega)).mpr z)
      have : a + 1 = 20 := by omega
      rw [this]; rfl
theorem goF_eq {X : St} (hw : inv (X 0 11) 20) (h : X 0 14 + 1 - (X 0 14 + 1) / 100 * 100 = 0) : up2 (up2 (up2 (up2 X 0 13 (X 0 13 + if 500 ≤ X 0 9 then 1 else if 200 ≤ X 0 9 then 2 else 4)) 0 9 (X 0 9 - (X 0 10 + X 0 11))) 0 14 (X 0 14 + 1)) 0 11 (imin 20 (X 0 11 + 1)) = goF X := by
  unfold goF
  rw [wear_min hw]
  by_cases h1 : X 0 11 < 20
  · rw [if_pos h1, if_pos (show (X 0 14 + 1 - (X 0 14 + 1) / 100 * 100 = 0 ∧ X 0 11 < 20) from ⟨h, h1⟩)]
  · rw [if_neg h1, if_neg (show ¬ (X 0 14 + 1 - (X 0 14 + 1) / 100 * 100 = 0 ∧ X 0 11 < 20) from fun z => h1 z.2)]
def findF (X : St) (k w : Int32) (b : Prop) [Decidable b] : St := if X 0 27 < 0 ∧ b then up2 (up2 X 0 27 k) 0 28 w else X
