/-! LAYER 5: rows over the component's world -/
set_option maxRecDepth 100000
set_option linter.unusedVariables false
def yMarks : MethodName := ⟨"CamFigures$Marks", "mark", "(IIII)V"⟩
def fnl : List (String × Nat × String × String × String × String) := [("CamFigures", 21, "CamFigures$Letter", "across", "I", "CamFigures"), ("CamFigures", 26, "CamFigures$Letter", "up", "I", "CamFigures"), ("CamFigures", 29, "CamFigures$Letter", "lift", "I", "CamFigures"), ("CamFigures", 116, "CamFigures$Cam", "heights", "[I", "CamFigures"), ("CamFigures", 109, "CamFigures$Refused", "code", "I", "CamFigures"),
  ("CamFigures$Pen", 61, "CamFigures$Letter", "across", "I", "CamFigures"), ("CamFigures$Pen", 71, "CamFigures$Letter", "up", "I", "CamFigures"), ("CamFigures$Pen", 76, "CamFigures$Letter", "lift", "I", "CamFigures"), ("CamFigures$Pen", 27, "CamFigures", "cams", "[LCamFigures$Cam;", "CamFigures"), ("CamFigures$Pen", 112, "CamFigures", "length", "I", "CamFigures"), ("CamFigures$Pen", 49, "CamFigures", "letters", "[LCamFigures$Letter;", "CamFigures"), ("CamFigures$Pen", 53, "CamFigures", "pegs", "[I", "CamFigures"), ("CamFigures$Pen", 109, "CamFigures", "pegMany", "I", "CamFigures"), ("CamFigures$Pen", 57, "CamFigures", "advance", "I", "CamFigures")]
def mnl : List (String × Nat × MethodName × String) := [("CamFigures", 67, yX1_init, "CamFigures"), ("CamFigures", 70, yX2_init, "CamFigures"), ("CamFigures", 92, yX3_init, "CamFigures"), ("CamFigures$Worn", 1, yX1_init, "CamFigures"), ("CamFigures$Loose", 1, yX1_init, "CamFigures"), ("CamFigures$Bent", 3, yX1_init, "CamFigures")]
def cal : List (String × String) := [("CamFigures$Worn", "CamFigures$Part"), ("CamFigures$Loose", "CamFigures$Part"), ("CamFigures$Bent", "CamFigures$Part")]
def aol : List String := ["CamFigures$Cam", "CamFigures$Letter", "CamFigures$Part"]
/-- the tables' words that don't ride in the lists -/
def xN (U : State) : Prop := (∀ q ∈ fnl, va_Nw (.fieldLinkNest q.1 q.2.1 q.2.2.1 q.2.2.2.1 q.2.2.2.2.1 q.2.2.2.2.2) U) ∧ (∀ q ∈ mnl, va_Nw (.methodLinkNest q.1 q.2.1 q.2.2.1 q.2.2.2) U) ∧ (∀ q ∈ cal, va_Nw (.castable q.1 q.2) U) ∧ (∀ C ∈ aol, va_AO C U) ∧ va_Nw (.arrayOver (.array .int)) U ∧ va_Fw "CamFigures$Paper" yMarks yX2_mark U
theorem xN.warm {s U : State} (hW : s.WarmedH U.vm) (h : xN s) : xN U :=
  ⟨fun q hq => (h.1 q hq).warmF hW, fun q hq => (h.2.1 q hq).warmM hW, fun q hq => (h.2.2.1 q hq).warmC hW, fun C hC => (h.2.2.2.1 C hC).moved hW.alike, over_moved hW.alike h.2.2.2.2.1, h.2.2.2.2.2.moved (by decide +kernel) hW.alike⟩
theorem xN.same {s U : State} (hv : s.vm = U.vm) (h : xN s) : xN U := by
  have al : s.vm.Alike U.vm := by rw [hv]; exact Vm.Alike.refl _
  exact ⟨fun q hq => (h.1 q hq).same rfl hv, fun q hq => (h.2.1 q hq).same rfl hv, fun q hq => (h.2.2.1 q hq).same rfl hv, fun C hC => (h.2.2.2.1 C hC).moved al, over_moved al h.2.2.2.2.1, h.2.2.2.2.2.moved (by decide +kernel) al⟩
theorem xN.f {s : State} (h : xN s) (i : Nat) {q : String × Nat × String × String × String × String} (hq : fnl[i]? = some q) : va_Nw (.fieldLinkNest q.1 q.2.1 q.2.2.1 q.2.2.2.1 q.2.2.2.2.1 q.2.2.2.2.2) s := h.1 q (List.mem_of_getElem? hq)
theorem xN.m {s : State} (h : xN s) (i : Nat) {q : String × Nat × MethodName × String} (hq : mnl[i]? = some q) : va_Nw (.methodLinkNest q.1 q.2.1 q.2.2.1 q.2.2.2) s := h.2.1 q (List.mem_of_getElem? hq)
theorem xN.c {s : State} (h : xN s) (i : Nat) {q : String × String} (hq : cal[i]? = some q) : va_Nw (.castable q.1 q.2) s := h.2.2.1 q (List.mem_of_getElem? hq)
def refV (v : Value) : Prop := v = .null ∨ ∃ a, v = .ref a
/-- the two statics that a new Throwable reads -/
def xZ (A : Nat → Prop) (U : State) (H : Heap) : Prop := (∃ v, refV v ∧ va_Z "java/lang/Throwable" "UNASSIGNED_STACK" "[Ljava/lang/StackTraceElement;" v A U H) ∧ ∃ v, refV v ∧ va_Z "java/lang/Throwable" "SUPPRESSED_SENTINEL" "Ljava/util/List;" v A U H
theorem xZ.moved {A : Nat → Prop} {u U : State} {H : Heap} (hvm : u.vm.Alike U.vm) (h : xZ A u H) : xZ A U H := by
  obtain ⟨⟨v1, r1, z1⟩, v2, r2, z2⟩ := h
  exact ⟨⟨v1, r1, z1.moved hvm⟩, v2, r2, z2.moved hvm⟩
theorem xZ.kept {A : Nat → Prop} {U : State} {H H1 : Heap} (h : xZ A U H) (hq : ∀ a : Nat, a < H.size → ¬ A a → H1[a]? = H[a]?) : xZ A U H1 := by
  obtain ⟨⟨v1, r1, z1⟩, v2, r2, z2⟩ := h
  exact ⟨⟨v1, r1, z1.kept hq⟩, v2, r2, z2.kept hq⟩
theorem xZ.narrow {A B : Nat → Prop} {U : State} {H : Heap} (h : xZ A U H) (hAB : ∀ q, B q → A q) : xZ B U H := by
  obtain ⟨⟨v1, r1, z1⟩, v2, r2, z2⟩ := h
  exact ⟨⟨v1, r1, z1.narrow hAB⟩, v2, r2, z2.narrow hAB⟩
theorem at_vm {D : va_G} {cl : List vw_C} {q : Nat × va_E} {H : Heap} (h : va_at D cl q H) : ∃ cell : Cell, H[q.1]? = some cell ∧ cell.vm = .none := by
  obtain ⟨a, e⟩ := q
  cases e with
  | inl x =>
    obtain ⟨c, n, f⟩ := x
    refine ⟨_, h, ?_⟩
    rcases f with f | f | f | f | f <;> rfl
  | inr o =>
    obtain ⟨r, -, cell, q1, -, q3, -⟩ := h
    exact ⟨cell, q1, q3⟩
theorem xZ.out {D : va_G} {A B : Nat → Prop} {ad : Nat → Nat} {w : Wd} {U : State} {H : Heap} (hM : FW D A ad w H) (hB : ∀ q, B q → (∃ k, (w k).isSome = true ∧ q = ad k) ∨ H.size ≤ q) (h : xZ (fun _ => False) U H) : xZ B U H := by
  have key : ∀ (a : Nat) (cell : Cell), H[a]? = some cell → cell.vm.isStatics = true → ¬ B a := by
    intro a cell h1 h2 h3
    rcases hB a h3 with ⟨k, hk, rfl⟩ | h4
    · obtain ⟨e, he⟩ := Option.isSome_iff_exists.mp hk
      obtain ⟨cell', g1, g2⟩ := at_vm (hM.1 k e he)
      have : cell' = cell := Option.some.inj (g1.symm.trans h1)
      rw [← this, g2] at h2
      cases h2
    · have := (Array.getElem?_eq_some_iff.mp h1).1
      omega
  obtain ⟨⟨v1, r1, cf, kf, fi, f, a, cell, h1, h2, h3, h4, h5, h6, h7, h8⟩, v2, r2, cf', kf', fi', f', a', cell', g1, g2, g3, g4, g5, g6, g7, g8⟩ := h
  exact ⟨⟨v1, r1, cf, kf, fi, f, a, cell, h1, h2, h3, h4, h5, h6, h7, key a cell h5 h6⟩, v2, r2, cf', kf', fi', f', a', cell', g1, g2, g3, g4, g5, g6, g7, key a' cell' g5 g6⟩
/-- what holds all through a method of the component -/
def XG (D : va_G) (dA : Nat → ClassId) (A : Nat → Prop) (s : State) : Prop := va_K D vwCl (tyL dA) s ∧ xN s ∧ xZ A s s.heap ∧ ∀ q, s.heap.size ≤ q → A q
/-- a contract's start -/
def xB (D : va_G) (dA : Nat → ClassId) (ad : Nat → Nat) (X : St) (L : Ex) (sz : Nat) (U : State) : Prop := XF D (fun _ => True) dA ad X L U.heap ∧ va_K D vwCl (tyL dA) U ∧ xN U ∧ xZ (fun _ => False) U U.heap ∧ U.heap.size = sz
theorem xB.blind {D : va_G} {dA : Nat → ClassId} {ad : Nat → Nat} {X : St} {L : Ex} {sz : Nat} {U : State} {g : JFrame} {mk : MethodId} {a : Array Value} (h : xB D dA ad X L sz U) : xB D dA ad X L sz (U.calling g mk a) :=
  ⟨h.1, va_K.moved (u := U) (U := U.calling g mk a) (Vm.Alike.refl U.vm) h.2.1, xN.same (s := U) (U := U.calling g mk a) rfl h.2.2.1, xZ.moved (u := U) (U := U.calling g mk a) (Vm.Alike.refl U.vm) h.2.2.2.1, h.2.2.2.2⟩
theorem xB.of {D : va_G} {dA : Nat → ClassId} {ad : Nat → Nat} {X : St} {L : Ex} {A : Nat → Prop} {s U : State} {H : Heap} {locs : List Loc} (hG : XG D dA A s) (hM : XF D A dA ad X L H) (hS : va_S A s.heap H locs) (hU : U.heap = H) (hW : s.WarmedH U.vm) : xB D dA ad X L H.size U := by
  subst hU
  exact ⟨hM.all, va_K.moved hW.alike hG.1, hG.2.1.warm hW, ((hG.2.2.1.kept hS.2.1).narrow (fun _ h => h.elim)).moved hW.alike, rfl⟩
abbrev U3 : Type := (Nat → Nat) × St × Ex
/-- it answers, the heap stays -/
abbrev xCp (l : Launch) (y : MethodName) (b : ByteArray) (nL : Nat) (ret : Option FieldType) (rm : Room) (D : va_G) (dA : Nat → ClassId) (ad : Nat → Nat) (X : St) (L : Ex) (sz : Nat) (av : List Value) (post : Int32 → Prop) : Prop := Met l y (ws_ y b nL ret) rm (va_Pc av (xB D dA ad X L sz)) (vp_Si post) 0 0 (fun _ => False)
abbrev xCq (l : Launch) (y : MethodName) (b : ByteArray) (nL : Nat) (ret : Option FieldType) (rm : Room) (D : va_G) (dA : Nat → ClassId) (ad : Nat → Nat) (X : St) (L : Ex) (sz : Nat) (av : List Value) (post : Option Nat → Prop) : Prop := Met l y (ws_ y b nL ret) rm (va_Pc av (xB D dA ad X L sz)) (va_Sq post) 0 0 (fun _ => False)
abbrev xPB (D : va_G) (dA : Nat → ClassId) (A : Nat → Prop) : U3 → State → Prop := fun u t => XF D A dA u.1 u.2.1 u.2.2 t.heap
abbrev xCi (l : Launch) (y : MethodName) (b : ByteArray) (nL : Nat) (ret : Option FieldType) (rm : Room) (D : va_G) (dA : Nat → ClassId) (ad : Nat → Nat) (X : St) (L : Ex) (sz : Nat) (av : List Value) (mc ms : Nat) (post : Int32 → U3 → Prop) : Prop := Met l y (ws_ y b nL ret) rm (va_Pc av (xB D dA ad X L sz)) (va_Qi post (xPB D dA (XA dA ad X L sz)) (XA dA ad X L sz)) mc ms (XA dA ad X L sz)
abbrev xCv (l : Launch) (y : MethodName) (b : ByteArray) (nL : Nat) (rm : Room) (D : va_G) (dA : Nat → ClassId) (ad : Nat → Nat) (X : St) (L : Ex) (sz : Nat) (av : List Value) (mc ms : Nat) (post : U3 → Prop) : Prop := Met l y (ws_ y b nL none) rm (va_Pc av (xB D dA ad X L sz)) (va_Qv post (xPB D dA (XA dA ad X L sz)) (XA dA ad X L sz)) mc ms (XA dA ad X L sz)
/-- .. of a method with handlers -/
abbrev xCh (l : Launch) (y : MethodName) (b : ByteArray) (nL : Nat) (ret : Option FieldType) (hh : List (Nat × Nat × Nat × Nat)) (rm : Room) (D : va_G) (dA : Nat → ClassId) (ad : Nat → Nat) (X : St) (L : Ex) (sz : Nat) (av : List Value) (mc ms : Nat) (post : Int32 → U3 → Prop) : Prop := Met l y (wsW_ y b nL ret hh) rm (va_Pc av (xB D dA ad X L sz)) (va_Qi post (xPB D dA (XA dA ad X L sz)) (XA dA ad X L sz)) mc ms (XA dA ad X L sz)
/-- a Refused with the number -k -/
def refE (k : Nat) : va_E := .inr (6, [.null, .null, .null, .null, .null, .int 0, .int (-(nI k))])
/-- an end that may be a throw of a Refused -/
def xQT (D : va_G) (dA : Nat → ClassId) (A : Nat → Prop) (ad : Nat → Nat) (X : St) (L : Ex) (P : Option Value → Prop) (K : Nat → Prop) : Array Value → State → Outcome → State → Prop := fun _ st oc t => (∃ v, oc = .returned v ∧ P v ∧ t.heap = st.heap) ∨ ∃ (q k : Nat), oc = .threw q ∧ K k ∧ XF D A dA ad X ((q, refE k) :: L) t.heap ∧ va_F A st t
abbrev xCt (l : Launch) (y : MethodName) (b : ByteArray) (nL : Nat) (ret : Option FieldType) (rm : Room) (D : va_G) (dA : Nat → ClassId) (ad : Nat → Nat) (X : St) (L : Ex) (sz : Nat) (av : List Value) (P : Option Value → Prop) (K : Nat → Prop) : Prop := MetT l y (ws_ y b nL ret) rm (va_Pc av (xB D dA ad X L sz)) (xQT D dA (XA dA ad X L sz) ad X L P K) 1 7 (XA dA ad X L sz)
theorem XF.of {D : va_G} {A : Nat → Prop} {dA : Nat → ClassId} {ad : Nat → Nat} {X' : St} {L L' : Ex} {H : Heap} {w' : Wd} (h : FW D A (cb ad L) w' H) (hu : w' = xw dA ad X' L') (hcb : cb ad L' = cb ad L) : XF D A dA ad X' L' H := by
  unfold XF
  rw [hcb, ← hu]
  exact h
theorem cb_app (ad : Nat → Nat) (L : Ex) (q : Nat) (e : va_E) : cb ad (L ++ [(q, e)]) = va_up (cb ad L) (150 + L.length) q := by
  funext k
  by_cases hk : k = 150 + L.length
  · subst hk
    rw [va_up_self, cb_E ad _ (i := L.length) (q := q) (e := e) (by simp)]
  · rw [va_up_ne _ _ hk]
    unfold cb
    by_cases h1 : k < 150
    · rw [if_pos h1, if_pos h1]
    · rw [if_neg h1, if_neg h1]
      rcases Nat.lt_or_ge (k - 150) L.length with h2 | h2
      · rw [List.getElem?_append_left h2]
      · rw [List.getElem?_eq_none (by simp; omega), List.getElem?_eq_none h2]
theorem xw_app (dA : Nat → ClassId) (ad : Nat → Nat) (X : St) (L : Ex) (q : Nat) (e : va_E) : xw dA ad X (L ++ [(q, e)]) = va_up (xw dA ad X L) (150 + L.length) (some e) := by
  funext k
  by_cases hk : k = 150 + L.length
  · subst hk
    rw [va_up_self, xw_E dA ad X _ (i := L.length) (q := q) (e := e) (by simp)]
  · rw [va_up_ne _ _ hk]
    unfold xw
    by_cases h1 : k < 150
    · rw [if_pos h1, if_pos h1]
    · rw [if_neg h1, if_neg h1]
      rcases Nat.lt_or_ge (k - 150) L.length with h2 | h2
      · rw [List.getElem?_append_left h2]
      · rw [List.getElem?_eq_none (by simp; omega), List.getElem?_eq_none h2]
theorem xw_new (dA : Nat → ClassId) (ad : Nat → Nat) (X : St) (L : Ex) : xw dA ad X L (150 + L.length) = none := by
  unfold xw
  rw [if_neg (by omega), List.getElem?_eq_none (by omega)]
  rfl
theorem XF.take {D : va_G} {A : Nat → Prop} {dA : Nat → ClassId} {ad : Nat → Nat} {X : St} {L M : Ex} {H : Heap} (h : XF D A dA ad X (L ++ M) H) : XF D A dA ad X L H := by
  refine FW.ren h id (fun k e hk => ?_) (fun i j _ _ hij => hij)
  unfold xw at hk
  by_cases h1 : k < 150
  · rw [if_pos h1] at hk
    refine ⟨by unfold xw; rw [if_pos (show id k < 150 from h1)]; exact hk, ?_⟩
    unfold cb
    rw [if_pos h1, if_pos (show id k < 150 from h1)]
    rfl
  · rw [if_neg h1] at hk
    have h2 : k - 150 < L.length := by
      rcases Nat.lt_or_ge (k - 150) L.length with h2 | h2
      · exact h2
      · rw [List.getElem?_eq_none h2] at hk; cases hk
    refine ⟨by unfold xw; rw [if_neg (show ¬ id k < 150 from h1), show id k = k from rfl, List.getElem?_append_left h2]; exact hk, ?_⟩
    unfold cb
    rw [if_neg h1, if_neg (show ¬ id k < 150 from h1), show id k = k from rfl, List.getElem?_append_left h2]
theorem let3_at (X : St) (i : Nat) {f : Nat} (hf : f < 3) : ([.int (X 3 i), .int (X 4 i), .int (X 5 i)] : List Value)[f]? = some (.int (X (3 + f) i)) := by
  have : f = 0 ∨ f = 1 ∨ f = 2 := by omega
  rcases this with rfl | rfl | rfl <;> rfl
section XC
variable {p : Program} {l : Launch} {e : Env} {R : Room} {s : State} {m : MethodId} {args : Array Value} {below : List Frame} {meth : Method} {c : Code} {H : Heap} {locs : List Loc} {cells slots : Nat} {Q : State → Prop}
variable {cc : ByteArray} {nL pc : Nat} {ls : Array Slot} {rest : List Value} {D : va_G} {dA : Nat → ClassId} {A : Nat → Prop} {ad : Nat → Nat} {X : St} {L : Ex} {own : String}
theorem x_get (C0 : CallFix p m c cc nL s args lw_all own) (hG : XG D dA A s) (hM : XF D A dA ad X L H) (n : Nat) {ci N idx a : Nat} {C : String} {T : u_T} {fs : List Value} (hw : xw dA ad X L n = some (.inr (ci, fs))) (ha : cb ad L n = a) (hc : vwCl[ci]? = some (C, T, N)) (hin : ∀ x ∈ u_ws C T N, x ∈ lw_all) (k : Nat) (hk : k < N) {v : Value} (hv : fs[k]? = some v) (hl : Cond.fieldLink own idx (T k).1 (T k).2.1 (T k).2.2.1 ∈ lw_all) (hd : decode cc pc = .ok (.getfield idx, 3))
    (kk : W p l e R s m args below meth c H locs cells slots Q (F0 m (pc + 3) ls (v :: rest))) : W p l e R s m args below meth c H locs cells slots Q (F0 m pc ls (.ref a :: rest)) := by
  subst ha
  exact fw_get C0 hG.1 hM hw hc hin k hk hv hl hd kk
theorem x_getN (C0 : CallFix p m c cc nL s args lw_all own) (hG : XG D dA A s) (hM : XF D A dA ad X L H) (n : Nat) {ci N idx a : Nat} {C host : String} {T : u_T} {fs : List Value} (hw : xw dA ad X L n = some (.inr (ci, fs))) (ha : cb ad L n = a) (hc : vwCl[ci]? = some (C, T, N)) (hin : ∀ x ∈ u_ws C T N, x ∈ lw_all) (k : Nat) (hk : k < N) {v : Value} (hv : fs[k]? = some v) (hl : va_Nw (Cond.fieldLinkNest own idx (T k).1 (T k).2.1 (T k).2.2.1 host) s) (hd : decode cc pc = .ok (.getfield idx, 3))
    (kk : W p l e R s m args below meth c H locs cells slots Q (F0 m (pc + 3) ls (v :: rest))) : W p l e R s m args below meth c H locs cells slots Q (F0 m pc ls (.ref a :: rest)) := by
  subst ha
  exact fw_getN C0 hG.1 hM hw hc hin k hk hv hl hd kk
/-- a number of the object -/
theorem x_geti (C0 : CallFix p m c cc nL s args lw_all RX0) (hG : XG D dA A s) (hM : XF D A dA ad X L H) (k j : Nat) {idx : Nat} (hk : k < 23) (hm : xisr k = false) (hx : xnum k = j) (hl : Cond.fieldLink RX0 idx (TX0 k).1 (TX0 k).2.1 (TX0 k).2.2.1 ∈ lw_all) (hd : decode cc pc = .ok (.getfield idx, 3))
    (kk : W p l e R s m args below meth c H locs cells slots Q (F0 m (pc + 3) ls (.int (X 0 j) :: rest))) : W p l e R s m args below meth c H locs cells slots Q (F0 m pc ls (.ref (ad 0) :: rest)) := by
  subst hx
  exact x_get C0 hG hM 0 (xw_0 dA ad X L) rfl rfl in_X0 k hk (by rw [xfs_at _ _ hk, hm]; rfl) hl hd kk
/-- one of its arrays or objects -/
theorem x_geta (C0 : CallFix p m c cc nL s args lw_all RX0) (hG : XG D dA A s) (hM : XF D A dA ad X L H) (k j : Nat) {idx : Nat} (hk : k < 23) (hm : xisr k = true) (hx : xref k = j) (hl : Cond.fieldLink RX0 idx (TX0 k).1 (TX0 k).2.1 (TX0 k).2.2.1 ∈ lw_all) (hd : decode cc pc = .ok (.getfield idx, 3))
    (kk : W p l e R s m args below meth c H locs cells slots Q (F0 m (pc + 3) ls (.ref (ad j) :: rest))) : W p l e R s m args below meth c H locs cells slots Q (F0 m pc ls (.ref (ad 0) :: rest)) := by
  subst hx
  exact x_get C0 hG hM 0 (xw_0 dA ad X L) rfl rfl in_X0 k hk (by rw [xfs_at _ _ hk, hm]; rfl) hl hd kk
theorem x_getiN (C0 : CallFix p m c cc nL s args lw_all own) (hG : XG D dA A s) (hM : XF D A dA ad X L H) (k j : Nat) {idx : Nat} {host : String} (hk : k < 23) (hm : xisr k = false) (hx : xnum k = j) (hl : va_Nw (Cond.fieldLinkNest own idx (TX0 k).1 (TX0 k).2.1 (TX0 k).2.2.1 host) s) (hd : decode cc pc = .ok (.getfield idx, 3))
    (kk : W p l e R s m args below meth c H locs cells slots Q (F0 m (pc + 3) ls (.int (X 0 j) :: rest))) : W p l e R s m args below meth c H locs cells slots Q (F0 m pc ls (.ref (ad 0) :: rest)) := by
  subst hx
  exact x_getN C0 hG hM 0 (xw_0 dA ad X L) rfl rfl in_X0 k hk (by rw [xfs_at _ _ hk, hm]; rfl) hl hd kk
theorem x_getaN (C0 : CallFix p m c cc nL s args lw_all own) (hG : XG D dA A s) (hM : XF D A dA ad X L H) (k j : Nat) {idx : Nat} {host : String} (hk : k < 23) (hm : xisr k = true) (hx : xref k = j) (hl : va_Nw (Cond.fieldLinkNest own idx (TX0 k).1 (TX0 k).2.1 (TX0 k).2.2.1 host) s) (hd : decode cc pc = .ok (.getfield idx, 3))
    (kk : W p l e R s m args below meth c H locs cells slots Q (F0 m (pc + 3) ls (.ref (ad j) :: rest))) : W p l e R s m args below meth c H locs cells slots Q (F0 m pc ls (.ref (ad 0) :: rest)) := by
  subst hx
  exact x_getN C0 hG hM 0 (xw_0 dA ad X L) rfl rfl in_X0 k hk (by rw [xfs_at _ _ hk, hm]; rfl) hl hd kk
theorem x_put (C0 : CallFix p m c cc nL s args lw_all RX0) (hG : XG D dA A s) (hM : XF D A dA ad X L H) (hS : va_S A s.heap H locs) (k j : Nat) {idx : Nat} (hk : k < 23) (hm : xisr k = false) (hx : xnum k = j) (hl : Cond.fieldLink RX0 idx (TX0 k).1 (TX0 k).2.1 (TX0 k).2.2.1 ∈ lw_all) (hfin : (TX0 k).2.2.2 = false) (hty : tyX0 k = .int) {v : Int32} (hd : decode cc pc = .ok (.putfield idx, 3))
    (kk : ∀ (H1 : Heap) (locs1 : List Loc), XF D A dA ad (up2 X 0 j v) L H1 → va_S A s.heap H1 locs1 → W p l e R s m args below meth c H1 locs1 cells slots Q (F0 m (pc + 3) ls rest)) : W p l e R s m args below meth c H locs cells slots Q (F0 m pc ls (.int v :: .ref (ad 0) :: rest)) := by
  subst hx
  exact fw_put (n := 0) C0 hG.1 hM hS (xw_0 dA ad X L) rfl in_X0 tyX0 tyX0_ok nmX0 k hk hl hfin hty rfl rfl (by rw [xfs_len]; exact hk) hd fun H1 locs1 h1 h2 => kk H1 locs1 (XF.of h1 (xu_num dA ad X L hk hm v) rfl) h2
theorem x_iald (C0 : CallFix p m c cc nL s args lw_all own) (hG : XG D dA A s) (hM : XF D A dA ad X L H) (k i : Nat) {x : Int32} (hm : xarr k = true) (ht : xty k = 0) (hx : x = nI i) (hi : i < xlen k) (hL : xlen k < 2 ^ 31) (hd : decode cc pc = .ok (.iaload, 1))
    (kk : W p l e R s m args below meth c H locs cells slots Q (F0 m (pc + 1) ls (.int (X k i) :: rest))) : W p l e R s m args below meth c H locs cells slots Q (F0 m pc ls (.int x :: .ref (ad k) :: rest)) := by
  rw [← cb_lt ad L (k := k) (by have := xarr_lt hm; omega)]
  exact fw_iald C0 hG.1 hM i (f := X k) (by rw [xw_arr _ _ _ _ hm, ht]) hx hi hL hd kk
theorem x_zald (C0 : CallFix p m c cc nL s args lw_all own) (hG : XG D dA A s) (hM : XF D A dA ad X L H) (k i : Nat) {x : Int32} (hm : xarr k = true) (ht : xty k = 1) (hx : x = nI i) (hi : i < xlen k) (hL : xlen k < 2 ^ 31) (hd : decode cc pc = .ok (.baload, 1))
    (kk : W p l e R s m args below meth c H locs cells slots Q (F0 m (pc + 1) ls (.int (X k i) :: rest))) : W p l e R s m args below meth c H locs cells slots Q (F0 m pc ls (.int x :: .ref (ad k) :: rest)) := by
  rw [← cb_lt ad L (k := k) (by have := xarr_lt hm; omega)]
  exact fw_zald C0 hG.1 hM i (f := X k) (by rw [xw_arr _ _ _ _ hm, ht]) hx hi hL hd kk
theorem x_iast (C0 : CallFix p m c cc nL s args lw_all own) (hG : XG D dA A s) (hM : XF D A dA ad X L H) (hS : va_S A s.heap H locs) (k i : Nat) {x v : Int32} (hm : xarr k = true) (ht : xty k = 0) (hx : x = nI i) (hi : i < xlen k) (hL : xlen k < 2 ^ 31) (hd : decode cc pc = .ok (.iastore, 1))
    (kk : ∀ (H1 : Heap) (locs1 : List Loc), XF D A dA ad (up2 X k i v) L H1 → va_S A s.heap H1 locs1 → W p l e R s m args below meth c H1 locs1 cells slots Q (F0 m (pc + 1) ls rest)) : W p l e R s m args below meth c H locs cells slots Q (F0 m pc ls (.int v :: .int x :: .ref (ad k) :: rest)) := by
  rw [← cb_lt ad L (k := k) (by have := xarr_lt hm; omega)]
  exact fw_iast C0 hG.1 hM hS i (f := X k) (by rw [xw_arr _ _ _ _ hm, ht]) hx hi hL hd fun H1 locs1 h1 h2 => kk H1 locs1 (XF.of h1 (by rw [← xu_arr dA ad X L hm i v, ht]) rfl) h2
theorem x_zast (C0 : CallFix p m c cc nL s args lw_all own) (hG : XG D dA A s) (hM : XF D A dA ad X L H) (hS : va_S A s.heap H locs) (k i : Nat) {x v : Int32} (hm : xarr k = true) (ht : xty k = 1) (hx : x = nI i) (hi : i < xlen k) (hL : xlen k < 2 ^ 31) (hv : vp_nar .boolean v = v) (hd : decode cc pc = .ok (.bastore, 1))
    (kk : ∀ (H1 : Heap) (locs1 : List Loc), XF D A dA ad (up2 X k i v) L H1 → va_S A s.heap H1 locs1 → W p l e R s m args below meth c H1 locs1 cells slots Q (F0 m (pc + 1) ls rest)) : W p l e R s m args below meth c H locs cells slots Q (F0 m pc ls (.int v :: .int x :: .ref (ad k) :: rest)) := by
  rw [← cb_lt ad L (k := k) (by have := xarr_lt hm; omega)]
  exact fw_zast C0 hG.1 hM hS i (f := X k) (by rw [xw_arr _ _ _ _ hm, ht]) hx hi hL hv hd fun H1 locs1 h1 h2 => kk H1 locs1 (XF.of h1 (by rw [← xu_arr dA ad X L hm i v, ht]) rfl) h2
theorem x_alen (C0 : CallFix p m c cc nL s args lw_all own) (hG : XG D dA A s) (hM : XF D A dA ad X L H) (k : Nat) (hm : xarr k = true) (hd : decode cc pc = .ok (.arraylength, 1))
    (kk : W p l e R s m args below meth c H locs cells slots Q (F0 m (pc + 1) ls (.int (nI (xlen k)) :: rest))) : W p l e R s m args below meth c H locs cells slots Q (F0 m pc ls (.ref (ad k) :: rest)) := by
  rw [← cb_lt ad L (k := k) (by have := xarr_lt hm; omega)]
  have ht : xty k = 0 ∨ xty k = 1 := by
    unfold xty
    by_cases h : k = 23
    · rw [if_pos h]; exact Or.inr rfl
    · rw [if_neg h]
      by_cases h : k = 29
      · rw [if_pos h]; exact Or.inr rfl
      · rw [if_neg h]; exact Or.inl rfl
  rcases ht with ht | ht
  · exact fw_alen C0 hG.1 hM 0 (a := (xlen k, .inl (X k))) (by rw [xw_arr _ _ _ _ hm, ht]) rfl hd kk
  · exact fw_alen C0 hG.1 hM 1 (a := (xlen k, .inl (X k))) (by rw [xw_arr _ _ _ _ hm, ht]) rfl hd kk
/-- cams -/
theorem x_camN (C0 : CallFix p m c cc nL s args lw_all own) (hG : XG D dA A s) (hM : XF D A dA ad X L H) (i : Nat) {x : Int32} (h : X 1 i = 0) (hx : x = nI i) (hi : i < 12) (hd : decode cc pc = .ok (.aaload, 1))
    (kk : W p l e R s m args below meth c H locs cells slots Q (F0 m (pc + 1) ls (.null :: rest))) : W p l e R s m args below meth c H locs cells slots Q (F0 m pc ls (.int x :: .ref (ad 1) :: rest)) := by
  refine fw_aald (n := 1) C0 hG.1 hM 2 i (xw_1 dA ad X L) rfl rfl hx hi (by decide) hd ?_
  rw [show camF ad X i = none from if_neg (fun z => z.2 h)]
  exact kk
theorem x_camS (C0 : CallFix p m c cc nL s args lw_all own) (hG : XG D dA A s) (hM : XF D A dA ad X L H) (i : Nat) {x : Int32} (h : ¬ X 1 i = 0) (hx : x = nI i) (hi : i < 12) (hd : decode cc pc = .ok (.aaload, 1))
    (kk : W p l e R s m args below meth c H locs cells slots Q (F0 m (pc + 1) ls (.ref (ad (100 + i)) :: rest))) : W p l e R s m args below meth c H locs cells slots Q (F0 m pc ls (.int x :: .ref (ad 1) :: rest)) := by
  refine fw_aald (n := 1) C0 hG.1 hM 2 i (xw_1 dA ad X L) rfl rfl hx hi (by decide) hd ?_
  rw [show camF ad X i = some (ad (100 + i)) from if_pos ⟨hi, h⟩]
  exact kk
theorem x_camP (C0 : CallFix p m c cc nL s args lw_all own) (hG : XG D dA A s) (hM : XF D A dA ad X L H) (hS : va_S A s.heap H locs) (i : Nat) {x : Int32} (hx : x = nI i) (hi : i < 12) (hd : decode cc pc = .ok (.aastore, 1))
    (kk : ∀ (H1 : Heap) (locs1 : List Loc), XF D A dA ad (up2 X 1 i 0) L H1 → va_S A s.heap H1 locs1 → W p l e R s m args below meth c H1 locs1 cells slots Q (F0 m (pc + 1) ls rest)) : W p l e R s m args below meth c H locs cells slots Q (F0 m pc ls (.null :: .int x :: .ref (ad 1) :: rest)) := by
  refine fw_aastN (n := 1) C0 hG.1 hM hS 2 i (xw_1 dA ad X L) rfl hx hi (by decide) hd (fun H1 locs1 h1 h2 => kk H1 locs1 (FW.sub h1 (fun k e hk => ?_)) h2)
  by_cases h1 : k = 1
  · subst h1
    have e9 : va_up (camF ad X) i none = camF ad (up2 X 1 i 0) := by
      funext q
      unfold camF va_up up2
      by_cases hq : q = i
      · simp [hq]
      · simp [hq]
    rw [va_up_self, ← hk, xw_1, e9]
  · rw [va_up_ne _ _ h1]
    by_cases h2 : k = 100 + i
    · subst h2
      rw [xw_in _ _ _ _ (by omega)] at hk
      unfold xin at hk
      rw [if_neg (by omega), if_pos (by omega), show 100 + i - 100 = i by omega, up2_self, if_neg (fun z => z.2 rfl)] at hk
      cases hk
    · by_cases h3 : k = 120 + i
      · subst h3
        rw [xw_in _ _ _ _ (by omega)] at hk
        unfold xin at hk
        rw [if_pos (by omega), show 120 + i - 120 = i by omega, up2_self, if_neg (fun z => z.2 rfl)] at hk
        cases hk
      · rw [xw_up _ _ _ _ _ (dep_cam h1 h2 h3)] at hk
        exact hk
theorem x_row (C0 : CallFix p m c cc nL s args lw_all RX5) (hG : XG D dA A s) (hM : XF D A dA ad X L H) (i : Nat) {idx : Nat} (h : ¬ X 1 i = 0) (hi : i < 12) (hl : Cond.fieldLink RX5 idx (TX5 0).1 (TX5 0).2.1 (TX5 0).2.2.1 ∈ lw_all) (hd : decode cc pc = .ok (.getfield idx, 3))
    (kk : W p l e R s m args below meth c H locs cells slots Q (F0 m (pc + 3) ls (.ref (ad (120 + i)) :: rest))) : W p l e R s m args below meth c H locs cells slots Q (F0 m pc ls (.ref (ad (100 + i)) :: rest)) :=
  x_get C0 hG hM (100 + i) (xw_cam dA ad X L hi h) (cb_lt ad L (by omega)) rfl in_X5 0 (by decide) rfl hl hd kk
theorem x_rowN (C0 : CallFix p m c cc nL s args lw_all own) (hG : XG D dA A s) (hM : XF D A dA ad X L H) (i : Nat) {idx : Nat} {host : String} (h : ¬ X 1 i = 0) (hi : i < 12) (hl : va_Nw (Cond.fieldLinkNest own idx (TX5 0).1 (TX5 0).2.1 (TX5 0).2.2.1 host) s) (hd : decode cc pc = .ok (.getfield idx, 3))
    (kk : W p l e R s m args below meth c H locs cells slots Q (F0 m (pc + 3) ls (.ref (ad (120 + i)) :: rest))) : W p l e R s m args below meth c H locs cells slots Q (F0 m pc ls (.ref (ad (100 + i)) :: rest)) :=
  x_getN C0 hG hM (100 + i) (xw_cam dA ad X L hi h) (cb_lt ad L (by omega)) rfl in_X5 0 (by decide) rfl hl hd kk
theorem x_hta (C0 : CallFix p m c cc nL s args lw_all own) (hG : XG D dA A s) (hM : XF D A dA ad X L H) (i t : Nat) {x : Int32} (h : ¬ X 1 i = 0) (hi : i < 12) (hx : x = nI t) (ht : t < rl X) (h16 : rl X ≤ 16) (hd : decode cc pc = .ok (.iaload, 1))
    (kk : W p l e R s m args below meth c H locs cells slots Q (F0 m (pc + 1) ls (.int (X 2 (16 * i + t)) :: rest))) : W p l e R s m args below meth c H locs cells slots Q (F0 m pc ls (.int x :: .ref (ad (120 + i)) :: rest)) := by
  rw [← cb_lt ad L (k := 120 + i) (by omega)]
  refine fw_iald C0 hG.1 hM t (xw_hts dA ad X L hi h) hx ht (by omega) hd ?_
  rw [show hts X i t = X 2 (16 * i + t) from if_pos (by omega)]
  exact kk
theorem x_htp (C0 : CallFix p m c cc nL s args lw_all own) (hG : XG D dA A s) (hM : XF D A dA ad X L H) (hS : va_S A s.heap H locs) (i t : Nat) {x v : Int32} (h : ¬ X 1 i = 0) (hi : i < 12) (hx : x = nI t) (ht : t < rl X) (h16 : rl X ≤ 16) (hd : decode cc pc = .ok (.iastore, 1))
    (kk : ∀ (H1 : Heap) (locs1 : List Loc), XF D A dA ad (up2 X 2 (16 * i + t) v) L H1 → va_S A s.heap H1 locs1 → W p l e R s m args below meth c H1 locs1 cells slots Q (F0 m (pc + 1) ls rest)) : W p l e R s m args below meth c H locs cells slots Q (F0 m pc ls (.int v :: .int x :: .ref (ad (120 + i)) :: rest)) := by
  rw [← cb_lt ad L (k := 120 + i) (by omega)]
  exact fw_iast C0 hG.1 hM hS t (xw_hts dA ad X L hi h) hx ht (by omega) hd fun H1 locs1 h1 h2 => kk H1 locs1 (XF.of h1 (xu_hts dA ad X L hi h (by omega) v) rfl) h2
theorem x_htl (C0 : CallFix p m c cc nL s args lw_all own) (hG : XG D dA A s) (hM : XF D A dA ad X L H) (i : Nat) (h : ¬ X 1 i = 0) (hi : i < 12) (hd : decode cc pc = .ok (.arraylength, 1))
    (kk : W p l e R s m args below meth c H locs cells slots Q (F0 m (pc + 1) ls (.int (nI (rl X)) :: rest))) : W p l e R s m args below meth c H locs cells slots Q (F0 m pc ls (.ref (ad (120 + i)) :: rest)) := by
  rw [← cb_lt ad L (k := 120 + i) (by omega)]
  exact fw_alen C0 hG.1 hM 0 (xw_hts dA ad X L hi h) rfl hd kk
/-- letters -/
theorem x_let (C0 : CallFix p m c cc nL s args lw_all own) (hG : XG D dA A s) (hM : XF D A dA ad X L H) (i : Nat) {x : Int32} (hx : x = nI i) (hi : i < 10) (hd : decode cc pc = .ok (.aaload, 1))
    (kk : W p l e R s m args below meth c H locs cells slots Q (F0 m (pc + 1) ls (.ref (ad (60 + i)) :: rest))) : W p l e R s m args below meth c H locs cells slots Q (F0 m pc ls (.int x :: .ref (ad 3) :: rest)) :=
  fw_aald (n := 3) C0 hG.1 hM 3 i (xw_3 dA ad X L) rfl rfl hx hi (by decide) hd (by rw [show letF ad i = some (ad (60 + i)) from if_pos hi]; exact kk)
theorem x_letg (C0 : CallFix p m c cc nL s args lw_all own) (hG : XG D dA A s) (hM : XF D A dA ad X L H) (i f : Nat) {idx : Nat} {host : String} (hi : i < 10) (hf : f < 3) (hl : va_Nw (Cond.fieldLinkNest own idx (TX3 f).1 (TX3 f).2.1 (TX3 f).2.2.1 host) s) (hd : decode cc pc = .ok (.getfield idx, 3))
    (kk : W p l e R s m args below meth c H locs cells slots Q (F0 m (pc + 3) ls (.int (X (3 + f) i) :: rest))) : W p l e R s m args below meth c H locs cells slots Q (F0 m pc ls (.ref (ad (60 + i)) :: rest)) :=
  x_getN C0 hG hM (60 + i) (xw_let dA ad X L hi) (cb_lt ad L (by omega)) rfl in_X3 f hf (let3_at X i hf) hl hd kk
theorem x_letp (C0 : CallFix p m c cc nL s args lw_all own) (hG : XG D dA A s) (hM : XF D A dA ad X L H) (hS : va_S A s.heap H locs) (i f : Nat) {idx : Nat} {host : String} {v : Int32} (hi : i < 10) (hf : f < 3) (hl : va_Nw (Cond.fieldLinkNest own idx (TX3 f).1 (TX3 f).2.1 (TX3 f).2.2.1 host) s) (hfin : (TX3 f).2.2.2 = false) (hty : tyX3 f = .int) (hd : decode cc pc = .ok (.putfield idx, 3))
    (kk : ∀ (H1 : Heap) (locs1 : List Loc), XF D A dA ad (up2 X (3 + f) i v) L H1 → va_S A s.heap H1 locs1 → W p l e R s m args below meth c H1 locs1 cells slots Q (F0 m (pc + 3) ls rest)) : W p l e R s m args below meth c H locs cells slots Q (F0 m pc ls (.int v :: .ref (ad (60 + i)) :: rest)) := by
  rw [← cb_lt ad L (k := 60 + i) (by omega)]
  exact fw_putN C0 hG.1 hM hS (xw_let dA ad X L hi) rfl in_X3 tyX3 tyX3_ok nmX3 f hf hl hfin hty rfl rfl hf hd fun H1 locs1 h1 h2 => kk H1 locs1 (XF.of h1 (xu_let dA ad X L f hi hf v) rfl) h2
/-- faults -/
theorem x_fltN (C0 : CallFix p m c cc nL s args lw_all own) (hG : XG D dA A s) (hM : XF D A dA ad X L H) (i : Nat) {x : Int32} (h : X 19 (i + 1) < 0) (hx : x = nI i) (hi : i < 3) (hd : decode cc pc = .ok (.aaload, 1))
    (kk : W p l e R s m args below meth c H locs cells slots Q (F0 m (pc + 1) ls (.null :: rest))) : W p l e R s m args below meth c H locs cells slots Q (F0 m pc ls (.int x :: .ref (ad 19) :: rest)) := by
  refine fw_aald (n := 19) C0 hG.1 hM 4 i (xw_19 dA ad X L) rfl rfl hx hi (by decide) hd ?_
  rw [show fltF ad X i = none from if_neg (fun z => z.2 h)]
  exact kk
theorem x_fltS (C0 : CallFix p m c cc nL s args lw_all own) (hG : XG D dA A s) (hM : XF D A dA ad X L H) (i : Nat) {x : Int32} (h : ¬ X 19 (i + 1) < 0) (hx : x = nI i) (hi : i < 3) (hd : decode cc pc = .ok (.aaload, 1))
    (kk : W p l e R s m args below meth c H locs cells slots Q (F0 m (pc + 1) ls (.ref (ad (80 + i)) :: rest))) : W p l e R s m args below meth c H locs cells slots Q (F0 m pc ls (.int x :: .ref (ad 19) :: rest)) := by
  refine fw_aald (n := 19) C0 hG.1 hM 4 i (xw_19 dA ad X L) rfl rfl hx hi (by decide) hd ?_
  rw [show fltF ad X i = some (ad (80 + i)) from if_pos ⟨hi, h⟩]
  exact kk
theorem x_fltP (C0 : CallFix p m c cc nL s args lw_all own) (hG : XG D dA A s) (hM : XF D A dA ad X L H) (hS : va_S A s.heap H locs) (i : Nat) {x : Int32} (hx : x = nI i) (hi : i < 3) (hd : decode cc pc = .ok (.aastore, 1))
    (kk : ∀ (H1 : Heap) (locs1 : List Loc), XF D A dA ad (up2 X 19 (i + 1) (-1)) L H1 → va_S A s.heap H1 locs1 → W p l e R s m args below meth c H1 locs1 cells slots Q (F0 m (pc + 1) ls rest)) : W p l e R s m args below meth c H locs cells slots Q (F0 m pc ls (.null :: .int x :: .ref (ad 19) :: rest)) := by
  refine fw_aastN (n := 19) C0 hG.1 hM hS 4 i (xw_19 dA ad X L) rfl hx hi (by decide) hd (fun H1 locs1 h1 h2 => kk H1 locs1 (FW.sub h1 (fun k e hk => ?_)) h2)
  by_cases h1 : k = 19
  · subst h1
    have e9 : va_up (fltF ad X) i none = fltF ad (up2 X 19 (i + 1) (-1)) := by
      funext q
      unfold fltF va_up up2
      by_cases hq : q = i
      · simp [hq]
      · simp [hq]
    rw [va_up_self, ← hk, xw_19, e9]
  · rw [va_up_ne _ _ h1]
    by_cases h2 : k = 80 + i
    · subst h2
      rw [xw_in _ _ _ _ (by omega)] at hk
      unfold xin at hk
      rw [if_neg (by omega), if_neg (by omega), if_pos (by omega), show 80 + i - 80 + 1 = i + 1 by omega, up2_self, if_neg (fun z => z.2 (by decide))] at hk
      cases hk
    · rw [xw_up _ _ _ _ _ (dep_flt h1 h2 (by omega))] at hk
      exact hk
/-- habits -/
theorem x_habr (C0 : CallFix p m c cc nL s args lw_all own) (hG : XG D dA A s) (hM : XF D A dA ad X L H) (i : Nat) {x : Int32} (hx : x = nI i) (hi : i < 4) (hd : decode cc pc = .ok (.aaload, 1))
    (kk : W p l e R s m args below meth c H locs cells slots Q (F0 m (pc + 1) ls (.ref (ad (40 + i)) :: rest))) : W p l e R s m args below meth c H locs cells slots Q (F0 m pc ls (.int x :: .ref (ad 20) :: rest)) :=
  fw_aald (n := 20) C0 hG.1 hM 5 i (xw_20 dA ad X L) rfl rfl hx hi (by decide) hd (by rw [show habA ad i = some (ad (40 + i)) from if_pos hi]; exact kk)
theorem x_haba (C0 : CallFix p m c cc nL s args lw_all own) (hG : XG D dA A s) (hM : XF D A dA ad X L H) (i t : Nat) {x : Int32} (hi : i < 4) (hx : x = nI t) (ht : t < 10) (hd : decode cc pc = .ok (.iaload, 1))
    (kk : W p l e R s m args below meth c H locs cells slots Q (F0 m (pc + 1) ls (.int (X 20 (10 * i + t)) :: rest))) : W p l e R s m args below meth c H locs cells slots Q (F0 m pc ls (.int x :: .ref (ad (40 + i)) :: rest)) := by
  rw [← cb_lt ad L (k := 40 + i) (by omega)]
  refine fw_iald C0 hG.1 hM t (xw_hab dA ad X L hi) hx ht (by decide) hd ?_
  rw [show hab X i t = X 20 (10 * i + t) from if_pos ht]
  exact kk
theorem x_habp (C0 : CallFix p m c cc nL s args lw_all own) (hG : XG D dA A s) (hM : XF D A dA ad X L H) (hS : va_S A s.heap H locs) (i t : Nat) {x v : Int32} (hi : i < 4) (hx : x = nI t) (ht : t < 10) (hd : decode cc pc = .ok (.iastore, 1))
    (kk : ∀ (H1 : Heap) (locs1 : List Loc), XF D A dA ad (up2 X 20 (10 * i + t) v) L H1 → va_S A s.heap H1 locs1 → W p l e R s m args below meth c H1 locs1 cells slots Q (F0 m (pc + 1) ls rest)) : W p l e R s m args below meth c H locs cells slots Q (F0 m pc ls (.int v :: .int x :: .ref (ad (40 + i)) :: rest)) := by
  rw [← cb_lt ad L (k := 40 + i) (by omega)]
  exact fw_iast C0 hG.1 hM hS t (xw_hab dA ad X L hi) hx ht (by decide) hd fun H1 locs1 h1 h2 => kk H1 locs1 (XF.of h1 (xu_hab dA ad X L hi ht v) rfl) h2
/-- cells beside -/
theorem x_eget (C0 : CallFix p m c cc nL s args lw_all own) (hG : XG D dA A s) (hM : XF D A dA ad X L H) (i : Nat) {ci N idx a : Nat} {C : String} {T : u_T} {fs : List Value} (hw : L[i]? = some (a, .inr (ci, fs))) (hc : vwCl[ci]? = some (C, T, N)) (hin : ∀ x ∈ u_ws C T N, x ∈ lw_all) (k : Nat) (hk : k < N) {v : Value} (hv : fs[k]? = some v) (hl : Cond.fieldLink own idx (T k).1 (T k).2.1 (T k).2.2.1 ∈ lw_all) (hd : decode cc pc = .ok (.getfield idx, 3))
    (kk : W p l e R s m args below meth c H locs cells slots Q (F0 m (pc + 3) ls (v :: rest))) : W p l e R s m args below meth c H locs cells slots Q (F0 m pc ls (.ref a :: rest)) :=
  x_get C0 hG hM (150 + i) (xw_E dA ad X L hw) (cb_E ad L hw) hc hin k hk hv hl hd kk
theorem x_egetN (C0 : CallFix p m c cc nL s args lw_all own) (hG : XG D dA A s) (hM : XF D A dA ad X L H) (i : Nat) {ci N idx a : Nat} {C host : String} {T : u_T} {fs : List Value} (hw : L[i]? = some (a, .inr (ci, fs))) (hc : vwCl[ci]? = some (C, T, N)) (hin : ∀ x ∈ u_ws C T N, x ∈ lw_all) (k : Nat) (hk : k < N) {v : Value} (hv : fs[k]? = some v) (hl : va_Nw (Cond.fieldLinkNest own idx (T k).1 (T k).2.1 (T k).2.2.1 host) s) (hd : decode cc pc = .ok (.getfield idx, 3))
    (kk : W p l e R s m args below meth c H locs cells slots Q (F0 m (pc + 3) ls (v :: rest))) : W p l e R s m args below meth c H locs cells slots Q (F0 m pc ls (.ref a :: rest)) :=
  x_getN C0 hG hM (150 + i) (xw_E dA ad X L hw) (cb_E ad L hw) hc hin k hk hv hl hd kk
theorem x_eput (C0 : CallFix p m c cc nL s args lw_all own) (hG : XG D dA A s) (hM : XF D A dA ad X L H) (hS : va_S A s.heap H locs) (i : Nat) {ci N idx a : Nat} {C : String} {T : u_T} {fs : List Value} (hw : L[i]? = some (a, .inr (ci, fs))) (hc : vwCl[ci]? = some (C, T, N)) (hin : ∀ x ∈ u_ws C T N, x ∈ lw_all) (ty0 : Nat → FieldType) (hty : ∀ k, k < N → parseFieldDescriptor (T k).2.2.1 = some (ty0 k)) (hnm : ∀ a, a < N → ∀ b, b < N → a ≠ b → (T a).2.1 ≠ (T b).2.1) (k : Nat) (hk : k < N) (hl : Cond.fieldLink own idx (T k).1 (T k).2.1 (T k).2.2.1 ∈ lw_all) (hfin : (T k).2.2.2 = false) {ty : FieldType} {v : Value} (hd' : ty0 k = ty) (hn : narrow ty v = v) (hfit : fits ty v = true) (hlen : k < fs.length) (hd : decode cc pc = .ok (.putfield idx, 3))
    (kk : ∀ (H1 : Heap) (locs1 : List Loc), XF D A dA ad X (L.set i (a, .inr (ci, fs.set k v))) H1 → va_S A s.heap H1 locs1 → W p l e R s m args below meth c H1 locs1 cells slots Q (F0 m (pc + 3) ls rest)) : W p l e R s m args below meth c H locs cells slots Q (F0 m pc ls (v :: .ref a :: rest)) := by
  rw [← cb_E ad L hw]
  refine fw_put C0 hG.1 hM hS (xw_E dA ad X L hw) hc hin ty0 hty hnm k hk hl hfin hd' hn hfit hlen hd fun H1 locs1 h1 h2 => kk H1 locs1 ?_ h2
  exact XF.of h1 (xu_E dA ad X L hw _) (cb_set ad L hw)
theorem x_eputF (C0 : CallFix p m c cc nL s args lw_all own) (hG : XG D dA A s) (hM : XF D A dA ad X L H) (hS : va_S A s.heap H locs) (i : Nat) {ci N idx a : Nat} {C : String} {T : u_T} {fs : List Value} (hw : L[i]? = some (a, .inr (ci, fs))) (hc : vwCl[ci]? = some (C, T, N)) (hin : ∀ x ∈ u_ws C T N, x ∈ lw_all) (ty0 : Nat → FieldType) (hty : ∀ k, k < N → parseFieldDescriptor (T k).2.2.1 = some (ty0 k)) (hnm : ∀ a, a < N → ∀ b, b < N → a ≠ b → (T a).2.1 ≠ (T b).2.1) (k : Nat) (hk : k < N) (hl : Cond.fieldLink own idx (T k).1 (T k).2.1 (T k).2.2.1 ∈ lw_all) (hfin : (T k).2.2.2 = true) (hin2 : meth.name = "<init>") (hdecl : (T k).1 = own) {ty : FieldType} {v : Value} (hd' : ty0 k = ty) (hn : narrow ty v = v) (hfit : fits ty v = true) (hlen : k < fs.length) (hd : decode cc pc = .ok (.putfield idx, 3))
    (kk : ∀ (H1 : Heap) (locs1 : List Loc), XF D A dA ad X (L.set i (a, .inr (ci, fs.set k v))) H1 → va_S A s.heap H1 locs1 → W p l e R s m args below meth c H1 locs1 cells slots Q (F0 m (pc + 3) ls rest)) : W p l e R s m args below meth c H locs cells slots Q (F0 m pc ls (v :: .ref a :: rest)) := by
  rw [← cb_E ad L hw]
  refine fw_putF C0 hG.1 hM hS (xw_E dA ad X L hw) hc hin ty0 hty hnm k hk hl hfin hin2 hdecl hd' hn hfit hlen hd fun H1 locs1 h1 h2 => kk H1 locs1 ?_ h2
  exact XF.of h1 (xu_E dA ad X L hw _) (cb_set ad L hw)
theorem x_eiast (C0 : CallFix p m c cc nL s args lw_all own) (hG : XG D dA A s) (hM : XF D A dA ad X L H) (hS : va_S A s.heap H locs) (i j : Nat) {a len : Nat} {f : Nat → Int32} {x v : Int32} (hw : L[i]? = some (a, .inl (dA 0, len, .inl f))) (hx : x = nI j) (hj : j < len) (hL : len < 2 ^ 31) (hd : decode cc pc = .ok (.iastore, 1))
    (kk : ∀ (H1 : Heap) (locs1 : List Loc), XF D A dA ad X (L.set i (a, .inl (dA 0, len, .inl (upd f j v)))) H1 → va_S A s.heap H1 locs1 → W p l e R s m args below meth c H1 locs1 cells slots Q (F0 m (pc + 1) ls rest)) : W p l e R s m args below meth c H locs cells slots Q (F0 m pc ls (.int v :: .int x :: .ref a :: rest)) := by
  rw [← cb_E ad L hw]
  refine fw_iast C0 hG.1 hM hS j (xw_E dA ad X L hw) hx hj hL hd fun H1 locs1 h1 h2 => kk H1 locs1 ?_ h2
  exact XF.of h1 (xu_E dA ad X L hw _) (cb_set ad L hw)
theorem x_new (C0 : CallFix p m c cc nL s args lw_all own) (hG : XG D dA A s) (hM : XF D A dA ad X L H) (hS : va_S A s.heap H locs) {ci N idx : Nat} {C : String} {T : u_T} (fs : List Value) (hc : vwCl[ci]? = some (C, T, N)) (hin : ∀ x ∈ u_ws C T N, x ∈ lw_all) (ty0 : Nat → FieldType) (hty : ∀ k, k < N → parseFieldDescriptor (T k).2.2.1 = some (ty0 k)) (hcl : Cond.classLink own idx C ∈ lw_all) {n0 : Nat} (hinst : Cond.instantiable C n0 ∈ lw_all) (hini : Cond.initialized C ∈ lw_all) (hfs : ∀ j, j < N → defaultValue (ty0 j) = vp_V fs j) (hcells : cells + 1 ≤ R.cells) (hslots : slots + n0 ≤ R.slots) (hd : decode cc pc = .ok (.new idx, 3))
    (kk : ∀ (q : Nat) (H1 : Heap), XF D A dA ad X (L ++ [(q, .inr (ci, fs))]) H1 → va_S A s.heap H1 locs → W p l e R s m args below meth c H1 locs (cells + 1) (slots + n0) Q (F0 m (pc + 3) ls (.ref q :: rest))) : W p l e R s m args below meth c H locs cells slots Q (F0 m pc ls rest) :=
  fw_new C0 hG.1 hM hS hG.2.2.2 (150 + L.length) fs (xw_new dA ad X L) hc hin ty0 hty hcl hinst hini hfs hcells hslots hd fun q H1 _ h1 h2 => kk q H1 (by unfold XF; rw [cb_app, xw_app]; exact h1) h2
theorem x_newi (C0 : CallFix p m c cc nL s args lw_all own) (hG : XG D dA A s) (hM : XF D A dA ad X L H) (hS : va_S A s.heap H locs) (len : Nat) {x : Int32} (hx : x = nI len) (hL : len ≤ 100000) (hcells : cells + 1 ≤ R.cells) (hslots : slots + len ≤ R.slots) (hd : decode cc pc = .ok (.newarray .int, 2))
    (kk : ∀ (q : Nat) (H1 : Heap), XF D A dA ad X (L ++ [(q, .inl (dA 0, len, .inl (fun _ => 0)))]) H1 → va_S A s.heap H1 locs → W p l e R s m args below meth c H1 locs (cells + 1) (slots + len) Q (F0 m (pc + 2) ls (.ref q :: rest))) : W p l e R s m args below meth c H locs cells slots Q (F0 m pc ls (.int x :: rest)) :=
  fw_newi C0 hG.1 hM hS hG.2.2.2 (150 + L.length) len (xw_new dA ad X L) hx hL hcells hslots q74 hd fun q H1 _ h1 h2 => kk q H1 (by unfold XF; rw [cb_app, xw_app]; exact h1) h2
theorem x_newz (C0 : CallFix p m c cc nL s args lw_all own) (hG : XG D dA A s) (hM : XF D A dA ad X L H) (hS : va_S A s.heap H locs) (len : Nat) {x : Int32} (hx : x = nI len) (hL : len ≤ 100000) (hcells : cells + 1 ≤ R.cells) (hslots : slots + len ≤ R.slots) (hd : decode cc pc = .ok (.newarray .boolean, 2))
    (kk : ∀ (q : Nat) (H1 : Heap), XF D A dA ad X (L ++ [(q, .inl (dA 1, len, .inl (fun _ => 0)))]) H1 → va_S A s.heap H1 locs → W p l e R s m args below meth c H1 locs (cells + 1) (slots + len) Q (F0 m (pc + 2) ls (.ref q :: rest))) : W p l e R s m args below meth c H locs cells slots Q (F0 m pc ls (.int x :: rest)) :=
  fw_newz C0 hG.1 hM hS hG.2.2.2 (150 + L.length) len (xw_new dA ad X L) hx hL hcells hslots q91 hd fun q H1 _ h1 h2 => kk q H1 (by unfold XF; rw [cb_app, xw_app]; exact h1) h2
/-- the last one first -/
theorem XF.rot {D : va_G} {A : Nat → Prop} {dA : Nat → ClassId} {ad : Nat → Nat} {X : St} {L : Ex} {x : Nat × va_E} {H : Heap} (h : XF D A dA ad X (L ++ [x]) H) : XF D A dA ad X (x :: L) H := by
  refine FW.ren h (fun k => if k < 150 then k else if k = 150 then 150 + L.length else k - 1) (fun k e hk => ?_) (fun i j hi hj hij => ?_)
  · by_cases h1 : k < 150
    · rw [if_pos h1]
      unfold xw at hk ⊢
      unfold cb
      rw [if_pos h1] at hk
      rw [if_pos h1, if_pos h1, if_pos h1]
      exact ⟨hk, rfl⟩
    · rw [if_neg h1]
      by_cases h2 : k = 150
      · subst h2
        rw [if_pos rfl]
        have hk' : some x.2 = some e := hk
        cases hk'
        refine ⟨xw_E dA ad X _ (i := L.length) (q := x.1) (e := x.2) (by simp), ?_⟩
        rw [cb_E ad _ (i := L.length) (q := x.1) (e := x.2) (by simp)]
        rfl
      · rw [if_neg h2]
        have e1 : k - 150 = (k - 151) + 1 := by omega
        have e2 : k - 1 - 150 = k - 151 := by omega
        unfold xw at hk ⊢
        rw [if_neg h1, e1, List.getElem?_cons_succ] at hk
        have h3 : k - 151 < L.length := by
          rcases Nat.lt_or_ge (k - 151) L.length with h3 | h3
          · exact h3
          · rw [List.getElem?_eq_none h3] at hk; cases hk
        rw [if_neg (by omega), e2, List.getElem?_append_left h3]
        refine ⟨hk, ?_⟩
        unfold cb
        rw [if_neg h1, if_neg (by omega), e1, e2, List.getElem?_cons_succ, List.getElem?_append_left h3]
  · have hb : ∀ k, (xw dA ad X (x :: L) k).isSome = true → ¬ k < 150 → k - 150 < L.length + 1 := by
      intro k hk h1
      unfold xw at hk
      rw [if_neg h1] at hk
      rcases Nat.lt_or_ge (k - 150) (L.length + 1) with h3 | h3
      · exact h3
      · rw [List.getElem?_eq_none (by simpa using h3)] at hk; cases hk
    have h1 := hb i hi
    have h2 := hb j hj
    repeat' split at hij
    all_goals omega
/-- the first one away -/
theorem XF.tail {D : va_G} {A : Nat → Prop} {dA : Nat → ClassId} {ad : Nat → Nat} {X : St} {L : Ex} {x : Nat × va_E} {H : Heap} (h : XF D A dA ad X (x :: L) H) : XF D A dA ad X L H := by
  refine FW.ren h (fun k => if k < 150 then k else k + 1) (fun k e hk => ?_) (fun i j hi hj hij => ?_)
  · by_cases h1 : k < 150
    · rw [if_pos h1]
      unfold xw at hk ⊢
      unfold cb
      rw [if_pos h1] at hk
      rw [if_pos h1, if_pos h1, if_pos h1]
      exact ⟨hk, rfl⟩
    · rw [if_neg h1]
      have e1 : k + 1 - 150 = (k - 150) + 1 := by omega
      unfold xw at hk ⊢
      unfold cb
      rw [if_neg h1] at hk
      rw [if_neg (by omega), if_neg h1, if_neg (by omega), e1, List.getElem?_cons_succ]
      exact ⟨hk, rfl⟩
  · repeat' split at hij
    all_goals omega
theorem x_newC (C0 : CallFix p m c cc nL s args lw_all own) (hG : XG D dA A s) (hM : XF D A dA ad X L H) (hS : va_S A s.heap H locs) {ci N idx : Nat} {C : String} {T : u_T} (fs : List Value) (hc : vwCl[ci]? = some (C, T, N)) (hin : ∀ x ∈ u_ws C T N, x ∈ lw_all) (ty0 : Nat → FieldType) (hty : ∀ k, k < N → parseFieldDescriptor (T k).2.2.1 = some (ty0 k)) (hcl : Cond.classLink own idx C ∈ lw_all) {n0 : Nat} (hinst : Cond.instantiable C n0 ∈ lw_all) (hini : Cond.initialized C ∈ lw_all) (hfs : ∀ j, j < N → defaultValue (ty0 j) = vp_V fs j) (hcells : cells + 1 ≤ R.cells) (hslots : slots + n0 ≤ R.slots) (hd : decode cc pc = .ok (.new idx, 3))
    (kk : ∀ (q : Nat) (H1 : Heap), XF D A dA ad X ((q, .inr (ci, fs)) :: L) H1 → va_S A s.heap H1 locs → W p l e R s m args below meth c H1 locs (cells + 1) (slots + n0) Q (F0 m (pc + 3) ls (.ref q :: rest))) : W p l e R s m args below meth c H locs cells slots Q (F0 m pc ls rest) :=
  x_new C0 hG hM hS fs hc hin ty0 hty hcl hinst hini hfs hcells hslots hd fun q H1 h1 h2 => kk q H1 h1.rot h2
theorem x_newiC (C0 : CallFix p m c cc nL s args lw_all own) (hG : XG D dA A s) (hM : XF D A dA ad X L H) (hS : va_S A s.heap H locs) (len : Nat) {x : Int32} (hx : x = nI len) (hL : len ≤ 100000) (hcells : cells + 1 ≤ R.cells) (hslots : slots + len ≤ R.slots) (hd : decode cc pc = .ok (.newarray .int, 2))
    (kk : ∀ (q : Nat) (H1 : Heap), XF D A dA ad X ((q, .inl (dA 0, len, .inl (fun _ => 0))) :: L) H1 → va_S A s.heap H1 locs → W p l e R s m args below meth c H1 locs (cells + 1) (slots + len) Q (F0 m (pc + 2) ls (.ref q :: rest))) : W p l e R s m args below meth c H locs cells slots Q (F0 m pc ls (.int x :: rest)) :=
  x_newi C0 hG hM hS len hx hL hcells hslots hd fun q H1 h1 h2 => kk q H1 h1.rot h2
theorem x_newzC (C0 : CallFix p m c cc nL s args lw_all own) (hG : XG D dA A s) (hM : XF D A dA ad X L H) (hS : va_S A s.heap H locs) (len : Nat) {x : Int32} (hx : x = nI len) (hL : len ≤ 100000) (hcells : cells + 1 ≤ R.cells) (hslots : slots + len ≤ R.slots) (hd : decode cc pc = .ok (.newarray .boolean, 2))
    (kk : ∀ (q : Nat) (H1 : Heap), XF D A dA ad X ((q, .inl (dA 1, len, .inl (fun _ => 0))) :: L) H1 → va_S A s.heap H1 locs → W p l e R s m args below meth c H1 locs (cells + 1) (slots + len) Q (F0 m (pc + 2) ls (.ref q :: rest))) : W p l e R s m args below meth c H locs cells slots Q (F0 m pc ls (.int x :: rest)) :=
  x_newz C0 hG hM hS len hx hL hcells hslots hd fun q H1 h1 h2 => kk q H1 h1.rot h2
/-- who is called -/
theorem x_preV (hG : XG D dA A s) (hM : XF D A dA ad X L H) (hS : va_S A s.heap H locs) (n : Nat) {ci N o : Nat} {C : String} {T : u_T} {fs : List Value} (hw : xw dA ad X L n = some (.inr (ci, fs))) (ho : cb ad L n = o) (hc : vwCl[ci]? = some (C, T, N)) {av : List Value} : PreV s H C o (va_Pc (.ref o :: av) (xB D dA ad X L H.size)) av := by
  subst ho
  exact ⟨fun a U g mk q => ⟨q.1, q.2.blind⟩, va_recv hG.1 (FW.one hM hw) (ci := ci) (q0 := 0) hc rfl, fun U hU hW => ⟨rfl, xB.of hG hM hS hU hW⟩⟩
theorem x_preS (hG : XG D dA A s) (hM : XF D A dA ad X L H) (hS : va_S A s.heap H locs) {av : List Value} : PreS s H (va_Pc av (xB D dA ad X L H.size)) av :=
  ⟨fun a U g mk q => ⟨q.1, q.2.blind⟩, fun U hU hW => ⟨rfl, xB.of hG hM hS hU hW⟩⟩
theorem x_ki {post : Int32 → U3 → Prop} {a : Array Value} {st0 : List Value} {mc ms : Nat} (hr : va_Run p l e R s m args below meth c H locs cells slots mc ms (F0 m pc ls st0) rest (va_Qi post (xPB D dA (XA dA ad X L H.size)) (XA dA ad X L H.size) a) (XA dA ad X L H.size)) (hG : XG D dA A s) (hM : XF D A dA ad X L H) (hS : va_S A s.heap H locs)
    (kk : ∀ (r : Int32) (u : U3) (H1 : Heap) (locs1 : List Loc), post r u → XF D A dA u.1 u.2.1 u.2.2 H1 → va_S A s.heap H1 locs1 → W p l e R s m args below meth c H1 locs1 (cells + mc) (slots + ms) Q (F0 m (pc + 3) ls (.int r :: rest))) : W p l e R s m args below meth c H locs cells slots Q (F0 m pc ls st0) := by
  have hA := hM.inA hS hG.2.2.2
  refine va_calli hr hS (fun q _ h => hA q h) hA (fun r u t H1 locs1 ht hvm hw hB hz1 hk1 hS1 => ?_)
  subst ht
  exact kk r u _ locs1 hw (XF.sub hB hA) hS1
theorem x_kv {post : U3 → Prop} {a : Array Value} {st0 : List Value} {mc ms : Nat} (hr : va_Run p l e R s m args below meth c H locs cells slots mc ms (F0 m pc ls st0) rest (va_Qv post (xPB D dA (XA dA ad X L H.size)) (XA dA ad X L H.size) a) (XA dA ad X L H.size)) (hG : XG D dA A s) (hM : XF D A dA ad X L H) (hS : va_S A s.heap H locs)
    (kk : ∀ (u : U3) (H1 : Heap) (locs1 : List Loc), post u → XF D A dA u.1 u.2.1 u.2.2 H1 → va_S A s.heap H1 locs1 → W p l e R s m args below meth c H1 locs1 (cells + mc) (slots + ms) Q (F0 m (pc + 3) ls rest)) : W p l e R s m args below meth c H locs cells slots Q (F0 m pc ls st0) := by
  have hA := hM.inA hS hG.2.2.2
  refine va_callv hr hS (fun q _ h => hA q h) hA (fun u t H1 locs1 ht hvm hw hB hz1 hk1 hS1 => ?_)
  subst ht
  exact kk u _ locs1 hw (XF.sub hB hA) hS1
/-- .. five bytes on: through the interface -/
theorem x_kv5 {post : U3 → Prop} {a : Array Value} {st0 : List Value} {mc ms : Nat} (hr : va_Run5 p l e R s m args below meth c H locs cells slots mc ms (F0 m pc ls st0) rest (va_Qv post (xPB D dA (XA dA ad X L H.size)) (XA dA ad X L H.size) a) (XA dA ad X L H.size)) (hG : XG D dA A s) (hM : XF D A dA ad X L H) (hS : va_S A s.heap H locs)
    (kk : ∀ (u : U3) (H1 : Heap) (locs1 : List Loc), post u → XF D A dA u.1 u.2.1 u.2.2 H1 → va_S A s.heap H1 locs1 → W p l e R s m args below meth c H1 locs1 (cells + mc) (slots + ms) Q (F0 m (pc + 5) ls rest)) : W p l e R s m args below meth c H locs cells slots Q (F0 m pc ls st0) := by
  have hA := hM.inA hS hG.2.2.2
  intro T hT X0
  obtain ⟨v, st₀, t, T', M, h0, X', hL, e1, e2, ⟨⟨u, hv, hp, hb⟩, hz, hk⟩, st⟩ := hr T hT X0
  cases hv
  rw [h0] at hz hk
  obtain ⟨t2, a1, b1⟩ := kk u T'.heap (locs ++ M) hp (by rw [e1]; exact XF.sub hb hA)
    ⟨Nat.le_trans hS.1 (by rw [e1]; exact hz), fun q h1 h2 => by rw [e1, hk q (Nat.lt_of_lt_of_le h1 hS.1) (fun z => h2 (hA q z))]; exact hS.2.1 q h1 h2, fun q hq => by
      rcases List.mem_append.mp hq with h | h
      · exact hS.2.2 q h
      · exact hA _ (hL q h)⟩ T' rfl X'
  exact ⟨t2, st t2 a1, b1⟩
/-- ends -/
theorem x_iret {post : Int32 → Prop} {v : Int32} {a : List Value} (C0 : CallFix p m c cc nL s a.toArray lw_all own) (hr : meth.sig.returnType = some .int) (hlk : meth.locks = false) (h : post v) (hd : decode cc pc = .ok (.ireturn, 1)) : W p l e R s m a.toArray below meth c s.heap [] 0 0 (MQ below (vp_Si post) a.toArray s 0 0 (fun _ => False)) (F0 m pc ls [.int v]) :=
  W.iret C0.1 C0.2.1 hr (fun t ht hW => ⟨v, rfl, h, ht⟩) (fun q hq => by cases hq) hd hlk
theorem x_zret {post : Int32 → Prop} {v : Int32} {a : List Value} (C0 : CallFix p m c cc nL s a.toArray lw_all own) (hr : meth.sig.returnType = some .boolean) (hlk : meth.locks = false) (hn : narrow .boolean (.int v) = .int v) (h : post v) (hd : decode cc pc = .ok (.ireturn, 1)) : W p l e R s m a.toArray below meth c s.heap [] 0 0 (MQ below (vp_Si post) a.toArray s 0 0 (fun _ => False)) (F0 m pc ls [.int v]) :=
  W.zret C0.1 C0.2.1 hr hn (fun t ht hW => ⟨v, rfl, h, ht⟩) (fun q hq => by cases hq) hd hlk
theorem x_aret {post : Option Nat → Prop} {v : Nat} {a : List Value} {C : String} (C0 : CallFix p m c cc nL s a.toArray lw_all own) (hr : meth.sig.returnType = some (.object C)) (hlk : meth.locks = false) (h : post (some v)) (hd : decode cc pc = .ok (.areturn, 1)) : W p l e R s m a.toArray below meth c s.heap [] 0 0 (MQ below (va_Sq post) a.toArray s 0 0 (fun _ => False)) (F0 m pc ls [.ref v]) :=
  W.aret C0.1 C0.2.1 hr (Or.inl ⟨_, rfl⟩) (Or.inr ⟨_, rfl⟩) (fun t ht hW => ⟨some v, rfl, h, ht⟩) (fun q hq => by cases hq) hd hlk
theorem x_iretS {post : Int32 → U3 → Prop} {v : Int32} {a : List Value} {mc ms : Nat} (C0 : CallFix p m c cc nL s a.toArray lw_all own) (hr : meth.sig.returnType = some .int) (hlk : meth.locks = false) (hM : XF D A dA ad X L H) (hS : va_S A s.heap H locs) (h : post v (ad, X, L)) (hd : decode cc pc = .ok (.ireturn, 1)) (h1 : cells ≤ mc) (h2 : slots ≤ ms) : W p l e R s m a.toArray below meth c H locs cells slots (MQ below (va_Qi post (xPB D dA A) A) a.toArray s mc ms A) (F0 m pc ls [.int v]) :=
  W.widen h1 h2 (W.iret C0.1 C0.2.1 hr (fun t ht hW => ⟨⟨v, (ad, X, L), rfl, h, by show XF D A dA ad X L t.heap; rw [ht]; exact hM⟩, hS.F ht⟩) hS.2.2 hd hlk)
theorem x_zretS {post : Int32 → U3 → Prop} {v : Int32} {a : List Value} {mc ms : Nat} (C0 : CallFix p m c cc nL s a.toArray lw_all own) (hr : meth.sig.returnType = some .boolean) (hlk : meth.locks = false) (hM : XF D A dA ad X L H) (hS : va_S A s.heap H locs) (hn : narrow .boolean (.int v) = .int v) (h : post v (ad, X, L)) (hd : decode cc pc = .ok (.ireturn, 1)) (h1 : cells ≤ mc) (h2 : slots ≤ ms) : W p l e R s m a.toArray below meth c H locs cells slots (MQ below (va_Qi post (xPB D dA A) A) a.toArray s mc ms A) (F0 m pc ls [.int v]) :=
  W.widen h1 h2 (W.zret C0.1 C0.2.1 hr hn (fun t ht hW => ⟨⟨v, (ad, X, L), rfl, h, by show XF D A dA ad X L t.heap; rw [ht]; exact hM⟩, hS.F ht⟩) hS.2.2 hd hlk)
theorem x_vretS {post : U3 → Prop} {a : List Value} {mc ms : Nat} (C0 : CallFix p m c cc nL s a.toArray lw_all own) (hr : meth.sig.returnType = none) (hlk : meth.locks = false) (hM : XF D A dA ad X L H) (hS : va_S A s.heap H locs) (h : post (ad, X, L)) (hd : decode cc pc = .ok (.return_, 1)) (h1 : cells ≤ mc) (h2 : slots ≤ ms) : W p l e R s m a.toArray below meth c H locs cells slots (MQ below (va_Qv post (xPB D dA A) A) a.toArray s mc ms A) (F0 m pc ls []) :=
  W.widen h1 h2 (W.vret C0.1 C0.2.1 hr (fun t ht hW => ⟨⟨(ad, X, L), rfl, h, by show XF D A dA ad X L t.heap; rw [ht]; exact hM⟩, hS.F ht⟩) hS.2.2 hd hlk)
end XC
section XH
variable {l : Launch} {D : va_G} {dA : Nat → ClassId} {ad : Nat → Nat} {X : St} {L : Ex} {sz : Nat} {cc : ByteArray}
theorem x_ground {s : State} (h : xB D dA ad X L sz s) : XG D dA (XA dA ad X L sz) s ∧ XF D (XA dA ad X L sz) dA ad X L s.heap := by
  obtain ⟨h1, h2, h3, h4, h5⟩ := h
  refine ⟨⟨h2, h3, xZ.out h1 (fun q hq => ?_) h4, fun q hq => Or.inr (by omega)⟩, h1.self⟩
  rcases hq with hq | hq
  · exact Or.inl hq
  · exact Or.inr (by omega)
theorem x_head {y : MethodName} {maxL : Nat} {ret : Option FieldType} {rm : Room} {av : List Value} {Qc : Array Value → State → Outcome → State → Prop} {mc ms : Nat} {free : Addr → Prop} (hy : plainName y.cls = true) (hsl : (lg_sl av).length ≤ maxL)
    (body : ∀ (p : Program) (e : Env) (s : State) (m : MethodId) (below : List Frame) (meth : Method) (c : Code) (ls : Array Slot), CallFix p m c cc maxL s av.toArray lw_all y.cls → meth.sig.returnType = ret → meth.locks = false → meth.name = y.name → XG D dA (XA dA ad X L sz) s → XF D (XA dA ad X L sz) dA ad X L s.heap → va_S (XA dA ad X L sz) s.heap s.heap [] → s.heap.size = sz → lv_has ls maxL (lv_args 0 av) → W p l e rm s m av.toArray below meth c s.heap [] 0 0 (MQ below Qc av.toArray s mc ms free) (F0 m 0 ls [])) :
    Met l y (ws_ y cc maxL ret) rm (va_Pc av (xB D dA ad X L sz)) Qc mc ms free := by
  refine Met.ofW (cc := cc) (maxL := maxL) (ret := ret) hy rfl ?_
  intro p e s m args below meth c s₁ B hml hv
  obtain ⟨rfl, hB⟩ := hv
  have hts := atoms_spec (ws := ws_ y cc maxL ret) B.pre
  have hl := lv_entry av (n := maxL) hsl
  rw [lg_entry_eq]
  generalize (lg_sl av ++ List.replicate (maxL - (lg_sl av).length) Slot.unset).toArray = ls at hl ⊢
  exact body p e s m below meth c ls ⟨B.exec, B.bytes, hml, findClass_of_methodNamed B.named, fun w h => hts w (List.mem_cons_of_mem _ h)⟩ B.returns B.notSynchronized (name_of_methodNamed B.named B.method).1 (x_ground hB).1 (x_ground hB).2 va_S.rf hB.2.2.2.2 hl
theorem x_hP {y : MethodName} {maxL : Nat} {ret : Option FieldType} {rm : Room} {av : List Value} {Qc : Array Value → State → Outcome → State → Prop} {mc ms : Nat} {free : Addr → Prop} (hy : plainName y.cls = true) (hsl : (lg_sl av).length ≤ maxL)
    (body : ∀ (A : Nat → Prop) (p : Program) (e : Env) (s : State) (m : MethodId) (below : List Frame) (meth : Method) (c : Code) (ls : Array Slot), CallFix p m c cc maxL s av.toArray lw_all y.cls → meth.sig.returnType = ret → meth.locks = false → meth.name = y.name → XG D dA A s → XF D A dA ad X L s.heap → va_S A s.heap s.heap [] → lv_has ls maxL (lv_args 0 av) → W p l e rm s m av.toArray below meth c s.heap [] 0 0 (MQ below Qc av.toArray s mc ms free) (F0 m 0 ls [])) :
    Met l y (ws_ y cc maxL ret) rm (va_Pc av (xB D dA ad X L sz)) Qc mc ms free :=
  x_head hy hsl fun p e s m below meth c ls C0 hr hlk hnm hG hM hS _ hl => body _ p e s m below meth c ls C0 hr hlk hnm hG hM hS hl
theorem x_hI {y : MethodName} {maxL : Nat} {ret : Option FieldType} {rm : Room} {av : List Value} {post : Int32 → U3 → Prop} {mc ms : Nat} (hy : plainName y.cls = true) (hsl : (lg_sl av).length ≤ maxL)
    (body : ∀ (A : Nat → Prop) (p : Program) (e : Env) (s : State) (m : MethodId) (below : List Frame) (meth : Method) (c : Code) (ls : Array Slot), CallFix p m c cc maxL s av.toArray lw_all y.cls → meth.sig.returnType = ret → meth.locks = false → meth.name = y.name → XG D dA A s → XF D A dA ad X L s.heap → va_S A s.heap s.heap [] → lv_has ls maxL (lv_args 0 av) → W p l e rm s m av.toArray below meth c s.heap [] 0 0 (MQ below (va_Qi post (xPB D dA A) A) av.toArray s mc ms A) (F0 m 0 ls [])) :
    xCi l y cc maxL ret rm D dA ad X L sz av mc ms post :=
  x_head hy hsl fun p e s m below meth c ls C0 hr hlk hnm hG hM hS _ hl => body _ p e s m below meth c ls C0 hr hlk hnm hG hM hS hl
theorem x_hV {y : MethodName} {maxL : Nat} {rm : Room} {av : List Value} {post : U3 → Prop} {mc ms : Nat} (hy : plainName y.cls = true) (hsl : (lg_sl av).length ≤ maxL)
    (body : ∀ (A : Nat → Prop) (p : Program) (e : Env) (s : State) (m : MethodId) (below : List Frame) (meth : Method) (c : Code) (ls : Array Slot), CallFix p m c cc maxL s av.toArray lw_all y.cls → meth.sig.returnType = none → meth.locks = false → meth.name = y.name → XG D dA A s → XF D A dA ad X L s.heap → va_S A s.heap s.heap [] → lv_has ls maxL (lv_args 0 av) → W p l e rm s m av.toArray below meth c s.heap [] 0 0 (MQ below (va_Qv post (xPB D dA A) A) av.toArray s mc ms A) (F0 m 0 ls [])) :
    xCv l y cc maxL rm D dA ad X L sz av mc ms post :=
  x_head hy hsl fun p e s m below meth c ls C0 hr hlk hnm hG hM hS _ hl => body _ p e s m below meth c ls C0 hr hlk hnm hG hM hS hl
theorem Met.ofWH {y : MethodName} {ws ws' : List Cond} {rm : Room} {Pc : Array Value → State → Prop} {Qc : Array Value → State → Outcome → State → Prop} {mc ms : Nat} {free : Addr → Prop} {maxL : Nat} {ret : Option FieldType} {hh : List (Nat × Nat × Nat × Nat)}
    (hy : plainName y.cls = true) (hw : ws = Cond.codeWith y cc maxL ret hh :: ws')
    (body : ∀ p e s m args below meth c s₁, BodyLoose p l y (headSpec ws rm) cc maxL ret e s m args below meth c s₁ → c.maxLocals = maxL → Pc args s →
      W p l e (headSpec ws rm).room s m args below meth c s.heap [] 0 0 (MQ below Qc args s mc ms free) (entryFrame m args maxL)) : Met l y ws rm Pc Qc mc ms free := by
  refine MetFree.of_bodyS (code := cc) (maxLocals := maxL) (ret := ret) hy ?_ ?_
  · intro args s m h hn
    obtain ⟨m', meth, c, h0, h1, h2, h3, h4, -, h5, h6, -⟩ := Cond.codeWith_spec (atoms_spec (ws := ws) h _ (by rw [hw]; exact List.mem_cons_self))
    cases hn.symm.trans h0
    exact ⟨meth, c, h1, h2, h3, h4, h5, h6⟩
  · intro p e s m args below meth c s₁ B hml hP _
    have hh0 : s₁.heap = s.heap := by rw [B.state]; rfl
    obtain ⟨t, a1, o, b1, b2, b3⟩ := body p e s m args below meth c s₁ B hml hP s₁ hh0 (Stand.of_body B)
    exact ⟨t, o, a1, b1, b2, ⟨b3.1, b3.2⟩⟩
def exE (q : Nat × Nat × Nat × Nat) : ExceptionTableEntry := ⟨q.1, q.2.1, q.2.2.1, q.2.2.2⟩
/-- the head of a method with handlers -/
theorem x_hH {y : MethodName} {maxL : Nat} {ret : Option FieldType} {hh : List (Nat × Nat × Nat × Nat)} {rm : Room} {av : List Value} {post : Int32 → U3 → Prop} {mc ms : Nat} (hy : plainName y.cls = true) (hsl : (lg_sl av).length ≤ maxL)
    (body : ∀ (A : Nat → Prop) (p : Program) (e : Env) (s : State) (m : MethodId) (below : List Frame) (meth : Method) (c : Code) (ls : Array Slot), CallFix p m c cc maxL s av.toArray lw_all y.cls → meth.sig.returnType = ret → meth.locks = false → c.exceptionTable.toList = hh.map exE → XG D dA A s → XF D A dA ad X L s.heap → va_S A s.heap s.heap [] → lv_has ls maxL (lv_args 0 av) → W p l e rm s m av.toArray below meth c s.heap [] 0 0 (MQ below (va_Qi post (xPB D dA A) A) av.toArray s mc ms A) (F0 m 0 ls [])) :
    xCh l y cc maxL ret hh rm D dA ad X L sz av mc ms post := by
  refine Met.ofWH (cc := cc) (maxL := maxL) (ret := ret) (hh := hh) hy rfl ?_
  intro p e s m args below meth c s₁ B hml hv
  obtain ⟨rfl, hB⟩ := hv
  have hts := atoms_spec (ws := wsW_ y cc maxL ret hh) B.pre
  have htab := tw_table rfl B
  have hT : c.exceptionTable.toList = hh.map exE := by
    rw [← htab, List.map_map]
    have : (exE ∘ fun (h : ExceptionTableEntry) => (h.startPc, h.endPc, h.handlerPc, h.catchType)) = id := by
      funext h
      cases h
      rfl
    rw [this, List.map_id]
  have hl := lv_entry av (n := maxL) hsl
  rw [lg_entry_eq]
  generalize (lg_sl av ++ List.replicate (maxL - (lg_sl av).length) Slot.unset).toArray = ls at hl ⊢
  exact body _ p e s m below meth c ls ⟨B.exec, B.bytes, hml, findClass_of_methodNamed B.named, fun w h => hts w (List.mem_cons_of_mem _ h)⟩ B.returns B.notSynchronized hT (x_ground hB).1 (x_ground hB).2 va_S.rf hl
/-- the head of a method that may throw -/
theorem x_headT {y : MethodName} {maxL : Nat} {ret : Option FieldType} {rm : Room} {av : List Value} {Qc : Array Value → State → Outcome → State → Prop} {mc ms : Nat} {free : Addr → Prop} (hy : plainName y.cls = true) (hsl : (lg_sl av).length ≤ maxL)
    (body : ∀ (p : Program) (e : Env) (s : State) (m : MethodId) (below : List Frame) (meth : Method) (c : Code) (ls : Array Slot), CallFix p m c cc maxL s av.toArray lw_all y.cls → meth.sig.returnType = ret → meth.locks = false → c.exceptionTable.toList = [] → XG D dA (XA dA ad X L sz) s → XF D (XA dA ad X L sz) dA ad X L s.heap → va_S (XA dA ad X L sz) s.heap s.heap [] → s.heap.size = sz → lv_has ls maxL (lv_args 0 av) → W p l e rm s m av.toArray below meth c s.heap [] 0 0 (MQT below Qc av.toArray s mc ms free) (F0 m 0 ls [])) :
    MetT l y (ws_ y cc maxL ret) rm (va_Pc av (xB D dA ad X L sz)) Qc mc ms free := by
  refine MetT.ofW (cc := cc) (maxL := maxL) (ret := ret) hy rfl ?_
  intro p e s m args below meth c s₁ B hml hv
  obtain ⟨rfl, hB⟩ := hv
  have hts := atoms_spec (ws := ws_ y cc maxL ret) B.pre
  have hl := lv_entry av (n := maxL) hsl
  rw [lg_entry_eq]
  generalize (lg_sl av ++ List.replicate (maxL - (lg_sl av).length) Slot.unset).toArray = ls at hl ⊢
  exact body p e s m below meth c ls ⟨B.exec, B.bytes, hml, findClass_of_methodNamed B.named, fun w h => hts w (List.mem_cons_of_mem _ h)⟩ B.returns B.notSynchronized (tw_none rfl B) (x_ground hB).1 (x_ground hB).2 va_S.rf hB.2.2.2.2 hl
theorem x_hT {y : MethodName} {maxL : Nat} {ret : Option FieldType} {rm : Room} {av : List Value} {P : Option Value → Prop} {K : Nat → Prop} (hy : plainName y.cls = true) (hsl : (lg_sl av).length ≤ maxL)
    (body : ∀ (A : Nat → Prop) (p : Program) (e : Env) (s : State) (m : MethodId) (below : List Frame) (meth : Method) (c : Code) (ls : Array Slot), CallFix p m c cc maxL s av.toArray lw_all y.cls → meth.sig.returnType = ret → meth.locks = false → c.exceptionTable.toList = [] → XG D dA A s → XF D A dA ad X L s.heap → va_S A s.heap s.heap [] → lv_has ls maxL (lv_args 0 av) → W p l e rm s m av.toArray below meth c s.heap [] 0 0 (MQT below (xQT D dA A ad X L P K) av.toArray s 1 7 A) (F0 m 0 ls [])) :
    xCt l y cc maxL ret rm D dA ad X L sz av P K :=
  x_headT hy hsl fun p e s m below meth c ls C0 hr hlk g hG hM hS _ hl => body _ p e s m below meth c ls C0 hr hlk g hG hM hS hl
end XH
section XT
variable {p : Program} {l : Launch} {e : Env} {R : Room} {s : State} {m : MethodId} {args : Array Value} {below : List Frame} {meth : Method} {c : Code} {H : Heap} {locs : List Loc} {cells slots : Nat} {Q : State → Prop}
variable {cc : ByteArray} {nL pc : Nat} {ls : Array Slot} {rest : List Value} {D : va_G} {dA : Nat → ClassId} {A : Nat → Prop} {ad : Nat → Nat} {X : St} {L : Ex} {own : String}
theorem x_refcls (hK : va_K D vwCl (tyL dA) s) {a i : Nat} {fs : List Value} (hM : XF D A dA ad X L H) (hw : L[i]? = some (a, .inr (6, fs))) : ∃ cell : Cell, H[a]? = some cell ∧ cell.vm.isStatics = false ∧ s.vm.findClass RX6 = some cell.cls := by
  have h := va_recv hK (FW.one hM (xw_E dA ad X L hw)) (ci := 6) (q0 := 0) rfl rfl
  rw [cb_E ad L hw] at h
  exact h
theorem app_last {α : Type} (L : List α) (x : α) : (L ++ [x])[L.length]? = some x := by simp
/-- the call of a method that may throw a Refused, in a method that catches it -/
theorem x_ct (C0 : CallFix p m c cc nL s args lw_all own) (hG : XG D dA A s) (hM : XF D A dA ad X L H) (hS : va_S A s.heap H locs) {y : MethodName} {b : ByteArray} {Lm : Nat} {ret : Option FieldType} {rm : Room} {av : List Value} {P : Option Value → Prop} {K : Nat → Prop} {idx : Nat} (hMet : xCt l y b Lm ret rm D dA ad X L H.size (.ref (ad 0) :: av) P K) (n : Nat) (hg : GoodIn lw_all (wsV own idx RX0 y (ws_ y b Lm ret))) (hrc : rm.cells = 1) (hrs : rm.slots = 7)
    (hd0 : y.cls = RX0 ∧ y.cls ≠ "java/lang/invoke/MethodHandle" ∧ y.cls ≠ "java/lang/invoke/VarHandle" ∧ (parseMethodDescriptor y.desc).map (fun d => d.parameters.length) = some n) (hR : rm.frames + 1 ≤ R.frames ∧ 8 + (Lm + 11) + rm.locals ≤ R.locals) (hn : av.length = n) (hsz : ls.size = nL) {st0 : List Value} (hst : st0 = av.reverse ++ .ref (ad 0) :: rest) (hrest : (rest.map fun v => v.category).sum ≤ 8) (hd : decode cc pc = .ok (.invokevirtual idx, 3)) (hf : cells + 1 ≤ R.cells ∧ slots + 7 ≤ R.slots)
    {x : ExceptionTableEntry} (ht : Tb c pc x) (hx : covers x pc = true) (h0 : x.catchType ≠ 0) (hlink : Cond.classLink own x.catchType RX6 ∈ lw_all)
    (kr : ∀ (v : Option Value) (locs1 : List Loc), P v → va_S A s.heap H locs1 → W p l e R s m args below meth c H locs1 (cells + 1) (slots + 7) Q (F0 m (pc + 3) ls (v.toList ++ rest)))
    (kt : ∀ (q k : Nat) (H1 : Heap) (locs1 : List Loc), K k → XF D A dA ad X ((q, refE k) :: L) H1 → va_S A s.heap H1 locs1 → W p l e R s m args below meth c H1 locs1 (cells + 1) (slots + 7) Q (F0 m x.handlerPc ls [.ref q])) : W p l e R s m args below meth c H locs cells slots Q (F0 m pc ls st0) := by
  have hA := hM.inA hS hG.2.2.2
  have hS' : ∀ (M : List Loc), (∀ q ∈ M, XA dA ad X L H.size q.base) → ∀ l ∈ locs ++ M, A l.base := fun M hM' q hq => by
    rcases List.mem_append.mp hq with h | h
    · exact hS.2.2 q h
    · exact hA _ (hM' q h)
  refine tw_call (As := av) (rest := rest) C0 hMet (cwV n C0.2.2.2.2 hg rfl hrc hrs hd0 hR) (x_preV hG hM hS 0 (xw_0 dA ad X L) rfl rfl) hn hsz hst hrest hd hf ht hx h0 (C0.2.2.2.2 _ hlink) ?_ ?_ ?_
  · intro a st t hq
    rcases hq with ⟨v, hv, -, -⟩ | ⟨q, k, hv, -, hX, -⟩
    · cases hv
    · cases hv
      exact x_refcls hG.1 hX (i := 0) rfl
  · intro v st t M e0 hMl hq
    rcases hq with ⟨v', hv, hP, hh⟩ | ⟨q, k, hv, -⟩
    · cases hv
      rw [hh, e0]
      exact kr v _ hP ⟨hS.1, hS.2.1, hS' M hMl⟩
    · cases hv
  · intro a st t M e0 hMl hq
    rcases hq with ⟨v', hv, -⟩ | ⟨q, k, hv, hK, hX, hF⟩
    · cases hv
    · cases hv
      obtain ⟨hz, hk⟩ := hF
      rw [e0] at hz hk
      exact kt a k t.heap _ hK (XF.sub hX hA) ⟨Nat.le_trans hS.1 hz, fun q h1 h2 => by rw [hk q (Nat.lt_of_lt_of_le h1 hS.1) (fun z => h2 (hA q z))]; exact hS.2.1 q h1 h2, hS' M hMl⟩
/-- athrow of a Refused in a method that catches it -/
theorem x_thrC (C0 : CallFix p m c cc nL s args lw_all own) (hG : XG D dA A s) (hM : XF D A dA ad X L H) (i : Nat) {a : Nat} {fs : List Value} (hw : L[i]? = some (a, .inr (6, fs))) {x : ExceptionTableEntry} (ht : Tb c pc x) (hx : covers x pc = true) (h0 : x.catchType ≠ 0) (hlink : Cond.classLink own x.catchType RX6 ∈ lw_all) (hd : decode cc pc = .ok (.athrow, 1))
    (kk : W p l e R s m args below meth c H locs cells slots Q (F0 m x.handlerPc ls [.ref a])) : W p l e R s m args below meth c H locs cells slots Q (F0 m pc ls (.ref a :: rest)) := by
  obtain ⟨cell, h1, h2, h3⟩ := x_refcls hG.1 hM hw
  exact W.thrC C0.1 C0.2.1 C0.2.2.2.1 ht hx h0 (C0.2.2.2.2 _ hlink) h1 h2 h3 hd kk
/-- athrow of a Refused out of a method -/
theorem x_thr {P : Option Value → Prop} {K : Nat → Prop} {a : List Value} {k q : Nat} (C0 : CallFix p m c cc nL s a.toArray lw_all own) (hlk : meth.locks = false) (hx : c.exceptionTable.toList = []) (hM : XF D A dA ad X ((q, refE k) :: L) H) (hS : va_S A s.heap H locs) (hK : K k) (h1 : cells ≤ 1) (h2 : slots ≤ 7) (hd : decode cc pc = .ok (.athrow, 1)) :
    W p l e R s m a.toArray below meth c H locs cells slots (MQT below (xQT D dA A ad X L P K) a.toArray s 1 7 A) (F0 m pc ls (.ref q :: rest)) :=
  W.widen h1 h2 (W.thr C0.1 C0.2.1 hx hlk (fun t hT hW => Or.inr ⟨q, k, rfl, hK, by rw [hT]; exact hM, hS.F hT⟩) hS.2.2 hd)
/-- its ordinary ends -/
theorem x_aretT {P : Option Value → Prop} {K : Nat → Prop} {a : List Value} {v : Nat} {C : String} (C0 : CallFix p m c cc nL s a.toArray lw_all own) (hr : meth.sig.returnType = some (.object C)) (hlk : meth.locks = false) (h : P (some (.ref v))) (hd : decode cc pc = .ok (.areturn, 1)) : W p l e R s m a.toArray below meth c s.heap [] 0 0 (MQT below (xQT D dA A ad X L P K) a.toArray s 1 7 A) (F0 m pc ls [.ref v]) :=
  W.mono (fun _ h => h.toT) (W.widen (Nat.zero_le _) (Nat.zero_le _) (W.aret C0.1 C0.2.1 hr (Or.inl ⟨_, rfl⟩) (Or.inr ⟨_, rfl⟩) (fun t ht hW => Or.inl ⟨_, rfl, h, ht⟩) (fun q hq => by cases hq) hd hlk))
theorem x_vretT {P : Option Value → Prop} {K : Nat → Prop} {a : List Value} (C0 : CallFix p m c cc nL s a.toArray lw_all own) (hr : meth.sig.returnType = none) (hlk : meth.locks = false) (h : P none) (hd : decode cc pc = .ok (.return_, 1)) : W p l e R s m a.toArray below meth c s.heap [] 0 0 (MQT below (xQT D dA A ad X L P K) a.toArray s 1 7 A) (F0 m pc ls []) :=
  W.mono (fun _ h => h.toT) (W.widen (Nat.zero_le _) (Nat.zero_le _) (W.vret C0.1 C0.2.1 hr (fun t ht hW => Or.inl ⟨_, rfl, h, ht⟩) (fun q hq => by cases hq) hd hlk))
/-- a loop that makes cells -/
theorem W_loopC (N : Nat) (cf sf : Nat → Nat) (I : Nat → Heap → List Loc → Array Slot → Prop) (pc : Nat)
    (exit : ∀ i H locs ls, i ≤ N → I i H locs ls → (i = N ∨ True) → (∀ H' locs' ls', i < N → I (i + 1) H' locs' ls' → W p l e R s m args below meth c H' locs' (cf (i + 1)) (sf (i + 1)) Q (F0 m pc ls' [])) → W p l e R s m args below meth c H locs (cf i) (sf i) Q (F0 m pc ls [])) :
    ∀ i H locs ls, i ≤ N → I i H locs ls → W p l e R s m args below meth c H locs (cf i) (sf i) Q (F0 m pc ls []) := by
  have key : ∀ d i H locs ls, N - i = d → i ≤ N → I i H locs ls → W p l e R s m args below meth c H locs (cf i) (sf i) Q (F0 m pc ls []) := by
    intro d
    induction d with
    | zero =>
      intro i H locs ls hd hi hI
      exact exit i H locs ls hi hI (Or.inr trivial) (fun _ _ _ h _ => absurd h (by omega))
    | succ d ih =>
      intro i H locs ls hd hi hI
      exact exit i H locs ls hi hI (Or.inr trivial) (fun H' locs' ls' h hI' => ih (i + 1) H' locs' ls' (by omega) (by omega) hI')
  exact fun i H locs ls hi hI => key _ i H locs ls rfl hi hI
end XT
