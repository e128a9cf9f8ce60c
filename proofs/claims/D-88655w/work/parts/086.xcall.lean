/-! LAYER 6: calls by what they ask; pure rows of the component -/
set_option maxRecDepth 100000
set_option linter.unusedVariables false
theorem lw_O {own : String} {idx : Nat} {C owner : String} {x y : MethodName} {b : ByteArray} {L : Nat} {r : Option FieldType} (h1 : Cond.methodLink own idx x ∈ lw_all) (h2 : Cond.sameMethod x.cls owner x.name x.desc ∈ lw_all) (h3 : Cond.instanceMethod ⟨owner, x.name, x.desc⟩ ∈ lw_all) (h4 : Cond.selects C x y ∈ lw_all) (h5 : Cond.instanceMethod y ∈ lw_all) (h6 : Cond.initialized y.cls ∈ lw_all) (h7 : Cond.code y b L r ∈ lw_all) : GoodIn lw_all (va_wsO own idx C owner x y (ws_ y b L r)) := by
  refine lw_app ?_ (lw_meth h7)
  intro w hw
  simp only [List.mem_cons, List.not_mem_nil, or_false] at hw
  rcases hw with e | e | e | e | e | e
  · rw [e]; exact h1
  · rw [e]; exact h2
  · rw [e]; exact h3
  · rw [e]; exact h4
  · rw [e]; exact h5
  · rw [e]; exact h6
theorem lw_SU {own : String} {idx : Nat} {y : MethodName} {b : ByteArray} {L : Nat} {r : Option FieldType} (h1 : Cond.methodLink own idx y ∈ lw_all) (h2 : Cond.sameMethod y.cls y.cls y.name y.desc ∈ lw_all) (h3 : Cond.superclass own y.cls ∈ lw_all) (h4 : Cond.instanceMethod y ∈ lw_all) (h5 : Cond.initialized y.cls ∈ lw_all) (h7 : Cond.code y b L r ∈ lw_all) : GoodIn lw_all (va_wsSU own idx y (ws_ y b L r)) := by
  refine lw_app ?_ (lw_meth h7)
  intro w hw
  simp only [List.mem_cons, List.not_mem_nil, or_false] at hw
  rcases hw with e | e | e | e | e
  · rw [e]; exact h1
  · rw [e]; exact h2
  · rw [e]; exact h3
  · rw [e]; exact h4
  · rw [e]; exact h5
theorem lw_F {own : String} {idx : Nat} {C : String} {x y : MethodName} {b : ByteArray} {L : Nat} {r : Option FieldType} (h1 : Cond.methodLink own idx x ∈ lw_all) (h4 : Cond.selects C x y ∈ lw_all) (h5 : Cond.instanceMethod y ∈ lw_all) (h6 : Cond.initialized y.cls ∈ lw_all) (h7 : Cond.code y b L r ∈ lw_all) : GoodIn lw_all (va_wsF own idx C x y (ws_ y b L r)) := by
  refine lw_app ?_ (lw_meth h7)
  intro w hw
  simp only [List.mem_cons, List.not_mem_nil, or_false] at hw
  rcases hw with e | e | e | e
  · rw [e]; exact h1
  · rw [e]; exact h4
  · rw [e]; exact h5
  · rw [e]; exact h6
theorem hdx_marks : yMarks.cls ≠ "java/lang/invoke/MethodHandle" ∧ yMarks.cls ≠ "java/lang/invoke/VarHandle" ∧ (parseMethodDescriptor yMarks.desc).map (fun d => d.parameters.length) = some 4 := by decide +kernel
/-- it returns, the heap stays -/
def vp_S0 : Array Value → State → Outcome → State → Prop := fun _ st oc t => oc = .returned none ∧ t.heap = st.heap
section X0
variable {p : Program} {l : Launch} {e : Env} {R : Room} {s : State} {m : MethodId} {args : Array Value} {below : List Frame} {meth : Method} {c : Code} {H : Heap} {locs : List Loc} {cells slots : Nat} {Q : State → Prop}
variable {cc : ByteArray} {nL pc : Nat} {ls : Array Slot} {rest : List Value} {own : String}
theorem fw_c0 {a : Array Value} {st0 : List Value} (hr : va_Run p l e R s m args below meth c H locs cells slots 0 0 (F0 m pc ls st0) rest (vp_S0 a) (fun _ => False))
    (kk : W p l e R s m args below meth c H locs cells slots Q (F0 m (pc + 3) ls rest)) : W p l e R s m args below meth c H locs cells slots Q (F0 m pc ls st0) := by
  intro T hT X
  obtain ⟨v, st₀, t, T', L, h0, X', hL, e1, -, ⟨hv, hh⟩, st⟩ := hr T hT X
  cases hv
  obtain ⟨t2, a1, b1⟩ := kk T' (by rw [e1, hh, h0]) (Stand.forget X' (fun q h => (hL q h).elim))
  exact ⟨t2, st t2 a1, b1⟩
theorem x_ret0 {a : List Value} (C0 : CallFix p m c cc nL s a.toArray lw_all own) (hr : meth.sig.returnType = none) (hlk : meth.locks = false) (hd : decode cc pc = .ok (.return_, 1)) : W p l e R s m a.toArray below meth c s.heap [] 0 0 (MQ below vp_S0 a.toArray s 0 0 (fun _ => False)) (F0 m pc ls []) :=
  W.vret C0.1 C0.2.1 hr (fun t ht hW => ⟨rfl, ht⟩) (fun q hq => by cases hq) hd hlk
end X0
def imax (x y : Int32) : Int32 := if x < y then y else x
def imin (x y : Int32) : Int32 := if y < x then y else x
def fdF (a b : Int32) : Int32 := if (a ^^^ b) < 0 ∧ ¬ a / b * b = a then a / b - 1 else a / b
/-- how a number lies outside two bounds -/
def wthF (v a b : Int32) : Nat := if v < a then 4 else if b < v then 6 else 0
theorem wth_lt (v a b : Int32) : wthF v a b < 8 := by
  unfold wthF
  split
  · decide
  · split <;> decide
theorem wth_0 {v a b : Int32} (h : -(nI (wthF v a b)) = 0) : ¬ v < a ∧ ¬ b < v := by
  unfold wthF at h
  by_cases h1 : v < a
  · rw [if_pos h1] at h; exact absurd h (by decide)
  · rw [if_neg h1] at h
    by_cases h2 : b < v
    · rw [if_pos h2] at h; exact absurd h (by decide)
    · exact ⟨h1, h2⟩
theorem wth_1 {v a b : Int32} (h : ¬ -(nI (wthF v a b)) = 0) : ¬ wthF v a b = 0 := fun z => h (by rw [z]; decide)
/-- the component's state is sound -/
def MkR (P : Mk) (f g : Nat → Int32) : Prop := ∀ c, c < 1200 → (P.1 c = -1 ∧ f c = 0) ∨ ∃ a b, a ≤ 99 ∧ b ≤ 99 ∧ P.1 c = nI a ∧ P.2 c = nI b ∧ f c = 1 ∧ g c = nI (100 * a + b)
def XOk (X : St) : Prop := Ok X ∧ X 0 26 = X 0 0 ∧ MkR (X 17, X 18) (X 23) (X 24)
theorem XOk.ok {X : St} (h : XOk X) : Ok X := h.1
theorem XOk.rl {X : St} (h : XOk X) : rl X = ln X := by unfold _root_.Jvm.Pilot.@@N@@.rl ln; rw [h.2.1]
theorem rl16 {X : St} (h : XOk X) : rl X ≤ 16 := by rw [h.rl]; exact h.1.len16
def clrA (X : St) (a : Nat) : Nat → St
  | 0 => X
  | i + 1 => up2 (clrA X a i) a i 0
def mkX (X : St) (a b c k t : Nat) : St := if X a c = 0 then up2 (up2 X a c 1) b c (nI (100 * k + t)) else X
def prt (ad : Nat → Nat) (X : St) (k : Nat) : Nat := if X 19 (k + 1) < 0 then ad 4 else ad (80 + k)
theorem allN_le {p : Nat → Bool} {i n : Nat} (h : i ≤ n) (h1 : ¬ allN p i = true) : ¬ allN p n = true := fun z => h1 (allN_iff.mpr fun k hk => allN_iff.mp z k (by omega))
def toldF (X : St) : Nat → Nat
  | 0 => 0
  | k + 1 => toldF X k + if X 19 (k + 1) < 0 then 0 else 1
theorem toldF_3 (X : St) : toldF X 3 = toldN X := by simp [toldF, toldN]
theorem camQ_0 {X : St} {c a : Nat} (h : camQ X c a = false) (h1 : ¬ X 1 a = 0) (h16 : ln X ≤ 16) : rotI (rotN (ln X) (row X a) (row X c)) < 0 := by
  rw [rotI_lt h16]
  intro z
  have := camQ_iff.mpr (And.intro h1 z)
  rw [h] at this
  cases this
theorem least_lt {X : St} {c a : Nat} (h : a < leastN X c) : camQ X c a = false := by
  unfold leastN at h
  cases hf : (List.range 12).find? (camQ X c) with
  | none =>
    rw [hf] at h
    have h' : a < 12 := h
    have := List.find?_eq_none.mp hf a (List.mem_range.mpr h')
    simpa using this
  | some m =>
    rw [hf] at h
    exact (find_inv hf).2.2 a h
theorem least_at {X : St} {c : Nat} (hL : 0 < ln X) (hc : c < 12) (h : X 1 c ≠ 0) (h16 : ln X ≤ 16) : ¬ X 1 (leastN X c) = 0 ∧ leastN X c ≤ c ∧ ¬ rotI (rotN (ln X) (row X (leastN X c)) (row X c)) < 0 := by
  obtain ⟨h1, h2, h3, -, -⟩ := least_spec hL hc h
  exact ⟨h2, h1, fun z => (rotI_lt h16).mp z h3⟩
/-! heads of the JDK's methods -/
section XJ
variable {l : Launch} {D : va_G} {dA : Nat → ClassId} {ad : Nat → Nat} {X : St} {L : Ex} {sz : Nat} {cc : ByteArray}
theorem st_headF {y : MethodName} {maxL : Nat} {ret : Option FieldType} {rm : Room} {av : List Value} {Qc : Array Value → State → Outcome → State → Prop} {mc ms : Nat} {free : Addr → Prop} (hy : plainFor y = true) (hsl : (lg_sl av).length ≤ maxL)
    (body : ∀ (p : Program) (e : Env) (s : State) (m : MethodId) (below : List Frame) (meth : Method) (c : Code) (ls : Array Slot), CallFix p m c cc maxL s av.toArray lw_all y.cls → meth.sig.returnType = ret → meth.locks = false → lv_has ls maxL (lv_args 0 av) → W p l e rm s m av.toArray below meth c s.heap [] 0 0 (MQ below Qc av.toArray s mc ms free) (F0 m 0 ls [])) :
    Met l y (ws_ y cc maxL ret) rm (va_Pc av (fun _ => True)) Qc mc ms free := by
  refine va_MetF (cc := cc) (maxL := maxL) (ret := ret) hy rfl ?_
  intro p e s m args below meth c s₁ B hml hv
  obtain ⟨rfl, -⟩ := hv
  have hts := atoms_spec (ws := ws_ y cc maxL ret) B.pre
  have hl := lv_entry av (n := maxL) hsl
  rw [lg_entry_eq]
  generalize (lg_sl av ++ List.replicate (maxL - (lg_sl av).length) Slot.unset).toArray = ls at hl ⊢
  exact body p e s m below meth c ls ⟨B.exec, B.bytes, hml, findClass_of_methodNamed B.named, fun w h => hts w (List.mem_cons_of_mem _ h)⟩ B.returns B.notSynchronized hl
theorem x_hVF {y : MethodName} {maxL : Nat} {rm : Room} {av : List Value} {post : U3 → Prop} {mc ms : Nat} (hy : plainFor y = true) (hsl : (lg_sl av).length ≤ maxL)
    (body : ∀ (A : Nat → Prop) (p : Program) (e : Env) (s : State) (m : MethodId) (below : List Frame) (meth : Method) (c : Code) (ls : Array Slot), CallFix p m c cc maxL s av.toArray lw_all y.cls → meth.sig.returnType = none → meth.locks = false → meth.name = y.name → XG D dA A s → XF D A dA ad X L s.heap → va_S A s.heap s.heap [] → lv_has ls maxL (lv_args 0 av) → W p l e rm s m av.toArray below meth c s.heap [] 0 0 (MQ below (va_Qv post (xPB D dA A) A) av.toArray s mc ms A) (F0 m 0 ls [])) :
    xCv l y cc maxL rm D dA ad X L sz av mc ms post := by
  refine va_MetF (cc := cc) (maxL := maxL) (ret := none) hy rfl ?_
  intro p e s m args below meth c s₁ B hml hv
  obtain ⟨rfl, hB⟩ := hv
  have hts := atoms_spec (ws := ws_ y cc maxL none) B.pre
  have hl := lv_entry av (n := maxL) hsl
  rw [lg_entry_eq]
  generalize (lg_sl av ++ List.replicate (maxL - (lg_sl av).length) Slot.unset).toArray = ls at hl ⊢
  exact body _ p e s m below meth c ls ⟨B.exec, B.bytes, hml, findClass_of_methodNamed B.named, fun w h => hts w (List.mem_cons_of_mem _ h)⟩ B.returns B.notSynchronized (name_of_methodNamed B.named B.method).1 (x_ground hB).1 (x_ground hB).2 va_S.rf hl
end XJ
