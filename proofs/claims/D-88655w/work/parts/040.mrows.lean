/-! LAYER 2: the reference's world (CamFiguresModel): its object (name 0) and its arrays, each by the number of its field -/
set_option maxRecDepth 100000
set_option linter.unusedVariables false
def marr (k : Nat) : Bool := k == 1 || k == 2 || k == 3 || k == 4 || k == 5 || k == 7 || k == 17 || k == 18 || k == 19 || k == 20 || k == 21 || k == 22 || k == 23 || k == 24 || k == 25 || k == 29 || k == 30
def mlen (k : Nat) : Nat := if k = 1 then 12 else if k = 2 then 192 else if k = 3 then 10 else if k = 4 then 10 else if k = 5 then 10 else if k = 7 then 12 else if k = 17 then 1200 else if k = 18 then 1200 else if k = 19 then 4 else if k = 20 then 40 else if k = 21 then 4 else if k = 22 then 8 else if k = 23 then 16 else if k = 24 then 12 else if k = 25 then 12 else if k = 29 then 1200 else if k = 30 then 1200 else 0
def mty (k : Nat) : Nat := if k = 1 then 1 else 0
def mfs (am : Nat → Nat) (S : St) : List Value := (List.range 32).map fun j => if marr j = true then .ref (am j) else .int (S 0 j)
theorem mfs_len (am : Nat → Nat) (S : St) : (mfs am S).length = 32 := by simp [mfs]
theorem mfs_at (am : Nat → Nat) (S : St) {j : Nat} (hj : j < 32) : (mfs am S)[j]? = some (if marr j = true then .ref (am j) else .int (S 0 j)) := by
  unfold mfs
  rw [List.getElem?_map, List.getElem?_range hj]
  rfl
theorem mfs_set (am : Nat → Nat) (S : St) {j : Nat} (hj : j < 32) (hm : marr j = false) (v : Int32) : (mfs am S).set j (.int v) = mfs am (up2 S 0 j v) := by
  apply List.ext_getElem?
  intro i
  by_cases hi : i < 32
  · by_cases hij : i = j
    · subst hij
      rw [List.getElem?_set_self (by rw [mfs_len]; exact hi), mfs_at _ _ hi, hm, up2_self]
      rfl
    · rw [List.getElem?_set_ne (Ne.symm hij), mfs_at _ _ hi, mfs_at _ _ hi, up2_i _ _ hij]
  · rw [List.getElem?_eq_none (by rw [List.length_set, mfs_len]; omega), List.getElem?_eq_none (by rw [mfs_len]; omega)]
def mw (dA : Nat → ClassId) (am : Nat → Nat) (S : St) : Wd := fun k => if k = 0 then some (.inr (4, mfs am S)) else if marr k = true then some (.inl (dA (mty k), mlen k, .inl (S k))) else none
theorem mw_0 (dA : Nat → ClassId) (am : Nat → Nat) (S : St) : mw dA am S 0 = some (.inr (4, mfs am S)) := rfl
theorem mw_arr (dA : Nat → ClassId) (am : Nat → Nat) (S : St) {k : Nat} (hm : marr k = true) : mw dA am S k = some (.inl (dA (mty k), mlen k, .inl (S k))) := by
  unfold mw
  have h0 : k ≠ 0 := by rintro rfl; cases hm
  rw [if_neg h0, if_pos hm]
theorem mw_scal (dA : Nat → ClassId) (am : Nat → Nat) (S : St) {j : Nat} (hj : j < 32) (hm : marr j = false) (v : Int32) : va_up (mw dA am S) 0 (some (.inr (4, (mfs am S).set j (.int v)))) = mw dA am (up2 S 0 j v) := by
  funext k
  by_cases hk : k = 0
  · subst hk
    rw [va_up_self, mw_0, mfs_set _ _ hj hm]
  · rw [va_up_ne _ _ hk]
    unfold mw
    rw [if_neg hk, if_neg hk, up2_k _ _ _ hk]
theorem mw_set (dA : Nat → ClassId) (am : Nat → Nat) (S : St) {k : Nat} (hm : marr k = true) (i : Nat) (v : Int32) : va_up (mw dA am S) k (some (.inl (dA (mty k), mlen k, .inl (upd (S k) i v)))) = mw dA am (up2 S k i v) := by
  have h0 : k ≠ 0 := by rintro rfl; cases hm
  have hf : mfs am (up2 S k i v) = mfs am S := by
    unfold mfs
    rw [up2_k _ _ _ (Ne.symm h0)]
  funext q
  by_cases hq : q = k
  · subst hq
    rw [va_up_self, mw_arr _ _ _ hm, up2_row]
  · rw [va_up_ne _ _ hq]
    unfold mw
    by_cases hq0 : q = 0
    · rw [if_pos hq0, if_pos hq0, hf]
    · rw [if_neg hq0, if_neg hq0, up2_k _ _ _ hq]
def MA (am : Nat → Nat) : Nat → Prop := fun q => ∃ k, (k = 0 ∨ marr k = true) ∧ q = am k
/-- the reference stands in the heap with the state S -/
def MP (D : va_G) (dA : Nat → ClassId) (am : Nat → Nat) (S : St) (H : Heap) : Prop := FW D (MA am) am (mw dA am S) H
def mB (D : va_G) (dA : Nat → ClassId) (am : Nat → Nat) (S : St) (U : State) : Prop := MP D dA am S U.heap ∧ va_K D vwCl (tyL dA) U
abbrev mC (l : Launch) (y : MethodName) (b : ByteArray) (L : Nat) (ret : Option FieldType) (rm : Room) (D : va_G) (dA : Nat → ClassId) (am : Nat → Nat) (S : St) (av : List Value) (Qc : Array Value → State → Outcome → State → Prop) (free : Addr → Prop) : Prop :=
  Met l y (ws_ y b L ret) rm (va_Pc (.ref (am 0) :: av) (mB D dA am S)) Qc 0 0 free
/-- it answers, and leaves the heap as it was -/
abbrev mCp (l : Launch) (y : MethodName) (b : ByteArray) (L : Nat) (ret : Option FieldType) (rm : Room) (D : va_G) (dA : Nat → ClassId) (am : Nat → Nat) (S : St) (av : List Value) (post : Int32 → Prop) : Prop := mC l y b L ret rm D dA am S av (vp_Si post) (fun _ => False)
/-- it answers; the state behind it -/
abbrev mCi (l : Launch) (y : MethodName) (b : ByteArray) (L : Nat) (ret : Option FieldType) (rm : Room) (D : va_G) (dA : Nat → ClassId) (am : Nat → Nat) (S : St) (av : List Value) (post : Int32 → St → Prop) : Prop := mC l y b L ret rm D dA am S av (va_Qi post (fun S' t => MP D dA am S' t.heap) (MA am)) (MA am)
abbrev mCv (l : Launch) (y : MethodName) (b : ByteArray) (L : Nat) (rm : Room) (D : va_G) (dA : Nat → ClassId) (am : Nat → Nat) (S : St) (av : List Value) (post : St → Prop) : Prop := mC l y b L none rm D dA am S av (va_Qv post (fun S' t => MP D dA am S' t.heap) (MA am)) (MA am)
theorem b01_0 {P : Prop} {h : Decidable P} : (if P then (1 : Int32) else 0) = 0 ↔ ¬ P := by
  by_cases q : P
  · simp [q]
  · simp [q]
theorem b01_1 {P : Prop} {h : Decidable P} : ¬ (if P then (1 : Int32) else 0) = 0 ↔ P := by
  by_cases q : P
  · simp [q]
  · simp [q]
theorem nar_b {P : Prop} {h : Decidable P} : narrow .boolean (.int (if P then 1 else 0)) = .int (if P then 1 else 0) := by
  by_cases q : P
  · rw [if_pos q]; rfl
  · rw [if_neg q]; rfl
theorem nar_bz {P : Prop} {h : Decidable P} : vp_nar .boolean (if P then 1 else 0) = (if P then 1 else 0) := by
  by_cases q : P
  · rw [if_pos q]; rfl
  · rw [if_neg q]; rfl
theorem b1_of {P : Prop} {h : Decidable P} (q : P) : (1 : Int32) = if P then 1 else 0 := (if_pos q).symm
theorem b0_of {P : Prop} {h : Decidable P} (q : ¬ P) : (0 : Int32) = if P then 1 else 0 := (if_neg q).symm
section MR
variable {p : Program} {l : Launch} {e : Env} {R : Room} {s : State} {m : MethodId} {args : Array Value} {below : List Frame} {meth : Method} {c : Code} {H : Heap} {locs : List Loc} {cells slots : Nat} {Q : State → Prop}
variable {cc : ByteArray} {nL pc : Nat} {ls : Array Slot} {rest : List Value} {D : va_G} {dA : Nat → ClassId} {am : Nat → Nat} {S : St} {H0 : Heap} {own : String}
theorem tp_eq {x y : Int32} (h : x = y) (k : W p l e R s m args below meth c H locs cells slots Q (F0 m pc ls (.int y :: rest))) : W p l e R s m args below meth c H locs cells slots Q (F0 m pc ls (.int x :: rest)) := h ▸ k
/-- a method's head: static, whatever the heap -/
theorem st_head {y : MethodName} {maxL : Nat} {ret : Option FieldType} {rm : Room} {av : List Value} {Qc : Array Value → State → Outcome → State → Prop} {mc ms : Nat} {free : Addr → Prop} (hy : plainName y.cls = true) (hsl : (lg_sl av).length ≤ maxL)
    (body : ∀ (p : Program) (e : Env) (s : State) (m : MethodId) (below : List Frame) (meth : Method) (c : Code) (ls : Array Slot), CallFix p m c cc maxL s av.toArray lw_all y.cls → meth.sig.returnType = ret → meth.locks = false → lv_has ls maxL (lv_args 0 av) → W p l e rm s m av.toArray below meth c s.heap [] 0 0 (MQ below Qc av.toArray s mc ms free) (F0 m 0 ls [])) :
    Met l y (ws_ y cc maxL ret) rm (va_Pc av (fun _ => True)) Qc mc ms free := by
  refine Met.ofW (cc := cc) (maxL := maxL) (ret := ret) hy rfl ?_
  intro p e s m args below meth c s₁ B hml hv
  obtain ⟨rfl, -⟩ := hv
  have hts := atoms_spec (ws := ws_ y cc maxL ret) B.pre
  have hl := lv_entry av (n := maxL) hsl
  rw [lg_entry_eq]
  generalize (lg_sl av ++ List.replicate (maxL - (lg_sl av).length) Slot.unset).toArray = ls at hl ⊢
  exact body p e s m below meth c ls ⟨B.exec, B.bytes, hml, findClass_of_methodNamed B.named, fun w h => hts w (List.mem_cons_of_mem _ h)⟩ B.returns B.notSynchronized hl
/-- the head of a method of the reference -/
theorem m_head {y : MethodName} {maxL : Nat} {ret : Option FieldType} {rm : Room} {av : List Value} {Qc : Array Value → State → Outcome → State → Prop} {mc ms : Nat} {free : Addr → Prop} (hy : plainName y.cls = true) (hcls : y.cls = RX4) (hsl : (lg_sl (.ref (am 0) :: av)).length ≤ maxL)
    (body : ∀ (p : Program) (e : Env) (s : State) (m : MethodId) (below : List Frame) (meth : Method) (c : Code) (ls : Array Slot), CallFix p m c cc maxL s (Value.ref (am 0) :: av).toArray lw_all RX4 → meth.sig.returnType = ret → meth.locks = false → va_K D vwCl (tyL dA) s → MP D dA am S s.heap → va_S (MA am) s.heap s.heap [] → lv_has ls maxL (lv_args 0 (.ref (am 0) :: av)) → W p l e rm s m (Value.ref (am 0) :: av).toArray below meth c s.heap [] 0 0 (MQ below Qc (Value.ref (am 0) :: av).toArray s mc ms free) (F0 m 0 ls [])) :
    Met l y (ws_ y cc maxL ret) rm (va_Pc (.ref (am 0) :: av) (mB D dA am S)) Qc mc ms free := by
  refine Met.ofW (cc := cc) (maxL := maxL) (ret := ret) hy rfl ?_
  intro p e s m args below meth c s₁ B hml hv
  obtain ⟨rfl, hM, hK⟩ := hv
  have hts := atoms_spec (ws := ws_ y cc maxL ret) B.pre
  have hl := lv_entry (.ref (am 0) :: av) (n := maxL) hsl
  rw [lg_entry_eq]
  generalize (lg_sl (.ref (am 0) :: av) ++ List.replicate (maxL - (lg_sl (.ref (am 0) :: av)).length) Slot.unset).toArray = ls at hl ⊢
  exact body p e s m below meth c ls ⟨B.exec, B.bytes, hml, by rw [← hcls]; exact findClass_of_methodNamed B.named, fun w h => hts w (List.mem_cons_of_mem _ h)⟩ B.returns B.notSynchronized hK hM va_S.rf hl
theorem m_geti (C0 : CallFix p m c cc nL s args lw_all RX4) (hK : va_K D vwCl (tyL dA) s) (hM : MP D dA am S H) (k : Nat) {idx : Nat} (hk : k < 32) (hm : marr k = false) (hl : Cond.fieldLink RX4 idx (TX4 k).1 (TX4 k).2.1 (TX4 k).2.2.1 ∈ lw_all) (hd : decode cc pc = .ok (.getfield idx, 3))
    (kk : W p l e R s m args below meth c H locs cells slots Q (F0 m (pc + 3) ls (.int (S 0 k) :: rest))) : W p l e R s m args below meth c H locs cells slots Q (F0 m pc ls (.ref (am 0) :: rest)) :=
  fw_get C0 hK hM (mw_0 dA am S) rfl in_X4 k hk (by rw [mfs_at _ _ hk, hm]; rfl) hl hd kk
theorem m_geta (C0 : CallFix p m c cc nL s args lw_all RX4) (hK : va_K D vwCl (tyL dA) s) (hM : MP D dA am S H) (k : Nat) {idx : Nat} (hk : k < 32) (hm : marr k = true) (hl : Cond.fieldLink RX4 idx (TX4 k).1 (TX4 k).2.1 (TX4 k).2.2.1 ∈ lw_all) (hd : decode cc pc = .ok (.getfield idx, 3))
    (kk : W p l e R s m args below meth c H locs cells slots Q (F0 m (pc + 3) ls (.ref (am k) :: rest))) : W p l e R s m args below meth c H locs cells slots Q (F0 m pc ls (.ref (am 0) :: rest)) :=
  fw_get C0 hK hM (mw_0 dA am S) rfl in_X4 k hk (by rw [mfs_at _ _ hk, hm]; rfl) hl hd kk
theorem m_put (C0 : CallFix p m c cc nL s args lw_all RX4) (hK : va_K D vwCl (tyL dA) s) (hM : MP D dA am S H) (hS : va_S (MA am) H0 H locs) (k : Nat) {idx : Nat} (hk : k < 32) (hm : marr k = false) (hl : Cond.fieldLink RX4 idx (TX4 k).1 (TX4 k).2.1 (TX4 k).2.2.1 ∈ lw_all) (hfin : (TX4 k).2.2.2 = false) (hty : tyX4 k = .int) {v : Int32} (hd : decode cc pc = .ok (.putfield idx, 3))
    (kk : ∀ (H1 : Heap) (locs1 : List Loc), MP D dA am (up2 S 0 k v) H1 → va_S (MA am) H0 H1 locs1 → W p l e R s m args below meth c H1 locs1 cells slots Q (F0 m (pc + 3) ls rest)) : W p l e R s m args below meth c H locs cells slots Q (F0 m pc ls (.int v :: .ref (am 0) :: rest)) :=
  fw_put C0 hK hM hS (mw_0 dA am S) rfl in_X4 tyX4 tyX4_ok nmX4 k hk hl hfin hty rfl rfl (by rw [mfs_len]; exact hk) hd fun H1 locs1 h1 h2 => kk H1 locs1 (h1.to (mw_scal dA am S hk hm v)) h2
theorem m_iald (C0 : CallFix p m c cc nL s args lw_all RX4) (hK : va_K D vwCl (tyL dA) s) (hM : MP D dA am S H) (k i : Nat) {x : Int32} (hm : marr k = true) (ht : mty k = 0) (hx : x = nI i) (hi : i < mlen k) (hL : mlen k < 2 ^ 31) (hd : decode cc pc = .ok (.iaload, 1))
    (kk : W p l e R s m args below meth c H locs cells slots Q (F0 m (pc + 1) ls (.int (S k i) :: rest))) : W p l e R s m args below meth c H locs cells slots Q (F0 m pc ls (.int x :: .ref (am k) :: rest)) :=
  fw_iald C0 hK hM i (f := S k) (by rw [mw_arr _ _ _ hm, ht]) hx hi hL hd kk
theorem m_zald (C0 : CallFix p m c cc nL s args lw_all RX4) (hK : va_K D vwCl (tyL dA) s) (hM : MP D dA am S H) (k i : Nat) {x : Int32} (hm : marr k = true) (ht : mty k = 1) (hx : x = nI i) (hi : i < mlen k) (hL : mlen k < 2 ^ 31) (hd : decode cc pc = .ok (.baload, 1))
    (kk : W p l e R s m args below meth c H locs cells slots Q (F0 m (pc + 1) ls (.int (S k i) :: rest))) : W p l e R s m args below meth c H locs cells slots Q (F0 m pc ls (.int x :: .ref (am k) :: rest)) :=
  fw_zald C0 hK hM i (f := S k) (by rw [mw_arr _ _ _ hm, ht]) hx hi hL hd kk
theorem m_iast (C0 : CallFix p m c cc nL s args lw_all RX4) (hK : va_K D vwCl (tyL dA) s) (hM : MP D dA am S H) (hS : va_S (MA am) H0 H locs) (k i : Nat) {x v : Int32} (hm : marr k = true) (ht : mty k = 0) (hx : x = nI i) (hi : i < mlen k) (hL : mlen k < 2 ^ 31) (hd : decode cc pc = .ok (.iastore, 1))
    (kk : ∀ (H1 : Heap) (locs1 : List Loc), MP D dA am (up2 S k i v) H1 → va_S (MA am) H0 H1 locs1 → W p l e R s m args below meth c H1 locs1 cells slots Q (F0 m (pc + 1) ls rest)) : W p l e R s m args below meth c H locs cells slots Q (F0 m pc ls (.int v :: .int x :: .ref (am k) :: rest)) :=
  fw_iast C0 hK hM hS i (f := S k) (by rw [mw_arr _ _ _ hm, ht]) hx hi hL hd fun H1 locs1 h1 h2 => kk H1 locs1 (h1.to (by rw [← mw_set dA am S hm i v, ht])) h2
theorem m_zast (C0 : CallFix p m c cc nL s args lw_all RX4) (hK : va_K D vwCl (tyL dA) s) (hM : MP D dA am S H) (hS : va_S (MA am) H0 H locs) (k i : Nat) {x v : Int32} (hm : marr k = true) (ht : mty k = 1) (hx : x = nI i) (hi : i < mlen k) (hL : mlen k < 2 ^ 31) (hv : vp_nar .boolean v = v) (hd : decode cc pc = .ok (.bastore, 1))
    (kk : ∀ (H1 : Heap) (locs1 : List Loc), MP D dA am (up2 S k i v) H1 → va_S (MA am) H0 H1 locs1 → W p l e R s m args below meth c H1 locs1 cells slots Q (F0 m (pc + 1) ls rest)) : W p l e R s m args below meth c H locs cells slots Q (F0 m pc ls (.int v :: .int x :: .ref (am k) :: rest)) :=
  fw_zast C0 hK hM hS i (f := S k) (by rw [mw_arr _ _ _ hm, ht]) hx hi hL hv hd fun H1 locs1 h1 h2 => kk H1 locs1 (h1.to (by rw [← mw_set dA am S hm i v, ht])) h2
/-- calls -/
theorem st_call (C0 : CallFix p m c cc nL s args lw_all own) {y : MethodName} {b : ByteArray} {L : Nat} {ret : Option FieldType} {rm : Room} {av : List Value} {post : Int32 → Prop} {idx : Nat} (hMet : Met l y (ws_ y b L ret) rm (va_Pc av (fun _ => True)) (vp_Si post) 0 0 (fun _ => False)) (n : Nat) (hg : GoodIn lw_all (va_wsS own idx y (ws_ y b L ret))) (hrc : rm.cells = 0) (hrs : rm.slots = 0)
    (hd0 : y.cls ≠ "java/lang/invoke/MethodHandle" ∧ y.cls ≠ "java/lang/invoke/VarHandle" ∧ (parseMethodDescriptor y.desc).map (fun d => d.parameters.length) = some n) (hR : rm.frames + 1 ≤ R.frames ∧ 8 + (L + 11) + rm.locals ≤ R.locals) (hn : av.length = n) (hsz : ls.size = nL) {st0 : List Value} (hst : st0 = av.reverse ++ rest) (hrest : (rest.map fun v => v.category).sum ≤ 8) (hd : decode cc pc = .ok (.invokestatic idx, 3)) (hf : cells + 0 ≤ R.cells ∧ slots + 0 ≤ R.slots)
    (kk : ∀ r : Int32, post r → W p l e R s m args below meth c H locs cells slots Q (F0 m (pc + 3) ls (.int r :: rest))) : W p l e R s m args below meth c H locs cells slots Q (F0 m pc ls st0) :=
  fw_cp (va_runS (As := av) (rest := rest) C0 hMet (va_cwS n C0.2.2.2.2 hg rfl hrc hrs hd0 hR) ⟨fun a U g mk q => ⟨q.1, trivial⟩, fun U hU hW => ⟨rfl, trivial⟩⟩ rfl hn hsz hst (lv_room hrest) hd hf) kk
theorem mB.blind {a : Array Value} {U : State} {g : JFrame} {mk : MethodId} (h : mB D dA am S U) : mB D dA am S (U.calling g mk a) := ⟨h.1, va_K.moved (u := U) (U := U.calling g mk a) (Vm.Alike.refl U.vm) h.2⟩
theorem m_pre (hK : va_K D vwCl (tyL dA) s) (hM : MP D dA am S H) {av : List Value} : PreV s H RX4 (am 0) (va_Pc (.ref (am 0) :: av) (mB D dA am S)) av :=
  ⟨fun a U g mk q => ⟨q.1, q.2.blind⟩, va_recv hK (hM.one (mw_0 dA am S)) (ci := 4) (q0 := 0) rfl rfl, fun U hU hW => ⟨rfl, by rw [← hU] at hM; exact hM, va_K.moved hW.alike hK⟩⟩
theorem m_cp (C0 : CallFix p m c cc nL s args lw_all own) (hK : va_K D vwCl (tyL dA) s) (hM : MP D dA am S H) {y : MethodName} {b : ByteArray} {L : Nat} {ret : Option FieldType} {rm : Room} {av : List Value} {post : Int32 → Prop} {idx : Nat} (hMet : mCp l y b L ret rm D dA am S av post) (n : Nat) (hg : GoodIn lw_all (wsV own idx RX4 y (ws_ y b L ret))) (hrc : rm.cells = 0) (hrs : rm.slots = 0)
    (hd0 : y.cls = RX4 ∧ y.cls ≠ "java/lang/invoke/MethodHandle" ∧ y.cls ≠ "java/lang/invoke/VarHandle" ∧ (parseMethodDescriptor y.desc).map (fun d => d.parameters.length) = some n) (hR : rm.frames + 1 ≤ R.frames ∧ 8 + (L + 11) + rm.locals ≤ R.locals) (hn : av.length = n) (hsz : ls.size = nL) {st0 : List Value} (hst : st0 = av.reverse ++ .ref (am 0) :: rest) (hrest : (rest.map fun v => v.category).sum ≤ 8) (hd : decode cc pc = .ok (.invokevirtual idx, 3)) (hf : cells + 0 ≤ R.cells ∧ slots + 0 ≤ R.slots)
    (kk : ∀ r : Int32, post r → W p l e R s m args below meth c H locs cells slots Q (F0 m (pc + 3) ls (.int r :: rest))) : W p l e R s m args below meth c H locs cells slots Q (F0 m pc ls st0) :=
  fw_cp (va_runV (As := av) (rest := rest) C0 hMet (cwV n C0.2.2.2.2 hg rfl hrc hrs hd0 hR) (m_pre hK hM) rfl hn hsz hst (lv_room hrest) hd hf) kk
theorem m_ci (C0 : CallFix p m c cc nL s args lw_all own) (hK : va_K D vwCl (tyL dA) s) (hM : MP D dA am S H) {A : Nat → Prop} (hS : va_S A H0 H locs) (hA : ∀ q, MA am q → A q) {y : MethodName} {b : ByteArray} {L : Nat} {ret : Option FieldType} {rm : Room} {av : List Value} {post : Int32 → St → Prop} {idx : Nat} (hMet : mCi l y b L ret rm D dA am S av post) (n : Nat) (hg : GoodIn lw_all (wsV own idx RX4 y (ws_ y b L ret))) (hrc : rm.cells = 0) (hrs : rm.slots = 0)
    (hd0 : y.cls = RX4 ∧ y.cls ≠ "java/lang/invoke/MethodHandle" ∧ y.cls ≠ "java/lang/invoke/VarHandle" ∧ (parseMethodDescriptor y.desc).map (fun d => d.parameters.length) = some n) (hR : rm.frames + 1 ≤ R.frames ∧ 8 + (L + 11) + rm.locals ≤ R.locals) (hn : av.length = n) (hsz : ls.size = nL) {st0 : List Value} (hst : st0 = av.reverse ++ .ref (am 0) :: rest) (hrest : (rest.map fun v => v.category).sum ≤ 8) (hd : decode cc pc = .ok (.invokevirtual idx, 3)) (hf : cells + 0 ≤ R.cells ∧ slots + 0 ≤ R.slots)
    (kk : ∀ (r : Int32) (S' : St) (H1 : Heap) (locs1 : List Loc), post r S' → MP D dA am S' H1 → va_S A H0 H1 locs1 → (∀ q : Nat, q < H.size → ¬ MA am q → H1[q]? = H[q]?) → W p l e R s m args below meth c H1 locs1 cells slots Q (F0 m (pc + 3) ls (.int r :: rest))) : W p l e R s m args below meth c H locs cells slots Q (F0 m pc ls st0) := by
  refine va_calli (va_runV (As := av) (rest := rest) C0 hMet (cwV n C0.2.2.2.2 hg rfl hrc hrs hd0 hR) (m_pre hK hM) rfl hn hsz hst (lv_room hrest) hd hf) hS (fun q _ h => hA q h) hA (fun r u t H1 locs1 ht hvm hw hB hz1 hk1 hS1 => ?_)
  rw [ht] at hB
  exact kk r u H1 locs1 hw hB hS1 hk1
theorem m_cv (C0 : CallFix p m c cc nL s args lw_all own) (hK : va_K D vwCl (tyL dA) s) (hM : MP D dA am S H) {A : Nat → Prop} (hS : va_S A H0 H locs) (hA : ∀ q, MA am q → A q) {y : MethodName} {b : ByteArray} {L : Nat} {rm : Room} {av : List Value} {post : St → Prop} {idx : Nat} (hMet : mCv l y b L rm D dA am S av post) (n : Nat) (hg : GoodIn lw_all (wsV own idx RX4 y (ws_ y b L none))) (hrc : rm.cells = 0) (hrs : rm.slots = 0)
    (hd0 : y.cls = RX4 ∧ y.cls ≠ "java/lang/invoke/MethodHandle" ∧ y.cls ≠ "java/lang/invoke/VarHandle" ∧ (parseMethodDescriptor y.desc).map (fun d => d.parameters.length) = some n) (hR : rm.frames + 1 ≤ R.frames ∧ 8 + (L + 11) + rm.locals ≤ R.locals) (hn : av.length = n) (hsz : ls.size = nL) {st0 : List Value} (hst : st0 = av.reverse ++ .ref (am 0) :: rest) (hrest : (rest.map fun v => v.category).sum ≤ 8) (hd : decode cc pc = .ok (.invokevirtual idx, 3)) (hf : cells + 0 ≤ R.cells ∧ slots + 0 ≤ R.slots)
    (kk : ∀ (S' : St) (H1 : Heap) (locs1 : List Loc), post S' → MP D dA am S' H1 → va_S A H0 H1 locs1 → W p l e R s m args below meth c H1 locs1 cells slots Q (F0 m (pc + 3) ls rest)) : W p l e R s m args below meth c H locs cells slots Q (F0 m pc ls st0) := by
  refine va_callv (va_runV (As := av) (rest := rest) C0 hMet (cwV n C0.2.2.2.2 hg rfl hrc hrs hd0 hR) (m_pre hK hM) rfl hn hsz hst (lv_room hrest) hd hf) hS (fun q _ h => hA q h) hA (fun u t H1 locs1 ht hvm hw hB hz1 hk1 hS1 => ?_)
  rw [ht] at hB
  exact kk u H1 locs1 hw hB hS1
/-- ends -/
theorem m_iret {post : Int32 → Prop} {v : Int32} {a : List Value} (C0 : CallFix p m c cc nL s a.toArray lw_all own) (hr : meth.sig.returnType = some .int) (hlk : meth.locks = false) (h : post v) (hd : decode cc pc = .ok (.ireturn, 1)) : W p l e R s m a.toArray below meth c s.heap [] 0 0 (MQ below (vp_Si post) a.toArray s 0 0 (fun _ => False)) (F0 m pc ls [.int v]) :=
  W.iret C0.1 C0.2.1 hr (fun t ht hW => ⟨v, rfl, h, ht⟩) (fun q hq => by cases hq) hd hlk
theorem m_zret {post : Int32 → Prop} {v : Int32} {a : List Value} (C0 : CallFix p m c cc nL s a.toArray lw_all own) (hr : meth.sig.returnType = some .boolean) (hlk : meth.locks = false) (hn : narrow .boolean (.int v) = .int v) (h : post v) (hd : decode cc pc = .ok (.ireturn, 1)) : W p l e R s m a.toArray below meth c s.heap [] 0 0 (MQ below (vp_Si post) a.toArray s 0 0 (fun _ => False)) (F0 m pc ls [.int v]) :=
  W.zret C0.1 C0.2.1 hr hn (fun t ht hW => ⟨v, rfl, h, ht⟩) (fun q hq => by cases hq) hd hlk
theorem m_iretS {post : Int32 → St → Prop} {v : Int32} {a : List Value} (C0 : CallFix p m c cc nL s a.toArray lw_all own) (hr : meth.sig.returnType = some .int) (hlk : meth.locks = false) (hM : MP D dA am S H) (hS : va_S (MA am) s.heap H locs) (h : post v S) (hd : decode cc pc = .ok (.ireturn, 1)) : W p l e R s m a.toArray below meth c H locs 0 0 (MQ below (va_Qi post (fun S' t => MP D dA am S' t.heap) (MA am)) a.toArray s 0 0 (MA am)) (F0 m pc ls [.int v]) :=
  W.iret C0.1 C0.2.1 hr (fun t ht hW => ⟨⟨v, S, rfl, h, by show MP D dA am S t.heap; rw [ht]; exact hM⟩, hS.F ht⟩) hS.2.2 hd hlk
theorem m_zretS {post : Int32 → St → Prop} {v : Int32} {a : List Value} (C0 : CallFix p m c cc nL s a.toArray lw_all own) (hr : meth.sig.returnType = some .boolean) (hlk : meth.locks = false) (hM : MP D dA am S H) (hS : va_S (MA am) s.heap H locs) (hn : narrow .boolean (.int v) = .int v) (h : post v S) (hd : decode cc pc = .ok (.ireturn, 1)) : W p l e R s m a.toArray below meth c H locs 0 0 (MQ below (va_Qi post (fun S' t => MP D dA am S' t.heap) (MA am)) a.toArray s 0 0 (MA am)) (F0 m pc ls [.int v]) :=
  W.zret C0.1 C0.2.1 hr hn (fun t ht hW => ⟨⟨v, S, rfl, h, by show MP D dA am S t.heap; rw [ht]; exact hM⟩, hS.F ht⟩) hS.2.2 hd hlk
theorem m_vretS {post : St → Prop} {a : List Value} (C0 : CallFix p m c cc nL s a.toArray lw_all own) (hr : meth.sig.returnType = none) (hlk : meth.locks = false) (hM : MP D dA am S H) (hS : va_S (MA am) s.heap H locs) (h : post S) (hd : decode cc pc = .ok (.return_, 1)) : W p l e R s m a.toArray below meth c H locs 0 0 (MQ below (va_Qv post (fun S' t => MP D dA am S' t.heap) (MA am)) a.toArray s 0 0 (MA am)) (F0 m pc ls []) :=
  W.vret C0.1 C0.2.1 hr (fun t ht hW => ⟨⟨S, rfl, h, by show MP D dA am S t.heap; rw [ht]; exact hM⟩, hS.F ht⟩) hS.2.2 hd hlk
end MR
section MR2
variable {p : Program} {l : Launch} {e : Env} {R : Room} {s : State} {m : MethodId} {args : Array Value} {below : List Frame} {meth : Method} {c : Code} {H : Heap} {locs : List Loc} {cells slots : Nat} {Q : State → Prop}
/-- a loop that leaves the heap as it is -/
theorem W_loopP (N : Nat) (I : Nat → Array Slot → Prop) (pc : Nat)
    (exit : ∀ ls, I N ls → W p l e R s m args below meth c H locs cells slots Q (F0 m pc ls []))
    (body : ∀ i ls, i < N → I i ls → (∀ ls', I (i + 1) ls' → W p l e R s m args below meth c H locs cells slots Q (F0 m pc ls' [])) → W p l e R s m args below meth c H locs cells slots Q (F0 m pc ls [])) :
    ∀ i ls, i ≤ N → I i ls → W p l e R s m args below meth c H locs cells slots Q (F0 m pc ls []) := by
  have key : ∀ d i ls, N - i = d → i ≤ N → I i ls → W p l e R s m args below meth c H locs cells slots Q (F0 m pc ls []) := by
    intro d
    induction d with
    | zero =>
      intro i ls hd hi hI
      have : i = N := by omega
      subst this
      exact exit ls hI
    | succ d ih =>
      intro i ls hd hi hI
      exact body i ls (by omega) hI (fun ls' hI' => ih (i + 1) ls' (by omega) (by omega) hI')
  exact fun i ls hi hI => key _ i ls rfl hi hI
end MR2
section MR3
variable {p : Program} {l : Launch} {e : Env} {R : Room} {s : State} {m : MethodId} {args : Array Value} {below : List Frame} {meth : Method} {c : Code} {H : Heap} {locs : List Loc} {cells slots : Nat} {Q : State → Prop} {pc : Nat} {ls : Array Slot} {st : List Value}
/-- two roads meet with a number on the stack -/
theorem jn_i (pc' : Nat) (rest' : List Value) (P : Int32 → Prop) (J : ∀ v, P v → W p l e R s m args below meth c H locs cells slots Q (F0 m pc' ls (.int v :: rest')))
    (K : (∀ v, P v → W p l e R s m args below meth c H locs cells slots Q (F0 m pc' ls (.int v :: rest'))) → W p l e R s m args below meth c H locs cells slots Q (F0 m pc ls st)) : W p l e R s m args below meth c H locs cells slots Q (F0 m pc ls st) := K J
/-- two roads meet -/
theorem jn (pc' : Nat) (I : Heap → List Loc → Array Slot → Prop) (J : ∀ H' locs' ls', I H' locs' ls' → W p l e R s m args below meth c H' locs' cells slots Q (F0 m pc' ls' []))
    (K : (∀ H' locs' ls', I H' locs' ls' → W p l e R s m args below meth c H' locs' cells slots Q (F0 m pc' ls' [])) → W p l e R s m args below meth c H locs cells slots Q (F0 m pc ls st)) : W p l e R s m args below meth c H locs cells slots Q (F0 m pc ls st) := K J
/-- .. the heap as it was -/
theorem jnP (pc' : Nat) (I : Array Slot → Prop) (J : ∀ ls', I ls' → W p l e R s m args below meth c H locs cells slots Q (F0 m pc' ls' []))
    (K : (∀ ls', I ls' → W p l e R s m args below meth c H locs cells slots Q (F0 m pc' ls' [])) → W p l e R s m args below meth c H locs cells slots Q (F0 m pc ls st)) : W p l e R s m args below meth c H locs cells slots Q (F0 m pc ls st) := K J
/-- the frame by its number -/
theorem at_pc (pc' : Nat) (h : pc = pc') (k : W p l e R s m args below meth c H locs cells slots Q (F0 m pc' ls st)) : W p l e R s m args below meth c H locs cells slots Q (F0 m pc ls st) := h ▸ k
end MR3
