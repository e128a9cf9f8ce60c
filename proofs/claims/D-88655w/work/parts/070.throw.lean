/-! LAYER 3: methods that may throw, and methods that catch -/
set_option maxRecDepth 100000
set_option linter.unusedVariables false
/-- the state behind a call that answered or threw -/
def TE (first t : State) (L : List Loc) (k n : Nat) : Prop := first.WarmedH t.vm ∧ first.sameButNew ({ t with vm := first.vm } : State) L k n
/-- a contract whose outcome may be a throw -/
def MetT (l : Launch) (y : MethodName) (ws : List Cond) (rm : Room) (Pc : Array Value → State → Prop) (Qc : Array Value → State → Outcome → State → Prop) (mc ms : Nat) (free : Addr → Prop) : Prop :=
  MetFree l y (headSpec ws rm) Pc (fun _ _ _ _ _ => True) (fun a st o t => Qc a st o t ∧ ∃ L, TE st t L mc ms ∧ ∀ q ∈ L, free q.base)
def MQT (below : List Frame) (Qc : Array Value → State → Outcome → State → Prop) (a : Array Value) (s : State) (mc ms : Nat) (free : Addr → Prop) : State → Prop := fun t =>
  ∃ o, t.status = .running ∧ Ended t below o ∧ Qc a s o t ∧ ∃ L, TE s t L mc ms ∧ ∀ q ∈ L, free q.base
theorem MQ.toT {below : List Frame} {Qc : Array Value → State → Outcome → State → Prop} {a : Array Value} {s : State} {mc ms : Nat} {free : Addr → Prop} {t : State} (h : MQ below Qc a s mc ms free t) : MQT below Qc a s mc ms free t := by
  obtain ⟨o, h1, h2, h3, L, h4, h5⟩ := h
  exact ⟨o, h1, h2, h3, L, h4.2, h5⟩
theorem tw_frames (u : State) (v : Vm) (F G : List Frame) : ((u.setFrames F).setVm v).setFrames G = (u.setVm v).setFrames G := (State.setFrames_setFrames (u.setVm v) F G)
section TW
variable {p : Program} {l : Launch} {e : Env} {R : Room} {s : State} {m : MethodId} {args : Array Value} {below : List Frame} {meth : Method} {c : Code} {H : Heap} {locs : List Loc} {cells slots : Nat} {Q : State → Prop}
theorem W.mono {Q' : State → Prop} {g : JFrame} (h : ∀ t, Q t → Q' t) (k : W p l e R s m args below meth c H locs cells slots Q g) : W p l e R s m args below meth c H locs cells slots Q' g := by
  intro T hT X
  obtain ⟨t, h1, h2⟩ := k T hT X
  exact ⟨t, h1, h t h2⟩
theorem MetT.ofW {y : MethodName} {ws ws' : List Cond} {rm : Room} {Pc : Array Value → State → Prop} {Qc : Array Value → State → Outcome → State → Prop} {mc ms : Nat} {free : Addr → Prop} {cc : ByteArray} {maxL : Nat} {ret : Option FieldType}
    (hy : plainName y.cls = true) (hw : ws = Cond.code y cc maxL ret :: ws')
    (body : ∀ p e s m args below meth c s₁, BodyLoose p l y (headSpec ws rm) cc maxL ret e s m args below meth c s₁ → c.maxLocals = maxL → Pc args s →
      W p l e (headSpec ws rm).room s m args below meth c s.heap [] 0 0 (MQT below Qc args s mc ms free) (entryFrame m args maxL)) : MetT l y ws rm Pc Qc mc ms free := by
  refine MetFree.of_bodyS (code := cc) (maxLocals := maxL) (ret := ret) hy ?_ ?_
  · intro args s m h hn
    obtain ⟨meth, c, h1, h2, h3, h4, h5, h6, -, -⟩ := Cond.code_spec hn (atoms_spec (ws := ws) h _ (by rw [hw]; exact List.mem_cons_self))
    exact ⟨meth, c, h1, h2, h3, h4, h5, h6⟩
  · intro p e s m args below meth c s₁ B hml hP _
    obtain ⟨t, a1, o, b1, b2, b3⟩ := body p e s m args below meth c s₁ B hml hP s₁ (by rw [B.state]; rfl) (Stand.of_body B)
    exact ⟨t, o, a1, b1, b2, ⟨b3.1, b3.2⟩⟩
/-- a method without handlers: its table is empty -/
theorem tw_none {y : MethodName} {ws ws' : List Cond} {rm : Room} {cc : ByteArray} {maxL : Nat} {ret : Option FieldType} {s₁ : State} (hw : ws = Cond.code y cc maxL ret :: ws') (B : BodyLoose p l y (headSpec ws rm) cc maxL ret e s m args below meth c s₁) : c.exceptionTable.toList = [] := by
  obtain ⟨meth', c', h1, h2, -, -, -, -, h3, -⟩ := Cond.code_spec B.named (atoms_spec (ws := ws) B.pre _ (by rw [hw]; exact List.mem_cons_self))
  have h4 := (Stand.of_body B).code
  cases B.method.symm.trans h1
  cases h4.symm.trans h2
  have h5 : c.exceptionTable.size = 0 := by simpa [Array.isEmpty] using h3
  exact List.eq_nil_of_length_eq_zero (by simpa using h5)
/-- .. with handlers: its table is the word's -/
theorem tw_table {y : MethodName} {ws ws' : List Cond} {rm : Room} {cc : ByteArray} {maxL : Nat} {ret : Option FieldType} {s₁ : State} {hh : List (Nat × Nat × Nat × Nat)} (hw : ws = Cond.codeWith y cc maxL ret hh :: ws') (B : BodyLoose p l y (headSpec ws rm) cc maxL ret e s m args below meth c s₁) : c.exceptionTable.toList.map (fun h => (h.startPc, h.endPc, h.handlerPc, h.catchType)) = hh := by
  obtain ⟨m', meth', c', h0, h1, h2, -, -, h3, -⟩ := Cond.codeWith_spec (atoms_spec (ws := ws) B.pre _ (by rw [hw]; exact List.mem_cons_self))
  have h4 := (Stand.of_body B).code
  cases B.named.symm.trans h0
  cases B.method.symm.trans h1
  cases h4.symm.trans h2
  exact h3
/-- athrow out of the method -/
theorem W.thr {cc : ByteArray} {Qc : Array Value → State → Outcome → State → Prop} {free : Addr → Prop} {a : Addr} {rest : List Value} {pc : Nat} {ls : Array Slot} (hexec : p.tables.exec = Jvm.exec) (hb : c.code = cc) (hx : c.exceptionTable.toList = []) (hlk : meth.locks = false)
    (hq : ∀ t : State, t.heap = H → s.WarmedH t.vm → Qc args s (.threw a) t) (hf : ∀ q ∈ locs, free q.base) (hd : decode cc pc = .ok (.athrow, 1)) : W p l e R s m args below meth c H locs cells slots (MQT below Qc args s cells slots free) (F0 m pc ls (.ref a :: rest)) := by
  intro T hT X
  obtain ⟨h1, h2, h3, h4, h5⟩ := X.athrowLeaves hexec (g := F0 m pc ls (.ref a :: rest)) rfl rfl rfl (fun x h => by rw [hx] at h; cases h) (a := a) (rest := rest) rfl (by rw [hb]; exact hd) hlk
  exact ⟨_, h1, .threw a, h2, h3, hq _ hT h4, locs, ⟨h4, h5⟩, hf⟩
/-- the table's first entry that covers the place -/
def Tb (c : Code) (pc : Nat) (x : ExceptionTableEntry) : Prop := ∃ px qx, c.exceptionTable.toList = px ++ x :: qx ∧ ∀ y ∈ px, covers y pc = false
/-- the search in a table whose first entry that covers the place is x: its class is linked, cold or warm -/
theorem tw_search {f : JFrame} {a : Addr} {x : ExceptionTableEntry} {k : ClassId} {cell : Cell} (hm : s.vm.method? f.method = some meth) (hc : meth.code = some c) (ht : Tb c f.pc x) (hx : covers x f.pc = true) (h0 : x.catchType ≠ 0)
    (hl : s.vm.ClassLinks e.platform f.method.cls x.catchType k) (hcell : s.heap[a]? = some cell) (hobj : cell.vm.isStatics = false) (hfit : s.vm.assignable cell.cls k = true) (hk : ∃ K, s.vm.classes[k]? = some K)
    (P : Handler → Pre) (E : CtlPost) (d : Bool) (acts : List Action) : wp (findHandler f a) P E e d acts s ↔ P (.found x.handlerPc) d acts (s.setVm (s.vm.noted f.method.cls x.catchType (.cls k))) := by
  obtain ⟨px, qx, ht, hpx⟩ := ht
  rw [W.findHandler_eq hm hc, ht]
  have skip : ∀ (px : List ExceptionTableEntry), (∀ y ∈ px, covers y f.pc = false) → (wp (findHandler.go f a (px ++ x :: qx)) P E e d acts s ↔ wp (findHandler.go f a (x :: qx)) P E e d acts s) := by
    intro px
    induction px with
    | nil => intro _; exact Iff.rfl
    | cons z t ih =>
      intro h
      rw [List.cons_append, W.findHandler_go_skip (h z (List.mem_cons_self ..))]
      exact ih (fun y hy => h y (List.mem_cons_of_mem _ hy))
  rw [skip px hpx]
  obtain ⟨g1, g2⟩ := (resolveClass_links e.toSetting hl).op (op := VmOp.resolveClass f.method.cls x.catchType) rfl
  have al : s.vm.Alike (s.vm.noted f.method.cls x.catchType (.cls k)) := Vm.Alike.noted (Vm.Alike.refl s.vm) _ _ _
  obtain ⟨K1, e1⟩ := Vm.classAt_of_assignable hfit hk
  obtain ⟨K2, e2⟩ := hk
  obtain ⟨K1', e1', -⟩ := al.2.2 _ _ e1
  obtain ⟨K2', e2', -⟩ := al.2.2 _ _ e2
  have fit' : (s.vm.noted f.method.cls x.catchType (.cls k)).assignable cell.cls k = true := by rw [al.assignable, hfit]
  have hst : ∀ q, cell.vm ≠ .statics q := fun q z => by rw [z] at hobj; cases hobj
  simp only [covers] at hx
  simp [findHandler.go, hx, h0, g1, g2, hcell, hst, e1', e2', fit', VmOp.dirties, VmOp.acts]
/-- the note over the method's frame: the walk goes on at the handler -/
theorem tw_caught {T : State} (X : Stand p l e R s m args below meth c T locs cells slots) {a : Addr} {g : JFrame} (hg : g.method = m) {own C : String} (hown : s.vm.findClass own = some m.cls) {x : ExceptionTableEntry} (ht : Tb c g.pc x) (hx : covers x g.pc = true) (h0 : x.catchType ≠ 0) (hlink : (Cond.classLink own x.catchType C).before args s = true)
    {cell : Cell} (hcell : T.heap[a]? = some cell) (hobj : cell.vm.isStatics = false) (hC : s.vm.findClass C = some cell.cls) :
    ∃ vm', Stand p l e R s m args below meth c (T.setVm vm') locs cells slots ∧ ∀ target, Steps p.tables e below ((T.setVm vm').setTop { g with pc := x.handlerPc, stack := [.ref a] }) target → Steps p.tables e below ((T.setTop g).pushFrame (.throwing a)) target := by
  subst hg
  obtain ⟨k, h1, h2⟩ := Cond.classLink_spec hown hlink e.platform (by rw [X.admits.platform])
  have hk : k = cell.cls := Option.some.inj (h1.symm.trans hC)
  subst hk
  obtain ⟨dk, _, _, kt, hd, _, _, _, _, hkt, _, hopen⟩ := h2.here
  have al := X.warmed.alike
  obtain ⟨kt', hkt', -⟩ := al.2.2 _ _ hkt
  have hfit : T.vm.assignable cell.cls cell.cls = true := by
    show T.vm.assignableAux (255 + 1) cell.cls cell.cls = true
    rw [Vm.assignableAux]
    simp
  have hW : s.WarmedH (T.vm.noted g.method.cls x.catchType (.cls cell.cls)) := X.warmed.noted hd hopen (State.rightAt_cls h2)
  refine ⟨_, X.noted hW, fun target hrest => ?_⟩
  obtain ⟨hgo, hw⟩ := X.here.throwing a
  refine Steps.head hgo hw ?_
  obtain ⟨g₀, hfr⟩ := X.frames_eq
  have find := tw_search (e := e) (s := (T.setTop g).pushFrame (.throwing a)) (f := g) (a := a) (meth := meth) (c := c) X.method' X.code ht hx h0 (X.warmed.classLinks h2) hcell hobj hfit ⟨kt', hkt'⟩
  have step : (stepThrowing e ((T.setTop g).pushFrame (.throwing a)) a (.java g :: below)).Is ((((T.setTop g).pushFrame (.throwing a)).setVm (T.vm.noted g.method.cls x.catchType (.cls cell.cls))).setFrames (.java { g with pc := x.handlerPc, stack := [.ref a] } :: below)) [] := by
    simp only [stepThrowing, searchFrame, vmDo]
    generalize hr : Sem.go _ e false [] ((T.setTop g).pushFrame (.throwing a)) = res
    obtain ⟨as, rfl, has⟩ := Sem.eq_ok_of hr (a := Handler.found x.handlerPc) (s' := ((T.setTop g).pushFrame (.throwing a)).setVm (T.vm.noted g.method.cls x.catchType (.cls cell.cls))) (acts' := []) (by simp [find]; rfl)
    exact ⟨rfl, has⟩
  rw [stepThread_throwing (frames_entered X.here.top _), X.tail, step.1]
  have hfr' : (T.setVm (T.vm.noted g.method.cls x.catchType (.cls cell.cls))).frames = .java g₀ :: below := hfr
  rw [State.setTop_of_frames _ hfr'] at hrest
  have e9 : (((T.setTop g).pushFrame (.throwing a)).setVm (T.vm.noted g.method.cls x.catchType (.cls cell.cls))).setFrames (.java { g with pc := x.handlerPc, stack := [.ref a] } :: below) = (T.setVm (T.vm.noted g.method.cls x.catchType (.cls cell.cls))).setFrames (.java { g with pc := x.handlerPc, stack := [.ref a] } :: below) := by
    rw [State.pushFrame, State.setTop_of_frames _ hfr, State.setFrames_setFrames]
    exact tw_frames T _ _ _
  rw [e9]
  exact hrest
/-- athrow in a method that catches it -/
theorem W.thrC {cc : ByteArray} {a : Addr} {rest : List Value} {pc : Nat} {ls : Array Slot} {own C : String} {x : ExceptionTableEntry} {cell : Cell} (hexec : p.tables.exec = Jvm.exec) (hb : c.code = cc) (hown : s.vm.findClass own = some m.cls) (ht : Tb c pc x) (hx : covers x pc = true) (h0 : x.catchType ≠ 0) (hlink : (Cond.classLink own x.catchType C).before args s = true)
    (hcell : H[a]? = some cell) (hobj : cell.vm.isStatics = false) (hC : s.vm.findClass C = some cell.cls) (hd : decode cc pc = .ok (.athrow, 1))
    (kk : W p l e R s m args below meth c H locs cells slots Q (F0 m x.handlerPc ls [.ref a])) : W p l e R s m args below meth c H locs cells slots Q (F0 m pc ls (.ref a :: rest)) := by
  intro T hT X
  obtain ⟨vm', X', st⟩ := tw_caught X (g := F0 m pc ls rest) rfl hown ht hx h0 hlink (by rw [hT]; exact hcell) hobj hC
  obtain ⟨t, a1, b1⟩ := kk (T.setVm vm') hT X'
  refine ⟨t, ?_, b1⟩
  have h9 := st t a1
  jvm_step X.here [hexec, hb, hd, athrow.wp_sem]
  exact h9
variable {y : MethodName} {bytes cc : ByteArray} {maxL nL mc ms n index : Nat} {ret : Option FieldType} {ws : List Cond} {rm : Room} {Pc : Array Value → State → Prop} {Qc : Array Value → State → Outcome → State → Prop} {free : Addr → Prop} {Ts : List Cond} {own C : String} {b : Addr} {As rest : List Value} {g : JFrame}
/-- the call of a method that may throw, from the machine's own step on -/
theorem tw_go {T : State} (X : Stand p l e R s m args below meth c T locs cells slots) (hM : MetT l y ws rm Pc Qc mc ms free) (hbl : FrameBlind Pc) (hrc : rm.cells = mc) (hrs : rm.slots = ms) (hfr : rm.frames + 1 ≤ R.frames) (hlo : 8 + (maxL + 11) + rm.locals ≤ R.locals) (hws : ∀ w ∈ ws, ∀ (a' : Array Value) (U : State), s.WarmedH U.vm → w.before a' U = true) (hcode : Cond.code y bytes maxL ret ∈ ws) (hini : (Cond.initialized y.cls).before args s = true)
    {g : JFrame} (hg : g.method = m) (hsize : g.locals.size = c.maxLocals) {ig : Instr} {len : Nat} (hdg : decode c.code g.pc = .ok (ig, len)) (hW : 2 * g.monitorRoom + (g.stack.map fun v => v.category).sum ≤ 8) {mk : MethodId} (hn : T.methodNamed? y = some mk) {a : Array Value} (hf : cells + mc ≤ R.cells ∧ slots + ms ≤ R.slots) (hP : Pc a T) :
    ∃ (st₀ t T' : State) (L : List Loc) (o : Outcome), st₀.heap = T.heap ∧ Stand p l e R s m args below meth c T' (locs ++ L) (cells + mc) (slots + ms) ∧ (∀ q ∈ L, free q.base) ∧ T'.heap = t.heap ∧ Qc a st₀ o t ∧
      ((∃ v, o = .returned v ∧ Steps p.tables e below (doInvoke e (T.setTop g) [] mk a).1 (T'.setTop { g with pc := g.pc + len, stack := v.toList ++ g.stack })) ∨ ∃ x, o = .threw x ∧ Steps p.tables e below (doInvoke e (T.setTop g) [] mk a).1 ((T'.setTop g).pushFrame (.throwing x))) := by
  have hcb := hws _ hcode a T X.warmed
  obtain ⟨methY, cY, hmY, hcY, -, hlY, -, -, -, -⟩ := Cond.code_spec hn hcb
  obtain ⟨kY, hkY, -⟩ := className_of_methodNamed hn
  have hiT : (Cond.initialized y.cls).before a T = true := word_at X.warmed (Or.inl (by first | rfl | simp [Cond.onTables, Cond.keeps, Cond.steady])) hini
  have hi : kY.init = .initialized := Cond.initialized_spec (findClass_of_methodNamed hn) hkY hiT
  have hAt : At T g.method c below := by rw [hg]; exact X.here
  have happ : (headSpec ws rm).appliesLoose y e.platform (T.calling g mk a) = true :=
    Spec.appliesLoose_calling (g := g) hAt hdg hn hkY hi (X.room_calling (g := g) (R' := rm) hsize hmY hcY hfr (by rw [hlY]; omega) (by rw [hrc]; exact hf.1) (by rw [hrs]; exact hf.2)) (atoms_intro fun w hw => hws w hw _ _ X.warmed)
  have hfr0 : (T.setTop g).frames = .java g :: below := by rw [State.frames_setTop' g hAt.top, X.tail]
  obtain ⟨o, t, hsteps, -, hend, hq, L, ⟨hWt, hsame⟩, hL⟩ := Steps.callFree hM p X.admits X.cas X.clock (acts := []) (mid := [.java g]) (below := below) (s := T.setTop g) (m := mk) (args := a) (by rw [hfr0]; rfl) happ (hbl a T g mk hP) trivial
  rw [hfr0] at hend
  cases o with
  | returned v =>
    obtain ⟨T', X', -, -, rfl⟩ := X.outOf hg hdg hend hWt hsame
    exact ⟨T.calling g mk a, T'.setTop { g with pc := g.pc + len, stack := v.toList ++ g.stack }, T', L, .returned v, rfl, X', hL, rfl, hq, Or.inl ⟨v, rfl, hsteps⟩⟩
  | threw x =>
    obtain ⟨T', X', -, -, rfl⟩ := X.outOfThrown hg hend hWt hsame
    exact ⟨T.calling g mk a, (T'.setTop g).pushFrame (.throwing x), T', L, .threw x, rfl, X', hL, rfl, hq, Or.inr ⟨x, rfl, hsteps⟩⟩
/-- invokevirtual of a method that may throw, in a method that catches it -/
theorem tw_call (S : CallFix p m c cc nL s args Ts own) (hM : MetT l y ws rm Pc Qc mc ms free) (cw : CallW R s args own C index y bytes maxL ret ws rm mc ms n) (hp : PreV s H C b Pc As) {pc : Nat} {ls : Array Slot}
    (hn : As.length = n) (hsize : ls.size = nL) {st0 : List Value} (hst : st0 = As.reverse ++ .ref b :: rest) (hW : (rest.map fun v => v.category).sum ≤ 8) (hdg : decode cc pc = .ok (.invokevirtual index, 3)) (hf : cells + mc ≤ R.cells ∧ slots + ms ≤ R.slots)
    {x : ExceptionTableEntry} {E : String} (ht : Tb c pc x) (hx : covers x pc = true) (h0 : x.catchType ≠ 0) (hlink : (Cond.classLink own x.catchType E).before args s = true)
    (hE : ∀ (a : Addr) (st t : State), Qc (Value.ref b :: As).toArray st (.threw a) t → ∃ cell : Cell, t.heap[a]? = some cell ∧ cell.vm.isStatics = false ∧ s.vm.findClass E = some cell.cls)
    (kr : ∀ (v : Option Value) (st t : State) (L : List Loc), st.heap = H → (∀ q ∈ L, free q.base) → Qc (Value.ref b :: As).toArray st (.returned v) t → W p l e R s m args below meth c t.heap (locs ++ L) (cells + mc) (slots + ms) Q (F0 m (pc + 3) ls (v.toList ++ rest)))
    (kt : ∀ (a : Addr) (st t : State) (L : List Loc), st.heap = H → (∀ q ∈ L, free q.base) → Qc (Value.ref b :: As).toArray st (.threw a) t → W p l e R s m args below meth c t.heap (locs ++ L) (cells + mc) (slots + ms) Q (F0 m x.handlerPc ls [.ref a])) :
    W p l e R s m args below meth c H locs cells slots Q (F0 m pc ls st0) := by
  obtain ⟨⟨hrc, hrs, hfr, hlo, hws, hcw, hcode, hini, hy, hlen, hl⟩, hin, hse⟩ := cw
  obtain ⟨hxe, hb, hml, ho, -⟩ := S
  obtain ⟨hbl, ⟨cellB, hcB, hoB, hclB⟩, hPc⟩ := hp
  subst hst
  intro T hT X
  obtain ⟨mk, methM, hnamed, hmethM, hstM, habM⟩ := Cond.instanceMethod_spec hin
  obtain ⟨methM', cM, hmethM', -, -, -, -, -, -, hsigM⟩ := Cond.code_spec hnamed hcode
  cases hmethM.symm.trans hmethM'
  obtain ⟨c2, r2, m2, q1, q2, q3, q4, kP, hkP, hkPi⟩ := Cond.selects_spec hse
  cases hclB.symm.trans q1
  cases (State.methodFound?_of_named hnamed hy).symm.trans q2
  cases hnamed.symm.trans q3
  have hselP : selectMethod e.platform s.vm cellB.cls mk = .method mk := by rw [Launch.admits_selectMethod X.admits]; exact q4
  obtain ⟨vm₁, X₁, hstep₁⟩ := X.invokevirtual hxe ho hl hnamed hmethM hstM hkP hkPi hy (a := b) (cell := cellB) (by rw [hT]; exact hcB)
    (fun z h => by rw [h] at hoB; cases hoB) hselP hmethM habM hkP hkPi (g := F0 m pc ls (As.reverse ++ .ref b :: rest)) rfl (argsL := As) (rest := rest) (hn.trans (hlen _ hsigM)) rfl (by rw [hb]; exact hdg)
  obtain ⟨st, t, T', L, o, e0, X', hL, e1, hq, hs⟩ := tw_go X₁ (g := F0 m pc ls rest) (a := (Value.ref b :: As).toArray) hM hbl hrc hrs hfr hlo hws hcw hini rfl (hsize.trans hml.symm) (by rw [hb]; exact hdg) (by simpa [JFrame.monitorRoom] using hW) (X₁.named hnamed) hf (hPc (T.setVm vm₁) hT X₁.warmed)
  rcases hs with ⟨v, rfl, hs⟩ | ⟨z, rfl, hs⟩
  · obtain ⟨t9, a9, b9⟩ := kr v st t L (e0.trans hT) hL hq T' e1 X'
    exact ⟨t9, hstep₁ _ fun acts => by rw [doInvoke_state]; exact hs.trans a9, b9⟩
  · obtain ⟨cell, z1, z2, z3⟩ := hE z st t hq
    obtain ⟨vm', X'', st''⟩ := tw_caught X' (g := F0 m pc ls rest) rfl ho ht hx h0 hlink (by rw [e1]; exact z1) z2 z3
    obtain ⟨t9, a9, b9⟩ := kt z st t L (e0.trans hT) hL hq (T'.setVm vm') e1 X''
    exact ⟨t9, hstep₁ _ fun acts => by rw [doInvoke_state]; exact hs.trans (st'' t9 a9), b9⟩
/-- invokevirtual of a method with handlers -/
theorem tw_runVW (S : CallFix p m c cc nL s args Ts own) {ws' : List Cond} {hh : List (Nat × Nat × Nat × Nat)} (hM : Met l y ws rm Pc Qc mc ms free) (n : Nat) (hT : GoodIn Ts (wsV own index C y ws)) (hw : ws = Cond.codeWith y bytes maxL ret hh :: ws') (hrc : rm.cells = mc) (hrs : rm.slots = ms)
    (hd : y.cls = C ∧ y.cls ≠ "java/lang/invoke/MethodHandle" ∧ y.cls ≠ "java/lang/invoke/VarHandle" ∧ (parseMethodDescriptor y.desc).map (fun d => d.parameters.length) = some n) (hR : rm.frames + 1 ≤ R.frames ∧ 8 + (maxL + 11) + rm.locals ≤ R.locals) (hp : PreV s H C b Pc As)
    (hg : g.method = m) (hn : As.length = n) (hsize : g.locals.size = nL) (hstack : g.stack = As.reverse ++ .ref b :: rest) (hW : 2 * g.monitorRoom + (rest.map fun v => v.category).sum ≤ 8) (hdg : decode cc g.pc = .ok (.invokevirtual index, 3)) (hf : cells + mc ≤ R.cells ∧ slots + ms ≤ R.slots) :
    va_Run p l e R s m args below meth c H locs cells slots mc ms g rest (Qc (Value.ref b :: As).toArray) free := by
  obtain ⟨hx, hb, hml, ho, hts⟩ := S
  obtain ⟨hC, hy1, hy2, hpar⟩ := hd
  subst hC
  have ok : ∀ w ∈ wsV own index y.cls y ws, w.before args s = true := fun w h => hts w (hT w h).1
  have hG : GoodIn Ts ws := fun w h => hT w (by unfold wsV; exact List.mem_append_right _ h)
  have hcw : Cond.codeWith y bytes maxL ret hh ∈ ws := by rw [hw]; exact List.mem_cons_self
  have hl : (Cond.methodLink own index y).before args s = true := ok _ (by simp [wsV])
  have hin : (Cond.instanceMethod y).before args s = true := ok _ (by simp [wsV])
  have hse : (Cond.selects y.cls y y).before args s = true := ok _ (by simp [wsV])
  have hini : (Cond.initialized y.cls).before args s = true := ok _ (by simp [wsV])
  have hK : Back l R p e below s args y 3 8 (PreOf R mc ms Pc) (PostOf Qc mc ms free) := va_backW (hh := hh) (bytes := bytes) (maxL := maxL) (ret := ret) hM hp.1 hrc hrs hR.1 hR.2 (pay_in hts hG) hcw (fun a' U hW => word_at hW (Or.inl (by first | rfl | simp [Cond.onTables, Cond.keeps, Cond.steady])) hini)
  obtain ⟨hbl, ⟨cellB, hcB, hoB, hclB⟩, hPc⟩ := hp
  intro T hT X
  obtain ⟨mk, methM, hnamed, hmethM, hstM, habM⟩ := Cond.instanceMethod_spec hin
  obtain ⟨mk', methM', cM, hnamed', hmethM', -, -, -, -, -, -, hsigM⟩ := Cond.codeWith_spec (hts _ (hG _ hcw).1)
  cases hnamed.symm.trans hnamed'
  cases hmethM.symm.trans hmethM'
  obtain ⟨c2, r2, m2, q1, q2, q3, q4, kP, hkP, hkPi⟩ := Cond.selects_spec hse
  cases hclB.symm.trans q1
  cases (State.methodFound?_of_named hnamed ⟨hy1, hy2⟩).symm.trans q2
  cases hnamed.symm.trans q3
  have hselP : selectMethod e.platform s.vm cellB.cls mk = .method mk := by rw [Launch.admits_selectMethod X.admits]; exact q4
  have hlen : n = methM.sig.parameters.length := by
    rw [hsigM] at hpar
    exact (Option.some.inj hpar).symm
  obtain ⟨vm₁, X₁, hstep₁⟩ := X.invokevirtual hx ho hl hnamed hmethM hstM hkP hkPi ⟨hy1, hy2⟩ (a := b) (cell := cellB) (by rw [hT]; exact hcB)
    (fun z h => by rw [h] at hoB; cases hoB) hselP hmethM habM hkP hkPi (g := g) hg (argsL := As) (rest := rest) (hn.trans hlen) hstack (by rw [hb]; exact hdg)
  obtain ⟨v, ⟨U', l2, c2, s2⟩, X', ⟨g', mk2, t, L, e1, e2, hq, h1, hL, h2, h3⟩, hsteps⟩ := hK m meth c ⟨T.setVm vm₁, locs, cells, slots⟩ { g with stack := rest } (.invokevirtual index) mk (Value.ref b :: As).toArray X₁ hg (hsize.trans hml.symm) (by rw [hb]; exact hdg) hW (X₁.named hnamed) ⟨hf.1, hf.2, hPc (T.setVm vm₁) hT X₁.warmed⟩
  dsimp only [Pt.U, Pt.locs, Pt.cells, Pt.slots] at X' e1 e2 h1 h2 h3 hsteps
  subst h1; subst h2; subst h3
  exact ⟨v, (T.setVm vm₁).calling g' mk2 (Value.ref b :: As).toArray, t, U', L, hT, X', hL, e1, e2, hq, fun target h => hstep₁ _ fun acts => by rw [doInvoke_state]; exact hsteps.trans h⟩
end TW
