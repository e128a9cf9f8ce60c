/-! LAYER 1: states by name and place; worlds by name: every cell that a method can reach has a number (its name); rows over such worlds -/
set_option maxRecDepth 100000
set_option linter.unusedVariables false
def TX1 : u_T := fun _ => ("", "", "", false)
def tyX1 : Nat → FieldType := fun _ => .int
theorem nmX1 : ∀ a, a < 0 → ∀ b, b < 0 → a ≠ b → (TX1 a).2.1 ≠ (TX1 b).2.1 := fun a h => absurd h (Nat.not_lt_zero a)
theorem tyX1_ok : ∀ k, k < 0 → parseFieldDescriptor (TX1 k).2.2.1 = some (tyX1 k) := fun a h => absurd h (Nat.not_lt_zero a)
theorem in_X1 : ∀ w ∈ u_ws RX1 TX1 0, w ∈ lw_all := fun w h => by simp [u_ws] at h
/-- the classes whose objects the worlds hold: the number of a class is that of its names' file -/
abbrev vwCl : List vw_C := [(RX0, TX0, 23), (RX1, TX1, 0), (RX2, TX2, 2), (RX3, TX3, 3), (RX4, TX4, 32), (RX5, TX5, 1), (RX6, TX6, 7), (RX7, TX7, 8), (RX8, TX8, 1), (RX9, TX9, 1), (RX10, TX10, 1)]
/-- the array classes -/
def tyL (dA : Nat → ClassId) : List (ClassId × FieldType) := [(dA 0, .int), (dA 1, .boolean), (dA 2, .object "CamFigures$Cam"), (dA 3, .object "CamFigures$Letter"), (dA 4, .object "CamFigures$Part"), (dA 5, .array .int)]
abbrev St : Type := Nat → Nat → Int32
def up2 (S : St) (k i : Nat) (v : Int32) : St := fun k' i' => if k' = k ∧ i' = i then v else S k' i'
theorem up2_self (S : St) (k i : Nat) (v : Int32) : up2 S k i v k i = v := by simp [up2]
theorem up2_k (S : St) {k k' : Nat} (i : Nat) (v : Int32) (h : k' ≠ k) : up2 S k i v k' = S k' := by funext j; simp [up2, h]
theorem up2_row (S : St) (k i : Nat) (v : Int32) : up2 S k i v k = upd (S k) i v := by funext j; simp [up2, upd]
theorem up2_ne (S : St) {k i k' i' : Nat} (v : Int32) (h : k' ≠ k ∨ i' ≠ i) : up2 S k i v k' i' = S k' i' := by
  unfold up2
  rw [if_neg (fun q => h.elim (fun z => z q.1) (fun z => z q.2))]
theorem up2_i (S : St) {k i i' : Nat} (v : Int32) (h : i' ≠ i) : up2 S k i v k i' = S k i' := up2_ne S v (Or.inr h)
abbrev Wd : Type := Nat → Option va_E
/-- the heap holds the named cells, their addresses are apart and lie in A -/
def FW (D : va_G) (A : Nat → Prop) (ad : Nat → Nat) (w : Wd) (H : Heap) : Prop :=
  (∀ (k : Nat) (e : va_E), w k = some e → va_at D vwCl (ad k, e) H) ∧ (∀ i j : Nat, (w i).isSome = true → (w j).isSome = true → ad i = ad j → i = j) ∧ ∀ k : Nat, (w k).isSome = true → A (ad k)
theorem FW.one {D : va_G} {A : Nat → Prop} {ad : Nat → Nat} {w : Wd} {H : Heap} (h : FW D A ad w H) {k : Nat} {e : va_E} (hk : w k = some e) : va_P D vwCl [(ad k, e)] H := by
  intro i q hq
  cases i with
  | zero =>
    cases hq
    exact h.1 k e hk
  | succ i => simp at hq
theorem FW.isA {D : va_G} {A : Nat → Prop} {ad : Nat → Nat} {w : Wd} {H : Heap} (h : FW D A ad w H) {k : Nat} {e : va_E} (hk : w k = some e) : A (ad k) := h.2.2 k (by rw [hk]; rfl)
theorem FW.lt {D : va_G} {A : Nat → Prop} {ad : Nat → Nat} {w : Wd} {H : Heap} (h : FW D A ad w H) {k : Nat} {e : va_E} (hk : w k = some e) : ad k < H.size := (h.1 k e hk).lt
theorem FW.ne {D : va_G} {A : Nat → Prop} {ad : Nat → Nat} {w : Wd} {H : Heap} (h : FW D A ad w H) {i j : Nat} {e e' : va_E} (hi : w i = some e) (hj : w j = some e') (hij : i ≠ j) : ad i ≠ ad j := fun z => hij (h.2.1 i j (by rw [hi]; rfl) (by rw [hj]; rfl) z)
theorem FW.set {D : va_G} {A : Nat → Prop} {ad : Nat → Nat} {w : Wd} {H H1 : Heap} (h : FW D A ad w H) {n : Nat} {e0 e : va_E} (hn : w n = some e0) (he : va_at D vwCl (ad n, e) H1) (oq : ∀ q : Nat, q ≠ ad n → H1[q]? = H[q]?) : FW D A ad (va_up w n (some e)) H1 := by
  have key : ∀ k, (va_up w n (some e) k).isSome = true → (w k).isSome = true := by
    intro k hk
    by_cases hkn : k = n
    · subst hkn; rw [hn]; rfl
    · rw [va_up_ne _ _ hkn] at hk; exact hk
  refine ⟨fun k e' hk => ?_, fun i j hi hj => h.2.1 i j (key i hi) (key j hj), fun k hk => h.2.2 k (key k hk)⟩
  by_cases hkn : k = n
  · subst hkn
    rw [va_up_self] at hk
    cases hk
    exact he
  · rw [va_up_ne _ _ hkn] at hk
    exact (h.1 k e' hk).kept (oq _ (fun z => hkn (h.2.1 k n (by rw [hk]; rfl) (by rw [hn]; rfl) z)))
theorem FW.new {D : va_G} {A : Nat → Prop} {ad : Nat → Nat} {w : Wd} {H H1 : Heap} (h : FW D A ad w H) {n q : Nat} {e : va_E} (hn : w n = none) (hq : q = H.size) (he : va_at D vwCl (q, e) H1) (oq : ∀ x : Nat, x < H.size → H1[x]? = H[x]?) (hA : A q) : FW D A (va_up ad n q) (va_up w n (some e)) H1 := by
  have lt : ∀ k e', w k = some e' → ad k < H.size := fun k e' hk => (h.1 k e' hk).lt
  have key : ∀ k, k ≠ n → (va_up w n (some e) k).isSome = true → ∃ e', w k = some e' := by
    intro k hkn hk
    rw [va_up_ne _ _ hkn] at hk
    exact Option.isSome_iff_exists.mp hk
  refine ⟨fun k e' hk => ?_, fun i j hi hj hij => ?_, fun k hk => ?_⟩
  · by_cases hkn : k = n
    · subst hkn
      rw [va_up_self] at hk ⊢
      cases hk
      exact he
    · rw [va_up_ne _ _ hkn] at hk
      rw [va_up_ne _ _ hkn]
      exact (h.1 k e' hk).kept (oq _ (lt k e' hk))
  · by_cases hi' : i = n
    · by_cases hj' : j = n
      · rw [hi', hj']
      · obtain ⟨e', he'⟩ := key j hj' hj
        have h1 := lt j e' he'
        rw [hi', va_up_self, va_up_ne _ _ hj'] at hij
        omega
    · by_cases hj' : j = n
      · obtain ⟨e', he'⟩ := key i hi' hi
        have h1 := lt i e' he'
        rw [hj', va_up_self, va_up_ne _ _ hi'] at hij
        omega
      · obtain ⟨e1, h1⟩ := key i hi' hi
        obtain ⟨e2, h2⟩ := key j hj' hj
        rw [va_up_ne _ _ hi', va_up_ne _ _ hj'] at hij
        exact h.2.1 i j (by rw [h1]; rfl) (by rw [h2]; rfl) hij
  · by_cases hkn : k = n
    · rw [hkn, va_up_self]; exact hA
    · obtain ⟨e', he'⟩ := key k hkn hk
      rw [va_up_ne _ _ hkn]
      exact h.2.2 k (by rw [he']; rfl)
theorem FW.kept {D : va_G} {A : Nat → Prop} {ad : Nat → Nat} {w : Wd} {H H1 : Heap} (h : FW D A ad w H) (hk : ∀ (k : Nat) (e : va_E), w k = some e → H1[ad k]? = H[ad k]?) : FW D A ad w H1 := ⟨fun k e' h' => (h.1 k e' h').kept (hk k e' h'), h.2.1, h.2.2⟩
theorem FW.sub {D : va_G} {A : Nat → Prop} {ad : Nat → Nat} {w w' : Wd} {H : Heap} (h : FW D A ad w H) (hs : ∀ (k : Nat) (e : va_E), w' k = some e → w k = some e) : FW D A ad w' H := by
  have key : ∀ k, (w' k).isSome = true → (w k).isSome = true := by
    intro k hk
    obtain ⟨e, he⟩ := Option.isSome_iff_exists.mp hk
    rw [hs k e he]; rfl
  exact ⟨fun k e hk => h.1 k e (hs k e hk), fun i j hi hj => h.2.1 i j (key i hi) (key j hj), fun k hk => h.2.2 k (key k hk)⟩
theorem FW.inA {D : va_G} {A B : Nat → Prop} {ad : Nat → Nat} {w : Wd} {H : Heap} (h : FW D A ad w H) (hB : ∀ (k : Nat) (e : va_E), w k = some e → B (ad k)) : FW D B ad w H := by
  refine ⟨h.1, h.2.1, fun k hk => ?_⟩
  obtain ⟨e, he⟩ := Option.isSome_iff_exists.mp hk
  exact hB k e he
/-- other addresses for names that aren't there, other names for what is there -/
theorem FW.at {D : va_G} {A : Nat → Prop} {ad ad' : Nat → Nat} {w : Wd} {H : Heap} (h : FW D A ad w H) (hs : ∀ (k : Nat) (e : va_E), w k = some e → ad' k = ad k) : FW D A ad' w H := by
  have key : ∀ k, (w k).isSome = true → ad' k = ad k := by
    intro k hk
    obtain ⟨e, he⟩ := Option.isSome_iff_exists.mp hk
    exact hs k e he
  refine ⟨fun k e hk => by rw [hs k e hk]; exact h.1 k e hk, fun i j hi hj hij => h.2.1 i j hi hj (by rw [← key i hi, ← key j hj]; exact hij), fun k hk => by rw [key k hk]; exact h.2.2 k hk⟩
theorem FW.to {D : va_G} {A : Nat → Prop} {ad : Nat → Nat} {w w' : Wd} {H : Heap} (h : FW D A ad w H) (e : w = w') : FW D A ad w' H := e ▸ h
theorem arrV_cong {c : ClassId} {n : Nat} {f g : Nat → Value} (h : ∀ i, i < n → f i = g i) : arrV c n f = arrV c n g := by
  have e : (Array.ofFn (n := n) fun j => f j.val) = Array.ofFn (n := n) fun j => g j.val := by
    congr 1
    funext j
    exact h j.val j.isLt
  unfold arrV
  rw [e]
theorem FW.arr {D : va_G} {A : Nat → Prop} {ad : Nat → Nat} {w : Wd} {H : Heap} (h : FW D A ad w H) {n len : Nat} {c : ClassId} {f g : Nat → Int32} (hn : w n = some (.inl (c, len, .inl f))) (hfg : ∀ i, i < len → f i = g i) : FW D A ad (va_up w n (some (.inl (c, len, .inl g)))) H := by
  refine h.set hn ?_ (fun _ _ => rfl)
  have h1 : H[ad n]? = some (vp_cell c (len, .inl f)) := h.1 n _ hn
  show H[ad n]? = some (vp_cell c (len, .inl g))
  rw [h1, vp_cell_i, vp_cell_i]
  exact congrArg some (arrV_cong fun i hi => by rw [hfg i hi])
theorem FW.arq {D : va_G} {A : Nat → Prop} {ad : Nat → Nat} {w : Wd} {H : Heap} (h : FW D A ad w H) {n len : Nat} {c : ClassId} {f g : Nat → Option Nat} (hn : w n = some (.inl (c, len, .inr (.inr (.inr (.inr f)))))) (hfg : ∀ i, i < len → f i = g i) : FW D A ad (va_up w n (some (.inl (c, len, .inr (.inr (.inr (.inr g))))))) H := by
  refine h.set hn ?_ (fun _ _ => rfl)
  have h1 : H[ad n]? = some (vp_cell c (len, .inr (.inr (.inr (.inr f))))) := h.1 n _ hn
  show H[ad n]? = some (vp_cell c (len, .inr (.inr (.inr (.inr g)))))
  rw [h1, vp_cell_q, vp_cell_q]
  exact congrArg some (arrV_cong fun i hi => by rw [hfg i hi])
theorem nar_z0 : vp_nar .boolean 0 = 0 := by decide +kernel
theorem nar_z1 : vp_nar .boolean 1 = 1 := by decide +kernel
section FR
variable {p : Program} {l : Launch} {e : Env} {R : Room} {s : State} {m : MethodId} {args : Array Value} {below : List Frame} {meth : Method} {c : Code} {H : Heap} {locs : List Loc} {cells slots : Nat} {Q : State → Prop}
variable {cc : ByteArray} {nL pc : Nat} {ls : Array Slot} {rest : List Value} {D : va_G} {dA : Nat → ClassId} {A : Nat → Prop} {ad : Nat → Nat} {w : Wd} {H0 : Heap} {own : String}
theorem fw_get (C0 : CallFix p m c cc nL s args lw_all own) (hK : va_K D vwCl (tyL dA) s) (hP : FW D A ad w H) {n ci N idx : Nat} {C : String} {T : u_T} {fs : List Value} (hw : w n = some (.inr (ci, fs))) (hc : vwCl[ci]? = some (C, T, N)) (hin : ∀ x ∈ u_ws C T N, x ∈ lw_all) (k : Nat) (hk : k < N) {v : Value} (hv : fs[k]? = some v) (hl : Cond.fieldLink own idx (T k).1 (T k).2.1 (T k).2.2.1 ∈ lw_all) (hd : decode cc pc = .ok (.getfield idx, 3))
    (kk : W p l e R s m args below meth c H locs cells slots Q (F0 m (pc + 3) ls (v :: rest))) : W p l e R s m args below meth c H locs cells slots Q (F0 m pc ls (.ref (ad n) :: rest)) :=
  va_get C0.1 C0.2.1 C0.2.2.2.2 hin C0.2.2.2.1 hK (hP.one hw) 0 rfl hc k hk (C0.2.2.2.2 _ hl) (fun _ h9 => h9) hv hd kk
theorem fw_getN (C0 : CallFix p m c cc nL s args lw_all own) (hK : va_K D vwCl (tyL dA) s) (hP : FW D A ad w H) {n ci N idx : Nat} {C host : String} {T : u_T} {fs : List Value} (hw : w n = some (.inr (ci, fs))) (hc : vwCl[ci]? = some (C, T, N)) (hin : ∀ x ∈ u_ws C T N, x ∈ lw_all) (k : Nat) (hk : k < N) {v : Value} (hv : fs[k]? = some v) (hl : va_Nw (Cond.fieldLinkNest own idx (T k).1 (T k).2.1 (T k).2.2.1 host) s) (hd : decode cc pc = .ok (.getfield idx, 3))
    (kk : W p l e R s m args below meth c H locs cells slots Q (F0 m (pc + 3) ls (v :: rest))) : W p l e R s m args below meth c H locs cells slots Q (F0 m pc ls (.ref (ad n) :: rest)) :=
  va_getN C0.1 C0.2.1 C0.2.2.2.2 hin C0.2.2.2.1 hK (hP.one hw) 0 rfl hc k hk (va_Nw.use rfl hl) (fun _ h9 => h9) hv hd kk
theorem fw_put (C0 : CallFix p m c cc nL s args lw_all own) (hK : va_K D vwCl (tyL dA) s) (hP : FW D A ad w H) (hS : va_S A H0 H locs) {n ci N idx : Nat} {C : String} {T : u_T} {fs : List Value} (hw : w n = some (.inr (ci, fs))) (hc : vwCl[ci]? = some (C, T, N)) (hin : ∀ x ∈ u_ws C T N, x ∈ lw_all) (ty0 : Nat → FieldType) (hty : ∀ k, k < N → parseFieldDescriptor (T k).2.2.1 = some (ty0 k)) (hnm : ∀ a, a < N → ∀ b, b < N → a ≠ b → (T a).2.1 ≠ (T b).2.1) (k : Nat) (hk : k < N) (hl : Cond.fieldLink own idx (T k).1 (T k).2.1 (T k).2.2.1 ∈ lw_all) (hfin : (T k).2.2.2 = false) {ty : FieldType} {v : Value} (hd' : ty0 k = ty) (hn : narrow ty v = v) (hfit : fits ty v = true) (hlen : k < fs.length) (hd : decode cc pc = .ok (.putfield idx, 3))
    (kk : ∀ (H1 : Heap) (locs1 : List Loc), FW D A ad (va_up w n (some (.inr (ci, fs.set k v)))) H1 → va_S A H0 H1 locs1 → W p l e R s m args below meth c H1 locs1 cells slots Q (F0 m (pc + 3) ls rest)) : W p l e R s m args below meth c H locs cells slots Q (F0 m pc ls (v :: .ref (ad n) :: rest)) := by
  obtain ⟨hx, hb, hml, hown, hts⟩ := C0
  have hap := va_apart (own := own) hts hin ty0 hty hnm hK hc
  obtain ⟨r, h1, cell, q1, q2, q3, q4⟩ := hP.1 n _ hw
  have hr : r = (C, T, N) := Option.some.inj (h1.symm.trans hc)
  subst hr
  obtain ⟨hSl, hfc, kC, hkC, hkind⟩ := hK.1 ci _ hc
  obtain ⟨cf, kf, fi, f, hi, hsl⟩ := hSl k hk
  have hlay := hts _ (hin _ (u_in_lay hk))
  unfold u_lay at hlay
  rw [if_neg (by rw [hfin]; decide)] at hlay
  have hst := (u_facts hfc hkC (u_lays hts hin hk) hi).1
  have h6 := u_store hfc hkC hkind hlay hi (by rw [hty k hk, hd']) hn hfit
  refine W.putK hx hb (f := f) ⟨hown, hts _ hl, ⟨_, _, _, hi⟩, hst⟩ (by rw [q2]; exact h6) q1 q3 (by rw [hsl]; exact k2_hasslot (q4 k hk)) rfl rfl hd fun H' e1 e2 e3 => ?_
  rw [hsl] at e1 ⊢
  exact kk H' _ (hP.set hw ⟨_, hc, t_OB.to (V := updV (vp_V fs) k v) ⟨_, e1, q2, q3, t_set q4 hap hk v⟩ (fun j _ => vp_updV_set hlen v j)⟩ e3) (hS.put e2 e3 (hP.isA hw))
theorem fw_putN (C0 : CallFix p m c cc nL s args lw_all own) (hK : va_K D vwCl (tyL dA) s) (hP : FW D A ad w H) (hS : va_S A H0 H locs) {n ci N idx : Nat} {C host : String} {T : u_T} {fs : List Value} (hw : w n = some (.inr (ci, fs))) (hc : vwCl[ci]? = some (C, T, N)) (hin : ∀ x ∈ u_ws C T N, x ∈ lw_all) (ty0 : Nat → FieldType) (hty : ∀ k, k < N → parseFieldDescriptor (T k).2.2.1 = some (ty0 k)) (hnm : ∀ a, a < N → ∀ b, b < N → a ≠ b → (T a).2.1 ≠ (T b).2.1) (k : Nat) (hk : k < N) (hl : va_Nw (Cond.fieldLinkNest own idx (T k).1 (T k).2.1 (T k).2.2.1 host) s) (hfin : (T k).2.2.2 = false) {ty : FieldType} {v : Value} (hd' : ty0 k = ty) (hn : narrow ty v = v) (hfit : fits ty v = true) (hlen : k < fs.length) (hd : decode cc pc = .ok (.putfield idx, 3))
    (kk : ∀ (H1 : Heap) (locs1 : List Loc), FW D A ad (va_up w n (some (.inr (ci, fs.set k v)))) H1 → va_S A H0 H1 locs1 → W p l e R s m args below meth c H1 locs1 cells slots Q (F0 m (pc + 3) ls rest)) : W p l e R s m args below meth c H locs cells slots Q (F0 m pc ls (v :: .ref (ad n) :: rest)) := by
  obtain ⟨hx, hb, hml, hown, hts⟩ := C0
  have hap := va_apart (own := own) hts hin ty0 hty hnm hK hc
  obtain ⟨r, h1, cell, q1, q2, q3, q4⟩ := hP.1 n _ hw
  have hr : r = (C, T, N) := Option.some.inj (h1.symm.trans hc)
  subst hr
  obtain ⟨hSl, hfc, kC, hkC, hkind⟩ := hK.1 ci _ hc
  obtain ⟨cf, kf, fi, f, hi, hsl⟩ := hSl k hk
  have hlay := hts _ (hin _ (u_in_lay hk))
  unfold u_lay at hlay
  rw [if_neg (by rw [hfin]; decide)] at hlay
  have hst := (u_facts hfc hkC (u_lays hts hin hk) hi).1
  have h6 := u_store hfc hkC hkind hlay hi (by rw [hty k hk, hd']) hn hfit
  refine va_WputK hx hb (f := f) hown (va_Nw.use rfl hl) hi hst (by rw [q2]; exact h6) q1 q3 (by rw [hsl]; exact k2_hasslot (q4 k hk)) rfl rfl hd fun H' e1 e2 e3 => ?_
  rw [hsl] at e1 ⊢
  exact kk H' _ (hP.set hw ⟨_, hc, t_OB.to (V := updV (vp_V fs) k v) ⟨_, e1, q2, q3, t_set q4 hap hk v⟩ (fun j _ => vp_updV_set hlen v j)⟩ e3) (hS.put e2 e3 (hP.isA hw))
theorem fw_putF (C0 : CallFix p m c cc nL s args lw_all own) (hK : va_K D vwCl (tyL dA) s) (hP : FW D A ad w H) (hS : va_S A H0 H locs) {n ci N idx : Nat} {C : String} {T : u_T} {fs : List Value} (hw : w n = some (.inr (ci, fs))) (hc : vwCl[ci]? = some (C, T, N)) (hin : ∀ x ∈ u_ws C T N, x ∈ lw_all) (ty0 : Nat → FieldType) (hty : ∀ k, k < N → parseFieldDescriptor (T k).2.2.1 = some (ty0 k)) (hnm : ∀ a, a < N → ∀ b, b < N → a ≠ b → (T a).2.1 ≠ (T b).2.1) (k : Nat) (hk : k < N) (hl : Cond.fieldLink own idx (T k).1 (T k).2.1 (T k).2.2.1 ∈ lw_all) (hfin : (T k).2.2.2 = true) (hin2 : meth.name = "<init>") (hdecl : (T k).1 = own) {ty : FieldType} {v : Value} (hd' : ty0 k = ty) (hn : narrow ty v = v) (hfit : fits ty v = true) (hlen : k < fs.length) (hd : decode cc pc = .ok (.putfield idx, 3))
    (kk : ∀ (H1 : Heap) (locs1 : List Loc), FW D A ad (va_up w n (some (.inr (ci, fs.set k v)))) H1 → va_S A H0 H1 locs1 → W p l e R s m args below meth c H1 locs1 cells slots Q (F0 m (pc + 3) ls rest)) : W p l e R s m args below meth c H locs cells slots Q (F0 m pc ls (v :: .ref (ad n) :: rest)) := by
  obtain ⟨hx, hb, hml, hown, hts⟩ := C0
  have hap := va_apart (own := own) hts hin ty0 hty hnm hK hc
  obtain ⟨r, h1, cell, q1, q2, q3, q4⟩ := hP.1 n _ hw
  have hr : r = (C, T, N) := Option.some.inj (h1.symm.trans hc)
  subst hr
  obtain ⟨hSl, hfc, kC, hkC, hkind⟩ := hK.1 ci _ hc
  obtain ⟨cf, kf, fi, f, hi, hsl⟩ := hSl k hk
  have hlay := hts _ (hin _ (u_in_lay hk))
  unfold u_lay at hlay
  rw [if_pos hfin] at hlay
  have hst := (u_facts hfc hkC (u_lays hts hin hk) hi).1
  have hcf : m.cls = cf := by
    obtain ⟨_, _, c', _, _, _, -, -, hf', -, -, -, hown2, -⟩ := Cond.laysFinal_spec hlay
    have e1 : c' = cf := by have := hi.symm.trans hf'; simp at this; exact this.1.symm
    rw [hdecl] at hown2
    rw [← e1]; exact Option.some.inj (hown.symm.trans hown2)
  have h6 := u_fits hfc hkC hkind (Or.inr hlay) hi (by rw [hty k hk, hd']) hn hfit
  refine W.putFinK hx hb hown (hts _ hl) hi hst hcf hin2 (by rw [q2]; exact h6) q1 q3 (by rw [hsl]; exact k2_hasslot (q4 k hk)) rfl rfl hd fun H' e1 e2 e3 => ?_
  rw [hsl] at e1 ⊢
  exact kk H' _ (hP.set hw ⟨_, hc, t_OB.to (V := updV (vp_V fs) k v) ⟨_, e1, q2, q3, t_set q4 hap hk v⟩ (fun j _ => vp_updV_set hlen v j)⟩ e3) (hS.put e2 e3 (hP.isA hw))
theorem fw_iald (C0 : CallFix p m c cc nL s args lw_all own) (hK : va_K D vwCl (tyL dA) s) (hP : FW D A ad w H) {n len : Nat} (i : Nat) {f : Nat → Int32} {x : Int32} (hw : w n = some (.inl (dA 0, len, .inl f))) (hx : x = nI i) (hi : i < len) (hL : len < 2 ^ 31) (hd : decode cc pc = .ok (.iaload, 1))
    (kk : W p l e R s m args below meth c H locs cells slots Q (F0 m (pc + 1) ls (.int (f i) :: rest))) : W p l e R s m args below meth c H locs cells slots Q (F0 m pc ls (.int x :: .ref (ad n) :: rest)) := by
  subst hx
  refine va_iald C0.1 C0.2.1 hK (hP.one hw) 0 0 rfl rfl (vp_in_nI hi hL) hd ?_
  rw [nI_clamp (by omega)]
  exact kk
theorem fw_zald (C0 : CallFix p m c cc nL s args lw_all own) (hK : va_K D vwCl (tyL dA) s) (hP : FW D A ad w H) {n len : Nat} (i : Nat) {f : Nat → Int32} {x : Int32} (hw : w n = some (.inl (dA 1, len, .inl f))) (hx : x = nI i) (hi : i < len) (hL : len < 2 ^ 31) (hd : decode cc pc = .ok (.baload, 1))
    (kk : W p l e R s m args below meth c H locs cells slots Q (F0 m (pc + 1) ls (.int (f i) :: rest))) : W p l e R s m args below meth c H locs cells slots Q (F0 m pc ls (.int x :: .ref (ad n) :: rest)) := by
  subst hx
  refine va_zald C0.1 C0.2.1 hK (hP.one hw) 0 1 rfl rfl (vp_in_nI hi hL) hd ?_
  rw [nI_clamp (by omega)]
  exact kk
theorem fw_aald (C0 : CallFix p m c cc nL s args lw_all own) (hK : va_K D vwCl (tyL dA) s) (hP : FW D A ad w H) {n len : Nat} (j : Nat) {ty : FieldType} (i : Nat) {f : Nat → Option Nat} {x : Int32} (hw : w n = some (.inl (dA j, len, .inr (.inr (.inr (.inr f)))))) (hj : (tyL dA)[j]? = some (dA j, ty)) (hr : ty.isReference = true) (hx : x = nI i) (hi : i < len) (hL : len < 2 ^ 31) (hd : decode cc pc = .ok (.aaload, 1))
    (kk : W p l e R s m args below meth c H locs cells slots Q (F0 m (pc + 1) ls (va_rf (f i) :: rest))) : W p l e R s m args below meth c H locs cells slots Q (F0 m pc ls (.int x :: .ref (ad n) :: rest)) := by
  subst hx
  have hcl : (nI i).toNatClampNeg = i := nI_clamp (by omega)
  have h0 : H[ad n]? = some (vp_cell (dA j) (len, .inr (.inr (.inr (.inr f))))) := hP.1 n _ hw
  refine W.aald (v := va_rf (f i)) (ty := ty) C0.1 C0.2.1 h0 ((hK.2 j _ hj).1 len (fun j => va_rf (f j))) hr (fun q => by cases q) (by show ¬ (nI i < 0 ∨ (arrV _ _ _).slots.size ≤ _); rw [arrV_size]; exact vp_in_nI hi hL) (by show (arrV _ _ _).slots[_]? = _; rw [hcl, arrV_read _ _ hi]) rfl rfl hd kk
theorem fw_alen (C0 : CallFix p m c cc nL s args lw_all own) (hK : va_K D vwCl (tyL dA) s) (hP : FW D A ad w H) {n : Nat} (j : Nat) {ty : FieldType} {a : vp_A} (hw : w n = some (.inl (dA j, a))) (hj : (tyL dA)[j]? = some (dA j, ty)) (hd : decode cc pc = .ok (.arraylength, 1))
    (kk : W p l e R s m args below meth c H locs cells slots Q (F0 m (pc + 1) ls (.int (nI a.1) :: rest))) : W p l e R s m args below meth c H locs cells slots Q (F0 m pc ls (.ref (ad n) :: rest)) :=
  va_alen C0.1 C0.2.1 hK (hP.one hw) 0 j rfl hj rfl hd kk
theorem fw_iast (C0 : CallFix p m c cc nL s args lw_all own) (hK : va_K D vwCl (tyL dA) s) (hP : FW D A ad w H) (hS : va_S A H0 H locs) {n len : Nat} (i : Nat) {f : Nat → Int32} {x v : Int32} (hw : w n = some (.inl (dA 0, len, .inl f))) (hx : x = nI i) (hi : i < len) (hL : len < 2 ^ 31) (hd : decode cc pc = .ok (.iastore, 1))
    (kk : ∀ (H1 : Heap) (locs1 : List Loc), FW D A ad (va_up w n (some (.inl (dA 0, len, .inl (upd f i v))))) H1 → va_S A H0 H1 locs1 → W p l e R s m args below meth c H1 locs1 cells slots Q (F0 m (pc + 1) ls rest)) : W p l e R s m args below meth c H locs cells slots Q (F0 m pc ls (.int v :: .int x :: .ref (ad n) :: rest)) := by
  subst hx
  have hcl : (nI i).toNatClampNeg = i := nI_clamp (by omega)
  have h0 : H[ad n]? = some (vp_cell (dA 0) (len, .inl f)) := hP.1 n _ hw
  refine W.iast C0.1 C0.2.1 h0 ((hK.2 0 (dA 0, .int) rfl).1 len (fun j => .int (f j))) (fun q => by cases q) (by show ¬ (nI i < 0 ∨ (arrV _ _ _).slots.size ≤ _); rw [arrV_size]; exact vp_in_nI hi hL) rfl rfl hd fun H1 e1 z oq => ?_
  refine kk H1 _ (hP.set hw ?_ oq) (hS.put z oq (hP.isA hw))
  show H1[ad n]? = some (vp_cell _ _)
  rw [e1, hcl, vp_cell_i, vp_cell_i, arrV_store]
  congr 2
  funext q
  by_cases hq : q = i
  · subst hq
    simp [updV, upd]
  · simp [updV, upd, hq]
theorem fw_zast (C0 : CallFix p m c cc nL s args lw_all own) (hK : va_K D vwCl (tyL dA) s) (hP : FW D A ad w H) (hS : va_S A H0 H locs) {n len : Nat} (i : Nat) {f : Nat → Int32} {x v : Int32} (hw : w n = some (.inl (dA 1, len, .inl f))) (hx : x = nI i) (hi : i < len) (hL : len < 2 ^ 31) (hv : vp_nar .boolean v = v) (hd : decode cc pc = .ok (.bastore, 1))
    (kk : ∀ (H1 : Heap) (locs1 : List Loc), FW D A ad (va_up w n (some (.inl (dA 1, len, .inl (upd f i v))))) H1 → va_S A H0 H1 locs1 → W p l e R s m args below meth c H1 locs1 cells slots Q (F0 m (pc + 1) ls rest)) : W p l e R s m args below meth c H locs cells slots Q (F0 m pc ls (.int v :: .int x :: .ref (ad n) :: rest)) := by
  subst hx
  have hcl : (nI i).toNatClampNeg = i := nI_clamp (by omega)
  have h0 : H[ad n]? = some (vp_cell (dA 1) (len, .inl f)) := hP.1 n _ hw
  refine W.zast C0.1 C0.2.1 h0 ((hK.2 1 (dA 1, .boolean) rfl).1 len (fun j => .int (f j))) (fun q => by cases q) (by show ¬ (nI i < 0 ∨ (arrV _ _ _).slots.size ≤ _); rw [arrV_size]; exact vp_in_nI hi hL) rfl rfl hd fun H1 e1 z oq => ?_
  refine kk H1 _ (hP.set hw ?_ oq) (hS.put z oq (hP.isA hw))
  have hnar : narrow .boolean (.int v) = .int v := congrArg Value.int hv
  show H1[ad n]? = some (vp_cell _ _)
  rw [e1, hcl, vp_cell_i, vp_cell_i, arrV_store, hnar]
  congr 2
  funext q
  by_cases hq : q = i
  · subst hq
    simp [updV, upd]
  · simp [updV, upd, hq]
/-- null into an array of references -/
theorem fw_aastN (C0 : CallFix p m c cc nL s args lw_all own) (hK : va_K D vwCl (tyL dA) s) (hP : FW D A ad w H) (hS : va_S A H0 H locs) {n len : Nat} (j : Nat) {E : String} (i : Nat) {f : Nat → Option Nat} {x : Int32} (hw : w n = some (.inl (dA j, len, .inr (.inr (.inr (.inr f)))))) (hj : (tyL dA)[j]? = some (dA j, .object E)) (hx : x = nI i) (hi : i < len) (hL : len < 2 ^ 31) (hd : decode cc pc = .ok (.aastore, 1))
    (kk : ∀ (H1 : Heap) (locs1 : List Loc), FW D A ad (va_up w n (some (.inl (dA j, len, .inr (.inr (.inr (.inr (va_up f i none)))))))) H1 → va_S A H0 H1 locs1 → W p l e R s m args below meth c H1 locs1 cells slots Q (F0 m (pc + 1) ls rest)) : W p l e R s m args below meth c H locs cells slots Q (F0 m pc ls (.null :: .int x :: .ref (ad n) :: rest)) := by
  subst hx
  have hcl : (nI i).toNatClampNeg = i := nI_clamp (by omega)
  have h0 : H[ad n]? = some (vp_cell (dA j) (len, .inr (.inr (.inr (.inr f))))) := hP.1 n _ hw
  refine va_WaastN (C := E) C0.1 C0.2.1 h0 ((hK.2 j _ hj).1 len (fun j => va_rf (f j))) (fun h => by cases h) (by show ¬ (nI i < 0 ∨ (arrV _ _ _).slots.size ≤ _); rw [arrV_size]; exact vp_in_nI hi hL) rfl rfl hd fun H1 e1 z oq => ?_
  refine kk H1 _ (hP.set hw ?_ oq) (hS.put z oq (hP.isA hw))
  show H1[ad n]? = some (vp_cell _ _)
  rw [e1, hcl, vp_cell_q, vp_cell_q, arrV_store]
  congr 2
  funext q
  by_cases hq : q = i
  · subst hq
    simp [updV, va_up, va_rf]
  · simp [updV, va_up, hq]
/-- a reference to a named object into an array of references to objects of a class to which it can be assigned -/
theorem fw_aast (C0 : CallFix p m c cc nL s args lw_all own) (hK : va_K D vwCl (tyL dA) s) (hP : FW D A ad w H) (hS : va_S A H0 H locs) {n len : Nat} (j : Nat) {E : String} (i : Nat) {f : Nat → Option Nat} {x : Int32} (hw : w n = some (.inl (dA j, len, .inr (.inr (.inr (.inr f)))))) (hj : (tyL dA)[j]? = some (dA j, .object E)) {nv ci : Nat} {vs : List Value} {r : vw_C} (hv : w nv = some (.inr (ci, vs))) (hc : vwCl[ci]? = some r) (has : ∀ comp : ClassId, s.vm.findClass E = some comp → s.vm.assignable (D.1 ci) comp = true) (hE : ∃ (comp : ClassId) (k : Class), s.vm.findClass E = some comp ∧ s.vm.classes[comp]? = some k) (hx : x = nI i) (hi : i < len) (hL : len < 2 ^ 31) (hd : decode cc pc = .ok (.aastore, 1))
    (kk : ∀ (H1 : Heap) (locs1 : List Loc), FW D A ad (va_up w n (some (.inl (dA j, len, .inr (.inr (.inr (.inr (va_up f i (some (ad nv)))))))))) H1 → va_S A H0 H1 locs1 → W p l e R s m args below meth c H1 locs1 cells slots Q (F0 m (pc + 1) ls rest)) : W p l e R s m args below meth c H locs cells slots Q (F0 m pc ls (.ref (ad nv) :: .int x :: .ref (ad n) :: rest)) := by
  subst hx
  have hcl : (nI i).toNatClampNeg = i := nI_clamp (by omega)
  have h0 : H[ad n]? = some (vp_cell (dA j) (len, .inr (.inr (.inr (.inr f))))) := hP.1 n _ hw
  obtain ⟨r', hr', cellV, g1, g2, g3, -⟩ := hP.1 nv _ hv
  have hcls := (hK.1 ci r hc).2
  obtain ⟨kA, comp, k1, k2, k3, -⟩ := (hK.2 j _ hj).2
  obtain ⟨comp', kE, e2, e3⟩ := hE
  cases k3.symm.trans e2
  obtain ⟨kC, hkC, -⟩ := hcls.2
  refine W.aast C0.1 C0.2.1 h0 (fun q h => by cases h) (fun h => by cases h) k1 k2 rfl e3 ⟨nI_pos (by omega), by show _ < (arrV _ _ _).slots.size; rw [arrV_size, hcl]; exact hi⟩ g1 (fun q h => by rw [g3] at h; cases h) (by rw [g2]; exact hkC) (by rw [g2]; exact has _ k3) rfl rfl hd fun H1 e1 z oq => ?_
  refine kk H1 _ (hP.set hw ?_ oq) (hS.put z oq (hP.isA hw))
  show H1[ad n]? = some (vp_cell _ _)
  rw [e1, hcl, vp_cell_q, vp_cell_q, arrV_store]
  congr 2
  funext q
  by_cases hq : q = i
  · subst hq
    simp [updV, va_up, va_rf]
  · simp [updV, va_up, hq]
theorem fw_new (C0 : CallFix p m c cc nL s args lw_all own) (hK : va_K D vwCl (tyL dA) s) (hP : FW D A ad w H) (hS : va_S A H0 H locs) (hA : ∀ q, H0.size ≤ q → A q) (n : Nat) {ci N idx : Nat} {C : String} {T : u_T} (fs : List Value) (hw : w n = none) (hc : vwCl[ci]? = some (C, T, N)) (hin : ∀ x ∈ u_ws C T N, x ∈ lw_all) (ty0 : Nat → FieldType) (hty : ∀ k, k < N → parseFieldDescriptor (T k).2.2.1 = some (ty0 k)) (hcl : Cond.classLink own idx C ∈ lw_all) {n0 : Nat} (hinst : Cond.instantiable C n0 ∈ lw_all) (hini : Cond.initialized C ∈ lw_all) (hfs : ∀ j, j < N → defaultValue (ty0 j) = vp_V fs j) (hcells : cells + 1 ≤ R.cells) (hslots : slots + n0 ≤ R.slots) (hd : decode cc pc = .ok (.new idx, 3))
    (kk : ∀ (q : Nat) (H1 : Heap), q = H.size → FW D A (va_up ad n q) (va_up w n (some (.inr (ci, fs)))) H1 → va_S A H0 H1 locs → W p l e R s m args below meth c H1 locs (cells + 1) (slots + n0) Q (F0 m (pc + 3) ls (.ref q :: rest))) : W p l e R s m args below meth c H locs cells slots Q (F0 m pc ls rest) := by
  obtain ⟨hx, hb, hml, hown, hts⟩ := C0
  have hKn := hK.1 ci _ hc
  refine W.newcK hx hb hown (hts _ hcl) (hts _ hinst) (hts _ hini) rfl hd hcells hslots hKn.2.1 rfl fun H1 kC hkC e1 z1 o1 => ?_
  exact kk H.size H1 rfl (hP.new hw rfl ⟨_, hc, (u_born ty0 hts hin hKn hkC e1 hty).to hfs⟩ o1 (hA _ hS.1)) ⟨Nat.le_trans hS.1 (by omega), fun x h1 h2 => (o1 x (Nat.lt_of_lt_of_le h1 hS.1)).trans (hS.2.1 x h1 h2), hS.2.2⟩
theorem fw_newi (C0 : CallFix p m c cc nL s args lw_all own) (hK : va_K D vwCl (tyL dA) s) (hP : FW D A ad w H) (hS : va_S A H0 H locs) (hA : ∀ q, H0.size ≤ q → A q) (n len : Nat) {x : Int32} (hw : w n = none) (hx : x = nI len) (hL : len ≤ 100000) (hcells : cells + 1 ≤ R.cells) (hslots : slots + len ≤ R.slots) (hq : Cond.arrayClass .int ∈ lw_all) (hd : decode cc pc = .ok (.newarray .int, 2))
    (kk : ∀ (q : Nat) (H1 : Heap), q = H.size → FW D A (va_up ad n q) (va_up w n (some (.inl (dA 0, len, .inl (fun _ => 0))))) H1 → va_S A H0 H1 locs → W p l e R s m args below meth c H1 locs (cells + 1) (slots + len) Q (F0 m (pc + 2) ls (.ref q :: rest))) : W p l e R s m args below meth c H locs cells slots Q (F0 m pc ls (.int x :: rest)) := by
  subst hx
  have hcl : (nI len).toNatClampNeg = len := nI_clamp (by omega)
  refine va_newaK (atype := .int) C0.1 C0.2.1 (C0.2.2.2.2 _ hq) rfl hd rfl (nI_pos (by omega)) hcl (by show len * 4 ≤ 536870912; omega) hcells hslots rfl fun H1 cA e1 z1 o1 hAr hNm => ?_
  have hcA : cA = dA 0 := Option.some.inj (hNm.symm.trans (hK.2 0 (dA 0, .int) rfl).2)
  subst hcA
  exact kk H.size H1 rfl (hP.new hw rfl e1 o1 (hA _ hS.1)) ⟨Nat.le_trans hS.1 (by omega), fun x h1 h2 => (o1 x (Nat.lt_of_lt_of_le h1 hS.1)).trans (hS.2.1 x h1 h2), hS.2.2⟩
theorem fw_newz (C0 : CallFix p m c cc nL s args lw_all own) (hK : va_K D vwCl (tyL dA) s) (hP : FW D A ad w H) (hS : va_S A H0 H locs) (hA : ∀ q, H0.size ≤ q → A q) (n len : Nat) {x : Int32} (hw : w n = none) (hx : x = nI len) (hL : len ≤ 100000) (hcells : cells + 1 ≤ R.cells) (hslots : slots + len ≤ R.slots) (hq : Cond.arrayClass .boolean ∈ lw_all) (hd : decode cc pc = .ok (.newarray .boolean, 2))
    (kk : ∀ (q : Nat) (H1 : Heap), q = H.size → FW D A (va_up ad n q) (va_up w n (some (.inl (dA 1, len, .inl (fun _ => 0))))) H1 → va_S A H0 H1 locs → W p l e R s m args below meth c H1 locs (cells + 1) (slots + len) Q (F0 m (pc + 2) ls (.ref q :: rest))) : W p l e R s m args below meth c H locs cells slots Q (F0 m pc ls (.int x :: rest)) := by
  subst hx
  have hcl : (nI len).toNatClampNeg = len := nI_clamp (by omega)
  refine va_newaK (atype := .boolean) C0.1 C0.2.1 (C0.2.2.2.2 _ hq) rfl hd rfl (nI_pos (by omega)) hcl (by show len * 1 ≤ 536870912; omega) hcells hslots rfl fun H1 cA e1 z1 o1 hAr hNm => ?_
  have hcA : cA = dA 1 := Option.some.inj (hNm.symm.trans (hK.2 1 (dA 1, .boolean) rfl).2)
  subst hcA
  exact kk H.size H1 rfl (hP.new hw rfl e1 o1 (hA _ hS.1)) ⟨Nat.le_trans hS.1 (by omega), fun x h1 h2 => (o1 x (Nat.lt_of_lt_of_le h1 hS.1)).trans (hS.2.1 x h1 h2), hS.2.2⟩
theorem fw_newq (C0 : CallFix p m c cc nL s args lw_all own) (hK : va_K D vwCl (tyL dA) s) (hP : FW D A ad w H) (hS : va_S A H0 H locs) (hA : ∀ q, H0.size ≤ q → A q) (n j len : Nat) {E : String} {idx : Nat} {x : Int32} (hw : w n = none) (hj : (tyL dA)[j]? = some (dA j, .object E)) (hcl : Cond.classLink own idx E ∈ lw_all) (hover : va_AO E s) (hx : x = nI len) (hL : len ≤ 100000) (hcells : cells + 1 ≤ R.cells) (hslots : slots + len ≤ R.slots) (hd : decode cc pc = .ok (.anewarray idx, 3))
    (kk : ∀ (q : Nat) (H1 : Heap), q = H.size → FW D A (va_up ad n q) (va_up w n (some (.inl (dA j, len, .inr (.inr (.inr (.inr (fun _ => none)))))))) H1 → va_S A H0 H1 locs → W p l e R s m args below meth c H1 locs (cells + 1) (slots + len) Q (F0 m (pc + 3) ls (.ref q :: rest))) : W p l e R s m args below meth c H locs cells slots Q (F0 m pc ls (.int x :: rest)) := by
  subst hx
  have hcn : (nI len).toNatClampNeg = len := nI_clamp (by omega)
  refine W.anew C0.1 C0.2.1 C0.2.2.2.1 (C0.2.2.2.2 _ hcl) (va_AO.use hover) rfl hd rfl (nI_pos (by omega)) (by rw [hcn]; omega) hcells (by rw [hcn]; exact hslots) fun cA kA comp f1 f2 f3 f4 => ?_
  rw [hcn]
  have hcA : cA = dA j := by
    obtain ⟨kA', comp', g1, g2, g3, g4⟩ := (hK.2 j _ hj).2
    exact Option.some.inj (f1.symm.trans g4)
  subst hcA
  generalize hH1 : H.push ({ cls := dA j, slots := Array.replicate len .null, vm := .none } : Cell) = H1
  have z1 : H1.size = H.size + 1 := by rw [← hH1, Array.size_push]
  have e1 : H1[H.size]? = some (arrV (dA j) len (fun _ => .null)) := by rw [← hH1, Array.getElem?_push_size, ← arrV_new]
  have o1 : ∀ q : Nat, q < H.size → H1[q]? = H[q]? := fun q hq => by rw [← hH1, Array.getElem?_push, if_neg (Nat.ne_of_lt hq)]
  exact kk H.size H1 rfl (hP.new hw rfl e1 o1 (hA _ hS.1)) ⟨Nat.le_trans hS.1 (by omega), fun x h1 h2 => (o1 x (Nat.lt_of_lt_of_le h1 hS.1)).trans (hS.2.1 x h1 h2), hS.2.2⟩
/-- a call that leaves the heap as it was -/
theorem fw_cp {post : Int32 → Prop} {a : Array Value} {st0 : List Value} (hr : va_Run p l e R s m args below meth c H locs cells slots 0 0 (F0 m pc ls st0) rest (vp_Si post a) (fun _ => False))
    (kk : ∀ r : Int32, post r → W p l e R s m args below meth c H locs cells slots Q (F0 m (pc + 3) ls (.int r :: rest))) : W p l e R s m args below meth c H locs cells slots Q (F0 m pc ls st0) := by
  intro T hT X
  obtain ⟨v, st₀, t, T', L, h0, X', hL, e1, -, ⟨r, hv, hp, hh⟩, st⟩ := hr T hT X
  cases hv
  obtain ⟨t2, a1, b1⟩ := kk r hp T' (by rw [e1, hh, h0]) (Stand.forget X' (fun q h => (hL q h).elim))
  exact ⟨t2, st t2 a1, b1⟩
theorem fw_cpq {post : Option Nat → Prop} {a : Array Value} {st0 : List Value} (hr : va_Run p l e R s m args below meth c H locs cells slots 0 0 (F0 m pc ls st0) rest (va_Sq post a) (fun _ => False))
    (kk : ∀ r : Option Nat, post r → W p l e R s m args below meth c H locs cells slots Q (F0 m (pc + 3) ls (va_rf r :: rest))) : W p l e R s m args below meth c H locs cells slots Q (F0 m pc ls st0) := by
  intro T hT X
  obtain ⟨v, st₀, t, T', L, h0, X', hL, e1, -, ⟨r, hv, hp, hh⟩, st⟩ := hr T hT X
  cases hv
  obtain ⟨t2, a1, b1⟩ := kk r hp T' (by rw [e1, hh, h0]) (Stand.forget X' (fun q h => (hL q h).elim))
  exact ⟨t2, st t2 a1, b1⟩
/-- a loop: N turns, an invariant by the number of the turn -/
theorem W_loop (N : Nat) (I : Nat → Heap → List Loc → Array Slot → Prop) (pc : Nat)
    (exit : ∀ H locs ls, I N H locs ls → W p l e R s m args below meth c H locs cells slots Q (F0 m pc ls []))
    (body : ∀ i H locs ls, i < N → I i H locs ls → (∀ H' locs' ls', I (i + 1) H' locs' ls' → W p l e R s m args below meth c H' locs' cells slots Q (F0 m pc ls' [])) → W p l e R s m args below meth c H locs cells slots Q (F0 m pc ls [])) :
    ∀ i H locs ls, i ≤ N → I i H locs ls → W p l e R s m args below meth c H locs cells slots Q (F0 m pc ls []) := by
  have key : ∀ d i H locs ls, N - i = d → i ≤ N → I i H locs ls → W p l e R s m args below meth c H locs cells slots Q (F0 m pc ls []) := by
    intro d
    induction d with
    | zero =>
      intro i H locs ls hd hi hI
      have : i = N := by omega
      subst this
      exact exit H locs ls hI
    | succ d ih =>
      intro i H locs ls hd hi hI
      exact body i H locs ls (by omega) hI (fun H' locs' ls' hI' => ih (i + 1) H' locs' ls' (by omega) (by omega) hI')
  exact fun i H locs ls hi hI => key _ i H locs ls rfl hi hI
/-- .. that may leave from within: the body sees no exit but its own -/
theorem W_while (N : Nat) (I : Nat → Heap → List Loc → Array Slot → Prop) (pc : Nat)
    (body : ∀ i H locs ls, i ≤ N → I i H locs ls → (∀ H' locs' ls', i < N → I (i + 1) H' locs' ls' → W p l e R s m args below meth c H' locs' cells slots Q (F0 m pc ls' [])) → W p l e R s m args below meth c H locs cells slots Q (F0 m pc ls [])) :
    ∀ i H locs ls, i ≤ N → I i H locs ls → W p l e R s m args below meth c H locs cells slots Q (F0 m pc ls []) := by
  have key : ∀ d i H locs ls, N - i = d → i ≤ N → I i H locs ls → W p l e R s m args below meth c H locs cells slots Q (F0 m pc ls []) := by
    intro d
    induction d with
    | zero =>
      intro i H locs ls hd hi hI
      exact body i H locs ls hi hI (fun _ _ _ h _ => absurd h (by omega))
    | succ d ih =>
      intro i H locs ls hd hi hI
      exact body i H locs ls hi hI (fun H' locs' ls' h hI' => ih (i + 1) H' locs' ls' (by omega) (by omega) hI')
  exact fun i H locs ls hi hI => key _ i H locs ls rfl hi hI
end FR
