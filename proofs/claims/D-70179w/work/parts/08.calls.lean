/-! CONTRACTS AND CALLS over the functional heap; a method may also throw -/
abbrev nP : Type := Outcome → hT → Nat → Prop
def nQ (below : List Frame) (PX : nP) (D : va_G) (N0 : Nat) (s : State) (mc ms : Nat) : State → Prop := fun t =>
  ∃ o, t.status = .running ∧ Ended t below o ∧ (∃ (h' : hT) (n' : Nat), Rp D N0 h' n' t.heap ∧ PX o h' n') ∧ ∃ L : List Loc, (s.WarmedH t.vm ∧ s.sameButNew ({ t with vm := s.vm } : State) L mc ms) ∧ ∀ q ∈ L, N0 ≤ q.base
abbrev nRm (d mc ms : Nat) : Room := { frames := d, cells := mc, slots := ms, locals := 60 * d }
/-- method y's contract: called with A on the heap h of n cells it ends with PX; d frames deep, mc new cells of ms slots -/
def nE (l : Launch) (y : MethodName) (cc : ByteArray) (nL : Nat) (ret : Option FieldType) (D : va_G) (N0 : Nat) (kA : Nat → ClassId) (d mc ms : Nat) (A : List Value) (h : hT) (n : Nat) (PX : nP) : Prop :=
  MetFree l y (headSpec (ws_ y cc nL ret) (nRm d mc ms)) (fun a U => a = A.toArray ∧ Rp D N0 h n U.heap ∧ nK D N0 kA U) (fun _ _ _ _ _ => True) (fun _ st o t => (∃ (h' : hT) (n' : Nat), Rp D N0 h' n' t.heap ∧ PX o h' n') ∧ ∃ L : List Loc, (st.WarmedH t.vm ∧ st.sameButNew ({ t with vm := st.vm } : State) L mc ms) ∧ ∀ q ∈ L, N0 ≤ q.base)
theorem nE_imp {l : Launch} {y : MethodName} {cc : ByteArray} {nL : Nat} {ret : Option FieldType} {D : va_G} {N0 : Nat} {kA : Nat → ClassId} {d mc ms : Nat} {A : List Value} {h : hT} {n : Nat} {PX PY : nP} (hE : nE l y cc nL ret D N0 kA d mc ms A h n PX) (hi : ∀ o h' n', PX o h' n' → PY o h' n') : nE l y cc nL ret D N0 kA d mc ms A h n PY := by
  intro p e h1 h2 h3 s m args below h4 h5 h6 h7
  obtain ⟨k, o, g1, g2, g3, ⟨h', n', g4, g5⟩, g6⟩ := hE p e h1 h2 h3 s m args below h4 h5 h6 h7
  exact ⟨k, o, g1, g2, g3, ⟨h', n', g4, hi _ _ _ g5⟩, g6⟩
theorem W_imp {p : Program} {l : Launch} {e : Env} {R : Room} {s : State} {m : MethodId} {args : Array Value} {below : List Frame} {meth : Method} {c : Code} {H : Heap} {locs : List Loc} {kc ks : Nat} {Q Q' : State → Prop} {g : JFrame} (K : W p l e R s m args below meth c H locs kc ks Q g) (hi : ∀ t, Q t → Q' t) : W p l e R s m args below meth c H locs kc ks Q' g := by
  intro T hT X
  obtain ⟨t, a, b⟩ := K T hT X
  exact ⟨t, a, hi t b⟩
/-- cells that were not written are as they were -/
theorem same_old {u t : State} {v : Vm} {L : List Loc} {N0 k n : Nat} (h : u.sameButNew (t.setVm v) L k n) (hL : ∀ q ∈ L, N0 ≤ q.base) : u.heap.size ≤ t.heap.size ∧ ∀ q : Nat, q < u.heap.size → ¬ nA N0 q → t.heap[q]? = u.heap[q]? := by
  obtain ⟨-, q2, -, -, -, q6⟩ := h
  refine ⟨q2, fun q hq hn => ?_⟩
  have hc : u.heap[q]? = some u.heap[q] := Array.getElem?_eq_getElem hq
  obtain ⟨c', h1, h2, h3, h4⟩ := q6 q _ hc
  have h1 : t.heap[q]? = some c' := h1
  rw [h1, hc]
  congr 1
  rw [h2]
  have : c'.slots = u.heap[q].slots := by
    apply Array.ext_getElem?
    intro i
    exact h4 i (fun z => hn (hL _ z))
  rw [this]
theorem nK_warm {D : va_G} {N0 : Nat} {kA : Nat → ClassId} {s T : State} (h : nK D N0 kA s) (hW : s.WarmedH T.vm) (hz : s.heap.size ≤ T.heap.size) (ho : ∀ q : Nat, q < s.heap.size → ¬ nA N0 q → T.heap[q]? = s.heap[q]?) : nK D N0 kA T := by
  obtain ⟨h1, h2, h3, h4, ⟨a5, h5⟩, ⟨a6, h6⟩, h7⟩ := h
  refine ⟨va_K.moved hW.alike h1, fun w hw hn => ?_, va_AO.moved hW.alike h3, va_AO.moved hW.alike h4, ⟨a5, (va_Z.moved hW.alike h5).kept ho⟩, ⟨a6, (va_Z.moved hW.alike h6).kept ho⟩, Nat.le_trans h7 hz⟩
  have hz := h2 w hw hn
  cases w with
  | fieldLinkNest a i b n d h => exact va_Nw.warmF hW hz
  | methodLinkNest a i x h => exact va_Nw.warmM hW hz
  | _ => cases hn
section NE
variable {p : Program} {l : Launch} {e : Env} {R : Room} {s : State} {m : MethodId} {args : Array Value} {below : List Frame} {meth : Method} {c : Code} {Q : State → Prop} {D : va_G} {N0 nL pc : Nat} {L : List (Nat × Value)} {st : List Value} {h : hT} {n kc ks : Nat} {own : String} {cc : ByteArray} {ret : Option FieldType} {eb : Bool} {kA : Nat → ClassId}
theorem nE_of {y : MethodName} {d mc ms : Nat} {A : List Value} {PX : nP} (hy : plainName y.cls = true) (hlen : (lg_sl A).length ≤ nL)
    (body : ∀ (p : Program) (e : Env) (s : State) (m : MethodId) (args : Array Value) (below : List Frame) (meth : Method) (c : Code), nC p s m args meth c y.cls cc nL ret true D N0 kA → meth.name = y.name → nW p l e (nRm d mc ms) s m args below meth c (nQ below PX D N0 s mc ms) D N0 nL 0 (lv_args 0 A) [] h n 0 0) : nE l y cc nL ret D N0 kA d mc ms A h n PX := by
  refine MetFree.of_bodyS (code := cc) (maxLocals := nL) (ret := ret) hy ?_ ?_
  · intro args s m h hn
    obtain ⟨meth, c, h1, h2, h3, h4, h5, h6, -, -⟩ := Cond.code_spec hn (atoms_spec (ws := ws_ y cc nL ret) h _ List.mem_cons_self)
    exact ⟨meth, c, h1, h2, h3, h4, h5, h6⟩
  · intro p e s m args below meth c s₁ B hml hP _
    obtain ⟨rfl, hR, hK⟩ := hP
    have hh0 : s₁.heap = s.heap := by rw [B.state]; rfl
    have hts0 := atoms_spec (ws := ws_ y cc nL ret) B.pre
    have hC : nC p s m A.toArray meth c y.cls cc nL ret true D N0 kA := ⟨B.exec, B.bytes, hml, findClass_of_methodNamed B.named, fun w hw => hts0 w (List.mem_cons_of_mem _ hw), hK, B.returns, B.notSynchronized, fun _ => B.noHandlers (hts0 _ List.mem_cons_self)⟩
    have K := body p e s m A.toArray below meth c hC (name_of_methodNamed B.named B.method).1
    have hl := lv_entry A (n := nL) hlen
    have K2 : W p l e (nRm d mc ms) s m A.toArray below meth c s.heap [] 0 0 (nQ below PX D N0 s mc ms) (entryFrame m A.toArray nL) := by
      rw [lg_entry_eq]
      exact K _ s.heap [] hl hR va_S.rf
    obtain ⟨t, a1, o, b1, b2, b3, b4⟩ := K2 s₁ hh0 (Stand.of_body B)
    exact ⟨t, o, a1, b1, b2, b3, b4⟩
/-- a W whose end is the kit's MQ ends in nQ -/
theorem nQ_of {PX : nP} {mc ms : Nat} {H : Heap} {locs : List Loc} {g : JFrame} (K : W p l e R s m args below meth c H locs mc ms (MQ below (fun _ _ o t => ∃ (h' : hT) (n' : Nat), Rp D N0 h' n' t.heap ∧ PX o h' n') args s mc ms (nA N0)) g) : W p l e R s m args below meth c H locs mc ms (nQ below PX D N0 s mc ms) g := by
  refine W_imp K ?_
  rintro t ⟨o, h1, h2, h3, L, ⟨-, h4, h5⟩, h6⟩
  exact ⟨o, h1, h2, h3, L, ⟨h4, h5⟩, h6⟩
theorem n_iret {PX : nP} {mc ms : Nat} {v : Int32} (C : nC p s m args meth c own cc nL (some .int) eb D N0 kA) (hd : decode cc pc = .ok (.ireturn, 1)) (hc : kc ≤ mc) (hs : ks ≤ ms) (hP : PX (.returned (some (.int v))) h n) : nW p l e R s m args below meth c (nQ below PX D N0 s mc ms) D N0 nL pc L [.int v] h n kc ks := fun ls H locs hl hR hS =>
  W.widen hc hs (nQ_of (W.iret C.1 C.2.1 C.2.2.2.2.2.2.1 (fun t ht hW => ⟨h, n, by rw [ht]; exact hR, hP⟩) hS.2.2 hd C.2.2.2.2.2.2.2.1))
theorem n_zret {PX : nP} {mc ms : Nat} {v : Int32} (C : nC p s m args meth c own cc nL (some .boolean) eb D N0 kA) (hd : decode cc pc = .ok (.ireturn, 1)) (hv : narrow .boolean (.int v) = .int v) (hc : kc ≤ mc) (hs : ks ≤ ms) (hP : PX (.returned (some (.int v))) h n) : nW p l e R s m args below meth c (nQ below PX D N0 s mc ms) D N0 nL pc L [.int v] h n kc ks := fun ls H locs hl hR hS =>
  W.widen hc hs (nQ_of (W.zret C.1 C.2.1 C.2.2.2.2.2.2.1 hv (fun t ht hW => ⟨h, n, by rw [ht]; exact hR, hP⟩) hS.2.2 hd C.2.2.2.2.2.2.2.1))
theorem n_vret {PX : nP} {mc ms : Nat} (C : nC p s m args meth c own cc nL none eb D N0 kA) (hd : decode cc pc = .ok (.return_, 1)) (hc : kc ≤ mc) (hs : ks ≤ ms) (hP : PX (.returned none) h n) : nW p l e R s m args below meth c (nQ below PX D N0 s mc ms) D N0 nL pc L [] h n kc ks := fun ls H locs hl hR hS =>
  W.widen hc hs (nQ_of (W.vret C.1 C.2.1 C.2.2.2.2.2.2.1 (fun t ht hW => ⟨h, n, by rw [ht]; exact hR, hP⟩) hS.2.2 hd C.2.2.2.2.2.2.2.1))
theorem n_aret {PX : nP} {mc ms a : Nat} {nm : String} (C : nC p s m args meth c own cc nL (some (.object nm)) eb D N0 kA) (hd : decode cc pc = .ok (.areturn, 1)) (hc : kc ≤ mc) (hs : ks ≤ ms) (hP : PX (.returned (some (.ref a))) h n) : nW p l e R s m args below meth c (nQ below PX D N0 s mc ms) D N0 nL pc L [.ref a] h n kc ks := fun ls H locs hl hR hS =>
  W.widen hc hs (nQ_of (W.aret C.1 C.2.1 C.2.2.2.2.2.2.1 (Or.inl ⟨_, rfl⟩) (Or.inr ⟨_, rfl⟩) (fun t ht hW => ⟨h, n, by rw [ht]; exact hR, hP⟩) hS.2.2 hd C.2.2.2.2.2.2.2.1))
theorem n_noh (C : nC p s m args meth c own cc nL ret true D N0 kA) (q : Nat) : ∀ x ∈ c.exceptionTable.toList, covers x q = false := by
  intro x hx
  have h1 := C.2.2.2.2.2.2.2.2 rfl
  have h2 : c.exceptionTable = #[] := by simpa using h1
  rw [h2] at hx
  cases hx
/-- the walked method ends with what was thrown -/
theorem n_out {PX : nP} {mc ms : Nat} {T : State} {locs : List Loc} {g : JFrame} {a : Nat} (C : nC p s m args meth c own cc nL ret true D N0 kA) (X : Stand p l e R s m args below meth c T locs kc ks) (hg : g.method = m) (hlk : g.locked = none) (hen : g.entered = []) (hR : Rp D N0 h n T.heap) (hS : ∀ q ∈ locs, N0 ≤ q.base) (hc : kc ≤ mc) (hs : ks ≤ ms) (hP : PX (.threw a) h n) : ∃ t, Steps p.tables e below ((T.setTop g).pushFrame (.throwing a)) t ∧ nQ below PX D N0 s mc ms t := by
  obtain ⟨l1, l2, l3, l4, l5⟩ := (stand_widen X hc hs).leaveThrown a hg hlk hen (n_noh C _) C.2.2.2.2.2.2.2.1
  exact ⟨_, l1, .threw a, l2, l3, ⟨h, n, hR, hP⟩, locs, ⟨l4, l5⟩, hS⟩
theorem n_athrow {PX : nP} {mc ms a : Nat} (C : nC p s m args meth c own cc nL ret true D N0 kA) (hd : decode cc pc = .ok (.athrow, 1)) (hc : kc ≤ mc) (hs : ks ≤ ms) (hP : PX (.threw a) h n) : nW p l e R s m args below meth c (nQ below PX D N0 s mc ms) D N0 nL pc L (.ref a :: st) h n kc ks := by
  intro ls H locs hl hR hS T hT X
  obtain ⟨l1, l2, l3, l4, l5⟩ := (stand_widen X hc hs).athrowLeaves C.1 (g := F0 m pc ls (.ref a :: st)) rfl rfl rfl (n_noh C _) (a := a) (rest := st) rfl (by rw [C.2.1]; exact hd) C.2.2.2.2.2.2.2.1
  exact ⟨_, l1, .threw a, l2, l3, ⟨h, n, by show Rp D N0 h n T.heap; rw [hT]; exact hR, hP⟩, locs, ⟨l4, l5⟩, hS.2.2⟩
/-- THE CALL, behind the instruction's own step -/
theorem n_back {y : MethodName} {bytes : ByteArray} {maxL d mc ms : Nat} {rt : Option FieldType} {A : List Value} {PX : nP} (hE : nE l y bytes maxL rt D N0 kA d mc ms A h n PX) (hfr : d + 1 ≤ R.frames) (hlo : 8 + (maxL + 11) + 60 * d ≤ R.locals)
    (C : nC p s m args meth c own cc nL ret eb D N0 kA) (hcode : Cond.code y bytes maxL rt ∈ lw_all) (hini : Cond.initialized y.cls ∈ lw_all)
    {T : State} {locs : List Loc} (X : Stand p l e R s m args below meth c T locs kc ks) (hR : Rp D N0 h n T.heap) (hS : va_S (nA N0) s.heap T.heap locs)
    {g : JFrame} {ig : Instr} {len : Nat} {mk : MethodId} (hg : g.method = m) (hsize : g.locals.size = c.maxLocals) (hdg : decode c.code g.pc = .ok (ig, len)) (hW : 2 * g.monitorRoom + (g.stack.map fun v => v.category).sum ≤ 8) (hn : T.methodNamed? y = some mk) (hcells : kc + mc ≤ R.cells) (hslots : ks + ms ≤ R.slots) :
    ∃ (o : Outcome) (T' : State) (L : List Loc) (h' : hT) (n' : Nat), Stand p l e R s m args below meth c T' (locs ++ L) (kc + mc) (ks + ms) ∧ Rp D N0 h' n' T'.heap ∧ PX o h' n' ∧ va_S (nA N0) s.heap T'.heap (locs ++ L) ∧
      (∀ v, o = .returned v → Steps p.tables e below (doInvoke e (T.setTop g) [] mk A.toArray).1 (T'.setTop { g with pc := g.pc + len, stack := v.toList ++ g.stack })) ∧
      (∀ a, o = .threw a → Steps p.tables e below (doInvoke e (T.setTop g) [] mk A.toArray).1 ((T'.setTop g).pushFrame (.throwing a))) := by
  have hpay : ∀ w ∈ lw_all, ∀ (a' : Array Value) (U : State), s.WarmedH U.vm → w.before a' U = true := pay_in C.2.2.2.2.1 lw_self
  have h2 := hpay _ hcode A.toArray T X.warmed
  have h3 := hpay _ hini A.toArray T X.warmed
  have h1 : (headSpec (ws_ y bytes maxL rt) (nRm d mc ms)).pre.before A.toArray T = true := atoms_intro fun w hw => by
    rcases List.mem_cons.mp hw with e1 | e1
    · rw [e1]; exact h2
    · exact hpay _ e1 _ T X.warmed
  obtain ⟨methY, cY, hmY, hcY, -, hlY, -, -, -, -⟩ := Cond.code_spec hn h2
  obtain ⟨kY, hkY, -⟩ := className_of_methodNamed hn
  have hinitY : kY.init = .initialized := Cond.initialized_spec (findClass_of_methodNamed hn) hkY h3
  have h : At T g.method c below := by rw [hg]; exact X.here
  have happ : (headSpec (ws_ y bytes maxL rt) (nRm d mc ms)).appliesLoose y e.platform (T.calling g mk A.toArray) = true :=
    Spec.appliesLoose_calling (g := g) h hdg hn hkY hinitY
      (X.room_calling (g := g) (R' := nRm d mc ms) hsize hmY hcY hfr (by rw [hlY]; show _ + _ + 60 * d ≤ _; omega) hcells hslots) h1
  obtain ⟨mid, hmid⟩ := h.above
  have hfr2 : (T.setTop g).frames = (.java g :: mid) ++ below := by rw [State.frames_setTop' g h.top, hmid]; rfl
  have hKT : nK D N0 kA T := nK_warm C.2.2.2.2.2.1 X.warmed hS.1 hS.2.1
  have hKc : nK D N0 kA (T.calling g mk A.toArray) := by
    obtain ⟨k1, k2, k3, k4, k5, k6, k7⟩ := hKT
    refine ⟨va_K.moved (u := T) (U := T.calling g mk A.toArray) (Vm.Alike.refl T.vm) k1, fun w hw hn => ?_, va_AO.moved (u := T) (Vm.Alike.refl T.vm) k3, va_AO.moved (u := T) (Vm.Alike.refl T.vm) k4, ?_, ?_, k7⟩
    · exact va_Nw.same (by cases w <;> first | rfl | cases hn) (show T.vm = (T.calling g mk A.toArray).vm from rfl) (k2 w hw hn)
    · obtain ⟨a5, k5⟩ := k5
      exact ⟨a5, va_Z.moved (u := T) (Vm.Alike.refl T.vm) k5⟩
    · obtain ⟨a6, k6⟩ := k6
      exact ⟨a6, va_Z.moved (u := T) (Vm.Alike.refl T.vm) k6⟩
  obtain ⟨o, s₂, hsteps, -, hend, hq⟩ := Steps.callFree hE p X.admits X.cas X.clock (acts := []) hfr2 happ ⟨rfl, hR, hKc⟩ trivial
  obtain ⟨⟨h', n', hR', hPX⟩, Lw, ⟨hW₂, hsame⟩, hL⟩ := hq
  rw [State.frames_setTop' g h.top, X.tail] at hend
  cases o with
  | returned v =>
    obtain ⟨T', X', hWT, hsm, ht⟩ := X.outOf hg hdg hend hW₂ hsame
    obtain ⟨z1, z2⟩ := same_old hsm hL
    have hRT : Rp D N0 h' n' T'.heap := by
      rw [ht] at hR'
      exact hR'
    refine ⟨.returned v, T', Lw, h', n', X', hRT, hPX, ⟨Nat.le_trans hS.1 z1, fun q q1 q2 => (z2 q (Nat.lt_of_lt_of_le q1 hS.1) q2).trans (hS.2.1 q q1 q2), fun q hq => ?_⟩, fun v' e1 => ?_, fun a e1 => (by cases e1)⟩
    · rcases List.mem_append.mp hq with z | z
      · exact hS.2.2 q z
      · exact hL q z
    · cases e1
      rw [← ht]
      exact hsteps
  | threw x =>
    obtain ⟨T', X', hWT, hsm, ht⟩ := X.outOfThrown hg hend hW₂ hsame
    obtain ⟨z1, z2⟩ := same_old hsm hL
    have hRT : Rp D N0 h' n' T'.heap := by
      rw [ht] at hR'
      exact hR'
    refine ⟨.threw x, T', Lw, h', n', X', hRT, hPX, ⟨Nat.le_trans hS.1 z1, fun q q1 q2 => (z2 q (Nat.lt_of_lt_of_le q1 hS.1) q2).trans (hS.2.1 q q1 q2), fun q hq => ?_⟩, fun v' e1 => (by cases e1), fun a e1 => ?_⟩
    · rcases List.mem_append.mp hq with z | z
      · exact hS.2.2 q z
      · exact hL q z
    · cases e1
      rw [← ht]
      exact hsteps
/-- something is being thrown above the walked method's frame -/
def nTh (p : Program) (l : Launch) (e : Env) (R : Room) (s : State) (m : MethodId) (args : Array Value) (below : List Frame) (meth : Method) (c : Code) (Q : State → Prop) (D : va_G) (N0 nL pc : Nat) (L : List (Nat × Value)) (st : List Value) (h : hT) (n kc ks a : Nat) : Prop :=
  ∀ (ls : Array Slot) (T : State) (locs : List Loc), lv_has ls nL L → Stand p l e R s m args below meth c T locs kc ks → Rp D N0 h n T.heap → va_S (nA N0) s.heap T.heap locs → ∃ t, Steps p.tables e below ((T.setTop (F0 m pc ls st)).pushFrame (.throwing a)) t ∧ Q t
theorem n_prop {PX : nP} {mc ms a : Nat} (C : nC p s m args meth c own cc nL ret true D N0 kA) (hc : kc ≤ mc) (hs : ks ≤ ms) (hP : PX (.threw a) h n) : nTh p l e R s m args below meth c (nQ below PX D N0 s mc ms) D N0 nL pc L st h n kc ks a := fun ls T locs hl X hR hS => n_out C X rfl rfl rfl hR hS.2.2 hc hs hP
/-- what the tables say of a method that is called: of an object's, a static one, a constructor -/
def nBV (Cn : String) (y : MethodName) (bytes : ByteArray) (maxL : Nat) (rt : Option FieldType) (k : Nat) : Prop := Cond.instanceMethod y ∈ lw_all ∧ Cond.selects Cn y y ∈ lw_all ∧ Cond.initialized y.cls ∈ lw_all ∧ Cond.code y bytes maxL rt ∈ lw_all ∧ (y.cls ≠ "java/lang/invoke/MethodHandle" ∧ y.cls ≠ "java/lang/invoke/VarHandle") ∧ (parseMethodDescriptor y.desc).map (fun d => d.parameters.length) = some k
def nBS (y : MethodName) (bytes : ByteArray) (maxL : Nat) (rt : Option FieldType) (k : Nat) : Prop := Cond.static y ∈ lw_all ∧ Cond.initialized y.cls ∈ lw_all ∧ Cond.code y bytes maxL rt ∈ lw_all ∧ (y.cls ≠ "java/lang/invoke/MethodHandle" ∧ y.cls ≠ "java/lang/invoke/VarHandle") ∧ (parseMethodDescriptor y.desc).map (fun d => d.parameters.length) = some k
def nBI (y : MethodName) (bytes : ByteArray) (maxL : Nat) (k : Nat) : Prop := Cond.instanceMethod y ∈ lw_all ∧ y.name = "<init>" ∧ Cond.initialized y.cls ∈ lw_all ∧ Cond.code y bytes maxL none ∈ lw_all ∧ (y.cls ≠ "java/lang/invoke/MethodHandle" ∧ y.cls ≠ "java/lang/invoke/VarHandle") ∧ (parseMethodDescriptor y.desc).map (fun d => d.parameters.length) = some k
theorem nlen {y : MethodName} {k : Nat} (h : (parseMethodDescriptor y.desc).map (fun d => d.parameters.length) = some k) {sig : MethodDescriptor} (hs : parseMethodDescriptor y.desc = some sig) : k = sig.parameters.length := by
  rw [hs] at h
  exact (Option.some.inj h).symm
theorem n_callV (C : nC p s m args meth c own cc nL ret eb D N0 kA) {y : MethodName} {bytes : ByteArray} {maxL d mc ms index : Nat} {rt : Option FieldType} {As rest st0 : List Value} {PX : nP} {i ci N : Nat} {Cn : String} {T : u_T} {fs : List Value} (he : h i = .inr (ci, fs)) (hi : i < n) (hc : vwCl[ci]? = some (Cn, T, N)) (B : nBV Cn y bytes maxL rt As.length) (hE : nE l y bytes maxL rt D N0 kA d mc ms (.ref (N0 + i) :: As) h n PX) (hfr : d + 1 ≤ R.frames) (hlo : 8 + (maxL + 11) + 60 * d ≤ R.locals) (hlink : Cond.methodLink own index y ∈ lw_all) (hst : st0 = As.reverse ++ .ref (N0 + i) :: rest) (hW : (rest.map fun v => v.category).sum ≤ 8) (hd : decode cc pc = .ok (.invokevirtual index, 3)) (hcells : kc + mc ≤ R.cells) (hslots : ks + ms ≤ R.slots) (K : ∀ v h' n', PX (.returned v) h' n' → nW p l e R s m args below meth c Q D N0 nL (pc + 3) L (v.toList ++ rest) h' n' (kc + mc) (ks + ms)) (KT : ∀ a h' n', PX (.threw a) h' n' → nTh p l e R s m args below meth c Q D N0 nL pc L rest h' n' (kc + mc) (ks + ms) a) : nW p l e R s m args below meth c Q D N0 nL pc L st0 h n kc ks := by
  intro ls H locs hl hR hS Tz hTz X
  subst hst
  have hsz : (F0 m pc ls (As.reverse ++ .ref (N0 + i) :: rest)).locals.size = c.maxLocals := by rw [C.2.2.1]; exact hl.1
  obtain ⟨r', h1, cellB, hcB, g2, g3, -⟩ := hR.2 i _ (by rw [wl_get hi, he])
  have hoB : cellB.vm.isStatics = false := by rw [g3]; rfl
  have hcls : s.vm.findClass Cn = some cellB.cls := by rw [g2]; exact (C.2.2.2.2.2.1.1.1 ci _ hc).2.1
  obtain ⟨mk, methM, hnamed, hmethM, hstM, habM⟩ := Cond.instanceMethod_spec (C.2.2.2.2.1 _ B.1)
  obtain ⟨methM', cM, hmethM', -, -, -, -, -, -, hsigM⟩ := Cond.code_spec hnamed (C.2.2.2.2.1 _ B.2.2.2.1)
  cases hmethM.symm.trans hmethM'
  obtain ⟨c2, r2, m2, q1, q2, q3, q4, kP, hkP, hkPi⟩ := Cond.selects_spec (C.2.2.2.2.1 _ B.2.1)
  cases hcls.symm.trans q1
  cases (State.methodFound?_of_named hnamed B.2.2.2.2.1).symm.trans q2
  cases hnamed.symm.trans q3
  have hselP : selectMethod e.platform s.vm cellB.cls mk = .method mk := by rw [Launch.admits_selectMethod X.admits]; exact q4
  obtain ⟨vm₁, X₁, hstep₁⟩ := X.invokevirtual C.1 C.2.2.2.1 (C.2.2.2.2.1 _ hlink) hnamed hmethM hstM hkP hkPi B.2.2.2.2.1 (a := N0 + i) (cell := cellB) (by rw [hTz]; exact hcB)
    (fun z h => by rw [h] at hoB; cases hoB) hselP hmethM habM hkP hkPi (g := F0 m pc ls (As.reverse ++ .ref (N0 + i) :: rest)) rfl (argsL := As) (rest := rest) (nlen B.2.2.2.2.2 hsigM) rfl (by rw [C.2.1]; exact hd)
  obtain ⟨o, T', Lw, h', n', X', hR', hPX, hS', st1, st2⟩ := n_back hE hfr hlo C B.2.2.2.1 B.2.2.1 X₁ (show Rp D N0 h n Tz.heap by rw [hTz]; exact hR) (show va_S (nA N0) s.heap Tz.heap locs by rw [hTz]; exact hS) (g := F0 m pc ls rest) (ig := .invokevirtual index) (len := 3) (mk := mk) rfl hsz (by rw [C.2.1]; exact hd) (by show 2 * 0 + (rest.map fun v => v.category).sum ≤ 8; omega) (X₁.named hnamed) hcells hslots
  cases o with
  | returned v =>
    obtain ⟨t, a1, b1⟩ := K v h' n' hPX ls T'.heap _ hl hR' hS' T' rfl X'
    exact ⟨t, hstep₁ _ fun acts => by rw [doInvoke_state]; exact (st1 v rfl).trans a1, b1⟩
  | threw a =>
    obtain ⟨t, a1, b1⟩ := KT a h' n' hPX ls T' _ hl X' hR' hS'
    exact ⟨t, hstep₁ _ fun acts => by rw [doInvoke_state]; exact (st2 a rfl).trans a1, b1⟩
theorem n_callS (C : nC p s m args meth c own cc nL ret eb D N0 kA) {y : MethodName} {bytes : ByteArray} {maxL d mc ms index : Nat} {rt : Option FieldType} {As rest st0 : List Value} {PX : nP} (B : nBS y bytes maxL rt As.length) (hE : nE l y bytes maxL rt D N0 kA d mc ms (As) h n PX) (hfr : d + 1 ≤ R.frames) (hlo : 8 + (maxL + 11) + 60 * d ≤ R.locals) (hlink : Cond.methodLink own index y ∈ lw_all) (hst : st0 = As.reverse ++ rest) (hW : (rest.map fun v => v.category).sum ≤ 8) (hd : decode cc pc = .ok (.invokestatic index, 3)) (hcells : kc + mc ≤ R.cells) (hslots : ks + ms ≤ R.slots) (K : ∀ v h' n', PX (.returned v) h' n' → nW p l e R s m args below meth c Q D N0 nL (pc + 3) L (v.toList ++ rest) h' n' (kc + mc) (ks + ms)) (KT : ∀ a h' n', PX (.threw a) h' n' → nTh p l e R s m args below meth c Q D N0 nL pc L rest h' n' (kc + mc) (ks + ms) a) : nW p l e R s m args below meth c Q D N0 nL pc L st0 h n kc ks := by
  intro ls H locs hl hR hS Tz hTz X
  subst hst
  have hsz : (F0 m pc ls (As.reverse ++ rest)).locals.size = c.maxLocals := by rw [C.2.2.1]; exact hl.1
  obtain ⟨mk, hnamed⟩ := Cond.code_named (C.2.2.2.2.1 _ B.2.2.1)
  obtain ⟨methM, cM, hmethM, -, -, -, -, -, -, hsigM⟩ := Cond.code_spec hnamed (C.2.2.2.2.1 _ B.2.2.1)
  have hstatic : methM.isStatic = true := Cond.static_spec hnamed hmethM (C.2.2.2.2.1 _ B.1)
  obtain ⟨kP, hkP, -⟩ := className_of_methodNamed hnamed
  have hinitP : kP.init = .initialized := Cond.initialized_spec (findClass_of_methodNamed hnamed) hkP (C.2.2.2.2.1 _ B.2.1)
  obtain ⟨vm₁, X₁, hstep₁⟩ := X.invokestatic C.1 C.2.2.2.1 (C.2.2.2.2.1 _ hlink) hnamed hmethM hstatic hkP hinitP B.2.2.2.1 (g := F0 m pc ls (As.reverse ++ rest)) rfl (argsL := As) (rest := rest) (nlen B.2.2.2.2 hsigM) rfl (by rw [C.2.1]; exact hd)
  obtain ⟨o, T', Lw, h', n', X', hR', hPX, hS', st1, st2⟩ := n_back hE hfr hlo C B.2.2.1 B.2.1 X₁ (show Rp D N0 h n Tz.heap by rw [hTz]; exact hR) (show va_S (nA N0) s.heap Tz.heap locs by rw [hTz]; exact hS) (g := F0 m pc ls rest) (ig := .invokestatic index) (len := 3) (mk := mk) rfl hsz (by rw [C.2.1]; exact hd) (by show 2 * 0 + (rest.map fun v => v.category).sum ≤ 8; omega) (X₁.named hnamed) hcells hslots
  cases o with
  | returned v =>
    obtain ⟨t, a1, b1⟩ := K v h' n' hPX ls T'.heap _ hl hR' hS' T' rfl X'
    exact ⟨t, hstep₁ _ fun acts => by rw [doInvoke_state]; exact (st1 v rfl).trans a1, b1⟩
  | threw a =>
    obtain ⟨t, a1, b1⟩ := KT a h' n' hPX ls T' _ hl X' hR' hS'
    exact ⟨t, hstep₁ _ fun acts => by rw [doInvoke_state]; exact (st2 a rfl).trans a1, b1⟩
theorem n_callSN (C : nC p s m args meth c own cc nL ret eb D N0 kA) {y : MethodName} {bytes : ByteArray} {maxL d mc ms index : Nat} {host : String} {rt : Option FieldType} {As rest st0 : List Value} {PX : nP} (B : nBS y bytes maxL rt As.length) (hE : nE l y bytes maxL rt D N0 kA d mc ms (As) h n PX) (hfr : d + 1 ≤ R.frames) (hlo : 8 + (maxL + 11) + 60 * d ≤ R.locals) (hlink : Cond.methodLinkNest own index y host ∈ lw_tbl) (hst : st0 = As.reverse ++ rest) (hW : (rest.map fun v => v.category).sum ≤ 8) (hd : decode cc pc = .ok (.invokestatic index, 3)) (hcells : kc + mc ≤ R.cells) (hslots : ks + ms ≤ R.slots) (K : ∀ v h' n', PX (.returned v) h' n' → nW p l e R s m args below meth c Q D N0 nL (pc + 3) L (v.toList ++ rest) h' n' (kc + mc) (ks + ms)) (KT : ∀ a h' n', PX (.threw a) h' n' → nTh p l e R s m args below meth c Q D N0 nL pc L rest h' n' (kc + mc) (ks + ms) a) : nW p l e R s m args below meth c Q D N0 nL pc L st0 h n kc ks := by
  intro ls H locs hl hR hS Tz hTz X
  subst hst
  have hsz : (F0 m pc ls (As.reverse ++ rest)).locals.size = c.maxLocals := by rw [C.2.2.1]; exact hl.1
  obtain ⟨mk, hnamed⟩ := Cond.code_named (C.2.2.2.2.1 _ B.2.2.1)
  obtain ⟨methM, cM, hmethM, -, -, -, -, -, -, hsigM⟩ := Cond.code_spec hnamed (C.2.2.2.2.1 _ B.2.2.1)
  have hstatic : methM.isStatic = true := Cond.static_spec hnamed hmethM (C.2.2.2.2.1 _ B.1)
  obtain ⟨kP, hkP, -⟩ := className_of_methodNamed hnamed
  have hinitP : kP.init = .initialized := Cond.initialized_spec (findClass_of_methodNamed hnamed) hkP (C.2.2.2.2.1 _ B.2.1)
  obtain ⟨vm₁, X₁, hstep₁⟩ := X.invokestaticNest C.1 C.2.2.2.1 (va_Nw.use rfl (C.2.2.2.2.2.1.2.1 _ hlink rfl)) hnamed hmethM hstatic hkP hinitP B.2.2.2.1 (g := F0 m pc ls (As.reverse ++ rest)) rfl (argsL := As) (rest := rest) (nlen B.2.2.2.2 hsigM) rfl (by rw [C.2.1]; exact hd)
  obtain ⟨o, T', Lw, h', n', X', hR', hPX, hS', st1, st2⟩ := n_back hE hfr hlo C B.2.2.1 B.2.1 X₁ (show Rp D N0 h n Tz.heap by rw [hTz]; exact hR) (show va_S (nA N0) s.heap Tz.heap locs by rw [hTz]; exact hS) (g := F0 m pc ls rest) (ig := .invokestatic index) (len := 3) (mk := mk) rfl hsz (by rw [C.2.1]; exact hd) (by show 2 * 0 + (rest.map fun v => v.category).sum ≤ 8; omega) (X₁.named hnamed) hcells hslots
  cases o with
  | returned v =>
    obtain ⟨t, a1, b1⟩ := K v h' n' hPX ls T'.heap _ hl hR' hS' T' rfl X'
    exact ⟨t, hstep₁ _ fun acts => by rw [doInvoke_state]; exact (st1 v rfl).trans a1, b1⟩
  | threw a =>
    obtain ⟨t, a1, b1⟩ := KT a h' n' hPX ls T' _ hl X' hR' hS'
    exact ⟨t, hstep₁ _ fun acts => by rw [doInvoke_state]; exact (st2 a rfl).trans a1, b1⟩
theorem n_callI (C : nC p s m args meth c own cc nL ret eb D N0 kA) {y : MethodName} {bytes : ByteArray} {maxL d mc ms index : Nat} {As rest st0 : List Value} {PX : nP} {a0 : Nat} (B : nBI y bytes maxL As.length) (hE : nE l y bytes maxL none D N0 kA d mc ms (.ref a0 :: As) h n PX) (hfr : d + 1 ≤ R.frames) (hlo : 8 + (maxL + 11) + 60 * d ≤ R.locals) (hlink : Cond.methodLink own index y ∈ lw_all) (hst : st0 = As.reverse ++ .ref a0 :: rest) (hW : (rest.map fun v => v.category).sum ≤ 8) (hd : decode cc pc = .ok (.invokespecial index, 3)) (hcells : kc + mc ≤ R.cells) (hslots : ks + ms ≤ R.slots) (K : ∀ v h' n', PX (.returned v) h' n' → nW p l e R s m args below meth c Q D N0 nL (pc + 3) L (v.toList ++ rest) h' n' (kc + mc) (ks + ms)) (KT : ∀ a h' n', PX (.threw a) h' n' → nTh p l e R s m args below meth c Q D N0 nL pc L rest h' n' (kc + mc) (ks + ms) a) : nW p l e R s m args below meth c Q D N0 nL pc L st0 h n kc ks := by
  intro ls H locs hl hR hS Tz hTz X
  subst hst
  have hsz : (F0 m pc ls (As.reverse ++ .ref a0 :: rest)).locals.size = c.maxLocals := by rw [C.2.2.1]; exact hl.1
  have hpl : e.platform.magicAccessors = ({} : Platform).magicAccessors := by rw [X.admits.platform]
  obtain ⟨mk, methM, cM, kP, vm₁, hnamed, hmethM, hcodeM, -, hlocalsM, -, hkP, -, hW₁, hstep₁⟩ := Steps.initColdArgs (e := e) X.here C.1 X.warmed hpl C.2.2.2.1 B.2.1 B.2.2.2.2.1 (C.2.2.2.2.1 _ hlink) (C.2.2.2.2.1 _ B.1) (C.2.2.2.2.1 _ B.2.2.2.1) (f := F0 m pc ls (As.reverse ++ .ref a0 :: rest)) rfl (fun sig hs => nlen B.2.2.2.2.2 hs) rfl (by rw [C.2.1]; exact hd)
  have X₁ := X.noted hW₁
  obtain ⟨o, T', Lw, h', n', X', hR', hPX, hS', st1, st2⟩ := n_back hE hfr hlo C B.2.2.2.1 B.2.2.1 X₁ (show Rp D N0 h n Tz.heap by rw [hTz]; exact hR) (show va_S (nA N0) s.heap Tz.heap locs by rw [hTz]; exact hS) (g := F0 m pc ls rest) (ig := .invokespecial index) (len := 3) (mk := mk) rfl hsz (by rw [C.2.1]; exact hd) (by show 2 * 0 + (rest.map fun v => v.category).sum ≤ 8; omega) (X₁.named hnamed) hcells hslots
  cases o with
  | returned v =>
    obtain ⟨t, a1, b1⟩ := K v h' n' hPX ls T'.heap _ hl hR' hS' T' rfl X'
    exact ⟨t, hstep₁ _ fun acts => by rw [doInvoke_state]; exact (st1 v rfl).trans a1, b1⟩
  | threw a =>
    obtain ⟨t, a1, b1⟩ := KT a h' n' hPX ls T' _ hl X' hR' hS'
    exact ⟨t, hstep₁ _ fun acts => by rw [doInvoke_state]; exact (st2 a rfl).trans a1, b1⟩
theorem n_callIN (C : nC p s m args meth c own cc nL ret eb D N0 kA) {y : MethodName} {bytes : ByteArray} {maxL d mc ms index : Nat} {host : String} {As rest st0 : List Value} {PX : nP} {a0 : Nat} (B : nBI y bytes maxL As.length) (hE : nE l y bytes maxL none D N0 kA d mc ms (.ref a0 :: As) h n PX) (hfr : d + 1 ≤ R.frames) (hlo : 8 + (maxL + 11) + 60 * d ≤ R.locals) (hlink : Cond.methodLinkNest own index y host ∈ lw_tbl) (hst : st0 = As.reverse ++ .ref a0 :: rest) (hW : (rest.map fun v => v.category).sum ≤ 8) (hd : decode cc pc = .ok (.invokespecial index, 3)) (hcells : kc + mc ≤ R.cells) (hslots : ks + ms ≤ R.slots) (K : ∀ v h' n', PX (.returned v) h' n' → nW p l e R s m args below meth c Q D N0 nL (pc + 3) L (v.toList ++ rest) h' n' (kc + mc) (ks + ms)) (KT : ∀ a h' n', PX (.threw a) h' n' → nTh p l e R s m args below meth c Q D N0 nL pc L rest h' n' (kc + mc) (ks + ms) a) : nW p l e R s m args below meth c Q D N0 nL pc L st0 h n kc ks := by
  intro ls H locs hl hR hS Tz hTz X
  subst hst
  have hsz : (F0 m pc ls (As.reverse ++ .ref a0 :: rest)).locals.size = c.maxLocals := by rw [C.2.2.1]; exact hl.1
  have hpl : e.platform.magicAccessors = ({} : Platform).magicAccessors := by rw [X.admits.platform]
  obtain ⟨mk, methM, cM, kP, vm₁, hnamed, hmethM, hcodeM, -, hlocalsM, -, hkP, -, hW₁, hstep₁⟩ := Steps.initColdArgsNest (e := e) X.here C.1 X.warmed hpl C.2.2.2.1 B.2.1 B.2.2.2.2.1 (va_Nw.use rfl (C.2.2.2.2.2.1.2.1 _ hlink rfl)) (C.2.2.2.2.1 _ B.1) (C.2.2.2.2.1 _ B.2.2.2.1) (f := F0 m pc ls (As.reverse ++ .ref a0 :: rest)) rfl (fun sig hs => nlen B.2.2.2.2.2 hs) rfl (by rw [C.2.1]; exact hd)
  have X₁ := X.noted hW₁
  obtain ⟨o, T', Lw, h', n', X', hR', hPX, hS', st1, st2⟩ := n_back hE hfr hlo C B.2.2.2.1 B.2.2.1 X₁ (show Rp D N0 h n Tz.heap by rw [hTz]; exact hR) (show va_S (nA N0) s.heap Tz.heap locs by rw [hTz]; exact hS) (g := F0 m pc ls rest) (ig := .invokespecial index) (len := 3) (mk := mk) rfl hsz (by rw [C.2.1]; exact hd) (by show 2 * 0 + (rest.map fun v => v.category).sum ≤ 8; omega) (X₁.named hnamed) hcells hslots
  cases o with
  | returned v =>
    obtain ⟨t, a1, b1⟩ := K v h' n' hPX ls T'.heap _ hl hR' hS' T' rfl X'
    exact ⟨t, hstep₁ _ fun acts => by rw [doInvoke_state]; exact (st1 v rfl).trans a1, b1⟩
  | threw a =>
    obtain ⟨t, a1, b1⟩ := KT a h' n' hPX ls T' _ hl X' hR' hS'
    exact ⟨t, hstep₁ _ fun acts => by rw [doInvoke_state]; exact (st2 a rfl).trans a1, b1⟩
/-- a method that returns v with the heap h2 of n2 cells -/
def nX (v : Option Value) (h2 : hT) (n2 : Nat) : nP := fun o h' n' => o = .returned v ∧ h' = h2 ∧ n' = n2
theorem n_callV1 (C : nC p s m args meth c own cc nL ret eb D N0 kA) {y : MethodName} {bytes : ByteArray} {maxL d mc ms index : Nat} {rt : Option FieldType} {As rest st0 : List Value} {v : Option Value} {h2 : hT} {n2 : Nat} {i ci N : Nat} {Cn : String} {T : u_T} {fs : List Value} (he : h i = .inr (ci, fs)) (hi : i < n) (hc : vwCl[ci]? = some (Cn, T, N)) (B : nBV Cn y bytes maxL rt As.length) (hE : nE l y bytes maxL rt D N0 kA d mc ms (.ref (N0 + i) :: As) h n (nX v h2 n2)) (hfr : d + 1 ≤ R.frames) (hlo : 8 + (maxL + 11) + 60 * d ≤ R.locals) (hlink : Cond.methodLink own index y ∈ lw_all) (hst : st0 = As.reverse ++ .ref (N0 + i) :: rest) (hW : (rest.map fun v => v.category).sum ≤ 8) (hd : decode cc pc = .ok (.invokevirtual index, 3)) (hcells : kc + mc ≤ R.cells) (hslots : ks + ms ≤ R.slots) (K : nW p l e R s m args below meth c Q D N0 nL (pc + 3) L (v.toList ++ rest) h2 n2 (kc + mc) (ks + ms)) : nW p l e R s m args below meth c Q D N0 nL pc L st0 h n kc ks :=
  n_callV C he hi hc B hE hfr hlo hlink hst hW hd hcells hslots (fun v' h' n' q => by obtain ⟨q1, q2, q3⟩ := q; cases q1; subst q2; subst q3; exact K) (fun a h' n' q => by obtain ⟨q1, -, -⟩ := q; cases q1)
theorem n_callS1 (C : nC p s m args meth c own cc nL ret eb D N0 kA) {y : MethodName} {bytes : ByteArray} {maxL d mc ms index : Nat} {rt : Option FieldType} {As rest st0 : List Value} {v : Option Value} {h2 : hT} {n2 : Nat} (B : nBS y bytes maxL rt As.length) (hE : nE l y bytes maxL rt D N0 kA d mc ms (As) h n (nX v h2 n2)) (hfr : d + 1 ≤ R.frames) (hlo : 8 + (maxL + 11) + 60 * d ≤ R.locals) (hlink : Cond.methodLink own index y ∈ lw_all) (hst : st0 = As.reverse ++ rest) (hW : (rest.map fun v => v.category).sum ≤ 8) (hd : decode cc pc = .ok (.invokestatic index, 3)) (hcells : kc + mc ≤ R.cells) (hslots : ks + ms ≤ R.slots) (K : nW p l e R s m args below meth c Q D N0 nL (pc + 3) L (v.toList ++ rest) h2 n2 (kc + mc) (ks + ms)) : nW p l e R s m args below meth c Q D N0 nL pc L st0 h n kc ks :=
  n_callS C B hE hfr hlo hlink hst hW hd hcells hslots (fun v' h' n' q => by obtain ⟨q1, q2, q3⟩ := q; cases q1; subst q2; subst q3; exact K) (fun a h' n' q => by obtain ⟨q1, -, -⟩ := q; cases q1)
theorem n_callSN1 (C : nC p s m args meth c own cc nL ret eb D N0 kA) {y : MethodName} {bytes : ByteArray} {maxL d mc ms index : Nat} {host : String} {rt : Option FieldType} {As rest st0 : List Value} {v : Option Value} {h2 : hT} {n2 : Nat} (B : nBS y bytes maxL rt As.length) (hE : nE l y bytes maxL rt D N0 kA d mc ms (As) h n (nX v h2 n2)) (hfr : d + 1 ≤ R.frames) (hlo : 8 + (maxL + 11) + 60 * d ≤ R.locals) (hlink : Cond.methodLinkNest own index y host ∈ lw_tbl) (hst : st0 = As.reverse ++ rest) (hW : (rest.map fun v => v.category).sum ≤ 8) (hd : decode cc pc = .ok (.invokestatic index, 3)) (hcells : kc + mc ≤ R.cells) (hslots : ks + ms ≤ R.slots) (K : nW p l e R s m args below meth c Q D N0 nL (pc + 3) L (v.toList ++ rest) h2 n2 (kc + mc) (ks + ms)) : nW p l e R s m args below meth c Q D N0 nL pc L st0 h n kc ks :=
  n_callSN C (host := host) B hE hfr hlo hlink hst hW hd hcells hslots (fun v' h' n' q => by obtain ⟨q1, q2, q3⟩ := q; cases q1; subst q2; subst q3; exact K) (fun a h' n' q => by obtain ⟨q1, -, -⟩ := q; cases q1)
theorem n_callI1 (C : nC p s m args meth c own cc nL ret eb D N0 kA) {y : MethodName} {bytes : ByteArray} {maxL d mc ms index : Nat} {As rest st0 : List Value} {v : Option Value} {h2 : hT} {n2 : Nat} {a0 : Nat} (B : nBI y bytes maxL As.length) (hE : nE l y bytes maxL none D N0 kA d mc ms (.ref a0 :: As) h n (nX v h2 n2)) (hfr : d + 1 ≤ R.frames) (hlo : 8 + (maxL + 11) + 60 * d ≤ R.locals) (hlink : Cond.methodLink own index y ∈ lw_all) (hst : st0 = As.reverse ++ .ref a0 :: rest) (hW : (rest.map fun v => v.category).sum ≤ 8) (hd : decode cc pc = .ok (.invokespecial index, 3)) (hcells : kc + mc ≤ R.cells) (hslots : ks + ms ≤ R.slots) (K : nW p l e R s m args below meth c Q D N0 nL (pc + 3) L (v.toList ++ rest) h2 n2 (kc + mc) (ks + ms)) : nW p l e R s m args below meth c Q D N0 nL pc L st0 h n kc ks :=
  n_callI C B hE hfr hlo hlink hst hW hd hcells hslots (fun v' h' n' q => by obtain ⟨q1, q2, q3⟩ := q; cases q1; subst q2; subst q3; exact K) (fun a h' n' q => by obtain ⟨q1, -, -⟩ := q; cases q1)
theorem n_callIN1 (C : nC p s m args meth c own cc nL ret eb D N0 kA) {y : MethodName} {bytes : ByteArray} {maxL d mc ms index : Nat} {host : String} {As rest st0 : List Value} {v : Option Value} {h2 : hT} {n2 : Nat} {a0 : Nat} (B : nBI y bytes maxL As.length) (hE : nE l y bytes maxL none D N0 kA d mc ms (.ref a0 :: As) h n (nX v h2 n2)) (hfr : d + 1 ≤ R.frames) (hlo : 8 + (maxL + 11) + 60 * d ≤ R.locals) (hlink : Cond.methodLinkNest own index y host ∈ lw_tbl) (hst : st0 = As.reverse ++ .ref a0 :: rest) (hW : (rest.map fun v => v.category).sum ≤ 8) (hd : decode cc pc = .ok (.invokespecial index, 3)) (hcells : kc + mc ≤ R.cells) (hslots : ks + ms ≤ R.slots) (K : nW p l e R s m args below meth c Q D N0 nL (pc + 3) L (v.toList ++ rest) h2 n2 (kc + mc) (ks + ms)) : nW p l e R s m args below meth c Q D N0 nL pc L st0 h n kc ks :=
  n_callIN C (host := host) B hE hfr hlo hlink hst hW hd hcells hslots (fun v' h' n' q => by obtain ⟨q1, q2, q3⟩ := q; cases q1; subst q2; subst q3; exact K) (fun a h' n' q => by obtain ⟨q1, -, -⟩ := q; cases q1)
end NE
