/-! THE ROWS: a method's walk over a functional heap h (cell i lies at the address N0 + i) -/
abbrev hT : Type := Nat → va_E
/-- the world: n cells from N0 on -/
def wl (N0 : Nat) (h : hT) (n : Nat) : va_W := (List.range n).map (fun i => (N0 + i, h i))
theorem wl_get {N0 n i : Nat} {h : hT} (hi : i < n) : (wl N0 h n)[i]? = some (N0 + i, h i) := by
  simp [wl, hi]
theorem wl_len {N0 n : Nat} {h : hT} : (wl N0 h n).length = n := by simp [wl]
theorem wl_set {N0 n i : Nat} {h : hT} {x : va_E} : (wl N0 h n).set i (N0 + i, x) = wl N0 (va_up h i x) n := by
  apply List.ext_getElem?
  intro k
  by_cases hk : k = i
  · subst hk
    by_cases hn : k < n
    · rw [List.getElem?_set_self (by rw [wl_len]; exact hn), wl_get hn]
      simp [va_up]
    · rw [List.getElem?_eq_none (by rw [List.length_set, wl_len]; omega), List.getElem?_eq_none (by rw [wl_len]; omega)]
  · rw [List.getElem?_set_ne (Ne.symm hk)]
    by_cases hn : k < n
    · rw [wl_get hn, wl_get hn]
      simp [va_up, hk]
    · rw [List.getElem?_eq_none (by rw [wl_len]; omega), List.getElem?_eq_none (by rw [wl_len]; omega)]
theorem wl_push {N0 n : Nat} {h : hT} {x : va_E} : wl N0 h n ++ [(N0 + n, x)] = wl N0 (va_up h n x) (n + 1) := by
  apply List.ext_getElem?
  intro k
  by_cases hk : k < n
  · rw [List.getElem?_append_left (by rw [wl_len]; exact hk), wl_get hk, wl_get (by omega)]
    simp [va_up, Nat.ne_of_lt hk]
  · rw [List.getElem?_append_right (by rw [wl_len]; omega), wl_len]
    by_cases hk2 : k = n
    · subst hk2
      rw [wl_get (by omega)]
      simp [va_up]
    · rw [List.getElem?_eq_none (by simp; omega), List.getElem?_eq_none (by rw [wl_len]; omega)]
/-- the addresses that a run may write -/
def nA (N0 : Nat) : Nat → Prop := fun q => N0 ≤ q
theorem wl_D {N0 n : Nat} {h : hT} : va_D (nA N0) (wl N0 h n) := by
  have key : ∀ (k : Nat) (q : Nat × va_E), (wl N0 h n)[k]? = some q → q.1 = N0 + k := by
    intro k q hk
    have hl : k < n := by
      have := (List.getElem?_eq_some_iff.mp hk).1
      rwa [wl_len] at this
    rw [wl_get hl] at hk
    cases hk
    rfl
  refine ⟨fun i j x y hi hj hxy => ?_, fun k q hk => ?_⟩
  · have h1 := key i x hi
    have h2 := key j y hj
    omega
  · show N0 ≤ q.1
    rw [key k q hk]
    omega
/-- the classes of the run, by number -/
abbrev vwCl : List vw_C := [(RX0, TX0, 23), (RX1, TX1, 11), (RX2, TX2, 10), (RX3, TX3, 45), (RX4, TX4, 5), (RX5, TX5, 8), (RX6, TX6, 3)]
/-- the array classes of the run -/
abbrev nTy (kA : Nat → ClassId) : List (ClassId × FieldType) := [(kA 0, .int), (kA 1, .byte), (kA 2, .boolean), (kA 3, .object "LimbMeasures$Limb"), (kA 4, .object "LimbMeasures$State")]
/-- the heap H holds h's n cells, and ends there -/
def Rp (D : va_G) (N0 : Nat) (h : hT) (n : Nat) (H : Heap) : Prop := H.size = N0 + n ∧ va_P D vwCl (wl N0 h n) H
/-- words of nest mates -/
def nestW : Cond → Bool
  | .fieldLinkNest .. => true
  | .methodLinkNest .. => true
  | _ => false
/-- what is known of the tables all through a run -/
def nK (D : va_G) (N0 : Nat) (kA : Nat → ClassId) (U : State) : Prop :=
  va_K D vwCl (nTy kA) U ∧ (∀ w ∈ lw_tbl, nestW w = true → va_Nw w U) ∧ va_AO "LimbMeasures$Limb" U ∧ va_AO "LimbMeasures$State" U ∧
  (∃ a : Nat, va_Z "java/lang/Throwable" "UNASSIGNED_STACK" "[Ljava/lang/StackTraceElement;" (.ref a) (nA N0) U U.heap) ∧ (∃ a : Nat, va_Z "java/lang/Throwable" "SUPPRESSED_SENTINEL" "Ljava/util/List;" (.ref a) (nA N0) U U.heap) ∧ N0 ≤ U.heap.size
/-- the locals that are known, by number -/
def nlk : List (Nat × Value) → Nat → Option Value
  | [], _ => none
  | (j, v) :: t, k => bif Nat.beq j k then some v else nlk t k
theorem nlk_pl : ∀ {L : List (Nat × Value)} {k : Nat} {v : Value}, nlk L k = some v → ∃ j : Nat, L[j]? = some (k, v)
  | [], k, v, h => by simp [nlk] at h
  | (j, w) :: t, k, v, h => by
    rw [nlk] at h
    cases hb : Nat.beq j k with
    | true =>
      rw [hb] at h
      have e : j = k := Nat.eq_of_beq_eq_true hb
      subst e
      cases h
      exact ⟨0, rfl⟩
    | false =>
      rw [hb] at h
      obtain ⟨i, hi⟩ := nlk_pl (L := t) h
      exact ⟨i + 1, hi⟩
theorem nlk_at {ls : Array Slot} {nL : Nat} {L : List (Nat × Value)} {k : Nat} {v : Value} (hl : lv_has ls nL L) (h : nlk L k = some v) : ls[k]? = some (.val v) := by
  obtain ⟨j, hj⟩ := nlk_pl h
  exact lv_at hl j hj
def nin : List (Nat × Value) → Nat → Value → List (Nat × Value)
  | [], i, v => [(i, v)]
  | (j, w) :: t, i, v => bif Nat.ble i j then (i, v) :: (j, w) :: t else (j, w) :: nin t i v
theorem nin_mem : ∀ {L : List (Nat × Value)} {i : Nat} {v : Value} {q : Nat × Value}, q ∈ nin L i v → q = (i, v) ∨ q ∈ L
  | [], i, v, q, h => by
    rw [nin] at h
    exact Or.inl (List.mem_singleton.mp h)
  | (j, w) :: t, i, v, q, h => by
    rw [nin] at h
    cases hb : Nat.ble i j with
    | true =>
      rw [hb] at h
      exact List.mem_cons.mp h
    | false =>
      rw [hb] at h
      rcases List.mem_cons.mp h with e | e
      · exact Or.inr (e ▸ List.mem_cons_self)
      · rcases nin_mem e with e | e
        · exact Or.inl e
        · exact Or.inr (List.mem_cons_of_mem _ e)
/-- a value of one slot stored -/
def nst (L : List (Nat × Value)) (i : Nat) (v : Value) : List (Nat × Value) := nin (L.filter (fun q => !(q.1 == i) && !(q.1 + 1 == i && q.2.category == 2))) i v
/-- a value of two slots stored -/
def nst2 (L : List (Nat × Value)) (i : Nat) (v : Value) : List (Nat × Value) := nin (L.filter (fun q => !(q.1 == i) && (!(q.1 == i + 1) && !(q.1 + 1 == i && q.2.category == 2)))) i v
theorem nst_has {ls : Array Slot} {nL : Nat} {L : List (Nat × Value)} {i : Nat} {v : Value} (h : lv_has ls nL ((i, v) :: L.filter (fun q => !(q.1 == i) && !(q.1 + 1 == i && q.2.category == 2)))) : lv_has ls nL (nst L i v) :=
  ⟨h.1, h.2.1, fun q hq => h.2.2 q (by
    rcases nin_mem hq with e | e
    · rw [e]; exact List.mem_cons_self
    · exact List.mem_cons_of_mem _ e)⟩
theorem nst2_has {ls : Array Slot} {nL : Nat} {L : List (Nat × Value)} {i : Nat} {v : Value} (h : lv_has ls nL ((i, v) :: L.filter (fun q => !(q.1 == i) && (!(q.1 == i + 1) && !(q.1 + 1 == i && q.2.category == 2))))) : lv_has ls nL (nst2 L i v) :=
  ⟨h.1, h.2.1, fun q hq => h.2.2 q (by
    rcases nin_mem hq with e | e
    · rw [e]; exact List.mem_cons_self
    · exact List.mem_cons_of_mem _ e)⟩
/-- what a walk rests on: the machine, the code, the tables, its answer's type, no handlers (eb) -/
def nC (p : Program) (s : State) (m : MethodId) (args : Array Value) (meth : Method) (c : Code) (own : String) (cc : ByteArray) (nL : Nat) (ret : Option FieldType) (eb : Bool) (D : va_G) (N0 : Nat) (kA : Nat → ClassId) : Prop :=
  p.tables.exec = Jvm.exec ∧ c.code = cc ∧ c.maxLocals = nL ∧ s.vm.findClass own = some m.cls ∧ (∀ w ∈ lw_all, w.before args s = true) ∧ nK D N0 kA s ∧ meth.sig.returnType = ret ∧ meth.locks = false ∧ (eb = true → c.exceptionTable.isEmpty = true)
/-- the walk's goal: at pc, with these locals and operands, the heap h of n cells, kc cells and ks slots made so far, the machine comes to Q -/
def nW (p : Program) (l : Launch) (e : Env) (R : Room) (s : State) (m : MethodId) (args : Array Value) (below : List Frame) (meth : Method) (c : Code) (Q : State → Prop) (D : va_G) (N0 nL pc : Nat) (L : List (Nat × Value)) (st : List Value) (h : hT) (n kc ks : Nat) : Prop :=
  ∀ (ls : Array Slot) (H : Heap) (locs : List Loc), lv_has ls nL L → Rp D N0 h n H → va_S (nA N0) s.heap H locs → W p l e R s m args below meth c H locs kc ks Q (F0 m pc ls st)
section NR
variable {p : Program} {l : Launch} {e : Env} {R : Room} {s : State} {m : MethodId} {args : Array Value} {below : List Frame} {meth : Method} {c : Code} {Q : State → Prop} {D : va_G} {N0 nL pc : Nat} {L : List (Nat × Value)} {st : List Value} {h : hT} {n kc ks : Nat} {own : String} {cc : ByteArray} {ret : Option FieldType} {eb : Bool} {kA : Nat → ClassId}
theorem n_iconst (C : nC p s m args meth c own cc nL ret eb D N0 kA) {i : Int} {v : Int32} (hd : decode cc pc = .ok (.iconst i, 1)) (hv : Int32.ofInt i = v) (K : nW p l e R s m args below meth c Q D N0 nL (pc + 1) L (.int v :: st) h n kc ks) : nW p l e R s m args below meth c Q D N0 nL pc L (st) h n kc ks := fun ls H locs hl hR hS => lv_iconst C.1 C.2.1 hd hv (K ls H locs hl hR hS)
theorem n_bipush (C : nC p s m args meth c own cc nL ret eb D N0 kA) {i : Int} {v : Int32} (hd : decode cc pc = .ok (.bipush i, 2)) (hv : (Int8.ofInt i).toInt32 = v) (K : nW p l e R s m args below meth c Q D N0 nL (pc + 2) L (.int v :: st) h n kc ks) : nW p l e R s m args below meth c Q D N0 nL pc L (st) h n kc ks := fun ls H locs hl hR hS => lv_bipush C.1 C.2.1 hd hv (K ls H locs hl hR hS)
theorem n_sipush (C : nC p s m args meth c own cc nL ret eb D N0 kA) {i : Int} {v : Int32} (hd : decode cc pc = .ok (.sipush i, 3)) (hv : (Int16.ofInt i).toInt32 = v) (K : nW p l e R s m args below meth c Q D N0 nL (pc + 3) L (.int v :: st) h n kc ks) : nW p l e R s m args below meth c Q D N0 nL pc L (st) h n kc ks := fun ls H locs hl hR hS => lv_sipush C.1 C.2.1 hd hv (K ls H locs hl hR hS)
theorem n_lconst (C : nC p s m args meth c own cc nL ret eb D N0 kA) {i : Fin 2} {v : Int64} (hd : decode cc pc = .ok (.lconst i, 1)) (hv : Int64.ofNat (i : Nat) = v) (K : nW p l e R s m args below meth c Q D N0 nL (pc + 1) L (.long v :: st) h n kc ks) : nW p l e R s m args below meth c Q D N0 nL pc L (st) h n kc ks := fun ls H locs hl hR hS => lv_lconst C.1 C.2.1 hd hv (K ls H locs hl hR hS)
theorem n_null (C : nC p s m args meth c own cc nL ret eb D N0 kA)  (hd : decode cc pc = .ok (.aconst_null, 1)) (K : nW p l e R s m args below meth c Q D N0 nL (pc + 1) L (.null :: st) h n kc ks) : nW p l e R s m args below meth c Q D N0 nL pc L (st) h n kc ks := fun ls H locs hl hR hS => lv_null C.1 C.2.1 hd (K ls H locs hl hR hS)
theorem n_iload_n (C : nC p s m args meth c own cc nL ret eb D N0 kA) {k : Fin 4} {x : Int32} (hd : decode cc pc = .ok (.iload_n k, 1)) (hv : nlk L k = some (.int x)) (K : nW p l e R s m args below meth c Q D N0 nL (pc + 1) L (.int x :: st) h n kc ks) : nW p l e R s m args below meth c Q D N0 nL pc L (st) h n kc ks := fun ls H locs hl hR hS => lv_iload_n C.1 C.2.1 hd rfl (nlk_at hl hv) (K ls H locs hl hR hS)
theorem n_lload_n (C : nC p s m args meth c own cc nL ret eb D N0 kA) {k : Fin 4} {x : Int64} (hd : decode cc pc = .ok (.lload_n k, 1)) (hv : nlk L k = some (.long x)) (K : nW p l e R s m args below meth c Q D N0 nL (pc + 1) L (.long x :: st) h n kc ks) : nW p l e R s m args below meth c Q D N0 nL pc L (st) h n kc ks := fun ls H locs hl hR hS => lv_lload_n C.1 C.2.1 hd rfl (nlk_at hl hv) (K ls H locs hl hR hS)
theorem n_aload_n (C : nC p s m args meth c own cc nL ret eb D N0 kA) {k : Fin 4} {x : Nat} (hd : decode cc pc = .ok (.aload_n k, 1)) (hv : nlk L k = some (.ref x)) (K : nW p l e R s m args below meth c Q D N0 nL (pc + 1) L (.ref x :: st) h n kc ks) : nW p l e R s m args below meth c Q D N0 nL pc L (st) h n kc ks := fun ls H locs hl hR hS => lv_aload_n C.1 C.2.1 hd rfl (nlk_at hl hv) (K ls H locs hl hR hS)
theorem n_iload (C : nC p s m args meth c own cc nL ret eb D N0 kA) {k : Nat} {x : Int32} (hd : decode cc pc = .ok (.iload k, 2)) (hv : nlk L k = some (.int x)) (K : nW p l e R s m args below meth c Q D N0 nL (pc + 2) L (.int x :: st) h n kc ks) : nW p l e R s m args below meth c Q D N0 nL pc L (st) h n kc ks := fun ls H locs hl hR hS => lv_iload C.1 C.2.1 hd (nlk_at hl hv) (K ls H locs hl hR hS)
theorem n_lload (C : nC p s m args meth c own cc nL ret eb D N0 kA) {k : Nat} {x : Int64} (hd : decode cc pc = .ok (.lload k, 2)) (hv : nlk L k = some (.long x)) (K : nW p l e R s m args below meth c Q D N0 nL (pc + 2) L (.long x :: st) h n kc ks) : nW p l e R s m args below meth c Q D N0 nL pc L (st) h n kc ks := fun ls H locs hl hR hS => lv_lload C.1 C.2.1 hd (nlk_at hl hv) (K ls H locs hl hR hS)
theorem n_aload (C : nC p s m args meth c own cc nL ret eb D N0 kA) {k : Nat} {x : Nat} (hd : decode cc pc = .ok (.aload k, 2)) (hv : nlk L k = some (.ref x)) (K : nW p l e R s m args below meth c Q D N0 nL (pc + 2) L (.ref x :: st) h n kc ks) : nW p l e R s m args below meth c Q D N0 nL pc L (st) h n kc ks := fun ls H locs hl hR hS => lv_aload C.1 C.2.1 hd (nlk_at hl hv) (K ls H locs hl hR hS)
theorem n_aload_nN (C : nC p s m args meth c own cc nL ret eb D N0 kA) {k : Fin 4} (hd : decode cc pc = .ok (.aload_n k, 1)) (hv : nlk L k = some .null) (K : nW p l e R s m args below meth c Q D N0 nL (pc + 1) L (.null :: st) h n kc ks) : nW p l e R s m args below meth c Q D N0 nL pc L (st) h n kc ks := fun ls H locs hl hR hS => lv_aload_nN C.1 C.2.1 hd rfl (nlk_at hl hv) (K ls H locs hl hR hS)
theorem n_istore_n (C : nC p s m args meth c own cc nL ret eb D N0 kA) {k : Fin 4} {x : Int32} {L' : List (Nat × Value)} (hd : decode cc pc = .ok (.istore_n k, 1)) (hk : (k : Nat) < nL) (hL : nst L k (.int x) = L') (K : nW p l e R s m args below meth c Q D N0 nL (pc + 1) L' st h n kc ks) : nW p l e R s m args below meth c Q D N0 nL pc L (.int x :: st) h n kc ks := fun ls H locs hl hR hS => lv_istore_n C.1 C.2.1 hd rfl hl hk rfl (fun ls' hl' => K ls' H locs (hL ▸ nst_has hl') hR hS)
theorem n_astore_n (C : nC p s m args meth c own cc nL ret eb D N0 kA) {k : Fin 4} {x : Nat} {L' : List (Nat × Value)} (hd : decode cc pc = .ok (.astore_n k, 1)) (hk : (k : Nat) < nL) (hL : nst L k (.ref x) = L') (K : nW p l e R s m args below meth c Q D N0 nL (pc + 1) L' st h n kc ks) : nW p l e R s m args below meth c Q D N0 nL pc L (.ref x :: st) h n kc ks := fun ls H locs hl hR hS => lv_astore_n C.1 C.2.1 hd rfl hl hk rfl (fun ls' hl' => K ls' H locs (hL ▸ nst_has hl') hR hS)
theorem n_istore (C : nC p s m args meth c own cc nL ret eb D N0 kA) {k : Nat} {x : Int32} {L' : List (Nat × Value)} (hd : decode cc pc = .ok (.istore k, 2)) (hk : k < nL) (hL : nst L k (.int x) = L') (K : nW p l e R s m args below meth c Q D N0 nL (pc + 2) L' st h n kc ks) : nW p l e R s m args below meth c Q D N0 nL pc L (.int x :: st) h n kc ks := fun ls H locs hl hR hS => lv_istore C.1 C.2.1 hd hl hk rfl (fun ls' hl' => K ls' H locs (hL ▸ nst_has hl') hR hS)
theorem n_astore (C : nC p s m args meth c own cc nL ret eb D N0 kA) {k : Nat} {x : Nat} {L' : List (Nat × Value)} (hd : decode cc pc = .ok (.astore k, 2)) (hk : k < nL) (hL : nst L k (.ref x) = L') (K : nW p l e R s m args below meth c Q D N0 nL (pc + 2) L' st h n kc ks) : nW p l e R s m args below meth c Q D N0 nL pc L (.ref x :: st) h n kc ks := fun ls H locs hl hR hS => lv_astore C.1 C.2.1 hd hl hk rfl (fun ls' hl' => K ls' H locs (hL ▸ nst_has hl') hR hS)
theorem n_lstore (C : nC p s m args meth c own cc nL ret eb D N0 kA) {k : Nat} {x : Int64} {L' : List (Nat × Value)} (hd : decode cc pc = .ok (.lstore k, 2)) (hk : k + 1 < nL) (hL : nst2 L k (.long x) = L') (K : nW p l e R s m args below meth c Q D N0 nL (pc + 2) L' st h n kc ks) : nW p l e R s m args below meth c Q D N0 nL pc L (.long x :: st) h n kc ks := fun ls H locs hl hR hS => lv_lstore C.1 C.2.1 hd hl hk rfl (fun ls' hl' => K ls' H locs (hL ▸ nst2_has hl') hR hS)
theorem n_lstore_n (C : nC p s m args meth c own cc nL ret eb D N0 kA) {k : Fin 4} {x : Int64} {L' : List (Nat × Value)} (hd : decode cc pc = .ok (.lstore_n k, 1)) (hk : (k : Nat) + 1 < nL) (hL : nst2 L k (.long x) = L') (K : nW p l e R s m args below meth c Q D N0 nL (pc + 1) L' st h n kc ks) : nW p l e R s m args below meth c Q D N0 nL pc L (.long x :: st) h n kc ks := fun ls H locs hl hR hS => lv_lstore_n C.1 C.2.1 hd rfl hl hk rfl (fun ls' hl' => K ls' H locs (hL ▸ nst2_has hl') hR hS)
theorem n_iinc (C : nC p s m args meth c own cc nL ret eb D N0 kA) {k : Nat} {i : Int} {x v : Int32} {L' : List (Nat × Value)} (hd : decode cc pc = .ok (.iinc k i, 3)) (hx : nlk L k = some (.int x)) (hv : x + Int32.ofInt i = v) (hk : k < nL) (hL : nst L k (.int v) = L') (K : nW p l e R s m args below meth c Q D N0 nL (pc + 3) L' st h n kc ks) : nW p l e R s m args below meth c Q D N0 nL pc L st h n kc ks := fun ls H locs hl hR hS => by
  obtain ⟨j, hj⟩ := nlk_pl hx
  exact lv_iinc C.1 C.2.1 hd hl hj hv hk rfl (fun ls' hl' => K ls' H locs (hL ▸ nst_has hl') hR hS)
theorem n_iadd (C : nC p s m args meth c own cc nL ret eb D N0 kA) {x y : Int32} (hd : decode cc pc = .ok (.iadd, 1)) (K : nW p l e R s m args below meth c Q D N0 nL (pc + 1) L (.int (x + y) :: st) h n kc ks) : nW p l e R s m args below meth c Q D N0 nL pc L (.int y :: .int x :: st) h n kc ks := fun ls H locs hl hR hS => lv_iadd C.1 C.2.1 hd (K ls H locs hl hR hS)
theorem n_iaddE (C : nC p s m args meth c own cc nL ret eb D N0 kA) {x y v : Int32} (hd : decode cc pc = .ok (.iadd, 1)) (hv : x + y = v) (K : nW p l e R s m args below meth c Q D N0 nL (pc + 1) L (.int v :: st) h n kc ks) : nW p l e R s m args below meth c Q D N0 nL pc L (.int y :: .int x :: st) h n kc ks := fun ls H locs hl hR hS => lv_iadd C.1 C.2.1 hd (hv ▸ (K ls H locs hl hR hS))
theorem n_isub (C : nC p s m args meth c own cc nL ret eb D N0 kA) {x y : Int32} (hd : decode cc pc = .ok (.isub, 1)) (K : nW p l e R s m args below meth c Q D N0 nL (pc + 1) L (.int (x - y) :: st) h n kc ks) : nW p l e R s m args below meth c Q D N0 nL pc L (.int y :: .int x :: st) h n kc ks := fun ls H locs hl hR hS => lv_isub C.1 C.2.1 hd (K ls H locs hl hR hS)
theorem n_isubE (C : nC p s m args meth c own cc nL ret eb D N0 kA) {x y v : Int32} (hd : decode cc pc = .ok (.isub, 1)) (hv : x - y = v) (K : nW p l e R s m args below meth c Q D N0 nL (pc + 1) L (.int v :: st) h n kc ks) : nW p l e R s m args below meth c Q D N0 nL pc L (.int y :: .int x :: st) h n kc ks := fun ls H locs hl hR hS => lv_isub C.1 C.2.1 hd (hv ▸ (K ls H locs hl hR hS))
theorem n_imul (C : nC p s m args meth c own cc nL ret eb D N0 kA) {x y : Int32} (hd : decode cc pc = .ok (.imul, 1)) (K : nW p l e R s m args below meth c Q D N0 nL (pc + 1) L (.int (x * y) :: st) h n kc ks) : nW p l e R s m args below meth c Q D N0 nL pc L (.int y :: .int x :: st) h n kc ks := fun ls H locs hl hR hS => lv_imul C.1 C.2.1 hd (K ls H locs hl hR hS)
theorem n_imulE (C : nC p s m args meth c own cc nL ret eb D N0 kA) {x y v : Int32} (hd : decode cc pc = .ok (.imul, 1)) (hv : x * y = v) (K : nW p l e R s m args below meth c Q D N0 nL (pc + 1) L (.int v :: st) h n kc ks) : nW p l e R s m args below meth c Q D N0 nL pc L (.int y :: .int x :: st) h n kc ks := fun ls H locs hl hR hS => lv_imul C.1 C.2.1 hd (hv ▸ (K ls H locs hl hR hS))
theorem n_iand (C : nC p s m args meth c own cc nL ret eb D N0 kA) {x y : Int32} (hd : decode cc pc = .ok (.iand, 1)) (K : nW p l e R s m args below meth c Q D N0 nL (pc + 1) L (.int (x &&& y) :: st) h n kc ks) : nW p l e R s m args below meth c Q D N0 nL pc L (.int y :: .int x :: st) h n kc ks := fun ls H locs hl hR hS => lv_iand C.1 C.2.1 hd (K ls H locs hl hR hS)
theorem n_iandE (C : nC p s m args meth c own cc nL ret eb D N0 kA) {x y v : Int32} (hd : decode cc pc = .ok (.iand, 1)) (hv : x &&& y = v) (K : nW p l e R s m args below meth c Q D N0 nL (pc + 1) L (.int v :: st) h n kc ks) : nW p l e R s m args below meth c Q D N0 nL pc L (.int y :: .int x :: st) h n kc ks := fun ls H locs hl hR hS => lv_iand C.1 C.2.1 hd (hv ▸ (K ls H locs hl hR hS))
theorem n_ior (C : nC p s m args meth c own cc nL ret eb D N0 kA) {x y : Int32} (hd : decode cc pc = .ok (.ior, 1)) (K : nW p l e R s m args below meth c Q D N0 nL (pc + 1) L (.int (x ||| y) :: st) h n kc ks) : nW p l e R s m args below meth c Q D N0 nL pc L (.int y :: .int x :: st) h n kc ks := fun ls H locs hl hR hS => lv_ior C.1 C.2.1 hd (K ls H locs hl hR hS)
theorem n_iorE (C : nC p s m args meth c own cc nL ret eb D N0 kA) {x y v : Int32} (hd : decode cc pc = .ok (.ior, 1)) (hv : x ||| y = v) (K : nW p l e R s m args below meth c Q D N0 nL (pc + 1) L (.int v :: st) h n kc ks) : nW p l e R s m args below meth c Q D N0 nL pc L (.int y :: .int x :: st) h n kc ks := fun ls H locs hl hR hS => lv_ior C.1 C.2.1 hd (hv ▸ (K ls H locs hl hR hS))
theorem n_ixor (C : nC p s m args meth c own cc nL ret eb D N0 kA) {x y : Int32} (hd : decode cc pc = .ok (.ixor, 1)) (K : nW p l e R s m args below meth c Q D N0 nL (pc + 1) L (.int (x ^^^ y) :: st) h n kc ks) : nW p l e R s m args below meth c Q D N0 nL pc L (.int y :: .int x :: st) h n kc ks := fun ls H locs hl hR hS => lv_ixor C.1 C.2.1 hd (K ls H locs hl hR hS)
theorem n_ixorE (C : nC p s m args meth c own cc nL ret eb D N0 kA) {x y v : Int32} (hd : decode cc pc = .ok (.ixor, 1)) (hv : x ^^^ y = v) (K : nW p l e R s m args below meth c Q D N0 nL (pc + 1) L (.int v :: st) h n kc ks) : nW p l e R s m args below meth c Q D N0 nL pc L (.int y :: .int x :: st) h n kc ks := fun ls H locs hl hR hS => lv_ixor C.1 C.2.1 hd (hv ▸ (K ls H locs hl hR hS))
theorem n_ishl (C : nC p s m args meth c own cc nL ret eb D N0 kA) {x y : Int32} (hd : decode cc pc = .ok (.ishl, 1)) (K : nW p l e R s m args below meth c Q D N0 nL (pc + 1) L (.int (x <<< (y &&& 31)) :: st) h n kc ks) : nW p l e R s m args below meth c Q D N0 nL pc L (.int y :: .int x :: st) h n kc ks := fun ls H locs hl hR hS => lv_ishl C.1 C.2.1 hd (K ls H locs hl hR hS)
theorem n_ishlE (C : nC p s m args meth c own cc nL ret eb D N0 kA) {x y v : Int32} (hd : decode cc pc = .ok (.ishl, 1)) (hv : x <<< (y &&& 31) = v) (K : nW p l e R s m args below meth c Q D N0 nL (pc + 1) L (.int v :: st) h n kc ks) : nW p l e R s m args below meth c Q D N0 nL pc L (.int y :: .int x :: st) h n kc ks := fun ls H locs hl hR hS => lv_ishl C.1 C.2.1 hd (hv ▸ (K ls H locs hl hR hS))
theorem n_ishr (C : nC p s m args meth c own cc nL ret eb D N0 kA) {x y : Int32} (hd : decode cc pc = .ok (.ishr, 1)) (K : nW p l e R s m args below meth c Q D N0 nL (pc + 1) L (.int (x >>> (y &&& 31)) :: st) h n kc ks) : nW p l e R s m args below meth c Q D N0 nL pc L (.int y :: .int x :: st) h n kc ks := fun ls H locs hl hR hS => lv_ishr C.1 C.2.1 hd (K ls H locs hl hR hS)
theorem n_ishrE (C : nC p s m args meth c own cc nL ret eb D N0 kA) {x y v : Int32} (hd : decode cc pc = .ok (.ishr, 1)) (hv : x >>> (y &&& 31) = v) (K : nW p l e R s m args below meth c Q D N0 nL (pc + 1) L (.int v :: st) h n kc ks) : nW p l e R s m args below meth c Q D N0 nL pc L (.int y :: .int x :: st) h n kc ks := fun ls H locs hl hR hS => lv_ishr C.1 C.2.1 hd (hv ▸ (K ls H locs hl hR hS))
theorem n_iushr (C : nC p s m args meth c own cc nL ret eb D N0 kA) {x y v : Int32} (hd : decode cc pc = .ok (.iushr, 1)) (hv : (x.toUInt32 >>> (y.toUInt32 &&& Int32.toUInt32 31)).toInt32 = v) (K : nW p l e R s m args below meth c Q D N0 nL (pc + 1) L (.int v :: st) h n kc ks) : nW p l e R s m args below meth c Q D N0 nL pc L (.int y :: .int x :: st) h n kc ks := fun ls H locs hl hR hS => lv_iushr C.1 C.2.1 hd hv (K ls H locs hl hR hS)
theorem n_idiv (C : nC p s m args meth c own cc nL ret eb D N0 kA) {x y v : Int32} (hd : decode cc pc = .ok (.idiv, 1)) (hne : ¬ y = 0) (hv : x / y = v) (K : nW p l e R s m args below meth c Q D N0 nL (pc + 1) L (.int v :: st) h n kc ks) : nW p l e R s m args below meth c Q D N0 nL pc L (.int y :: .int x :: st) h n kc ks := fun ls H locs hl hR hS => lv_idiv C.1 C.2.1 hd hne (hv ▸ (K ls H locs hl hR hS))
theorem n_irem (C : nC p s m args meth c own cc nL ret eb D N0 kA) {x y v : Int32} (hd : decode cc pc = .ok (.irem, 1)) (hne : ¬ y = 0) (hv : x - x / y * y = v) (K : nW p l e R s m args below meth c Q D N0 nL (pc + 1) L (.int v :: st) h n kc ks) : nW p l e R s m args below meth c Q D N0 nL pc L (.int y :: .int x :: st) h n kc ks := fun ls H locs hl hR hS => lv_irem C.1 C.2.1 hd hne (hv ▸ (K ls H locs hl hR hS))
theorem n_ladd (C : nC p s m args meth c own cc nL ret eb D N0 kA) {x y : Int64} (hd : decode cc pc = .ok (.ladd, 1)) (K : nW p l e R s m args below meth c Q D N0 nL (pc + 1) L (.long (x + y) :: st) h n kc ks) : nW p l e R s m args below meth c Q D N0 nL pc L (.long y :: .long x :: st) h n kc ks := fun ls H locs hl hR hS => lv_ladd C.1 C.2.1 hd (K ls H locs hl hR hS)
theorem n_lmul (C : nC p s m args meth c own cc nL ret eb D N0 kA) {x y : Int64} (hd : decode cc pc = .ok (.lmul, 1)) (K : nW p l e R s m args below meth c Q D N0 nL (pc + 1) L (.long (x * y) :: st) h n kc ks) : nW p l e R s m args below meth c Q D N0 nL pc L (.long y :: .long x :: st) h n kc ks := fun ls H locs hl hR hS => lv_lmul C.1 C.2.1 hd (K ls H locs hl hR hS)
theorem n_ldiv (C : nC p s m args meth c own cc nL ret eb D N0 kA) {x y : Int64} (hd : decode cc pc = .ok (.ldiv, 1)) (hne : ¬ y = 0) (K : nW p l e R s m args below meth c Q D N0 nL (pc + 1) L (.long (x / y) :: st) h n kc ks) : nW p l e R s m args below meth c Q D N0 nL pc L (.long y :: .long x :: st) h n kc ks := fun ls H locs hl hR hS => lv_ldiv C.1 C.2.1 hd hne (K ls H locs hl hR hS)
theorem n_lrem (C : nC p s m args meth c own cc nL ret eb D N0 kA) {x y : Int64} (hd : decode cc pc = .ok (.lrem, 1)) (hne : ¬ y = 0) (K : nW p l e R s m args below meth c Q D N0 nL (pc + 1) L (.long (x - x / y * y) :: st) h n kc ks) : nW p l e R s m args below meth c Q D N0 nL pc L (.long y :: .long x :: st) h n kc ks := fun ls H locs hl hR hS => lv_lrem C.1 C.2.1 hd hne (K ls H locs hl hR hS)
theorem n_ineg (C : nC p s m args meth c own cc nL ret eb D N0 kA) {x : Int32} (hd : decode cc pc = .ok (.ineg, 1)) (K : nW p l e R s m args below meth c Q D N0 nL (pc + 1) L (.int (-x) :: st) h n kc ks) : nW p l e R s m args below meth c Q D N0 nL pc L (.int x :: st) h n kc ks := fun ls H locs hl hR hS => lv_ineg C.1 C.2.1 hd (K ls H locs hl hR hS)
theorem n_i2l (C : nC p s m args meth c own cc nL ret eb D N0 kA) {x : Int32} (hd : decode cc pc = .ok (.i2l, 1)) (K : nW p l e R s m args below meth c Q D N0 nL (pc + 1) L (.long x.toInt64 :: st) h n kc ks) : nW p l e R s m args below meth c Q D N0 nL pc L (.int x :: st) h n kc ks := fun ls H locs hl hR hS => lv_i2l C.1 C.2.1 hd rfl (K ls H locs hl hR hS)
theorem n_l2i (C : nC p s m args meth c own cc nL ret eb D N0 kA) {x : Int64} (hd : decode cc pc = .ok (.l2i, 1)) (K : nW p l e R s m args below meth c Q D N0 nL (pc + 1) L (.int x.toInt32 :: st) h n kc ks) : nW p l e R s m args below meth c Q D N0 nL pc L (.long x :: st) h n kc ks := fun ls H locs hl hR hS => lv_l2i C.1 C.2.1 hd rfl (K ls H locs hl hR hS)
theorem n_i2b (C : nC p s m args meth c own cc nL ret eb D N0 kA) {x : Int32} (hd : decode cc pc = .ok (.i2b, 1)) (K : nW p l e R s m args below meth c Q D N0 nL (pc + 1) L (.int x.toInt8.toInt32 :: st) h n kc ks) : nW p l e R s m args below meth c Q D N0 nL pc L (.int x :: st) h n kc ks := fun ls H locs hl hR hS => lv_i2b C.1 C.2.1 hd rfl (K ls H locs hl hR hS)
theorem n_dup (C : nC p s m args meth c own cc nL ret eb D N0 kA) {v : Value} (hd : decode cc pc = .ok (.dup, 1)) (hv : v.category = 1) (K : nW p l e R s m args below meth c Q D N0 nL (pc + 1) L (v :: v :: st) h n kc ks) : nW p l e R s m args below meth c Q D N0 nL pc L (v :: st) h n kc ks := fun ls H locs hl hR hS => lv_dup C.1 C.2.1 hd hv (K ls H locs hl hR hS)
theorem n_pop (C : nC p s m args meth c own cc nL ret eb D N0 kA) {v : Value} (hd : decode cc pc = .ok (.pop, 1)) (hv : v.category = 1) (K : nW p l e R s m args below meth c Q D N0 nL (pc + 1) L (st) h n kc ks) : nW p l e R s m args below meth c Q D N0 nL pc L (v :: st) h n kc ks := fun ls H locs hl hR hS => lv_pop C.1 C.2.1 hd hv (K ls H locs hl hR hS)
theorem n_dup2 (C : nC p s m args meth c own cc nL ret eb D N0 kA) {v w : Value} (hd : decode cc pc = .ok (.dup2, 1)) (hv : v.category = 1) (hw : w.category = 1) (K : nW p l e R s m args below meth c Q D N0 nL (pc + 1) L (v :: w :: v :: w :: st) h n kc ks) : nW p l e R s m args below meth c Q D N0 nL pc L (v :: w :: st) h n kc ks := fun ls H locs hl hR hS => lv_dup2_11 C.1 C.2.1 hd hv hw (K ls H locs hl hR hS)
theorem n_ldc (C : nC p s m args meth c own cc nL ret eb D N0 kA) {k : Nat} {v : Int32} (hd : decode cc pc = .ok (.ldc k, 2)) (hq : Cond.constant own k v ∈ lw_all) (K : nW p l e R s m args below meth c Q D N0 nL (pc + 2) L (.int v :: st) h n kc ks) : nW p l e R s m args below meth c Q D N0 nL pc L (st) h n kc ks := fun ls H locs hl hR hS => lv_ldc C.1 C.2.1 C.2.2.2.1 (C.2.2.2.2.1 _ hq) hd (K ls H locs hl hR hS)
theorem n_ldcw (C : nC p s m args meth c own cc nL ret eb D N0 kA) {k : Nat} {v : Int32} (hd : decode cc pc = .ok (.ldc_w k, 3)) (hq : Cond.constant own k v ∈ lw_all) (K : nW p l e R s m args below meth c Q D N0 nL (pc + 3) L (.int v :: st) h n kc ks) : nW p l e R s m args below meth c Q D N0 nL pc L (st) h n kc ks := fun ls H locs hl hR hS => lv_ldcw C.1 C.2.1 C.2.2.2.1 (C.2.2.2.2.1 _ hq) hd (K ls H locs hl hR hS)
theorem n_ldc2 (C : nC p s m args meth c own cc nL ret eb D N0 kA) {k : Nat} {v : Int64} (hd : decode cc pc = .ok (.ldc2_w k, 3)) (hq : Cond.constantLong own k v ∈ lw_all) (K : nW p l e R s m args below meth c Q D N0 nL (pc + 3) L (.long v :: st) h n kc ks) : nW p l e R s m args below meth c Q D N0 nL pc L (st) h n kc ks := fun ls H locs hl hR hS => lv_ldc2 C.1 C.2.1 C.2.2.2.1 (C.2.2.2.2.1 _ hq) hd (K ls H locs hl hR hS)
theorem n_goto (C : nC p s m args meth c own cc nL ret eb D N0 kA) {off : Int} {tgt : Nat} (hd : decode cc pc = .ok (.goto off, 3)) (ht : (pc : Int) + off = (tgt : Int)) (K : nW p l e R s m args below meth c Q D N0 nL (tgt) L (st) h n kc ks) : nW p l e R s m args below meth c Q D N0 nL pc L (st) h n kc ks := fun ls H locs hl hR hS => lv_goto C.1 C.2.1 hd ht (K ls H locs hl hR hS)
theorem n_icmp_eq (C : nC p s m args meth c own cc nL ret eb D N0 kA) {x y : Int32} {off : Int} {tgt : Nat} (hd : decode cc pc = .ok (.if_icmp .eq off, 3)) (ht : (pc : Int) + off = (tgt : Int)) (KT : x = y → nW p l e R s m args below meth c Q D N0 nL tgt L st h n kc ks) (KF : ¬ x = y → nW p l e R s m args below meth c Q D N0 nL (pc + 3) L st h n kc ks) : nW p l e R s m args below meth c Q D N0 nL pc L (.int y :: .int x :: st) h n kc ks := fun ls H locs hl hR hS => lv_icmp_eq C.1 C.2.1 hd ht (fun q => KT q ls H locs hl hR hS) (fun q => KF q ls H locs hl hR hS)
theorem n_icmp_eqT (C : nC p s m args meth c own cc nL ret eb D N0 kA) {x y : Int32} {off : Int} {tgt : Nat} (hd : decode cc pc = .ok (.if_icmp .eq off, 3)) (ht : (pc : Int) + off = (tgt : Int)) (hq : x = y) (KT : nW p l e R s m args below meth c Q D N0 nL tgt L st h n kc ks) : nW p l e R s m args below meth c Q D N0 nL pc L (.int y :: .int x :: st) h n kc ks := n_icmp_eq C hd ht (fun _ => KT) (fun q => absurd hq (by first | exact q | exact fun z => z q))
theorem n_icmp_eqF (C : nC p s m args meth c own cc nL ret eb D N0 kA) {x y : Int32} {off : Int} {tgt : Nat} (hd : decode cc pc = .ok (.if_icmp .eq off, 3)) (ht : (pc : Int) + off = (tgt : Int)) (hq : ¬ x = y) (KF : nW p l e R s m args below meth c Q D N0 nL (pc + 3) L st h n kc ks) : nW p l e R s m args below meth c Q D N0 nL pc L (.int y :: .int x :: st) h n kc ks := n_icmp_eq C hd ht (fun q => absurd q (by first | exact hq | exact fun z => z hq)) (fun _ => KF)
theorem n_if_eq (C : nC p s m args meth c own cc nL ret eb D N0 kA) {x : Int32} {off : Int} {tgt : Nat} (hd : decode cc pc = .ok (.ifCond .eq off, 3)) (ht : (pc : Int) + off = (tgt : Int)) (KT : x = 0 → nW p l e R s m args below meth c Q D N0 nL tgt L st h n kc ks) (KF : ¬ x = 0 → nW p l e R s m args below meth c Q D N0 nL (pc + 3) L st h n kc ks) : nW p l e R s m args below meth c Q D N0 nL pc L (.int x :: st) h n kc ks := fun ls H locs hl hR hS => lv_if_eq C.1 C.2.1 hd ht (fun q => KT q ls H locs hl hR hS) (fun q => KF q ls H locs hl hR hS)
theorem n_if_eqT (C : nC p s m args meth c own cc nL ret eb D N0 kA) {x : Int32} {off : Int} {tgt : Nat} (hd : decode cc pc = .ok (.ifCond .eq off, 3)) (ht : (pc : Int) + off = (tgt : Int)) (hq : x = 0) (KT : nW p l e R s m args below meth c Q D N0 nL tgt L st h n kc ks) : nW p l e R s m args below meth c Q D N0 nL pc L (.int x :: st) h n kc ks := n_if_eq C hd ht (fun _ => KT) (fun q => absurd hq (by first | exact q | exact fun z => z q))
theorem n_if_eqF (C : nC p s m args meth c own cc nL ret eb D N0 kA) {x : Int32} {off : Int} {tgt : Nat} (hd : decode cc pc = .ok (.ifCond .eq off, 3)) (ht : (pc : Int) + off = (tgt : Int)) (hq : ¬ x = 0) (KF : nW p l e R s m args below meth c Q D N0 nL (pc + 3) L st h n kc ks) : nW p l e R s m args below meth c Q D N0 nL pc L (.int x :: st) h n kc ks := n_if_eq C hd ht (fun q => absurd q (by first | exact hq | exact fun z => z hq)) (fun _ => KF)
theorem n_icmp_eqN (C : nC p s m args meth c own cc nL ret eb D N0 kA) {x y : Int32} (a b : Nat) (hx : x = nI a) (hy : y = nI b) (ha : a < 2 ^ 31) (hb : b < 2 ^ 31) {off : Int} {tgt : Nat} (hd : decode cc pc = .ok (.if_icmp .eq off, 3)) (ht : (pc : Int) + off = (tgt : Int)) (KT : a = b → nW p l e R s m args below meth c Q D N0 nL tgt L st h n kc ks) (KF : a ≠ b → nW p l e R s m args below meth c Q D N0 nL (pc + 3) L st h n kc ks) : nW p l e R s m args below meth c Q D N0 nL pc L (.int y :: .int x :: st) h n kc ks := by
  subst hx; subst hy
  exact n_icmp_eq C hd ht (fun q => KT ((nI_eq ha hb).mp q)) (fun q => KF (fun z => q ((nI_eq ha hb).mpr z)))
theorem n_icmp_ne (C : nC p s m args meth c own cc nL ret eb D N0 kA) {x y : Int32} {off : Int} {tgt : Nat} (hd : decode cc pc = .ok (.if_icmp .ne off, 3)) (ht : (pc : Int) + off = (tgt : Int)) (KT : ¬ x = y → nW p l e R s m args below meth c Q D N0 nL tgt L st h n kc ks) (KF : x = y → nW p l e R s m args below meth c Q D N0 nL (pc + 3) L st h n kc ks) : nW p l e R s m args below meth c Q D N0 nL pc L (.int y :: .int x :: st) h n kc ks := fun ls H locs hl hR hS => lv_icmp_ne C.1 C.2.1 hd ht (fun q => KT q ls H locs hl hR hS) (fun q => KF q ls H locs hl hR hS)
theorem n_icmp_neT (C : nC p s m args meth c own cc nL ret eb D N0 kA) {x y : Int32} {off : Int} {tgt : Nat} (hd : decode cc pc = .ok (.if_icmp .ne off, 3)) (ht : (pc : Int) + off = (tgt : Int)) (hq : ¬ x = y) (KT : nW p l e R s m args below meth c Q D N0 nL tgt L st h n kc ks) : nW p l e R s m args below meth c Q D N0 nL pc L (.int y :: .int x :: st) h n kc ks := n_icmp_ne C hd ht (fun _ => KT) (fun q => absurd hq (by first | exact q | exact fun z => z q))
theorem n_icmp_neF (C : nC p s m args meth c own cc nL ret eb D N0 kA) {x y : Int32} {off : Int} {tgt : Nat} (hd : decode cc pc = .ok (.if_icmp .ne off, 3)) (ht : (pc : Int) + off = (tgt : Int)) (hq : x = y) (KF : nW p l e R s m args below meth c Q D N0 nL (pc + 3) L st h n kc ks) : nW p l e R s m args below meth c Q D N0 nL pc L (.int y :: .int x :: st) h n kc ks := n_icmp_ne C hd ht (fun q => absurd q (by first | exact hq | exact fun z => z hq)) (fun _ => KF)
theorem n_if_ne (C : nC p s m args meth c own cc nL ret eb D N0 kA) {x : Int32} {off : Int} {tgt : Nat} (hd : decode cc pc = .ok (.ifCond .ne off, 3)) (ht : (pc : Int) + off = (tgt : Int)) (KT : ¬ x = 0 → nW p l e R s m args below meth c Q D N0 nL tgt L st h n kc ks) (KF : x = 0 → nW p l e R s m args below meth c Q D N0 nL (pc + 3) L st h n kc ks) : nW p l e R s m args below meth c Q D N0 nL pc L (.int x :: st) h n kc ks := fun ls H locs hl hR hS => lv_if_ne C.1 C.2.1 hd ht (fun q => KT q ls H locs hl hR hS) (fun q => KF q ls H locs hl hR hS)
theorem n_if_neT (C : nC p s m args meth c own cc nL ret eb D N0 kA) {x : Int32} {off : Int} {tgt : Nat} (hd : decode cc pc = .ok (.ifCond .ne off, 3)) (ht : (pc : Int) + off = (tgt : Int)) (hq : ¬ x = 0) (KT : nW p l e R s m args below meth c Q D N0 nL tgt L st h n kc ks) : nW p l e R s m args below meth c Q D N0 nL pc L (.int x :: st) h n kc ks := n_if_ne C hd ht (fun _ => KT) (fun q => absurd hq (by first | exact q | exact fun z => z q))
theorem n_if_neF (C : nC p s m args meth c own cc nL ret eb D N0 kA) {x : Int32} {off : Int} {tgt : Nat} (hd : decode cc pc = .ok (.ifCond .ne off, 3)) (ht : (pc : Int) + off = (tgt : Int)) (hq : x = 0) (KF : nW p l e R s m args below meth c Q D N0 nL (pc + 3) L st h n kc ks) : nW p l e R s m args below meth c Q D N0 nL pc L (.int x :: st) h n kc ks := n_if_ne C hd ht (fun q => absurd q (by first | exact hq | exact fun z => z hq)) (fun _ => KF)
theorem n_icmp_neN (C : nC p s m args meth c own cc nL ret eb D N0 kA) {x y : Int32} (a b : Nat) (hx : x = nI a) (hy : y = nI b) (ha : a < 2 ^ 31) (hb : b < 2 ^ 31) {off : Int} {tgt : Nat} (hd : decode cc pc = .ok (.if_icmp .ne off, 3)) (ht : (pc : Int) + off = (tgt : Int)) (KT : a ≠ b → nW p l e R s m args below meth c Q D N0 nL tgt L st h n kc ks) (KF : a = b → nW p l e R s m args below meth c Q D N0 nL (pc + 3) L st h n kc ks) : nW p l e R s m args below meth c Q D N0 nL pc L (.int y :: .int x :: st) h n kc ks := by
  subst hx; subst hy
  exact n_icmp_ne C hd ht (fun q => KT (fun z => q ((nI_eq ha hb).mpr z))) (fun q => KF ((nI_eq ha hb).mp q))
theorem n_icmp_lt (C : nC p s m args meth c own cc nL ret eb D N0 kA) {x y : Int32} {off : Int} {tgt : Nat} (hd : decode cc pc = .ok (.if_icmp .lt off, 3)) (ht : (pc : Int) + off = (tgt : Int)) (KT : x < y → nW p l e R s m args below meth c Q D N0 nL tgt L st h n kc ks) (KF : ¬ x < y → nW p l e R s m args below meth c Q D N0 nL (pc + 3) L st h n kc ks) : nW p l e R s m args below meth c Q D N0 nL pc L (.int y :: .int x :: st) h n kc ks := fun ls H locs hl hR hS => lv_icmp_lt C.1 C.2.1 hd ht (fun q => KT q ls H locs hl hR hS) (fun q => KF q ls H locs hl hR hS)
theorem n_icmp_ltT (C : nC p s m args meth c own cc nL ret eb D N0 kA) {x y : Int32} {off : Int} {tgt : Nat} (hd : decode cc pc = .ok (.if_icmp .lt off, 3)) (ht : (pc : Int) + off = (tgt : Int)) (hq : x < y) (KT : nW p l e R s m args below meth c Q D N0 nL tgt L st h n kc ks) : nW p l e R s m args below meth c Q D N0 nL pc L (.int y :: .int x :: st) h n kc ks := n_icmp_lt C hd ht (fun _ => KT) (fun q => absurd hq (by first | exact q | exact fun z => z q))
theorem n_icmp_ltF (C : nC p s m args meth c own cc nL ret eb D N0 kA) {x y : Int32} {off : Int} {tgt : Nat} (hd : decode cc pc = .ok (.if_icmp .lt off, 3)) (ht : (pc : Int) + off = (tgt : Int)) (hq : ¬ x < y) (KF : nW p l e R s m args below meth c Q D N0 nL (pc + 3) L st h n kc ks) : nW p l e R s m args below meth c Q D N0 nL pc L (.int y :: .int x :: st) h n kc ks := n_icmp_lt C hd ht (fun q => absurd q (by first | exact hq | exact fun z => z hq)) (fun _ => KF)
theorem n_if_lt (C : nC p s m args meth c own cc nL ret eb D N0 kA) {x : Int32} {off : Int} {tgt : Nat} (hd : decode cc pc = .ok (.ifCond .lt off, 3)) (ht : (pc : Int) + off = (tgt : Int)) (KT : x < 0 → nW p l e R s m args below meth c Q D N0 nL tgt L st h n kc ks) (KF : ¬ x < 0 → nW p l e R s m args below meth c Q D N0 nL (pc + 3) L st h n kc ks) : nW p l e R s m args below meth c Q D N0 nL pc L (.int x :: st) h n kc ks := fun ls H locs hl hR hS => lv_if_lt C.1 C.2.1 hd ht (fun q => KT q ls H locs hl hR hS) (fun q => KF q ls H locs hl hR hS)
theorem n_if_ltT (C : nC p s m args meth c own cc nL ret eb D N0 kA) {x : Int32} {off : Int} {tgt : Nat} (hd : decode cc pc = .ok (.ifCond .lt off, 3)) (ht : (pc : Int) + off = (tgt : Int)) (hq : x < 0) (KT : nW p l e R s m args below meth c Q D N0 nL tgt L st h n kc ks) : nW p l e R s m args below meth c Q D N0 nL pc L (.int x :: st) h n kc ks := n_if_lt C hd ht (fun _ => KT) (fun q => absurd hq (by first | exact q | exact fun z => z q))
theorem n_if_ltF (C : nC p s m args meth c own cc nL ret eb D N0 kA) {x : Int32} {off : Int} {tgt : Nat} (hd : decode cc pc = .ok (.ifCond .lt off, 3)) (ht : (pc : Int) + off = (tgt : Int)) (hq : ¬ x < 0) (KF : nW p l e R s m args below meth c Q D N0 nL (pc + 3) L st h n kc ks) : nW p l e R s m args below meth c Q D N0 nL pc L (.int x :: st) h n kc ks := n_if_lt C hd ht (fun q => absurd q (by first | exact hq | exact fun z => z hq)) (fun _ => KF)
theorem n_icmp_ltN (C : nC p s m args meth c own cc nL ret eb D N0 kA) {x y : Int32} (a b : Nat) (hx : x = nI a) (hy : y = nI b) (ha : a < 2 ^ 31) (hb : b < 2 ^ 31) {off : Int} {tgt : Nat} (hd : decode cc pc = .ok (.if_icmp .lt off, 3)) (ht : (pc : Int) + off = (tgt : Int)) (KT : a < b → nW p l e R s m args below meth c Q D N0 nL tgt L st h n kc ks) (KF : b ≤ a → nW p l e R s m args below meth c Q D N0 nL (pc + 3) L st h n kc ks) : nW p l e R s m args below meth c Q D N0 nL pc L (.int y :: .int x :: st) h n kc ks := by
  subst hx; subst hy
  exact n_icmp_lt C hd ht (fun q => KT ((nI_ltI ha hb).mp q)) (fun q => KF (Nat.not_lt.mp (fun z => q ((nI_ltI ha hb).mpr z))))
theorem n_icmp_ge (C : nC p s m args meth c own cc nL ret eb D N0 kA) {x y : Int32} {off : Int} {tgt : Nat} (hd : decode cc pc = .ok (.if_icmp .ge off, 3)) (ht : (pc : Int) + off = (tgt : Int)) (KT : y ≤ x → nW p l e R s m args below meth c Q D N0 nL tgt L st h n kc ks) (KF : ¬ y ≤ x → nW p l e R s m args below meth c Q D N0 nL (pc + 3) L st h n kc ks) : nW p l e R s m args below meth c Q D N0 nL pc L (.int y :: .int x :: st) h n kc ks := fun ls H locs hl hR hS => lv_icmp_ge C.1 C.2.1 hd ht (fun q => KT q ls H locs hl hR hS) (fun q => KF q ls H locs hl hR hS)
theorem n_icmp_geT (C : nC p s m args meth c own cc nL ret eb D N0 kA) {x y : Int32} {off : Int} {tgt : Nat} (hd : decode cc pc = .ok (.if_icmp .ge off, 3)) (ht : (pc : Int) + off = (tgt : Int)) (hq : y ≤ x) (KT : nW p l e R s m args below meth c Q D N0 nL tgt L st h n kc ks) : nW p l e R s m args below meth c Q D N0 nL pc L (.int y :: .int x :: st) h n kc ks := n_icmp_ge C hd ht (fun _ => KT) (fun q => absurd hq (by first | exact q | exact fun z => z q))
theorem n_icmp_geF (C : nC p s m args meth c own cc nL ret eb D N0 kA) {x y : Int32} {off : Int} {tgt : Nat} (hd : decode cc pc = .ok (.if_icmp .ge off, 3)) (ht : (pc : Int) + off = (tgt : Int)) (hq : ¬ y ≤ x) (KF : nW p l e R s m args below meth c Q D N0 nL (pc + 3) L st h n kc ks) : nW p l e R s m args below meth c Q D N0 nL pc L (.int y :: .int x :: st) h n kc ks := n_icmp_ge C hd ht (fun q => absurd q (by first | exact hq | exact fun z => z hq)) (fun _ => KF)
theorem n_if_ge (C : nC p s m args meth c own cc nL ret eb D N0 kA) {x : Int32} {off : Int} {tgt : Nat} (hd : decode cc pc = .ok (.ifCond .ge off, 3)) (ht : (pc : Int) + off = (tgt : Int)) (KT : 0 ≤ x → nW p l e R s m args below meth c Q D N0 nL tgt L st h n kc ks) (KF : ¬ 0 ≤ x → nW p l e R s m args below meth c Q D N0 nL (pc + 3) L st h n kc ks) : nW p l e R s m args below meth c Q D N0 nL pc L (.int x :: st) h n kc ks := fun ls H locs hl hR hS => lv_if_ge C.1 C.2.1 hd ht (fun q => KT q ls H locs hl hR hS) (fun q => KF q ls H locs hl hR hS)
theorem n_if_geT (C : nC p s m args meth c own cc nL ret eb D N0 kA) {x : Int32} {off : Int} {tgt : Nat} (hd : decode cc pc = .ok (.ifCond .ge off, 3)) (ht : (pc : Int) + off = (tgt : Int)) (hq : 0 ≤ x) (KT : nW p l e R s m args below meth c Q D N0 nL tgt L st h n kc ks) : nW p l e R s m args below meth c Q D N0 nL pc L (.int x :: st) h n kc ks := n_if_ge C hd ht (fun _ => KT) (fun q => absurd hq (by first | exact q | exact fun z => z q))
theorem n_if_geF (C : nC p s m args meth c own cc nL ret eb D N0 kA) {x : Int32} {off : Int} {tgt : Nat} (hd : decode cc pc = .ok (.ifCond .ge off, 3)) (ht : (pc : Int) + off = (tgt : Int)) (hq : ¬ 0 ≤ x) (KF : nW p l e R s m args below meth c Q D N0 nL (pc + 3) L st h n kc ks) : nW p l e R s m args below meth c Q D N0 nL pc L (.int x :: st) h n kc ks := n_if_ge C hd ht (fun q => absurd q (by first | exact hq | exact fun z => z hq)) (fun _ => KF)
theorem n_icmp_geN (C : nC p s m args meth c own cc nL ret eb D N0 kA) {x y : Int32} (a b : Nat) (hx : x = nI a) (hy : y = nI b) (ha : a < 2 ^ 31) (hb : b < 2 ^ 31) {off : Int} {tgt : Nat} (hd : decode cc pc = .ok (.if_icmp .ge off, 3)) (ht : (pc : Int) + off = (tgt : Int)) (KT : b ≤ a → nW p l e R s m args below meth c Q D N0 nL tgt L st h n kc ks) (KF : a < b → nW p l e R s m args below meth c Q D N0 nL (pc + 3) L st h n kc ks) : nW p l e R s m args below meth c Q D N0 nL pc L (.int y :: .int x :: st) h n kc ks := by
  subst hx; subst hy
  exact n_icmp_ge C hd ht (fun q => KT ((nI_leI hb ha).mp q)) (fun q => KF (Nat.not_le.mp (fun z => q ((nI_leI hb ha).mpr z))))
theorem n_icmp_gt (C : nC p s m args meth c own cc nL ret eb D N0 kA) {x y : Int32} {off : Int} {tgt : Nat} (hd : decode cc pc = .ok (.if_icmp .gt off, 3)) (ht : (pc : Int) + off = (tgt : Int)) (KT : y < x → nW p l e R s m args below meth c Q D N0 nL tgt L st h n kc ks) (KF : ¬ y < x → nW p l e R s m args below meth c Q D N0 nL (pc + 3) L st h n kc ks) : nW p l e R s m args below meth c Q D N0 nL pc L (.int y :: .int x :: st) h n kc ks := fun ls H locs hl hR hS => lv_icmp_gt C.1 C.2.1 hd ht (fun q => KT q ls H locs hl hR hS) (fun q => KF q ls H locs hl hR hS)
theorem n_icmp_gtT (C : nC p s m args meth c own cc nL ret eb D N0 kA) {x y : Int32} {off : Int} {tgt : Nat} (hd : decode cc pc = .ok (.if_icmp .gt off, 3)) (ht : (pc : Int) + off = (tgt : Int)) (hq : y < x) (KT : nW p l e R s m args below meth c Q D N0 nL tgt L st h n kc ks) : nW p l e R s m args below meth c Q D N0 nL pc L (.int y :: .int x :: st) h n kc ks := n_icmp_gt C hd ht (fun _ => KT) (fun q => absurd hq (by first | exact q | exact fun z => z q))
theorem n_icmp_gtF (C : nC p s m args meth c own cc nL ret eb D N0 kA) {x y : Int32} {off : Int} {tgt : Nat} (hd : decode cc pc = .ok (.if_icmp .gt off, 3)) (ht : (pc : Int) + off = (tgt : Int)) (hq : ¬ y < x) (KF : nW p l e R s m args below meth c Q D N0 nL (pc + 3) L st h n kc ks) : nW p l e R s m args below meth c Q D N0 nL pc L (.int y :: .int x :: st) h n kc ks := n_icmp_gt C hd ht (fun q => absurd q (by first | exact hq | exact fun z => z hq)) (fun _ => KF)
theorem n_if_gt (C : nC p s m args meth c own cc nL ret eb D N0 kA) {x : Int32} {off : Int} {tgt : Nat} (hd : decode cc pc = .ok (.ifCond .gt off, 3)) (ht : (pc : Int) + off = (tgt : Int)) (KT : 0 < x → nW p l e R s m args below meth c Q D N0 nL tgt L st h n kc ks) (KF : ¬ 0 < x → nW p l e R s m args below meth c Q D N0 nL (pc + 3) L st h n kc ks) : nW p l e R s m args below meth c Q D N0 nL pc L (.int x :: st) h n kc ks := fun ls H locs hl hR hS => lv_if_gt C.1 C.2.1 hd ht (fun q => KT q ls H locs hl hR hS) (fun q => KF q ls H locs hl hR hS)
theorem n_if_gtT (C : nC p s m args meth c own cc nL ret eb D N0 kA) {x : Int32} {off : Int} {tgt : Nat} (hd : decode cc pc = .ok (.ifCond .gt off, 3)) (ht : (pc : Int) + off = (tgt : Int)) (hq : 0 < x) (KT : nW p l e R s m args below meth c Q D N0 nL tgt L st h n kc ks) : nW p l e R s m args below meth c Q D N0 nL pc L (.int x :: st) h n kc ks := n_if_gt C hd ht (fun _ => KT) (fun q => absurd hq (by first | exact q | exact fun z => z q))
theorem n_if_gtF (C : nC p s m args meth c own cc nL ret eb D N0 kA) {x : Int32} {off : Int} {tgt : Nat} (hd : decode cc pc = .ok (.ifCond .gt off, 3)) (ht : (pc : Int) + off = (tgt : Int)) (hq : ¬ 0 < x) (KF : nW p l e R s m args below meth c Q D N0 nL (pc + 3) L st h n kc ks) : nW p l e R s m args below meth c Q D N0 nL pc L (.int x :: st) h n kc ks := n_if_gt C hd ht (fun q => absurd q (by first | exact hq | exact fun z => z hq)) (fun _ => KF)
theorem n_icmp_gtN (C : nC p s m args meth c own cc nL ret eb D N0 kA) {x y : Int32} (a b : Nat) (hx : x = nI a) (hy : y = nI b) (ha : a < 2 ^ 31) (hb : b < 2 ^ 31) {off : Int} {tgt : Nat} (hd : decode cc pc = .ok (.if_icmp .gt off, 3)) (ht : (pc : Int) + off = (tgt : Int)) (KT : b < a → nW p l e R s m args below meth c Q D N0 nL tgt L st h n kc ks) (KF : a ≤ b → nW p l e R s m args below meth c Q D N0 nL (pc + 3) L st h n kc ks) : nW p l e R s m args below meth c Q D N0 nL pc L (.int y :: .int x :: st) h n kc ks := by
  subst hx; subst hy
  exact n_icmp_gt C hd ht (fun q => KT ((nI_ltI hb ha).mp q)) (fun q => KF (Nat.not_lt.mp (fun z => q ((nI_ltI hb ha).mpr z))))
theorem n_icmp_le (C : nC p s m args meth c own cc nL ret eb D N0 kA) {x y : Int32} {off : Int} {tgt : Nat} (hd : decode cc pc = .ok (.if_icmp .le off, 3)) (ht : (pc : Int) + off = (tgt : Int)) (KT : x ≤ y → nW p l e R s m args below meth c Q D N0 nL tgt L st h n kc ks) (KF : ¬ x ≤ y → nW p l e R s m args below meth c Q D N0 nL (pc + 3) L st h n kc ks) : nW p l e R s m args below meth c Q D N0 nL pc L (.int y :: .int x :: st) h n kc ks := fun ls H locs hl hR hS => lv_icmp_le C.1 C.2.1 hd ht (fun q => KT q ls H locs hl hR hS) (fun q => KF q ls H locs hl hR hS)
theorem n_icmp_leT (C : nC p s m args meth c own cc nL ret eb D N0 kA) {x y : Int32} {off : Int} {tgt : Nat} (hd : decode cc pc = .ok (.if_icmp .le off, 3)) (ht : (pc : Int) + off = (tgt : Int)) (hq : x ≤ y) (KT : nW p l e R s m args below meth c Q D N0 nL tgt L st h n kc ks) : nW p l e R s m args below meth c Q D N0 nL pc L (.int y :: .int x :: st) h n kc ks := n_icmp_le C hd ht (fun _ => KT) (fun q => absurd hq (by first | exact q | exact fun z => z q))
theorem n_icmp_leF (C : nC p s m args meth c own cc nL ret eb D N0 kA) {x y : Int32} {off : Int} {tgt : Nat} (hd : decode cc pc = .ok (.if_icmp .le off, 3)) (ht : (pc : Int) + off = (tgt : Int)) (hq : ¬ x ≤ y) (KF : nW p l e R s m args below meth c Q D N0 nL (pc + 3) L st h n kc ks) : nW p l e R s m args below meth c Q D N0 nL pc L (.int y :: .int x :: st) h n kc ks := n_icmp_le C hd ht (fun q => absurd q (by first | exact hq | exact fun z => z hq)) (fun _ => KF)
theorem n_if_le (C : nC p s m args meth c own cc nL ret eb D N0 kA) {x : Int32} {off : Int} {tgt : Nat} (hd : decode cc pc = .ok (.ifCond .le off, 3)) (ht : (pc : Int) + off = (tgt : Int)) (KT : x ≤ 0 → nW p l e R s m args below meth c Q D N0 nL tgt L st h n kc ks) (KF : ¬ x ≤ 0 → nW p l e R s m args below meth c Q D N0 nL (pc + 3) L st h n kc ks) : nW p l e R s m args below meth c Q D N0 nL pc L (.int x :: st) h n kc ks := fun ls H locs hl hR hS => lv_if_le C.1 C.2.1 hd ht (fun q => KT q ls H locs hl hR hS) (fun q => KF q ls H locs hl hR hS)
theorem n_if_leT (C : nC p s m args meth c own cc nL ret eb D N0 kA) {x : Int32} {off : Int} {tgt : Nat} (hd : decode cc pc = .ok (.ifCond .le off, 3)) (ht : (pc : Int) + off = (tgt : Int)) (hq : x ≤ 0) (KT : nW p l e R s m args below meth c Q D N0 nL tgt L st h n kc ks) : nW p l e R s m args below meth c Q D N0 nL pc L (.int x :: st) h n kc ks := n_if_le C hd ht (fun _ => KT) (fun q => absurd hq (by first | exact q | exact fun z => z q))
theorem n_if_leF (C : nC p s m args meth c own cc nL ret eb D N0 kA) {x : Int32} {off : Int} {tgt : Nat} (hd : decode cc pc = .ok (.ifCond .le off, 3)) (ht : (pc : Int) + off = (tgt : Int)) (hq : ¬ x ≤ 0) (KF : nW p l e R s m args below meth c Q D N0 nL (pc + 3) L st h n kc ks) : nW p l e R s m args below meth c Q D N0 nL pc L (.int x :: st) h n kc ks := n_if_le C hd ht (fun q => absurd q (by first | exact hq | exact fun z => z hq)) (fun _ => KF)
theorem n_icmp_leN (C : nC p s m args meth c own cc nL ret eb D N0 kA) {x y : Int32} (a b : Nat) (hx : x = nI a) (hy : y = nI b) (ha : a < 2 ^ 31) (hb : b < 2 ^ 31) {off : Int} {tgt : Nat} (hd : decode cc pc = .ok (.if_icmp .le off, 3)) (ht : (pc : Int) + off = (tgt : Int)) (KT : a ≤ b → nW p l e R s m args below meth c Q D N0 nL tgt L st h n kc ks) (KF : b < a → nW p l e R s m args below meth c Q D N0 nL (pc + 3) L st h n kc ks) : nW p l e R s m args below meth c Q D N0 nL pc L (.int y :: .int x :: st) h n kc ks := by
  subst hx; subst hy
  exact n_icmp_le C hd ht (fun q => KT ((nI_leI ha hb).mp q)) (fun q => KF (Nat.not_le.mp (fun z => q ((nI_leI ha hb).mpr z))))
theorem n_tabOut (C : nC p s m args meth c own cc nL ret eb D N0 kA) {dflt lo hi : Int} {offs : Array Int} {len : Nat} {x : Int32} {tgt : Nat} (hd : decode cc pc = .ok (.tableswitch dflt lo hi offs, len)) (hq : x.toInt < lo ∨ hi < x.toInt) (ht : (pc : Int) + dflt = (tgt : Int)) (K : nW p l e R s m args below meth c Q D N0 nL tgt L st h n kc ks) : nW p l e R s m args below meth c Q D N0 nL pc L (.int x :: st) h n kc ks := fun ls H locs hl hR hS => lv_tableOut C.1 C.2.1 hd hq ht (K ls H locs hl hR hS)
theorem n_tabIn (C : nC p s m args meth c own cc nL ret eb D N0 kA) {dflt lo hi : Int} {offs : Array Int} {len : Nat} {x : Int32} {off : Int} {tgt : Nat} (hd : decode cc pc = .ok (.tableswitch dflt lo hi offs, len)) (h1 : ¬ x.toInt < lo) (h2 : ¬ hi < x.toInt) (ho : offs[(x.toInt - lo).toNat]? = some off) (ht : (pc : Int) + off = (tgt : Int)) (K : nW p l e R s m args below meth c Q D N0 nL tgt L st h n kc ks) : nW p l e R s m args below meth c Q D N0 nL pc L (.int x :: st) h n kc ks := fun ls H locs hl hR hS => lv_tableIn C.1 C.2.1 hd h1 h2 ho ht (K ls H locs hl hR hS)
theorem n_look (C : nC p s m args meth c own cc nL ret eb D N0 kA) {dflt : Int} {ps : Array (Int × Int)} {len : Nat} {x : Int32} {off : Int} {tgt : Nat} (hd : decode cc pc = .ok (.lookupswitch dflt ps, len)) (hp : (ps.toList.zip (ps.toList.drop 1)).all (fun (a, next) => a.1 < next.1) = true) (ho : Op.lookupswitch.offset ps.toList dflt x.toInt = off) (ht : (pc : Int) + off = (tgt : Int)) (K : nW p l e R s m args below meth c Q D N0 nL tgt L st h n kc ks) : nW p l e R s m args below meth c Q D N0 nL pc L (.int x :: st) h n kc ks := fun ls H locs hl hR hS => lv_lookup C.1 C.2.1 hd hp ho ht (K ls H locs hl hR hS)
theorem n_lcmp (C : nC p s m args meth c own cc nL ret eb D N0 kA) {x y : Int64} (hd : decode cc pc = .ok (.lcmp, 1)) (K : nW p l e R s m args below meth c Q D N0 nL (pc + 1) L (.int (lg_cmp x y) :: st) h n kc ks) : nW p l e R s m args below meth c Q D N0 nL pc L (.long y :: .long x :: st) h n kc ks := fun ls H locs hl hR hS => W.lcmp C.1 C.2.1 hd (K ls H locs hl hR hS)
theorem n_drop (is : List Nat) {L' : List (Nat × Value)} (hs : lv_pick L is = L') (K : nW p l e R s m args below meth c Q D N0 nL pc L' st h n kc ks) : nW p l e R s m args below meth c Q D N0 nL pc L st h n kc ks := fun ls H locs hl hR hS => K ls H locs (lv_sub hl is hs) hR hS
theorem n_heap {h' : hT} (hh : h = h') (K : nW p l e R s m args below meth c Q D N0 nL pc L st h' n kc ks) : nW p l e R s m args below meth c Q D N0 nL pc L st h n kc ks := hh ▸ K
theorem n_stk {st' : List Value} (hh : st = st') (K : nW p l e R s m args below meth c Q D N0 nL pc L st' h n kc ks) : nW p l e R s m args below meth c Q D N0 nL pc L st h n kc ks := hh ▸ K
theorem n_loc {L' : List (Nat × Value)} (hh : L = L') (K : nW p l e R s m args below meth c Q D N0 nL pc L' st h n kc ks) : nW p l e R s m args below meth c Q D N0 nL pc L st h n kc ks := hh ▸ K
theorem n_widen {kc' ks' : Nat} (h1 : kc ≤ kc') (h2 : ks ≤ ks') (K : nW p l e R s m args below meth c Q D N0 nL pc L st h n kc' ks') : nW p l e R s m args below meth c Q D N0 nL pc L st h n kc ks := fun ls H locs hl hR hS => W.widen h1 h2 (K ls H locs hl hR hS)
/-- a class of the run: its number, its fields' words -/
def nCl (ci : Nat) (C : String) (T : u_T) (N : Nat) (ty : Nat → FieldType) : Prop := vwCl[ci]? = some (C, T, N) ∧ (∀ w ∈ u_ws C T N, w ∈ lw_all) ∧ (∀ k, k < N → parseFieldDescriptor (T k).2.2.1 = some (ty k)) ∧ (∀ a, a < N → ∀ b, b < N → a ≠ b → (T a).2.1 ≠ (T b).2.1)
theorem cl0 : nCl 0 RX0 TX0 23 tyX0 := ⟨rfl, in_X0, tyX0_ok, nmX0⟩
theorem cl1 : nCl 1 RX1 TX1 11 tyX1 := ⟨rfl, in_X1, tyX1_ok, nmX1⟩
theorem cl2 : nCl 2 RX2 TX2 10 tyX2 := ⟨rfl, in_X2, tyX2_ok, nmX2⟩
theorem cl3 : nCl 3 RX3 TX3 45 tyX3 := ⟨rfl, in_X3, tyX3_ok, nmX3⟩
theorem cl4 : nCl 4 RX4 TX4 5 tyX4 := ⟨rfl, in_X4, tyX4_ok, nmX4⟩
theorem cl5 : nCl 5 RX5 TX5 8 tyX5 := ⟨rfl, in_X5, tyX5_ok, nmX5⟩
theorem cl6 : nCl 6 RX6 TX6 3 tyX6 := ⟨rfl, in_X6, tyX6_ok, nmX6⟩
theorem n_get (C : nC p s m args meth c own cc nL ret eb D N0 kA) {ci N index i k : Nat} {Cn : String} {T : u_T} {ty : Nat → FieldType} (hc : nCl ci Cn T N ty) {fs : List Value} (he : h i = .inr (ci, fs)) (hi : i < n) (hk : k < N) (hq : Cond.fieldLink own index (T k).1 (T k).2.1 (T k).2.2.1 ∈ lw_all) {v : Value} (hv : fs[k]? = some v) (hd : decode cc pc = .ok (.getfield index, 3)) (K : nW p l e R s m args below meth c Q D N0 nL (pc + 3) L (v :: st) h n kc ks) : nW p l e R s m args below meth c Q D N0 nL pc L (.ref (N0 + i) :: st) h n kc ks := fun ls H locs hl hR hS =>
  va_get C.1 C.2.1 C.2.2.2.2.1 hc.2.1 C.2.2.2.1 C.2.2.2.2.2.1.1 hR.2 i (by rw [wl_get hi, he]) hc.1 k hk (C.2.2.2.2.1 _ hq) (fun _ z => z) hv hd (K ls H locs hl hR hS)
theorem n_getN (C : nC p s m args meth c own cc nL ret eb D N0 kA) {ci N index i k : Nat} {Cn host : String} {T : u_T} {ty : Nat → FieldType} (hc : nCl ci Cn T N ty) {fs : List Value} (he : h i = .inr (ci, fs)) (hi : i < n) (hk : k < N) (hq : Cond.fieldLinkNest own index (T k).1 (T k).2.1 (T k).2.2.1 host ∈ lw_tbl) {v : Value} (hv : fs[k]? = some v) (hd : decode cc pc = .ok (.getfield index, 3)) (K : nW p l e R s m args below meth c Q D N0 nL (pc + 3) L (v :: st) h n kc ks) : nW p l e R s m args below meth c Q D N0 nL pc L (.ref (N0 + i) :: st) h n kc ks := fun ls H locs hl hR hS =>
  va_getN C.1 C.2.1 C.2.2.2.2.1 hc.2.1 C.2.2.2.1 C.2.2.2.2.2.1.1 hR.2 i (by rw [wl_get hi, he]) hc.1 k hk (va_Nw.use rfl (C.2.2.2.2.2.1.2.1 _ hq rfl)) (fun _ z => z) hv hd (K ls H locs hl hR hS)
/-- after a store: the heap's size and world -/
theorem rp_set {H H1 : Heap} {i : Nat} {x : va_E} (hR : Rp D N0 h n H) (hz : H1.size = H.size) (hP : va_P D vwCl ((wl N0 h n).set i (N0 + i, x)) H1) : Rp D N0 (va_up h i x) n H1 := ⟨hz.trans hR.1, by rw [← wl_set]; exact hP⟩
theorem n_put (C : nC p s m args meth c own cc nL ret eb D N0 kA) {ci N index i k : Nat} {Cn : String} {T : u_T} {ty : Nat → FieldType} (hc : nCl ci Cn T N ty) {fs : List Value} (he : h i = .inr (ci, fs)) (hi : i < n) (hk : k < N) (hq : Cond.fieldLink own index (T k).1 (T k).2.1 (T k).2.2.1 ∈ lw_all) (hfin : (T k).2.2.2 = false) {v : Value} (hn : narrow (ty k) v = v) (hfit : fits (ty k) v = true) (hlen : k < fs.length) (hd : decode cc pc = .ok (.putfield index, 3)) {h' : hT} (hh : va_up h i (.inr (ci, fs.set k v)) = h') (K : nW p l e R s m args below meth c Q D N0 nL (pc + 3) L st h' n kc ks) : nW p l e R s m args below meth c Q D N0 nL pc L (v :: .ref (N0 + i) :: st) h n kc ks := fun ls H locs hl hR hS => by
  subst hh
  have hts := C.2.2.2.2.1
  have hap := va_apart (own := own) hts hc.2.1 ty hc.2.2.1 hc.2.2.2 C.2.2.2.2.2.1.1 hc.1
  have hee : (wl N0 h n)[i]? = some (N0 + i, .inr (ci, fs)) := by rw [wl_get hi, he]
  obtain ⟨r, h1, cell, q1, q2, q3, q4⟩ := hR.2 i _ hee
  have hr : r = (Cn, T, N) := Option.some.inj (h1.symm.trans hc.1)
  subst hr
  obtain ⟨hS1, hfc, kC, hkC, hkind⟩ := C.2.2.2.2.2.1.1.1 ci _ hc.1
  obtain ⟨cf, kf, fi, f, hfi, hsl⟩ := hS1 k hk
  have hlay := hts _ (hc.2.1 _ (u_in_lay hk))
  unfold u_lay at hlay
  rw [if_neg (by rw [hfin]; decide)] at hlay
  have hst := (u_facts hfc hkC (u_lays hts hc.2.1 hk) hfi).1
  have h6 := u_store hfc hkC hkind hlay hfi (hc.2.2.1 k hk) hn hfit
  refine W.putK C.1 C.2.1 (f := f) ⟨C.2.2.2.1, hts _ hq, ⟨_, _, _, hfi⟩, hst⟩ (by rw [q2]; exact h6) q1 q3 (by rw [hsl]; exact k2_hasslot (q4 k hk)) rfl rfl hd fun H' e1 e2 e3 => ?_
  rw [hsl] at e1 ⊢
  exact K ls H' _ hl (rp_set hR e2 (hR.2.set wl_D hee ⟨_, hc.1, t_OB.to (V := updV (vp_V fs) k v) ⟨_, e1, q2, q3, t_set q4 hap hk v⟩ (fun j _ => vp_updV_set hlen v j)⟩ e3)) (hS.put e2 e3 (Nat.le_add_right _ _))
theorem n_putN (C : nC p s m args meth c own cc nL ret eb D N0 kA) {ci N index i k : Nat} {Cn host : String} {T : u_T} {ty : Nat → FieldType} (hc : nCl ci Cn T N ty) {fs : List Value} (he : h i = .inr (ci, fs)) (hi : i < n) (hk : k < N) (hq : Cond.fieldLinkNest own index (T k).1 (T k).2.1 (T k).2.2.1 host ∈ lw_tbl) (hfin : (T k).2.2.2 = false) {v : Value} (hn : narrow (ty k) v = v) (hfit : fits (ty k) v = true) (hlen : k < fs.length) (hd : decode cc pc = .ok (.putfield index, 3)) {h' : hT} (hh : va_up h i (.inr (ci, fs.set k v)) = h') (K : nW p l e R s m args below meth c Q D N0 nL (pc + 3) L st h' n kc ks) : nW p l e R s m args below meth c Q D N0 nL pc L (v :: .ref (N0 + i) :: st) h n kc ks := fun ls H locs hl hR hS => by
  subst hh
  have hts := C.2.2.2.2.1
  have hap := va_apart (own := own) hts hc.2.1 ty hc.2.2.1 hc.2.2.2 C.2.2.2.2.2.1.1 hc.1
  have hee : (wl N0 h n)[i]? = some (N0 + i, .inr (ci, fs)) := by rw [wl_get hi, he]
  obtain ⟨r, h1, cell, q1, q2, q3, q4⟩ := hR.2 i _ hee
  have hr : r = (Cn, T, N) := Option.some.inj (h1.symm.trans hc.1)
  subst hr
  obtain ⟨hS1, hfc, kC, hkC, hkind⟩ := C.2.2.2.2.2.1.1.1 ci _ hc.1
  obtain ⟨cf, kf, fi, f, hfi, hsl⟩ := hS1 k hk
  have hlay := hts _ (hc.2.1 _ (u_in_lay hk))
  unfold u_lay at hlay
  rw [if_neg (by rw [hfin]; decide)] at hlay
  have hst := (u_facts hfc hkC (u_lays hts hc.2.1 hk) hfi).1
  have h6 := u_store hfc hkC hkind hlay hfi (hc.2.2.1 k hk) hn hfit
  refine va_WputK C.1 C.2.1 (f := f) C.2.2.2.1 (va_Nw.use rfl (C.2.2.2.2.2.1.2.1 _ hq rfl)) hfi hst (by rw [q2]; exact h6) q1 q3 (by rw [hsl]; exact k2_hasslot (q4 k hk)) rfl rfl hd fun H' e1 e2 e3 => ?_
  rw [hsl] at e1 ⊢
  exact K ls H' _ hl (rp_set hR e2 (hR.2.set wl_D hee ⟨_, hc.1, t_OB.to (V := updV (vp_V fs) k v) ⟨_, e1, q2, q3, t_set q4 hap hk v⟩ (fun j _ => vp_updV_set hlen v j)⟩ e3)) (hS.put e2 e3 (Nat.le_add_right _ _))
theorem n_putF (C : nC p s m args meth c own cc nL ret eb D N0 kA) {ci N index i k : Nat} {Cn : String} {T : u_T} {ty : Nat → FieldType} (hc : nCl ci Cn T N ty) {fs : List Value} (he : h i = .inr (ci, fs)) (hi : i < n) (hk : k < N) (hq : Cond.fieldLink own index (T k).1 (T k).2.1 (T k).2.2.1 ∈ lw_all) (hfin : (T k).2.2.2 = true) (hin2 : meth.name = "<init>") (hdecl : (T k).1 = own) {v : Value} (hn : narrow (ty k) v = v) (hfit : fits (ty k) v = true) (hlen : k < fs.length) (hd : decode cc pc = .ok (.putfield index, 3)) {h' : hT} (hh : va_up h i (.inr (ci, fs.set k v)) = h') (K : nW p l e R s m args below meth c Q D N0 nL (pc + 3) L st h' n kc ks) : nW p l e R s m args below meth c Q D N0 nL pc L (v :: .ref (N0 + i) :: st) h n kc ks := fun ls H locs hl hR hS => by
  subst hh
  have hts := C.2.2.2.2.1
  have hap := va_apart (own := own) hts hc.2.1 ty hc.2.2.1 hc.2.2.2 C.2.2.2.2.2.1.1 hc.1
  have hee : (wl N0 h n)[i]? = some (N0 + i, .inr (ci, fs)) := by rw [wl_get hi, he]
  obtain ⟨r, h1, cell, q1, q2, q3, q4⟩ := hR.2 i _ hee
  have hr : r = (Cn, T, N) := Option.some.inj (h1.symm.trans hc.1)
  subst hr
  obtain ⟨hS1, hfc, kC, hkC, hkind⟩ := C.2.2.2.2.2.1.1.1 ci _ hc.1
  obtain ⟨cf, kf, fi, f, hfi, hsl⟩ := hS1 k hk
  have hlay := hts _ (hc.2.1 _ (u_in_lay hk))
  unfold u_lay at hlay
  rw [if_pos hfin] at hlay
  have hst := (u_facts hfc hkC (u_lays hts hc.2.1 hk) hfi).1
  have hcf : m.cls = cf := by
    obtain ⟨_, _, c', _, _, _, -, -, hf', -, -, -, hown2, -⟩ := Cond.laysFinal_spec hlay
    have e1 : c' = cf := by have := hfi.symm.trans hf'; simp at this; exact this.1.symm
    rw [hdecl] at hown2
    rw [← e1]; exact Option.some.inj (C.2.2.2.1.symm.trans hown2)
  have h6 := u_fits hfc hkC hkind (Or.inr hlay) hfi (hc.2.2.1 k hk) hn hfit
  refine W.putFinK C.1 C.2.1 C.2.2.2.1 (hts _ hq) hfi hst hcf hin2 (by rw [q2]; exact h6) q1 q3 (by rw [hsl]; exact k2_hasslot (q4 k hk)) rfl rfl hd fun H' e1 e2 e3 => ?_
  rw [hsl] at e1 ⊢
  exact K ls H' _ hl (rp_set hR e2 (hR.2.set wl_D hee ⟨_, hc.1, t_OB.to (V := updV (vp_V fs) k v) ⟨_, e1, q2, q3, t_set q4 hap hk v⟩ (fun j _ => vp_updV_set hlen v j)⟩ e3)) (hS.put e2 e3 (Nat.le_add_right _ _))
theorem n_iald (C : nC p s m args meth c own cc nL ret eb D N0 kA) {i N : Nat} {f : Nat → Int32} (he : h i = .inl (kA 0, N, .inl f)) (hi : i < n) {x : Int32} (j : Nat) (hx : x = nI j) (hj : j < N) (hN : N < 2 ^ 31) (hd : decode cc pc = .ok (.iaload, 1)) (K : nW p l e R s m args below meth c Q D N0 nL (pc + 1) L (.int (f j) :: st) h n kc ks) : nW p l e R s m args below meth c Q D N0 nL pc L (.int x :: .ref (N0 + i) :: st) h n kc ks := fun ls H locs hl hR hS => by
  subst hx
  have hcl : (nI j).toNatClampNeg = j := nI_clamp (Nat.lt_trans hj hN)
  refine va_iald C.1 C.2.1 C.2.2.2.2.2.1.1 hR.2 i 0 (by rw [wl_get hi, he]) rfl (vp_in_nI hj hN) hd ?_
  rw [hcl]
  exact K ls H locs hl hR hS
theorem n_bald (C : nC p s m args meth c own cc nL ret eb D N0 kA) {i N : Nat} {f : Nat → Int32} (he : h i = .inl (kA 1, N, .inl f)) (hi : i < n) {x : Int32} (j : Nat) (hx : x = nI j) (hj : j < N) (hN : N < 2 ^ 31) (hd : decode cc pc = .ok (.baload, 1)) (K : nW p l e R s m args below meth c Q D N0 nL (pc + 1) L (.int (f j) :: st) h n kc ks) : nW p l e R s m args below meth c Q D N0 nL pc L (.int x :: .ref (N0 + i) :: st) h n kc ks := fun ls H locs hl hR hS => by
  subst hx
  have hcl : (nI j).toNatClampNeg = j := nI_clamp (Nat.lt_trans hj hN)
  refine va_bald C.1 C.2.1 C.2.2.2.2.2.1.1 hR.2 i 1 (by rw [wl_get hi, he]) rfl (vp_in_nI hj hN) hd ?_
  rw [hcl]
  exact K ls H locs hl hR hS
theorem n_zald (C : nC p s m args meth c own cc nL ret eb D N0 kA) {i N : Nat} {f : Nat → Int32} (he : h i = .inl (kA 2, N, .inl f)) (hi : i < n) {x : Int32} (j : Nat) (hx : x = nI j) (hj : j < N) (hN : N < 2 ^ 31) (hd : decode cc pc = .ok (.baload, 1)) (K : nW p l e R s m args below meth c Q D N0 nL (pc + 1) L (.int (f j) :: st) h n kc ks) : nW p l e R s m args below meth c Q D N0 nL pc L (.int x :: .ref (N0 + i) :: st) h n kc ks := fun ls H locs hl hR hS => by
  subst hx
  have hcl : (nI j).toNatClampNeg = j := nI_clamp (Nat.lt_trans hj hN)
  refine va_zald C.1 C.2.1 C.2.2.2.2.2.1.1 hR.2 i 2 (by rw [wl_get hi, he]) rfl (vp_in_nI hj hN) hd ?_
  rw [hcl]
  exact K ls H locs hl hR hS
theorem n_aald (C : nC p s m args meth c own cc nL ret eb D N0 kA) {i N t0 : Nat} {Cn : String} {f : Nat → Option Nat} {v : Value} (he : h i = .inl (kA t0, N, .inr (.inr (.inr (.inr f))))) (hi : i < n) (ht : (nTy kA)[t0]? = some (kA t0, .object Cn)) {x : Int32} (j : Nat) (hx : x = nI j) (hj : j < N) (hN : N < 2 ^ 31) (hv : va_rf (f j) = v) (hd : decode cc pc = .ok (.aaload, 1)) (K : nW p l e R s m args below meth c Q D N0 nL (pc + 1) L (v :: st) h n kc ks) : nW p l e R s m args below meth c Q D N0 nL pc L (.int x :: .ref (N0 + i) :: st) h n kc ks := fun ls H locs hl hR hS => by
  subst hx
  subst hv
  have hcl : (nI j).toNatClampNeg = j := nI_clamp (Nat.lt_trans hj hN)
  refine va_aldq C.1 C.2.1 C.2.2.2.2.2.1.1 hR.2 i t0 (by rw [wl_get hi, he]) ht (vp_in_nI hj hN) hd ?_
  rw [hcl]
  exact K ls H locs hl hR hS
theorem n_alen (C : nC p s m args meth c own cc nL ret eb D N0 kA) {i t0 : Nat} {a : vp_A} {ty : FieldType} (he : h i = .inl (kA t0, a)) (hi : i < n) (ht : (nTy kA)[t0]? = some (kA t0, ty)) {v : Int32} (hv : Int32.ofNat a.1 = v) (hd : decode cc pc = .ok (.arraylength, 1)) (K : nW p l e R s m args below meth c Q D N0 nL (pc + 1) L (.int v :: st) h n kc ks) : nW p l e R s m args below meth c Q D N0 nL pc L (.ref (N0 + i) :: st) h n kc ks := fun ls H locs hl hR hS =>
  va_alen C.1 C.2.1 C.2.2.2.2.2.1.1 hR.2 i t0 (by rw [wl_get hi, he]) ht hv hd (K ls H locs hl hR hS)
theorem n_iast (C : nC p s m args meth c own cc nL ret eb D N0 kA) {i N : Nat} {f : Nat → Int32} (he : h i = .inl (kA 0, N, .inl f)) (hi : i < n) {x y : Int32} (j : Nat) (hx : x = nI j) (hj : j < N) (hN : N < 2 ^ 31) (hd : decode cc pc = .ok (.iastore, 1)) {h' : hT} (hh : va_up h i (.inl (kA 0, N, .inl (upd f j y))) = h') (K : nW p l e R s m args below meth c Q D N0 nL (pc + 1) L st h' n kc ks) : nW p l e R s m args below meth c Q D N0 nL pc L (.int y :: .int x :: .ref (N0 + i) :: st) h n kc ks := fun ls H locs hl hR hS => by
  subst hx
  subst hh
  have hcl : (nI j).toNatClampNeg = j := nI_clamp (Nat.lt_trans hj hN)
  have ha : (wl N0 h n)[i]? = some (N0 + i, .inl (kA 0, N, .inl f)) := by rw [wl_get hi, he]
  refine W.iast C.1 C.2.1 (hR.2 i _ ha) ((C.2.2.2.2.2.1.1.2 0 _ rfl).1 N (fun j => .int (f j))) (fun q => by cases q) (by show ¬ (_ < 0 ∨ (arrV _ _ _).slots.size ≤ _); rw [arrV_size]; exact vp_in_nI hj hN) rfl rfl hd fun H1 e z oq => ?_
  refine K ls H1 _ hl (rp_set hR z (hR.2.set wl_D ha ?_ oq)) (hS.put z oq (Nat.le_add_right _ _))
  show H1[_]? = some (vp_cell _ _)
  rw [e]
  rw [vp_cell_i, vp_cell_i, arrV_store, hcl]
  congr 2
  funext q
  by_cases hq : q = j
  · subst hq
    simp [updV, upd]
  · simp [updV, upd, hq]
theorem n_bast (C : nC p s m args meth c own cc nL ret eb D N0 kA) {i N : Nat} {f : Nat → Int32} (he : h i = .inl (kA 1, N, .inl f)) (hi : i < n) {x y : Int32} (j : Nat) (hx : x = nI j) (hj : j < N) (hN : N < 2 ^ 31) (hd : decode cc pc = .ok (.bastore, 1)) {h' : hT} (hh : va_up h i (.inl (kA 1, N, .inl (upd f j (vp_nar .byte y)))) = h') (K : nW p l e R s m args below meth c Q D N0 nL (pc + 1) L st h' n kc ks) : nW p l e R s m args below meth c Q D N0 nL pc L (.int y :: .int x :: .ref (N0 + i) :: st) h n kc ks := fun ls H locs hl hR hS => by
  subst hx
  subst hh
  have hcl : (nI j).toNatClampNeg = j := nI_clamp (Nat.lt_trans hj hN)
  have ha : (wl N0 h n)[i]? = some (N0 + i, .inl (kA 1, N, .inl f)) := by rw [wl_get hi, he]
  refine W.bast C.1 C.2.1 (hR.2 i _ ha) ((C.2.2.2.2.2.1.1.2 1 _ rfl).1 N (fun j => .int (f j))) (fun q => by cases q) (by show ¬ (_ < 0 ∨ (arrV _ _ _).slots.size ≤ _); rw [arrV_size]; exact vp_in_nI hj hN) rfl rfl hd fun H1 e z oq => ?_
  refine K ls H1 _ hl (rp_set hR z (hR.2.set wl_D ha ?_ oq)) (hS.put z oq (Nat.le_add_right _ _))
  show H1[_]? = some (vp_cell _ _)
  rw [e]
  rw [vp_cell_i, vp_cell_i, arrV_store, hcl]
  congr 2
  funext q
  by_cases hq : q = j
  · subst hq
    simp [updV, upd, vp_nar]
    try rfl
  · simp [updV, upd, hq]
theorem n_zast (C : nC p s m args meth c own cc nL ret eb D N0 kA) {i N : Nat} {f : Nat → Int32} (he : h i = .inl (kA 2, N, .inl f)) (hi : i < n) {x y : Int32} (j : Nat) (hx : x = nI j) (hj : j < N) (hN : N < 2 ^ 31) (hd : decode cc pc = .ok (.bastore, 1)) {h' : hT} (hh : va_up h i (.inl (kA 2, N, .inl (upd f j (vp_nar .boolean y)))) = h') (K : nW p l e R s m args below meth c Q D N0 nL (pc + 1) L st h' n kc ks) : nW p l e R s m args below meth c Q D N0 nL pc L (.int y :: .int x :: .ref (N0 + i) :: st) h n kc ks := fun ls H locs hl hR hS => by
  subst hx
  subst hh
  have hcl : (nI j).toNatClampNeg = j := nI_clamp (Nat.lt_trans hj hN)
  have ha : (wl N0 h n)[i]? = some (N0 + i, .inl (kA 2, N, .inl f)) := by rw [wl_get hi, he]
  refine W.zast C.1 C.2.1 (hR.2 i _ ha) ((C.2.2.2.2.2.1.1.2 2 _ rfl).1 N (fun j => .int (f j))) (fun q => by cases q) (by show ¬ (_ < 0 ∨ (arrV _ _ _).slots.size ≤ _); rw [arrV_size]; exact vp_in_nI hj hN) rfl rfl hd fun H1 e z oq => ?_
  refine K ls H1 _ hl (rp_set hR z (hR.2.set wl_D ha ?_ oq)) (hS.put z oq (Nat.le_add_right _ _))
  show H1[_]? = some (vp_cell _ _)
  rw [e]
  rw [vp_cell_i, vp_cell_i, arrV_store, hcl]
  congr 2
  funext q
  by_cases hq : q = j
  · subst hq
    simp [updV, upd, vp_nar]
    try rfl
  · simp [updV, upd, hq]
theorem n_aast (C : nC p s m args meth c own cc nL ret eb D N0 kA) {i N t0 v ci : Nat} {r : vw_C} {f : Nat → Option Nat} {vs : List Value} (he : h i = .inl (kA t0, N, .inr (.inr (.inr (.inr f))))) (hi : i < n) (ht : (nTy kA)[t0]? = some (kA t0, .object r.1)) (hv : h v = .inr (ci, vs)) (hvn : v < n) (hc : vwCl[ci]? = some r) {x : Int32} (j : Nat) (hx : x = nI j) (hj : j < N) (hN : N < 2 ^ 31) (hd : decode cc pc = .ok (.aastore, 1)) {h' : hT} (hh : va_up h i (.inl (kA t0, N, .inr (.inr (.inr (.inr (va_up f j (some (N0 + v)))))))) = h') (K : nW p l e R s m args below meth c Q D N0 nL (pc + 1) L st h' n kc ks) : nW p l e R s m args below meth c Q D N0 nL pc L (.ref (N0 + v) :: .int x :: .ref (N0 + i) :: st) h n kc ks := fun ls H locs hl hR hS => by
  subst hx
  subst hh
  have hcl : (nI j).toNatClampNeg = j := nI_clamp (Nat.lt_trans hj hN)
  have ha : (wl N0 h n)[i]? = some (N0 + i, .inl (kA t0, N, .inr (.inr (.inr (.inr f))))) := by rw [wl_get hi, he]
  have hav : (wl N0 h n)[v]? = some (N0 + v, .inr (ci, vs)) := by rw [wl_get hvn, hv]
  obtain ⟨r', hr', cellV, g1, g2, g3, -⟩ := hR.2 v _ hav
  have hcls := (C.2.2.2.2.2.1.1.1 ci r hc).2
  obtain ⟨kX, comp, k1, k2, k3, -⟩ := (C.2.2.2.2.2.1.1.2 t0 _ ht).2
  have hcomp : comp = D.1 ci := Option.some.inj (k3.symm.trans hcls.1)
  subst hcomp
  obtain ⟨kC, hkC, -⟩ := id hcls.2
  refine W.aast C.1 C.2.1 (hR.2 i _ ha) (fun q h => by cases h) (fun h => by cases h) k1 k2 rfl hkC ⟨nI_pos (Nat.lt_trans hj hN), by show _ < (arrV _ _ _).slots.size; rw [arrV_size, hcl]; exact hj⟩ g1 (fun q h => by rw [g3] at h; cases h) (by rw [g2]; exact hkC) (by rw [g2]; exact va_assign hcls) rfl rfl hd fun H1 e z oq => ?_
  refine K ls H1 _ hl (rp_set hR z (hR.2.set wl_D ha ?_ oq)) (hS.put z oq (Nat.le_add_right _ _))
  show H1[_]? = some (vp_cell _ _)
  rw [e]
  rw [vp_cell_q, vp_cell_q, arrV_store, hcl]
  congr 2
  funext q
  by_cases hq : q = j
  · subst hq
    simp [updV, va_up, va_rf]
  · simp [updV, va_up, hq]
/-- a new cell at the end -/
theorem rp_push {H H1 : Heap} {x : va_E} (hR : Rp D N0 h n H) (hz : H1.size = H.size + 1) (ho : ∀ q : Nat, q < H.size → H1[q]? = H[q]?) (hx : va_at D vwCl (N0 + n, x) H1) : Rp D N0 (va_up h n x) (n + 1) H1 := by
  refine ⟨by rw [hz, hR.1]; omega, ?_⟩
  rw [← wl_push]
  have hk : ∀ (k : Nat) (x : Nat × va_E), (wl N0 h n)[k]? = some x → H1[x.1]? = H[x.1]? := fun k x hx => ho x.1 ((hR.2 k x hx).lt)
  refine (hR.2.kept hk).app (fun k y hy => ?_)
  have hz : k < 1 := (List.getElem?_eq_some_iff.mp hy).1
  rw [show k = 0 by omega] at hy
  cases hy
  exact hx
theorem vs_push {A : Nat → Prop} {H0 H H1 : Heap} {locs : List Loc} (hS : va_S A H0 H locs) (hz : H1.size = H.size + 1) (ho : ∀ q : Nat, q < H.size → H1[q]? = H[q]?) : va_S A H0 H1 locs := ⟨Nat.le_trans hS.1 (by omega), fun x h1 h2 => (ho x (Nat.lt_of_lt_of_le h1 hS.1)).trans (hS.2.1 x h1 h2), hS.2.2⟩
theorem n_new (C : nC p s m args meth c own cc nL ret eb D N0 kA) {ci N index : Nat} {Cn : String} {T : u_T} {ty : Nat → FieldType} (hc : nCl ci Cn T N ty) (hcl : Cond.classLink own index Cn ∈ lw_all) (hinst : Cond.instantiable Cn N ∈ lw_all) (hini : Cond.initialized Cn ∈ lw_all) {fs : List Value} (hfs : ∀ j, j < N → defaultValue (ty j) = vp_V fs j) (hcells : kc + 1 ≤ R.cells) (hslots : ks + N ≤ R.slots) (hd : decode cc pc = .ok (.new index, 3)) {h' : hT} (hh : va_up h n (.inr (ci, fs)) = h') (K : nW p l e R s m args below meth c Q D N0 nL (pc + 3) L (.ref (N0 + n) :: st) h' (n + 1) (kc + 1) (ks + N)) : nW p l e R s m args below meth c Q D N0 nL pc L st h n kc ks := fun ls H locs hl hR hS => by
  subst hh
  have hts := C.2.2.2.2.1
  have hKn := C.2.2.2.2.2.1.1.1 ci _ hc.1
  refine W.newcK C.1 C.2.1 C.2.2.2.1 (hts _ hcl) (hts _ hinst) (hts _ hini) rfl hd hcells hslots hKn.2.1 hR.1 fun H1 kC hkC e1 z1 o1 => ?_
  exact K ls H1 locs hl (rp_push hR (by rw [z1, hR.1]) (fun q hq => o1 q (by rw [← hR.1]; exact hq)) ⟨_, hc.1, (u_born ty hts hc.2.1 hKn hkC e1 hc.2.2.1).to hfs⟩) (vs_push hS (by rw [z1, hR.1]) (fun q hq => o1 q (by rw [← hR.1]; exact hq)))
theorem n_newa (C : nC p s m args meth c own cc nL ret eb D N0 kA) {atype : ArrayType} {ty : FieldType} {t0 N : Nat} {a0 : vp_A} {x : Int32} (harr : Cond.arrayClass (newarray.typeOf atype) ∈ lw_all) (hty : newarray.typeOf atype = ty) (hnm : ty = .int ∨ ty = .byte ∨ ty = .boolean) (ht : (nTy kA)[t0]? = some (kA t0, ty)) (ha : ∀ cA : ClassId, vp_cell cA a0 = arrV cA N (fun _ => defaultValue ty)) (hx : x = nI N) (hN : N < 2 ^ 20) (hcells : kc + 1 ≤ R.cells) (hslots : ks + N ≤ R.slots) (hd : decode cc pc = .ok (.newarray atype, 2)) {h' : hT} (hh : va_up h n (.inl (kA t0, a0)) = h') (K : nW p l e R s m args below meth c Q D N0 nL (pc + 2) L (.ref (N0 + n) :: st) h' (n + 1) (kc + 1) (ks + N)) : nW p l e R s m args below meth c Q D N0 nL pc L (.int x :: st) h n kc ks := fun ls H locs hl hR hS => by
  subst hh
  subst hty
  subst hx
  have hcb : N * componentBytes (newarray.typeOf atype) ≤ 536870912 := by
    rcases hnm with e | e | e <;> rw [e] <;> simp [componentBytes] <;> omega
  refine va_newaK C.1 C.2.1 (C.2.2.2.2.1 _ harr) rfl hd rfl (nI_pos (by omega)) (nI_clamp (by omega)) hcb hcells hslots hR.1 fun H1 cA e1 z1 o1 hAr hNm => ?_
  have hcA : cA = kA t0 := by
    have h2 := (C.2.2.2.2.2.1.1.2 t0 _ ht).2
    rcases hnm with e | e | e <;> rw [e] at h2 hNm <;> exact Option.some.inj (hNm.symm.trans h2)
  subst hcA
  exact K ls H1 locs hl (rp_push hR (by rw [z1, hR.1]) (fun q hq => o1 q (by rw [← hR.1]; exact hq)) (by show H1[_]? = some (vp_cell _ _); rw [ha]; exact e1)) (vs_push hS (by rw [z1, hR.1]) (fun q hq => o1 q (by rw [← hR.1]; exact hq)))
theorem n_newq (C : nC p s m args meth c own cc nL ret eb D N0 kA) {Cn : String} {t0 N index : Nat} {x : Int32} (hcl : Cond.classLink own index Cn ∈ lw_all) (hover : va_AO Cn s) (ht : (nTy kA)[t0]? = some (kA t0, .object Cn)) (hx : x = nI N) (hN : N < 2 ^ 20) (hcells : kc + 1 ≤ R.cells) (hslots : ks + N ≤ R.slots) (hd : decode cc pc = .ok (.anewarray index, 3)) {h' : hT} (hh : va_up h n (.inl (kA t0, N, .inr (.inr (.inr (.inr (fun _ => none)))))) = h') (K : nW p l e R s m args below meth c Q D N0 nL (pc + 3) L (.ref (N0 + n) :: st) h' (n + 1) (kc + 1) (ks + N)) : nW p l e R s m args below meth c Q D N0 nL pc L (.int x :: st) h n kc ks := fun ls H locs hl hR hS => by
  subst hh
  subst hx
  have hcl2 : (nI N).toNatClampNeg = N := nI_clamp (by omega)
  refine W.anew C.1 C.2.1 C.2.2.2.1 (C.2.2.2.2.1 _ hcl) (va_AO.use hover) rfl hd rfl (nI_pos (by omega)) (by rw [hcl2]; omega) hcells (by rw [hcl2]; exact hslots) fun cA kX comp f1 f2 f3 f4 => ?_
  rw [hcl2]
  obtain ⟨kY, compY, k1, k2, k3, k4⟩ := (C.2.2.2.2.2.1.1.2 t0 _ ht).2
  have hcA : cA = kA t0 := Option.some.inj (f1.symm.trans k4)
  subst hcA
  generalize hH1 : H.push ({ cls := kA t0, slots := Array.replicate N .null, vm := .none } : Cell) = H1
  have z1 : H1.size = H.size + 1 := by rw [← hH1, Array.size_push]
  have e1 : H1[H.size]? = some (arrV (kA t0) N (fun _ => .null)) := by rw [← hH1, Array.getElem?_push_size, ← arrV_new]
  have o1 : ∀ q : Nat, q < H.size → H1[q]? = H[q]? := fun q hq => by rw [← hH1, Array.getElem?_push, if_neg (Nat.ne_of_lt hq)]
  rw [hR.1] at e1 ⊢
  exact K ls H1 locs hl (rp_push hR z1 o1 (by show H1[_]? = some (vp_cell _ _); rw [vp_cell_q]; exact e1)) (vs_push hS z1 o1)
theorem n_objInit (C : nC p s m args meth c own cc nL ret eb D N0 kA) {idx a : Nat} (hlink : Cond.methodLink own idx Lib.objectInit ∈ lw_all) (hinst : Cond.instanceMethod Lib.objectInit ∈ lw_all) (hcode : Cond.code Lib.objectInit ⟨#[0xb1]⟩ 1 none ∈ lw_all) (hd : decode cc pc = .ok (.invokespecial idx, 3)) (hf : 1 ≤ R.frames) (hlo : (st.map fun v => v.category).sum + 12 ≤ R.locals) (K : nW p l e R s m args below meth c Q D N0 nL (pc + 3) L st h n kc ks) : nW p l e R s m args below meth c Q D N0 nL pc L (.ref a :: st) h n kc ks := fun ls H locs hl hR hS =>
  W.objInit C.1 C.2.1 C.2.2.2.1 (C.2.2.2.2.1 _ hlink) (C.2.2.2.2.1 _ hinst) (C.2.2.2.2.1 _ hcode) rfl (by rw [C.2.2.1]; exact hl.1) rfl hd hf (by show 2 * 0 + _ + 12 ≤ _; omega) (K ls H locs hl hR hS)
theorem n_mmax (C : nC p s m args meth c own cc nL ret eb D N0 kA) {index : Nat} (hlink : Cond.methodLink own index Lib.Math.max.name ∈ lw_all) (hstat : Cond.static Lib.Math.max.name ∈ lw_all) (hini : Cond.initialized "java/lang/Math" ∈ lw_all) (hcode : Cond.code Lib.Math.max.name Lib.Math.max.code 2 (some .int) ∈ lw_all) (hf : 1 ≤ R.frames) (hlo : (st.map fun v => v.category).sum + 13 ≤ R.locals) (hc : kc ≤ R.cells) (hs : ks ≤ R.slots) {x y : Int32} (hd : decode cc pc = .ok (.invokestatic index, 3)) (K : nW p l e R s m args below meth c Q D N0 nL (pc + 3) L (.int (if x < y then y else x) :: st) h n kc ks) : nW p l e R s m args below meth c Q D N0 nL pc L (.int y :: .int x :: st) h n kc ks := fun ls H locs hl hR hS =>
  va_mmax C.1 C.2.1 (by rw [C.2.2.1, hl.1]) C.2.2.2.1 (C.2.2.2.2.1 _ hlink) (C.2.2.2.2.1 _ hstat) (C.2.2.2.2.1 _ hini) (C.2.2.2.2.1 _ hcode) hf hlo hc hs hd (K ls H locs hl hR hS)
theorem n_mmin (C : nC p s m args meth c own cc nL ret eb D N0 kA) {index : Nat} (hlink : Cond.methodLink own index Lib.Math.min.name ∈ lw_all) (hstat : Cond.static Lib.Math.min.name ∈ lw_all) (hini : Cond.initialized "java/lang/Math" ∈ lw_all) (hcode : Cond.code Lib.Math.min.name Lib.Math.min.code 2 (some .int) ∈ lw_all) (hf : 1 ≤ R.frames) (hlo : (st.map fun v => v.category).sum + 13 ≤ R.locals) (hc : kc ≤ R.cells) (hs : ks ≤ R.slots) {x y : Int32} (hd : decode cc pc = .ok (.invokestatic index, 3)) (K : nW p l e R s m args below meth c Q D N0 nL (pc + 3) L (.int (if y < x then y else x) :: st) h n kc ks) : nW p l e R s m args below meth c Q D N0 nL pc L (.int y :: .int x :: st) h n kc ks := fun ls H locs hl hR hS =>
  va_mmin C.1 C.2.1 (by rw [C.2.2.1, hl.1]) C.2.2.2.1 (C.2.2.2.2.1 _ hlink) (C.2.2.2.2.1 _ hstat) (C.2.2.2.2.1 _ hini) (C.2.2.2.2.1 _ hcode) hf hlo hc hs hd (K ls H locs hl hR hS)
theorem n_mabs (C : nC p s m args meth c own cc nL ret eb D N0 kA) {index : Nat} (hlink : Cond.methodLink own index Lib.Math.abs.name ∈ lw_all) (hstat : Cond.static Lib.Math.abs.name ∈ lw_all) (hini : Cond.initialized "java/lang/Math" ∈ lw_all) (hcode : Cond.code Lib.Math.abs.name Lib.Math.abs.code 1 (some .int) ∈ lw_all) (hf : 1 ≤ R.frames) (hlo : (st.map fun v => v.category).sum + 13 ≤ R.locals) (hc : kc ≤ R.cells) (hs : ks ≤ R.slots) {x : Int32} (hd : decode cc pc = .ok (.invokestatic index, 3)) (K : nW p l e R s m args below meth c Q D N0 nL (pc + 3) L (.int (if 0 ≤ x then x else 0 - x) :: st) h n kc ks) : nW p l e R s m args below meth c Q D N0 nL pc L (.int x :: st) h n kc ks := fun ls H locs hl hR hS =>
  va_mabs C.1 C.2.1 (by rw [C.2.2.1, hl.1]) C.2.2.2.1 (C.2.2.2.2.1 _ hlink) (C.2.2.2.2.1 _ hstat) (C.2.2.2.2.1 _ hini) (C.2.2.2.2.1 _ hcode) hf hlo hc hs hd (K ls H locs hl hR hS)
end NR
