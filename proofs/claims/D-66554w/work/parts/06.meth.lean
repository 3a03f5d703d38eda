/-! methods by contract: the program's answer is the machine's -/
def x_O (oc : Option Value ⊕ (Nat × Nat)) (o : Outcome) : Prop := match oc with
  | .inl v => o = .returned v
  | .inr q => o = .threw q.1
def x_st (oc : Option Value ⊕ (Nat × Nat)) (A : Option Value → Prop) (B : Nat × Nat → Prop) : Prop := match oc with
  | .inl v => A v
  | .inr q => B q
def x_oc {α : Type} (cv : α → Option Value) (r : α ⊕ (Nat × Nat)) : Option Value ⊕ (Nat × Nat) := match r with
  | .inl v => .inl (cv v)
  | .inr q => .inr q
def vI (v : Int32) : Option Value := some (.int v)
def vJ (v : Int64) : Option Value := some (.long v)
def vA (v : Nat) : Option Value := some (.ref v)
def vQ (v : Option Nat) : Option Value := some (va_rf v)
def vU (_ : Unit) : Option Value := none
def x_cw (y : MethodName) (bytes : ByteArray) (maxL : Nat) (ret : Option FieldType) (hl : List (Nat × Nat × Nat × Nat)) : Cond := match hl with
  | [] => .code y bytes maxL ret
  | _ => .codeWith y bytes maxL ret hl
theorem x_cw_spec {y : MethodName} {bytes : ByteArray} {maxL : Nat} {ret : Option FieldType} {hl : List (Nat × Nat × Nat × Nat)} {args : Array Value} {s : State} {m : MethodId} (hn : s.methodNamed? y = some m) (h : (x_cw y bytes maxL ret hl).before args s = true) :
    ∃ meth c, s.vm.method? m = some meth ∧ meth.code = some c ∧ c.code = bytes ∧ c.maxLocals = maxL ∧ meth.sig.returnType = ret ∧ meth.locks = false ∧ c.exceptionTable.toList.map (fun h => (h.startPc, h.endPc, h.handlerPc, h.catchType)) = hl ∧ parseMethodDescriptor y.desc = some meth.sig := by
  cases hl with
  | nil =>
    obtain ⟨meth, c, h1, h2, h3, h4, h5, h6, h7, h8⟩ := Cond.code_spec hn h
    refine ⟨meth, c, h1, h2, h3, h4, h5, h6, ?_, h8⟩
    have h0 : c.exceptionTable.size = 0 := by simpa [Array.isEmpty] using h7
    have : c.exceptionTable.toList = [] := List.eq_nil_of_length_eq_zero (by simpa using h0)
    rw [this]
    rfl
  | cons a t =>
    obtain ⟨m', meth, c, hn', h1, h2, h3, h4, h5, h6, h7, h8⟩ := Cond.codeWith_spec h
    cases hn.symm.trans hn'
    exact ⟨meth, c, h1, h2, h3, h4, h6, h7, h5, h8⟩
/-- how a method's walk ends -/
def x_Q (s0 : State) (D : xD) (below : List Frame) (s : State) (R : Room) (oc : Option Value ⊕ (Nat × Nat)) (h' : xH) : State → Prop := fun t => ∃ o, t.status = .running ∧ Ended t below o ∧ x_O oc o ∧ s.WarmedH t.vm ∧
  (∃ (L : List Loc) (k n : Nat), s.sameButNew ({ t with vm := s.vm } : State) L k n ∧ (∀ q ∈ L, s0.heap.size ≤ q.base) ∧ k + h'.1.2.1 = R.cells ∧ n + h'.1.2.2 = R.slots) ∧ x_Hd s0 D h' t.heap
/-- a method's contract: called with av in the heap h it ends with oc in the heap h' -/
def x_M (l : Launch) (s0 : State) (D : xD) (y : MethodName) (cw : Cond) (fr lo : Nat) (av : List Value) (h : xH) (oc : Option Value ⊕ (Nat × Nat)) (h' : xH) : Prop :=
  MetFree l y (headSpec [cw] ({ frames := fr, cells := h.1.2.1, slots := h.1.2.2, locals := lo } : Room)) (fun a U => a = av.toArray ∧ s0.WarmedH U.vm ∧ x_Hd s0 D h U.heap) (fun _ _ _ _ _ => True) (fun _ st o t => x_O oc o ∧ st.WarmedH t.vm ∧
    (∃ (L : List Loc) (k n : Nat), st.sameButNew ({ t with vm := st.vm } : State) L k n ∧ (∀ q ∈ L, s0.heap.size ≤ q.base) ∧ k + h'.1.2.1 = h.1.2.1 ∧ n + h'.1.2.2 = h.1.2.2) ∧ x_Hd s0 D h' t.heap)
/-- a contract out of the walk of the method's body -/
theorem x_M.ofW {l : Launch} {s0 : State} {A0 : Array Value} {D : xD} (Z : x_Z l s0 A0 D) {y : MethodName} {bytes : ByteArray} {maxL : Nat} {ret : Option FieldType} {hl : List (Nat × Nat × Nat × Nat)} {fr lo : Nat} {av : List Value} {h : xH} {oc : Option Value ⊕ (Nat × Nat)} {h' : xH} (hy : plainFor y = true)
    (body : ∀ (p : Program) (e : Env) (s : State) (m : MethodId) (below : List Frame) (meth : Method) (c : Code), x_C l s0 A0 D y.cls bytes maxL hl p s m av.toArray meth c → meth.name = y.name → meth.sig.returnType = ret → x_S s0 D ({ frames := fr, cells := h.1.2.1, slots := h.1.2.2, locals := lo } : Room) h s.heap [] 0 0 →
      W p l e ({ frames := fr, cells := h.1.2.1, slots := h.1.2.2, locals := lo } : Room) s m av.toArray below meth c s.heap [] 0 0 (x_Q s0 D below s ({ frames := fr, cells := h.1.2.1, slots := h.1.2.2, locals := lo } : Room) oc h') (entryFrame m av.toArray maxL)) : x_M l s0 D y (x_cw y bytes maxL ret hl) fr lo av h oc h' := by
  refine MetFree.of_bodySF (code := bytes) (maxLocals := maxL) (ret := ret) hy ?_ ?_
  · intro args s m h hn
    obtain ⟨meth, c, h1, h2, h3, h4, h5, h6, -, -⟩ := x_cw_spec hn (atoms_spec (ws := [x_cw y bytes maxL ret hl]) h _ List.mem_cons_self)
    exact ⟨meth, c, h1, h2, h3, h4, h5, h6⟩
  · intro p e s m args below meth c s₁ B hml hP _
    obtain ⟨rfl, hW, hH⟩ := hP
    have hh0 : s₁.heap = s.heap := by rw [B.state]; rfl
    obtain ⟨meth', c', h1, h2, -, -, -, -, h7, -⟩ := x_cw_spec B.named (atoms_spec (ws := [x_cw y bytes maxL ret hl]) B.pre _ List.mem_cons_self)
    cases B.method.symm.trans h1
    cases (Stand.of_body B).code.symm.trans h2
    obtain ⟨t, a1, o, b1, b2, b3, b4, b5, b6⟩ := body p e s m below meth c ⟨B.exec, B.bytes, findClass_of_methodNamed B.named, x_words Z hW, va_K.moved hW.alike Z.2.2.2, hml, hW, Z, hH.2.2.1, B.notSynchronized, h7⟩ (name_of_methodNamed B.named B.method).1 B.returns ⟨hH, (fun q hq => by cases hq), Nat.zero_add _, Nat.zero_add _⟩ s₁ hh0 (Stand.of_body B)
    exact ⟨t, o, a1, b1, b2, b3, b4, b5, b6⟩
section XCALL
variable {p : Program} {l : Launch} {e : Env} {R : Room} {s : State} {m : MethodId} {args : Array Value} {below : List Frame} {meth : Method} {c : Code} {H : Heap} {locs : List Loc} {cells slots : Nat} {Q : State → Prop}
variable {cc : ByteArray} {pc nL : Nat} {ls : Array Slot} {rest : List Value} {D : xD} {s0 : State} {A0 : Array Value} {own : String} {hl : List (Nat × Nat × Nat × Nat)} {h : xH}
theorem W.mono {Q' : State → Prop} {g : JFrame} (w : W p l e R s m args below meth c H locs cells slots Q g) (hq : ∀ t, Q t → Q' t) : W p l e R s m args below meth c H locs cells slots Q' g := by
  intro T hT X
  obtain ⟨t, a, b⟩ := w T hT X
  exact ⟨t, a, hq t b⟩
/-- behind the invoking instruction: the callee comes back, or what it throws stands over the caller's frame -/
theorem x_enter {T : State} (X : Stand p l e R s m args below meth c T locs cells slots) (hH : x_S s0 D R h T.heap locs cells slots) (hWm : s0.WarmedH s.vm) {y : MethodName} {bytes : ByteArray} {maxL : Nat} {ret : Option FieldType} {hlY : List (Nat × Nat × Nat × Nat)} {fr lo : Nat} {av : List Value} {oc : Option Value ⊕ (Nat × Nat)} {h' : xH}
    (hM : x_M l s0 D y (x_cw y bytes maxL ret hlY) fr lo av h oc h') {g : JFrame} (hg : g.method = m) (hsize : g.locals.size = c.maxLocals) {ig : Instr} {len : Nat} (hdg : decode c.code g.pc = .ok (ig, len)) (hWt : 2 * g.monitorRoom + (g.stack.map fun v => v.category).sum ≤ 16) {mk : MethodId} (hn : T.methodNamed? y = some mk)
    (hcw : (x_cw y bytes maxL ret hlY).before av.toArray T = true) (hini : (Cond.initialized y.cls).before av.toArray T = true) (hfr : fr + 1 ≤ R.frames) (hlo : 16 + (maxL + 11) + lo ≤ R.locals) :
    ∃ (T' : State) (locs' : List Loc) (cells' slots' : Nat), Stand p l e R s m args below meth c T' locs' cells' slots' ∧ x_S s0 D R h' T'.heap locs' cells' slots' ∧ x_st oc (fun v => Steps p.tables e below (doInvoke e (T.setTop g) [] mk av.toArray).1 (T'.setTop { g with pc := g.pc + len, stack := v.toList ++ g.stack })) (fun q => Steps p.tables e below (doInvoke e (T.setTop g) [] mk av.toArray).1 ((T'.setTop g).pushFrame (.throwing q.1))) := by
  obtain ⟨methY, cY, hmY, hcY, -, hlY', -, -, -, -⟩ := x_cw_spec hn hcw
  obtain ⟨kY, hkY, -⟩ := className_of_methodNamed hn
  have hinitY : kY.init = .initialized := Cond.initialized_spec (findClass_of_methodNamed hn) hkY hini
  have hat : At T g.method c below := by rw [hg]; exact X.here
  obtain ⟨g1, g2, g3, g4⟩ := hH
  have happ : (headSpec [x_cw y bytes maxL ret hlY] ({ frames := fr, cells := h.1.2.1, slots := h.1.2.2, locals := lo } : Room)).appliesLoose y e.platform (T.calling g mk av.toArray) = true :=
    Spec.appliesLoose_calling (g := g) hat hdg hn hkY hinitY
      (X.room_calling (g := g) (R' := ({ frames := fr, cells := h.1.2.1, slots := h.1.2.2, locals := lo } : Room)) hsize hmY hcY hfr (by rw [hlY']; show _ + _ + _ + lo ≤ _; omega) (Nat.le_of_eq g3) (Nat.le_of_eq g4)) (atoms_intro fun w hw => by rw [List.mem_singleton.mp hw]; exact hcw)
  obtain ⟨mid, hmid⟩ := hat.above
  have hfrm : (T.setTop g).frames = (.java g :: mid) ++ below := by rw [State.frames_setTop' g hat.top, hmid]; rfl
  obtain ⟨o, s₂, hsteps, -, hend, hq⟩ := Steps.callFree hM p X.admits X.cas X.clock (acts := []) hfrm happ ⟨rfl, State.WarmedH.trans hWm X.warmed, g1⟩ trivial
  rw [State.frames_setTop' g hat.top] at hend
  obtain ⟨hO, hW₂, ⟨L, k, n, hsame, hL, hk, hn'⟩, hHd⟩ := hq
  obtain ⟨e2, q2, q3, q4, q5, q6⟩ := id hsame
  have e3 : s₂ = ({ (T.calling g mk av.toArray).setFrames s₂.frames with heap := s₂.heap, slotsUsed := s₂.slotsUsed } : State).setVm s₂.vm := by
    have : s₂ = ({ s₂ with vm := (T.calling g mk av.toArray).vm } : State).setVm s₂.vm := rfl
    have e2' : ({ s₂ with vm := (T.calling g mk av.toArray).vm } : State) = _ := e2
    rw [e2'] at this
    exact this
  have hW' : T.WarmedH s₂.vm := hW₂
  obtain ⟨g₀, hg0⟩ := Option.isSome_iff_exists.mp hat.top
  obtain ⟨r, hr⟩ := State.topJava?_eq_some.mp hg0
  have hsm : T.sameButNew ({ T with heap := s₂.heap, slotsUsed := s₂.slotsUsed } : State) L k n := by
    refine ⟨?_, q2, q3, q4, q5, q6⟩
    obtain ⟨t, ht, -⟩ := State.frames_cons hr
    show ({ T with heap := s₂.heap, slotsUsed := s₂.slotsUsed } : State) = { T.setFrames T.frames with heap := s₂.heap, slotsUsed := s₂.slotsUsed }
    rw [State.setFrames_self ht]
  have hr' : (({ T with heap := s₂.heap, slotsUsed := s₂.slotsUsed } : State).setVm s₂.vm).frames = .java g₀ :: r := hr
  refine ⟨(({ T with heap := s₂.heap, slotsUsed := s₂.slotsUsed } : State).setVm s₂.vm), locs ++ L, cells + k, slots + n,
    ⟨X.admits, X.cas, X.clock, X.frames, X.room, X.hears, X.method, X.code, (X.here.setHeapUsed s₂.heap s₂.slotsUsed).setVm hW'.alike, X.tail, State.WarmedH.trans X.warmed hW', X.limits, X.bytes, X.same.trans (hsm.setVm s.vm)⟩,
    ⟨hHd, fun q hq => by
      rcases List.mem_append.mp hq with h | h
      · exact g2 q h
      · exact hL q h, by show cells + k + h'.1.2.1 = _; omega, by show slots + n + h'.1.2.2 = _; omega⟩, ?_⟩
  cases oc with
  | inl v =>
    have hO : o = .returned v := hO
    subst hO
    obtain ⟨c₂, i₂, len₂, hc₂, hd₂, hf₂⟩ := hend
    have hcc : c₂ = c := by
      have h1 : s₂.code? g.method = T.code? g.method := by
        rw [State.code?_eq, State.code?_eq, hW'.alike.method?]
      exact Option.some.inj (hc₂.symm.trans (h1.trans hat.code))
    subst hcc
    have hlen : len₂ = len := by rw [hdg] at hd₂; cases hd₂; rfl
    subst hlen
    have hs₂ : s₂ = (({ T with heap := s₂.heap, slotsUsed := s₂.slotsUsed } : State).setVm s₂.vm).setTop { g with pc := g.pc + len₂, stack := v.toList ++ g.stack } := by
      refine e3.trans ?_
      rw [hf₂, State.calling_eq hat.top, State.setFrames_setFrames, State.setTop_of_frames _ hr', hr]
      rfl
    show Steps p.tables e below _ _
    rw [← hs₂]
    exact hsteps
  | inr q =>
    have hO : o = .threw q.1 := hO
    subst hO
    have hend : s₂.frames = .throwing q.1 :: (.java g :: T.frames.tail) := hend
    have hs₂ : s₂ = ((({ T with heap := s₂.heap, slotsUsed := s₂.slotsUsed } : State).setVm s₂.vm).setTop g).pushFrame (.throwing q.1) := by
      refine e3.trans ?_
      rw [hend, State.calling_eq hat.top, State.setFrames_setFrames, State.pushFrame, State.frames_setTop _ hr', State.setTop_of_frames _ hr', State.setFrames_setFrames, hr]
      rfl
    show Steps p.tables e below _ _
    rw [← hs₂]
    exact hsteps
end XCALL
