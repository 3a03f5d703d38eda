/-! exceptions: made and thrown; caught -/
def x_stw : List Cond := [.laysStatic Bundle.tN "UNASSIGNED_STACK" Bundle.steD, .laysStatic Bundle.tN "SUPPRESSED_SENTINEL" Bundle.listD, .isRef (.static Bundle.tN "UNASSIGNED_STACK" Bundle.steD), .isRef (.static Bundle.tN "SUPPRESSED_SENTINEL" Bundle.listD)]
theorem x_stat1 {s0 s : State} (hal : s0.vm.Alike s.vm) (hold : ∀ q : Nat, q < s0.heap.size → s.heap[q]? = s0.heap[q]?) {A A0 : Array Value} {O f d : String} (h : (Cond.laysStatic O f d).before A0 s0 = true) : (Cond.laysStatic O f d).before A s = true ∧ ((Cond.isRef (.static O f d)).before A0 s0 = true → (Cond.isRef (.static O f d)).before A s = true) := by
  obtain ⟨c, k, i, fd, a, cell, hc, hf, hst, hsta, hcell, hiss, hcls, hlt, hty⟩ := Cond.laysStatic_spec h
  obtain ⟨k', hf', he⟩ := State.fieldFound?_setVm hal hf
  have hf2 : s.fieldFound? O f d = some (c, k', i, fd) := by simpa only [State.fieldFound?, State.vm_setVm] using hf'
  have hc2 : s.vm.findClass O = some c := by rw [hal.findClass]; exact hc
  have ha : a < s0.heap.size := (Array.getElem?_eq_some_iff.mp hcell).1
  have hcell2 : s.heap[a]? = some cell := by rw [hold a ha]; exact hcell
  have hsta2 : k'.statics = some a := by rw [he]; exact hsta
  have hty2 : k'.staticTypes[fd.slot]? = some fd.type := by rw [he]; exact hty
  refine ⟨by simp [Cond.before, Cond.holds, Cond.value, hc2, hf2, hst, hsta2, hcell2, hiss, hcls, hlt, hty2], fun h2 => ?_⟩
  obtain ⟨u, hu⟩ := Cond.staticRefV hf hst hsta hcell hiss h2
  have he : (Term.static O f d).eval A s none [] s = some u.v := by
    simp [Term.eval, State.fieldNamed?, hf2, hst, hsta2, hcell2, hiss, hu]
  obtain ⟨v, hv⟩ := u
  simp only [Cond.before, Cond.holds, Cond.value, he]
  cases v <;> simp [Value.isRef] at hv <;> rfl
theorem x_in1 : Cond.laysStatic Bundle.tN "UNASSIGNED_STACK" Bundle.steD ∈ lw_tbl := by decide +kernel
theorem x_in2 : Cond.laysStatic Bundle.tN "SUPPRESSED_SENTINEL" Bundle.listD ∈ lw_tbl := by decide +kernel
theorem x_stat {l : Launch} {s0 s : State} {A A0 : Array Value} {D : xD} (Z : x_Z l s0 A0 D) (hal : s0.vm.Alike s.vm) (hold : ∀ q : Nat, q < s0.heap.size → s.heap[q]? = s0.heap[q]?) : ∀ w ∈ x_stw, w.before A s = true := by
  intro w hw
  have a1 := x_stat1 (A := A) hal hold (Z.2.1 _ x_in1)
  have a2 := x_stat1 (A := A) hal hold (Z.2.1 _ x_in2)
  have b1 := a1.2 (Z.2.2.1 _ (by simp [x_nar, Bundle.tN, Bundle.steD]))
  have b2 := a2.2 (Z.2.2.1 _ (by simp [x_nar, Bundle.tN, Bundle.listD]))
  simp only [x_stw, List.mem_cons, List.not_mem_nil, or_false] at hw
  rcases hw with rfl | rfl | rfl | rfl
  · exact a1.1
  · exact a2.1
  · exact b1
  · exact b2
def xth {β : Type} (ci : Nat) : xM β := fun h => if 1 ≤ h.1.2.1 ∧ 6 ≤ h.1.2.2 then some (.inr (h.1.1, ci), ((h.1.1 + 1, h.1.2.1 - 1, h.1.2.2 - 6), va_up h.2 h.1.1 (some (.inr (ci, []))))) else none
def x_up2 : List String := ["java/lang/RuntimeException", "java/lang/Exception"]
def x_tw (own : String) (index ic ci : Nat) : Prop := ∃ X, classes[ci]? = some (X, F_E, 0) ∧ Bundle.fit X = true ∧ Cond.classLink own index X ∈ x_W ∧ Cond.instantiable X 6 ∈ x_W ∧ Cond.initialized X ∈ x_W ∧ (∀ a ∈ Bundle.ownAtoms0 own ic X x_up2, a ∈ x_W ∨ a ∈ x_stw)
section XTHR
variable {p : Program} {l : Launch} {e : Env} {R : Room} {s : State} {m : MethodId} {args : Array Value} {below : List Frame} {meth : Method} {c : Code} {H : Heap} {locs : List Loc} {cells slots : Nat} {Q : State → Prop}
variable {cc : ByteArray} {pc nL : Nat} {ls : Array Slot} {rest : List Value} {D : xD} {s0 : State} {A0 : Array Value} {own : String} {hl : List (Nat × Nat × Nat × Nat)} {h : xH}
variable {β : Type} {res : (β ⊕ (Nat × Nat)) × xH} {cvB : β → Option Value}
theorem x_thr (C : x_C l s0 A0 D own cc nL [] p s m args meth c) (hH : x_S s0 D R h s.heap [] 0 0) {index ic ci : Nat} (hq : x_tw own index ic ci) (hd0 : decode cc pc = .ok (.new index, 3)) (hd3 : decode cc (pc + 3) = .ok (.dup, 1)) (hd4 : decode cc (pc + 4) = .ok (.invokespecial ic, 3)) (hd7 : decode cc (pc + 7) = .ok (.athrow, 1)) (hls : ls.size = nL) (hfr : 5 < R.frames) (hlo : 100 ≤ R.locals) (hrw : (rest.map fun v => v.category).sum ≤ 16) (hp : xth ci h = some res) :
    W p l e R s m args below meth c s.heap [] 0 0 (x_Q s0 D below s R (x_oc cvB res.1) res.2) (F0 m pc ls rest) := by
  unfold xth at hp
  split at hp <;> try (cases hp; done)
  rename_i hroom
  cases hp
  obtain ⟨X, hX, hfit, w1, w2, w3, hat⟩ := hq
  obtain ⟨hx, hb, hown, hts, hK, hml, hW, Z, hold, hlocks, -⟩ := id C
  have hKn := hK.1 ci _ hX
  obtain ⟨g1, g2, g3, g4⟩ := hH
  refine W.newcK hx hb hown (hts _ w1) (hts _ w2) (hts _ w3) rfl hd0 (by omega) (by omega) hKn.2.1 rfl fun H1 kC hkC e2 z1 o1 => ?_
  refine lv_dup hx hb hd3 rfl ?_
  intro T hT Xs
  obtain ⟨U, hst, hrun, hend, hWU, hsame, ce, hce, OC⟩ := Xs.ctorThrow0 hx (Launch.traces_off Z.1 Xs.admits) hown hfit (names := x_up2) (by decide +kernel)
    (fun a ha => (hat a ha).elim (fun h => hts a h) (fun h => x_stat Z hW.alike hold a h)) (fun x hx => by cases hx) (a := s.heap.size) hKn.2.1 hkC (by rw [hT]; exact e2) (Nat.le_refl _)
    (g := F0 m (pc + 3 + 1) ls (.ref s.heap.size :: .ref s.heap.size :: rest)) rfl (by rw [hml]; exact hls) rfl rfl rfl (by rw [hb]; exact hd4) (by rw [hb]; exact hd7) (x_outs C) (by show 2 + 3 < _; omega) (by show 2 * 0 + (1 + (rest.map fun v => v.category).sum) + 80 ≤ _; omega)
  refine ⟨U, hst, .threw s.heap.size, hrun, hend, by rw [g1.1]; rfl, hWU, ⟨[], _, _, hsame, (fun q hq => by cases hq), ?_, ?_⟩, ?_⟩
  · show 0 + 1 + (h.1.2.1 - 1) = _
    omega
  · show 0 + 6 + (h.1.2.2 - 6) = _
    omega
  · have hz : U.heap.size = s.heap.size + 1 := by
      have h1 : s.heap.size ≤ U.heap.size := hsame.2.1
      have h2 : U.heap.size ≤ s.heap.size + (0 + 1) := hsame.2.2.1
      have h3 : s.heap.size < U.heap.size := (Array.getElem?_eq_some_iff.mp hce).1
      omega
    have ho : ∀ q : Nat, q < s.heap.size → U.heap[q]? = s.heap[q]? := by
      intro q hq
      have : s.heap[q]? = some s.heap[q] := Array.getElem?_eq_getElem hq
      rw [this]
      exact hsame.old_cell (a := q) this
    refine g1.push hz ho ⟨_, hX, ce, ?_, ?_, OC.vm, fun k hk => by cases hk⟩
    · rw [← g1.1]; exact hce
    · exact Option.some.inj (OC.cls.symm.trans hKn.2.1)
/-! the search for a handler, where the catch types are not yet resolved -/
theorem x_go_cold {S : State} {f : JFrame} {a : Addr} {x : ExceptionTableEntry} {t : List ExceptionTableEntry} {k : ClassId} {Q : Handler → Pre} {E : CtlPost} {d : Bool} {acts : List Action} (hx : covers x f.pc = true) (h0 : x.catchType ≠ 0) (hcl : S.vm.ClassLinks e.platform f.method.cls x.catchType k) :
    wp (findHandler.go f a (x :: t)) Q E e d acts S ↔ wp (findHandler.go f a (x :: t)) Q E e d acts (S.setVm (S.vm.noted f.method.cls x.catchType (.cls k))) := by
  obtain ⟨ha, ht⟩ := (resolveClass_links e.toSetting hcl).op (op := VmOp.resolveClass f.method.cls x.catchType) rfl
  obtain ⟨kk, hkd, hres⟩ := hcl.ready
  have hm := resolveClass_memo e hkd hres
  have hsz : (S.vm.noted f.method.cls x.catchType (.cls k)).classes.size ≤ S.vm.classes.size := by no_record
  simp only [covers] at hx
  simp [findHandler.go, hx, h0, ha, ht, hm, hsz, VmOp.lands_same, VmOp.dirties, VmOp.acts, State.setVm_twice]
/-- which handler takes an exception of class ci thrown at pc: the catch types are places in the constant pool of the class own -/
def x_disp (ty : List (Nat × Nat)) (pc ci : Nat) : List (Nat × Nat × Nat × Nat) → Option Nat
  | [] => none
  | (st, en, hp, ct) :: r => if st ≤ pc ∧ pc < en ∧ ct ≠ 0 then (match ty.lookup ct with
    | some cj => if cj = ci then some hp else if (ci, cj) ∈ [(11, 10), (12, 10), (12, 11)] then x_disp ty pc ci r else none
    | none => none) else none
/-- the catch types of a class: each is linked -/
def x_ct (own : String) (ty : List (Nat × Nat)) : Prop := ∀ q ∈ ty, ∃ X, classes[q.2]? = some (X, F_E, 0) ∧ Cond.classLink own q.1 X ∈ x_W ∧ Cond.castable X X ∈ x_W
theorem x_nocast {l : Launch} (Z : x_Z l s0 A0 D) (hal : s0.vm.Alike s.vm) {X Y : String} (h : Cond.not (.castable X Y) ∈ x_nar) {a b : ClassId} (ha : s.vm.findClass X = some a) (hb : s.vm.findClass Y = some b) : s.vm.assignable a b = false := by
  have h1 := Z.2.2.1 _ h
  have ha0 : s0.vm.findClass X = some a := by rw [← hal.findClass]; exact ha
  have hb0 : s0.vm.findClass Y = some b := by rw [← hal.findClass]; exact hb
  have h2 : s0.vm.assignable a b = false := by
    simpa [Cond.before, Cond.holds, Cond.value, ha0, hb0] using h1
  rw [hal.assignable]
  exact h2
theorem x_look {ty : List (Nat × Nat)} {ct cj : Nat} (h : ty.lookup ct = some cj) : (ct, cj) ∈ ty := by
  induction ty with
  | nil => simp at h
  | cons q r ih =>
    obtain ⟨a, b⟩ := q
    by_cases hq : ct = a
    · subst hq
      simp [List.lookup] at h
      subst h
      exact List.mem_cons_self
    · have : (ct == a) = false := by simpa using hq
      simp only [List.lookup, this] at h
      exact List.mem_cons_of_mem _ (ih h)
theorem x_find (C : x_C l s0 A0 D own cc nL hl p s m args meth c) {ty : List (Nat × Nat)} (hty : x_ct own ty) (hpl : e.platform.magicAccessors = ({} : Platform).magicAccessors) {ci a : Nat} {r : vw_C} (hci : classes[ci]? = some r) {cell : Cell} (hcls : cell.cls = D.1.1 ci) (hvm : cell.vm = .none) {g : JFrame} (hg : g.method = m) {pc' : Nat} :
    ∀ (es : List ExceptionTableEntry) (S : State), s.WarmedH S.vm → S.heap[a]? = some cell → x_disp ty g.pc ci (es.map (fun h => (h.startPc, h.endPc, h.handlerPc, h.catchType))) = some pc' → ∃ vm', s.WarmedH vm' ∧ ∀ (Q : Handler → Pre) (E : CtlPost) (d : Bool) (acts : List Action), wp (findHandler.go g a es) Q E e d acts S ↔ Q (.found pc') d acts (S.setVm vm') := by
  intro es
  induction es with
  | nil => intro S _ _ h; simp [x_disp] at h
  | cons x t ih =>
    intro S hWS hcell hdsp
    simp only [List.map_cons, x_disp] at hdsp
    split at hdsp <;> try (cases hdsp; done)
    rename_i hcov
    obtain ⟨h1, h2, h3⟩ := hcov
    split at hdsp <;> try (cases hdsp; done)
    rename_i cj hlk
    obtain ⟨X, hX, w1, w2⟩ := hty _ (x_look hlk)
    obtain ⟨hx, hb, hown, hts, hK, hml, hW, Z, hold, hlocks, -⟩ := id C
    obtain ⟨k, hk, hcl⟩ := Cond.classLink_spec hown (hts _ w1) e.platform hpl
    have hkj : k = D.1.1 cj := Option.some.inj (hk.symm.trans (hK.1 cj _ hX).2.1)
    subst hkj
    have hcl0 := hWS.classLinks hcl
    rw [← hg] at hcl0
    have hcv : covers x g.pc = true := by simp [covers, h1, h2]
    obtain ⟨dk, _, _, kt, hd, _, _, _, _, hkt, _, hopen⟩ := hcl.here
    have hW1 : s.WarmedH (S.vm.noted g.method.cls x.catchType (.cls (D.1.1 cj))) := by rw [hg]; exact hWS.noted hd hopen (State.rightAt_cls hcl)
    obtain ⟨kt', hkt', -⟩ := hW1.alike.2.2 _ _ hkt
    obtain ⟨kc, hkc, -⟩ := (hK.1 ci _ hci).2.2
    obtain ⟨kc', hkc', -⟩ := hW1.alike.2.2 _ _ hkc
    have hgo : ∀ (Q : Handler → Pre) (E : CtlPost) (d : Bool) (acts : List Action), wp (findHandler.go g a (x :: t)) Q E e d acts S ↔ (if (S.vm.noted g.method.cls x.catchType (.cls (D.1.1 cj))).assignable cell.cls (D.1.1 cj) = true then Q (.found x.handlerPc) d acts (S.setVm (S.vm.noted g.method.cls x.catchType (.cls (D.1.1 cj)))) else wp (findHandler.go g a t) Q E e d acts (S.setVm (S.vm.noted g.method.cls x.catchType (.cls (D.1.1 cj))))) := by
      intro Q E d acts
      rw [x_go_cold hcv h3 hcl0]
      exact W.findHandler_go_class (s := S.setVm (S.vm.noted g.method.cls x.catchType (.cls (D.1.1 cj)))) hcv h3 hcl0.ready hcell (fun k h => by rw [hvm] at h; cases h) ⟨kc', by rw [hcls]; exact hkc'⟩ ⟨kt', hkt'⟩
    by_cases hj : cj = ci
    · rw [if_pos hj] at hdsp
      cases hdsp
      refine ⟨_, hW1, fun Q E d acts => ?_⟩
      rw [hgo, if_pos]
      rw [hW1.alike.assignable, hcls, hj]
      subst hj
      obtain ⟨c1, c2, q1, q2, q3⟩ := Cond.castable_spec (hts _ w2)
      cases q1.symm.trans (hK.1 cj _ hX).2.1
      cases q2.symm.trans (hK.1 cj _ hX).2.1
      exact q3
    · rw [if_neg hj] at hdsp
      split at hdsp <;> try (cases hdsp; done)
      rename_i hpair
      obtain ⟨vm', hW', hf⟩ := ih (S.setVm (S.vm.noted g.method.cls x.catchType (.cls (D.1.1 cj)))) hW1 hcell hdsp
      refine ⟨vm', hW', fun Q E d acts => ?_⟩
      rw [hgo, if_neg, hf, State.setVm_twice]
      rw [hW1.alike.assignable, hcls]
      have hno : s.vm.assignable (D.1.1 ci) (D.1.1 cj) = false := by
        simp only [List.mem_cons, List.not_mem_nil, or_false, Prod.mk.injEq] at hpair
        rcases hpair with ⟨rfl, rfl⟩ | ⟨rfl, rfl⟩ | ⟨rfl, rfl⟩
        · exact x_nocast Z hW.alike (X := R_EA) (Y := R_EI) (by simp [x_nar]) (hK.1 11 _ rfl).2.1 (hK.1 10 _ rfl).2.1
        · exact x_nocast Z hW.alike (X := R_ES) (Y := R_EI) (by simp [x_nar]) (hK.1 12 _ rfl).2.1 (hK.1 10 _ rfl).2.1
        · exact x_nocast Z hW.alike (X := R_ES) (Y := R_EA) (by simp [x_nar]) (hK.1 12 _ rfl).2.1 (hK.1 11 _ rfl).2.1
      rw [hno]
      decide
/-- a call in a method with handlers: what is thrown is caught -/
def xc {α β : Type} (F : xM α) (kk : α → xM β) (hk : Nat → Nat → xM β) : xM β := fun h => match F h with
  | none => none
  | some (.inl v, h') => kk v h'
  | some (.inr (a, ci), h') => (match h'.2 a with
    | some (.inr (c, _)) => if c = ci then hk a ci h' else none
    | _ => none)
theorem xc_i {α β : Type} {h : xH} {res : (β ⊕ (Nat × Nat)) × xH} {F : xM α} {kk : α → xM β} {hk : Nat → Nat → xM β} (e : xc F kk hk h = some res) : (∃ v h', F h = some (.inl v, h') ∧ kk v h' = some res) ∨ (∃ a ci fs h', F h = some (.inr (a, ci), h') ∧ h'.2 a = some (.inr (ci, fs)) ∧ hk a ci h' = some res) := by
  unfold xc at e
  split at e
  · cases e
  · rename_i v h' e1
    exact Or.inl ⟨v, h', e1, e⟩
  · rename_i a ci h' e1
    split at e <;> try (cases e; done)
    rename_i c fs e2
    split at e <;> try (cases e; done)
    rename_i e3
    subst e3
    exact Or.inr ⟨a, c, fs, h', e1, e2, e⟩
theorem x_caught (C : x_C l s0 A0 D own cc nL hl p s m args meth c) {ty : List (Nat × Nat)} (hty : x_ct own ty) {T : State} (X : Stand p l e R s m args below meth c T locs cells slots) (hH : x_S s0 D R h T.heap locs cells slots) {a ci : Nat} {fs : List Value} (ha : h.2 a = some (.inr (ci, fs))) {pc' : Nat} (hdsp : x_disp ty pc ci hl = some pc')
    (k : W p l e R s m args below meth c T.heap locs cells slots Q (F0 m pc' ls [.ref a])) : ∃ t, Steps p.tables e below ((T.setTop (F0 m pc ls rest)).pushFrame (.throwing a)) t ∧ Q t := by
  obtain ⟨r, hr, cell, q1, q2, q3, -⟩ := (hH.1.2.2.2 a _ ha).1
  have hpl : e.platform.magicAccessors = ({} : Platform).magicAccessors := by rw [X.admits.platform]
  have hh : c.exceptionTable.toList.map (fun h => (h.startPc, h.endPc, h.handlerPc, h.catchType)) = hl := C.2.2.2.2.2.2.2.2.2.2
  obtain ⟨vm', hW', hf⟩ := x_find C hty hpl hr q2 q3 (g := F0 m pc ls rest) rfl c.exceptionTable.toList ((T.setTop (F0 m pc ls rest)).pushFrame (.throwing a)) (a := a) (by rw [Stand.throwing_vm]; exact X.warmed) (by rw [Stand.throwing_heap]; exact q1) (by rw [hh]; exact hdsp)
  have hat : At T (F0 m pc ls rest).method c below := X.here
  obtain ⟨t, a1, b1⟩ := k (T.setVm vm') rfl (X.noted hW')
  refine ⟨t, ?_, b1⟩
  obtain ⟨hgo, hw⟩ := hat.throwing a
  refine Steps.head hgo hw ?_
  have hstep : (stepThrowing e ((T.setTop (F0 m pc ls rest)).pushFrame (.throwing a)) a (.java (F0 m pc ls rest) :: T.frames.tail)).Is ((((T.setTop (F0 m pc ls rest)).pushFrame (.throwing a)).setVm vm').setFrames (.java { F0 m pc ls rest with pc := pc', stack := [.ref a] } :: T.frames.tail)) [] := by
    simp only [stepThrowing, searchFrame, vmDo]
    generalize hr : Sem.go _ e false [] _ = res
    obtain ⟨as, rfl, ha⟩ := Sem.eq_ok_of hr (a := Handler.found pc') (s' := ((T.setTop (F0 m pc ls rest)).pushFrame (.throwing a)).setVm vm') (acts' := [])
      (by
        have hm : ((T.setTop (F0 m pc ls rest)).pushFrame (.throwing a)).vm.method? (F0 m pc ls rest).method = some meth := by rw [Stand.throwing_vm]; exact X.method'
        have hfh : ∀ (Q : Handler → Pre) (E : CtlPost) (d : Bool) (acts : List Action), wp (findHandler (F0 m pc ls rest) a) Q E e d acts ((T.setTop (F0 m pc ls rest)).pushFrame (.throwing a)) ↔ Q (.found pc') d acts (((T.setTop (F0 m pc ls rest)).pushFrame (.throwing a)).setVm vm') := fun Q E d acts => (W.findHandler_eq hm X.code).trans (hf Q E d acts)
        simp [hfh _ _ _ _])
    exact ⟨rfl, ha⟩
  rw [stepThread_throwing (frames_entered hat.top _)]
  rw [hstep.1]
  obtain ⟨g₀, hg⟩ := Option.isSome_iff_exists.mp hat.top
  obtain ⟨r2, hr2⟩ := State.topJava?_eq_some.mp hg
  have hr3 : (T.setVm vm').frames = .java g₀ :: r2 := hr2
  rw [State.setTop_of_frames _ hr3] at a1
  have e1 : ((((T.setTop (F0 m pc ls rest)).pushFrame (.throwing a)).setVm vm').setFrames (.java { F0 m pc ls rest with pc := pc', stack := [.ref a] } :: T.frames.tail)) = (T.setVm vm').setFrames (.java (F0 m pc' ls [.ref a]) :: r2) := by
    rw [State.pushFrame, State.setTop_of_frames _ hr2, hr2]
    show (((T.setFrames _).setFrames _).setVm vm').setFrames _ = _
    rw [State.setFrames_setFrames]
    show ((T.setVm vm').setFrames _).setFrames _ = _
    rw [State.setFrames_setFrames]
    rfl
  rw [e1]
  exact a1
theorem x_callVc {α : Type} {cv : α → Option Value} {y : MethodName} {bytes : ByteArray} {maxL index n fr lo : Nat} {ret : Option FieldType} {F : xM α} {kk : α → xM β} {hk : Nat → Nat → xM β} {As : List Value} (C : x_C l s0 A0 D own cc nL hl p s m args meth c) {ty : List (Nat × Nat)} (hty : x_ct own ty) (hH : x_S s0 D R h H locs cells slots) {ci b : Nat} (hq : x_kV own index ci y bytes maxL ret n) (hd : decode cc pc = .ok (.invokevirtual index, 3)) (hp : xv b ci (xc F kk hk) h = some res) (hm : ∀ o h', F h = some (o, h') → x_M l s0 D y (x_cw y bytes maxL ret []) fr lo (.ref b :: As) h (x_oc cv o) h')
    (hn : As.length = n) (hls : ls.size = nL) (hfr : fr + 1 ≤ R.frames) (hlo : 16 + (maxL + 11) + lo ≤ R.locals) (hrw : (rest.map fun v => v.category).sum ≤ 16)
    (kont : ∀ (v : α) (h1 : xH) (H1 : Heap) (locs1 : List Loc) (cells1 slots1 : Nat), kk v h1 = some res → x_S s0 D R h1 H1 locs1 cells1 slots1 → W p l e R s m args below meth c H1 locs1 cells1 slots1 Q (F0 m (pc + 3) ls ((cv v).toList ++ rest)))
    (kh : ∀ (a cj : Nat) (h1 : xH) (H1 : Heap) (locs1 : List Loc) (cells1 slots1 : Nat), hk a cj h1 = some res → x_S s0 D R h1 H1 locs1 cells1 slots1 → ∃ pc', x_disp ty pc cj hl = some pc' ∧ W p l e R s m args below meth c H1 locs1 cells1 slots1 Q (F0 m pc' ls [.ref a])) :
    W p l e R s m args below meth c H locs cells slots Q (F0 m pc ls (As.reverse ++ .ref b :: rest)) := by
  obtain ⟨r, hr, w1, w2, w5, w3, w4, np⟩ := hq
  obtain ⟨fs, eb, hp⟩ := xv_i hp
  obtain ⟨hx, hb, hown, hts, hK, hml, hW, Z, -⟩ := id C
  intro T hT X
  obtain ⟨mk, methM, hnamed, hmethM, hstM, habM⟩ := Cond.instanceMethod_spec (hts _ w2)
  obtain ⟨methM', cM, hmethM', -, -, -, -, -, -, hsigM⟩ := Cond.code_spec hnamed (hts _ w3)
  cases hmethM.symm.trans hmethM'
  obtain ⟨c2, r2, m2, q1, q2, q3, q4, kP, hkP, hkPi⟩ := Cond.selects_spec (hts _ w5)
  obtain ⟨r', hr', cellB, g1, g2, g3, -⟩ := (hH.1.2.2.2 b _ eb).1
  have hcls : s.vm.findClass r.1 = some cellB.cls := by rw [g2]; exact (hK.1 ci r hr).2.1
  cases hcls.symm.trans q1
  cases (State.methodFound?_of_named hnamed ⟨np.1, np.2.1⟩).symm.trans q2
  cases hnamed.symm.trans q3
  have hselP : selectMethod e.platform s.vm cellB.cls mk = .method mk := by rw [Launch.admits_selectMethod X.admits]; exact q4
  obtain ⟨vm₁, X₁, hstep₁⟩ := X.invokevirtual hx hown (hts _ w1) hnamed hmethM hstM hkP hkPi ⟨np.1, np.2.1⟩ (a := b) (cell := cellB) (by rw [hT]; exact g1)
    (fun z h => by rw [g3] at h; cases h) hselP hmethM habM hkP hkPi (g := F0 m pc ls (As.reverse ++ .ref b :: rest)) rfl (argsL := As) (rest := rest) (np.len hn _ hsigM) rfl (by rw [hb]; exact hd)
  have ent := fun (o) (h') (hF : F h = some (o, h')) =>
    x_enter X₁ (by show x_S s0 D R h T.heap _ _ _; rw [hT]; exact hH) hW (hm o h' hF) (g := F0 m pc ls rest) rfl (by rw [hml]; exact hls) (ig := .invokevirtual index) (len := 3) (by rw [hb]; exact hd) (by show 2 * 0 + (rest.map fun v => v.category).sum ≤ 16; omega) (X₁.named hnamed) (x_words Z (State.WarmedH.trans hW X₁.warmed) _ w3) (x_words Z (State.WarmedH.trans hW X₁.warmed) _ w4) hfr hlo
  rcases xc_i hp with ⟨v, h', e1, e2⟩ | ⟨a, cj, fs, h', e1, e2, e3⟩
  · obtain ⟨T', locs', cells', slots', X', hS', st⟩ := ent _ _ e1
    obtain ⟨t, a1, b1⟩ := kont v h' T'.heap locs' cells' slots' e2 hS' T' rfl X'
    exact ⟨t, hstep₁ _ fun acts => by rw [doInvoke_state]; exact Steps.trans st a1, b1⟩
  · obtain ⟨T', locs', cells', slots', X', hS', st⟩ := ent _ _ e1
    obtain ⟨pc', hdsp, k⟩ := kh a cj h' T'.heap locs' cells' slots' e3 hS'
    obtain ⟨t, a1, b1⟩ := x_caught C hty X' hS' e2 hdsp k
    exact ⟨t, hstep₁ _ fun acts => by rw [doInvoke_state]; exact Steps.trans st a1, b1⟩
end XTHR
