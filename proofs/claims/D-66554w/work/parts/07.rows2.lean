/-! calls, returns -/
def xv {β : Type} (b ci : Nat) (K : xM β) : xM β := fun h => match h.2 b with
  | some (.inr (c, _)) => if c = ci then K h else none
  | _ => none
theorem xv_i {β : Type} {h : xH} {res : (β ⊕ (Nat × Nat)) × xH} {b ci : Nat} {K : xM β} (e : xv b ci K h = some res) : ∃ fs, h.2 b = some (.inr (ci, fs)) ∧ K h = some res := by
  unfold xv at e
  split at e <;> try (cases e; done)
  rename_i c fs e1
  split at e <;> try (cases e; done)
  rename_i e3
  subst e3
  exact ⟨fs, e1, e⟩
theorem xb_i {α β : Type} {h : xH} {res : (β ⊕ (Nat × Nat)) × xH} {F : xM α} {kk : α → xM β} (e : xb F kk h = some res) : (∃ v h', F h = some (.inl v, h') ∧ kk v h' = some res) ∨ (∃ x h', F h = some (.inr x, h') ∧ res = (.inr x, h')) := by
  unfold xb at e
  split at e
  · cases e
  · rename_i v h' e1
    exact Or.inl ⟨v, h', e1, e⟩
  · rename_i x h' e1
    cases e
    exact Or.inr ⟨x, h', e1, rfl⟩
def xq {β : Type} (r : Option Nat) (A : xM β) (B : Nat → xM β) : xM β := match r with
  | none => A
  | some a => B a
def xn {β : Type} (r : Option Nat) (B : Nat → xM β) : xM β := xq r xst B
theorem xn_i {β : Type} {h : xH} {res : (β ⊕ (Nat × Nat)) × xH} {r : Option Nat} {B : Nat → xM β} (e : xn r B h = some res) : ∃ a, r = some a ∧ B a h = some res := by
  cases r with
  | none => cases e
  | some a => exact ⟨a, rfl, e⟩
def x_np (y : MethodName) (n : Nat) : Prop := y.cls ≠ "java/lang/invoke/MethodHandle" ∧ y.cls ≠ "java/lang/invoke/VarHandle" ∧ (parseMethodDescriptor y.desc).map (fun d => d.parameters.length) = some n
theorem x_np.len {y : MethodName} {n : Nat} (h : x_np y n) {As : List Value} (hn : As.length = n) : ∀ sig, parseMethodDescriptor y.desc = some sig → As.length = sig.parameters.length := by
  intro sig hs
  have := h.2.2
  rw [hs] at this
  rw [hn]
  exact (Option.some.inj this).symm
/-- links of a call: virtual, static, of a constructor -/
def x_kV (own : String) (index ci : Nat) (y : MethodName) (bytes : ByteArray) (maxL : Nat) (ret : Option FieldType) (n : Nat) : Prop := ∃ r, classes[ci]? = some r ∧ Cond.methodLink own index y ∈ x_W ∧ Cond.instanceMethod y ∈ x_W ∧ Cond.selects r.1 y y ∈ x_W ∧ Cond.code y bytes maxL ret ∈ x_W ∧ Cond.initialized y.cls ∈ x_W ∧ x_np y n
def x_kS (own : String) (index : Nat) (y : MethodName) (bytes : ByteArray) (maxL : Nat) (ret : Option FieldType) (hl : List (Nat × Nat × Nat × Nat)) (n : Nat) : Prop := Cond.methodLink own index y ∈ x_W ∧ Cond.static y ∈ x_W ∧ x_cw y bytes maxL ret hl ∈ x_W ∧ Cond.initialized y.cls ∈ x_W ∧ x_np y n
def x_kI (own : String) (index : Nat) (y : MethodName) (bytes : ByteArray) (maxL : Nat) (n : Nat) : Prop := (Cond.methodLink own index y ∈ x_W ∨ ∃ host, Cond.methodLinkNest own index y host ∈ x_W) ∧ y.name = "<init>" ∧ Cond.instanceMethod y ∈ x_W ∧ Cond.code y bytes maxL none ∈ x_W ∧ Cond.initialized y.cls ∈ x_W ∧ x_np y n
section XCALL2
variable {p : Program} {l : Launch} {e : Env} {R : Room} {s : State} {m : MethodId} {args : Array Value} {below : List Frame} {meth : Method} {c : Code} {H : Heap} {locs : List Loc} {cells slots : Nat} {Q : State → Prop}
variable {cc : ByteArray} {pc nL : Nat} {ls : Array Slot} {rest : List Value} {D : xD} {s0 : State} {A0 : Array Value} {own : String} {hl : List (Nat × Nat × Nat × Nat)} {h : xH}
variable {α β : Type} {res : (β ⊕ (Nat × Nat)) × xH} {cv : α → Option Value} {cvB : β → Option Value} {y : MethodName} {bytes : ByteArray} {maxL index n fr lo : Nat} {ret : Option FieldType} {F : xM α} {kk : α → xM β} {As : List Value}
theorem x_outs (C : x_C l s0 A0 D own cc nL [] p s m args meth c) : ∀ x ∈ c.exceptionTable.toList, covers x pc = false := by
  obtain ⟨-, -, -, -, -, -, -, -, -, -, hh⟩ := C
  intro x hx
  rw [List.map_eq_nil_iff.mp hh] at hx
  cases hx
/-- a thrown exception leaves a method that has no handlers -/
theorem x_leave (C : x_C l s0 A0 D own cc nL [] p s m args meth c) {T : State} (X : Stand p l e R s m args below meth c T locs cells slots) (hH : x_S s0 D R h T.heap locs cells slots) {q : Nat × Nat} {ls : Array Slot} {st : List Value} {pc : Nat} :
    ∃ t, Steps p.tables e below ((T.setTop (F0 m pc ls st)).pushFrame (.throwing q.1)) t ∧ x_Q s0 D below s R (.inr q) h t := by
  have hlocks : meth.locks = false := C.2.2.2.2.2.2.2.2.2.1
  obtain ⟨w, h1, h2, h3, h4⟩ := X.leaveThrown q.1 (g := F0 m pc ls st) rfl rfl rfl (x_outs C)
  exact ⟨_, w, _, h1, h2, rfl, h3, ⟨locs, cells, slots, h4, hH.2.1, hH.2.2.1, hH.2.2.2⟩, hH.1⟩
theorem x_back (C : x_C l s0 A0 D own cc nL [] p s m args meth c) {T Ts : State} {g : JFrame} {len : Nat} (hlen : len = 3) (hgm : g = F0 m pc ls rest) (hp : xb F kk h = some res)
    (hc : ∀ o h', F h = some (o, h') → ∃ (T' : State) (locs' : List Loc) (cells' slots' : Nat), Stand p l e R s m args below meth c T' locs' cells' slots' ∧ x_S s0 D R h' T'.heap locs' cells' slots' ∧ x_st (x_oc cv o) (fun v => Steps p.tables e below Ts (T'.setTop { g with pc := g.pc + len, stack := v.toList ++ g.stack })) (fun q => Steps p.tables e below Ts ((T'.setTop g).pushFrame (.throwing q.1))))
    (kont : ∀ (v : α) (h1 : xH) (H1 : Heap) (locs1 : List Loc) (cells1 slots1 : Nat), kk v h1 = some res → x_S s0 D R h1 H1 locs1 cells1 slots1 → W p l e R s m args below meth c H1 locs1 cells1 slots1 (x_Q s0 D below s R (x_oc cvB res.1) res.2) (F0 m (pc + 3) ls ((cv v).toList ++ rest))) :
    ∃ t, Steps p.tables e below Ts t ∧ x_Q s0 D below s R (x_oc cvB res.1) res.2 t := by
  subst hgm
  subst hlen
  rcases xb_i hp with ⟨v, h', e1, e2⟩ | ⟨x, h', e1, e2⟩
  · obtain ⟨T', locs', cells', slots', X', hS', st⟩ := hc _ _ e1
    obtain ⟨t, a1, b1⟩ := kont v h' T'.heap locs' cells' slots' e2 hS' T' rfl X'
    exact ⟨t, Steps.trans st a1, b1⟩
  · obtain ⟨T', locs', cells', slots', X', hS', st⟩ := hc _ _ e1
    subst e2
    obtain ⟨t, a1, b1⟩ := x_leave C X' hS' (q := x) (ls := ls) (st := rest) (pc := pc)
    exact ⟨t, Steps.trans st a1, b1⟩
theorem x_callS (C : x_C l s0 A0 D own cc nL [] p s m args meth c) (hH : x_S s0 D R h H locs cells slots) (hq : x_kS own index y bytes maxL ret [] n) (hd : decode cc pc = .ok (.invokestatic index, 3)) (hp : xb F kk h = some res) (hm : ∀ o h', F h = some (o, h') → x_M l s0 D y (x_cw y bytes maxL ret []) fr lo As h (x_oc cv o) h')
    (hn : As.length = n) (hls : ls.size = nL) (hfr : fr + 1 ≤ R.frames) (hlo : 16 + (maxL + 11) + lo ≤ R.locals) (hrw : (rest.map fun v => v.category).sum ≤ 16)
    (kont : ∀ (v : α) (h1 : xH) (H1 : Heap) (locs1 : List Loc) (cells1 slots1 : Nat), kk v h1 = some res → x_S s0 D R h1 H1 locs1 cells1 slots1 → W p l e R s m args below meth c H1 locs1 cells1 slots1 (x_Q s0 D below s R (x_oc cvB res.1) res.2) (F0 m (pc + 3) ls ((cv v).toList ++ rest))) :
    W p l e R s m args below meth c H locs cells slots (x_Q s0 D below s R (x_oc cvB res.1) res.2) (F0 m pc ls (As.reverse ++ rest)) := by
  obtain ⟨w1, w2, w3, w4, np⟩ := hq
  obtain ⟨hx, hb, hown, hts, hK, hml, hW, Z, -⟩ := id C
  intro T hT X
  have hcode := hts _ w3
  obtain ⟨mk, hnamed⟩ := Cond.code_named (show (Cond.code y bytes maxL ret).before args s = true from hcode)
  obtain ⟨methM, cM, hmethM, -, -, -, -, -, -, hsigM⟩ := x_cw_spec hnamed hcode
  have hstatic : methM.isStatic = true := Cond.static_spec hnamed hmethM (hts _ w2)
  obtain ⟨kP, hkP, -⟩ := className_of_methodNamed hnamed
  have hinitP : kP.init = .initialized := Cond.initialized_spec (findClass_of_methodNamed hnamed) hkP (hts _ w4)
  obtain ⟨vm₁, X₁, hstep₁⟩ := X.invokestatic hx hown (hts _ w1) hnamed hmethM hstatic hkP hinitP ⟨np.1, np.2.1⟩ (g := F0 m pc ls (As.reverse ++ rest)) rfl (argsL := As) (rest := rest) (np.len hn _ hsigM) rfl (by rw [hb]; exact hd)
  obtain ⟨t, a1, b1⟩ := x_back (cv := cv) (F := F) (kk := kk) (cvB := cvB) (R := R) (Ts := (doInvoke e ((T.setVm vm₁).setTop (F0 m pc ls rest)) [] mk As.toArray).1) (T := T) C rfl rfl hp (g := F0 m pc ls rest) (len := 3) (fun o h' hF =>
    x_enter X₁ (by show x_S s0 D R h T.heap _ _ _; rw [hT]; exact hH) hW (hm o h' hF) (g := F0 m pc ls rest) rfl (by rw [hml]; exact hls) (ig := .invokestatic index) (len := 3) (by rw [hb]; exact hd) (by show 2 * 0 + (rest.map fun v => v.category).sum ≤ 16; omega) (X₁.named hnamed) (x_words Z (State.WarmedH.trans hW X₁.warmed) _ w3) (x_words Z (State.WarmedH.trans hW X₁.warmed) _ w4) hfr hlo) kont
  exact ⟨t, hstep₁ _ fun acts => by rw [doInvoke_state]; exact a1, b1⟩
theorem x_callV (C : x_C l s0 A0 D own cc nL [] p s m args meth c) (hH : x_S s0 D R h H locs cells slots) {ci b : Nat} (hq : x_kV own index ci y bytes maxL ret n) (hd : decode cc pc = .ok (.invokevirtual index, 3)) (hp : xv b ci (xb F kk) h = some res) (hm : ∀ o h', F h = some (o, h') → x_M l s0 D y (x_cw y bytes maxL ret []) fr lo (.ref b :: As) h (x_oc cv o) h')
    (hn : As.length = n) (hls : ls.size = nL) (hfr : fr + 1 ≤ R.frames) (hlo : 16 + (maxL + 11) + lo ≤ R.locals) (hrw : (rest.map fun v => v.category).sum ≤ 16)
    (kont : ∀ (v : α) (h1 : xH) (H1 : Heap) (locs1 : List Loc) (cells1 slots1 : Nat), kk v h1 = some res → x_S s0 D R h1 H1 locs1 cells1 slots1 → W p l e R s m args below meth c H1 locs1 cells1 slots1 (x_Q s0 D below s R (x_oc cvB res.1) res.2) (F0 m (pc + 3) ls ((cv v).toList ++ rest))) :
    W p l e R s m args below meth c H locs cells slots (x_Q s0 D below s R (x_oc cvB res.1) res.2) (F0 m pc ls (As.reverse ++ .ref b :: rest)) := by
  obtain ⟨r, hr, w1, w2, w5, w3, w4, np⟩ := hq
  obtain ⟨fs, eb, hp⟩ := xv_i hp
  obtain ⟨hx, hb, hown, hts, hK, hml, hW, Z, -⟩ := id C
  intro T hT X
  obtain ⟨mk, methM, hnamed, hmethM, hstM, habM⟩ := Cond.instanceMethod_spec (hts _ w2)
  obtain ⟨methM', cM, hmethM', -, -, -, -, -, -, hsigM⟩ := Cond.code_spec hnamed (hts _ w3)
  cases hmethM.symm.trans hmethM'
  obtain ⟨c2, r2, m2, q1, q2, q3, q4, kP, hkP, hkPi⟩ := Cond.selects_spec (hts _ w5)
  obtain ⟨r', hr', cellB, g1, g2, g3, -⟩ := (hH.1.2.2.2 b _ eb).1
  have hcls : s.vm.findClass r.1 = some cellB.cls := by rw [g2]; exact (hK.1 ci r hr).2.1
  cases hcls.symm.trans q1
  cases (State.methodFound?_of_named hnamed ⟨np.1, np.2.1⟩).symm.trans q2
  cases hnamed.symm.trans q3
  have hselP : selectMethod e.platform s.vm cellB.cls mk = .method mk := by rw [Launch.admits_selectMethod X.admits]; exact q4
  obtain ⟨vm₁, X₁, hstep₁⟩ := X.invokevirtual hx hown (hts _ w1) hnamed hmethM hstM hkP hkPi ⟨np.1, np.2.1⟩ (a := b) (cell := cellB) (by rw [hT]; exact g1)
    (fun z h => by rw [g3] at h; cases h) hselP hmethM habM hkP hkPi (g := F0 m pc ls (As.reverse ++ .ref b :: rest)) rfl (argsL := As) (rest := rest) (np.len hn _ hsigM) rfl (by rw [hb]; exact hd)
  obtain ⟨t, a1, b1⟩ := x_back (cv := cv) (F := F) (kk := kk) (cvB := cvB) (R := R) (Ts := (doInvoke e ((T.setVm vm₁).setTop (F0 m pc ls rest)) [] mk (Value.ref b :: As).toArray).1) (T := T) C rfl rfl hp (g := F0 m pc ls rest) (len := 3) (fun o h' hF =>
    x_enter X₁ (by show x_S s0 D R h T.heap _ _ _; rw [hT]; exact hH) hW (hm o h' hF) (g := F0 m pc ls rest) rfl (by rw [hml]; exact hls) (ig := .invokevirtual index) (len := 3) (by rw [hb]; exact hd) (by show 2 * 0 + (rest.map fun v => v.category).sum ≤ 16; omega) (X₁.named hnamed) (x_words Z (State.WarmedH.trans hW X₁.warmed) _ w3) (x_words Z (State.WarmedH.trans hW X₁.warmed) _ w4) hfr hlo) kont
  exact ⟨t, hstep₁ _ fun acts => by rw [doInvoke_state]; exact a1, b1⟩
theorem x_callI (C : x_C l s0 A0 D own cc nL [] p s m args meth c) (hH : x_S s0 D R h H locs cells slots) {b : Nat} (hq : x_kI own index y bytes maxL n) (hd : decode cc pc = .ok (.invokespecial index, 3)) (hp : xb F kk h = some res) (hm : ∀ o h', F h = some (o, h') → x_M l s0 D y (x_cw y bytes maxL none []) fr lo (.ref b :: As) h (x_oc cv o) h')
    (hn : As.length = n) (hls : ls.size = nL) (hfr : fr + 1 ≤ R.frames) (hlo : 16 + (maxL + 11) + lo ≤ R.locals) (hrw : (rest.map fun v => v.category).sum ≤ 16)
    (kont : ∀ (v : α) (h1 : xH) (H1 : Heap) (locs1 : List Loc) (cells1 slots1 : Nat), kk v h1 = some res → x_S s0 D R h1 H1 locs1 cells1 slots1 → W p l e R s m args below meth c H1 locs1 cells1 slots1 (x_Q s0 D below s R (x_oc cvB res.1) res.2) (F0 m (pc + 3) ls ((cv v).toList ++ rest))) :
    W p l e R s m args below meth c H locs cells slots (x_Q s0 D below s R (x_oc cvB res.1) res.2) (F0 m pc ls (As.reverse ++ .ref b :: rest)) := by
  obtain ⟨w1, hy1, w2, w3, w4, np⟩ := hq
  obtain ⟨hx, hb, hown, hts, hK, hml, hW, Z, -⟩ := id C
  intro T hT X
  have hpl : e.platform.magicAccessors = ({} : Platform).magicAccessors := by rw [X.admits.platform]
  have key : ∃ (mk : MethodId) (vm₁ : Vm), s.methodNamed? y = some mk ∧ s.WarmedH vm₁ ∧ ∀ target, (∀ acts, Steps p.tables e below (doInvoke e ((T.setVm vm₁).setTop (F0 m pc ls rest)) acts mk (Value.ref b :: As).toArray).1 target) → Steps p.tables e below (T.setTop (F0 m pc ls (As.reverse ++ .ref b :: rest))) target := by
    rcases w1 with w1 | ⟨host, w1⟩
    · obtain ⟨mk, methM, cM, kP, vm₁, hnamed, hmethM, hcodeM, -, hlocalsM, -, hkP, -, hW₁, hstep₁⟩ := Steps.initColdArgs (e := e) X.here hx X.warmed hpl hown hy1 ⟨np.1, np.2.1⟩ (hts _ w1) (hts _ w2) (hts _ w3) (f := F0 m pc ls (As.reverse ++ .ref b :: rest)) rfl (np.len hn) rfl (by rw [hb]; exact hd)
      exact ⟨mk, vm₁, hnamed, hW₁, hstep₁⟩
    · obtain ⟨mk, methM, cM, kP, vm₁, hnamed, hmethM, hcodeM, -, hlocalsM, -, hkP, -, hW₁, hstep₁⟩ := Steps.initColdArgsNest (e := e) X.here hx X.warmed hpl hown hy1 ⟨np.1, np.2.1⟩ (hts _ w1) (hts _ w2) (hts _ w3) (f := F0 m pc ls (As.reverse ++ .ref b :: rest)) rfl (np.len hn) rfl (by rw [hb]; exact hd)
      exact ⟨mk, vm₁, hnamed, hW₁, hstep₁⟩
  obtain ⟨mk, vm₁, hnamed, hW₁, hstep₁⟩ := key
  have X₁ := X.noted hW₁
  obtain ⟨t, a1, b1⟩ := x_back (cv := cv) (F := F) (kk := kk) (cvB := cvB) (R := R) (Ts := (doInvoke e ((T.setVm vm₁).setTop (F0 m pc ls rest)) [] mk (Value.ref b :: As).toArray).1) (T := T) C rfl rfl hp (g := F0 m pc ls rest) (len := 3) (fun o h' hF =>
    x_enter X₁ (by show x_S s0 D R h T.heap _ _ _; rw [hT]; exact hH) hW (hm o h' hF) (g := F0 m pc ls rest) rfl (by rw [hml]; exact hls) (ig := .invokespecial index) (len := 3) (by rw [hb]; exact hd) (by show 2 * 0 + (rest.map fun v => v.category).sum ≤ 16; omega) (X₁.named hnamed) (x_words Z (State.WarmedH.trans hW X₁.warmed) _ w3) (x_words Z (State.WarmedH.trans hW X₁.warmed) _ w4) hfr hlo) kont
  exact ⟨t, hstep₁ _ fun acts => by rw [doInvoke_state]; exact a1, b1⟩
/-- returns -/
theorem x_retQ {v : Option Value} {t : State} (h1 : MQ below (fun _ _ o t => o = .returned v ∧ x_Hd s0 D h t.heap) args s cells slots (fun q => s0.heap.size ≤ q) t) (hc : cells + h.1.2.1 = R.cells) (hs : slots + h.1.2.2 = R.slots) : x_Q s0 D below s R (.inl v) h t := by
  obtain ⟨o, b1, b2, ⟨b3, b4⟩, L, ⟨-, b5, b6⟩, b7⟩ := h1
  exact ⟨o, b1, b2, b3, b5, ⟨L, cells, slots, b6, b7, hc, hs⟩, b4⟩
theorem x_iret {res : (Int32 ⊕ (Nat × Nat)) × xH} (C : x_C l s0 A0 D own cc nL hl p s m args meth c) (hH : x_S s0 D R h H locs cells slots) (hr : meth.sig.returnType = some .int) {v : Int32} (hd : decode cc pc = .ok (.ireturn, 1)) (hp : xr v h = some res) :
    W p l e R s m args below meth c H locs cells slots (x_Q s0 D below s R (x_oc vI res.1) res.2) (F0 m pc ls [.int v]) := by
  have hlocks : meth.locks = false := C.2.2.2.2.2.2.2.2.2.1
  cases hp
  exact W.mono (W.iret (Qc := fun _ _ o t => o = .returned (some (.int v)) ∧ x_Hd s0 D h t.heap) (free := fun q => s0.heap.size ≤ q) C.1 C.2.1 hr (fun t ht hW => ⟨rfl, by rw [ht]; exact hH.1⟩) hH.2.1 hd) (fun t ht => x_retQ ht hH.2.2.1 hH.2.2.2)
theorem x_zret {res : (Int32 ⊕ (Nat × Nat)) × xH} (C : x_C l s0 A0 D own cc nL hl p s m args meth c) (hH : x_S s0 D R h H locs cells slots) (hr : meth.sig.returnType = some .boolean) {v : Int32} (hd : decode cc pc = .ok (.ireturn, 1)) (hp : (if v = 0 ∨ v = 1 then xr v else xst) h = some res) :
    W p l e R s m args below meth c H locs cells slots (x_Q s0 D below s R (x_oc vI res.1) res.2) (F0 m pc ls [.int v]) := by
  have hlocks : meth.locks = false := C.2.2.2.2.2.2.2.2.2.1
  by_cases hv : v = 0 ∨ v = 1
  · rw [if_pos hv] at hp
    cases hp
    exact W.mono (W.zret (Qc := fun _ _ o t => o = .returned (some (.int v)) ∧ x_Hd s0 D h t.heap) (free := fun q => s0.heap.size ≤ q) C.1 C.2.1 hr (by rcases hv with rfl | rfl <;> rfl) (fun t ht hW => ⟨rfl, by rw [ht]; exact hH.1⟩) hH.2.1 hd) (fun t ht => x_retQ ht hH.2.2.1 hH.2.2.2)
  · rw [if_neg hv] at hp
    cases hp
theorem x_lret {res : (Int64 ⊕ (Nat × Nat)) × xH} (C : x_C l s0 A0 D own cc nL hl p s m args meth c) (hH : x_S s0 D R h H locs cells slots) (hr : meth.sig.returnType = some .long) {v : Int64} (hd : decode cc pc = .ok (.lreturn, 1)) (hp : xr v h = some res) :
    W p l e R s m args below meth c H locs cells slots (x_Q s0 D below s R (x_oc vJ res.1) res.2) (F0 m pc ls [.long v]) := by
  have hlocks : meth.locks = false := C.2.2.2.2.2.2.2.2.2.1
  cases hp
  exact W.mono (W.lret (Qc := fun _ _ o t => o = .returned (some (.long v)) ∧ x_Hd s0 D h t.heap) (free := fun q => s0.heap.size ≤ q) C.1 C.2.1 hr (fun t ht hW => ⟨rfl, by rw [ht]; exact hH.1⟩) hH.2.1 hd) (fun t ht => x_retQ ht hH.2.2.1 hH.2.2.2)
theorem x_vret {res : (Unit ⊕ (Nat × Nat)) × xH} (C : x_C l s0 A0 D own cc nL hl p s m args meth c) (hH : x_S s0 D R h H locs cells slots) (hr : meth.sig.returnType = none) (hd : decode cc pc = .ok (.return_, 1)) (hp : xr () h = some res) :
    W p l e R s m args below meth c H locs cells slots (x_Q s0 D below s R (x_oc vU res.1) res.2) (F0 m pc ls []) := by
  have hlocks : meth.locks = false := C.2.2.2.2.2.2.2.2.2.1
  cases hp
  exact W.mono (W.vret (Qc := fun _ _ o t => o = .returned none ∧ x_Hd s0 D h t.heap) (free := fun q => s0.heap.size ≤ q) C.1 C.2.1 hr (fun t ht hW => ⟨rfl, by rw [ht]; exact hH.1⟩) hH.2.1 hd) (fun t ht => x_retQ ht hH.2.2.1 hH.2.2.2)
theorem x_aret {res : (Nat ⊕ (Nat × Nat)) × xH} (C : x_C l s0 A0 D own cc nL hl p s m args meth c) (hH : x_S s0 D R h H locs cells slots) {rt : FieldType} (hr : meth.sig.returnType = some rt) (hrt : ∃ n, rt = .object n) {v : Nat} (hd : decode cc pc = .ok (.areturn, 1)) (hp : xr v h = some res) :
    W p l e R s m args below meth c H locs cells slots (x_Q s0 D below s R (x_oc vA res.1) res.2) (F0 m pc ls [.ref v]) := by
  have hlocks : meth.locks = false := C.2.2.2.2.2.2.2.2.2.1
  cases hp
  exact W.mono (W.aret (Qc := fun _ _ o t => o = .returned (some (.ref v)) ∧ x_Hd s0 D h t.heap) (free := fun q => s0.heap.size ≤ q) C.1 C.2.1 hr (Or.inl hrt) (Or.inr ⟨v, rfl⟩) (fun t ht hW => ⟨rfl, by rw [ht]; exact hH.1⟩) hH.2.1 hd) (fun t ht => x_retQ ht hH.2.2.1 hH.2.2.2)
theorem x_qret {res : (Option Nat ⊕ (Nat × Nat)) × xH} (C : x_C l s0 A0 D own cc nL hl p s m args meth c) (hH : x_S s0 D R h H locs cells slots) {rt : FieldType} (hr : meth.sig.returnType = some rt) (hrt : ∃ n, rt = .object n) {v : Option Nat} (hd : decode cc pc = .ok (.areturn, 1)) (hp : xr v h = some res) :
    W p l e R s m args below meth c H locs cells slots (x_Q s0 D below s R (x_oc vQ res.1) res.2) (F0 m pc ls [va_rf v]) := by
  have hlocks : meth.locks = false := C.2.2.2.2.2.2.2.2.2.1
  cases hp
  exact W.mono (W.aret (Qc := fun _ _ o t => o = .returned (some (va_rf v)) ∧ x_Hd s0 D h t.heap) (free := fun q => s0.heap.size ≤ q) C.1 C.2.1 hr (Or.inl hrt) (va_rf_or v) (fun t ht hW => ⟨rfl, by rw [ht]; exact hH.1⟩) hH.2.1 hd) (fun t ht => x_retQ ht hH.2.2.1 hH.2.2.2)
/-- null references in local variables -/
theorem x_aloadq {i : Nat} {r : Option Nat} (hx : p.tables.exec = Jvm.exec) (hb : c.code = cc) (hd : decode cc pc = .ok (.aload i, 2)) (hl : ls[i]? = some (.val (va_rf r))) (k : W p l e R s m args below meth c H locs cells slots Q (F0 m (pc + 2) ls (va_rf r :: rest))) : W p l e R s m args below meth c H locs cells slots Q (F0 m pc ls rest) := by
  cases r with
  | none => exact lv_aloadN hx hb hd hl k
  | some a => exact lv_aload hx hb hd hl k
theorem x_aload_nq {k : Fin 4} {i : Nat} {r : Option Nat} (hx : p.tables.exec = Jvm.exec) (hb : c.code = cc) (hd : decode cc pc = .ok (.aload_n k, 1)) (hi : (k : Nat) = i) (hl : ls[i]? = some (.val (va_rf r))) (k : W p l e R s m args below meth c H locs cells slots Q (F0 m (pc + 1) ls (va_rf r :: rest))) : W p l e R s m args below meth c H locs cells slots Q (F0 m pc ls rest) := by
  cases r with
  | none => exact lv_aload_nN hx hb hd hi hl k
  | some a => exact lv_aload_n hx hb hd hi hl k
theorem x_astoreq {i nL : Nat} {r : Option Nat} {lv lv' : List (Nat × Value)} (hx : p.tables.exec = Jvm.exec) (hb : c.code = cc) (hd : decode cc pc = .ok (.astore i, 2)) (h : lv_has ls nL lv) (hn : i < nL) (hl : (i, va_rf r) :: lv.filter (fun q => !(q.1 == i) && !(q.1 + 1 == i && q.2.category == 2)) = lv') (kk : ∀ ls' : Array Slot, lv_has ls' nL lv' → W p l e R s m args below meth c H locs cells slots Q (F0 m (pc + 2) ls' rest)) : W p l e R s m args below meth c H locs cells slots Q (F0 m pc ls (va_rf r :: rest)) := by
  cases r with
  | none => exact lv_astoreN hx hb hd h hn hl kk
  | some a => exact lv_astore hx hb hd h hn hl kk
theorem x_astore_nq {k : Fin 4} {i nL : Nat} {r : Option Nat} {lv lv' : List (Nat × Value)} (hx : p.tables.exec = Jvm.exec) (hb : c.code = cc) (hd : decode cc pc = .ok (.astore_n k, 1)) (hi : (k : Nat) = i) (h : lv_has ls nL lv) (hn : i < nL) (hl : (i, va_rf r) :: lv.filter (fun q => !(q.1 == i) && !(q.1 + 1 == i && q.2.category == 2)) = lv') (kk : ∀ ls' : Array Slot, lv_has ls' nL lv' → W p l e R s m args below meth c H locs cells slots Q (F0 m (pc + 1) ls' rest)) : W p l e R s m args below meth c H locs cells slots Q (F0 m pc ls (va_rf r :: rest)) := by
  cases r with
  | none => exact lv_astore_nN hx hb hd hi h hn hl kk
  | some a => exact lv_astore_n hx hb hd hi h hn hl kk
/-- is it null? -/
theorem x_ifnullq {r : Option Nat} {off : Int} {tgt : Nat} {A : xM β} {B : Nat → xM β} (hx : p.tables.exec = Jvm.exec) (hb : c.code = cc) (hd : decode cc pc = .ok (.ifnull off, 3)) (ht : (pc : Int) + off = (tgt : Int)) (hp : xq r A B h = some res)
    (kn : r = none → A h = some res → W p l e R s m args below meth c H locs cells slots Q (F0 m tgt ls rest)) (ks : ∀ a, r = some a → B a h = some res → W p l e R s m args below meth c H locs cells slots Q (F0 m (pc + 3) ls rest)) : W p l e R s m args below meth c H locs cells slots Q (F0 m pc ls (va_rf r :: rest)) := by
  cases r with
  | none => exact lv_ifnullN hx hb hd ht (kn rfl hp)
  | some a => exact lv_ifnull hx hb hd (ks a rfl hp)
end XCALL2
