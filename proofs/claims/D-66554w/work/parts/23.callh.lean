/-! a static call of a method that has handlers -/
theorem x_cw_named {y : MethodName} {bytes : ByteArray} {maxL : Nat} {ret : Option FieldType} {hl : List (Nat × Nat × Nat × Nat)} {args : Array Value} {s : State} (h : (x_cw y bytes maxL ret hl).before args s = true) : ∃ mk, s.methodNamed? y = some mk := by
  cases hl with
  | nil => exact Cond.code_named (show (Cond.code y bytes maxL ret).before args s = true from h)
  | cons a t =>
    obtain ⟨m', meth, c, hn', -⟩ := Cond.codeWith_spec h
    exact ⟨m', hn'⟩
section XCALLH
variable {p : Program} {l : Launch} {e : Env} {R : Room} {s : State} {m : MethodId} {args : Array Value} {below : List Frame} {meth : Method} {c : Code} {H : Heap} {locs : List Loc} {cells slots : Nat} {Q : State → Prop}
variable {cc : ByteArray} {pc nL : Nat} {ls : Array Slot} {rest : List Value} {D : xD} {s0 : State} {A0 : Array Value} {own : String} {hl : List (Nat × Nat × Nat × Nat)} {h : xH}
variable {α β : Type} {res : (β ⊕ (Nat × Nat)) × xH} {cv : α → Option Value} {cvB : β → Option Value} {y : MethodName} {bytes : ByteArray} {maxL index n fr lo : Nat} {ret : Option FieldType} {F : xM α} {kk : α → xM β} {As : List Value}
theorem x_callSh {hlY : List (Nat × Nat × Nat × Nat)} (C : x_C l s0 A0 D own cc nL [] p s m args meth c) (hH : x_S s0 D R h H locs cells slots) (hq : x_kS own index y bytes maxL ret hlY n) (hd : decode cc pc = .ok (.invokestatic index, 3)) (hp : xb F kk h = some res) (hm : ∀ o h', F h = some (o, h') → x_M l s0 D y (x_cw y bytes maxL ret hlY) fr lo As h (x_oc cv o) h')
    (hn : As.length = n) (hls : ls.size = nL) (hfr : fr + 1 ≤ R.frames) (hlo : 16 + (maxL + 11) + lo ≤ R.locals) (hrw : (rest.map fun v => v.category).sum ≤ 16)
    (kont : ∀ (v : α) (h1 : xH) (H1 : Heap) (locs1 : List Loc) (cells1 slots1 : Nat), kk v h1 = some res → x_S s0 D R h1 H1 locs1 cells1 slots1 → W p l e R s m args below meth c H1 locs1 cells1 slots1 (x_Q s0 D below s R (x_oc cvB res.1) res.2) (F0 m (pc + 3) ls ((cv v).toList ++ rest))) :
    W p l e R s m args below meth c H locs cells slots (x_Q s0 D below s R (x_oc cvB res.1) res.2) (F0 m pc ls (As.reverse ++ rest)) := by
  obtain ⟨w1, w2, w3, w4, np⟩ := hq
  obtain ⟨hx, hb, hown, hts, hK, hml, hW, Z, -⟩ := id C
  intro T hT X
  have hcode := hts _ w3
  obtain ⟨mk, hnamed⟩ := x_cw_named hcode
  obtain ⟨methM, cM, hmethM, -, -, -, -, -, -, hsigM⟩ := x_cw_spec hnamed hcode
  have hstatic : methM.isStatic = true := Cond.static_spec hnamed hmethM (hts _ w2)
  obtain ⟨kP, hkP, -⟩ := className_of_methodNamed hnamed
  have hinitP : kP.init = .initialized := Cond.initialized_spec (findClass_of_methodNamed hnamed) hkP (hts _ w4)
  obtain ⟨vm₁, X₁, hstep₁⟩ := X.invokestatic hx hown (hts _ w1) hnamed hmethM hstatic hkP hinitP ⟨np.1, np.2.1⟩ (g := F0 m pc ls (As.reverse ++ rest)) rfl (argsL := As) (rest := rest) (np.len hn _ hsigM) rfl (by rw [hb]; exact hd)
  obtain ⟨t, a1, b1⟩ := x_back (cv := cv) (F := F) (kk := kk) (cvB := cvB) (R := R) (Ts := (doInvoke e ((T.setVm vm₁).setTop (F0 m pc ls rest)) [] mk As.toArray).1) (T := T) C rfl rfl hp (g := F0 m pc ls rest) (len := 3) (fun o h' hF =>
    x_enter X₁ (by show x_S s0 D R h T.heap _ _ _; rw [hT]; exact hH) hW (hm o h' hF) (g := F0 m pc ls rest) rfl (by rw [hml]; exact hls) (ig := .invokestatic index) (len := 3) (by rw [hb]; exact hd) (by show 2 * 0 + (rest.map fun v => v.category).sum ≤ 16; omega) (X₁.named hnamed) (x_words Z (State.WarmedH.trans hW X₁.warmed) _ w3) (x_words Z (State.WarmedH.trans hW X₁.warmed) _ w4) hfr hlo) kont
  exact ⟨t, hstep₁ _ fun acts => by rw [doInvoke_state]; exact a1, b1⟩
end XCALLH
