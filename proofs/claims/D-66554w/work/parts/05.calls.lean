section XNEW
variable {p : Program} {l : Launch} {e : Env} {R : Room} {s : State} {m : MethodId} {args : Array Value} {below : List Frame} {meth : Method} {c : Code} {H : Heap} {locs : List Loc} {cells slots : Nat} {Q : State → Prop}
variable {cc : ByteArray} {pc nL : Nat} {ls : Array Slot} {rest : List Value} {D : xD} {s0 : State} {A0 : Array Value} {own : String} {hl : List (Nat × Nat × Nat × Nat)} {h : xH}
variable {β : Type} {res : (β ⊕ (Nat × Nat)) × xH}
/-- a class whose objects are made: its link in the class that makes one -/
def x_nw (own : String) (index ci n : Nat) (fs : List Value) : Prop := ∃ (C : String) (T : u_T) (N : Nat) (ty : Nat → FieldType), classes[ci]? = some (C, T, N) ∧ (∀ w ∈ u_ws C T N, w ∈ x_W) ∧ (∀ k, k < N → parseFieldDescriptor (T k).2.2.1 = some (ty k)) ∧ (∀ j, j < N → defaultValue (ty j) = vp_V fs j) ∧ Cond.classLink own index C ∈ x_W ∧ Cond.instantiable C n ∈ x_W ∧ Cond.initialized C ∈ x_W
theorem x_nO (C : x_C l s0 A0 D own cc nL hl p s m args meth c) (hH : x_S s0 D R h H locs cells slots) {ci n index : Nat} {fs : List Value} (hq : x_nw own index ci n fs) (hd : decode cc pc = .ok (.new index, 3)) {kk : Nat → xM β} (hp : nE n (.inr (ci, fs)) kk h = some res)
    (kont : ∀ (a : Nat) (h1 : xH) (H1 : Heap) (cells1 slots1 : Nat), kk a h1 = some res → x_S s0 D R h1 H1 locs cells1 slots1 → W p l e R s m args below meth c H1 locs cells1 slots1 Q (F0 m (pc + 3) ls (.ref a :: rest))) : W p l e R s m args below meth c H locs cells slots Q (F0 m pc ls rest) := by
  obtain ⟨h1, h2, e1⟩ := nE_i hp
  obtain ⟨hx, hb, hown, hts, hK, -⟩ := C
  obtain ⟨Cn, T, N, ty, hc, hin, hty, hfs, w1, w2, w3⟩ := hq
  have hKn := hK.1 ci _ hc
  obtain ⟨g1, g2, g3, g4⟩ := hH
  refine W.newcK hx hb hown (hts _ w1) (hts _ w2) (hts _ w3) rfl hd (by omega) (by omega) hKn.2.1 rfl fun H1 kC hkC e2 z1 o1 => ?_
  rw [g1.1] at e2
  have := kont _ _ H1 (cells + 1) (slots + n) e1 ⟨g1.push z1 o1 ⟨_, hc, (u_born ty hts hin hKn hkC e2 hty).to hfs⟩, g2, by show cells + 1 + (_ - 1) = _; omega, by show slots + n + (_ - n) = _; omega⟩
  rw [g1.1]
  exact this
theorem x_nAp (C : x_C l s0 A0 D own cc nL hl p s m args meth c) (hH : x_S s0 D R h H locs cells slots) {atype : ArrayType} {ty : FieldType} {t : Nat} (ht : (x_tys D)[t]? = some (D.2 t, ty)) (hty : newarray.typeOf atype = ty) (htn : t ≠ 9) (hprim : componentBytes ty ≤ 8) (hra : va_RA s (D.2 t) ty = (s.vm.findClass ("[" ++ ty.toString) = some (D.2 t))) (hw : Cond.arrayClass ty ∈ x_W) {n : Int32} {a0 : vp_A} (ha : ∀ cA : ClassId, vp_cell cA a0 = arrV cA n.toNatClampNeg (fun _ => defaultValue ty)) (hn : ¬ n < 0) (hN : n.toNatClampNeg ≤ 100000) (hd : decode cc pc = .ok (.newarray atype, 2)) {kk : Nat → xM β} (hp : nE n.toNatClampNeg (.inl (t, a0)) kk h = some res)
    (kont : ∀ (a : Nat) (h1 : xH) (H1 : Heap) (cells1 slots1 : Nat), kk a h1 = some res → x_S s0 D R h1 H1 locs cells1 slots1 → W p l e R s m args below meth c H1 locs cells1 slots1 Q (F0 m (pc + 2) ls (.ref a :: rest))) : W p l e R s m args below meth c H locs cells slots Q (F0 m pc ls (.int n :: rest)) := by
  obtain ⟨h1, h2, e1⟩ := nE_i hp
  obtain ⟨hx, hb, hown, hts, hK, -⟩ := C
  obtain ⟨g1, g2, g3, g4⟩ := hH
  subst hty
  refine va_newaK hx hb (hts _ hw) rfl hd rfl hn rfl ?_ (by omega) (by omega) rfl fun H1 cA e2 z1 o1 hAr hNm => ?_
  · exact Nat.le_trans (Nat.mul_le_mul hN hprim) (by decide)
  have hra' := (hK.2 t _ ht).2
  rw [hra] at hra'
  have hcA : cA = D.2 t := Option.some.inj (hNm.symm.trans hra')
  subst hcA
  rw [g1.1] at e2
  have := kont _ _ H1 (cells + 1) (slots + n.toNatClampNeg) e1 ⟨g1.push z1 o1 (by simp only [x_at]; rw [if_neg htn, ha]; exact e2), g2, by show cells + 1 + (_ - 1) = _; omega, by show slots + n.toNatClampNeg + (_ - _) = _; omega⟩
  rw [g1.1]
  exact this
theorem x_nAI (C : x_C l s0 A0 D own cc nL hl p s m args meth c) (hH : x_S s0 D R h H locs cells slots) (hw : Cond.arrayClass .int ∈ x_W) {n : Int32} (hd : decode cc pc = .ok (.newarray .int, 2)) {kk : Nat → xM β} (hp : nAI n kk h = some res)
    (kont : ∀ (a : Nat) (h1 : xH) (H1 : Heap) (cells1 slots1 : Nat), kk a h1 = some res → x_S s0 D R h1 H1 locs cells1 slots1 → W p l e R s m args below meth c H1 locs cells1 slots1 Q (F0 m (pc + 2) ls (.ref a :: rest))) : W p l e R s m args below meth c H locs cells slots Q (F0 m pc ls (.int n :: rest)) := by
  obtain ⟨h1, h2, e1⟩ := nAI_i hp
  exact x_nAp C hH (t := 0) rfl rfl (by decide) (by decide) rfl hw (fun _ => rfl) h1 h2 hd e1 kont
theorem x_nAZ (C : x_C l s0 A0 D own cc nL hl p s m args meth c) (hH : x_S s0 D R h H locs cells slots) (hw : Cond.arrayClass .boolean ∈ x_W) {n : Int32} (hd : decode cc pc = .ok (.newarray .boolean, 2)) {kk : Nat → xM β} (hp : nAZ n kk h = some res)
    (kont : ∀ (a : Nat) (h1 : xH) (H1 : Heap) (cells1 slots1 : Nat), kk a h1 = some res → x_S s0 D R h1 H1 locs cells1 slots1 → W p l e R s m args below meth c H1 locs cells1 slots1 Q (F0 m (pc + 2) ls (.ref a :: rest))) : W p l e R s m args below meth c H locs cells slots Q (F0 m pc ls (.int n :: rest)) := by
  obtain ⟨h1, h2, e1⟩ := nAZ_i hp
  exact x_nAp C hH (t := 2) rfl rfl (by decide) (by decide) rfl hw (fun _ => rfl) h1 h2 hd e1 kont
theorem x_nAJ (C : x_C l s0 A0 D own cc nL hl p s m args meth c) (hH : x_S s0 D R h H locs cells slots) (hw : Cond.arrayClass .long ∈ x_W) {n : Int32} (hd : decode cc pc = .ok (.newarray .long, 2)) {kk : Nat → xM β} (hp : nAJ n kk h = some res)
    (kont : ∀ (a : Nat) (h1 : xH) (H1 : Heap) (cells1 slots1 : Nat), kk a h1 = some res → x_S s0 D R h1 H1 locs cells1 slots1 → W p l e R s m args below meth c H1 locs cells1 slots1 Q (F0 m (pc + 2) ls (.ref a :: rest))) : W p l e R s m args below meth c H locs cells slots Q (F0 m pc ls (.int n :: rest)) := by
  obtain ⟨h1, h2, e1⟩ := nAJ_i hp
  exact x_nAp C hH (t := 1) rfl rfl (by decide) (by decide) rfl hw (fun _ => rfl) h1 h2 hd e1 kont
def x_na (own : String) (index t : Nat) : Prop := ∃ r, classes[x_tc t]? = some r ∧ 3 ≤ t ∧ t ≤ 8 ∧ Cond.classLink own index r.1 ∈ x_W ∧ Cond.arrayOver (.object r.1) ∈ x_W
theorem x_nAA (C : x_C l s0 A0 D own cc nL hl p s m args meth c) (hH : x_S s0 D R h H locs cells slots) {index t : Nat} (hq : x_na own index t) {n : Int32} (hd : decode cc pc = .ok (.anewarray index, 3)) {kk : Nat → xM β} (hp : nAA t n kk h = some res)
    (kont : ∀ (a : Nat) (h1 : xH) (H1 : Heap) (cells1 slots1 : Nat), kk a h1 = some res → x_S s0 D R h1 H1 locs cells1 slots1 → W p l e R s m args below meth c H1 locs cells1 slots1 Q (F0 m (pc + 3) ls (.ref a :: rest))) : W p l e R s m args below meth c H locs cells slots Q (F0 m pc ls (.int n :: rest)) := by
  obtain ⟨hn, hN, hp⟩ := nAA_i hp
  obtain ⟨h1, h2, e1⟩ := nE_i hp
  obtain ⟨hx, hb, hown, hts, hK, -⟩ := C
  obtain ⟨g1, g2, g3, g4⟩ := hH
  obtain ⟨r, hr, t1, t2, w1, w2⟩ := hq
  obtain ⟨r', hr', hrt⟩ := x_tyA (D := D) ⟨t1, t2⟩
  cases hr.symm.trans hr'
  refine W.anew hx hb hown (hts _ w1) (hts _ w2) rfl hd rfl hn (by omega) (by omega) (by omega) fun cA kA comp f1 f2 f3 f4 => ?_
  obtain ⟨kA', comp', -, -, -, k4⟩ := (hK.2 t _ hrt).2
  have hcA : cA = D.2 t := Option.some.inj (f1.symm.trans k4)
  subst hcA
  generalize hH1 : H.push ({ cls := D.2 t, slots := Array.replicate n.toNatClampNeg .null, vm := .none } : Cell) = H1
  have z1 : H1.size = H.size + 1 := by rw [← hH1, Array.size_push]
  have e2 : H1[H.size]? = some (arrV (D.2 t) n.toNatClampNeg (fun _ => .null)) := by rw [← hH1, Array.getElem?_push_size, ← arrV_new]
  have o1 : ∀ q : Nat, q < H.size → H1[q]? = H[q]? := fun q hq => by rw [← hH1, Array.getElem?_push, if_neg (Nat.ne_of_lt hq)]
  rw [g1.1] at e2
  have := kont _ _ H1 (cells + 1) (slots + n.toNatClampNeg) e1 ⟨g1.push z1 o1 (by simp only [x_at]; rw [if_neg (by omega), vp_cell_q]; exact e2), g2, by show cells + 1 + (_ - 1) = _; omega, by show slots + n.toNatClampNeg + (_ - _) = _; omega⟩
  rw [g1.1]
  exact this
theorem x_clamp {z : Int32} (hz : ¬ z < 0) : z.toInt = (z.toNatClampNeg : Int) := by
  have hz0 : (0 : Int) ≤ z.toInt := by
    have := Int32.not_lt.mp hz
    simpa using Int32.le_iff_toInt_le.mp this
  show z.toInt = ((z.toInt.toNat : Nat) : Int)
  omega
def x_ac (own : String) (index : Nat) : Prop := Cond.methodLink own index arraycopyName ∈ x_W ∧ Cond.native arraycopyName ∈ x_W ∧ Cond.static arraycopyName ∈ x_W ∧ Cond.initialized "java/lang/System" ∈ x_W
theorem x_copyp (C : x_C l s0 A0 D own cc nL hl p s m args meth c) (hH : x_S s0 D R h H locs cells slots) {index : Nat} (hq : x_ac own index) (hls : ls.size = nL) {ty : FieldType} {t a0 a n0 n1 : Nat} {y0 y1 y2} (ht : (x_tys D)[t]? = some (D.2 t, ty)) (htn : t ≠ 9) (hprim : refKind ty = false)
    {sp dp n : Int32} (e0 : h.2 a0 = some (.inl (t, n0, y0))) (e1 : h.2 a = some (.inl (t, n1, y1))) (h1 : ¬ sp < 0) (h2 : ¬ dp < 0) (h3 : ¬ n < 0) (h4 : sp.toNatClampNeg + n.toNatClampNeg ≤ n0) (h5 : dp.toNatClampNeg + n.toNatClampNeg ≤ n1)
    {F G : Nat → Value} (hF : ∀ cA, vp_cell cA (n0, y0) = arrV cA n0 F) (hG : ∀ cA, vp_cell cA (n1, y1) = arrV cA n1 G) (hfit : ∀ i, fits ty (F i) = true) (htk : ∀ i (U : State) (k : ClassId), U.takes k (F i)) (hc2 : (arrV (D.2 t) n1 G).storeRun dp.toNatClampNeg ((arrV (D.2 t) n0 F).stretch sp.toNatClampNeg n.toNatClampNeg) = vp_cell (D.2 t) (n1, y2))
    (hframes : 1 ≤ R.frames) (hlocals : (rest.map fun v => v.category).sum + (nativeFrameWords "java/lang/System" "arraycopy" 5 + 11) ≤ R.locals) (hd : decode cc pc = .ok (.invokestatic index, 3)) {kk : xM β} (hp : kk (h.1, va_up h.2 a (some (.inl (t, n1, y2)))) = some res)
    (kont : ∀ (h1 : xH) (H1 : Heap) (locs1 : List Loc), kk h1 = some res → x_S s0 D R h1 H1 locs1 cells slots → W p l e R s m args below meth c H1 locs1 cells slots Q (F0 m (pc + 3) ls rest)) : W p l e R s m args below meth c H locs cells slots Q (F0 m pc ls (.int n :: .int dp :: .ref a :: .int sp :: .ref a0 :: rest)) := by
  obtain ⟨hx, hb, hown, hts, hK, hml, -⟩ := C
  obtain ⟨w1, w2, w3, w4⟩ := hq
  obtain ⟨hc0, -⟩ := x_arr hH e0 htn
  obtain ⟨hc1, ha⟩ := x_arr hH e1 htn
  rw [hF] at hc0
  rw [hG] at hc1
  intro T hT X
  obtain ⟨-, k0, hk0, cm0, hkk0⟩ := (hK.2 t _ ht).1 n0 F
  obtain ⟨vm', X', step⟩ := X.arraycopy hx hown (hts _ w1) (hts _ w2) (hts _ w3) (hts _ w4) (src := a0) (dst := a) (cs := arrV (D.2 t) n0 F) (cd := arrV (D.2 t) n1 G) (srcPos := sp) (destPos := dp) (n := n) (by rw [hT]; exact hc0) (by rw [hT]; exact hc1)
    (fun _ h => by cases h) (fun _ h => by cases h) (fun h => by cases h) (fun h => by cases h) hk0 hk0 hkk0 hkk0 (by simp [hprim]) h1 h2 h3
    (by rw [x_clamp h1, x_clamp h3, arrV_size]; omega) (by rw [x_clamp h2, x_clamp h3, arrV_size]; omega)
    (fun vm₁ _ i hi => by
      have e : (arrV (D.2 t) n0 F).slots.getD (sp.toNatClampNeg + i) .null = F (sp.toNatClampNeg + i) := by
        rw [Array.getD_eq_getD_getElem?, arrV_read _ _ (by omega)]
        rfl
      rw [e]
      exact ⟨hfit _, htk _ _ _⟩)
    (g := F0 m pc ls (.int n :: .int dp :: .ref a :: .int sp :: .ref a0 :: rest)) rfl (by rw [hml]; exact hls) (rest := rest) rfl (by rw [hb]; exact hd) hframes (by show 2 * 0 + _ + _ ≤ _; omega)
  have e2 : copied (arrV (D.2 t) n0 F) (arrV (D.2 t) n1 G) sp dp n = vp_cell (D.2 t) (n1, y2) := hc2
  rw [e2] at X' step
  have hl : a < H.size := (Array.getElem?_eq_some_iff.mp hc1).1
  have hheap : ((T.setVm vm').setCell a (vp_cell (D.2 t) (n1, y2))).heap = H.setIfInBounds a (vp_cell (D.2 t) (n1, y2)) := by rw [← hT]; rfl
  have oq : ∀ q : Nat, q ≠ a → (H.setIfInBounds a (vp_cell (D.2 t) (n1, y2)))[q]? = H[q]? := fun q hq => by simp [Array.getElem?_setIfInBounds, Ne.symm hq]
  obtain ⟨t2, a1, b1⟩ := kont _ _ _ hp ⟨hH.1.put ha (by simp) oq (by simp only [x_at]; rw [if_neg htn]; simp [Array.getElem?_setIfInBounds, hl]), fun q hq => by
      rcases List.mem_append.mp hq with h | h
      · exact hH.2.1 q h
      · obtain ⟨z, -, hz⟩ := List.mem_map.mp h
        rw [← hz]
        exact ha, hH.2.2⟩ _ hheap X'
  exact ⟨t2, step t2 a1, b1⟩
theorem x_cI (C : x_C l s0 A0 D own cc nL hl p s m args meth c) (hH : x_S s0 D R h H locs cells slots) {index : Nat} (hq : x_ac own index) (hls : ls.size = nL) {a0 a : Nat} {sp dp n : Int32} (hframes : 1 ≤ R.frames) (hlocals : (rest.map fun v => v.category).sum + (nativeFrameWords "java/lang/System" "arraycopy" 5 + 11) ≤ R.locals) (hd : decode cc pc = .ok (.invokestatic index, 3)) {kk : xM β} (hp : cI a0 sp a dp n kk h = some res)
    (kont : ∀ (h1 : xH) (H1 : Heap) (locs1 : List Loc), kk h1 = some res → x_S s0 D R h1 H1 locs1 cells slots → W p l e R s m args below meth c H1 locs1 cells slots Q (F0 m (pc + 3) ls rest)) : W p l e R s m args below meth c H locs cells slots Q (F0 m pc ls (.int n :: .int dp :: .ref a :: .int sp :: .ref a0 :: rest)) := by
  obtain ⟨n0, n1, f, g, e0, e1, h1, h2, h3, h4, h5, e2⟩ := cI_i hp
  exact x_copyp C hH hq hls (t := 0) rfl (by decide) rfl e0 e1 h1 h2 h3 h4 h5 (F := fun j => .int (f j)) (G := fun j => .int (g j)) (fun _ => rfl) (fun _ => rfl) (fun _ => rfl) (fun _ _ _ => trivial) (va_copied (fun z => .int z) _ _ f g h4) hframes hlocals hd e2 kont
theorem x_cJ (C : x_C l s0 A0 D own cc nL hl p s m args meth c) (hH : x_S s0 D R h H locs cells slots) {index : Nat} (hq : x_ac own index) (hls : ls.size = nL) {a0 a : Nat} {sp dp n : Int32} (hframes : 1 ≤ R.frames) (hlocals : (rest.map fun v => v.category).sum + (nativeFrameWords "java/lang/System" "arraycopy" 5 + 11) ≤ R.locals) (hd : decode cc pc = .ok (.invokestatic index, 3)) {kk : xM β} (hp : cJ a0 sp a dp n kk h = some res)
    (kont : ∀ (h1 : xH) (H1 : Heap) (locs1 : List Loc), kk h1 = some res → x_S s0 D R h1 H1 locs1 cells slots → W p l e R s m args below meth c H1 locs1 cells slots Q (F0 m (pc + 3) ls rest)) : W p l e R s m args below meth c H locs cells slots Q (F0 m pc ls (.int n :: .int dp :: .ref a :: .int sp :: .ref a0 :: rest)) := by
  obtain ⟨n0, n1, f, g, e0, e1, h1, h2, h3, h4, h5, e2⟩ := cJ_i hp
  exact x_copyp C hH hq hls (t := 1) rfl (by decide) rfl e0 e1 h1 h2 h3 h4 h5 (F := fun j => .long (f j)) (G := fun j => .long (g j)) (fun _ => rfl) (fun _ => rfl) (fun _ => rfl) (fun _ _ _ => trivial) (va_copied (fun z => .long z) _ _ f g h4) hframes hlocals hd e2 kont
end XNEW
