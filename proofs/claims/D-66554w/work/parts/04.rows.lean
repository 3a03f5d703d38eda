/-! words of the tables at every state whose tables are warmer -/
def x_wk (c : Cond) : Bool := (c.onTables && c.keepsH) || (c.onTables && c.faceAtom) || c.castAtom || (match c with
  | .arrayClass _ => true
  | .arrayOver (.object _) => true
  | _ => false)
theorem x_warm {s U : State} (hW : s.WarmedH U.vm) {c : Cond} (hk : x_wk c = true) {A A' : Array Value} (h : c.before A s = true) : c.before A' U = true := by
  simp only [x_wk, Bool.or_eq_true, Bool.and_eq_true] at hk
  rcases hk with ((⟨h1, h2⟩ | ⟨h1, h2⟩) | h1) | h1
  · have := Cond.onTables_warmH (T := U) (args' := A') hW h1 h2 h
    rwa [State.setVm_self] at this
  · exact va_tabs h1 (rfl : (s.setVm U.vm).vm = U.vm) (Cond.faceAtom_setVm hW.alike c h2 h)
  · have h2 := Cond.castAtom_setVm hW.alike c h1 h
    match c, h1 with
    | .not (.castable a b), _ => exact h2
  · match c, h1 with
    | .arrayClass t, _ => exact word_at hW (Or.inr ⟨_, rfl⟩) h
    | .arrayOver (.object C), _ => exact va_AO.use (va_AO.moved hW.alike (va_AO.of h))
def x_W : List Cond := lw_tbl.filter x_wk
/-- words that stand in the premises beside the tables -/
def x_nar : List Cond := [.isRef (.static "java/lang/Throwable" "UNASSIGNED_STACK" "[Ljava/lang/StackTraceElement;"), .isRef (.static "java/lang/Throwable" "SUPPRESSED_SENTINEL" "Ljava/util/List;"), .not (.castable R_EA R_EI), .not (.castable R_ES R_EI), .not (.castable R_ES R_EA)]
/-- what is known of the law's start -/
def x_Z (l : Launch) (s0 : State) (A0 : Array Value) (D : xD) : Prop := l.flags = flags0 ∧ (∀ w ∈ lw_tbl, w.before A0 s0 = true) ∧ (∀ w ∈ x_nar, w.before A0 s0 = true) ∧ va_K D.1 classes (x_tys D) s0
/-- what is known in a method: code, class, words, classes, number of locals, handlers -/
def x_C (l : Launch) (s0 : State) (A0 : Array Value) (D : xD) (own : String) (cc : ByteArray) (nL : Nat) (hl : List (Nat × Nat × Nat × Nat)) (p : Program) (s : State) (m : MethodId) (args : Array Value) (meth : Method) (c : Code) : Prop :=
  p.tables.exec = Jvm.exec ∧ c.code = cc ∧ s.vm.findClass own = some m.cls ∧ (∀ w ∈ x_W, w.before args s = true) ∧ va_K D.1 classes (x_tys D) s ∧ c.maxLocals = nL ∧ s0.WarmedH s.vm ∧ x_Z l s0 A0 D ∧ (∀ q : Nat, q < s0.heap.size → s.heap[q]? = s0.heap[q]?) ∧ meth.locks = false ∧ c.exceptionTable.toList.map (fun h => (h.startPc, h.endPc, h.handlerPc, h.catchType)) = hl
theorem x_words {l : Launch} {s0 : State} {A0 : Array Value} {D : xD} (Z : x_Z l s0 A0 D) {U : State} (hW : s0.WarmedH U.vm) {A : Array Value} : ∀ w ∈ x_W, w.before A U = true := by
  intro w hw
  obtain ⟨h1, h2⟩ := List.mem_filter.mp hw
  exact x_warm hW h2 (Z.2.1 w h1)
/-- a field of a class: its link, in the class that reads or writes it -/
def x_fl (own : String) (index ci k : Nat) : Prop := ∃ (C : String) (T : u_T) (N : Nat), classes[ci]? = some (C, T, N) ∧ k < N ∧ (∀ w ∈ u_ws C T N, w ∈ x_W) ∧ (T k).1 = C ∧ (Cond.fieldLink own index C (T k).2.1 (T k).2.2.1 ∈ x_W ∨ ∃ host, Cond.fieldLinkNest own index C (T k).2.1 (T k).2.2.1 host ∈ x_W)
/-- the same of a field that is written: its type; final ones in the constructor alone -/
def x_fp (own : String) (index ci k : Nat) (ty : FieldType) (fin : Bool) : Prop := ∃ (C : String) (T : u_T) (N : Nat) (ty0 : Nat → FieldType), classes[ci]? = some (C, T, N) ∧ k < N ∧ (∀ w ∈ u_ws C T N, w ∈ x_W) ∧ (T k).1 = C ∧ (∀ k, k < N → parseFieldDescriptor (T k).2.2.1 = some (ty0 k)) ∧ (∀ a, a < N → ∀ b, b < N → a ≠ b → (T a).2.1 ≠ (T b).2.1) ∧ ty0 k = ty ∧ (T k).2.2.2 = fin ∧
  ((fin = false ∧ (Cond.fieldLink own index C (T k).2.1 (T k).2.2.1 ∈ x_W ∨ ∃ host, Cond.fieldLinkNest own index C (T k).2.1 (T k).2.2.1 host ∈ x_W)) ∨ (fin = true ∧ C = own ∧ Cond.fieldLink own index C (T k).2.1 (T k).2.2.1 ∈ x_W))
section XROW
variable {p : Program} {l : Launch} {e : Env} {R : Room} {s : State} {m : MethodId} {args : Array Value} {below : List Frame} {meth : Method} {c : Code} {H : Heap} {locs : List Loc} {cells slots : Nat} {Q : State → Prop}
variable {cc : ByteArray} {pc nL : Nat} {ls : Array Slot} {rest : List Value} {D : xD} {s0 : State} {A0 : Array Value} {own : String} {hl : List (Nat × Nat × Nat × Nat)} {h : xH}
variable {β : Type} {res : (β ⊕ (Nat × Nat)) × xH}
theorem x_getV (C : x_C l s0 A0 D own cc nL hl p s m args meth c) (hH : x_S s0 D R h H locs cells slots) {ci k index a : Nat} (hq : x_fl own index ci k) (hd : decode cc pc = .ok (.getfield index, 3)) {fs : List Value} {v : Value} (he : h.2 a = some (.inr (ci, fs))) (hv : fs[k]? = some v)
    (kk : W p l e R s m args below meth c H locs cells slots Q (F0 m (pc + 3) ls (v :: rest))) : W p l e R s m args below meth c H locs cells slots Q (F0 m pc ls (.ref a :: rest)) := by
  obtain ⟨hx, hb, hown, hts, hK, -⟩ := C
  obtain ⟨Cn, T, N, hc, hk, hin, hT, hlk⟩ := hq
  have hP : va_P D.1 classes [(a, .inr (ci, fs))] H := by
    intro j q hj
    match j, hj with
    | 0, hj => cases hj; exact (hH.1.2.2.2 a _ he).1
    | j + 1, hj => simp at hj
  rcases hlk with hlk | ⟨host, hlk⟩
  · exact va_get hx hb hts hin hown hK hP 0 rfl hc k hk (hts _ hlk) (fun x hx => by rw [hT] at hx; exact hx) hv hd kk
  · exact va_getN hx hb hts hin hown hK hP 0 rfl hc k hk (hts _ hlk) (fun x hx => by rw [hT] at hx; exact hx) hv hd kk
theorem x_gI (C : x_C l s0 A0 D own cc nL hl p s m args meth c) (hH : x_S s0 D R h H locs cells slots) {ci k index a : Nat} (hq : x_fl own index ci k) (hd : decode cc pc = .ok (.getfield index, 3)) {kk : Int32 → xM β} (hp : gI a ci k kk h = some res)
    (kont : ∀ v : Int32, kk v h = some res → W p l e R s m args below meth c H locs cells slots Q (F0 m (pc + 3) ls (.int v :: rest))) : W p l e R s m args below meth c H locs cells slots Q (F0 m pc ls (.ref a :: rest)) := by
  obtain ⟨fs, v, e1, e2, e3⟩ := gI_i hp
  exact x_getV C hH hq hd e1 e2 (kont v e3)
theorem x_gJ (C : x_C l s0 A0 D own cc nL hl p s m args meth c) (hH : x_S s0 D R h H locs cells slots) {ci k index a : Nat} (hq : x_fl own index ci k) (hd : decode cc pc = .ok (.getfield index, 3)) {kk : Int64 → xM β} (hp : gJ a ci k kk h = some res)
    (kont : ∀ v : Int64, kk v h = some res → W p l e R s m args below meth c H locs cells slots Q (F0 m (pc + 3) ls (.long v :: rest))) : W p l e R s m args below meth c H locs cells slots Q (F0 m pc ls (.ref a :: rest)) := by
  obtain ⟨fs, v, e1, e2, e3⟩ := gJ_i hp
  exact x_getV C hH hq hd e1 e2 (kont v e3)
theorem x_gA (C : x_C l s0 A0 D own cc nL hl p s m args meth c) (hH : x_S s0 D R h H locs cells slots) {ci k index a : Nat} (hq : x_fl own index ci k) (hd : decode cc pc = .ok (.getfield index, 3)) {kk : Nat → xM β} (hp : gA a ci k kk h = some res)
    (kont : ∀ v : Nat, kk v h = some res → W p l e R s m args below meth c H locs cells slots Q (F0 m (pc + 3) ls (.ref v :: rest))) : W p l e R s m args below meth c H locs cells slots Q (F0 m pc ls (.ref a :: rest)) := by
  obtain ⟨fs, v, e1, e2, e3⟩ := gA_i hp
  exact x_getV C hH hq hd e1 e2 (kont v e3)
theorem x_pV (C : x_C l s0 A0 D own cc nL hl p s m args meth c) (hH : x_S s0 D R h H locs cells slots) {ci k index a : Nat} {ty : FieldType} {fin : Bool} {v : Value} (hq : x_fp own index ci k ty fin) (hin2 : fin = true → meth.name = "<init>") (hd : decode cc pc = .ok (.putfield index, 3)) (hn : narrow ty v = v) (hfit : fits ty v = true) {kk : xM β} (hp : pV a ci k v kk h = some res)
    (kont : ∀ (h1 : xH) (H1 : Heap) (locs1 : List Loc), kk h1 = some res → x_S s0 D R h1 H1 locs1 cells slots → W p l e R s m args below meth c H1 locs1 cells slots Q (F0 m (pc + 3) ls rest)) : W p l e R s m args below meth c H locs cells slots Q (F0 m pc ls (v :: .ref a :: rest)) := by
  obtain ⟨fs, he, hl, hkk⟩ := pV_i hp
  obtain ⟨hx, hb, hown, hts, hK, -⟩ := C
  obtain ⟨Cn, T, N, ty0, hc, hk, hin, hT, hty, hnm, hty1, hfin, hlk⟩ := hq
  obtain ⟨⟨r, h1, cell, q1, q2, q3, q4⟩, ha⟩ := hH.1.old he (fun q h => by cases h)
  have hr : r = (Cn, T, N) := Option.some.inj (h1.symm.trans hc)
  subst hr
  have hap := va_apart (own := own) hts hin ty0 hty hnm hK hc
  obtain ⟨hS, hfc, kC, hkC, hkind⟩ := hK.1 ci _ hc
  obtain ⟨cf, kf, fi, f, hi, hsl⟩ := hS k hk
  have hlay := hts _ (hin _ (u_in_lay hk))
  unfold u_lay at hlay
  have hst := (u_facts hfc hkC (u_lays hts hin hk) hi).1
  have hd1 : parseFieldDescriptor (T k).2.2.1 = some ty := by rw [hty k hk, hty1]
  have fin' : ∀ H' : Heap, H'[a]? = some (cell.setSlot f.slot v) → H'.size = H.size → (∀ q, q ≠ a → H'[q]? = H[q]?) → W p l e R s m args below meth c H' (locs ++ [⟨a, f.slot⟩]) cells slots Q (F0 m (pc + 3) ls rest) := by
    intro H' e1 e2 e3
    rw [hsl] at e1 ⊢
    refine kont _ H' _ hkk ⟨hH.1.put ha e2 e3 ?_, x_locs hH.2.1 ha, hH.2.2⟩
    exact ⟨_, hc, t_OB.to (V := updV (vp_V fs) k v) ⟨_, e1, q2, q3, t_set q4 hap hk v⟩ (fun j _ => vp_updV_set hl v j)⟩
  have hif : ∀ x, s.fieldFound? (T k).1 (T k).2.1 (T k).2.2.1 = some x → s.fieldFound? Cn (T k).2.1 (T k).2.2.1 = some x := fun x hx => by rw [hT] at hx; exact hx
  rcases hlk with ⟨hf0, hlk⟩ | ⟨hf0, hown2, hlk⟩
  · rw [hf0] at hfin
    rw [if_neg (by rw [hfin]; decide)] at hlay
    have h6 := u_store hfc hkC hkind hlay hi hd1 hn hfit
    rcases hlk with hlk | ⟨host, hlk⟩
    · exact W.putK hx hb (f := f) ⟨hown, hts _ hlk, ⟨_, _, _, hif _ hi⟩, hst⟩ (by rw [q2]; exact h6) q1 q3 (by rw [hsl]; exact k2_hasslot (q4 k hk)) rfl rfl hd fin'
    · exact va_WputK hx hb (f := f) hown (hts _ hlk) (hif _ hi) hst (by rw [q2]; exact h6) q1 q3 (by rw [hsl]; exact k2_hasslot (q4 k hk)) rfl rfl hd fin'
  · rw [hf0] at hfin
    rw [if_pos hfin] at hlay
    have hcf : m.cls = cf := by
      obtain ⟨_, _, c', _, _, _, -, -, hf', -, -, -, hown3, -⟩ := Cond.laysFinal_spec hlay
      have e1 : c' = cf := by have := hi.symm.trans hf'; simp at this; exact this.1.symm
      rw [hT, hown2] at hown3
      rw [← e1]; exact Option.some.inj (hown.symm.trans hown3)
    have h6 := u_fits hfc hkC hkind (Or.inr hlay) hi hd1 hn hfit
    exact W.putFinK hx hb hown (hts _ hlk) (hif _ hi) hst hcf (hin2 hf0) (by rw [q2]; exact h6) q1 q3 (by rw [hsl]; exact k2_hasslot (q4 k hk)) rfl rfl hd fin'
theorem x_arr {t n : Nat} {y} (hH : x_S s0 D R h H locs cells slots) {a : Nat} (he : h.2 a = some (.inl (t, n, y))) (h9 : t ≠ 9) : H[a]? = some (vp_cell (D.2 t) (n, y)) ∧ s0.heap.size ≤ a := by
  obtain ⟨h1, h2⟩ := hH.1.old he (fun q h => by cases h; exact h9 rfl)
  simp only [x_at] at h1
  rw [if_neg h9] at h1
  exact ⟨h1, h2⟩
theorem x_lI (C : x_C l s0 A0 D own cc nL hl p s m args meth c) (hH : x_S s0 D R h H locs cells slots) {a : Nat} {i : Int32} (hd : decode cc pc = .ok (.iaload, 1)) {kk : Int32 → xM β} (hp : lI a i kk h = some res)
    (kont : ∀ v : Int32, kk v h = some res → W p l e R s m args below meth c H locs cells slots Q (F0 m (pc + 1) ls (.int v :: rest))) : W p l e R s m args below meth c H locs cells slots Q (F0 m pc ls (.int i :: .ref a :: rest)) := by
  obtain ⟨t, n, f, e1, ht, hin, e2⟩ := lI_i hp
  obtain ⟨hx, hb, -, -, hK, -, hW, -⟩ := C
  have hlt : i.toNatClampNeg < n := Nat.not_le.mp fun q => hin (Or.inr q)
  rcases ht with rfl | rfl
  · have hc := (x_arr hH e1 (by decide)).1
    exact W.iald (v := .int (f i.toNatClampNeg)) hx hb hc ((hK.2 0 _ rfl).1 n (fun j => .int (f j))) (fun q => by cases q) (by show ¬ (i < 0 ∨ (arrV _ _ _).slots.size ≤ _); rw [arrV_size]; exact hin) (by show (arrV _ _ _).slots[_]? = _; rw [arrV_read _ _ hlt]) rfl rfl hd (kont _ e2)
  · have hc := (hH.1.2.2.2 a _ e1).1
    simp only [x_at, if_pos] at hc
    obtain ⟨f', e3, scr, h1, h2, h3, h4, h5⟩ := hc
    cases e3
    exact W.iald (v := .int (f i.toNatClampNeg)) hx hb h1 (State.isArrayOf_alike hW.alike h2) h3 (by rw [h4]; exact hin) (h5 _ hlt) rfl rfl hd (kont _ e2)
theorem x_lZ (C : x_C l s0 A0 D own cc nL hl p s m args meth c) (hH : x_S s0 D R h H locs cells slots) {a : Nat} {i : Int32} (hd : decode cc pc = .ok (.baload, 1)) {kk : Int32 → xM β} (hp : lZ a i kk h = some res)
    (kont : ∀ v : Int32, kk v h = some res → W p l e R s m args below meth c H locs cells slots Q (F0 m (pc + 1) ls (.int v :: rest))) : W p l e R s m args below meth c H locs cells slots Q (F0 m pc ls (.int i :: .ref a :: rest)) := by
  obtain ⟨n, f, e1, hin, e2⟩ := lZ_i hp
  obtain ⟨hx, hb, -, -, hK, -⟩ := C
  have hlt : i.toNatClampNeg < n := Nat.not_le.mp fun q => hin (Or.inr q)
  have hc := (x_arr hH e1 (by decide)).1
  exact W.zald (v := .int (f i.toNatClampNeg)) hx hb hc ((hK.2 2 _ rfl).1 n (fun j => .int (f j))) (fun q => by cases q) (by show ¬ (i < 0 ∨ (arrV _ _ _).slots.size ≤ _); rw [arrV_size]; exact hin) (by show (arrV _ _ _).slots[_]? = _; rw [arrV_read _ _ hlt]) rfl rfl hd (kont _ e2)
theorem x_lJ (C : x_C l s0 A0 D own cc nL hl p s m args meth c) (hH : x_S s0 D R h H locs cells slots) {a : Nat} {i : Int32} (hd : decode cc pc = .ok (.laload, 1)) {kk : Int64 → xM β} (hp : lJ a i kk h = some res)
    (kont : ∀ v : Int64, kk v h = some res → W p l e R s m args below meth c H locs cells slots Q (F0 m (pc + 1) ls (.long v :: rest))) : W p l e R s m args below meth c H locs cells slots Q (F0 m pc ls (.int i :: .ref a :: rest)) := by
  obtain ⟨n, f, e1, hin, e2⟩ := lJ_i hp
  obtain ⟨hx, hb, -, -, hK, -⟩ := C
  have hlt : i.toNatClampNeg < n := Nat.not_le.mp fun q => hin (Or.inr q)
  have hc := (x_arr hH e1 (by decide)).1
  exact W.lald (v := .long (f i.toNatClampNeg)) hx hb hc ((hK.2 1 _ rfl).1 n (fun j => .long (f j))) (fun q => by cases q) (by show ¬ (i < 0 ∨ (arrV _ _ _).slots.size ≤ _); rw [arrV_size]; exact hin) (by show (arrV _ _ _).slots[_]? = _; rw [arrV_read _ _ hlt]) rfl rfl hd (kont _ e2)
/-- the class of an array of references, by its kind -/
theorem x_tyA {t : Nat} (ht : 3 ≤ t ∧ t ≤ 8) : ∃ r, classes[x_tc t]? = some r ∧ (x_tys D)[t]? = some (D.2 t, .object r.1) := by
  obtain ⟨h1, h2⟩ := ht
  rcases (show t = 3 ∨ t = 4 ∨ t = 5 ∨ t = 6 ∨ t = 7 ∨ t = 8 by omega) with rfl | rfl | rfl | rfl | rfl | rfl <;> exact ⟨_, rfl, rfl⟩
theorem x_lA (C : x_C l s0 A0 D own cc nL hl p s m args meth c) (hH : x_S s0 D R h H locs cells slots) {t a : Nat} (ht : 3 ≤ t ∧ t ≤ 8) {i : Int32} (hd : decode cc pc = .ok (.aaload, 1)) {kk : Nat → xM β} (hp : lA t a i kk h = some res)
    (kont : ∀ v : Nat, kk v h = some res → W p l e R s m args below meth c H locs cells slots Q (F0 m (pc + 1) ls (.ref v :: rest))) : W p l e R s m args below meth c H locs cells slots Q (F0 m pc ls (.int i :: .ref a :: rest)) := by
  obtain ⟨n, f, v, e1, hin, e3, e2⟩ := lA_i hp
  obtain ⟨hx, hb, -, -, hK, -⟩ := C
  have hlt : i.toNatClampNeg < n := Nat.not_le.mp fun q => hin (Or.inr q)
  have hc := (x_arr hH e1 (by omega)).1
  obtain ⟨r, -, hr⟩ := x_tyA (D := D) ht
  have := kont v e2
  refine W.aald (v := va_rf (f i.toNatClampNeg)) (ty := .object r.1) hx hb hc ((hK.2 t _ hr).1 n (fun j => va_rf (f j))) rfl (fun q => by cases q) (by show ¬ (i < 0 ∨ (arrV _ _ _).slots.size ≤ _); rw [arrV_size]; exact hin) (by show (arrV _ _ _).slots[_]? = _; rw [arrV_read _ _ hlt]) rfl rfl hd ?_
  rw [e3]
  exact this
theorem x_sI (C : x_C l s0 A0 D own cc nL hl p s m args meth c) (hH : x_S s0 D R h H locs cells slots) {a : Nat} {i x : Int32} (hd : decode cc pc = .ok (.iastore, 1)) {kk : xM β} (hp : sI a i x kk h = some res)
    (kont : ∀ (h1 : xH) (H1 : Heap) (locs1 : List Loc), kk h1 = some res → x_S s0 D R h1 H1 locs1 cells slots → W p l e R s m args below meth c H1 locs1 cells slots Q (F0 m (pc + 1) ls rest)) : W p l e R s m args below meth c H locs cells slots Q (F0 m pc ls (.int x :: .int i :: .ref a :: rest)) := by
  obtain ⟨n, f, e1, hin, e2⟩ := sI_i hp
  obtain ⟨hx, hb, -, -, hK, -⟩ := C
  obtain ⟨hc, ha⟩ := x_arr hH e1 (by decide)
  refine W.iast hx hb hc ((hK.2 0 _ rfl).1 n (fun j => .int (f j))) (fun q => by cases q) (by show ¬ (i < 0 ∨ (arrV _ _ _).slots.size ≤ _); rw [arrV_size]; exact hin) rfl rfl hd fun H1 e3 z oq => ?_
  refine kont _ H1 _ e2 ⟨hH.1.put ha z oq ?_, x_locs hH.2.1 ha, hH.2.2⟩
  show H1[a]? = some (vp_cell _ _)
  rw [e3, vp_cell_i, vp_cell_i, arrV_store]
  congr 2
  funext q
  by_cases hq : q = i.toNatClampNeg
  · subst hq
    simp [updV, va_up]
  · simp [updV, va_up, hq]
theorem x_sZ (C : x_C l s0 A0 D own cc nL hl p s m args meth c) (hH : x_S s0 D R h H locs cells slots) {a : Nat} {i x : Int32} (hd : decode cc pc = .ok (.bastore, 1)) {kk : xM β} (hp : sZ a i x kk h = some res)
    (kont : ∀ (h1 : xH) (H1 : Heap) (locs1 : List Loc), kk h1 = some res → x_S s0 D R h1 H1 locs1 cells slots → W p l e R s m args below meth c H1 locs1 cells slots Q (F0 m (pc + 1) ls rest)) : W p l e R s m args below meth c H locs cells slots Q (F0 m pc ls (.int x :: .int i :: .ref a :: rest)) := by
  obtain ⟨n, f, e1, hin, h01, e2⟩ := sZ_i hp
  obtain ⟨hx, hb, -, -, hK, -⟩ := C
  obtain ⟨hc, ha⟩ := x_arr hH e1 (by decide)
  refine W.zast hx hb hc ((hK.2 2 _ rfl).1 n (fun j => .int (f j))) (fun q => by cases q) (by show ¬ (i < 0 ∨ (arrV _ _ _).slots.size ≤ _); rw [arrV_size]; exact hin) rfl rfl hd fun H1 e3 z oq => ?_
  refine kont _ H1 _ e2 ⟨hH.1.put ha z oq ?_, x_locs hH.2.1 ha, hH.2.2⟩
  show H1[a]? = some (vp_cell _ _)
  have hnar : narrow .boolean (.int x) = .int x := by rcases h01 with rfl | rfl <;> rfl
  rw [e3, hnar, vp_cell_i, vp_cell_i, arrV_store]
  congr 2
  funext q
  by_cases hq : q = i.toNatClampNeg
  · subst hq
    simp [updV, va_up]
  · simp [updV, va_up, hq]
theorem x_sJ (C : x_C l s0 A0 D own cc nL hl p s m args meth c) (hH : x_S s0 D R h H locs cells slots) {a : Nat} {i : Int32} {x : Int64} (hd : decode cc pc = .ok (.lastore, 1)) {kk : xM β} (hp : sJ a i x kk h = some res)
    (kont : ∀ (h1 : xH) (H1 : Heap) (locs1 : List Loc), kk h1 = some res → x_S s0 D R h1 H1 locs1 cells slots → W p l e R s m args below meth c H1 locs1 cells slots Q (F0 m (pc + 1) ls rest)) : W p l e R s m args below meth c H locs cells slots Q (F0 m pc ls (.long x :: .int i :: .ref a :: rest)) := by
  obtain ⟨n, f, e1, hin, e2⟩ := sJ_i hp
  obtain ⟨hx, hb, -, -, hK, -⟩ := C
  obtain ⟨hc, ha⟩ := x_arr hH e1 (by decide)
  refine W.last hx hb hc ((hK.2 1 _ rfl).1 n (fun j => .long (f j))) (fun q => by cases q) (by show ¬ (i < 0 ∨ (arrV _ _ _).slots.size ≤ _); rw [arrV_size]; exact hin) rfl rfl hd fun H1 e3 z oq => ?_
  refine kont _ H1 _ e2 ⟨hH.1.put ha z oq ?_, x_locs hH.2.1 ha, hH.2.2⟩
  show H1[a]? = some (vp_cell _ _)
  rw [e3, vp_cell_l, vp_cell_l, arrV_store]
  congr 2
  funext q
  by_cases hq : q = i.toNatClampNeg
  · subst hq
    simp [updV, va_up]
  · simp [updV, va_up, hq]
theorem x_sA (C : x_C l s0 A0 D own cc nL hl p s m args meth c) (hH : x_S s0 D R h H locs cells slots) {t a v : Nat} (ht : 3 ≤ t ∧ t ≤ 8) {i : Int32} (hd : decode cc pc = .ok (.aastore, 1)) {kk : xM β} (hp : sA t a i v kk h = some res)
    (kont : ∀ (h1 : xH) (H1 : Heap) (locs1 : List Loc), kk h1 = some res → x_S s0 D R h1 H1 locs1 cells slots → W p l e R s m args below meth c H1 locs1 cells slots Q (F0 m (pc + 1) ls rest)) : W p l e R s m args below meth c H locs cells slots Q (F0 m pc ls (.ref v :: .int i :: .ref a :: rest)) := by
  obtain ⟨n, f, vs, e1, hin, e4, e2⟩ := sA_i hp
  obtain ⟨hx, hb, -, -, hK, -⟩ := C
  obtain ⟨hc, ha⟩ := x_arr hH e1 (by omega)
  have hlt : i.toNatClampNeg < n := Nat.not_le.mp fun q => hin (Or.inr q)
  have h0 : ¬ i < 0 := fun q => hin (Or.inl q)
  obtain ⟨r, hr, hrt⟩ := x_tyA (D := D) ht
  obtain ⟨r', hr', cellV, g1, g2, g3, -⟩ := (hH.1.2.2.2 v _ e4).1
  have hcls := (hK.1 _ r hr).2
  obtain ⟨kA, comp, k1, k2, k3, -⟩ := (hK.2 t _ hrt).2
  have hcomp : comp = D.1.1 (x_tc t) := Option.some.inj (k3.symm.trans hcls.1)
  subst hcomp
  obtain ⟨kC, hkC, -⟩ := hcls.2
  refine W.aast hx hb hc (fun q h => by cases h) (fun h => by cases h) k1 k2 rfl hkC ⟨h0, by show _ < (arrV _ _ _).slots.size; rw [arrV_size]; exact hlt⟩ g1 (fun q h => by rw [g3] at h; cases h) (by rw [g2]; exact hkC) (by rw [g2]; exact va_assign hcls) rfl rfl hd fun H1 e3 z oq => ?_
  refine kont _ H1 _ e2 ⟨hH.1.put ha z oq ?_, x_locs hH.2.1 ha, hH.2.2⟩
  simp only [x_at]
  rw [if_neg (by omega), e3, vp_cell_q, vp_cell_q, arrV_store]
  congr 2
  funext q
  by_cases hq : q = i.toNatClampNeg
  · subst hq
    simp [updV, va_up, va_rf]
  · simp [updV, va_up, hq]
theorem x_sN (C : x_C l s0 A0 D own cc nL hl p s m args meth c) (hH : x_S s0 D R h H locs cells slots) {t a : Nat} (ht : 3 ≤ t ∧ t ≤ 8) {i : Int32} (hd : decode cc pc = .ok (.aastore, 1)) {kk : xM β} (hp : sN t a i kk h = some res)
    (kont : ∀ (h1 : xH) (H1 : Heap) (locs1 : List Loc), kk h1 = some res → x_S s0 D R h1 H1 locs1 cells slots → W p l e R s m args below meth c H1 locs1 cells slots Q (F0 m (pc + 1) ls rest)) : W p l e R s m args below meth c H locs cells slots Q (F0 m pc ls (.null :: .int i :: .ref a :: rest)) := by
  obtain ⟨n, f, e1, hin, e2⟩ := sN_i hp
  obtain ⟨hx, hb, -, -, hK, -⟩ := C
  obtain ⟨hc, ha⟩ := x_arr hH e1 (by omega)
  obtain ⟨r, hr, hrt⟩ := x_tyA (D := D) ht
  refine va_WaastN (C := r.1) hx hb hc ((hK.2 t _ hrt).1 n (fun j => va_rf (f j))) (fun h => by cases h) (by show ¬ (i < 0 ∨ (arrV _ _ _).slots.size ≤ _); rw [arrV_size]; exact hin) rfl rfl hd fun H1 e3 z oq => ?_
  refine kont _ H1 _ e2 ⟨hH.1.put ha z oq ?_, x_locs hH.2.1 ha, hH.2.2⟩
  simp only [x_at]
  rw [if_neg (by omega), e3, vp_cell_q, vp_cell_q, arrV_store]
  congr 2
  funext q
  by_cases hq : q = i.toNatClampNeg
  · subst hq
    simp [updV, va_up, va_rf]
  · simp [updV, va_up, hq]
theorem x_aL (C : x_C l s0 A0 D own cc nL hl p s m args meth c) (hH : x_S s0 D R h H locs cells slots) {a : Nat} (hd : decode cc pc = .ok (.arraylength, 1)) {kk : Int32 → xM β} (hp : aL a kk h = some res)
    (kont : ∀ v : Int32, kk v h = some res → W p l e R s m args below meth c H locs cells slots Q (F0 m (pc + 1) ls (.int v :: rest))) : W p l e R s m args below meth c H locs cells slots Q (F0 m pc ls (.ref a :: rest)) := by
  obtain ⟨t, n, q, e1, ht, e2⟩ := aL_i hp
  obtain ⟨hx, hb, -, -, hK, -, hW, -⟩ := C
  by_cases h9 : t = 9
  · subst h9
    have hc := (hH.1.2.2.2 a _ e1).1
    simp only [x_at, if_pos] at hc
    obtain ⟨f', e3, scr, h1, h2, h3, h4, h5⟩ := hc
    exact W.alen (n := nI n) hx hb h1 (State.isArrayOf_alike hW.alike h2) (by rw [h4]; rfl) rfl rfl hd (kont _ e2)
  · have hc := (x_arr hH e1 h9).1
    have hP : va_P D.1 classes [(a, .inl (D.2 t, n, q))] H := by
      intro j q hj
      match j, hj with
      | 0, hj => cases hj; exact hc
      | j + 1, hj => simp at hj
    have ht2 : ∃ ty, (x_tys D)[t]? = some (D.2 t, ty) := by
      rcases (show t = 0 ∨ t = 1 ∨ t = 2 ∨ t = 3 ∨ t = 4 ∨ t = 5 ∨ t = 6 ∨ t = 7 ∨ t = 8 by omega) with rfl | rfl | rfl | rfl | rfl | rfl | rfl | rfl | rfl <;> exact ⟨_, rfl⟩
    obtain ⟨ty, ht2⟩ := ht2
    exact va_alen (v := nI n) hx hb hK hP 0 t rfl ht2 rfl hd (kont _ e2)
end XROW
