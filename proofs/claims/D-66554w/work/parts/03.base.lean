/-! the machine seen as a program over a heap of typed cells: cells, programs, what they say of the machine's heap -/
/-- a cell: an array (its kind: 0 int, 1 long, 2 boolean, 3 Item, 4 Command, 5 Log, 6 Replica, 7 Session, 8 Read, 9 an int array that is only read; its length and contents) or an object (class number, fields) -/
abbrev xE : Type := (Nat × vp_A) ⊕ (Nat × List Value)
/-- the heap: (its size, cells that may still be made, slots that may still be made), and the cells that are told of -/
abbrev xH : Type := (Nat × Nat × Nat) × (Nat → Option xE)
/-- a program: none: stuck; else an answer or an exception (address, class), and the heap behind it -/
abbrev xM (α : Type) : Type := xH → Option ((α ⊕ (Nat × Nat)) × xH)
abbrev xD : Type := va_G × (Nat → ClassId)
def x_tys (D : xD) : List (ClassId × FieldType) := [(D.2 0, .int), (D.2 1, .long), (D.2 2, .boolean), (D.2 3, .object R_Item), (D.2 4, .object R_Cmd), (D.2 5, .object R_Log), (D.2 6, .object R_Repl), (D.2 7, .object R_Sess), (D.2 8, .object R_Read)]
/-- the class of an array's elements, by the array's kind -/
def x_tc (t : Nat) : Nat := match t with
  | 3 => 2
  | 4 => 1
  | 5 => 3
  | 6 => 5
  | 7 => 6
  | 8 => 4
  | _ => 99
def x_at (D : xD) (s0 : State) (a : Nat) (e : xE) (H : Heap) : Prop := match e with
  | .inl q => if q.1 = 9 then ∃ f, q.2.2 = .inl f ∧ va_X a q.2.1 f s0 H else H[a]? = some (vp_cell (D.2 q.1) q.2)
  | .inr o => ∃ r : vw_C, classes[o.1]? = some r ∧ t_OB a (D.1.1 o.1) r.2.2 (D.1.2 o.1) H (vp_V o.2)
theorem x_at.kept {D : xD} {s0 : State} {a : Nat} {e : xE} {H H1 : Heap} (h : x_at D s0 a e H) (hq : H1[a]? = H[a]?) : x_at D s0 a e H1 := by
  cases e with
  | inl q =>
    simp only [x_at] at h ⊢
    split
    · rename_i h9
      rw [if_pos h9] at h
      obtain ⟨f, e1, e2⟩ := h
      exact ⟨f, e1, e2.kept hq⟩
    · rename_i h9
      rw [if_neg h9] at h
      exact hq.trans h
  | inr o =>
    obtain ⟨r, h1, h2⟩ := h
    exact ⟨r, h1, h2.kept hq⟩
theorem x_at.lt {D : xD} {s0 : State} {a : Nat} {e : xE} {H : Heap} (h : x_at D s0 a e H) : a < H.size := by
  cases e with
  | inl q =>
    simp only [x_at] at h
    split at h
    · obtain ⟨f, e1, scr, e2, -⟩ := h
      exact (Array.getElem?_eq_some_iff.mp e2).1
    · exact (Array.getElem?_eq_some_iff.mp h).1
  | inr o =>
    obtain ⟨r, h1, cell, h2, -⟩ := h
    exact (Array.getElem?_eq_some_iff.mp h2).1
/-- the heap holds what is told of it; what was there at the law's start is as it was -/
def x_Hd (s0 : State) (D : xD) (h : xH) (H : Heap) : Prop := H.size = h.1.1 ∧ s0.heap.size ≤ H.size ∧ (∀ q : Nat, q < s0.heap.size → H[q]? = s0.heap[q]?) ∧ ∀ (a : Nat) (e : xE), h.2 a = some e → x_at D s0 a e H ∧ (s0.heap.size ≤ a ∨ ∃ q, e = .inl (9, q))
/-- and the slots written so far, the cells and slots made so far -/
def x_S (s0 : State) (D : xD) (R : Room) (h : xH) (H : Heap) (locs : List Loc) (cells slots : Nat) : Prop := x_Hd s0 D h H ∧ (∀ q ∈ locs, s0.heap.size ≤ q.base) ∧ cells + h.1.2.1 = R.cells ∧ slots + h.1.2.2 = R.slots
theorem x_Hd.put {s0 : State} {D : xD} {h : xH} {H H1 : Heap} {a : Nat} {e' : xE} (hH : x_Hd s0 D h H) (ha : s0.heap.size ≤ a) (z : H1.size = H.size) (oq : ∀ q : Nat, q ≠ a → H1[q]? = H[q]?) (he' : x_at D s0 a e' H1) : x_Hd s0 D (h.1, va_up h.2 a (some e')) H1 := by
  obtain ⟨h1, h2, h3, h4⟩ := hH
  refine ⟨z.trans h1, by rw [z]; exact h2, fun q hq => (oq q (by omega)).trans (h3 q hq), fun b e hb => ?_⟩
  by_cases hba : b = a
  · subst hba
    simp [va_up] at hb
    subst hb
    exact ⟨he', Or.inl ha⟩
  · simp [va_up, hba] at hb
    exact ⟨(h4 b e hb).1.kept (oq b hba), (h4 b e hb).2⟩
theorem x_Hd.push {s0 : State} {D : xD} {h : xH} {H H1 : Heap} {e' : xE} {c' n' : Nat} (hH : x_Hd s0 D h H) (z : H1.size = H.size + 1) (oq : ∀ q : Nat, q < H.size → H1[q]? = H[q]?) (he' : x_at D s0 h.1.1 e' H1) : x_Hd s0 D ((h.1.1 + 1, c', n'), va_up h.2 h.1.1 (some e')) H1 := by
  obtain ⟨h1, h2, h3, h4⟩ := hH
  refine ⟨by rw [z, h1], by omega, fun q hq => (oq q (by omega)).trans (h3 q hq), fun b e hb => ?_⟩
  by_cases hba : b = h.1.1
  · subst hba
    simp [va_up] at hb
    subst hb
    exact ⟨he', Or.inl (by omega)⟩
  · simp [va_up, hba] at hb
    exact ⟨(h4 b e hb).1.kept (oq b (h4 b e hb).1.lt), (h4 b e hb).2⟩
theorem x_Hd.old {s0 : State} {D : xD} {h : xH} {H : Heap} (hH : x_Hd s0 D h H) {a : Nat} {e : xE} (he : h.2 a = some e) (h9 : ∀ q, e ≠ .inl (9, q)) : x_at D s0 a e H ∧ s0.heap.size ≤ a := by
  obtain ⟨h1, h2⟩ := hH.2.2.2 a e he
  rcases h2 with h2 | ⟨q, h2⟩
  · exact ⟨h1, h2⟩
  · exact absurd h2 (h9 q)
theorem x_locs {s0 : State} {locs : List Loc} {a i : Nat} (h : ∀ q ∈ locs, s0.heap.size ≤ q.base) (ha : s0.heap.size ≤ a) : ∀ q ∈ locs ++ [⟨a, i⟩], s0.heap.size ≤ q.base := by
  intro q hq
  rcases List.mem_append.mp hq with h1 | h1
  · exact h q h1
  · rw [List.mem_singleton.mp h1]
    exact ha
/-! programs -/
section XPROG
variable {α β : Type}
def xr (v : α) : xM α := fun h => some (.inl v, h)
def xst : xM α := fun _ => none
def xb (x : xM α) (k : α → xM β) : xM β := fun h => match x h with
  | none => none
  | some (.inl v, h') => k v h'
  | some (.inr e, h') => some (.inr e, h')
/-- a field: an int, a long, a reference that is not null -/
def gI (a ci k : Nat) (kk : Int32 → xM β) : xM β := fun h => match h.2 a with
  | some (.inr (c, fs)) => (match fs[k]? with
    | some (.int v) => if c = ci then kk v h else none
    | _ => none)
  | _ => none
def gJ (a ci k : Nat) (kk : Int64 → xM β) : xM β := fun h => match h.2 a with
  | some (.inr (c, fs)) => (match fs[k]? with
    | some (.long v) => if c = ci then kk v h else none
    | _ => none)
  | _ => none
def gA (a ci k : Nat) (kk : Nat → xM β) : xM β := fun h => match h.2 a with
  | some (.inr (c, fs)) => (match fs[k]? with
    | some (.ref v) => if c = ci then kk v h else none
    | _ => none)
  | _ => none
/-- a field is written -/
def pV (a ci k : Nat) (v : Value) (kk : xM β) : xM β := fun h => match h.2 a with
  | some (.inr (c, fs)) => if c = ci ∧ k < fs.length then kk (h.1, va_up h.2 a (some (.inr (ci, fs.set k v)))) else none
  | _ => none
def pZ (a ci k : Nat) (v : Int32) (kk : xM β) : xM β := if v = 0 ∨ v = 1 then pV a ci k (.int v) kk else xst
/-- an array's element: int, boolean, long, a reference that is not null -/
def lI (a : Nat) (i : Int32) (kk : Int32 → xM β) : xM β := fun h => match h.2 a with
  | some (.inl (t, n, .inl f)) => if (t = 0 ∨ t = 9) ∧ ¬ (i < 0 ∨ n ≤ i.toNatClampNeg) then kk (f i.toNatClampNeg) h else none
  | _ => none
def lZ (a : Nat) (i : Int32) (kk : Int32 → xM β) : xM β := fun h => match h.2 a with
  | some (.inl (t, n, .inl f)) => if t = 2 ∧ ¬ (i < 0 ∨ n ≤ i.toNatClampNeg) then kk (f i.toNatClampNeg) h else none
  | _ => none
def lJ (a : Nat) (i : Int32) (kk : Int64 → xM β) : xM β := fun h => match h.2 a with
  | some (.inl (t, n, .inr (.inl f))) => if t = 1 ∧ ¬ (i < 0 ∨ n ≤ i.toNatClampNeg) then kk (f i.toNatClampNeg) h else none
  | _ => none
def lA (t : Nat) (a : Nat) (i : Int32) (kk : Nat → xM β) : xM β := fun h => match h.2 a with
  | some (.inl (t', n, .inr (.inr (.inr (.inr f))))) => if t' = t ∧ ¬ (i < 0 ∨ n ≤ i.toNatClampNeg) then (match f i.toNatClampNeg with
    | some v => kk v h
    | none => none) else none
  | _ => none
/-- an array's element is written -/
def sI (a : Nat) (i x : Int32) (kk : xM β) : xM β := fun h => match h.2 a with
  | some (.inl (t, n, .inl f)) => if t = 0 ∧ ¬ (i < 0 ∨ n ≤ i.toNatClampNeg) then kk (h.1, va_up h.2 a (some (.inl (0, n, .inl (va_up f i.toNatClampNeg x))))) else none
  | _ => none
def sZ (a : Nat) (i x : Int32) (kk : xM β) : xM β := fun h => match h.2 a with
  | some (.inl (t, n, .inl f)) => if t = 2 ∧ ¬ (i < 0 ∨ n ≤ i.toNatClampNeg) ∧ (x = 0 ∨ x = 1) then kk (h.1, va_up h.2 a (some (.inl (2, n, .inl (va_up f i.toNatClampNeg x))))) else none
  | _ => none
def sJ (a : Nat) (i : Int32) (x : Int64) (kk : xM β) : xM β := fun h => match h.2 a with
  | some (.inl (t, n, .inr (.inl f))) => if t = 1 ∧ ¬ (i < 0 ∨ n ≤ i.toNatClampNeg) then kk (h.1, va_up h.2 a (some (.inl (1, n, .inr (.inl (va_up f i.toNatClampNeg x)))))) else none
  | _ => none
def sA (t : Nat) (a : Nat) (i : Int32) (v : Nat) (kk : xM β) : xM β := fun h => match h.2 a with
  | some (.inl (t', n, .inr (.inr (.inr (.inr f))))) => if t' = t ∧ ¬ (i < 0 ∨ n ≤ i.toNatClampNeg) then (match h.2 v with
    | some (.inr (ci, _)) => if ci = x_tc t then kk (h.1, va_up h.2 a (some (.inl (t, n, .inr (.inr (.inr (.inr (va_up f i.toNatClampNeg (some v))))))))) else none
    | _ => none) else none
  | _ => none
def sN (t : Nat) (a : Nat) (i : Int32) (kk : xM β) : xM β := fun h => match h.2 a with
  | some (.inl (t', n, .inr (.inr (.inr (.inr f))))) => if t' = t ∧ ¬ (i < 0 ∨ n ≤ i.toNatClampNeg) then kk (h.1, va_up h.2 a (some (.inl (t, n, .inr (.inr (.inr (.inr (va_up f i.toNatClampNeg none)))))))) else none
  | _ => none
def aL (a : Nat) (kk : Int32 → xM β) : xM β := fun h => match h.2 a with
  | some (.inl (t, n, _)) => if t < 10 then kk (nI n) h else none
  | _ => none
/-- a new cell of n slots -/
def nE (n : Nat) (e : xE) (kk : Nat → xM β) : xM β := fun h => if 1 ≤ h.1.2.1 ∧ n ≤ h.1.2.2 then kk h.1.1 ((h.1.1 + 1, h.1.2.1 - 1, h.1.2.2 - n), va_up h.2 h.1.1 (some e)) else none
def nAI (n : Int32) (kk : Nat → xM β) : xM β := if n < 0 ∨ 100000 < n.toNatClampNeg then xst else nE n.toNatClampNeg (.inl (0, n.toNatClampNeg, .inl (fun _ => 0))) kk
def nAZ (n : Int32) (kk : Nat → xM β) : xM β := if n < 0 ∨ 100000 < n.toNatClampNeg then xst else nE n.toNatClampNeg (.inl (2, n.toNatClampNeg, .inl (fun _ => 0))) kk
def nAJ (n : Int32) (kk : Nat → xM β) : xM β := if n < 0 ∨ 100000 < n.toNatClampNeg then xst else nE n.toNatClampNeg (.inl (1, n.toNatClampNeg, .inr (.inl (fun _ => 0)))) kk
def nAA (t : Nat) (n : Int32) (kk : Nat → xM β) : xM β := if n < 0 ∨ 100000 < n.toNatClampNeg then xst else nE n.toNatClampNeg (.inl (t, n.toNatClampNeg, .inr (.inr (.inr (.inr (fun _ => none)))))) kk
/-- System.arraycopy between int arrays, long arrays -/
def cI (a0 : Nat) (sp : Int32) (a : Nat) (dp n : Int32) (kk : xM β) : xM β := fun h => match h.2 a0, h.2 a with
  | some (.inl (t0, n0, .inl f)), some (.inl (t1, n1, .inl g)) => if t0 = 0 ∧ t1 = 0 ∧ ¬ sp < 0 ∧ ¬ dp < 0 ∧ ¬ n < 0 ∧ sp.toNatClampNeg + n.toNatClampNeg ≤ n0 ∧ dp.toNatClampNeg + n.toNatClampNeg ≤ n1 then kk (h.1, va_up h.2 a (some (.inl (0, n1, .inl (va_cpy f g sp.toNatClampNeg dp.toNatClampNeg n.toNatClampNeg))))) else none
  | _, _ => none
def cJ (a0 : Nat) (sp : Int32) (a : Nat) (dp n : Int32) (kk : xM β) : xM β := fun h => match h.2 a0, h.2 a with
  | some (.inl (t0, n0, .inr (.inl f))), some (.inl (t1, n1, .inr (.inl g))) => if t0 = 1 ∧ t1 = 1 ∧ ¬ sp < 0 ∧ ¬ dp < 0 ∧ ¬ n < 0 ∧ sp.toNatClampNeg + n.toNatClampNeg ≤ n0 ∧ dp.toNatClampNeg + n.toNatClampNeg ≤ n1 then kk (h.1, va_up h.2 a (some (.inl (1, n1, .inr (.inl (va_cpy f g sp.toNatClampNeg dp.toNatClampNeg n.toNatClampNeg)))))) else none
  | _, _ => none
/-- a remainder: stuck where one divides by 0 -/
def rI (x y : Int32) (kk : Int32 → xM β) : xM β := if y = 0 then xst else kk (x - x / y * y)
end XPROG
/-! what a program that isn't stuck says of its first step -/
section XINV
variable {β : Type} {h : xH} {res : (β ⊕ (Nat × Nat)) × xH}
theorem gI_i {a ci k : Nat} {kk : Int32 → xM β} (e : gI a ci k kk h = some res) : ∃ fs v, h.2 a = some (.inr (ci, fs)) ∧ fs[k]? = some (.int v) ∧ kk v h = some res := by
  unfold gI at e
  split at e <;> try (cases e; done)
  rename_i c fs e1
  split at e <;> try (cases e; done)
  rename_i v e2
  split at e <;> try (cases e; done)
  rename_i e3
  subst e3
  exact ⟨fs, v, e1, e2, e⟩
theorem gJ_i {a ci k : Nat} {kk : Int64 → xM β} (e : gJ a ci k kk h = some res) : ∃ fs v, h.2 a = some (.inr (ci, fs)) ∧ fs[k]? = some (.long v) ∧ kk v h = some res := by
  unfold gJ at e
  split at e <;> try (cases e; done)
  rename_i c fs e1
  split at e <;> try (cases e; done)
  rename_i v e2
  split at e <;> try (cases e; done)
  rename_i e3
  subst e3
  exact ⟨fs, v, e1, e2, e⟩
theorem gA_i {a ci k : Nat} {kk : Nat → xM β} (e : gA a ci k kk h = some res) : ∃ fs v, h.2 a = some (.inr (ci, fs)) ∧ fs[k]? = some (.ref v) ∧ kk v h = some res := by
  unfold gA at e
  split at e <;> try (cases e; done)
  rename_i c fs e1
  split at e <;> try (cases e; done)
  rename_i v e2
  split at e <;> try (cases e; done)
  rename_i e3
  subst e3
  exact ⟨fs, v, e1, e2, e⟩
theorem pV_i {a ci k : Nat} {v : Value} {kk : xM β} (e : pV a ci k v kk h = some res) : ∃ fs, h.2 a = some (.inr (ci, fs)) ∧ k < fs.length ∧ kk (h.1, va_up h.2 a (some (.inr (ci, fs.set k v)))) = some res := by
  unfold pV at e
  split at e <;> try (cases e; done)
  rename_i c fs e1
  split at e <;> try (cases e; done)
  rename_i e3
  obtain ⟨e3, e4⟩ := e3
  subst e3
  exact ⟨fs, e1, e4, e⟩
theorem lI_i {a : Nat} {i : Int32} {kk : Int32 → xM β} (e : lI a i kk h = some res) : ∃ t n f, h.2 a = some (.inl (t, n, .inl f)) ∧ (t = 0 ∨ t = 9) ∧ vp_in i n ∧ kk (f i.toNatClampNeg) h = some res := by
  unfold lI at e
  split at e <;> try (cases e; done)
  rename_i t n f e1
  split at e <;> try (cases e; done)
  rename_i e3
  exact ⟨t, n, f, e1, e3.1, e3.2, e⟩
theorem lZ_i {a : Nat} {i : Int32} {kk : Int32 → xM β} (e : lZ a i kk h = some res) : ∃ n f, h.2 a = some (.inl (2, n, .inl f)) ∧ vp_in i n ∧ kk (f i.toNatClampNeg) h = some res := by
  unfold lZ at e
  split at e <;> try (cases e; done)
  rename_i t n f e1
  split at e <;> try (cases e; done)
  rename_i e3
  obtain ⟨e3, e4⟩ := e3
  subst e3
  exact ⟨n, f, e1, e4, e⟩
theorem lJ_i {a : Nat} {i : Int32} {kk : Int64 → xM β} (e : lJ a i kk h = some res) : ∃ n f, h.2 a = some (.inl (1, n, .inr (.inl f))) ∧ vp_in i n ∧ kk (f i.toNatClampNeg) h = some res := by
  unfold lJ at e
  split at e <;> try (cases e; done)
  rename_i t n f e1
  split at e <;> try (cases e; done)
  rename_i e3
  obtain ⟨e3, e4⟩ := e3
  subst e3
  exact ⟨n, f, e1, e4, e⟩
theorem lA_i {t a : Nat} {i : Int32} {kk : Nat → xM β} (e : lA t a i kk h = some res) : ∃ n f v, h.2 a = some (.inl (t, n, .inr (.inr (.inr (.inr f))))) ∧ vp_in i n ∧ f i.toNatClampNeg = some v ∧ kk v h = some res := by
  unfold lA at e
  split at e <;> try (cases e; done)
  rename_i t n f e1
  split at e <;> try (cases e; done)
  rename_i e3
  obtain ⟨e3, e4⟩ := e3
  subst e3
  split at e <;> try (cases e; done)
  rename_i v e5
  exact ⟨n, f, v, e1, e4, e5, e⟩
theorem sI_i {a : Nat} {i x : Int32} {kk : xM β} (e : sI a i x kk h = some res) : ∃ n f, h.2 a = some (.inl (0, n, .inl f)) ∧ vp_in i n ∧ kk (h.1, va_up h.2 a (some (.inl (0, n, .inl (va_up f i.toNatClampNeg x))))) = some res := by
  unfold sI at e
  split at e <;> try (cases e; done)
  rename_i t n f e1
  split at e <;> try (cases e; done)
  rename_i e3
  obtain ⟨e3, e4⟩ := e3
  subst e3
  exact ⟨n, f, e1, e4, e⟩
theorem sZ_i {a : Nat} {i x : Int32} {kk : xM β} (e : sZ a i x kk h = some res) : ∃ n f, h.2 a = some (.inl (2, n, .inl f)) ∧ vp_in i n ∧ (x = 0 ∨ x = 1) ∧ kk (h.1, va_up h.2 a (some (.inl (2, n, .inl (va_up f i.toNatClampNeg x))))) = some res := by
  unfold sZ at e
  split at e <;> try (cases e; done)
  rename_i t n f e1
  split at e <;> try (cases e; done)
  rename_i e3
  obtain ⟨e3, e4, e5⟩ := e3
  subst e3
  exact ⟨n, f, e1, e4, e5, e⟩
theorem sJ_i {a : Nat} {i : Int32} {x : Int64} {kk : xM β} (e : sJ a i x kk h = some res) : ∃ n f, h.2 a = some (.inl (1, n, .inr (.inl f))) ∧ vp_in i n ∧ kk (h.1, va_up h.2 a (some (.inl (1, n, .inr (.inl (va_up f i.toNatClampNeg x)))))) = some res := by
  unfold sJ at e
  split at e <;> try (cases e; done)
  rename_i t n f e1
  split at e <;> try (cases e; done)
  rename_i e3
  obtain ⟨e3, e4⟩ := e3
  subst e3
  exact ⟨n, f, e1, e4, e⟩
theorem sA_i {t a : Nat} {i : Int32} {v : Nat} {kk : xM β} (e : sA t a i v kk h = some res) : ∃ n f vs, h.2 a = some (.inl (t, n, .inr (.inr (.inr (.inr f))))) ∧ vp_in i n ∧ h.2 v = some (.inr (x_tc t, vs)) ∧ kk (h.1, va_up h.2 a (some (.inl (t, n, .inr (.inr (.inr (.inr (va_up f i.toNatClampNeg (some v))))))))) = some res := by
  unfold sA at e
  split at e <;> try (cases e; done)
  rename_i t n f e1
  split at e <;> try (cases e; done)
  rename_i e3
  obtain ⟨e3, e4⟩ := e3
  subst e3
  split at e <;> try (cases e; done)
  rename_i ci vs e5
  split at e <;> try (cases e; done)
  rename_i e6
  subst e6
  exact ⟨n, f, vs, e1, e4, e5, e⟩
theorem sN_i {t a : Nat} {i : Int32} {kk : xM β} (e : sN t a i kk h = some res) : ∃ n f, h.2 a = some (.inl (t, n, .inr (.inr (.inr (.inr f))))) ∧ vp_in i n ∧ kk (h.1, va_up h.2 a (some (.inl (t, n, .inr (.inr (.inr (.inr (va_up f i.toNatClampNeg none)))))))) = some res := by
  unfold sN at e
  split at e <;> try (cases e; done)
  rename_i t n f e1
  split at e <;> try (cases e; done)
  rename_i e3
  obtain ⟨e3, e4⟩ := e3
  subst e3
  exact ⟨n, f, e1, e4, e⟩
theorem aL_i {a : Nat} {kk : Int32 → xM β} (e : aL a kk h = some res) : ∃ t n q, h.2 a = some (.inl (t, n, q)) ∧ t < 10 ∧ kk (nI n) h = some res := by
  unfold aL at e
  split at e <;> try (cases e; done)
  rename_i t n q e1
  split at e <;> try (cases e; done)
  rename_i e2
  exact ⟨t, n, q, e1, e2, e⟩
theorem nE_i {n : Nat} {c : xE} {kk : Nat → xM β} (e : nE n c kk h = some res) : 1 ≤ h.1.2.1 ∧ n ≤ h.1.2.2 ∧ kk h.1.1 ((h.1.1 + 1, h.1.2.1 - 1, h.1.2.2 - n), va_up h.2 h.1.1 (some c)) = some res := by
  unfold nE at e
  split at e <;> try (cases e; done)
  rename_i e3
  exact ⟨e3.1, e3.2, e⟩
theorem x_ifp {c : Prop} [Decidable c] {A B : xM β} (hc : c) (e : (if c then A else B) h = some res) : A h = some res := by rw [if_pos hc] at e; exact e
theorem x_ifn {c : Prop} [Decidable c] {A B : xM β} (hc : ¬ c) (e : (if c then A else B) h = some res) : B h = some res := by rw [if_neg hc] at e; exact e
theorem nAI_i {n : Int32} {kk : Nat → xM β} (e : nAI n kk h = some res) : ¬ n < 0 ∧ n.toNatClampNeg ≤ 100000 ∧ nE n.toNatClampNeg (.inl (0, n.toNatClampNeg, .inl (fun _ => 0))) kk h = some res := by
  unfold nAI at e
  split at e
  · cases e
  · rename_i e3
    exact ⟨fun q => e3 (Or.inl q), Nat.le_of_not_lt fun q => e3 (Or.inr q), e⟩
theorem nAZ_i {n : Int32} {kk : Nat → xM β} (e : nAZ n kk h = some res) : ¬ n < 0 ∧ n.toNatClampNeg ≤ 100000 ∧ nE n.toNatClampNeg (.inl (2, n.toNatClampNeg, .inl (fun _ => 0))) kk h = some res := by
  unfold nAZ at e
  split at e
  · cases e
  · rename_i e3
    exact ⟨fun q => e3 (Or.inl q), Nat.le_of_not_lt fun q => e3 (Or.inr q), e⟩
theorem nAJ_i {n : Int32} {kk : Nat → xM β} (e : nAJ n kk h = some res) : ¬ n < 0 ∧ n.toNatClampNeg ≤ 100000 ∧ nE n.toNatClampNeg (.inl (1, n.toNatClampNeg, .inr (.inl (fun _ => 0)))) kk h = some res := by
  unfold nAJ at e
  split at e
  · cases e
  · rename_i e3
    exact ⟨fun q => e3 (Or.inl q), Nat.le_of_not_lt fun q => e3 (Or.inr q), e⟩
theorem nAA_i {t : Nat} {n : Int32} {kk : Nat → xM β} (e : nAA t n kk h = some res) : ¬ n < 0 ∧ n.toNatClampNeg ≤ 100000 ∧ nE n.toNatClampNeg (.inl (t, n.toNatClampNeg, .inr (.inr (.inr (.inr (fun _ => none)))))) kk h = some res := by
  unfold nAA at e
  split at e
  · cases e
  · rename_i e3
    exact ⟨fun q => e3 (Or.inl q), Nat.le_of_not_lt fun q => e3 (Or.inr q), e⟩
theorem rI_i {x y : Int32} {kk : Int32 → xM β} (e : rI x y kk h = some res) : ¬ y = 0 ∧ kk (x - x / y * y) h = some res := by
  unfold rI at e
  split at e
  · cases e
  · rename_i e3
    exact ⟨e3, e⟩
theorem pZ_i {a ci k : Nat} {v : Int32} {kk : xM β} (e : pZ a ci k v kk h = some res) : (v = 0 ∨ v = 1) ∧ pV a ci k (.int v) kk h = some res := by
  unfold pZ at e
  split at e
  · rename_i e3
    exact ⟨e3, e⟩
  · cases e
theorem cI_i {a0 a : Nat} {sp dp n : Int32} {kk : xM β} (e : cI a0 sp a dp n kk h = some res) : ∃ n0 n1 f g, h.2 a0 = some (.inl (0, n0, .inl f)) ∧ h.2 a = some (.inl (0, n1, .inl g)) ∧ ¬ sp < 0 ∧ ¬ dp < 0 ∧ ¬ n < 0 ∧ sp.toNatClampNeg + n.toNatClampNeg ≤ n0 ∧ dp.toNatClampNeg + n.toNatClampNeg ≤ n1 ∧ kk (h.1, va_up h.2 a (some (.inl (0, n1, .inl (va_cpy f g sp.toNatClampNeg dp.toNatClampNeg n.toNatClampNeg))))) = some res := by
  unfold cI at e
  split at e <;> try (cases e; done)
  rename_i t0 n0 f t1 n1 g e1 e2
  split at e <;> try (cases e; done)
  rename_i e3
  obtain ⟨e3, e4, h1, h2, h3, h4, h5⟩ := e3
  subst e3
  subst e4
  exact ⟨n0, n1, f, g, e1, e2, h1, h2, h3, h4, h5, e⟩
theorem cJ_i {a0 a : Nat} {sp dp n : Int32} {kk : xM β} (e : cJ a0 sp a dp n kk h = some res) : ∃ n0 n1 f g, h.2 a0 = some (.inl (1, n0, .inr (.inl f))) ∧ h.2 a = some (.inl (1, n1, .inr (.inl g))) ∧ ¬ sp < 0 ∧ ¬ dp < 0 ∧ ¬ n < 0 ∧ sp.toNatClampNeg + n.toNatClampNeg ≤ n0 ∧ dp.toNatClampNeg + n.toNatClampNeg ≤ n1 ∧ kk (h.1, va_up h.2 a (some (.inl (1, n1, .inr (.inl (va_cpy f g sp.toNatClampNeg dp.toNatClampNeg n.toNatClampNeg)))))) = some res := by
  unfold cJ at e
  split at e <;> try (cases e; done)
  rename_i t0 n0 f t1 n1 g e1 e2
  split at e <;> try (cases e; done)
  rename_i e3
  obtain ⟨e3, e4, h1, h2, h3, h4, h5⟩ := e3
  subst e3
  subst e4
  exact ⟨n0, n1, f, g, e1, e2, h1, h2, h3, h4, h5, e⟩
end XINV
