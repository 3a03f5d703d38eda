/-! the component's heap as a layout: objects by descriptor (kind, i, j); addresses by en, back by tg -/
abbrev xK : Type := Nat × Nat × Nat
/-- addresses, descriptors by address, (partitions, replicas, reads), commands by partition -/
abbrev xX : Type := (xK → Nat) × (Nat → xK) × (Nat × Nat × Nat) × (Nat → Nat)
/-- the row of those that wait; waiting, answered, failed; rows of references (logs 0 .. 2, reads 3) -/
abbrev xY : Type := (Nat → Int32) × (Nat → Int32) × (Nat → Nat → Option Nat)
def en (x : xX) (t i j : Nat) : Nat := x.1 (t, i, j)
def tg (x : xX) (q : Nat) : xK := x.2.1 q
def dP (x : xX) : Nat := x.2.2.1.1
def dN (x : xX) : Nat := x.2.2.1.2.1
def dR (x : xX) : Nat := x.2.2.1.2.2
def dE (x : xX) (p : Nat) : Nat := x.2.2.2 p
abbrev sv (x : xX) (s : Nat) : Prop := s < dN x ∨ (4 ≤ s ∧ s < 4 + dN x)
def vd (x : xX) (t i j : Nat) : Bool := match t with
  | 0 => decide (i = 0 ∧ j = 0)
  | 1 => decide (i = 0 ∧ j = 0)
  | 2 => decide (i = 0 ∧ j = 0)
  | 3 => decide (i = 0 ∧ j = 0)
  | 4 => decide (i = 0 ∧ j = 0)
  | 5 => decide (i < dP x ∧ j = 0)
  | 6 => decide (i < dP x ∧ j = 0)
  | 7 => decide (i = 0 ∧ j = 0)
  | 8 => decide (i < dN x ∧ j = 0)
  | 9 => decide (sv x i ∧ j = 0)
  | 10 => decide (sv x i ∧ j = 0)
  | 11 => decide (sv x i ∧ j = 0)
  | 12 => decide (sv x i ∧ j = 0)
  | 13 => decide (sv x i ∧ j = 0)
  | 14 => decide (sv x i ∧ j < 30)
  | 15 => decide (sv x i ∧ j < 30)
  | 16 => decide (sv x i ∧ j = 0)
  | 17 => decide (i < 8 ∧ j = 0)
  | 18 => decide (i < 8 ∧ j = 0)
  | 19 => decide (i < 8 ∧ j = 0)
  | 20 => decide (i < 8 ∧ j = 0)
  | 21 => decide (i < 8 ∧ j = 0)
  | 22 => decide (i < dP x ∧ 1 ≤ j ∧ j ≤ dE x i)
  | 23 => decide (i < dP x ∧ 1 ≤ j ∧ j ≤ dE x i)
  | 24 => decide (i < dP x ∧ 1 ≤ j ∧ j ≤ dE x i)
  | 25 => decide (i < dR x ∧ j = 0)
  | 26 => decide (i < dR x ∧ j = 0)
  | 27 => decide (i < dR x ∧ j = 0)
  | _ => false
def cl (n : Nat) (f : Nat → Int32) : Nat → Int32 := fun i => if i < n then f i else 0
def clJ (n : Nat) (f : Nat → Int64) : Nat → Int64 := fun i => if i < n then f i else 0
def clA (n : Nat) (f : Nat → Nat) : Nat → Option Nat := fun i => if i < n then some (f i) else none
def aA (t n : Nat) (f : Nat → Option Nat) : xE := .inl (t, n, .inr (.inr (.inr (.inr f))))
def cd (x : xX) (y : xY) (σ : xS) (t i j : Nat) : xE := match t with
  | 0 => .inr (0, [.int (σ.1 0), .ref (en x 4 0 0), .ref (en x 7 0 0), .ref (en x 1 0 0), .ref (en x 2 0 0), .int (σ.1 26), .ref (en x 3 0 0), .int (y.2.1 0), .int (y.2.1 1), .int (y.2.1 2), .long (σ.1 3).toInt64])
  | 1 => aA 7 8 (clA 8 fun k => en x 17 k 0)
  | 2 => aA 8 500 (y.2.2 3)
  | 3 => .inl (0, 40, .inl y.1)
  | 4 => aA 5 (dP x) (clA (dP x) fun k => en x 5 k 0)
  | 5 => .inr (3, [.ref (en x 6 i 0), .int (σ.2.1 4 i), .int (σ.2.1 5 i)])
  | 6 => aA 4 400 (y.2.2 i)
  | 7 => aA 6 (dN x) (clA (dN x) fun k => en x 8 k 0)
  | 8 => .inr (5, [.ref (en x 9 i 0), .ref (en x 9 (4 + i) 0), .int (σ.2.1 21 i), .int (σ.2.1 19 i), .int (σ.2.1 20 i)])
  | 9 => .inr (7, [.ref (en x 10 i 0), .ref (en x 11 i 0), .ref (en x 12 i 0), .ref (en x 13 i 0)])
  | 10 => aA 3 30 (clA 30 fun k => en x 14 i k)
  | 11 => .inl (1, 10, .inr (.inl (clJ 10 fun c => σ.2.2 16 (10 * i + c))))
  | 12 => .inl (0, 10, .inl (cl 10 fun c => σ.2.1 17 (10 * i + c)))
  | 13 => .inr (8, [.ref (en x 16 i 0)])
  | 14 => .inr (2, [.int (σ.2.1 11 (30 * i + j)), .int (σ.2.1 12 (30 * i + j)), .int (σ.2.1 13 (30 * i + j)), .int (σ.2.1 14 (30 * i + j)), .ref (en x 15 i j)])
  | 15 => .inl (0, 10, .inl (cl 10 fun c => σ.2.1 15 (30 * (10 * i + c) + j)))
  | 16 => .inl (0, 3, .inl (cl 3 fun p => σ.2.1 18 (3 * i + p)))
  | 17 => .inr (6, [.int (σ.2.1 22 i), .int (σ.2.1 23 i), .ref (en x 18 i 0), .ref (en x 20 i 0)])
  | 18 => .inr (8, [.ref (en x 19 i 0)])
  | 19 => .inl (0, 3, .inl (cl 3 fun p => σ.2.1 24 (3 * i + p)))
  | 20 => .inr (8, [.ref (en x 21 i 0)])
  | 21 => .inl (0, 3, .inl (cl 3 fun p => σ.2.1 25 (3 * i + p)))
  | 22 => .inr (1, [.int (σ.2.1 6 (401 * i + j)), .int (σ.2.1 7 (401 * i + j)), .int (σ.2.1 8 (401 * i + j)), .int (σ.2.1 9 (401 * i + j)), .ref (en x 23 i j)])
  | 23 => .inr (8, [.ref (en x 24 i j)])
  | 24 => .inl (0, 3, .inl (cl 3 fun p => σ.2.1 10 (3 * (401 * i + j) + p)))
  | 25 => .inr (4, [.int (nI i), .int (σ.2.1 28 i), .ref (en x 26 i 0), .int (σ.2.1 30 i), .long ((σ.2.1 32 i).toInt64 + (σ.2.1 31 i).toInt64), .int (σ.2.1 33 i), .int (σ.2.1 34 i), .int (σ.2.1 27 i), .int (σ.2.1 35 i), .long (σ.2.2 36 i), .long (σ.2.2 37 i), .long (σ.2.1 38 i).toInt64])
  | 26 => .inr (8, [.ref (en x 27 i 0)])
  | 27 => .inl (0, 3, .inl (cl 3 fun p => σ.2.1 29 (3 * i + p)))
  | _ => .inr (99, [])
/-- the layout over a heap -/
def er (x : xX) (y : xY) (σ : xS) (h : xH) : xH := (h.1, fun q => if vd x (tg x q).1 (tg x q).2.1 (tg x q).2.2 = true ∧ en x (tg x q).1 (tg x q).2.1 (tg x q).2.2 = q then some (cd x y σ (tg x q).1 (tg x q).2.1 (tg x q).2.2) else h.2 q)
def Wx (x : xX) : Prop := (∀ t i j, vd x t i j = true → tg x (en x t i j) = (t, i, j)) ∧ (∀ p, p < dP x → dE x p ≤ 400) ∧ dP x ≤ 3 ∧ dN x ≤ 4 ∧ dR x ≤ 500
section XER
variable {β : Type} {x : xX} {y y' : xY} {σ σ' : xS} {h : xH} {i j k : Nat}
theorem er_at (hx : Wx x) {t i j : Nat} (hv : vd x t i j = true) : (er x y σ h).2 (en x t i j) = some (cd x y σ t i j) := by
  have e := hx.1 t i j hv
  show (if vd x (tg x (en x t i j)).1 (tg x (en x t i j)).2.1 (tg x (en x t i j)).2.2 = true ∧ en x (tg x (en x t i j)).1 (tg x (en x t i j)).2.1 (tg x (en x t i j)).2.2 = en x t i j then some (cd x y σ (tg x (en x t i j)).1 (tg x (en x t i j)).2.1 (tg x (en x t i j)).2.2) else h.2 (en x t i j)) = _
  rw [e, if_pos ⟨hv, rfl⟩]
theorem er_up (hx : Wx x) {t i j : Nat} {e' : xE} (hv : vd x t i j = true) (he : cd x y' σ' t i j = e') (ho : ∀ t' i' j', vd x t' i' j' = true → ¬ (t' = t ∧ i' = i ∧ j' = j) → cd x y' σ' t' i' j' = cd x y σ t' i' j') : ((er x y σ h).1, va_up (er x y σ h).2 (en x t i j) (some e')) = er x y' σ' h := by
  refine Prod.ext rfl (funext fun q => ?_)
  show va_up (er x y σ h).2 (en x t i j) (some e') q = (er x y' σ' h).2 q
  by_cases hq : q = en x t i j
  · subst hq
    rw [er_at hx hv, he]
    simp [va_up]
  · simp only [va_up, if_neg hq]
    show (if vd x (tg x q).1 (tg x q).2.1 (tg x q).2.2 = true ∧ en x (tg x q).1 (tg x q).2.1 (tg x q).2.2 = q then some (cd x y σ (tg x q).1 (tg x q).2.1 (tg x q).2.2) else h.2 q) = (if vd x (tg x q).1 (tg x q).2.1 (tg x q).2.2 = true ∧ en x (tg x q).1 (tg x q).2.1 (tg x q).2.2 = q then some (cd x y' σ' (tg x q).1 (tg x q).2.1 (tg x q).2.2) else h.2 q)
    by_cases hc : vd x (tg x q).1 (tg x q).2.1 (tg x q).2.2 = true ∧ en x (tg x q).1 (tg x q).2.1 (tg x q).2.2 = q
    · rw [if_pos hc, if_pos hc, ho _ _ _ hc.1]
      intro ⟨e1, e2, e3⟩
      apply hq
      rw [← hc.2, e1, e2, e3]
    · rw [if_neg hc, if_neg hc]
theorem r_gI {t i j ci f : Nat} {fs : List Value} {v : Int32} {kk : Int32 → xM β} (hx : Wx x) (hv : vd x t i j = true) (hc : cd x y σ t i j = .inr (ci, fs)) (hf : fs[f]? = some (.int v)) : gI (en x t i j) ci f kk (er x y σ h) = kk v (er x y σ h) := by
  simp [gI, er_at hx hv, hc, hf]
theorem r_gJ {t i j ci f : Nat} {fs : List Value} {v : Int64} {kk : Int64 → xM β} (hx : Wx x) (hv : vd x t i j = true) (hc : cd x y σ t i j = .inr (ci, fs)) (hf : fs[f]? = some (.long v)) : gJ (en x t i j) ci f kk (er x y σ h) = kk v (er x y σ h) := by
  simp [gJ, er_at hx hv, hc, hf]
theorem r_gA {t i j ci f : Nat} {fs : List Value} {v : Nat} {kk : Nat → xM β} (hx : Wx x) (hv : vd x t i j = true) (hc : cd x y σ t i j = .inr (ci, fs)) (hf : fs[f]? = some (.ref v)) : gA (en x t i j) ci f kk (er x y σ h) = kk v (er x y σ h) := by
  simp [gA, er_at hx hv, hc, hf]
theorem r_xv {t i j ci : Nat} {fs : List Value} {K : xM β} (hx : Wx x) (hv : vd x t i j = true) (hc : cd x y σ t i j = .inr (ci, fs)) : xv (en x t i j) ci K (er x y σ h) = K (er x y σ h) := by
  simp [xv, er_at hx hv, hc]
theorem r_pV {t i j ci f : Nat} {fs : List Value} {v : Value} {kk : xM β} (hx : Wx x) (hv : vd x t i j = true) (hc : cd x y σ t i j = .inr (ci, fs)) (hf : f < fs.length) (he : cd x y' σ' t i j = .inr (ci, fs.set f v)) (ho : ∀ t' i' j', vd x t' i' j' = true → ¬ (t' = t ∧ i' = i ∧ j' = j) → cd x y' σ' t' i' j' = cd x y σ t' i' j') : pV (en x t i j) ci f v kk (er x y σ h) = kk (er x y' σ' h) := by
  rw [← er_up hx hv he ho]
  simp [pV, er_at hx hv, hc, hf]
theorem r_lI {t i j n : Nat} {f : Nat → Int32} {c : Nat} {kk : Int32 → xM β} (hx : Wx x) (hv : vd x t i j = true) (hc : cd x y σ t i j = .inl (0, n, .inl f)) (hn : c < n) (hb : n < 2 ^ 31) : lI (en x t i j) (nI c) kk (er x y σ h) = kk (f c) (er x y σ h) := by
  simp only [lI, er_at hx hv, hc]
  rw [if_pos ⟨by decide, nI_in hn hb⟩, nI_clamp (by omega)]
theorem r_lJ {t i j n : Nat} {f : Nat → Int64} {c : Nat} {kk : Int64 → xM β} (hx : Wx x) (hv : vd x t i j = true) (hc : cd x y σ t i j = .inl (1, n, .inr (.inl f))) (hn : c < n) (hb : n < 2 ^ 31) : lJ (en x t i j) (nI c) kk (er x y σ h) = kk (f c) (er x y σ h) := by
  simp only [lJ, er_at hx hv, hc]
  rw [if_pos ⟨by decide, nI_in hn hb⟩, nI_clamp (by omega)]
theorem r_lA {t i j n ta : Nat} {f : Nat → Option Nat} {c a : Nat} {kk : Nat → xM β} (hx : Wx x) (hv : vd x t i j = true) (hc : cd x y σ t i j = aA ta n f) (hn : c < n) (hb : n < 2 ^ 31) (ha : f c = some a) : lA ta (en x t i j) (nI c) kk (er x y σ h) = kk a (er x y σ h) := by
  simp only [lA, er_at hx hv, hc, aA]
  rw [if_pos ⟨by simp, nI_in hn hb⟩, nI_clamp (by omega), ha]
theorem r_aL {t i j n ta : Nat} {f : Nat → Option Nat} {kk : Int32 → xM β} (hx : Wx x) (hv : vd x t i j = true) (hc : cd x y σ t i j = aA ta n f) (ht : ta < 10) : aL (en x t i j) kk (er x y σ h) = kk (nI n) (er x y σ h) := by
  simp [aL, er_at hx hv, hc, aA, ht]
theorem r_sI {t i j n : Nat} {f : Nat → Int32} {c : Nat} {v : Int32} {kk : xM β} (hx : Wx x) (hv : vd x t i j = true) (hc : cd x y σ t i j = .inl (0, n, .inl f)) (hn : c < n) (hb : n < 2 ^ 31) (he : cd x y' σ' t i j = .inl (0, n, .inl (va_up f c v))) (ho : ∀ t' i' j', vd x t' i' j' = true → ¬ (t' = t ∧ i' = i ∧ j' = j) → cd x y' σ' t' i' j' = cd x y σ t' i' j') : sI (en x t i j) (nI c) v kk (er x y σ h) = kk (er x y' σ' h) := by
  rw [← er_up hx hv he ho]
  simp only [sI, er_at hx hv, hc]
  rw [if_pos ⟨by decide, nI_in hn hb⟩, nI_clamp (by omega)]
theorem r_sJ {t i j n : Nat} {f : Nat → Int64} {c : Nat} {v : Int64} {kk : xM β} (hx : Wx x) (hv : vd x t i j = true) (hc : cd x y σ t i j = .inl (1, n, .inr (.inl f))) (hn : c < n) (hb : n < 2 ^ 31) (he : cd x y' σ' t i j = .inl (1, n, .inr (.inl (va_up f c v)))) (ho : ∀ t' i' j', vd x t' i' j' = true → ¬ (t' = t ∧ i' = i ∧ j' = j) → cd x y' σ' t' i' j' = cd x y σ t' i' j') : sJ (en x t i j) (nI c) v kk (er x y σ h) = kk (er x y' σ' h) := by
  rw [← er_up hx hv he ho]
  simp only [sJ, er_at hx hv, hc]
  rw [if_pos ⟨by decide, nI_in hn hb⟩, nI_clamp (by omega)]
theorem cl_up {n c : Nat} {f : Nat → Int32} {v : Int32} (h : c < n) : va_up (cl n f) c v = cl n (va_up f c v) := by
  funext q
  unfold va_up cl
  by_cases hq : q = c
  · subst hq
    simp [h]
  · simp [hq]
theorem clJ_up {n c : Nat} {f : Nat → Int64} {v : Int64} (h : c < n) : va_up (clJ n f) c v = clJ n (va_up f c v) := by
  funext q
  unfold va_up clJ
  by_cases hq : q = c
  · subst hq
    simp [h]
  · simp [hq]
theorem cl_at {n c : Nat} {f : Nat → Int32} (h : c < n) : cl n f c = f c := by simp [cl, h]
theorem clJ_at {n c : Nat} {f : Nat → Int64} (h : c < n) : clJ n f c = f c := by simp [clJ, h]
theorem clA_at {n c : Nat} {f : Nat → Nat} (h : c < n) : clA n f c = some (f c) := by simp [clA, h]
theorem cl_ext {n : Nat} {f g : Nat → Int32} (h : ∀ c, c < n → f c = g c) : cl n f = cl n g := by
  funext q
  unfold cl
  split
  · exact h q (by assumption)
  · rfl
theorem clJ_ext {n : Nat} {f g : Nat → Int64} (h : ∀ c, c < n → f c = g c) : clJ n f = clJ n g := by
  funext q
  unfold clJ
  split
  · exact h q (by assumption)
  · rfl
theorem vv0  : vd x 0 0 0 = true := by simp [vd]
theorem vv1  : vd x 1 0 0 = true := by simp [vd]
theorem vv2  : vd x 2 0 0 = true := by simp [vd]
theorem vv3  : vd x 3 0 0 = true := by simp [vd]
theorem vv4  : vd x 4 0 0 = true := by simp [vd]
theorem vv5 (hi : i < dP x) : vd x 5 i 0 = true := by simp only [vd, decide_eq_true_iff]; exact ⟨hi, trivial⟩
theorem vv6 (hi : i < dP x) : vd x 6 i 0 = true := by simp only [vd, decide_eq_true_iff]; exact ⟨hi, trivial⟩
theorem vv7  : vd x 7 0 0 = true := by simp [vd]
theorem vv8 (hi : i < dN x) : vd x 8 i 0 = true := by simp only [vd, decide_eq_true_iff]; exact ⟨hi, trivial⟩
theorem vv9 (hi : sv x i) : vd x 9 i 0 = true := by simp only [vd, decide_eq_true_iff]; exact ⟨hi, trivial⟩
theorem vv10 (hi : sv x i) : vd x 10 i 0 = true := by simp only [vd, decide_eq_true_iff]; exact ⟨hi, trivial⟩
theorem vv11 (hi : sv x i) : vd x 11 i 0 = true := by simp only [vd, decide_eq_true_iff]; exact ⟨hi, trivial⟩
theorem vv12 (hi : sv x i) : vd x 12 i 0 = true := by simp only [vd, decide_eq_true_iff]; exact ⟨hi, trivial⟩
theorem vv13 (hi : sv x i) : vd x 13 i 0 = true := by simp only [vd, decide_eq_true_iff]; exact ⟨hi, trivial⟩
theorem vv14 (hi : sv x i) (hj : j < 30) : vd x 14 i j = true := by simp only [vd, decide_eq_true_iff]; exact ⟨hi, hj⟩
theorem vv15 (hi : sv x i) (hj : j < 30) : vd x 15 i j = true := by simp only [vd, decide_eq_true_iff]; exact ⟨hi, hj⟩
theorem vv16 (hi : sv x i) : vd x 16 i 0 = true := by simp only [vd, decide_eq_true_iff]; exact ⟨hi, trivial⟩
theorem vv17 (hi : i < 8) : vd x 17 i 0 = true := by simp only [vd, decide_eq_true_iff]; exact ⟨hi, trivial⟩
theorem vv18 (hi : i < 8) : vd x 18 i 0 = true := by simp only [vd, decide_eq_true_iff]; exact ⟨hi, trivial⟩
theorem vv19 (hi : i < 8) : vd x 19 i 0 = true := by simp only [vd, decide_eq_true_iff]; exact ⟨hi, trivial⟩
theorem vv20 (hi : i < 8) : vd x 20 i 0 = true := by simp only [vd, decide_eq_true_iff]; exact ⟨hi, trivial⟩
theorem vv21 (hi : i < 8) : vd x 21 i 0 = true := by simp only [vd, decide_eq_true_iff]; exact ⟨hi, trivial⟩
theorem vv22 (hi : i < dP x) (hj : 1 ≤ j ∧ j ≤ dE x i) : vd x 22 i j = true := by simp only [vd, decide_eq_true_iff]; exact ⟨hi, hj.1, hj.2⟩
theorem vv23 (hi : i < dP x) (hj : 1 ≤ j ∧ j ≤ dE x i) : vd x 23 i j = true := by simp only [vd, decide_eq_true_iff]; exact ⟨hi, hj.1, hj.2⟩
theorem vv24 (hi : i < dP x) (hj : 1 ≤ j ∧ j ≤ dE x i) : vd x 24 i j = true := by simp only [vd, decide_eq_true_iff]; exact ⟨hi, hj.1, hj.2⟩
theorem vv25 (hi : i < dR x) : vd x 25 i 0 = true := by simp only [vd, decide_eq_true_iff]; exact ⟨hi, trivial⟩
theorem vv26 (hi : i < dR x) : vd x 26 i 0 = true := by simp only [vd, decide_eq_true_iff]; exact ⟨hi, trivial⟩
theorem vv27 (hi : i < dR x) : vd x 27 i 0 = true := by simp only [vd, decide_eq_true_iff]; exact ⟨hi, trivial⟩
theorem rv0 (hx : Wx x)  {K : xM β} : xv (en x 0 0 0) 0 K (er x y σ h) = K (er x y σ h) := r_xv hx vv0 rfl
theorem rg0_0 (hx : Wx x)  {kk : Int32 → xM β} : gI (en x 0 0 0) 0 0 kk (er x y σ h) = kk (σ.1 0) (er x y σ h) := r_gI hx vv0 rfl rfl
theorem rg0_1 (hx : Wx x)  {kk : Nat → xM β} : gA (en x 0 0 0) 0 1 kk (er x y σ h) = kk (en x 4 0 0) (er x y σ h) := r_gA hx vv0 rfl rfl
theorem rg0_2 (hx : Wx x)  {kk : Nat → xM β} : gA (en x 0 0 0) 0 2 kk (er x y σ h) = kk (en x 7 0 0) (er x y σ h) := r_gA hx vv0 rfl rfl
theorem rg0_3 (hx : Wx x)  {kk : Nat → xM β} : gA (en x 0 0 0) 0 3 kk (er x y σ h) = kk (en x 1 0 0) (er x y σ h) := r_gA hx vv0 rfl rfl
theorem rg0_4 (hx : Wx x)  {kk : Nat → xM β} : gA (en x 0 0 0) 0 4 kk (er x y σ h) = kk (en x 2 0 0) (er x y σ h) := r_gA hx vv0 rfl rfl
theorem rg0_5 (hx : Wx x)  {kk : Int32 → xM β} : gI (en x 0 0 0) 0 5 kk (er x y σ h) = kk (σ.1 26) (er x y σ h) := r_gI hx vv0 rfl rfl
theorem rg0_6 (hx : Wx x)  {kk : Nat → xM β} : gA (en x 0 0 0) 0 6 kk (er x y σ h) = kk (en x 3 0 0) (er x y σ h) := r_gA hx vv0 rfl rfl
theorem rg0_7 (hx : Wx x)  {kk : Int32 → xM β} : gI (en x 0 0 0) 0 7 kk (er x y σ h) = kk (y.2.1 0) (er x y σ h) := r_gI hx vv0 rfl rfl
theorem rg0_8 (hx : Wx x)  {kk : Int32 → xM β} : gI (en x 0 0 0) 0 8 kk (er x y σ h) = kk (y.2.1 1) (er x y σ h) := r_gI hx vv0 rfl rfl
theorem rg0_9 (hx : Wx x)  {kk : Int32 → xM β} : gI (en x 0 0 0) 0 9 kk (er x y σ h) = kk (y.2.1 2) (er x y σ h) := r_gI hx vv0 rfl rfl
theorem rg0_10 (hx : Wx x)  {kk : Int64 → xM β} : gJ (en x 0 0 0) 0 10 kk (er x y σ h) = kk ((σ.1 3).toInt64) (er x y σ h) := r_gJ hx vv0 rfl rfl
theorem rv5 (hx : Wx x) (hi : i < dP x) {K : xM β} : xv (en x 5 i 0) 3 K (er x y σ h) = K (er x y σ h) := r_xv hx (vv5 hi) rfl
theorem rg5_0 (hx : Wx x) (hi : i < dP x) {kk : Nat → xM β} : gA (en x 5 i 0) 3 0 kk (er x y σ h) = kk (en x 6 i 0) (er x y σ h) := r_gA hx (vv5 hi) rfl rfl
theorem rg5_1 (hx : Wx x) (hi : i < dP x) {kk : Int32 → xM β} : gI (en x 5 i 0) 3 1 kk (er x y σ h) = kk (σ.2.1 4 i) (er x y σ h) := r_gI hx (vv5 hi) rfl rfl
theorem rg5_2 (hx : Wx x) (hi : i < dP x) {kk : Int32 → xM β} : gI (en x 5 i 0) 3 2 kk (er x y σ h) = kk (σ.2.1 5 i) (er x y σ h) := r_gI hx (vv5 hi) rfl rfl
theorem rv8 (hx : Wx x) (hi : i < dN x) {K : xM β} : xv (en x 8 i 0) 5 K (er x y σ h) = K (er x y σ h) := r_xv hx (vv8 hi) rfl
theorem rg8_0 (hx : Wx x) (hi : i < dN x) {kk : Nat → xM β} : gA (en x 8 i 0) 5 0 kk (er x y σ h) = kk (en x 9 i 0) (er x y σ h) := r_gA hx (vv8 hi) rfl rfl
theorem rg8_1 (hx : Wx x) (hi : i < dN x) {kk : Nat → xM β} : gA (en x 8 i 0) 5 1 kk (er x y σ h) = kk (en x 9 (4 + i) 0) (er x y σ h) := r_gA hx (vv8 hi) rfl rfl
theorem rg8_2 (hx : Wx x) (hi : i < dN x) {kk : Int32 → xM β} : gI (en x 8 i 0) 5 2 kk (er x y σ h) = kk (σ.2.1 21 i) (er x y σ h) := r_gI hx (vv8 hi) rfl rfl
theorem rg8_3 (hx : Wx x) (hi : i < dN x) {kk : Int32 → xM β} : gI (en x 8 i 0) 5 3 kk (er x y σ h) = kk (σ.2.1 19 i) (er x y σ h) := r_gI hx (vv8 hi) rfl rfl
theorem rg8_4 (hx : Wx x) (hi : i < dN x) {kk : Int32 → xM β} : gI (en x 8 i 0) 5 4 kk (er x y σ h) = kk (σ.2.1 20 i) (er x y σ h) := r_gI hx (vv8 hi) rfl rfl
theorem rv9 (hx : Wx x) (hi : sv x i) {K : xM β} : xv (en x 9 i 0) 7 K (er x y σ h) = K (er x y σ h) := r_xv hx (vv9 hi) rfl
theorem rg9_0 (hx : Wx x) (hi : sv x i) {kk : Nat → xM β} : gA (en x 9 i 0) 7 0 kk (er x y σ h) = kk (en x 10 i 0) (er x y σ h) := r_gA hx (vv9 hi) rfl rfl
theorem rg9_1 (hx : Wx x) (hi : sv x i) {kk : Nat → xM β} : gA (en x 9 i 0) 7 1 kk (er x y σ h) = kk (en x 11 i 0) (er x y σ h) := r_gA hx (vv9 hi) rfl rfl
theorem rg9_2 (hx : Wx x) (hi : sv x i) {kk : Nat → xM β} : gA (en x 9 i 0) 7 2 kk (er x y σ h) = kk (en x 12 i 0) (er x y σ h) := r_gA hx (vv9 hi) rfl rfl
theorem rg9_3 (hx : Wx x) (hi : sv x i) {kk : Nat → xM β} : gA (en x 9 i 0) 7 3 kk (er x y σ h) = kk (en x 13 i 0) (er x y σ h) := r_gA hx (vv9 hi) rfl rfl
theorem rv13 (hx : Wx x) (hi : sv x i) {K : xM β} : xv (en x 13 i 0) 8 K (er x y σ h) = K (er x y σ h) := r_xv hx (vv13 hi) rfl
theorem rg13_0 (hx : Wx x) (hi : sv x i) {kk : Nat → xM β} : gA (en x 13 i 0) 8 0 kk (er x y σ h) = kk (en x 16 i 0) (er x y σ h) := r_gA hx (vv13 hi) rfl rfl
theorem rv14 (hx : Wx x) (hi : sv x i) (hj : j < 30) {K : xM β} : xv (en x 14 i j) 2 K (er x y σ h) = K (er x y σ h) := r_xv hx (vv14 hi hj) rfl
theorem rg14_0 (hx : Wx x) (hi : sv x i) (hj : j < 30) {kk : Int32 → xM β} : gI (en x 14 i j) 2 0 kk (er x y σ h) = kk (σ.2.1 11 (30 * i + j)) (er x y σ h) := r_gI hx (vv14 hi hj) rfl rfl
theorem rg14_1 (hx : Wx x) (hi : sv x i) (hj : j < 30) {kk : Int32 → xM β} : gI (en x 14 i j) 2 1 kk (er x y σ h) = kk (σ.2.1 12 (30 * i + j)) (er x y σ h) := r_gI hx (vv14 hi hj) rfl rfl
theorem rg14_2 (hx : Wx x) (hi : sv x i) (hj : j < 30) {kk : Int32 → xM β} : gI (en x 14 i j) 2 2 kk (er x y σ h) = kk (σ.2.1 13 (30 * i + j)) (er x y σ h) := r_gI hx (vv14 hi hj) rfl rfl
theorem rg14_3 (hx : Wx x) (hi : sv x i) (hj : j < 30) {kk : Int32 → xM β} : gI (en x 14 i j) 2 3 kk (er x y σ h) = kk (σ.2.1 14 (30 * i + j)) (er x y σ h) := r_gI hx (vv14 hi hj) rfl rfl
theorem rg14_4 (hx : Wx x) (hi : sv x i) (hj : j < 30) {kk : Nat → xM β} : gA (en x 14 i j) 2 4 kk (er x y σ h) = kk (en x 15 i j) (er x y σ h) := r_gA hx (vv14 hi hj) rfl rfl
theorem rv17 (hx : Wx x) (hi : i < 8) {K : xM β} : xv (en x 17 i 0) 6 K (er x y σ h) = K (er x y σ h) := r_xv hx (vv17 hi) rfl
theorem rg17_0 (hx : Wx x) (hi : i < 8) {kk : Int32 → xM β} : gI (en x 17 i 0) 6 0 kk (er x y σ h) = kk (σ.2.1 22 i) (er x y σ h) := r_gI hx (vv17 hi) rfl rfl
theorem rg17_1 (hx : Wx x) (hi : i < 8) {kk : Int32 → xM β} : gI (en x 17 i 0) 6 1 kk (er x y σ h) = kk (σ.2.1 23 i) (er x y σ h) := r_gI hx (vv17 hi) rfl rfl
theorem rg17_2 (hx : Wx x) (hi : i < 8) {kk : Nat → xM β} : gA (en x 17 i 0) 6 2 kk (er x y σ h) = kk (en x 18 i 0) (er x y σ h) := r_gA hx (vv17 hi) rfl rfl
theorem rg17_3 (hx : Wx x) (hi : i < 8) {kk : Nat → xM β} : gA (en x 17 i 0) 6 3 kk (er x y σ h) = kk (en x 20 i 0) (er x y σ h) := r_gA hx (vv17 hi) rfl rfl
theorem rv18 (hx : Wx x) (hi : i < 8) {K : xM β} : xv (en x 18 i 0) 8 K (er x y σ h) = K (er x y σ h) := r_xv hx (vv18 hi) rfl
theorem rg18_0 (hx : Wx x) (hi : i < 8) {kk : Nat → xM β} : gA (en x 18 i 0) 8 0 kk (er x y σ h) = kk (en x 19 i 0) (er x y σ h) := r_gA hx (vv18 hi) rfl rfl
theorem rv20 (hx : Wx x) (hi : i < 8) {K : xM β} : xv (en x 20 i 0) 8 K (er x y σ h) = K (er x y σ h) := r_xv hx (vv20 hi) rfl
theorem rg20_0 (hx : Wx x) (hi : i < 8) {kk : Nat → xM β} : gA (en x 20 i 0) 8 0 kk (er x y σ h) = kk (en x 21 i 0) (er x y σ h) := r_gA hx (vv20 hi) rfl rfl
theorem rv22 (hx : Wx x) (hi : i < dP x) (hj : 1 ≤ j ∧ j ≤ dE x i) {K : xM β} : xv (en x 22 i j) 1 K (er x y σ h) = K (er x y σ h) := r_xv hx (vv22 hi hj) rfl
theorem rg22_0 (hx : Wx x) (hi : i < dP x) (hj : 1 ≤ j ∧ j ≤ dE x i) {kk : Int32 → xM β} : gI (en x 22 i j) 1 0 kk (er x y σ h) = kk (σ.2.1 6 (401 * i + j)) (er x y σ h) := r_gI hx (vv22 hi hj) rfl rfl
theorem rg22_1 (hx : Wx x) (hi : i < dP x) (hj : 1 ≤ j ∧ j ≤ dE x i) {kk : Int32 → xM β} : gI (en x 22 i j) 1 1 kk (er x y σ h) = kk (σ.2.1 7 (401 * i + j)) (er x y σ h) := r_gI hx (vv22 hi hj) rfl rfl
theorem rg22_2 (hx : Wx x) (hi : i < dP x) (hj : 1 ≤ j ∧ j ≤ dE x i) {kk : Int32 → xM β} : gI (en x 22 i j) 1 2 kk (er x y σ h) = kk (σ.2.1 8 (401 * i + j)) (er x y σ h) := r_gI hx (vv22 hi hj) rfl rfl
theorem rg22_3 (hx : Wx x) (hi : i < dP x) (hj : 1 ≤ j ∧ j ≤ dE x i) {kk : Int32 → xM β} : gI (en x 22 i j) 1 3 kk (er x y σ h) = kk (σ.2.1 9 (401 * i + j)) (er x y σ h) := r_gI hx (vv22 hi hj) rfl rfl
theorem rg22_4 (hx : Wx x) (hi : i < dP x) (hj : 1 ≤ j ∧ j ≤ dE x i) {kk : Nat → xM β} : gA (en x 22 i j) 1 4 kk (er x y σ h) = kk (en x 23 i j) (er x y σ h) := r_gA hx (vv22 hi hj) rfl rfl
theorem rv23 (hx : Wx x) (hi : i < dP x) (hj : 1 ≤ j ∧ j ≤ dE x i) {K : xM β} : xv (en x 23 i j) 8 K (er x y σ h) = K (er x y σ h) := r_xv hx (vv23 hi hj) rfl
theorem rg23_0 (hx : Wx x) (hi : i < dP x) (hj : 1 ≤ j ∧ j ≤ dE x i) {kk : Nat → xM β} : gA (en x 23 i j) 8 0 kk (er x y σ h) = kk (en x 24 i j) (er x y σ h) := r_gA hx (vv23 hi hj) rfl rfl
theorem rv25 (hx : Wx x) (hi : i < dR x) {K : xM β} : xv (en x 25 i 0) 4 K (er x y σ h) = K (er x y σ h) := r_xv hx (vv25 hi) rfl
theorem rg25_0 (hx : Wx x) (hi : i < dR x) {kk : Int32 → xM β} : gI (en x 25 i 0) 4 0 kk (er x y σ h) = kk (nI i) (er x y σ h) := r_gI hx (vv25 hi) rfl rfl
theorem rg25_1 (hx : Wx x) (hi : i < dR x) {kk : Int32 → xM β} : gI (en x 25 i 0) 4 1 kk (er x y σ h) = kk (σ.2.1 28 i) (er x y σ h) := r_gI hx (vv25 hi) rfl rfl
theorem rg25_2 (hx : Wx x) (hi : i < dR x) {kk : Nat → xM β} : gA (en x 25 i 0) 4 2 kk (er x y σ h) = kk (en x 26 i 0) (er x y σ h) := r_gA hx (vv25 hi) rfl rfl
theorem rg25_3 (hx : Wx x) (hi : i < dR x) {kk : Int32 → xM β} : gI (en x 25 i 0) 4 3 kk (er x y σ h) = kk (σ.2.1 30 i) (er x y σ h) := r_gI hx (vv25 hi) rfl rfl
theorem rg25_4 (hx : Wx x) (hi : i < dR x) {kk : Int64 → xM β} : gJ (en x 25 i 0) 4 4 kk (er x y σ h) = kk ((σ.2.1 32 i).toInt64 + (σ.2.1 31 i).toInt64) (er x y σ h) := r_gJ hx (vv25 hi) rfl rfl
theorem rg25_5 (hx : Wx x) (hi : i < dR x) {kk : Int32 → xM β} : gI (en x 25 i 0) 4 5 kk (er x y σ h) = kk (σ.2.1 33 i) (er x y σ h) := r_gI hx (vv25 hi) rfl rfl
theorem rg25_6 (hx : Wx x) (hi : i < dR x) {kk : Int32 → xM β} : gI (en x 25 i 0) 4 6 kk (er x y σ h) = kk (σ.2.1 34 i) (er x y σ h) := r_gI hx (vv25 hi) rfl rfl
theorem rg25_7 (hx : Wx x) (hi : i < dR x) {kk : Int32 → xM β} : gI (en x 25 i 0) 4 7 kk (er x y σ h) = kk (σ.2.1 27 i) (er x y σ h) := r_gI hx (vv25 hi) rfl rfl
theorem rg25_8 (hx : Wx x) (hi : i < dR x) {kk : Int32 → xM β} : gI (en x 25 i 0) 4 8 kk (er x y σ h) = kk (σ.2.1 35 i) (er x y σ h) := r_gI hx (vv25 hi) rfl rfl
theorem rg25_9 (hx : Wx x) (hi : i < dR x) {kk : Int64 → xM β} : gJ (en x 25 i 0) 4 9 kk (er x y σ h) = kk (σ.2.2 36 i) (er x y σ h) := r_gJ hx (vv25 hi) rfl rfl
theorem rg25_10 (hx : Wx x) (hi : i < dR x) {kk : Int64 → xM β} : gJ (en x 25 i 0) 4 10 kk (er x y σ h) = kk (σ.2.2 37 i) (er x y σ h) := r_gJ hx (vv25 hi) rfl rfl
theorem rg25_11 (hx : Wx x) (hi : i < dR x) {kk : Int64 → xM β} : gJ (en x 25 i 0) 4 11 kk (er x y σ h) = kk ((σ.2.1 38 i).toInt64) (er x y σ h) := r_gJ hx (vv25 hi) rfl rfl
theorem rv26 (hx : Wx x) (hi : i < dR x) {K : xM β} : xv (en x 26 i 0) 8 K (er x y σ h) = K (er x y σ h) := r_xv hx (vv26 hi) rfl
theorem rg26_0 (hx : Wx x) (hi : i < dR x) {kk : Nat → xM β} : gA (en x 26 i 0) 8 0 kk (er x y σ h) = kk (en x 27 i 0) (er x y σ h) := r_gA hx (vv26 hi) rfl rfl
theorem rl12 (hx : Wx x) (hi : sv x i) {c : Nat} (hc : c < 10) {kk : Int32 → xM β} : lI (en x 12 i 0) (nI c) kk (er x y σ h) = kk (σ.2.1 17 (10 * i + c)) (er x y σ h) := (r_lI hx (vv12 hi) rfl hc (by omega)).trans (by rw [cl_at hc])
theorem rl15 (hx : Wx x) (hi : sv x i) (hj : j < 30) {c : Nat} (hc : c < 10) {kk : Int32 → xM β} : lI (en x 15 i j) (nI c) kk (er x y σ h) = kk (σ.2.1 15 (30 * (10 * i + c) + j)) (er x y σ h) := (r_lI hx (vv15 hi hj) rfl hc (by omega)).trans (by rw [cl_at hc])
theorem rl16 (hx : Wx x) (hi : sv x i) {c : Nat} (hc : c < 3) {kk : Int32 → xM β} : lI (en x 16 i 0) (nI c) kk (er x y σ h) = kk (σ.2.1 18 (3 * i + c)) (er x y σ h) := (r_lI hx (vv16 hi) rfl hc (by omega)).trans (by rw [cl_at hc])
theorem rl19 (hx : Wx x) (hi : i < 8) {c : Nat} (hc : c < 3) {kk : Int32 → xM β} : lI (en x 19 i 0) (nI c) kk (er x y σ h) = kk (σ.2.1 24 (3 * i + c)) (er x y σ h) := (r_lI hx (vv19 hi) rfl hc (by omega)).trans (by rw [cl_at hc])
theorem rl21 (hx : Wx x) (hi : i < 8) {c : Nat} (hc : c < 3) {kk : Int32 → xM β} : lI (en x 21 i 0) (nI c) kk (er x y σ h) = kk (σ.2.1 25 (3 * i + c)) (er x y σ h) := (r_lI hx (vv21 hi) rfl hc (by omega)).trans (by rw [cl_at hc])
theorem rl24 (hx : Wx x) (hi : i < dP x) (hj : 1 ≤ j ∧ j ≤ dE x i) {c : Nat} (hc : c < 3) {kk : Int32 → xM β} : lI (en x 24 i j) (nI c) kk (er x y σ h) = kk (σ.2.1 10 (3 * (401 * i + j) + c)) (er x y σ h) := (r_lI hx (vv24 hi hj) rfl hc (by omega)).trans (by rw [cl_at hc])
theorem rl27 (hx : Wx x) (hi : i < dR x) {c : Nat} (hc : c < 3) {kk : Int32 → xM β} : lI (en x 27 i 0) (nI c) kk (er x y σ h) = kk (σ.2.1 29 (3 * i + c)) (er x y σ h) := (r_lI hx (vv27 hi) rfl hc (by omega)).trans (by rw [cl_at hc])
theorem rl11 (hx : Wx x) (hi : sv x i) {c : Nat} (hc : c < 10) {kk : Int64 → xM β} : lJ (en x 11 i 0) (nI c) kk (er x y σ h) = kk (σ.2.2 16 (10 * i + c)) (er x y σ h) := (r_lJ hx (vv11 hi) rfl hc (by omega)).trans (by rw [clJ_at hc])
theorem rl3 (hx : Wx x) {c : Nat} (hc : c < 40) {kk : Int32 → xM β} : lI (en x 3 0 0) (nI c) kk (er x y σ h) = kk (y.1 c) (er x y σ h) := r_lI hx vv3 rfl hc (by omega)
theorem rl1 (hx : Wx x) {c : Nat} (hc : c < 8) {kk : Nat → xM β} : lA 7 (en x 1 0 0) (nI c) kk (er x y σ h) = kk (en x 17 c 0) (er x y σ h) := r_lA hx vv1 rfl hc (by omega) (clA_at hc)
theorem rl4 (hx : Wx x) {c : Nat} (hc : c < dP x) {kk : Nat → xM β} : lA 5 (en x 4 0 0) (nI c) kk (er x y σ h) = kk (en x 5 c 0) (er x y σ h) := r_lA hx vv4 rfl hc (by have := hx.2.2.1; omega) (clA_at hc)
theorem rl7 (hx : Wx x) {c : Nat} (hc : c < dN x) {kk : Nat → xM β} : lA 6 (en x 7 0 0) (nI c) kk (er x y σ h) = kk (en x 8 c 0) (er x y σ h) := r_lA hx vv7 rfl hc (by have := hx.2.2.2.1; omega) (clA_at hc)
theorem rl10 (hx : Wx x) (hi : sv x i) {c : Nat} (hc : c < 30) {kk : Nat → xM β} : lA 3 (en x 10 i 0) (nI c) kk (er x y σ h) = kk (en x 14 i c) (er x y σ h) := r_lA hx (vv10 hi) rfl hc (by omega) (clA_at hc)
theorem rl2 (hx : Wx x) {c a : Nat} (hc : c < 500) (ha : y.2.2 3 c = some a) {kk : Nat → xM β} : lA 8 (en x 2 0 0) (nI c) kk (er x y σ h) = kk a (er x y σ h) := r_lA hx vv2 rfl hc (by omega) ha
theorem rl6 (hx : Wx x) (hi : i < dP x) {c a : Nat} (hc : c < 400) (ha : y.2.2 i c = some a) {kk : Nat → xM β} : lA 4 (en x 6 i 0) (nI c) kk (er x y σ h) = kk a (er x y σ h) := r_lA hx (vv6 hi) rfl hc (by omega) ha
theorem ra7 (hx : Wx x) {kk : Int32 → xM β} : aL (en x 7 0 0) kk (er x y σ h) = kk (nI (dN x)) (er x y σ h) := r_aL hx vv7 rfl (by omega)
theorem ra10 (hx : Wx x) (hi : sv x i) {kk : Int32 → xM β} : aL (en x 10 i 0) kk (er x y σ h) = kk (nI 30) (er x y σ h) := r_aL hx (vv10 hi) rfl (by omega)
theorem ra4 (hx : Wx x) {kk : Int32 → xM β} : aL (en x 4 0 0) kk (er x y σ h) = kk (nI (dP x)) (er x y σ h) := r_aL hx vv4 rfl (by omega)
/-- the fields of the state that a kind's cells tell -/
def rdf (t : Nat) : List Nat := match t with
  | 5 => [4, 5]
  | 8 => [21, 19, 20]
  | 11 => [16]
  | 12 => [17]
  | 14 => [11, 12, 13, 14]
  | 15 => [15]
  | 16 => [18]
  | 17 => [22, 23]
  | 19 => [24]
  | 21 => [25]
  | 22 => [6, 7, 8, 9]
  | 24 => [10]
  | 25 => [28, 30, 32, 31, 33, 34, 27, 35, 36, 37, 38]
  | 27 => [29]
  | _ => []
theorem cd_same {F : List Nat} (hs : same F σ σ') (t i j : Nat) (hF : ∀ k, k ∈ rdf t → k ∉ F) : cd x y σ' t i j = cd x y σ t i j := by
  match t with
  | 0 => simp only [cd, hs.1]
  | 1 => rfl
  | 2 => rfl
  | 3 => rfl
  | 4 => rfl
  | 5 => simp only [cd, hs.2.1 4 (hF 4 (by simp [rdf])), hs.2.1 5 (hF 5 (by simp [rdf]))]
  | 6 => rfl
  | 7 => rfl
  | 8 => simp only [cd, hs.2.1 21 (hF 21 (by simp [rdf])), hs.2.1 19 (hF 19 (by simp [rdf])), hs.2.1 20 (hF 20 (by simp [rdf]))]
  | 9 => rfl
  | 10 => rfl
  | 11 => simp only [cd, hs.2.2 16 (hF 16 (by simp [rdf]))]
  | 12 => simp only [cd, hs.2.1 17 (hF 17 (by simp [rdf]))]
  | 13 => rfl
  | 14 => simp only [cd, hs.2.1 11 (hF 11 (by simp [rdf])), hs.2.1 12 (hF 12 (by simp [rdf])), hs.2.1 13 (hF 13 (by simp [rdf])), hs.2.1 14 (hF 14 (by simp [rdf]))]
  | 15 => simp only [cd, hs.2.1 15 (hF 15 (by simp [rdf]))]
  | 16 => simp only [cd, hs.2.1 18 (hF 18 (by simp [rdf]))]
  | 17 => simp only [cd, hs.2.1 22 (hF 22 (by simp [rdf])), hs.2.1 23 (hF 23 (by simp [rdf]))]
  | 18 => rfl
  | 19 => simp only [cd, hs.2.1 24 (hF 24 (by simp [rdf]))]
  | 20 => rfl
  | 21 => simp only [cd, hs.2.1 25 (hF 25 (by simp [rdf]))]
  | 22 => simp only [cd, hs.2.1 6 (hF 6 (by simp [rdf])), hs.2.1 7 (hF 7 (by simp [rdf])), hs.2.1 8 (hF 8 (by simp [rdf])), hs.2.1 9 (hF 9 (by simp [rdf]))]
  | 23 => rfl
  | 24 => simp only [cd, hs.2.1 10 (hF 10 (by simp [rdf]))]
  | 25 => simp only [cd, hs.2.1 28 (hF 28 (by simp [rdf])), hs.2.1 30 (hF 30 (by simp [rdf])), hs.2.1 32 (hF 32 (by simp [rdf])), hs.2.1 31 (hF 31 (by simp [rdf])), hs.2.1 33 (hF 33 (by simp [rdf])), hs.2.1 34 (hF 34 (by simp [rdf])), hs.2.1 27 (hF 27 (by simp [rdf])), hs.2.1 35 (hF 35 (by simp [rdf])), hs.2.2 36 (hF 36 (by simp [rdf])), hs.2.2 37 (hF 37 (by simp [rdf])), hs.2.1 38 (hF 38 (by simp [rdf]))]
  | 26 => rfl
  | 27 => simp only [cd, hs.2.1 29 (hF 29 (by simp [rdf]))]
  | n + 28 => rfl
theorem cd_sc (hs : σ'.2 = σ.2) (t i j : Nat) (ht : t ≠ 0) : cd x y σ' t i j = cd x y σ t i j := by
  match t with
  | 0 => exact absurd rfl ht
  | 1 => rfl
  | 2 => rfl
  | 3 => rfl
  | 4 => rfl
  | 5 => simp only [cd, hs]
  | 6 => rfl
  | 7 => rfl
  | 8 => simp only [cd, hs]
  | 9 => rfl
  | 10 => rfl
  | 11 => simp only [cd, hs]
  | 12 => simp only [cd, hs]
  | 13 => rfl
  | 14 => simp only [cd, hs]
  | 15 => simp only [cd, hs]
  | 16 => simp only [cd, hs]
  | 17 => simp only [cd, hs]
  | 18 => rfl
  | 19 => simp only [cd, hs]
  | 20 => rfl
  | 21 => simp only [cd, hs]
  | 22 => simp only [cd, hs]
  | 23 => rfl
  | 24 => simp only [cd, hs]
  | 25 => simp only [cd, hs]
  | 26 => rfl
  | 27 => simp only [cd, hs]
  | n + 28 => rfl
theorem rd4 {t : Nat} (h : 4 ∈ rdf t) : t = 5 := by
  unfold rdf at h
  split at h <;> first | rfl | (simp at h)
theorem rd5 {t : Nat} (h : 5 ∈ rdf t) : t = 5 := by
  unfold rdf at h
  split at h <;> first | rfl | (simp at h)
theorem rd21 {t : Nat} (h : 21 ∈ rdf t) : t = 8 := by
  unfold rdf at h
  split at h <;> first | rfl | (simp at h)
theorem rd19 {t : Nat} (h : 19 ∈ rdf t) : t = 8 := by
  unfold rdf at h
  split at h <;> first | rfl | (simp at h)
theorem rd20 {t : Nat} (h : 20 ∈ rdf t) : t = 8 := by
  unfold rdf at h
  split at h <;> first | rfl | (simp at h)
theorem rd16 {t : Nat} (h : 16 ∈ rdf t) : t = 11 := by
  unfold rdf at h
  split at h <;> first | rfl | (simp at h)
theorem rd17 {t : Nat} (h : 17 ∈ rdf t) : t = 12 := by
  unfold rdf at h
  split at h <;> first | rfl | (simp at h)
theorem rd11 {t : Nat} (h : 11 ∈ rdf t) : t = 14 := by
  unfold rdf at h
  split at h <;> first | rfl | (simp at h)
theorem rd12 {t : Nat} (h : 12 ∈ rdf t) : t = 14 := by
  unfold rdf at h
  split at h <;> first | rfl | (simp at h)
theorem rd13 {t : Nat} (h : 13 ∈ rdf t) : t = 14 := by
  unfold rdf at h
  split at h <;> first | rfl | (simp at h)
theorem rd14 {t : Nat} (h : 14 ∈ rdf t) : t = 14 := by
  unfold rdf at h
  split at h <;> first | rfl | (simp at h)
theorem rd15 {t : Nat} (h : 15 ∈ rdf t) : t = 15 := by
  unfold rdf at h
  split at h <;> first | rfl | (simp at h)
theorem rd18 {t : Nat} (h : 18 ∈ rdf t) : t = 16 := by
  unfold rdf at h
  split at h <;> first | rfl | (simp at h)
theorem rd22 {t : Nat} (h : 22 ∈ rdf t) : t = 17 := by
  unfold rdf at h
  split at h <;> first | rfl | (simp at h)
theorem rd23 {t : Nat} (h : 23 ∈ rdf t) : t = 17 := by
  unfold rdf at h
  split at h <;> first | rfl | (simp at h)
theorem rd24 {t : Nat} (h : 24 ∈ rdf t) : t = 19 := by
  unfold rdf at h
  split at h <;> first | rfl | (simp at h)
theorem rd25 {t : Nat} (h : 25 ∈ rdf t) : t = 21 := by
  unfold rdf at h
  split at h <;> first | rfl | (simp at h)
theorem rd6 {t : Nat} (h : 6 ∈ rdf t) : t = 22 := by
  unfold rdf at h
  split at h <;> first | rfl | (simp at h)
theorem rd7 {t : Nat} (h : 7 ∈ rdf t) : t = 22 := by
  unfold rdf at h
  split at h <;> first | rfl | (simp at h)
theorem rd8 {t : Nat} (h : 8 ∈ rdf t) : t = 22 := by
  unfold rdf at h
  split at h <;> first | rfl | (simp at h)
theorem rd9 {t : Nat} (h : 9 ∈ rdf t) : t = 22 := by
  unfold rdf at h
  split at h <;> first | rfl | (simp at h)
theorem rd10 {t : Nat} (h : 10 ∈ rdf t) : t = 24 := by
  unfold rdf at h
  split at h <;> first | rfl | (simp at h)
theorem rd28 {t : Nat} (h : 28 ∈ rdf t) : t = 25 := by
  unfold rdf at h
  split at h <;> first | rfl | (simp at h)
theorem rd30 {t : Nat} (h : 30 ∈ rdf t) : t = 25 := by
  unfold rdf at h
  split at h <;> first | rfl | (simp at h)
theorem rd32 {t : Nat} (h : 32 ∈ rdf t) : t = 25 := by
  unfold rdf at h
  split at h <;> first | rfl | (simp at h)
theorem rd31 {t : Nat} (h : 31 ∈ rdf t) : t = 25 := by
  unfold rdf at h
  split at h <;> first | rfl | (simp at h)
theorem rd33 {t : Nat} (h : 33 ∈ rdf t) : t = 25 := by
  unfold rdf at h
  split at h <;> first | rfl | (simp at h)
theorem rd34 {t : Nat} (h : 34 ∈ rdf t) : t = 25 := by
  unfold rdf at h
  split at h <;> first | rfl | (simp at h)
theorem rd27 {t : Nat} (h : 27 ∈ rdf t) : t = 25 := by
  unfold rdf at h
  split at h <;> first | rfl | (simp at h)
theorem rd35 {t : Nat} (h : 35 ∈ rdf t) : t = 25 := by
  unfold rdf at h
  split at h <;> first | rfl | (simp at h)
theorem rd36 {t : Nat} (h : 36 ∈ rdf t) : t = 25 := by
  unfold rdf at h
  split at h <;> first | rfl | (simp at h)
theorem rd37 {t : Nat} (h : 37 ∈ rdf t) : t = 25 := by
  unfold rdf at h
  split at h <;> first | rfl | (simp at h)
theorem rd38 {t : Nat} (h : 38 ∈ rdf t) : t = 25 := by
  unfold rdf at h
  split at h <;> first | rfl | (simp at h)
theorem rd29 {t : Nat} (h : 29 ∈ rdf t) : t = 27 := by
  unfold rdf at h
  split at h <;> first | rfl | (simp at h)
theorem co4 {v : Int32} (t' i' j' : Nat) (h : t' ≠ 5) : cd x y (uI σ 4 k v) t' i' j' = cd x y σ t' i' j' := cd_same (same.uI (F := [4]) _ _ _ (by decide)) t' i' j' (fun q hq hm => h (rd4 (List.mem_singleton.mp hm ▸ hq)))
theorem co5 {v : Int32} (t' i' j' : Nat) (h : t' ≠ 5) : cd x y (uI σ 5 k v) t' i' j' = cd x y σ t' i' j' := cd_same (same.uI (F := [5]) _ _ _ (by decide)) t' i' j' (fun q hq hm => h (rd5 (List.mem_singleton.mp hm ▸ hq)))
theorem co11 {v : Int32} (t' i' j' : Nat) (h : t' ≠ 14) : cd x y (uI σ 11 k v) t' i' j' = cd x y σ t' i' j' := cd_same (same.uI (F := [11]) _ _ _ (by decide)) t' i' j' (fun q hq hm => h (rd11 (List.mem_singleton.mp hm ▸ hq)))
theorem co12 {v : Int32} (t' i' j' : Nat) (h : t' ≠ 14) : cd x y (uI σ 12 k v) t' i' j' = cd x y σ t' i' j' := cd_same (same.uI (F := [12]) _ _ _ (by decide)) t' i' j' (fun q hq hm => h (rd12 (List.mem_singleton.mp hm ▸ hq)))
theorem co13 {v : Int32} (t' i' j' : Nat) (h : t' ≠ 14) : cd x y (uI σ 13 k v) t' i' j' = cd x y σ t' i' j' := cd_same (same.uI (F := [13]) _ _ _ (by decide)) t' i' j' (fun q hq hm => h (rd13 (List.mem_singleton.mp hm ▸ hq)))
theorem co14 {v : Int32} (t' i' j' : Nat) (h : t' ≠ 14) : cd x y (uI σ 14 k v) t' i' j' = cd x y σ t' i' j' := cd_same (same.uI (F := [14]) _ _ _ (by decide)) t' i' j' (fun q hq hm => h (rd14 (List.mem_singleton.mp hm ▸ hq)))
theorem co15 {v : Int32} (t' i' j' : Nat) (h : t' ≠ 15) : cd x y (uI σ 15 k v) t' i' j' = cd x y σ t' i' j' := cd_same (same.uI (F := [15]) _ _ _ (by decide)) t' i' j' (fun q hq hm => h (rd15 (List.mem_singleton.mp hm ▸ hq)))
theorem co17 {v : Int32} (t' i' j' : Nat) (h : t' ≠ 12) : cd x y (uI σ 17 k v) t' i' j' = cd x y σ t' i' j' := cd_same (same.uI (F := [17]) _ _ _ (by decide)) t' i' j' (fun q hq hm => h (rd17 (List.mem_singleton.mp hm ▸ hq)))
theorem co18 {v : Int32} (t' i' j' : Nat) (h : t' ≠ 16) : cd x y (uI σ 18 k v) t' i' j' = cd x y σ t' i' j' := cd_same (same.uI (F := [18]) _ _ _ (by decide)) t' i' j' (fun q hq hm => h (rd18 (List.mem_singleton.mp hm ▸ hq)))
theorem co19 {v : Int32} (t' i' j' : Nat) (h : t' ≠ 8) : cd x y (uI σ 19 k v) t' i' j' = cd x y σ t' i' j' := cd_same (same.uI (F := [19]) _ _ _ (by decide)) t' i' j' (fun q hq hm => h (rd19 (List.mem_singleton.mp hm ▸ hq)))
theorem co20 {v : Int32} (t' i' j' : Nat) (h : t' ≠ 8) : cd x y (uI σ 20 k v) t' i' j' = cd x y σ t' i' j' := cd_same (same.uI (F := [20]) _ _ _ (by decide)) t' i' j' (fun q hq hm => h (rd20 (List.mem_singleton.mp hm ▸ hq)))
theorem co21 {v : Int32} (t' i' j' : Nat) (h : t' ≠ 8) : cd x y (uI σ 21 k v) t' i' j' = cd x y σ t' i' j' := cd_same (same.uI (F := [21]) _ _ _ (by decide)) t' i' j' (fun q hq hm => h (rd21 (List.mem_singleton.mp hm ▸ hq)))
theorem co22 {v : Int32} (t' i' j' : Nat) (h : t' ≠ 17) : cd x y (uI σ 22 k v) t' i' j' = cd x y σ t' i' j' := cd_same (same.uI (F := [22]) _ _ _ (by decide)) t' i' j' (fun q hq hm => h (rd22 (List.mem_singleton.mp hm ▸ hq)))
theorem co23 {v : Int32} (t' i' j' : Nat) (h : t' ≠ 17) : cd x y (uI σ 23 k v) t' i' j' = cd x y σ t' i' j' := cd_same (same.uI (F := [23]) _ _ _ (by decide)) t' i' j' (fun q hq hm => h (rd23 (List.mem_singleton.mp hm ▸ hq)))
theorem co24 {v : Int32} (t' i' j' : Nat) (h : t' ≠ 19) : cd x y (uI σ 24 k v) t' i' j' = cd x y σ t' i' j' := cd_same (same.uI (F := [24]) _ _ _ (by decide)) t' i' j' (fun q hq hm => h (rd24 (List.mem_singleton.mp hm ▸ hq)))
theorem co25 {v : Int32} (t' i' j' : Nat) (h : t' ≠ 21) : cd x y (uI σ 25 k v) t' i' j' = cd x y σ t' i' j' := cd_same (same.uI (F := [25]) _ _ _ (by decide)) t' i' j' (fun q hq hm => h (rd25 (List.mem_singleton.mp hm ▸ hq)))
theorem co27 {v : Int32} (t' i' j' : Nat) (h : t' ≠ 25) : cd x y (uI σ 27 k v) t' i' j' = cd x y σ t' i' j' := cd_same (same.uI (F := [27]) _ _ _ (by decide)) t' i' j' (fun q hq hm => h (rd27 (List.mem_singleton.mp hm ▸ hq)))
theorem co35 {v : Int32} (t' i' j' : Nat) (h : t' ≠ 25) : cd x y (uI σ 35 k v) t' i' j' = cd x y σ t' i' j' := cd_same (same.uI (F := [35]) _ _ _ (by decide)) t' i' j' (fun q hq hm => h (rd35 (List.mem_singleton.mp hm ▸ hq)))
theorem co38 {v : Int32} (t' i' j' : Nat) (h : t' ≠ 25) : cd x y (uI σ 38 k v) t' i' j' = cd x y σ t' i' j' := cd_same (same.uI (F := [38]) _ _ _ (by decide)) t' i' j' (fun q hq hm => h (rd38 (List.mem_singleton.mp hm ▸ hq)))
theorem co16 {v : Int64} (t' i' j' : Nat) (h : t' ≠ 11) : cd x y (uJ σ 16 k v) t' i' j' = cd x y σ t' i' j' := cd_same (same.uJ (F := [16]) _ _ _ (by decide)) t' i' j' (fun q hq hm => h (rd16 (List.mem_singleton.mp hm ▸ hq)))
theorem co36 {v : Int64} (t' i' j' : Nat) (h : t' ≠ 25) : cd x y (uJ σ 36 k v) t' i' j' = cd x y σ t' i' j' := cd_same (same.uJ (F := [36]) _ _ _ (by decide)) t' i' j' (fun q hq hm => h (rd36 (List.mem_singleton.mp hm ▸ hq)))
theorem co37 {v : Int64} (t' i' j' : Nat) (h : t' ≠ 25) : cd x y (uJ σ 37 k v) t' i' j' = cd x y σ t' i' j' := cd_same (same.uJ (F := [37]) _ _ _ (by decide)) t' i' j' (fun q hq hm => h (rd37 (List.mem_singleton.mp hm ▸ hq)))
theorem rp14_0 (hx : Wx x) (hi : sv x i) (hj : j < 30) {v : Int32} {kk : xM β} : pV (en x 14 i j) 2 0 (.int v) kk (er x y σ h) = kk (er x y (uI σ 11 (30 * i + j) v) h) := by
  refine r_pV hx (vv14 hi hj) rfl (by simp) (by simp [cd, uI, va_up]) (fun t' i' j' hv hn => ?_)
  by_cases ht : t' = 14
  · subst ht
    have hi2 := hv
    simp only [vd, decide_eq_true_iff] at hi2
    have hc : ¬ 30 * i' + j' = 30 * i + j := by omega
    simp [cd, uI, va_up, hc]
  · exact co11 t' i' j' ht
theorem rp14_1 (hx : Wx x) (hi : sv x i) (hj : j < 30) {v : Int32} {kk : xM β} : pV (en x 14 i j) 2 1 (.int v) kk (er x y σ h) = kk (er x y (uI σ 12 (30 * i + j) v) h) := by
  refine r_pV hx (vv14 hi hj) rfl (by simp) (by simp [cd, uI, va_up]) (fun t' i' j' hv hn => ?_)
  by_cases ht : t' = 14
  · subst ht
    have hi2 := hv
    simp only [vd, decide_eq_true_iff] at hi2
    have hc : ¬ 30 * i' + j' = 30 * i + j := by omega
    simp [cd, uI, va_up, hc]
  · exact co12 t' i' j' ht
theorem rp14_2 (hx : Wx x) (hi : sv x i) (hj : j < 30) {v : Int32} {kk : xM β} : pV (en x 14 i j) 2 2 (.int v) kk (er x y σ h) = kk (er x y (uI σ 13 (30 * i + j) v) h) := by
  refine r_pV hx (vv14 hi hj) rfl (by simp) (by simp [cd, uI, va_up]) (fun t' i' j' hv hn => ?_)
  by_cases ht : t' = 14
  · subst ht
    have hi2 := hv
    simp only [vd, decide_eq_true_iff] at hi2
    have hc : ¬ 30 * i' + j' = 30 * i + j := by omega
    simp [cd, uI, va_up, hc]
  · exact co13 t' i' j' ht
theorem rp14_3 (hx : Wx x) (hi : sv x i) (hj : j < 30) {v : Int32} {kk : xM β} : pV (en x 14 i j) 2 3 (.int v) kk (er x y σ h) = kk (er x y (uI σ 14 (30 * i + j) v) h) := by
  refine r_pV hx (vv14 hi hj) rfl (by simp) (by simp [cd, uI, va_up]) (fun t' i' j' hv hn => ?_)
  by_cases ht : t' = 14
  · subst ht
    have hi2 := hv
    simp only [vd, decide_eq_true_iff] at hi2
    have hc : ¬ 30 * i' + j' = 30 * i + j := by omega
    simp [cd, uI, va_up, hc]
  · exact co14 t' i' j' ht
theorem rp8_3 (hx : Wx x) (hi : i < dN x) {v : Int32} {kk : xM β} : pV (en x 8 i 0) 5 3 (.int v) kk (er x y σ h) = kk (er x y (uI σ 19 (i) v) h) := by
  refine r_pV hx (vv8 hi) rfl (by simp) (by simp [cd, uI, va_up]) (fun t' i' j' hv hn => ?_)
  by_cases ht : t' = 8
  · subst ht
    have hi2 := hv
    simp only [vd, decide_eq_true_iff] at hi2
    have hc : ¬ i' = i := by omega
    simp [cd, uI, va_up, hc]
  · exact co19 t' i' j' ht
theorem rp8_4 (hx : Wx x) (hi : i < dN x) {v : Int32} {kk : xM β} : pV (en x 8 i 0) 5 4 (.int v) kk (er x y σ h) = kk (er x y (uI σ 20 (i) v) h) := by
  refine r_pV hx (vv8 hi) rfl (by simp) (by simp [cd, uI, va_up]) (fun t' i' j' hv hn => ?_)
  by_cases ht : t' = 8
  · subst ht
    have hi2 := hv
    simp only [vd, decide_eq_true_iff] at hi2
    have hc : ¬ i' = i := by omega
    simp [cd, uI, va_up, hc]
  · exact co20 t' i' j' ht
theorem rp8_2 (hx : Wx x) (hi : i < dN x) {v : Int32} {kk : xM β} : pV (en x 8 i 0) 5 2 (.int v) kk (er x y σ h) = kk (er x y (uI σ 21 (i) v) h) := by
  refine r_pV hx (vv8 hi) rfl (by simp) (by simp [cd, uI, va_up]) (fun t' i' j' hv hn => ?_)
  by_cases ht : t' = 8
  · subst ht
    have hi2 := hv
    simp only [vd, decide_eq_true_iff] at hi2
    have hc : ¬ i' = i := by omega
    simp [cd, uI, va_up, hc]
  · exact co21 t' i' j' ht
theorem rp17_0 (hx : Wx x) (hi : i < 8) {v : Int32} {kk : xM β} : pV (en x 17 i 0) 6 0 (.int v) kk (er x y σ h) = kk (er x y (uI σ 22 (i) v) h) := by
  refine r_pV hx (vv17 hi) rfl (by simp) (by simp [cd, uI, va_up]) (fun t' i' j' hv hn => ?_)
  by_cases ht : t' = 17
  · subst ht
    have hi2 := hv
    simp only [vd, decide_eq_true_iff] at hi2
    have hc : ¬ i' = i := by omega
    simp [cd, uI, va_up, hc]
  · exact co22 t' i' j' ht
theorem rp17_1 (hx : Wx x) (hi : i < 8) {v : Int32} {kk : xM β} : pV (en x 17 i 0) 6 1 (.int v) kk (er x y σ h) = kk (er x y (uI σ 23 (i) v) h) := by
  refine r_pV hx (vv17 hi) rfl (by simp) (by simp [cd, uI, va_up]) (fun t' i' j' hv hn => ?_)
  by_cases ht : t' = 17
  · subst ht
    have hi2 := hv
    simp only [vd, decide_eq_true_iff] at hi2
    have hc : ¬ i' = i := by omega
    simp [cd, uI, va_up, hc]
  · exact co23 t' i' j' ht
theorem rp5_1 (hx : Wx x) (hi : i < dP x) {v : Int32} {kk : xM β} : pV (en x 5 i 0) 3 1 (.int v) kk (er x y σ h) = kk (er x y (uI σ 4 (i) v) h) := by
  refine r_pV hx (vv5 hi) rfl (by simp) (by simp [cd, uI, va_up]) (fun t' i' j' hv hn => ?_)
  by_cases ht : t' = 5
  · subst ht
    have hi2 := hv
    simp only [vd, decide_eq_true_iff] at hi2
    have hc : ¬ i' = i := by omega
    simp [cd, uI, va_up, hc]
  · exact co4 t' i' j' ht
theorem rp5_2 (hx : Wx x) (hi : i < dP x) {v : Int32} {kk : xM β} : pV (en x 5 i 0) 3 2 (.int v) kk (er x y σ h) = kk (er x y (uI σ 5 (i) v) h) := by
  refine r_pV hx (vv5 hi) rfl (by simp) (by simp [cd, uI, va_up]) (fun t' i' j' hv hn => ?_)
  by_cases ht : t' = 5
  · subst ht
    have hi2 := hv
    simp only [vd, decide_eq_true_iff] at hi2
    have hc : ¬ i' = i := by omega
    simp [cd, uI, va_up, hc]
  · exact co5 t' i' j' ht
theorem rp25_7 (hx : Wx x) (hi : i < dR x) {v : Int32} {kk : xM β} : pV (en x 25 i 0) 4 7 (.int v) kk (er x y σ h) = kk (er x y (uI σ 27 (i) v) h) := by
  refine r_pV hx (vv25 hi) rfl (by simp) (by simp [cd, uI, va_up]) (fun t' i' j' hv hn => ?_)
  by_cases ht : t' = 25
  · subst ht
    have hi2 := hv
    simp only [vd, decide_eq_true_iff] at hi2
    have hc : ¬ i' = i := by omega
    simp [cd, uI, va_up, hc]
  · exact co27 t' i' j' ht
theorem rp25_8 (hx : Wx x) (hi : i < dR x) {v : Int32} {kk : xM β} : pV (en x 25 i 0) 4 8 (.int v) kk (er x y σ h) = kk (er x y (uI σ 35 (i) v) h) := by
  refine r_pV hx (vv25 hi) rfl (by simp) (by simp [cd, uI, va_up]) (fun t' i' j' hv hn => ?_)
  by_cases ht : t' = 25
  · subst ht
    have hi2 := hv
    simp only [vd, decide_eq_true_iff] at hi2
    have hc : ¬ i' = i := by omega
    simp [cd, uI, va_up, hc]
  · exact co35 t' i' j' ht
theorem rp25_9 (hx : Wx x) (hi : i < dR x) {v : Int64} {kk : xM β} : pV (en x 25 i 0) 4 9 (.long v) kk (er x y σ h) = kk (er x y (uJ σ 36 (i) v) h) := by
  refine r_pV hx (vv25 hi) rfl (by simp) (by simp [cd, uJ, va_up]) (fun t' i' j' hv hn => ?_)
  by_cases ht : t' = 25
  · subst ht
    have hi2 := hv
    simp only [vd, decide_eq_true_iff] at hi2
    have hc : ¬ i' = i := by omega
    simp [cd, uJ, va_up, hc]
  · exact co36 t' i' j' ht
theorem rp25_10 (hx : Wx x) (hi : i < dR x) {v : Int64} {kk : xM β} : pV (en x 25 i 0) 4 10 (.long v) kk (er x y σ h) = kk (er x y (uJ σ 37 (i) v) h) := by
  refine r_pV hx (vv25 hi) rfl (by simp) (by simp [cd, uJ, va_up]) (fun t' i' j' hv hn => ?_)
  by_cases ht : t' = 25
  · subst ht
    have hi2 := hv
    simp only [vd, decide_eq_true_iff] at hi2
    have hc : ¬ i' = i := by omega
    simp [cd, uJ, va_up, hc]
  · exact co37 t' i' j' ht
theorem rp25_11 (hx : Wx x) (hi : i < dR x) {v : Int32} {kk : xM β} : pV (en x 25 i 0) 4 11 (.long v.toInt64) kk (er x y σ h) = kk (er x y (uI σ 38 (i) v) h) := by
  refine r_pV hx (vv25 hi) rfl (by simp) (by simp [cd, uI, va_up]) (fun t' i' j' hv hn => ?_)
  by_cases ht : t' = 25
  · subst ht
    have hi2 := hv
    simp only [vd, decide_eq_true_iff] at hi2
    have hc : ¬ i' = i := by omega
    simp [cd, uI, va_up, hc]
  · exact co38 t' i' j' ht
theorem rz8_2 (hx : Wx x) (hi : i < dN x) {v : Int32} (hv : v = 0 ∨ v = 1) {kk : xM β} : pZ (en x 8 i 0) 5 2 v kk (er x y σ h) = kk (er x y (uI σ 21 i v) h) := by
  unfold pZ
  rw [if_pos hv]
  exact rp8_2 hx hi
theorem rs12 (hx : Wx x) (hi : sv x i) {c : Nat} (hc : c < 10) {v : Int32} {kk : xM β} : sI (en x 12 i 0) (nI c) v kk (er x y σ h) = kk (er x y (uI σ 17 (10 * i + c) v) h) := by
  refine r_sI hx (vv12 hi) rfl hc (by omega) ?_ (fun t' i' j' hv hn => ?_)
  · rw [cl_up hc]
    show Sum.inl (0, 10, Sum.inl (cl 10 fun q => (uI σ 17 (10 * i + c) v).2.1 17 (10 * i + q))) = _
    congr 4
    refine cl_ext fun q hq => ?_
    by_cases hqc : q = c
    · subst hqc
      rw [uI_g]
      simp [va_up]
    · rw [uI_i (by omega)]
      simp [va_up, hqc]
  by_cases ht : t' = 12
  · subst ht
    have hi2 := hv
    simp only [vd, decide_eq_true_iff] at hi2
    show Sum.inl (0, 10, Sum.inl (cl 10 fun q => (uI σ 17 (10 * i + c) v).2.1 17 (10 * i' + q))) = Sum.inl (0, 10, Sum.inl (cl 10 fun q => σ.2.1 17 (10 * i' + q)))
    congr 4
    refine cl_ext fun q hq => ?_
    rw [uI_i (by omega)]
  · exact co17 t' i' j' ht
theorem rs15 (hx : Wx x) (hi : sv x i) (hj : j < 30) {c : Nat} (hc : c < 10) {v : Int32} {kk : xM β} : sI (en x 15 i j) (nI c) v kk (er x y σ h) = kk (er x y (uI σ 15 (30 * (10 * i + c) + j) v) h) := by
  refine r_sI hx (vv15 hi hj) rfl hc (by omega) ?_ (fun t' i' j' hv hn => ?_)
  · rw [cl_up hc]
    show Sum.inl (0, 10, Sum.inl (cl 10 fun q => (uI σ 15 (30 * (10 * i + c) + j) v).2.1 15 (30 * (10 * i + q) + j))) = _
    congr 4
    refine cl_ext fun q hq => ?_
    by_cases hqc : q = c
    · subst hqc
      rw [uI_g]
      simp [va_up]
    · rw [uI_i (by omega)]
      simp [va_up, hqc]
  by_cases ht : t' = 15
  · subst ht
    have hi2 := hv
    simp only [vd, decide_eq_true_iff] at hi2
    show Sum.inl (0, 10, Sum.inl (cl 10 fun q => (uI σ 15 (30 * (10 * i + c) + j) v).2.1 15 (30 * (10 * i' + q) + j'))) = Sum.inl (0, 10, Sum.inl (cl 10 fun q => σ.2.1 15 (30 * (10 * i' + q) + j')))
    congr 4
    refine cl_ext fun q hq => ?_
    rw [uI_i (by omega)]
  · exact co15 t' i' j' ht
theorem rs16 (hx : Wx x) (hi : sv x i) {c : Nat} (hc : c < 3) {v : Int32} {kk : xM β} : sI (en x 16 i 0) (nI c) v kk (er x y σ h) = kk (er x y (uI σ 18 (3 * i + c) v) h) := by
  refine r_sI hx (vv16 hi) rfl hc (by omega) ?_ (fun t' i' j' hv hn => ?_)
  · rw [cl_up hc]
    show Sum.inl (0, 3, Sum.inl (cl 3 fun q => (uI σ 18 (3 * i + c) v).2.1 18 (3 * i + q))) = _
    congr 4
    refine cl_ext fun q hq => ?_
    by_cases hqc : q = c
    · subst hqc
      rw [uI_g]
      simp [va_up]
    · rw [uI_i (by omega)]
      simp [va_up, hqc]
  by_cases ht : t' = 16
  · subst ht
    have hi2 := hv
    simp only [vd, decide_eq_true_iff] at hi2
    show Sum.inl (0, 3, Sum.inl (cl 3 fun q => (uI σ 18 (3 * i + c) v).2.1 18 (3 * i' + q))) = Sum.inl (0, 3, Sum.inl (cl 3 fun q => σ.2.1 18 (3 * i' + q)))
    congr 4
    refine cl_ext fun q hq => ?_
    rw [uI_i (by omega)]
  · exact co18 t' i' j' ht
theorem rs19 (hx : Wx x) (hi : i < 8) {c : Nat} (hc : c < 3) {v : Int32} {kk : xM β} : sI (en x 19 i 0) (nI c) v kk (er x y σ h) = kk (er x y (uI σ 24 (3 * i + c) v) h) := by
  refine r_sI hx (vv19 hi) rfl hc (by omega) ?_ (fun t' i' j' hv hn => ?_)
  · rw [cl_up hc]
    show Sum.inl (0, 3, Sum.inl (cl 3 fun q => (uI σ 24 (3 * i + c) v).2.1 24 (3 * i + q))) = _
    congr 4
    refine cl_ext fun q hq => ?_
    by_cases hqc : q = c
    · subst hqc
      rw [uI_g]
      simp [va_up]
    · rw [uI_i (by omega)]
      simp [va_up, hqc]
  by_cases ht : t' = 19
  · subst ht
    have hi2 := hv
    simp only [vd, decide_eq_true_iff] at hi2
    show Sum.inl (0, 3, Sum.inl (cl 3 fun q => (uI σ 24 (3 * i + c) v).2.1 24 (3 * i' + q))) = Sum.inl (0, 3, Sum.inl (cl 3 fun q => σ.2.1 24 (3 * i' + q)))
    congr 4
    refine cl_ext fun q hq => ?_
    rw [uI_i (by omega)]
  · exact co24 t' i' j' ht
theorem rs21 (hx : Wx x) (hi : i < 8) {c : Nat} (hc : c < 3) {v : Int32} {kk : xM β} : sI (en x 21 i 0) (nI c) v kk (er x y σ h) = kk (er x y (uI σ 25 (3 * i + c) v) h) := by
  refine r_sI hx (vv21 hi) rfl hc (by omega) ?_ (fun t' i' j' hv hn => ?_)
  · rw [cl_up hc]
    show Sum.inl (0, 3, Sum.inl (cl 3 fun q => (uI σ 25 (3 * i + c) v).2.1 25 (3 * i + q))) = _
    congr 4
    refine cl_ext fun q hq => ?_
    by_cases hqc : q = c
    · subst hqc
      rw [uI_g]
      simp [va_up]
    · rw [uI_i (by omega)]
      simp [va_up, hqc]
  by_cases ht : t' = 21
  · subst ht
    have hi2 := hv
    simp only [vd, decide_eq_true_iff] at hi2
    show Sum.inl (0, 3, Sum.inl (cl 3 fun q => (uI σ 25 (3 * i + c) v).2.1 25 (3 * i' + q))) = Sum.inl (0, 3, Sum.inl (cl 3 fun q => σ.2.1 25 (3 * i' + q)))
    congr 4
    refine cl_ext fun q hq => ?_
    rw [uI_i (by omega)]
  · exact co25 t' i' j' ht
theorem rs11 (hx : Wx x) (hi : sv x i) {c : Nat} (hc : c < 10) {v : Int64} {kk : xM β} : sJ (en x 11 i 0) (nI c) v kk (er x y σ h) = kk (er x y (uJ σ 16 (10 * i + c) v) h) := by
  refine r_sJ hx (vv11 hi) rfl hc (by omega) ?_ (fun t' i' j' hv hn => ?_)
  · rw [clJ_up hc]
    show Sum.inl (1, 10, Sum.inr (Sum.inl (clJ 10 fun q => (uJ σ 16 (10 * i + c) v).2.2 16 (10 * i + q)))) = _
    congr 5
    refine clJ_ext fun q hq => ?_
    by_cases hqc : q = c
    · subst hqc
      rw [uJ_g]
      simp [va_up]
    · rw [uJ_i (by omega)]
      simp [va_up, hqc]
  by_cases ht : t' = 11
  · subst ht
    have hi2 := hv
    simp only [vd, decide_eq_true_iff] at hi2
    show Sum.inl (1, 10, Sum.inr (Sum.inl (clJ 10 fun q => (uJ σ 16 (10 * i + c) v).2.2 16 (10 * i' + q)))) = Sum.inl (1, 10, Sum.inr (Sum.inl (clJ 10 fun q => σ.2.2 16 (10 * i' + q))))
    congr 5
    refine clJ_ext fun q hq => ?_
    rw [uJ_i (by omega)]
  · exact co16 t' i' j' ht
theorem co26 {v : Int32} (t' i' j' : Nat) (h : t' ≠ 0) : cd x y (uS σ 26 v) t' i' j' = cd x y σ t' i' j' := cd_sc (σ := σ) (σ' := uS σ 26 v) rfl t' i' j' h
theorem co3 {v : Int32} (t' i' j' : Nat) (h : t' ≠ 0) : cd x y (uS σ 3 v) t' i' j' = cd x y σ t' i' j' := cd_sc (σ := σ) (σ' := uS σ 3 v) rfl t' i' j' h
def yw (y : xY) (f : Nat → Int32) : xY := (f, y.2)
def yn (y : xY) (k : Nat) (v : Int32) : xY := (y.1, va_up y.2.1 k v, y.2.2)
def yr (y : xY) (k : Nat) (f : Nat → Option Nat) : xY := (y.1, y.2.1, va_up y.2.2 k f)
theorem cyw {f : Nat → Int32} (t' i' j' : Nat) (h : t' ≠ 3) : cd x (yw y f) σ t' i' j' = cd x y σ t' i' j' := by
  match t' with
  | 0 => rfl
  | 1 => rfl
  | 2 => rfl
  | 3 => exact absurd rfl h
  | 4 => rfl
  | 5 => rfl
  | 6 => rfl
  | 7 => rfl
  | 8 => rfl
  | 9 => rfl
  | 10 => rfl
  | 11 => rfl
  | 12 => rfl
  | 13 => rfl
  | 14 => rfl
  | 15 => rfl
  | 16 => rfl
  | 17 => rfl
  | 18 => rfl
  | 19 => rfl
  | 20 => rfl
  | 21 => rfl
  | 22 => rfl
  | 23 => rfl
  | 24 => rfl
  | 25 => rfl
  | 26 => rfl
  | 27 => rfl
  | n + 28 => rfl
theorem cyn {v : Int32} (t' i' j' : Nat) (h : t' ≠ 0) : cd x (yn y k v) σ t' i' j' = cd x y σ t' i' j' := by
  match t' with
  | 0 => exact absurd rfl h
  | 1 => rfl
  | 2 => rfl
  | 3 => rfl
  | 4 => rfl
  | 5 => rfl
  | 6 => rfl
  | 7 => rfl
  | 8 => rfl
  | 9 => rfl
  | 10 => rfl
  | 11 => rfl
  | 12 => rfl
  | 13 => rfl
  | 14 => rfl
  | 15 => rfl
  | 16 => rfl
  | 17 => rfl
  | 18 => rfl
  | 19 => rfl
  | 20 => rfl
  | 21 => rfl
  | 22 => rfl
  | 23 => rfl
  | 24 => rfl
  | 25 => rfl
  | 26 => rfl
  | 27 => rfl
  | n + 28 => rfl
theorem cyr {f : Nat → Option Nat} (t' i' j' : Nat) (h : t' ≠ 2 ∧ t' ≠ 6) : cd x (yr y k f) σ t' i' j' = cd x y σ t' i' j' := by
  match t' with
  | 0 => rfl
  | 1 => rfl
  | 2 => exact absurd rfl h.1
  | 3 => rfl
  | 4 => rfl
  | 5 => rfl
  | 6 => exact absurd rfl h.2
  | 7 => rfl
  | 8 => rfl
  | 9 => rfl
  | 10 => rfl
  | 11 => rfl
  | 12 => rfl
  | 13 => rfl
  | 14 => rfl
  | 15 => rfl
  | 16 => rfl
  | 17 => rfl
  | 18 => rfl
  | 19 => rfl
  | 20 => rfl
  | 21 => rfl
  | 22 => rfl
  | 23 => rfl
  | 24 => rfl
  | 25 => rfl
  | 26 => rfl
  | 27 => rfl
  | n + 28 => rfl
theorem rp0_5 (hx : Wx x) {v : Int32} {kk : xM β} : pV (en x 0 0 0) 0 5 (.int v) kk (er x y σ h) = kk (er x y (uS σ 26 v) h) := by
  refine r_pV hx vv0 rfl (by simp) (by simp [cd, uS, va_up]) (fun t' i' j' hv hn => ?_)
  by_cases ht : t' = 0
  · subst ht
    simp only [vd, decide_eq_true_iff] at hv
    exact absurd ⟨rfl, hv.1, hv.2⟩ hn
  · exact co26 t' i' j' ht
theorem rp0_10 (hx : Wx x) {v : Int32} {kk : xM β} : pV (en x 0 0 0) 0 10 (.long v.toInt64) kk (er x y σ h) = kk (er x y (uS σ 3 v) h) := by
  refine r_pV hx vv0 rfl (by simp) (by simp [cd, uS, va_up]) (fun t' i' j' hv hn => ?_)
  by_cases ht : t' = 0
  · subst ht
    simp only [vd, decide_eq_true_iff] at hv
    exact absurd ⟨rfl, hv.1, hv.2⟩ hn
  · exact co3 t' i' j' ht
theorem rp0_7 (hx : Wx x) {v : Int32} {kk : xM β} : pV (en x 0 0 0) 0 7 (.int v) kk (er x y σ h) = kk (er x (yn y 0 v) σ h) := by
  refine r_pV hx vv0 rfl (by simp) (by simp [cd, yn, va_up]) (fun t' i' j' hv hn => ?_)
  by_cases ht : t' = 0
  · subst ht
    simp only [vd, decide_eq_true_iff] at hv
    exact absurd ⟨rfl, hv.1, hv.2⟩ hn
  · exact cyn t' i' j' ht
theorem rp0_8 (hx : Wx x) {v : Int32} {kk : xM β} : pV (en x 0 0 0) 0 8 (.int v) kk (er x y σ h) = kk (er x (yn y 1 v) σ h) := by
  refine r_pV hx vv0 rfl (by simp) (by simp [cd, yn, va_up]) (fun t' i' j' hv hn => ?_)
  by_cases ht : t' = 0
  · subst ht
    simp only [vd, decide_eq_true_iff] at hv
    exact absurd ⟨rfl, hv.1, hv.2⟩ hn
  · exact cyn t' i' j' ht
theorem rp0_9 (hx : Wx x) {v : Int32} {kk : xM β} : pV (en x 0 0 0) 0 9 (.int v) kk (er x y σ h) = kk (er x (yn y 2 v) σ h) := by
  refine r_pV hx vv0 rfl (by simp) (by simp [cd, yn, va_up]) (fun t' i' j' hv hn => ?_)
  by_cases ht : t' = 0
  · subst ht
    simp only [vd, decide_eq_true_iff] at hv
    exact absurd ⟨rfl, hv.1, hv.2⟩ hn
  · exact cyn t' i' j' ht
theorem rs3 (hx : Wx x) {c : Nat} (hc : c < 40) {v : Int32} {kk : xM β} : sI (en x 3 0 0) (nI c) v kk (er x y σ h) = kk (er x (yw y (va_up y.1 c v)) σ h) := by
  refine r_sI hx vv3 rfl hc (by omega) rfl (fun t' i' j' hv hn => ?_)
  by_cases ht : t' = 3
  · subst ht
    simp only [vd, decide_eq_true_iff] at hv
    exact absurd ⟨rfl, hv.1, hv.2⟩ hn
  · exact cyw t' i' j' ht
end XER
