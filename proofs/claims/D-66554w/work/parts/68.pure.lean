/-! the component: objects that are new: vectors ahead of the layout, taking objects into it -/
section XCL
variable {β : Type} {x x' : xX} {y y' : xY} {σ σ' : xS} {h : xH} {T : Nat} {t : Nat → Nat}
/-- new objects come into the layout -/
theorem er_adopt (hx : Wx x) (hx' : Wx x') (h1 : ∀ t i j, vd x t i j = true → vd x' t i j = true ∧ en x' t i j = en x t i j ∧ cd x' y σ' t i j = cd x y σ t i j) (h2 : ∀ t i j, vd x' t i j = true → vd x t i j = true ∨ (off x (en x' t i j) ∧ h.2 (en x' t i j) = some (cd x' y σ' t i j))) : er x y σ h = er x' y σ' h := by
  refine Prod.ext rfl (funext fun q => ?_)
  by_cases hc : ∃ t i j, vd x' t i j = true ∧ en x' t i j = q
  · obtain ⟨t, i, j, hv, rfl⟩ := hc
    rw [er_at hx' hv]
    rcases h2 t i j hv with g | ⟨g1, g2⟩
    · obtain ⟨-, e2, e3⟩ := h1 t i j g
      rw [e2, er_at hx g, e3]
    · rw [er_off g1, g2]
  · have o1 : off x' q := fun t i j hv e => hc ⟨t, i, j, hv, e⟩
    have o2 : off x q := fun t i j hv e => by
      obtain ⟨e1, e2, -⟩ := h1 t i j hv
      exact hc ⟨t, i, j, e1, e2.trans e⟩
    rw [er_off o1, er_off o2]
theorem b_gA {a ci f : Nat} {fs : List Value} {v : Nat} {kk : Nat → xM β} (ho : off x a) (hc : h.2 a = some (.inr (ci, fs))) (hf : fs[f]? = some (.ref v)) : gA a ci f kk (er x y σ h) = kk v (er x y σ h) := by
  simp [gA, er_off ho, hc, hf]
theorem b_gI {a ci f : Nat} {fs : List Value} {v : Int32} {kk : Int32 → xM β} (ho : off x a) (hc : h.2 a = some (.inr (ci, fs))) (hf : fs[f]? = some (.int v)) : gI a ci f kk (er x y σ h) = kk v (er x y σ h) := by
  simp [gI, er_off ho, hc, hf]
theorem b_xv {a ci : Nat} {fs : List Value} {K : xM β} (ho : off x a) (hc : h.2 a = some (.inr (ci, fs))) : xv a ci K (er x y σ h) = K (er x y σ h) := by
  simp [xv, er_off ho, hc]
theorem b_pV {a ci f : Nat} {fs : List Value} {v : Value} {kk : xM β} (ho : off x a) (hc : h.2 a = some (.inr (ci, fs))) (hf : f < fs.length) : pV a ci f v kk (er x y σ h) = kk (er x y σ (h.1, va_up h.2 a (some (.inr (ci, fs.set f v))))) := by
  rw [← er_set ho]
  simp [pV, er_off ho, hc, hf]
  rfl
theorem b_lI {a n c : Nat} {f : Nat → Int32} {kk : Int32 → xM β} (ho : off x a) (hc : h.2 a = some (.inl (0, n, .inl f))) (hn : c < n) (hb : n < 2 ^ 31) : lI a (nI c) kk (er x y σ h) = kk (f c) (er x y σ h) := by
  simp only [lI, er_off ho, hc]
  rw [if_pos ⟨by decide, nI_in hn hb⟩, nI_clamp (by omega)]
theorem b_sI {a n c : Nat} {f : Nat → Int32} {v : Int32} {kk : xM β} (ho : off x a) (hc : h.2 a = some (.inl (0, n, .inl f))) (hn : c < n) (hb : n < 2 ^ 31) : sI a (nI c) v kk (er x y σ h) = kk (er x y σ (h.1, va_up h.2 a (some (.inl (0, n, .inl (va_up f c v)))))) := by
  rw [← er_set ho]
  simp only [sI, er_off ho, hc]
  rw [if_pos ⟨by decide, nI_in hn hb⟩, nI_clamp (by omega)]
  rfl
/-- a new vector with this row -/
def vH (h : xH) (f : Nat → Int32) : xH := nw (nw h 1 (.inr (8, [.ref (h.1.1 + 1)]))) 3 (.inl (0, 3, .inl f))
theorem vH_a (h : xH) (f : Nat → Int32) : (vH h f).2 h.1.1 = some (.inr (8, [.ref (h.1.1 + 1)])) := by
  show va_up (va_up h.2 h.1.1 _) (h.1.1 + 1) _ h.1.1 = _
  simp [va_up]
theorem vH_b (h : xH) (f : Nat → Int32) : (vH h f).2 (h.1.1 + 1) = some (.inl (0, 3, .inl f)) := by
  show va_up (va_up h.2 h.1.1 _) (h.1.1 + 1) _ (h.1.1 + 1) = _
  simp [va_up]
theorem vH_o (h : xH) (f : Nat → Int32) {q : Nat} (hq : q < h.1.1) : (vH h f).2 q = h.2 q := by
  show va_up (va_up h.2 h.1.1 _) (h.1.1 + 1) _ q = _
  have h1 : ¬ q = h.1.1 := by omega
  have h2 : ¬ q = h.1.1 + 1 := by omega
  simp [va_up, h1, h2]
theorem vH_up (h : xH) (f g : Nat → Int32) : ((vH h f).1, va_up (vH h f).2 (h.1.1 + 1) (some (.inl (0, 3, .inl g)))) = vH h g := by
  refine Prod.ext rfl (funext fun q => ?_)
  show va_up (va_up (va_up h.2 h.1.1 _) (h.1.1 + 1) _) (h.1.1 + 1) _ q = va_up (va_up h.2 h.1.1 _) (h.1.1 + 1) _ q
  unfold va_up
  split <;> rfl
theorem Fr.vH (hf : Fr x h) {f : Nat → Int32} : Fr x (vH h f) := hf.nw.nw
theorem c_vinit (hf : Fr x h) (hr : 2 ≤ h.1.2.1 ∧ 4 ≤ h.1.2.2) : f_Vec_init h.1.1 (er x y σ (nw h 1 (.inr (8, z_Vec)))) = some (.inl (), er x y σ (vH h (fun _ => 0))) := by
  unfold f_Vec_init nAI
  rw [if_neg (by decide), show (3 : Int32).toNatClampNeg = 3 by decide, c_nE hf.nw (by
    show 1 ≤ h.1.2.1 - 1 ∧ 3 ≤ h.1.2.2 - 1
    omega)]
  have e : (nw (nw h 1 (.inr (8, z_Vec))) 3 (.inl (0, 3, .inl (fun _ => 0)))).2 h.1.1 = some (.inr (8, z_Vec)) := by
    show va_up (va_up h.2 h.1.1 _) (h.1.1 + 1) _ h.1.1 = _
    simp [va_up]
  rw [b_pV (hf.off (Nat.le_refl _)) e (by simp)]
  show some (Sum.inl (), er x y σ _) = _
  congr 3
  refine Prod.ext rfl (funext fun q => ?_)
  show va_up (va_up (va_up h.2 h.1.1 _) (h.1.1 + 1) _) h.1.1 _ q = va_up (va_up h.2 h.1.1 _) (h.1.1 + 1) _ q
  unfold va_up
  by_cases h1 : q = h.1.1
  · subst h1
    simp [nw]
  · by_cases h2 : q = h.1.1 + 1
    · subst h2
      simp
    · simp [h1, h2]
theorem v_gA {f : Nat → Int32} {kk : Nat → xM β} (hf : Fr x h) : gA h.1.1 8 0 kk (er x y σ (vH h f)) = kk (h.1.1 + 1) (er x y σ (vH h f)) := b_gA (hf.off (Nat.le_refl _)) (vH_a h f) rfl
theorem v_xv {f : Nat → Int32} {K : xM β} (hf : Fr x h) : xv h.1.1 8 K (er x y σ (vH h f)) = K (er x y σ (vH h f)) := b_xv (hf.off (Nat.le_refl _)) (vH_a h f)
theorem v_lI {f : Nat → Int32} {c : Nat} {kk : Int32 → xM β} (hf : Fr x h) (hc : c < 3) : lI (h.1.1 + 1) (nI c) kk (er x y σ (vH h f)) = kk (f c) (er x y σ (vH h f)) := b_lI (hf.off (by omega)) (vH_b h f) hc (by omega)
theorem v_sI {f : Nat → Int32} {c : Nat} {v : Int32} {kk : xM β} (hf : Fr x h) (hc : c < 3) : sI (h.1.1 + 1) (nI c) v kk (er x y σ (vH h f)) = kk (er x y σ (vH h (va_up f c v))) := by
  rw [b_sI (hf.off (by omega)) (vH_b h f) hc (by omega), vH_up]
end XCL
