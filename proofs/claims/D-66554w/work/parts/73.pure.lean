/-! the component: command -/
/-- a command taken into the layout at a -/
def addC (x : xX) (p a : Nat) : xX := (fun d => if d = (22, p, dE x p + 1) then a else if d = (23, p, dE x p + 1) then a + 1 else if d = (24, p, dE x p + 1) then a + 2 else x.1 d, fun q => if q = a then (22, p, dE x p + 1) else if q = a + 1 then (23, p, dE x p + 1) else if q = a + 2 then (24, p, dE x p + 1) else x.2.1 q, x.2.2.1, fun q => if q = p then dE x p + 1 else dE x q)
section XCQ
variable {β : Type} {x x' : xX} {y y' : xY} {σ σ' : xS} {h : xH} {T : Nat} {t : Nat → Nat}
theorem addC_P (p a : Nat) : dP (addC x p a) = dP x := rfl
theorem addC_N (p a : Nat) : dN (addC x p a) = dN x := rfl
theorem addC_R (p a : Nat) : dR (addC x p a) = dR x := rfl
theorem addC_E (p a q : Nat) : dE (addC x p a) q = if q = p then dE x p + 1 else dE x q := rfl
theorem addC_v {p a t i j : Nat} : vd (addC x p a) t i j = true → vd x t i j = true ∨ ((t = 22 ∨ t = 23 ∨ t = 24) ∧ i = p ∧ j = dE x p + 1) := by
  intro hv
  by_cases ht : t = 22 ∨ t = 23 ∨ t = 24
  · have hb : i < dP x ∧ 1 ≤ j ∧ j ≤ dE (addC x p a) i := by
      rcases ht with rfl | rfl | rfl <;> exact of_decide_eq_true hv
    rw [addC_E] at hb
    by_cases hi : i = p
    · subst hi
      rw [if_pos rfl] at hb
      by_cases hj : j = dE x i + 1
      · exact Or.inr ⟨ht, rfl, hj⟩
      · left
        have hb2 : i < dP x ∧ 1 ≤ j ∧ j ≤ dE x i := by omega
        rcases ht with rfl | rfl | rfl <;> exact decide_eq_true hb2
    · left
      rw [if_neg hi] at hb
      rcases ht with rfl | rfl | rfl <;> exact decide_eq_true hb
  · left
    rw [← hv]
    unfold vd
    split <;> first | rfl | (exfalso; omega)
theorem addC_v2 {p a t i j : Nat} (hv : vd x t i j = true) : vd (addC x p a) t i j = true := by
  by_cases ht : t = 22 ∨ t = 23 ∨ t = 24
  · have hb : i < dP x ∧ 1 ≤ j ∧ j ≤ dE x i := by
      rcases ht with rfl | rfl | rfl <;> exact of_decide_eq_true hv
    have hb2 : i < dP x ∧ 1 ≤ j ∧ j ≤ dE (addC x p a) i := by
      rw [addC_E]
      split
      · rename_i e
        subst e
        omega
      · exact hb
    rcases ht with rfl | rfl | rfl <;> exact decide_eq_true hb2
  · rw [← hv]
    unfold vd
    split <;> first | rfl | (exfalso; omega)
theorem addC_o {p t i j : Nat} (hv : vd x t i j = true) : ¬ ((t = 22 ∨ t = 23 ∨ t = 24) ∧ i = p ∧ j = dE x p + 1) := by
  rintro ⟨ht, rfl, rfl⟩
  have hb : i < dP x ∧ 1 ≤ dE x i + 1 ∧ dE x i + 1 ≤ dE x i := by
    rcases ht with rfl | rfl | rfl <;> exact of_decide_eq_true hv
  omega
theorem addC_en {p a t i j : Nat} (hn : ¬ ((t = 22 ∨ t = 23 ∨ t = 24) ∧ i = p ∧ j = dE x p + 1)) : en (addC x p a) t i j = en x t i j := by
  show (if (t, i, j) = (22, p, dE x p + 1) then a else if (t, i, j) = (23, p, dE x p + 1) then a + 1 else if (t, i, j) = (24, p, dE x p + 1) then a + 2 else x.1 (t, i, j)) = _
  rw [if_neg (fun q => hn (by cases q; exact ⟨Or.inl rfl, rfl, rfl⟩)), if_neg (fun q => hn (by cases q; exact ⟨Or.inr (Or.inl rfl), rfl, rfl⟩)), if_neg (fun q => hn (by cases q; exact ⟨Or.inr (Or.inr rfl), rfl, rfl⟩))]
  rfl
theorem addC_22 (p a : Nat) : en (addC x p a) 22 p (dE x p + 1) = a := if_pos rfl
theorem addC_23 (p a : Nat) : en (addC x p a) 23 p (dE x p + 1) = a + 1 := by
  show (if (23, p, dE x p + 1) = (22, p, dE x p + 1) then a else if (23, p, dE x p + 1) = (23, p, dE x p + 1) then a + 1 else _) = _
  rw [if_neg (by simp), if_pos rfl]
theorem addC_24 (p a : Nat) : en (addC x p a) 24 p (dE x p + 1) = a + 2 := by
  show (if (24, p, dE x p + 1) = (22, p, dE x p + 1) then a else if (24, p, dE x p + 1) = (23, p, dE x p + 1) then a + 1 else if (24, p, dE x p + 1) = (24, p, dE x p + 1) then a + 2 else _) = _
  rw [if_neg (by simp), if_neg (by simp), if_pos rfl]
theorem addC_tg (p a q : Nat) : tg (addC x p a) q = if q = a then (22, p, dE x p + 1) else if q = a + 1 then (23, p, dE x p + 1) else if q = a + 2 then (24, p, dE x p + 1) else tg x q := rfl
theorem addC_wx {p a : Nat} (hx : Wx x) (hp : p < dP x) (hE : dE x p < 400) (ho : off x a) (ho1 : off x (a + 1)) (ho2 : off x (a + 2)) : Wx (addC x p a) := by
  refine ⟨fun t i j hv => ?_, fun q hq => ?_, hx.2.2.1, hx.2.2.2.1, hx.2.2.2.2⟩
  · rcases addC_v hv with hv | ⟨ht, rfl, rfl⟩
    · rw [addC_en (addC_o hv), addC_tg, if_neg (ho t i j hv), if_neg (ho1 t i j hv), if_neg (ho2 t i j hv)]
      exact hx.1 t i j hv
    · rcases ht with rfl | rfl | rfl
      · rw [addC_22, addC_tg, if_pos rfl]
      · rw [addC_23, addC_tg, if_neg (by omega), if_pos rfl]
      · rw [addC_24, addC_tg, if_neg (by omega), if_neg (by omega), if_pos rfl]
  · rw [addC_E]
    split
    · omega
    · exact hx.2.1 q hq
end XCQ
