/-! the component: command, the whole -/
section XCR
variable {β : Type} {x x' : xX} {y y' : xY} {σ σ' : xS} {h : xH} {T : Nat} {t : Nat → Nat}
theorem nds_k (σ : xS) (s k q j : Nat) (h : ∀ r, r < q → j ≠ 3 * k + r) : (ndS σ s k q).2.1 10 j = σ.2.1 10 j := by
  induction q with
  | zero => rfl
  | succ q ih =>
    simp only [ndS]
    rw [uI_i (h q (by omega))]
    exact ih (fun r hr => h r (by omega))
theorem uI_fun (σ : xS) (k i : Nat) (v : Int32) : (uI σ k i v).2.1 k = va_up (σ.2.1 k) i v := by simp [uI, va_up]
theorem same_cong {F : List Nat} {σ τ : xS} (h : same F σ τ) (k i : Nat) (v : Int32) : same F (uI σ k i v) (uI τ k i v) := by
  refine ⟨h.1, fun j hj => ?_, fun j hj => h.2.2 j hj⟩
  by_cases hk : j = k
  · subst hk
    rw [uI_fun, uI_fun, h.2.1 j hj]
  · rw [uI_o hk, uI_o hk, h.2.1 j hj]
/-- what a command writes, seen field by field -/
theorem cmdS_same (σ : xS) (s p E : Nat) (kd it cu am : Int32) : same [6, 7, 8, 9, 10] (uI (uI σ 4 p (nI (E + 1))) 24 (3 * s + p) (nI (E + 1))) (cmdS σ s p E kd it cu am) := by
  have h0 : same [6, 7, 8, 9] (uI σ 4 p (nI (E + 1))) (cmd0 σ p E kd it cu am) := by
    unfold cmd0
    exact same.trans (same.trans (same.trans (same.uI _ _ _ (by decide)) (same.uI _ _ _ (by decide))) (same.uI _ _ _ (by decide))) (same.uI _ _ _ (by decide))
  have h1 : same [6, 7, 8, 9, 10] (uI σ 4 p (nI (E + 1))) (ndS (cmd0 σ p E kd it cu am) s (401 * p + (E + 1)) 3) := (h0.mono (by decide)).trans ((nd_same _ _ _ _).mono (by decide))
  exact same_cong h1 24 _ _
theorem cmdS_k {σ : xS} {s p E : Nat} {kd it cu am : Int32} {f j : Nat} (hf : f = 6 ∨ f = 7 ∨ f = 8 ∨ f = 9) (hj : j ≠ 401 * p + (E + 1)) : (cmdS σ s p E kd it cu am).2.1 f j = σ.2.1 f j := by
  unfold cmdS cmd0
  rcases hf with rfl | rfl | rfl | rfl
  · rw [uI_o (by decide), (nd_same _ _ _ _).2.1 6 (by decide), uI_o (by decide), uI_o (by decide), uI_o (by decide), uI_i hj, uI_o (by decide)]
  · rw [uI_o (by decide), (nd_same _ _ _ _).2.1 7 (by decide), uI_o (by decide), uI_o (by decide), uI_i hj, uI_o (by decide), uI_o (by decide)]
  · rw [uI_o (by decide), (nd_same _ _ _ _).2.1 8 (by decide), uI_o (by decide), uI_i hj, uI_o (by decide), uI_o (by decide), uI_o (by decide)]
  · rw [uI_o (by decide), (nd_same _ _ _ _).2.1 9 (by decide), uI_i hj, uI_o (by decide), uI_o (by decide), uI_o (by decide), uI_o (by decide)]
theorem cmdS_at (σ : xS) (s p E : Nat) (kd it cu am : Int32) : (cmdS σ s p E kd it cu am).2.1 6 (401 * p + (E + 1)) = kd ∧ (cmdS σ s p E kd it cu am).2.1 7 (401 * p + (E + 1)) = it ∧ (cmdS σ s p E kd it cu am).2.1 8 (401 * p + (E + 1)) = cu ∧ (cmdS σ s p E kd it cu am).2.1 9 (401 * p + (E + 1)) = am := by
  unfold cmdS cmd0
  refine ⟨?_, ?_, ?_, ?_⟩
  · rw [uI_o (by decide), (nd_same _ _ _ _).2.1 6 (by decide), uI_o (by decide), uI_o (by decide), uI_o (by decide), uI_g]
  · rw [uI_o (by decide), (nd_same _ _ _ _).2.1 7 (by decide), uI_o (by decide), uI_o (by decide), uI_g]
  · rw [uI_o (by decide), (nd_same _ _ _ _).2.1 8 (by decide), uI_o (by decide), uI_g]
  · rw [uI_o (by decide), (nd_same _ _ _ _).2.1 9 (by decide), uI_g]
theorem cmdS_10 (σ : xS) (s p E q : Nat) (kd it cu am : Int32) (hq : q < 3) : (cmdS σ s p E kd it cu am).2.1 10 (3 * (401 * p + (E + 1)) + q) = needN σ s q := by
  unfold cmdS
  rw [uI_o (by decide), ndS_at _ _ _ _ hq]
  exact needN_c rfl rfl rfl s q
theorem cmdS_10o {σ : xS} {s p E j : Nat} {kd it cu am : Int32} (hj : ∀ q, q < 3 → j ≠ 3 * (401 * p + (E + 1)) + q) : (cmdS σ s p E kd it cu am).2.1 10 j = σ.2.1 10 j := by
  unfold cmdS
  rw [uI_o (by decide), nds_k _ _ _ _ _ hj]
  rfl
theorem cd_en (hx1 : ∀ t i j, en x' t i j = en x t i j ∨ t = 22 ∨ t = 23 ∨ t = 24) (hP : dP x' = dP x) (hN : dN x' = dN x) {t i j : Nat} (ht : t ≠ 22 ∧ t ≠ 23) : cd x' y σ t i j = cd x y σ t i j := by
  have g : ∀ t i j, t ≠ 22 → t ≠ 23 → t ≠ 24 → en x' t i j = en x t i j := fun t i j a b c => (hx1 t i j).resolve_right (fun q => by omega)
  match t with
  | 22 => exact absurd rfl ht.1
  | 23 => exact absurd rfl ht.2
  | 0 => simp only [cd, g 4 0 0 (by decide) (by decide) (by decide), g 7 0 0 (by decide) (by decide) (by decide), g 1 0 0 (by decide) (by decide) (by decide), g 2 0 0 (by decide) (by decide) (by decide), g 3 0 0 (by decide) (by decide) (by decide)]
  | 1 => simp only [cd, fun k => g 17 k 0 (by decide) (by decide) (by decide)]
  | 2 => rfl
  | 3 => rfl
  | 4 => simp only [cd, hP, fun k => g 5 k 0 (by decide) (by decide) (by decide)]
  | 5 => simp only [cd, g 6 i 0 (by decide) (by decide) (by decide)]
  | 6 => rfl
  | 7 => simp only [cd, hN, fun k => g 8 k 0 (by decide) (by decide) (by decide)]
  | 8 => simp only [cd, g 9 i 0 (by decide) (by decide) (by decide), g 9 (4 + i) 0 (by decide) (by decide) (by decide)]
  | 9 => simp only [cd, g 10 i 0 (by decide) (by decide) (by decide), g 11 i 0 (by decide) (by decide) (by decide), g 12 i 0 (by decide) (by decide) (by decide), g 13 i 0 (by decide) (by decide) (by decide)]
  | 10 => simp only [cd, fun k => g 14 i k (by decide) (by decide) (by decide)]
  | 11 => rfl
  | 12 => rfl
  | 13 => simp only [cd, g 16 i 0 (by decide) (by decide) (by decide)]
  | 14 => simp only [cd, g 15 i j (by decide) (by decide) (by decide)]
  | 15 => rfl
  | 16 => rfl
  | 17 => simp only [cd, g 18 i 0 (by decide) (by decide) (by decide), g 20 i 0 (by decide) (by decide) (by decide)]
  | 18 => simp only [cd, g 19 i 0 (by decide) (by decide) (by decide)]
  | 19 => rfl
  | 20 => simp only [cd, g 21 i 0 (by decide) (by decide) (by decide)]
  | 21 => rfl
  | 24 => rfl
  | 25 => simp only [cd, g 26 i 0 (by decide) (by decide) (by decide)]
  | 26 => simp only [cd, g 27 i 0 (by decide) (by decide) (by decide)]
  | 27 => rfl
  | n + 28 => rfl
end XCR
