/-! steps keep what holds of the state -/
def adv0 (P : Nat) (σ : xS) (r p : Nat) : xS := uI (uI (takeS σ r (401 * p + cn (σ.2.1 18 (3 * r + p)) + 1)) 18 (3 * r + p) (σ.2.1 18 (3 * r + p) + 1)) 20 r (nI ((p + 1) % P))
theorem adv0_same (P : Nat) (σ : xS) (r p : Nat) : same [11, 12, 13, 14, 15, 16, 17, 18, 20] σ (adv0 P σ r p) :=
  same.trans (same.trans ((take_same _ _ _).mono (by decide)) (same.uI _ _ _ (by decide))) (same.uI _ _ _ (by decide))
theorem adv0_at (P : Nat) (σ : xS) (r p : Nat) : (adv0 P σ r p).2.1 18 = va_up (σ.2.1 18) (3 * r + p) (σ.2.1 18 (3 * r + p) + 1) := by
  unfold adv0
  have e := (take_same σ r (401 * p + cn (σ.2.1 18 (3 * r + p)) + 1)).2.1 18 (by decide)
  rw [uI_o (by decide)]
  generalize takeS σ r (401 * p + cn (σ.2.1 18 (3 * r + p)) + 1) = τ at e ⊢
  show va_up τ.2.1 18 (va_up (τ.2.1 18) _ _) 18 = _
  rw [e]
  simp [va_up]
theorem take_sold (σ : xS) (s k j : Nat) : (takeS σ s k).2.1 13 j = σ.2.1 13 j ∨ ((takeS σ s k).2.1 13 j = σ.2.1 13 j + σ.2.1 9 k ∧ j = 30 * s + cn (σ.2.1 7 k)) := by
  unfold takeS
  split
  · split
    · exact Or.inl rfl
    · exact Or.inl (by rw [uI_o (by decide)])
  split
  · split
    · exact Or.inl (by rw [uI_o (by decide)])
    · exact Or.inl (by rw [uI_o (by decide), uI_o (by decide)])
  split
  · split
    · by_cases hj : j = 30 * s + cn (σ.2.1 7 k)
      · right
        subst hj
        refine ⟨?_, rfl⟩
        show (uI _ 13 _ _).2.1 13 _ = _
        rw [uI_g]
      · left
        show (uI _ 13 _ _).2.1 13 _ = _
        rw [uI_i hj]
        rfl
    · exact Or.inl rfl
  split
  · exact Or.inl (by rw [uI_o (by decide), uI_o (by decide)])
  · exact Or.inl (by rw [uI_o (by decide)])
section XIW
variable {σ τ : xS} {P N R T : Nat} {e t : Nat → Nat}
theorem cv_m {f g : Nat → Int32} {b r n : Nat} (h18 : ∀ p, p < n → τ.2.1 18 (3 * r + p) ≤ σ.2.1 18 (3 * r + p)) (hf : ∀ p, p < n → g (b + p) ≤ f (b + p)) : cv τ f b r n = true → cv σ g b r n = true := by
  induction n with
  | zero => exact fun _ => rfl
  | succ n ih =>
    simp only [cv, Bool.and_eq_true, decide_eq_true_iff]
    intro ⟨h1, h2⟩
    exact ⟨ih (fun p hp => h18 p (by omega)) (fun p hp => hf p (by omega)) h1, Int32.le_trans (hf n (by omega)) (Int32.le_trans h2 (h18 n (by omega)))⟩
theorem stl_m {r k n : Nat} (h30 : τ.2.1 30 k = σ.2.1 30 k) (hst : ∀ p, p < n → τ.2.1 4 p - τ.2.1 18 (3 * r + p) ≤ σ.2.1 30 k → σ.2.1 4 p - σ.2.1 18 (3 * r + p) ≤ σ.2.1 30 k) : stl τ r k n = true → stl σ r k n = true := by
  induction n with
  | zero => exact fun _ => rfl
  | succ n ih =>
    simp only [stl, Bool.and_eq_true, decide_eq_true_iff, h30]
    intro ⟨h1, h2⟩
    exact ⟨ih (fun p hp => hst p (by omega)) h1, hst n (by omega) h2⟩
theorem may_m {r k : Nat} (h21 : τ.2.1 21 r ≠ 0 → σ.2.1 21 r ≠ 0) (h28 : τ.2.1 28 k = σ.2.1 28 k) (h29 : ∀ p, p < P → τ.2.1 29 (3 * k + p) = σ.2.1 29 (3 * k + p)) (h22 : τ.2.1 22 (sn σ k) = σ.2.1 22 (sn σ k)) (h24 : ∀ p, p < P → σ.2.1 24 (3 * sn σ k + p) ≤ τ.2.1 24 (3 * sn σ k + p)) (h25 : ∀ p, p < P → σ.2.1 25 (3 * sn σ k + p) ≤ τ.2.1 25 (3 * sn σ k + p)) (h30 : τ.2.1 30 k = σ.2.1 30 k)
    (h18 : ∀ p, p < P → τ.2.1 18 (3 * r + p) ≤ σ.2.1 18 (3 * r + p)) (hst : ∀ p, p < P → τ.2.1 4 p - τ.2.1 18 (3 * r + p) ≤ σ.2.1 30 k → σ.2.1 4 p - σ.2.1 18 (3 * r + p) ≤ σ.2.1 30 k) (h : mayb P τ r k = true) : mayb P σ r k = true := by
  have esn : sn τ k = sn σ k := by unfold sn; rw [h28]
  unfold mayb at h ⊢
  rw [esn, h22, h30] at h
  simp only [Bool.and_eq_true, Bool.or_eq_true, decide_eq_true_iff] at h ⊢
  refine ⟨h21 h.1, cv_m h18 (fun p hp => Int32.le_of_eq (h29 p hp).symm) h.2.1, ?_, ?_, ?_⟩
  · exact h.2.2.1.imp id (cv_m h18 h24)
  · exact h.2.2.2.1.imp id (cv_m h18 h25)
  · exact h.2.2.2.2.imp id (stl_m h30 hst)
theorem adv0_inv (h : Inv0 P N R T e t σ) {r p a : Nat} (hr : r < N) (hp : p < P) (ea : σ.2.1 18 (3 * r + p) = nI a) (ha : a < e p) : Inv0 P N R T e t (adv0 P σ r p) := by
  obtain ⟨h1, h2, h3, h4, h5, h6, h7, h8⟩ := h
  have hs := adv0_same P σ r p
  have hN := h1.2.2.2.1
  have hP3 := h1.2.1
  have he := (h2 p hp).2.2.2.1
  have hat := adv0_at P σ r p
  refine ⟨h1.same hs, h2.same hs (by decide), ?_, ?_, h5.same hs (by decide), h6.same hs (by decide), ?_, ?_⟩
  · unfold i_at
    rw [hat]
    constructor
    · intro s hs8 q hq
      by_cases hc : 3 * s + q = 3 * r + p
      · have : s = r ∧ q = p := by omega
        obtain ⟨rfl, rfl⟩ := this
        refine ⟨a + 1, ?_, by omega, fun _ => by omega, fun _ => by omega⟩
        simp only [va_up, if_true]
        rw [ea, np1]
      · simp only [va_up, if_neg hc]
        exact h3.1 s hs8 q hq
    · intro r' hr' q hq
      have := h3.2 r' hr' q hq
      have hn : ¬ 3 * (4 + r') + q = 3 * r + p := by omega
      simp only [va_up, if_neg hn]
      by_cases hc : 3 * r' + q = 3 * r + p
      · have : r' = r ∧ q = p := by omega
        obtain ⟨rfl, rfl⟩ := this
        simp only [if_true]
        rw [ea, np1, cn_nI (by omega)]
        rw [ea, cn_nI (by omega)] at this
        omega
      · simp only [if_neg hc]
        exact this
  · intro s hs8 i hi
    obtain ⟨v, hv, ev⟩ := h4 s hs8 i hi
    have hso : (adv0 P σ r p).2.1 13 = (takeS σ r (401 * p + cn (σ.2.1 18 (3 * r + p)) + 1)).2.1 13 := rfl
    have hsum : asum (adv0 P σ r p) s = if s = r then asum σ s + 1 else asum σ s := by
      unfold asum
      rw [hat]
      by_cases hc : s = r
      · subst hc
        rw [if_pos rfl]
        have : p = 0 ∨ p = 1 ∨ p = 2 := by omega
        rcases this with rfl | rfl | rfl
        · rw [Nat.add_zero] at ea ⊢
          simp [va_up, ea, np1, cn_nI (show a < 2 ^ 31 by omega), cn_nI (show a + 1 < 2 ^ 31 by omega)]
          omega
        · simp [va_up, ea, np1, cn_nI (show a < 2 ^ 31 by omega), cn_nI (show a + 1 < 2 ^ 31 by omega)]
          omega
        · simp [va_up, ea, np1, cn_nI (show a < 2 ^ 31 by omega), cn_nI (show a + 1 < 2 ^ 31 by omega)]
          omega
      · rw [if_neg hc]
        have n0 : ¬ 3 * s = 3 * r + p := by omega
        have n1 : ¬ 3 * s + 1 = 3 * r + p := by omega
        have n2 : ¬ 3 * s + 2 = 3 * r + p := by omega
        simp [va_up, n0, n1, n2]
    rw [hso, hsum]
    rcases take_sold σ r (401 * p + cn (σ.2.1 18 (3 * r + p)) + 1) (30 * s + i) with q | ⟨q, qj⟩
    · refine ⟨v, ?_, by rw [q]; exact ev⟩
      split <;> omega
    · obtain ⟨⟨it, hit, eit⟩, -, ⟨n, hn1, hn2, en⟩, -⟩ := (h2 p hp).2.2.2.2 (a + 1) (by omega) (by omega)
      rw [ea, cn_nI (by omega)] at qj q
      rw [ea, cn_nI (by omega)]
      rw [show 401 * p + a + 1 = 401 * p + (a + 1) from rfl] at q qj ⊢
      rw [eit, cn_nI (by omega)] at qj
      have : s = r := by omega
      rw [if_pos this]
      refine ⟨v + n, by omega, ?_⟩
      rw [q, ev, en, nI_add]
  · intro r' hr'
    obtain ⟨⟨p', hp', ep'⟩, g2, g3⟩ := h7 r' hr'
    rw [hs.2.1 19 (by decide), hs.2.1 21 (by decide)]
    refine ⟨?_, g2, g3⟩
    show ∃ p', p' < P ∧ (uI _ 20 r _).2.1 20 r' = nI p'
    by_cases hc : r' = r
    · subst hc
      rw [uI_g]
      exact ⟨_, Nat.mod_lt _ (by omega), rfl⟩
    · rw [uI_i hc, uI_o (by decide), (take_same _ _ _).2.1 20 (by decide)]
      exact ⟨p', hp', ep'⟩
  · have : wl (adv0 P σ r p) R = wl σ R := by
      unfold wl
      rw [hs.2.1 27 (by decide)]
    rw [this]
    exact h8
theorem adv0_non (hN : N ≤ 4) {r p r' : Nat} (hP3 : P ≤ 3) (hp : p < P) (hne : r' ≠ r) (h : non P R σ r') : non P R (adv0 P σ r p) r' := by
  have hs := adv0_same P σ r p
  have hat := adv0_at P σ r p
  intro k hk h0
  rw [hs.2.1 27 (by decide)] at h0
  cases hm : mayb P (adv0 P σ r p) r' k
  · rfl
  · have e18 : ∀ q, q < P → (adv0 P σ r p).2.1 18 (3 * r' + q) = σ.2.1 18 (3 * r' + q) := by
      intro q hq
      rw [hat]
      have : ¬ 3 * r' + q = 3 * r + p := by omega
      simp only [va_up, if_neg this]
    have := may_m (τ := adv0 P σ r p) (σ := σ) (P := P) (r := r') (k := k) (by rw [hs.2.1 21 (by decide)]; exact id) (by rw [hs.2.1 28 (by decide)]) (fun q hq => by rw [hs.2.1 29 (by decide)]) (by rw [hs.2.1 22 (by decide)]) (fun q hq => by rw [hs.2.1 24 (by decide)]; exact Int32.le_refl _) (fun q hq => by rw [hs.2.1 25 (by decide)]; exact Int32.le_refl _) (by rw [hs.2.1 30 (by decide)]) (fun q hq => by rw [e18 q hq]; exact Int32.le_refl _) (fun q hq => by rw [e18 q hq, hs.2.1 4 (by decide)]; exact id) hm
    rw [h k hk h0] at this
    cases this
theorem Inv0.nr (h : Inv0 P N R T e t σ) : cn (σ.1 26) = R := by
  have := h.1
  rw [this.2.2.2.2.2.2.2.2.1, cn_nI (by have := this.2.2.2.2.1; omega)]
theorem adv_eq (P : Nat) (σ : xS) (r p : Nat) : advS P σ r p = if σ.2.1 18 (3 * r + p) = σ.2.1 4 p then (0, σ) else if cv σ (σ.2.1 10) (3 * (401 * p + cn (σ.2.1 18 (3 * r + p)) + 1)) r P = true then (1, lookS P (adv0 P σ r p) r (cn (σ.1 26))) else (-1, σ) := rfl
/-- where a replica stands -/
theorem Inv0.at (h : Inv0 P N R T e t σ) {r p : Nat} (hr : r < 8) (hp : p < P) : ∃ a, σ.2.1 18 (3 * r + p) = nI a ∧ a ≤ e p ∧ e p ≤ 400 ∧ σ.2.1 4 p = nI (e p) ∧ (¬ σ.2.1 18 (3 * r + p) = σ.2.1 4 p → a < e p) := by
  obtain ⟨a, ea, -, ha, -⟩ := h.2.2.1.1 r hr p (by have := h.1.2.1; omega)
  obtain ⟨g1, -, -, g4, -⟩ := h.2.1 p hp
  refine ⟨a, ea, ha hp, g4, g1, fun q => ?_⟩
  rw [ea, g1] at q
  have := ha hp
  rcases Nat.lt_or_eq_of_le this with q1 | q1
  · exact q1
  · exact absurd (by rw [q1]) q
theorem adv_inv (h : Inv P N R T e t σ) {r p : Nat} (hr : r < N) (hp : p < P) : Inv P N R T e t (advS P σ r p).2 := by
  have hN := h.1.1.2.2.2.1
  obtain ⟨a, ea, h1, h2, h3, h4⟩ := h.1.at (r := r) (p := p) (by omega) hp
  rw [adv_eq]
  by_cases c1 : σ.2.1 18 (3 * r + p) = σ.2.1 4 p
  · rw [if_pos c1]
    exact h
  rw [if_neg c1]
  by_cases c2 : cv σ (σ.2.1 10) (3 * (401 * p + cn (σ.2.1 18 (3 * r + p)) + 1)) r P = true
  · rw [if_pos c2, h.1.nr]
    have i0 := adv0_inv h.1 hr hp ea (h4 c1)
    refine ⟨look_inv i0 (by omega) (Nat.le_refl R), fun r' hr' => ?_⟩
    by_cases hc : r' = r
    · subst hc
      exact look_non P _ _ R
    · exact look_non_o P _ r R (adv0_non hN h.1.1.2.1 hp hc (h.2 r' hr'))
  · rw [if_neg c2]
    exact h
end XIW
