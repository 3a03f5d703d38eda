/-! copies and trimming keep what holds; trimming in the component -/
theorem cpS_same (σ : xS) (a b : Nat) : same [11, 12, 13, 14, 15, 16, 17, 18] σ (cpS σ a b) := by
  refine ⟨rfl, fun j hj => ?_, fun j hj => ?_⟩
  · simp at hj
    simp [cpS, cpN, hj]
  · simp at hj
    simp [cpS, cpN, hj]
theorem cpS_18 (σ : xS) (a b s q : Nat) (hq : q < 3) : (cpS σ a b).2.1 18 (3 * s + q) = if s = b then σ.2.1 18 (3 * a + q) else σ.2.1 18 (3 * s + q) := by
  show rg (σ.2.1 18) (3 * b) 3 (3 * a) (3 * s + q) = _
  by_cases h : s = b
  · subst h
    rw [if_pos rfl, rg_in _ (by omega)]
    exact congrArg (σ.2.1 18) (by omega)
  · rw [if_neg h, rg_out _ (by omega)]
theorem cpS_13 (σ : xS) (a b s i : Nat) (hi : i < 30) : (cpS σ a b).2.1 13 (30 * s + i) = if s = b then σ.2.1 13 (30 * a + i) else σ.2.1 13 (30 * s + i) := by
  show rg (σ.2.1 13) (30 * b) 30 (30 * a) (30 * s + i) = _
  by_cases h : s = b
  · subst h
    rw [if_pos rfl, rg_in _ (by omega)]
    exact congrArg (σ.2.1 13) (by omega)
  · rw [if_neg h, rg_out _ (by omega)]
section XIX
variable {σ τ : xS} {P N R T : Nat} {e t : Nat → Nat}
theorem cp_inv0 (h : Inv0 P N R T e t σ) {a b : Nat} (ha : a < 8) (hb : ∀ r, r < N → ∀ q, q < P → t q ≤ cn ((cpS σ a b).2.1 18 (3 * (4 + r) + q)) ∧ cn ((cpS σ a b).2.1 18 (3 * (4 + r) + q)) ≤ cn ((cpS σ a b).2.1 18 (3 * r + q))) : Inv0 P N R T e t (cpS σ a b) := by
  have hs := cpS_same σ a b
  obtain ⟨h1, h2, h3, h4, h5, h6, h7, h8⟩ := h
  refine ⟨h1.same hs, h2.same hs (by decide), ⟨fun s hs8 q hq => ?_, hb⟩, fun s hs8 i hi => ?_, h5.same hs (by decide), h6.same hs (by decide), h7.same hs (by decide), ?_⟩
  · rw [cpS_18 _ _ _ _ _ hq]
    split
    · exact h3.1 a ha q hq
    · exact h3.1 s hs8 q hq
  · rw [cpS_13 _ _ _ _ _ hi]
    have hsum : asum (cpS σ a b) s = if s = b then asum σ a else asum σ s := by
      unfold asum
      have e0 := cpS_18 σ a b s 0 (by omega)
      rw [Nat.add_zero, Nat.add_zero] at e0
      rw [e0, cpS_18 σ a b s 1 (by omega), cpS_18 σ a b s 2 (by omega)]
      split <;> rfl
    rw [hsum]
    split
    · exact h4 a ha i hi
    · exact h4 s hs8 i hi
  · have : wl (cpS σ a b) R = wl σ R := by
      unfold wl
      rw [hs.2.1 27 (by decide)]
    rw [this]
    exact h8
theorem snap_inv (h : Inv P N R T e t σ) {r : Nat} (hr : r < N) : Inv P N R T e t (cpS σ r (4 + r)) := by
  have hN := h.1.1.2.2.2.1
  have hP3 := h.1.1.2.1
  refine ⟨cp_inv0 h.1 (by omega) (fun r' hr' q hq => ?_), fun r' hr' => ?_⟩
  · obtain ⟨g1, g2⟩ := h.1.2.2.1.2 r' hr' q hq
    rw [cpS_18 _ _ _ _ _ (by omega), cpS_18 _ _ _ _ _ (by omega), if_neg (show ¬ r' = 4 + r by omega)]
    by_cases hc : 4 + r' = 4 + r
    · rw [if_pos hc]
      obtain rfl : r' = r := by omega
      exact ⟨by omega, Nat.le_refl _⟩
    · rw [if_neg hc]
      exact ⟨g1, g2⟩
  · intro k hk h0
    have hs := cpS_same σ r (4 + r)
    rw [hs.2.1 27 (by decide)] at h0
    cases hm : mayb P (cpS σ r (4 + r)) r' k
    · rfl
    · have e18 : ∀ q, q < P → (cpS σ r (4 + r)).2.1 18 (3 * r' + q) = σ.2.1 18 (3 * r' + q) := fun q hq => by
        rw [cpS_18 _ _ _ _ _ (by omega), if_neg (show ¬ r' = 4 + r by omega)]
      have := may_m (τ := cpS σ r (4 + r)) (σ := σ) (P := P) (r := r') (k := k) (by rw [hs.2.1 21 (by decide)]; exact id) (by rw [hs.2.1 28 (by decide)]) (fun q hq => by rw [hs.2.1 29 (by decide)]) (by rw [hs.2.1 22 (by decide)]) (fun q hq => by rw [hs.2.1 24 (by decide)]; exact Int32.le_refl _) (fun q hq => by rw [hs.2.1 25 (by decide)]; exact Int32.le_refl _) (by rw [hs.2.1 30 (by decide)]) (fun q hq => by rw [e18 q hq]; exact Int32.le_refl _) (fun q hq => by rw [e18 q hq, hs.2.1 4 (by decide)]; exact id) hm
      rw [h.2 r' hr' k hk h0] at this
      cases this
theorem crash_inv (h : Inv P N R T e t σ) {r : Nat} (hr : r < N) : Inv P N R T e t (cpS σ (4 + r) r) := by
  have hN := h.1.1.2.2.2.1
  have hP3 := h.1.1.2.1
  refine ⟨cp_inv0 h.1 (by omega) (fun r' hr' q hq => ?_), fun r' hr' => ?_⟩
  · obtain ⟨g1, g2⟩ := h.1.2.2.1.2 r' hr' q hq
    rw [cpS_18 _ _ _ _ _ (by omega), cpS_18 _ _ _ _ _ (by omega), if_neg (show ¬ 4 + r' = r by omega)]
    by_cases hc : r' = r
    · rw [if_pos hc]
      subst hc
      exact ⟨g1, Nat.le_refl _⟩
    · rw [if_neg hc]
      exact ⟨g1, g2⟩
  · intro k hk h0
    have hs := cpS_same σ (4 + r) r
    rw [hs.2.1 27 (by decide)] at h0
    cases hm : mayb P (cpS σ (4 + r) r) r' k
    · rfl
    · have e18 : ∀ q, q < P → ∃ a b c, (cpS σ (4 + r) r).2.1 18 (3 * r' + q) = nI a ∧ σ.2.1 18 (3 * r' + q) = nI b ∧ σ.2.1 4 q = nI c ∧ a ≤ b ∧ b ≤ c ∧ c ≤ 400 := fun q hq => by
        obtain ⟨b, eb, hb, hc, ec, -⟩ := h.1.at (r := r') (p := q) (by omega) hq
        rw [cpS_18 _ _ _ _ _ (by omega)]
        by_cases hcc : r' = r
        · rw [if_pos hcc]
          subst hcc
          obtain ⟨a, ea, ha, -⟩ := h.1.at (r := 4 + r') (p := q) (by omega) hq
          obtain ⟨-, g2⟩ := h.1.2.2.1.2 r' hr' q hq
          rw [ea, eb, cn_nI (by omega), cn_nI (by omega)] at g2
          exact ⟨a, b, e q, ea, eb, ec, g2, hb, hc⟩
        · rw [if_neg hcc]
          exact ⟨b, b, e q, eb, eb, ec, Nat.le_refl _, hb, hc⟩
      have := may_m (τ := cpS σ (4 + r) r) (σ := σ) (P := P) (r := r') (k := k) (by rw [hs.2.1 21 (by decide)]; exact id) (by rw [hs.2.1 28 (by decide)]) (fun q hq => by rw [hs.2.1 29 (by decide)]) (by rw [hs.2.1 22 (by decide)]) (fun q hq => by rw [hs.2.1 24 (by decide)]; exact Int32.le_refl _) (fun q hq => by rw [hs.2.1 25 (by decide)]; exact Int32.le_refl _) (by rw [hs.2.1 30 (by decide)]) (fun q hq => by
        obtain ⟨a, b, c, ea, eb, ec, h1, h2, h3⟩ := e18 q hq
        rw [ea, eb]
        exact nI_le h1 (by omega)) (fun q hq => by
        obtain ⟨a, b, c, ea, eb, ec, h1, h2, h3⟩ := e18 q hq
        rw [hs.2.1 4 (by decide), ea, eb, ec, Int32.le_iff_toInt_le, Int32.le_iff_toInt_le, pk_sub_toInt (by omega) (by omega), pk_sub_toInt (by omega) (by omega)]
        omega) hm
      rw [h.2 r' hr' k hk h0] at this
      cases this
/-- the least position that is kept -/
theorem least_spec (h : Inv0 P N R T e t σ) {p : Nat} (hp : p < P) (r : Nat) (hr : r ≤ N) : ∃ L, leastS σ p r = nI L ∧ L ≤ 400 ∧ t p ≤ L ∧ ∀ r', r' < r → L ≤ cn (σ.2.1 18 (3 * (4 + r') + p)) := by
  have hN := h.1.2.2.2.1
  have hP3 := h.1.2.1
  induction r with
  | zero =>
    obtain ⟨-, -, g3, g4, -⟩ := h.2.1 p hp
    exact ⟨400, rfl, Nat.le_refl _, by omega, fun r' hr' => by omega⟩
  | succ r ih =>
    obtain ⟨L, e1, e2, e3, e4⟩ := ih (by omega)
    obtain ⟨a, ea, ha, -, -⟩ := h.2.2.1.1 (4 + r) (by omega) p (by omega)
    obtain ⟨g1, -⟩ := h.2.2.1.2 r (by omega) p hp
    rw [ea, cn_nI (by omega)] at g1
    simp only [leastS]
    rw [e1, ea]
    unfold mn
    by_cases hc : a ≤ L
    · rw [if_pos (nI_le hc (by omega))]
      refine ⟨a, rfl, ha, g1, fun r' hr' => ?_⟩
      by_cases hr2 : r' = r
      · subst hr2
        rw [ea, cn_nI (by omega)]
        exact Nat.le_refl _
      · have := e4 r' (by omega)
        omega
    · rw [if_neg (nI_ge (by omega) (by omega))]
      refine ⟨L, rfl, e2, e3, fun r' hr' => ?_⟩
      by_cases hr2 : r' = r
      · subst hr2
        rw [ea, cn_nI (by omega)]
        omega
      · exact e4 r' (by omega)
def tP (N : Nat) (σ : xS) (t : Nat → Nat) (p : Nat) : Nat → Nat := fun q => if q < p then cn (leastS σ q N) else t q
theorem trim_lo (N : Nat) (σ : xS) (p j : Nat) (h : j < p) : (trimS N σ p).2.2.1 5 j = leastS σ j N := by
  induction p with
  | zero => omega
  | succ p ih =>
    simp only [trimS]
    by_cases hj : j = p
    · subst hj
      rw [uI_g]
    · rw [uI_i hj]
      exact ih (by omega)
theorem trim_inv (h : Inv P N R T e t σ) : Inv P N R T e (tP N σ t P) (trimS N σ P).2 := by
  have hs := trim_same N σ P
  have hN1 := h.1.1.2.2.1
  have hN := h.1.1.2.2.2.1
  obtain ⟨h1, h2, h3, h4, h5, h6, h7, h8⟩ := h.1
  have key : ∀ q, q < P → tP N σ t P q = cn (leastS σ q N) := fun q hq => if_pos hq
  refine ⟨⟨h1.same hs, ?_, ?_, h4.same hs (by decide) (by decide), h5.same hs (by decide), h6.same hs (by decide), h7.same hs (by decide), ?_⟩, ?_⟩
  · intro p hp
    obtain ⟨g1, g2, g3, g4, g5⟩ := h2 p hp
    obtain ⟨L, e1, e2, e3, e4⟩ := least_spec h.1 hp N (Nat.le_refl N)
    rw [hs.2.1 4 (by decide), trim_lo _ _ _ _ hp, key p hp, e1, cn_nI (by omega)]
    refine ⟨g1, rfl, ?_, g4, fun j q1 q2 => (g5 j q1 q2).same hs (by decide)⟩
    have := e4 0 (by omega)
    obtain ⟨a, ea, ha, hae, -⟩ := h3.1 (4 + 0) (by omega) p (by have := h1.2.1; omega)
    rw [ea, cn_nI (by omega)] at this
    have := hae hp
    omega
  · unfold i_at
    rw [hs.2.1 18 (by decide)]
    refine ⟨h3.1, fun r hr q hq => ⟨?_, (h3.2 r hr q hq).2⟩⟩
    obtain ⟨L, e1, e2, e3, e4⟩ := least_spec h.1 hq N (Nat.le_refl N)
    rw [key q hq, e1, cn_nI (by omega)]
    exact e4 r hr
  · have : wl (trimS N σ P).2 R = wl σ R := by
      unfold wl
      rw [hs.2.1 27 (by decide)]
    rw [this]
    exact h8
  · intro r hr
    exact non_c hs (by decide) (fun i => by rw [hs.2.1 25 (by decide)]; exact Int32.le_refl _) (fun j _ h0 => by rw [hs.2.1 27 (by decide)] at h0; exact h0) (h.2 r hr)
end XIX
