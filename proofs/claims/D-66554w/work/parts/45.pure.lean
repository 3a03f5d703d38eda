/-! what holds of the state between operations -/
def cok (P : Nat) (σ : xS) (k : Nat) : Prop := (∃ i, i < 30 ∧ σ.2.1 7 k = nI i) ∧ (∃ c, c < 10 ∧ σ.2.1 8 k = nI c) ∧ (∃ n, 1 ≤ n ∧ n ≤ 1000 ∧ σ.2.1 9 k = nI n) ∧ ∀ q, P ≤ q → q < 3 → σ.2.1 10 (3 * k + q) = 0
def asum (σ : xS) (s : Nat) : Nat := cn (σ.2.1 18 (3 * s)) + cn (σ.2.1 18 (3 * s + 1)) + cn (σ.2.1 18 (3 * s + 2))
def i_dim (P N R T : Nat) (σ : xS) : Prop := 1 ≤ P ∧ P ≤ 3 ∧ 1 ≤ N ∧ N ≤ 4 ∧ R ≤ 500 ∧ T ≤ 100000 ∧ σ.1 0 = nI P ∧ σ.1 1 = nI N ∧ σ.1 26 = nI R ∧ σ.1 3 = nI T
def i_log (P : Nat) (e t : Nat → Nat) (σ : xS) : Prop := ∀ p, p < P → σ.2.1 4 p = nI (e p) ∧ σ.2.1 5 p = nI (t p) ∧ t p ≤ e p ∧ e p ≤ 400 ∧ ∀ j, 1 ≤ j → j ≤ e p → cok P σ (401 * p + j)
def i_at (P N : Nat) (e t : Nat → Nat) (σ : xS) : Prop := (∀ s, s < 8 → ∀ q, q < 3 → ∃ a, σ.2.1 18 (3 * s + q) = nI a ∧ a ≤ 400 ∧ (q < P → a ≤ e q) ∧ (P ≤ q → a = 0)) ∧ ∀ r, r < N → ∀ q, q < P → t q ≤ cn (σ.2.1 18 (3 * (4 + r) + q)) ∧ cn (σ.2.1 18 (3 * (4 + r) + q)) ≤ cn (σ.2.1 18 (3 * r + q))
def i_sold (σ : xS) : Prop := ∀ s, s < 8 → ∀ i, i < 30 → ∃ v, v ≤ 1000 * asum σ s ∧ σ.2.1 13 (30 * s + i) = nI v
def i_ses (P N : Nat) (e : Nat → Nat) (σ : xS) : Prop := ∀ j, j < 8 → (∃ v, v < N ∧ σ.2.1 23 j = nI v) ∧ ∀ q, q < 3 → (∃ w, w ≤ 400 ∧ σ.2.1 24 (3 * j + q) = nI w ∧ (q < P → w ≤ e q) ∧ (P ≤ q → w = 0)) ∧ 0 ≤ σ.2.1 25 (3 * j + q) ∧ (P ≤ q → σ.2.1 25 (3 * j + q) = 0)
def i_rd (P R T : Nat) (σ : xS) : Prop := ∀ k, k < R → (∃ s, s < 8 ∧ σ.2.1 28 k = nI s) ∧ qok P (σ.2.1 33 k) (σ.2.1 34 k) ∧ (∀ q, P ≤ q → q < 3 → σ.2.1 29 (3 * k + q) = 0) ∧ -1 ≤ σ.2.1 30 k ∧ (∃ a, a ≤ T ∧ σ.2.1 32 k = nI a) ∧ (∃ b, b ≤ 1000 ∧ σ.2.1 31 k = nI b)
def i_rep (P : Nat) (σ : xS) : Prop := ∀ r, r < 4 → (∃ p, p < P ∧ σ.2.1 20 r = nI p) ∧ (∃ v, v ≤ 10 ∧ σ.2.1 19 r = nI v) ∧ (σ.2.1 21 r = 0 ∨ σ.2.1 21 r = 1)
/-- no replica may answer a read that waits -/
def non (P R : Nat) (σ : xS) (r : Nat) : Prop := ∀ k, k < R → σ.2.1 27 k = 0 → mayb P σ r k = false
/-- the reads that wait -/
def wl (σ : xS) (R : Nat) : List Nat := (List.range R).filter fun k => decide (σ.2.1 27 k = 0)
def Inv0 (P N R T : Nat) (e t : Nat → Nat) (σ : xS) : Prop := i_dim P N R T σ ∧ i_log P e t σ ∧ i_at P N e t σ ∧ i_sold σ ∧ i_ses P N e σ ∧ i_rd P R T σ ∧ i_rep P σ ∧ (wl σ R).length ≤ 40
def Inv (P N R T : Nat) (e t : Nat → Nat) (σ : xS) : Prop := Inv0 P N R T e t σ ∧ ∀ r, r < N → non P R σ r
section XIV
variable {σ τ : xS} {P N R T : Nat} {e t : Nat → Nat}
theorem mx_l (a b : Int32) : a ≤ mx a b := by
  unfold mx
  split
  · assumption
  · exact Int32.le_refl a
theorem rise_ge (σ : xS) (s r p i : Nat) : σ.2.1 25 i ≤ (riseS σ s r p).2.1 25 i := by
  induction p with
  | zero => exact Int32.le_refl _
  | succ p ih =>
    simp only [riseS]
    by_cases hi : i = 3 * s + p
    · subst hi
      rw [uI_g]
      exact Int32.le_trans ih (mx_l _ _)
    · rw [uI_i hi]
      exact ih
theorem rise_out (σ : xS) (s r p i : Nat) (h : ∀ q, q < p → i ≠ 3 * s + q) : (riseS σ s r p).2.1 25 i = σ.2.1 25 i := by
  induction p with
  | zero => rfl
  | succ p ih =>
    simp only [riseS]
    rw [uI_i (h p (by omega))]
    exact ih (fun q hq => h q (by omega))
theorem ans_ge (P : Nat) (σ : xS) (r k i : Nat) : σ.2.1 25 i ≤ (ansS P σ r k).2.1 25 i := rise_ge _ _ _ _ _
theorem ans_st (P : Nat) (σ : xS) (r k : Nat) : (ansS P σ r k).2.1 27 = va_up (σ.2.1 27) k 1 := by
  unfold ansS
  rw [(rise_same _ _ _ _).2.1 27 (by decide)]
  rfl
theorem cv_c {f g : Nat → Int32} (h18 : τ.2.1 18 = σ.2.1 18) (b r n : Nat) (hf : ∀ p, p < n → g (b + p) ≤ f (b + p)) : cv τ f b r n = true → cv σ g b r n = true := by
  induction n with
  | zero => exact fun _ => rfl
  | succ n ih =>
    simp only [cv, Bool.and_eq_true, decide_eq_true_iff, h18]
    intro ⟨h1, h2⟩
    exact ⟨ih (fun p hp => hf p (by omega)) h1, Int32.le_trans (hf n (by omega)) h2⟩
theorem stl_c (h18 : τ.2.1 18 = σ.2.1 18) (h4 : τ.2.1 4 = σ.2.1 4) (h30 : τ.2.1 30 = σ.2.1 30) (r k n : Nat) : stl τ r k n = stl σ r k n := by
  induction n with
  | zero => rfl
  | succ n ih => simp only [stl, ih, h18, h4, h30]
theorem may_c {F : List Nat} (hs : same F σ τ) (hF : ∀ j, j ∈ F → j ≠ 21 ∧ j ≠ 29 ∧ j ≠ 22 ∧ j ≠ 24 ∧ j ≠ 30 ∧ j ≠ 18 ∧ j ≠ 4 ∧ j ≠ 28) (hg : ∀ i, σ.2.1 25 i ≤ τ.2.1 25 i) {r k : Nat} (h : mayb P τ r k = true) : mayb P σ r k = true := by
  have e21 := hs.2.1 21 (fun q => (hF _ q).1 rfl)
  have e29 := hs.2.1 29 (fun q => (hF _ q).2.1 rfl)
  have e22 := hs.2.1 22 (fun q => (hF _ q).2.2.1 rfl)
  have e24 := hs.2.1 24 (fun q => (hF _ q).2.2.2.1 rfl)
  have e30 := hs.2.1 30 (fun q => (hF _ q).2.2.2.2.1 rfl)
  have e18 := hs.2.1 18 (fun q => (hF _ q).2.2.2.2.2.1 rfl)
  have e4 := hs.2.1 4 (fun q => (hF _ q).2.2.2.2.2.2.1 rfl)
  have e28 := hs.2.1 28 (fun q => (hF _ q).2.2.2.2.2.2.2 rfl)
  have esn : sn τ k = sn σ k := by unfold sn; rw [e28]
  unfold mayb at h ⊢
  rw [e21, e22, e24, e29, e30, esn, stl_c e18 e4 e30] at h
  simp only [Bool.and_eq_true, Bool.or_eq_true] at h ⊢
  refine ⟨h.1, cv_c e18 _ _ _ (fun _ _ => Int32.le_refl _) h.2.1, ?_, ?_, h.2.2.2.2⟩
  · exact h.2.2.1.imp id (cv_c e18 _ _ _ (fun _ _ => Int32.le_refl _))
  · exact h.2.2.2.1.imp id (cv_c e18 _ _ _ (fun _ _ => hg _))
theorem non_c {F : List Nat} (hs : same F σ τ) (hF : ∀ j, j ∈ F → j ≠ 21 ∧ j ≠ 29 ∧ j ≠ 22 ∧ j ≠ 24 ∧ j ≠ 30 ∧ j ≠ 18 ∧ j ≠ 4 ∧ j ≠ 28) (hg : ∀ i, σ.2.1 25 i ≤ τ.2.1 25 i) (hst : ∀ k, k < R → τ.2.1 27 k = 0 → σ.2.1 27 k = 0) {r : Nat} (h : non P R σ r) : non P R τ r := by
  intro k hk h0
  cases hm : mayb P τ r k
  · rfl
  · have := h k hk (hst k hk h0)
    rw [may_c hs hF hg hm] at this
    cases this
theorem wl_le (h : ∀ k, k < R → τ.2.1 27 k = 0 → σ.2.1 27 k = 0) : (wl τ R).length ≤ (wl σ R).length := by
  unfold wl
  induction R with
  | zero => simp
  | succ R ih =>
    have := ih (fun k hk => h k (by omega))
    rw [List.range_succ, List.filter_append, List.filter_append, List.length_append, List.length_append]
    have h2 : ([R].filter fun k => decide (τ.2.1 27 k = 0)).length ≤ ([R].filter fun k => decide (σ.2.1 27 k = 0)).length := by
      by_cases hc : τ.2.1 27 R = 0
      · simp [hc, h R (by omega) hc]
      · simp [hc]
    omega
theorem cok.same {F : List Nat} (hs : same F σ τ) (hF : ∀ j, j ∈ F → j ≠ 7 ∧ j ≠ 8 ∧ j ≠ 9 ∧ j ≠ 10) {k : Nat} (h : cok P σ k) : cok P τ k := by
  unfold cok
  rw [hs.2.1 7 (fun q => (hF _ q).1 rfl), hs.2.1 8 (fun q => (hF _ q).2.1 rfl), hs.2.1 9 (fun q => (hF _ q).2.2.1 rfl), hs.2.1 10 (fun q => (hF _ q).2.2.2 rfl)]
  exact h
theorem i_log.same {F : List Nat} (h : i_log P e t σ) (hs : same F σ τ) (hF : ∀ j, j ∈ F → 10 < j) : i_log P e t τ := by
  have g : ∀ j, j ≤ 10 → j ∉ F := fun j h1 q => by have := hF j q; omega
  intro p hp
  obtain ⟨h1, h2, h3, h4, h5⟩ := h p hp
  rw [hs.2.1 4 (g _ (by omega)), hs.2.1 5 (g _ (by omega))]
  exact ⟨h1, h2, h3, h4, fun j q1 q2 => (h5 j q1 q2).same hs (fun j q => by have := hF j q; omega)⟩
theorem i_at.same {F : List Nat} (h : i_at P N e t σ) (hs : same F σ τ) (hF : 18 ∉ F) : i_at P N e t τ := by
  unfold i_at
  rw [hs.2.1 18 hF]
  exact h
theorem i_sold.same {F : List Nat} (h : i_sold σ) (hs : same F σ τ) (hF : 18 ∉ F) (hF2 : 13 ∉ F) : i_sold τ := by
  unfold i_sold asum
  rw [hs.2.1 18 hF, hs.2.1 13 hF2]
  exact h
theorem i_ses.same {F : List Nat} (h : i_ses P N e σ) (hs : same F σ τ) (hF : 23 ∉ F ∧ 24 ∉ F ∧ 25 ∉ F) : i_ses P N e τ := by
  unfold i_ses
  rw [hs.2.1 23 hF.1, hs.2.1 24 hF.2.1, hs.2.1 25 hF.2.2]
  exact h
theorem i_rd.same {F : List Nat} (h : i_rd P R T σ) (hs : same F σ τ) (hF : ∀ j, j ∈ F → j < 28 ∨ 34 < j) : i_rd P R T τ := by
  have g : ∀ j, 28 ≤ j → j ≤ 34 → j ∉ F := fun j h1 h2 q => by have := hF j q; omega
  unfold i_rd
  rw [hs.2.1 28 (g _ (by omega) (by omega)), hs.2.1 29 (g _ (by omega) (by omega)), hs.2.1 30 (g _ (by omega) (by omega)), hs.2.1 31 (g _ (by omega) (by omega)), hs.2.1 32 (g _ (by omega) (by omega)), hs.2.1 33 (g _ (by omega) (by omega)), hs.2.1 34 (g _ (by omega) (by omega))]
  exact h
theorem i_rep.same {F : List Nat} (h : i_rep P σ) (hs : same F σ τ) (hF : 19 ∉ F ∧ 20 ∉ F ∧ 21 ∉ F) : i_rep P τ := by
  unfold i_rep
  rw [hs.2.1 19 hF.1, hs.2.1 20 hF.2.1, hs.2.1 21 hF.2.2]
  exact h
theorem i_dim.same {F : List Nat} (h : i_dim P N R T σ) (hs : same F σ τ) : i_dim P N R T τ := by
  unfold i_dim
  rw [hs.1]
  exact h
theorem i_sold.sok (h : i_sold σ) (ha : i_at P N e t σ) : ∀ r, r < 8 → sok σ r := by
  intro r hr i hi
  obtain ⟨v, hv, ev⟩ := h r hr i hi
  refine ⟨v, ?_, ev⟩
  obtain ⟨a0, e0, h0, -⟩ := ha.1 r hr 0 (by omega)
  obtain ⟨a1, e1, h1, -⟩ := ha.1 r hr 1 (by omega)
  obtain ⟨a2, e2, h2, -⟩ := ha.1 r hr 2 (by omega)
  unfold asum at hv
  rw [Nat.add_zero] at e0
  rw [e0, e1, e2, cn_nI (by omega), cn_nI (by omega), cn_nI (by omega)] at hv
  omega
theorem Inv0.lok (h : Inv0 P N R T e t σ) : lok P R σ := by
  obtain ⟨h1, -, h3, h4, -, h6, -, -⟩ := h
  obtain ⟨-, -, -, -, -, -, p0, p1, p2, p3⟩ := h1
  exact ⟨p0, p2, fun k hk => ⟨(h6 k hk).1, (h6 k hk).2.1⟩, h4.sok h3⟩
/-- all but the count of those that wait -/
def Inw (P N R T : Nat) (e t : Nat → Nat) (σ : xS) : Prop := i_dim P N R T σ ∧ i_log P e t σ ∧ i_at P N e t σ ∧ i_sold σ ∧ i_ses P N e σ ∧ i_rd P R T σ ∧ i_rep P σ
theorem ans_inw (h : Inw P N R T e t σ) {r k : Nat} (hk : k < R) : Inw P N R T e t (ansS P σ r k) := by
  obtain ⟨h1, h2, h3, h4, h5, h6, h7⟩ := h
  have hs := ans_same P σ r k
  refine ⟨h1.same hs, h2.same hs (by decide), h3.same hs (by decide), h4.same hs (by decide) (by decide), ?_, h6.same hs (by decide), h7.same hs (by decide)⟩
  · intro j hj
    obtain ⟨g1, g2⟩ := h5 j hj
    rw [hs.2.1 23 (by decide), hs.2.1 24 (by decide)]
    refine ⟨g1, fun q hq => ⟨(g2 q hq).1, ?_, ?_⟩⟩
    · exact Int32.le_trans (g2 q hq).2.1 (ans_ge _ _ _ _ _)
    · intro hPq
      obtain ⟨s, hs8, es⟩ := (h6 k hk).1
      have hsn : sn σ k = s := by unfold sn; rw [es, nI_clamp (by omega)]
      rw [← (g2 q hq).2.2 hPq]
      unfold ansS
      have hP3 := h1.2.1
      rw [rise_out _ _ _ _ _ (fun q' hq' => by rw [hsn]; omega)]
      rfl
theorem ans_inv (h : Inv0 P N R T e t σ) {r k : Nat} (hr : r < 8) (hk : k < R) : Inv0 P N R T e t (ansS P σ r k) := by
  obtain ⟨h1, h2, h3, h4, h5, h6, h7, h8⟩ := h
  obtain ⟨g1, g2, g3, g4, g5, g6, g7⟩ := ans_inw (r := r) ⟨h1, h2, h3, h4, h5, h6, h7⟩ hk
  refine ⟨g1, g2, g3, g4, g5, g6, g7, ?_⟩
  · refine Nat.le_trans (wl_le (fun j hj h0 => ?_)) h8
    rw [ans_st] at h0
    by_cases hjk : j = k
    · subst hjk
      simp [va_up] at h0
    · simpa [va_up, hjk] using h0
theorem look_ge (P : Nat) (σ : xS) (r k i : Nat) : σ.2.1 25 i ≤ (lookS P σ r k).2.1 25 i := by
  induction k with
  | zero => exact Int32.le_refl _
  | succ k ih =>
    simp only [lookS]
    split
    · exact Int32.le_trans ih (ans_ge _ _ _ _ _)
    · exact ih
theorem look_st0 (P : Nat) (σ : xS) (r k j : Nat) (h : (lookS P σ r k).2.1 27 j = 0) : σ.2.1 27 j = 0 := by
  induction k with
  | zero => exact h
  | succ k ih =>
    simp only [lookS] at h
    split at h
    · rw [ans_st] at h
      by_cases hjk : j = k
      · subst hjk
        simp [va_up] at h
      · simp [va_up, hjk] at h
        exact ih h
    · exact ih h
theorem look_hi (P : Nat) (σ : xS) (r k j : Nat) (hj : k ≤ j) : (lookS P σ r k).2.1 27 j = σ.2.1 27 j := by
  induction k with
  | zero => rfl
  | succ k ih =>
    simp only [lookS]
    split
    · rw [ans_st]
      have : j ≠ k := by omega
      simp only [va_up, this, if_false]
      exact ih (by omega)
    · exact ih (by omega)
theorem look_inv (h : Inv0 P N R T e t σ) {r k : Nat} (hr : r < 8) (hk : k ≤ R) : Inv0 P N R T e t (lookS P σ r k) := by
  induction k with
  | zero => exact h
  | succ k ih =>
    simp only [lookS]
    split
    · exact ans_inv (ih (by omega)) hr (by omega)
    · exact ih (by omega)
theorem look_non_o (P : Nat) (σ : xS) (r k : Nat) {r' : Nat} (h : non P R σ r') : non P R (lookS P σ r k) r' :=
  non_c (look_same P σ r k) (by decide) (look_ge P σ r k) (fun j _ h0 => look_st0 P σ r k j h0) h
theorem look_non (P : Nat) (σ : xS) (r R : Nat) : non P R (lookS P σ r R) r := by
  induction R with
  | zero => intro k hk; omega
  | succ R ih =>
    intro k hk
    simp only [lookS]
    by_cases hc : (lookS P σ r R).2.1 27 R = 0 ∧ mayb P (lookS P σ r R) r R = true
    · rw [if_pos hc]
      intro h0
      rw [ans_st] at h0
      by_cases hkR : k = R
      · subst hkR
        simp [va_up] at h0
      · simp only [va_up, hkR, if_false] at h0
        have := non_c (R := R) (ans_same P (lookS P σ r R) r R) (by decide) (ans_ge P (lookS P σ r R) r R) (fun j _ h1 => by
          rw [ans_st] at h1
          by_cases hj : j = R
          · subst hj
            simp [va_up] at h1
          · simpa [va_up, hj] using h1) ih
        refine this k (by omega) ?_
        rw [ans_st]
        simp only [va_up, hkR, if_false]
        exact h0
    · rw [if_neg hc]
      intro h0
      by_cases hkR : k = R
      · subst hkR
        cases hm : mayb P (lookS P σ r k) r k
        · rfl
        · exact absurd ⟨h0, hm⟩ hc
      · exact ih k (by omega) h0
/-- where none may answer, looking changes nothing -/
theorem look_id (P : Nat) (σ : xS) (r R : Nat) (h : non P R σ r) : lookS P σ r R = σ := by
  have : ∀ k, k ≤ R → lookS P σ r k = σ := by
    intro k
    induction k with
    | zero => exact fun _ => rfl
    | succ k ih =>
      intro hk
      simp only [lookS]
      rw [ih (by omega), if_neg]
      intro ⟨h0, hm⟩
      rw [h k (by omega) h0] at hm
      cases hm
  exact this R (Nat.le_refl R)
end XIV
