/-! the small operations keep what holds -/
section XIZ
variable {σ τ : xS} {P N R T : Nat} {e t : Nat → Nat}
theorem Inv0.free {F : List Nat} (h : Inv0 P N R T e t σ) (hs : same F σ τ) (hF : ∀ j, j ∈ F → j = 11 ∨ j = 12 ∨ j = 14 ∨ j = 15 ∨ j = 16 ∨ j = 17 ∨ j = 22 ∨ 35 ≤ j) : Inv0 P N R T e t τ := by
  have g : ∀ j, j ∈ F → 10 < j := fun j hj => by have := hF j hj; omega
  have n : ∀ j, ¬ (j = 11 ∨ j = 12 ∨ j = 14 ∨ j = 15 ∨ j = 16 ∨ j = 17 ∨ j = 22 ∨ 35 ≤ j) → j ∉ F := fun j h1 hj => h1 (hF j hj)
  obtain ⟨h1, h2, h3, h4, h5, h6, h7, h8⟩ := h
  refine ⟨h1.same hs, h2.same hs g, h3.same hs (n _ (by omega)), h4.same hs (n _ (by omega)) (n _ (by omega)), h5.same hs ⟨n _ (by omega), n _ (by omega), n _ (by omega)⟩, h6.same hs (fun j hj => by have := hF j hj; omega), h7.same hs ⟨n _ (by omega), n _ (by omega), n _ (by omega)⟩, ?_⟩
  have : wl τ R = wl σ R := by
    unfold wl
    rw [hs.2.1 27 (n _ (by omega))]
  rw [this]
  exact h8
theorem lookA_inv0 (h : Inv0 P N R T e t σ) (r : Nat) (hr : r ≤ N) : Inv0 P N R T e t (lookA P R σ r) := by
  have hN := h.1.2.2.2.1
  induction r with
  | zero => exact h
  | succ r ih => exact look_inv (ih (by omega)) (by omega) (Nat.le_refl R)
theorem lookA_non (r : Nat) : ∀ r', r' < r → non P R (lookA P R σ r) r' := by
  induction r with
  | zero => intro r' hr'; omega
  | succ r ih =>
    intro r' hr'
    by_cases hc : r' = r
    · subst hc
      exact look_non P _ _ R
    · exact look_non_o P _ r R (ih r' (by omega))
theorem lookA_id (h : ∀ r, r < N → non P R σ r) (r : Nat) (hr : r ≤ N) : lookA P R σ r = σ := by
  induction r with
  | zero => rfl
  | succ r ih =>
    simp only [lookA]
    rw [ih (by omega)]
    exact look_id P σ r R (h r (by omega))
theorem mode_inv (h : Inv P N R T e t σ) (j : Nat) (b : Int32) : Inv P N R T e t (lookA P R (uI σ 22 j b) N) :=
  ⟨lookA_inv0 (h.1.free (same.uI (F := [22]) _ _ _ (by decide)) (by decide)) N (Nat.le_refl N), lookA_non N⟩
/-- the model looks where the mode changed, the component always -/
theorem mode_eq (h : Inv P N R T e t σ) (j : Nat) (b : Int32) : (if σ.2.1 22 j = b then uI σ 22 j b else lookA P R (uI σ 22 j b) N) = lookA P R (uI σ 22 j b) N := by
  by_cases c : σ.2.1 22 j = b
  · rw [if_pos c, ← c, uI_self]
    exact (lookA_id h.2 N (Nat.le_refl N)).symm
  · rw [if_neg c]
theorem home_inv (h : Inv P N R T e t σ) {j r : Nat} (hr : r < N) : Inv P N R T e t (uI σ 23 j (nI r)) := by
  have hs : same [23] σ (uI σ 23 j (nI r)) := same.uI _ _ _ (by decide)
  obtain ⟨⟨h1, h2, h3, h4, h5, h6, h7, h8⟩, h9⟩ := h
  refine ⟨⟨h1.same hs, h2.same hs (by decide), h3.same hs (by decide), h4.same hs (by decide) (by decide), fun j' hj' => ?_, h6.same hs (by decide), h7.same hs (by decide), h8⟩, fun r' hr' => non_c hs (by decide) (fun i => Int32.le_refl _) (fun _ _ h0 => h0) (h9 r' hr')⟩
  obtain ⟨g1, g2⟩ := h5 j' hj'
  refine ⟨?_, g2⟩
  by_cases hc : j' = j
  · subst hc
    rw [uI_g]
    exact ⟨r, hr, rfl⟩
  · rw [uI_i hc]
    exact g1
theorem speed_inv (h : Inv P N R T e t σ) {r v : Nat} (hv : v ≤ 10) : Inv P N R T e t (uI σ 19 r (nI v)) := by
  have hs : same [19] σ (uI σ 19 r (nI v)) := same.uI _ _ _ (by decide)
  obtain ⟨⟨h1, h2, h3, h4, h5, h6, h7, h8⟩, h9⟩ := h
  refine ⟨⟨h1.same hs, h2.same hs (by decide), h3.same hs (by decide), h4.same hs (by decide) (by decide), h5.same hs (by decide), h6.same hs (by decide), fun r' hr' => ?_, h8⟩, fun r' hr' => non_c hs (by decide) (fun i => Int32.le_refl _) (fun _ _ h0 => h0) (h9 r' hr')⟩
  obtain ⟨g1, g2, g3⟩ := h7 r' hr'
  refine ⟨g1, ?_, g3⟩
  by_cases hc : r' = r
  · subst hc
    rw [uI_g]
    exact ⟨v, hv, rfl⟩
  · rw [uI_i hc]
    exact g2
theorem up_inv0 (h : Inv0 P N R T e t σ) {r : Nat} {b : Int32} (hb : b = 0 ∨ b = 1) : Inv0 P N R T e t (uI σ 21 r b) := by
  have hs : same [21] σ (uI σ 21 r b) := same.uI _ _ _ (by decide)
  obtain ⟨h1, h2, h3, h4, h5, h6, h7, h8⟩ := h
  refine ⟨h1.same hs, h2.same hs (by decide), h3.same hs (by decide), h4.same hs (by decide) (by decide), h5.same hs (by decide), h6.same hs (by decide), fun r' hr' => ?_, h8⟩
  obtain ⟨g1, g2, g3⟩ := h7 r' hr'
  refine ⟨g1, g2, ?_⟩
  by_cases hc : r' = r
  · subst hc
    rw [uI_g]
    exact hb
  · rw [uI_i hc]
    exact g3
theorem up_non {r r' : Nat} {b : Int32} (h : non P R σ r') (hc : r' ≠ r ∨ b = 0 ∨ σ.2.1 21 r ≠ 0) : non P R (uI σ 21 r b) r' := by
  intro k hk h0
  cases hm : mayb P (uI σ 21 r b) r' k
  · rfl
  · have := may_m (τ := uI σ 21 r b) (σ := σ) (P := P) (r := r') (k := k) (fun q => by
      by_cases hrr : r' = r
      · subst hrr
        rw [uI_g] at q
        rcases hc with hc | hc | hc
        · exact absurd rfl hc
        · exact absurd hc q
        · exact hc
      · rw [uI_i hrr] at q
        exact q) rfl (fun _ _ => rfl) rfl (fun _ _ => Int32.le_refl _) (fun _ _ => Int32.le_refl _) rfl (fun _ _ => Int32.le_refl _) (fun _ _ => id) hm
    rw [h k hk h0] at this
    cases this
theorem up_inv (h : Inv P N R T e t σ) {r : Nat} {b : Int32} (hr : r < N) (hb : b = 0 ∨ b = 1) : Inv P N R T e t (if b = 1 ∧ σ.2.1 21 r = 0 then lookS P (uI σ 21 r b) r R else uI σ 21 r b) := by
  have hN := h.1.1.2.2.2.1
  have i0 := up_inv0 h.1 (r := r) hb
  by_cases c : b = 1 ∧ σ.2.1 21 r = 0
  · rw [if_pos c]
    refine ⟨look_inv i0 (by omega) (Nat.le_refl R), fun r' hr' => ?_⟩
    by_cases hc : r' = r
    · subst hc
      exact look_non P _ _ R
    · exact look_non_o P _ r R (up_non (h.2 r' hr') (Or.inl hc))
  · rw [if_neg c]
    refine ⟨i0, fun r' hr' => up_non (h.2 r' hr') ?_⟩
    rcases hb with hb | hb
    · exact Or.inr (Or.inl hb)
    · exact Or.inr (Or.inr (fun q => c ⟨hb, q⟩))
end XIZ
section XCH
variable {β : Type} {x : xX} {y y' : xY} {σ σ' : xS} {h : xH} {T : Nat} {t : Nat → Nat}
theorem xb_thr {α β : Type} {X : xM α} {k : α → xM β} {h h' : xH} {v : Nat × Nat} (e : X h = some (.inr v, h')) : xb X k h = some (.inr v, h') := by
  unfold xb
  rw [e]
theorem hiN {n : Nat} (h1 : n < 2 ^ 30) : ((nI n - 1).toInt64).toInt = (n : Int) - 1 := by
  rw [Int32.toInt_toInt64, show (1 : Int32) = nI 1 from rfl, pk_sub_toInt (by omega) (by omega)]
  omega
/-- an exception of class ci leaves the component as it was -/
def Thr {α : Type} (F : xM α) (x : xX) (y : xY) (σ : xS) (h : xH) (ci : Nat) : Prop := F (er x y σ h) = some (.inr (h.1.1, ci), er x y σ (nw h 6 (.inr (ci, []))))
/-- room for an exception -/
def rm6 (h : xH) : Prop := 1 ≤ h.1.2.1 ∧ 6 ≤ h.1.2.2
theorem c_sessionAt1 {a : Int32} (hx : Wx x) (hf : Fr x h) (hr : rm6 h) (h1 : inb a.toInt64 0 7 = false) : Thr (f_RS_sessionAt (en x 0 0 0) a) x y σ h 10 := by
  unfold Thr f_RS_sessionAt
  rw [rg0_3 hx]
  have : f_RS_index a 8 (er x y σ h) = _ := c_index_no (n := 8) (by omega) (by decide) h1
  rw [xb_thr (this.trans (c_xth hf hr))]
theorem c_replicaAt1 {a : Int32} (hx : Wx x) (hN : σ.1 1 = nI (dN x)) (hf : Fr x h) (hr : rm6 h) (h1 : inb a.toInt64 0 (σ.1 1 - 1).toInt64 = false) : Thr (f_RS_replicaAt (en x 0 0 0) a) x y σ h 10 := by
  have hN4 := hx.2.2.2.1
  unfold Thr f_RS_replicaAt
  rw [rg0_2 hx, rg0_2 hx, ra7 hx]
  rw [hN] at h1
  have : f_RS_index a (nI (dN x)) (er x y σ h) = _ := c_index_no (n := dN x) (by omega) (hiN (by omega)) h1
  rw [xb_thr (this.trans (c_xth hf hr))]
theorem c_lookA {v : Int32} (hx : Wx x) (hi : Inv0 (dP x) (dN x) (dR x) T (dE x) t σ) (hj : JW (dR x) y σ) (hjr : JR x y) : ∃ y', f_RS_mode_h43 1000 (en x 0 0 0) v (en x 7 0 0) (nI (dN x)) 0 (er x y σ h) = some (.inl v, er x y' (lookA (dP x) (dR x) σ (dN x)) h) ∧ JW (dR x) y' (lookA (dP x) (dR x) σ (dN x)) ∧ y'.2.2 = y.2.2 := by
  have hN4 := hx.2.2.2.1
  have key : ∀ d r n y0, r + d = dN x → d < n → JW (dR x) y0 (lookA (dP x) (dR x) σ r) → y0.2.2 = y.2.2 → ∃ y', f_RS_mode_h43 n (en x 0 0 0) v (en x 7 0 0) (nI (dN x)) (nI r) (er x y0 (lookA (dP x) (dR x) σ r) h) = some (.inl v, er x y' (lookA (dP x) (dR x) σ (dN x)) h) ∧ JW (dR x) y' (lookA (dP x) (dR x) σ (dN x)) ∧ y'.2.2 = y.2.2 := by
    intro d
    induction d with
    | zero =>
      intro r n y0 hr hn hj0 hy0
      obtain ⟨n, rfl, -⟩ := pos_of hn
      obtain rfl : r = dN x := by omega
      have c1 : nI (dN x) ≤ nI (dN x) := nI_le (by omega) (by omega)
      refine ⟨y0, ?_, hj0, hy0⟩
      simp only [f_RS_mode_h43, f_RS_mode_b43, c1, ↓reduceIte, xr]
    | succ d ih =>
      intro r n y0 hr hn hj0 hy0
      obtain ⟨n, rfl, hn⟩ := pos_of hn
      have hr2 : r < dN x := by omega
      have c1 : ¬ nI (dN x) ≤ nI r := nI_ge (by omega) (by omega)
      have iv := lookA_inv0 hi r (by omega)
      have hjr0 : JR x y0 := fun k hk => by rw [hy0]; exact hjr k hk
      obtain ⟨y1, lk, hj1, hy1⟩ := c_look (h := h) hx iv hj0 hjr0 hr2
      obtain ⟨y', g1, g2, g3⟩ := ih (r + 1) n y1 (by omega) (by omega) hj1 (hy1.trans hy0)
      refine ⟨y', ?_, g2, g3⟩
      simp (disch := first | assumption | omega) only [f_RS_mode_h43, f_RS_mode_b43, c1, lk, ↓rv0, ↓rg0_0, ↓rg0_1, ↓rg0_2, ↓rg0_3, ↓rg0_4, ↓rg0_5, ↓rg0_6, ↓rg0_7, ↓rg0_8, ↓rg0_9, ↓rg0_10, ↓rv5, ↓rg5_0, ↓rg5_1, ↓rg5_2, ↓rv8, ↓rg8_0, ↓rg8_1, ↓rg8_2, ↓rg8_3, ↓rg8_4, ↓rv9, ↓rg9_0, ↓rg9_1, ↓rg9_2, ↓rg9_3, ↓rv13, ↓rg13_0, ↓rv14, ↓rg14_0, ↓rg14_1, ↓rg14_2, ↓rg14_3, ↓rg14_4, ↓rv17, ↓rg17_0, ↓rg17_1, ↓rg17_2, ↓rg17_3, ↓rv18, ↓rg18_0, ↓rv20, ↓rg20_0, ↓rv22, ↓rg22_0, ↓rg22_1, ↓rg22_2, ↓rg22_3, ↓rg22_4, ↓rv23, ↓rg23_0, ↓rv25, ↓rg25_0, ↓rg25_1, ↓rg25_2, ↓rg25_3, ↓rg25_4, ↓rg25_5, ↓rg25_6, ↓rg25_7, ↓rg25_8, ↓rg25_9, ↓rg25_10, ↓rg25_11, ↓rv26, ↓rg26_0, ↓rl12, ↓rl15, ↓rl16, ↓rl19, ↓rl21, ↓rl24, ↓rl27, ↓rl11, ↓rl3, ↓rl1, ↓rl4, ↓rl7, ↓rl10, ↓ra7, ↓ra10, ↓ra4, ↓rp14_0, ↓rp14_1, ↓rp14_2, ↓rp14_3, ↓rp8_3, ↓rp8_4, ↓rp8_2, ↓rp17_0, ↓rp17_1, ↓rp5_1, ↓rp5_2, ↓rp25_7, ↓rp25_8, ↓rp25_9, ↓rp25_10, ↓rp25_11, ↓rs12, ↓rs15, ↓rs16, ↓rs19, ↓rs21, ↓rs11, ↓rp0_5, ↓rp0_10, ↓rp0_7, ↓rp0_8, ↓rp0_9, ↓rs3, ↓xb, ↓xr, rl12, rl15, rl16, rl19, rl21, rl24, rl27, rl11, rl3, rl1, rl4, rl7, rl10, rs12, rs15, rs16, rs19, rs21, rs11, rs3, n3, n30, n10, n300, n401, n4p, np1, np2, nI_add, ↓reduceIte]
      exact g1
  exact key (dN x) 0 1000 y (by omega) (by omega) hj rfl
theorem c_mode1 {a b : Int32} (hx : Wx x) (hf : Fr x h) (hr : rm6 h) (h1 : inb a.toInt64 0 7 = false) : Thr (f_RS_mode (en x 0 0 0) a b) x y σ h 10 := by
  unfold Thr f_RS_mode
  rw [rv0 hx, xb_thr (c_sessionAt1 hx hf hr h1)]
theorem c_mode2 {j : Nat} {b : Int32} (hx : Wx x) (hf : Fr x h) (hr : rm6 h) (hj : j < 8) (h2 : inb b.toInt64 0 15 = false) : Thr (f_RS_mode (en x 0 0 0) (nI j) b) x y σ h 11 := by
  unfold Thr f_RS_mode
  rw [rv0 hx, xb_ok (c_sessionAt hx hj), xb_ok (c_in _ _ _), h2, bI_f, xb_thr (c_want_no.trans (c_xth hf hr))]
theorem c_mode0 {j : Nat} {b : Int32} (hx : Wx x) (hi : Inv (dP x) (dN x) (dR x) T (dE x) t σ) (hj : JW (dR x) y σ) (hjr : JR x y) (hj8 : j < 8) (h2 : inb b.toInt64 0 15 = true) : ∃ y', f_RS_mode (en x 0 0 0) (nI j) b (er x y σ h) = some (.inl (σ.2.1 22 j), er x y' (lookA (dP x) (dR x) (uI σ 22 j b) (dN x)) h) ∧ JW (dR x) y' (lookA (dP x) (dR x) (uI σ 22 j b) (dN x)) ∧ y'.2.2 = y.2.2 := by
  obtain ⟨y', g1, g2, g3⟩ := c_lookA (h := h) (v := σ.2.1 22 j) (y := y) (σ := uI σ 22 j b) hx (hi.1.free (same.uI (F := [22]) _ _ _ (by decide)) (by decide)) (JW.st (σ := σ) (by rw [uI_o (by decide)]) hj) hjr
  refine ⟨y', ?_, g2, g3⟩
  unfold f_RS_mode
  rw [rv0 hx, xb_ok (c_sessionAt hx hj8), xb_ok (c_in _ _ _), h2, bI_t, xb_ok c_want_ok, rg17_0 hx hj8, rp17_0 hx hj8, rg0_2 hx, ra7 hx]
  exact g1
theorem c_home1 {a b : Int32} (hx : Wx x) (hN : σ.1 1 = nI (dN x)) (hf : Fr x h) (hr : rm6 h) (h1 : (inb a.toInt64 0 7 && inb b.toInt64 0 (σ.1 1 - 1).toInt64) = false) : Thr (f_RS_home (en x 0 0 0) a b) x y σ h 10 := by
  unfold Thr f_RS_home
  cases h2 : inb a.toInt64 0 7
  · rw [rv0 hx, xb_thr (c_sessionAt1 hx hf hr h2)]
  · rw [h2, Bool.true_and] at h1
    obtain ⟨j, hj, rfl⟩ := inb_of (n := 8) (by omega) (by decide) h2
    rw [rv0 hx, xb_ok (c_sessionAt hx hj), rv0 hx, xb_thr (c_replicaAt1 hx hN hf hr h1)]
theorem c_home0 {j r : Nat} (hx : Wx x) (hj : j < 8) (hr : r < dN x) : f_RS_home (en x 0 0 0) (nI j) (nI r) (er x y σ h) = some (.inl (σ.2.1 23 j), er x y (uI σ 23 j (nI r)) h) := by
  unfold f_RS_home
  rw [rv0 hx, xb_ok (c_sessionAt hx hj), rv0 hx, xb_ok (c_replicaAt hx hr), rg17_1 hx hj, rp17_1 hx hj]
  rfl
end XCH
