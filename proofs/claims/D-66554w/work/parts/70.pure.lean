/-! the component: told, logged; exceptions at large -/
section XCN
variable {β : Type} {x x' : xX} {y y' : xY} {σ σ' : xS} {h : xH} {T : Nat} {t : Nat → Nat}
/-- an exception of class ci; the heap grew by some objects -/
def ThrE {α : Type} (F : xM α) (x : xX) (y : xY) (σ : xS) (h : xH) (ci : Nat) : Prop := ∃ h2 a, F (er x y σ h) = some (.inr (a, ci), er x y σ h2) ∧ Ext h h2 20 100 ∧ (er x y σ h2).2 a = some (.inr (ci, []))
theorem Thr.e {α : Type} {F : xM α} {ci : Nat} (hf : Fr x h) (ht : Thr F x y σ h ci) : ThrE F x y σ h ci := by
  refine ⟨_, _, ht, (Ext.nw h 6 _).mono (by omega) (by omega), ?_⟩
  rw [er_off (hf.off (Nat.le_refl _))]
  show va_up h.2 h.1.1 _ h.1.1 = _
  simp [va_up]
/-- the same behind some objects -/
theorem thrE_ext {α : Type} {F : xM α} {ci : Nat} {h2 : xH} {c n : Nat} (hf : Fr x h) (he : Ext h h2 c n) (hc : c ≤ 10) (hn : n ≤ 50) (e : F (er x y σ h) = (xth ci : xM α) (er x y σ h2)) (hr : rm6 h2) : ThrE F x y σ h ci := by
  have hf2 := hf.ext he
  rw [c_xth hf2 hr] at e
  refine ⟨_, _, e, (he.trans (Ext.nw h2 6 _)).mono (by omega) (by omega), ?_⟩
  rw [er_off (hf2.off (Nat.le_refl _))]
  show va_up h2.2 h2.1.1 _ h2.1.1 = _
  simp [va_up]
theorem xb_xth {α β : Type} {ci : Nat} {k : α → xM β} {H : xH} : xb (xth ci : xM α) k H = (xth ci : xM β) H := by
  unfold xb xth
  split
  · rename_i e
    split at e
    · cases e
    · rename_i hc
      rw [if_neg hc]
  · rename_i e
    split at e
    · cases e
    · cases e
  · rename_i e
    split at e
    · rename_i hc
      rw [if_pos hc]
      cases e
      rfl
    · cases e
theorem c_tld1 {a : Int64} {b : Int32} (hx : Wx x) (hP : σ.1 0 = nI (dP x)) (hf : Fr x h) (hr : rm6 h) (h1 : inb b.toInt64 0 (σ.1 0 - 1).toInt64 = false) : Thr (f_RS_told (en x 0 0 0) a b) x y σ h 10 := by
  have hP3 := hx.2.2.1
  rw [hP] at h1
  unfold Thr f_RS_told
  rw [rg0_0 hx, hP, xb_thr (c_idx1 (by omega) (hiN (by omega)) hf hr h1)]
theorem c_tld2 {a : Int64} {p : Nat} (hx : Wx x) (hP : σ.1 0 = nI (dP x)) (hf : Fr x h) (hr : 10 ≤ h.1.2.1 ∧ 50 ≤ h.1.2.2) (hp : p < dP x) (h1 : isTok (dP x) σ a = false) : ThrE (f_RS_told (en x 0 0 0) a (nI p)) x y σ h 11 := by
  have hP3 := hx.2.2.1
  obtain ⟨h2, g1, g2⟩ := (c_vectorOf (h := h) (y := y) (tk := a) hx hP hf (by omega)).2 h1
  refine thrE_ext (h2 := h2) hf g2 (by omega) (by omega) ?_ (by
    unfold rm6
    have := g2.2.2.1
    have := g2.2.2.2
    omega)
  unfold f_RS_told
  rw [rg0_0 hx, hP, xb_ok (c_index_ok hp (by omega)), rv0 hx, xb_ok g1]
  show f_RS_told_b26 (nI p) none 0 _ = _
  unfold f_RS_told_b26
  show xb (xth 11) _ _ = _
  rw [xb_xth]
theorem c_tld0 {a : Int64} {p : Nat} (hx : Wx x) (hP : σ.1 0 = nI (dP x)) (hf : Fr x h) (hr : 10 ≤ h.1.2.1 ∧ 50 ≤ h.1.2.2) (hp : p < dP x) (h1 : isTok (dP x) σ a = true) : f_RS_told (en x 0 0 0) a (nI p) (er x y σ h) = some (.inl (posS a p), er x y σ (vH h (pr a 3))) := by
  have hP3 := hx.2.2.1
  have g1 := (c_vectorOf (h := h) (y := y) (tk := a) hx hP hf (by omega)).1 h1
  unfold f_RS_told
  rw [rg0_0 hx, hP, xb_ok (c_index_ok hp (by omega)), rv0 hx, xb_ok g1]
  show f_RS_told_b26 (nI p) (some h.1.1) 1 _ = _
  unfold f_RS_told_b26
  rw [xb_ok c_want_ok]
  show (gA h.1.1 8 0 fun v3 => lI v3 (nI p) fun v4 => xr v4) _ = _
  rw [v_gA hf, v_lI hf (by omega)]
  have : pr a 3 p = posS a p := by
    unfold pr cl
    rw [if_pos (by omega)]
  rw [this]
  rfl
theorem pos_sub {b : Int32} {tt e : Nat} (h1 : tt ≤ e) (h2 : e ≤ 400) (hb : b ≤ nI tt ∨ nI e < b) : inb ((b - 1) - nI tt).toInt64 0 (nI (e - tt) - 1).toInt64 = false := by
  rw [← Bool.not_eq_true, inb_iff, hiN (by omega)]
  rw [Int32.le_iff_toInt_le, Int32.lt_iff_toInt_lt, nI_toInt (by omega), nI_toInt (by omega)] at hb
  rw [Int32.toInt_sub, Int32.toInt_sub, nI_toInt (by omega), show (1 : Int32).toInt = 1 by decide]
  have hb1 : b.toInt < 2 ^ 31 := Int32.toInt_lt b
  have hb2 : -2 ^ 31 ≤ b.toInt := Int32.le_toInt b
  intro ⟨g1, g2⟩
  have g1 : (0 : Int) ≤ _ := g1
  rw [Int.bmod_sub_bmod] at g1 g2
  rcases hb with hb | hb
  · by_cases hc : -2 ^ 31 ≤ b.toInt - 1 - tt
    · rw [Int.bmod_eq_of_le (by omega) (by omega)] at g1
      omega
    · have : (b.toInt - 1 - tt).bmod (2 ^ 32) = b.toInt - 1 - tt + 2 ^ 32 := by
        rw [← Int.add_bmod_right, Int.bmod_eq_of_le (by omega) (by omega)]
        rfl
      rw [this] at g2
      omega
  · rw [Int.bmod_eq_of_le (by omega) (by omega)] at g2
    omega
end XCN
