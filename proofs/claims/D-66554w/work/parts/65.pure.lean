/-! the component: the small operations -/
section XCI
variable {β : Type} {x : xX} {y y' : xY} {σ σ' : xS} {h : xH} {T : Nat} {t : Nat → Nat}
theorem c_idx1 {a : Int32} {n : Nat} {hi : Int64} (hn : n < 2 ^ 31) (hh : hi.toInt = (n : Int) - 1) (hf : Fr x h) (hr : rm6 h) (h1 : inb a.toInt64 0 hi = false) : Thr (f_RS_index a (nI n)) x y σ h 10 := (c_index_no hn hh h1).trans (c_xth hf hr)
theorem part_of {a : Int32} (hx : Wx x) (hP : σ.1 0 = nI (dP x)) (h1 : inb a.toInt64 0 (σ.1 0 - 1).toInt64 = true) : ∃ p, p < dP x ∧ a = nI p := by
  have hP3 := hx.2.2.1
  rw [hP] at h1
  exact inb_of (n := dP x) (by omega) (hiN (by omega)) h1
theorem repl_of {a : Int32} (hx : Wx x) (hN : σ.1 1 = nI (dN x)) (h1 : inb a.toInt64 0 (σ.1 1 - 1).toInt64 = true) : ∃ r, r < dN x ∧ a = nI r := by
  have hN4 := hx.2.2.2.1
  rw [hN] at h1
  exact inb_of (n := dN x) (by omega) (hiN (by omega)) h1
theorem c_step1 {a b : Int32} (hx : Wx x) (hP : σ.1 0 = nI (dP x)) (hN : σ.1 1 = nI (dN x)) (hf : Fr x h) (hr : rm6 h) (h1 : (inb a.toInt64 0 (σ.1 1 - 1).toInt64 && inb b.toInt64 0 (σ.1 0 - 1).toInt64) = false) : Thr (f_RS_step (en x 0 0 0) a b) x y σ h 10 := by
  have hP3 := hx.2.2.1
  unfold Thr f_RS_step
  cases h2 : inb a.toInt64 0 (σ.1 1 - 1).toInt64
  · rw [rv0 hx, xb_thr (c_replicaAt1 hx hN hf hr h2)]
  · rw [h2, Bool.true_and, hP] at h1
    obtain ⟨r, hr2, rfl⟩ := repl_of hx hN h2
    rw [rv0 hx, xb_ok (c_replicaAt hx hr2), rg0_0 hx, hP, xb_thr (c_idx1 (by omega) (hiN (by omega)) hf hr h1)]
theorem c_step0 {r p : Nat} (hx : Wx x) (hi : Inv (dP x) (dN x) (dR x) T (dE x) t σ) (hj : JW (dR x) y σ) (hjr : JR x y) (hjl : JL x y t) (hr : r < dN x) (hp : p < dP x) : ∃ y', f_RS_step (en x 0 0 0) (nI r) (nI p) (er x y σ h) = some (.inl (if σ.2.1 21 r = 0 then -2 else (advS (dP x) σ r p).1), er x y' (if σ.2.1 21 r = 0 then σ else (advS (dP x) σ r p).2) h) ∧ JW (dR x) y' (if σ.2.1 21 r = 0 then σ else (advS (dP x) σ r p).2) ∧ y'.2.2 = y.2.2 := by
  have hP3 := hx.2.2.1
  have hP : σ.1 0 = nI (dP x) := hi.1.1.2.2.2.2.2.2.1
  unfold f_RS_step
  rw [rv0 hx, xb_ok (c_replicaAt hx hr), rg0_0 hx, hP, xb_ok (c_index_ok hp (by omega)), rg8_2 hx hr]
  by_cases c : σ.2.1 21 r = 0
  · rw [if_pos c, if_pos c, if_pos c]
    exact ⟨y, rfl, hj, rfl⟩
  · rw [if_neg c, if_neg c, if_neg c]
    obtain ⟨y', g1, g2, g3⟩ := c_advance (h := h) hx hi hj hjr hjl hr hp
    refine ⟨y', ?_, g2, g3⟩
    rw [rv0 hx, xb_ok g1]
    rfl
theorem c_speed1 {a b : Int32} (hx : Wx x) (hN : σ.1 1 = nI (dN x)) (hf : Fr x h) (hr : rm6 h) (h1 : inb a.toInt64 0 (σ.1 1 - 1).toInt64 = false) : Thr (f_RS_speed (en x 0 0 0) a b) x y σ h 10 := by
  unfold Thr f_RS_speed
  rw [rv0 hx, xb_thr (c_replicaAt1 hx hN hf hr h1)]
theorem c_speed2 {r : Nat} {b : Int32} (hx : Wx x) (hf : Fr x h) (hr6 : rm6 h) (hr : r < dN x) (h1 : inb b.toInt64 0 10 = false) : Thr (f_RS_speed (en x 0 0 0) (nI r) b) x y σ h 11 := by
  unfold Thr f_RS_speed
  rw [rv0 hx, xb_ok (c_replicaAt hx hr), xb_ok (c_in _ _ _), h1, bI_f, xb_thr (c_want_no.trans (c_xth hf hr6))]
theorem c_speed0 {r : Nat} {b : Int32} (hx : Wx x) (hr : r < dN x) (h1 : inb b.toInt64 0 10 = true) : f_RS_speed (en x 0 0 0) (nI r) b (er x y σ h) = some (.inl (σ.2.1 19 r), er x y (uI σ 19 r b) h) := by
  unfold f_RS_speed
  rw [rv0 hx, xb_ok (c_replicaAt hx hr), xb_ok (c_in _ _ _), h1, bI_t, xb_ok c_want_ok, rg8_3 hx hr, rp8_3 hx hr]
  rfl
theorem c_ticks1 {a : Int32} (hf : Fr x h) (hr : rm6 h) (h1 : inb a.toInt64 0 100 = false) : Thr (f_RS_ticks (en x 0 0 0) a) x y σ h 11 := by
  unfold Thr f_RS_ticks
  rw [xb_ok (c_in _ _ _), h1, bI_f, xb_thr (c_want_no.trans (c_xth hf hr))]
theorem c_up1 {a b : Int32} (hx : Wx x) (hN : σ.1 1 = nI (dN x)) (hf : Fr x h) (hr : rm6 h) (h1 : inb a.toInt64 0 (σ.1 1 - 1).toInt64 = false) : Thr (f_RS_up (en x 0 0 0) a b) x y σ h 10 := by
  unfold Thr f_RS_up
  rw [rv0 hx, xb_thr (c_replicaAt1 hx hN hf hr h1)]
theorem c_up0 {r : Nat} {b : Int32} (hx : Wx x) (hi : Inv (dP x) (dN x) (dR x) T (dE x) t σ) (hj : JW (dR x) y σ) (hjr : JR x y) (hr : r < dN x) (hb : b = 0 ∨ b = 1) : ∃ y', f_RS_up (en x 0 0 0) (nI r) b (er x y σ h) = some (.inl (σ.2.1 21 r), er x y' (if b = 1 ∧ σ.2.1 21 r = 0 then lookS (dP x) (uI σ 21 r b) r (dR x) else uI σ 21 r b) h) ∧ JW (dR x) y' (if b = 1 ∧ σ.2.1 21 r = 0 then lookS (dP x) (uI σ 21 r b) r (dR x) else uI σ 21 r b) ∧ y'.2.2 = y.2.2 := by
  have hN4 := hx.2.2.2.1
  have hu := (hi.1.2.2.2.2.2.2.1 r (by omega)).2.2
  have hj0 : JW (dR x) y (uI σ 21 r b) := JW.st (σ := σ) (by rw [uI_o (by decide)]) hj
  unfold f_RS_up
  rw [rv0 hx, xb_ok (c_replicaAt hx hr), rg8_2 hx hr, rz8_2 hx hr hb]
  rcases hb with rfl | rfl
  · rw [if_pos rfl, if_neg (fun q => absurd q.1 (by decide))]
    refine ⟨y, ?_, hj0, rfl⟩
    unfold f_RS_up_b31
    rw [if_pos hu]
    rfl
  · rw [if_neg (by decide)]
    by_cases c : σ.2.1 21 r = 0
    · rw [if_pos c, if_pos ⟨rfl, c⟩]
      obtain ⟨y', g1, g2, g3⟩ := c_look (h := h) hx (up_inv0 hi.1 (Or.inr rfl)) hj0 hjr hr
      refine ⟨y', ?_, g2, g3⟩
      rw [rv0 hx, xb_ok g1]
      unfold f_RS_up_b31
      rw [if_pos hu]
      rfl
    · rw [if_neg c, if_neg (fun q => c q.2)]
      refine ⟨y, ?_, hj0, rfl⟩
      unfold f_RS_up_b31
      rw [if_pos hu]
      rfl
theorem c_snapshot1 {a : Int32} (hx : Wx x) (hN : σ.1 1 = nI (dN x)) (hf : Fr x h) (hr : rm6 h) (h1 : inb a.toInt64 0 (σ.1 1 - 1).toInt64 = false) : Thr (f_RS_snapshot (en x 0 0 0) a) x y σ h 10 := by
  unfold Thr f_RS_snapshot
  rw [rv0 hx, xb_thr (c_replicaAt1 hx hN hf hr h1)]
theorem c_snapshot0 {r : Nat} (hx : Wx x) (hr : r < dN x) : f_RS_snapshot (en x 0 0 0) (nI r) (er x y σ h) = some (.inl (σ.2.1 18 (3 * r) + σ.2.1 18 (3 * r + 1) + σ.2.1 18 (3 * r + 2)), er x y (cpS σ r (4 + r)) h) := by
  have hN4 := hx.2.2.2.1
  have h1 : sv x r := Or.inl hr
  have h2 : sv x (4 + r) := Or.inr ⟨by omega, by omega⟩
  have c1 := c_copy (h := h) (y := y) (σ := σ) (a := r) (b := 4 + r) hx h1 h2 (by omega)
  have c2 := c_sum (h := h) (y := y) (σ := cpS σ r (4 + r)) (s := r) hx h1
  have e0 := cpS_18 σ r (4 + r) r 0 (by omega)
  rw [Nat.add_zero, if_neg (by omega)] at e0
  rw [e0, cpS_18 _ _ _ _ _ (by omega), cpS_18 _ _ _ _ _ (by omega), if_neg (by omega), if_neg (by omega)] at c2
  unfold f_RS_snapshot
  rw [rv0 hx, xb_ok (c_replicaAt hx hr), rg8_1 hx hr, rg8_0 hx hr, rv9 hx h2, xb_ok c1, rg8_0 hx hr, rg9_3 hx h1, rv13 hx h1, xb_ok c2]
  rfl
theorem c_crash1 {a : Int32} (hx : Wx x) (hN : σ.1 1 = nI (dN x)) (hf : Fr x h) (hr : rm6 h) (h1 : inb a.toInt64 0 (σ.1 1 - 1).toInt64 = false) : Thr (f_RS_crash (en x 0 0 0) a) x y σ h 10 := by
  unfold Thr f_RS_crash
  rw [rv0 hx, xb_thr (c_replicaAt1 hx hN hf hr h1)]
theorem c_crash0 {r : Nat} (hx : Wx x) (hr : r < dN x) : f_RS_crash (en x 0 0 0) (nI r) (er x y σ h) = some (.inl ((σ.2.1 18 (3 * r) + σ.2.1 18 (3 * r + 1) + σ.2.1 18 (3 * r + 2)) - (σ.2.1 18 (3 * (4 + r)) + σ.2.1 18 (3 * (4 + r) + 1) + σ.2.1 18 (3 * (4 + r) + 2))), er x y (cpS σ (4 + r) r) h) := by
  have hN4 := hx.2.2.2.1
  have h1 : sv x r := Or.inl hr
  have h2 : sv x (4 + r) := Or.inr ⟨by omega, by omega⟩
  have c1 := c_copy (h := h) (y := y) (σ := σ) (a := 4 + r) (b := r) hx h2 h1 (by omega)
  have c2 := c_sum (h := h) (y := y) (σ := σ) (s := r) hx h1
  have c3 := c_sum (h := h) (y := y) (σ := σ) (s := 4 + r) hx h2
  unfold f_RS_crash
  rw [rv0 hx, xb_ok (c_replicaAt hx hr), rg8_0 hx hr, rg9_3 hx h1, rv13 hx h1, xb_ok c2, rg8_1 hx hr, rg9_3 hx h2, rv13 hx h2, xb_ok c3, rg8_0 hx hr, rg8_1 hx hr, rv9 hx h1, xb_ok c1]
  rfl
theorem c_read1 {a b : Int32} (hx : Wx x) (hRn : σ.1 26 = nI (dR x)) (hjr : JR x y) (hf : Fr x h) (hr : rm6 h) (h1 : (inb a.toInt64 0 (σ.1 26 - 1).toInt64 && inb b.toInt64 0 5) = false) : Thr (f_RS_read (en x 0 0 0) a b) x y σ h 10 := by
  have hR := hx.2.2.2.2
  unfold Thr f_RS_read
  rw [rg0_4 hx, rg0_5 hx, hRn]
  rw [hRn] at h1
  cases h2 : inb a.toInt64 0 (nI (dR x) - 1).toInt64
  · rw [xb_thr (c_idx1 (by omega) (hiN (by omega)) hf hr h2)]
  · rw [h2, Bool.true_and] at h1
    obtain ⟨k, hk, rfl⟩ := inb_of (n := dR x) (by omega) (hiN (by omega)) h2
    have : f_RS_index b 6 (er x y σ h) = _ := c_idx1 (x := x) (y := y) (σ := σ) (n := 6) (hi := 5) (by omega) (by decide) hf hr h1
    rw [xb_ok (c_index_ok hk (by omega)), rl2 hx (by omega) (hjr k hk), xb_thr this]
theorem c_told {k : Nat} {b : Int32} (hx : Wx x) (hk : k < dR x) : f_Read_told (en x 25 k 0) b (er x y σ h) = some (.inl (readS σ k b), er x y σ h) := by
  unfold f_Read_told readS
  by_cases c0 : b = 0
  · rw [if_pos c0, if_pos c0, rg25_7 hx hk]; rfl
  rw [if_neg c0, if_neg c0]
  by_cases c1 : b = 1
  · rw [if_pos c1, if_pos c1, rg25_8 hx hk]; rfl
  rw [if_neg c1, if_neg c1]
  by_cases c2 : b = 2
  · rw [if_pos c2, if_pos c2, rg25_9 hx hk]; rfl
  rw [if_neg c2, if_neg c2]
  by_cases c3 : b = 3
  · rw [if_pos c3, if_pos c3, rg25_10 hx hk]; rfl
  rw [if_neg c3, if_neg c3]
  by_cases c4 : b = 4
  · rw [if_pos c4, if_pos c4, rg25_11 hx hk]; rfl
  rw [if_neg c4, if_neg c4, rg25_1 hx hk]
  rfl
theorem c_read0 {k w : Nat} (hx : Wx x) (hRn : σ.1 26 = nI (dR x)) (hjr : JR x y) (hk : k < dR x) (hw : w < 6) : f_RS_read (en x 0 0 0) (nI k) (nI w) (er x y σ h) = some (.inl (readS σ k (nI w)), er x y σ h) := by
  have hR := hx.2.2.2.2
  unfold f_RS_read
  have : f_RS_index (nI w) 6 (er x y σ h) = _ := c_index_ok (n := 6) hw (by omega)
  rw [rg0_4 hx, rg0_5 hx, hRn, xb_ok (c_index_ok hk (by omega)), rl2 hx (by omega) (hjr k hk), xb_ok this, rv25 hx hk, xb_ok (c_told hx hk)]
  rfl
theorem c_at1 {a b : Int32} (hx : Wx x) (hP : σ.1 0 = nI (dP x)) (hN : σ.1 1 = nI (dN x)) (hf : Fr x h) (hr : rm6 h) (h1 : (inb a.toInt64 0 (σ.1 1 - 1).toInt64 && inb b.toInt64 0 (σ.1 0 - 1).toInt64) = false) : Thr (f_RS_at (en x 0 0 0) a b) x y σ h 10 := by
  have hP3 := hx.2.2.1
  unfold Thr f_RS_at
  cases h2 : inb a.toInt64 0 (σ.1 1 - 1).toInt64
  · rw [rv0 hx, xb_thr (c_replicaAt1 hx hN hf hr h2)]
  · rw [h2, Bool.true_and, hP] at h1
    obtain ⟨r, hr2, rfl⟩ := repl_of hx hN h2
    have hs : sv x r := Or.inl hr2
    rw [rv0 hx, xb_ok (c_replicaAt hx hr2), rg8_0 hx hr2, rg9_3 hx hs, rg13_0 hx hs, rg0_0 hx, hP, xb_thr (c_idx1 (by omega) (hiN (by omega)) hf hr h1)]
theorem c_at0 {r p : Nat} (hx : Wx x) (hP : σ.1 0 = nI (dP x)) (hr : r < dN x) (hp : p < dP x) : f_RS_at (en x 0 0 0) (nI r) (nI p) (er x y σ h) = some (.inl (σ.2.1 18 (3 * r + p)), er x y σ h) := by
  have hP3 := hx.2.2.1
  have hs : sv x r := Or.inl hr
  unfold f_RS_at
  rw [rv0 hx, xb_ok (c_replicaAt hx hr), rg8_0 hx hr, rg9_3 hx hs, rg13_0 hx hs, rg0_0 hx, hP, xb_ok (c_index_ok hp (by omega)), rl16 hx hs (by omega)]
  rfl
theorem c_kept1 {a b : Int32} (hx : Wx x) (hP : σ.1 0 = nI (dP x)) (hN : σ.1 1 = nI (dN x)) (hf : Fr x h) (hr : rm6 h) (h1 : (inb a.toInt64 0 (σ.1 1 - 1).toInt64 && inb b.toInt64 0 (σ.1 0 - 1).toInt64) = false) : Thr (f_RS_kept (en x 0 0 0) a b) x y σ h 10 := by
  have hP3 := hx.2.2.1
  unfold Thr f_RS_kept
  cases h2 : inb a.toInt64 0 (σ.1 1 - 1).toInt64
  · rw [rv0 hx, xb_thr (c_replicaAt1 hx hN hf hr h2)]
  · rw [h2, Bool.true_and, hP] at h1
    obtain ⟨r, hr2, rfl⟩ := repl_of hx hN h2
    have hs : sv x (4 + r) := Or.inr ⟨by omega, by omega⟩
    rw [rv0 hx, xb_ok (c_replicaAt hx hr2), rg8_1 hx hr2, rg9_3 hx hs, rg13_0 hx hs, rg0_0 hx, hP, xb_thr (c_idx1 (by omega) (hiN (by omega)) hf hr h1)]
theorem c_kept0 {r p : Nat} (hx : Wx x) (hP : σ.1 0 = nI (dP x)) (hr : r < dN x) (hp : p < dP x) : f_RS_kept (en x 0 0 0) (nI r) (nI p) (er x y σ h) = some (.inl (σ.2.1 18 (3 * (4 + r) + p)), er x y σ h) := by
  have hP3 := hx.2.2.1
  have hs : sv x (4 + r) := Or.inr ⟨by omega, by omega⟩
  unfold f_RS_kept
  rw [rv0 hx, xb_ok (c_replicaAt hx hr), rg8_1 hx hr, rg9_3 hx hs, rg13_0 hx hs, rg0_0 hx, hP, xb_ok (c_index_ok hp (by omega)), rl16 hx hs (by omega)]
  rfl
end XCI
