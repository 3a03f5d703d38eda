/-! ask: what holds behind it -/
section XDF
variable {σ ν : xS} {P N R T : Nat} {e t : Nat → Nat} {s : Nat} {tok : Int64} {bd pt kd ab : Int32}
theorem may_e {τ : xS} {r k : Nat} (h : ∀ f, f ∈ [4, 18, 21, 22, 24, 25, 28, 29, 30] → τ.2.1 f = σ.2.1 f) : mayb P τ r k = mayb P σ r k := by
  have g4 := h 4 (by decide)
  have g18 := h 18 (by decide)
  have g21 := h 21 (by decide)
  have g22 := h 22 (by decide)
  have g24 := h 24 (by decide)
  have g25 := h 25 (by decide)
  have g28 := h 28 (by decide)
  have g29 := h 29 (by decide)
  have g30 := h 30 (by decide)
  rw [Bool.eq_iff_iff]
  constructor
  · exact may_m (by rw [g21]; exact id) (by rw [g28]) (fun p hp => by rw [g29]) (by rw [g22]) (fun p hp => by rw [g24]; exact Int32.le_refl _) (fun p hp => by rw [g25]; exact Int32.le_refl _) (by rw [g30]) (fun p hp => by rw [g18]; exact Int32.le_refl _) (fun p hp => by rw [g18, g4]; exact id)
  · exact may_m (by rw [g21]; exact id) (by rw [g28]) (fun p hp => by rw [g29]) (by rw [g22]) (fun p hp => by rw [g24]; exact Int32.le_refl _) (fun p hp => by rw [g25]; exact Int32.le_refl _) (by rw [g30]) (fun p hp => by rw [g18]; exact Int32.le_refl _) (fun p hp => by rw [g18, g4]; exact id)
theorem fnd_27 {τ : xS} {hm k : Nat} {v : Int32} : fndS P N (uI τ 27 k v) hm R = fndS P N τ hm R := by
  unfold fndS
  have : (fun r => mayb P (uI τ 27 k v) ((hm + r) % N) R) = fun r => mayb P τ ((hm + r) % N) R := funext fun r => may_e (fun f hf => uI_o (by intro q; subst q; simp at hf))
  rw [this]
theorem a2_f {τ : xS} {f : Nat} (hf : f ≠ 27) : (ask2 τ R).2.1 f = τ.2.1 f := uI_o hf
theorem a2_27 {τ : xS} : (ask2 τ R).2.1 27 = va_up (τ.2.1 27) R 0 := uI_fun _ _ _ _
theorem a2_same : same [27, 28, 29, 30, 31, 32, 33, 34, 35, 36, 37, 38] (uS (uS σ 2 0) 26 (nI (R + 1))) (ask2 (askT σ R s tok bd pt kd ab) R) := by
  have h := askT_same σ R s tok bd pt kd ab
  refine ⟨?_, fun j hj => ?_, fun j hj => ?_⟩
  · show va_up (va_up (askT σ R s tok bd pt kd ab).1 2 0) 26 _ = va_up (va_up σ.1 2 0) 26 _
    rw [h.1]
  · rw [a2_f (by intro q; subst q; simp at hj)]
    exact h.2.1 j (fun q => hj (List.mem_cons_of_mem _ q))
  · exact h.2.2 j (fun q => hj (List.mem_cons_of_mem _ q))
theorem a2_o {f j : Nat} (hj : j ≠ R) (hf : f ≠ 29) : (ask2 (askT σ R s tok bd pt kd ab) R).2.1 f j = σ.2.1 f j := by
  unfold ask2
  rw [uI_ne hj]
  exact askT_o hj hf
theorem pos_nn (tk : Int64) (q : Nat) : 0 ≤ posS tk q := by
  unfold posS
  generalize tk >>> ((20 + 9 * nI q).toInt64 &&& 63) = a
  have hb : (a &&& 511).toInt.toNat ≤ 511 ∧ 0 ≤ (a &&& 511).toInt := by
    have e1 : (a &&& 511).toBitVec.toNat ≤ 511 := by
      rw [Int64.toBitVec_and, BitVec.toNat_and]
      exact Nat.and_le_right
    have e2 : (a &&& 511).toInt = ((a &&& 511).toBitVec.toNat : Int) := by
      show (a &&& 511).toBitVec.toInt = _
      rw [BitVec.toInt_eq_toNat_of_lt (by omega)]
    rw [e2]
    omega
  rw [Int32.le_iff_toInt_le, Int64.toInt_toInt32, Int.bmod_eq_of_le (by omega) (by omega)]
  exact hb.2
theorem tok_0 (h3 : isTok P σ tok = true) {q : Nat} (h1 : P ≤ q) (h2 : q < 3) : posS tok q = 0 := by
  unfold isTok at h3
  simp only [Bool.and_eq_true] at h3
  obtain ⟨-, -, -, h3⟩ := h3
  have key : ∀ d n, n + d = 3 → tkl P σ tok n = true := by
    intro d
    induction d with
    | zero =>
      intro n hn
      obtain rfl : n = 3 := by omega
      exact h3
    | succ d ih =>
      intro n hn
      have := ih (n + 1) (by omega)
      have g : (tkl P σ tok n && decide (posS tok n ≤ (if n < P then σ.2.1 4 n else 0))) = true := this
      rw [Bool.and_eq_true] at g
      exact g.1
  have g : (tkl P σ tok q && decide (posS tok q ≤ (if q < P then σ.2.1 4 q else 0))) = true := key (2 - q) (q + 1) (by omega)
  rw [Bool.and_eq_true, decide_eq_true_iff, if_neg (by omega)] at g
  exact Int32.le_antisymm g.2 (pos_nn tok q)
theorem ask_inw (h : Inv0 P N R T e t σ) (hR : R < 500) (hs : s < 8) (hq : qok P kd ab) (h3 : isTok P σ tok = true) (h4 : inb bd.toInt64 (-1) 400 = true) (h5 : inb pt.toInt64 0 1000 = true) : Inw P N (R + 1) T e t (ask2 (askT σ R s tok bd pt kd ab) R) := by
  obtain ⟨g1, g2, g3, g4, g5, g6, g7, -⟩ := h
  have hS := a2_same (σ := σ) (R := R) (s := s) (tok := tok) (bd := bd) (pt := pt) (kd := kd) (ab := ab)
  obtain ⟨d1, d2, d3, d4, d5, d6, d7, d8, d9, d10⟩ := g1
  have g1' : i_dim P N (R + 1) T (uS (uS σ 2 0) 26 (nI (R + 1))) := ⟨d1, d2, d3, d4, by omega, d6, d7, d8, uS_g _ _ _, d10⟩
  have g2' : i_log P e t (uS (uS σ 2 0) 26 (nI (R + 1))) := g2
  have g3' : i_at P N e t (uS (uS σ 2 0) 26 (nI (R + 1))) := g3
  have g4' : i_sold (uS (uS σ 2 0) 26 (nI (R + 1))) := g4
  have g5' : i_ses P N e (uS (uS σ 2 0) 26 (nI (R + 1))) := g5
  have g7' : i_rep P (uS (uS σ 2 0) 26 (nI (R + 1))) := g7
  refine ⟨g1'.same hS, g2'.same hS (by decide), g3'.same hS (by decide), g4'.same hS (by decide) (by decide), g5'.same hS (by decide), ?_, g7'.same hS (by decide)⟩
  intro k hk
  by_cases hkR : k = R
  · subst hkR
    rw [a2_f (by decide), a2_f (by decide), a2_f (by decide), a2_f (by decide), a2_f (by decide), a2_f (by decide), a2_f (by decide), askT_28, askT_33, askT_34, askT_30, askT_31, askT_32]
    refine ⟨⟨s, hs, rfl⟩, hq, fun q h1 h2 => ?_, ?_, ⟨T, Nat.le_refl _, d10⟩, ?_⟩
    · rw [askT_29 h2, tok_0 h3 h1 h2]
    · have := ((inb_iff _ _ _).mp h4).1
      rw [Int32.le_iff_toInt_le]
      exact this
    · obtain ⟨b, hb, eb⟩ := inb_of (n := 1001) (by omega) (by decide) h5
      exact ⟨b, by omega, eb⟩
  · rw [a2_o hkR (by decide), a2_o hkR (by decide), a2_o hkR (by decide), a2_o hkR (by decide), a2_o hkR (by decide), a2_o hkR (by decide), a2_f (by decide)]
    have := g6 k (by omega)
    refine ⟨this.1, this.2.1, fun q h1 h2 => ?_, this.2.2.2⟩
    rw [askT_29o (fun r hr => by omega)]
    exact this.2.2.1 q h1 h2
theorem cnt_x {v : Int32} {n : Nat} (h27 : ∀ k, k < n → ν.2.1 27 k = σ.2.1 27 k) : cnt ν v n = cnt σ v n := by
  induction n with
  | zero => rfl
  | succ n ih =>
    simp only [cnt]
    rw [ih (fun k hk => h27 k (by omega)), h27 n (by omega)]
theorem ask_non {r : Nat} (hn : non P R σ r) (h4 : ν.2.1 4 = σ.2.1 4) (h18 : ν.2.1 18 = σ.2.1 18) (h21 : ν.2.1 21 = σ.2.1 21) (h22 : ν.2.1 22 = σ.2.1 22) (h24 : ν.2.1 24 = σ.2.1 24) (h25 : ∀ i, σ.2.1 25 i ≤ ν.2.1 25 i) (h28 : ∀ k, k ≠ R → ν.2.1 28 k = σ.2.1 28 k) (h30 : ∀ k, k ≠ R → ν.2.1 30 k = σ.2.1 30 k) (h29 : ∀ k, k ≠ R → ∀ p, p < 3 → ν.2.1 29 (3 * k + p) = σ.2.1 29 (3 * k + p)) (h27 : ∀ k, k ≠ R → ν.2.1 27 k = σ.2.1 27 k) (hP3 : P ≤ 3) (hR : ν.2.1 27 R = 0 → mayb P ν r R = false) : non P (R + 1) ν r := by
  intro k hk h0
  by_cases hkR : k = R
  · subst hkR
    exact hR h0
  · rw [h27 k hkR] at h0
    have hf := hn k (by omega) h0
    cases hm : mayb P ν r k
    · rfl
    · have := may_m (τ := ν) (σ := σ) (P := P) (r := r) (k := k) (by rw [h21]; exact id) (h28 k hkR) (fun p hp => h29 k hkR p (by omega)) (by rw [h22]) (fun p hp => by rw [h24]; exact Int32.le_refl _) (fun p hp => h25 _) (h30 k hkR) (fun p hp => by rw [h18]; exact Int32.le_refl _) (fun p hp => by rw [h18, h4]; exact id) hm
      rw [hf] at this
      cases this
theorem ask_inv {hm : Nat} (h : Inv P N R T e t σ) (hR : R < 500) (hs : s < 8) (hhm : hm < N) (hq : qok P kd ab) (h3 : isTok P σ tok = true) (h4 : inb bd.toInt64 (-1) 400 = true) (h5 : inb pt.toInt64 0 1000 = true) (hok : fndS P N (askT σ R s tok bd pt kd ab) hm R < N ∨ pt = 0 ∨ ¬ cnt σ 0 R = 40) : Inv P N (R + 1) T e t (askF P N (askT σ R s tok bd pt kd ab) hm R pt).2 := by
  have hw := ask_inw h.1 hR hs hq h3 h4 h5
  have hP3 := h.1.1.2.1
  have hN4 := h.1.1.2.2.2.1
  have w40 : cnt σ 0 R ≤ 40 := by
    rw [← wl_cnt]
    exact h.1.2.2.2.2.2.2.2
  have sm := askT_same σ R s tok bd pt kd ab
  have ct : cnt (askT σ R s tok bd pt kd ab) 0 R = cnt σ 0 R := cnt_x (fun k hk => askT_o (by omega) (by decide))
  have s4 : ∀ f, f ∉ [27, 28, 29, 30, 31, 32, 33, 34, 35, 36, 37, 38] → (ask2 (askT σ R s tok bd pt kd ab) R).2.1 f = σ.2.1 f := fun f hf => a2_same.2.1 f hf
  have n29 : ∀ k, k ≠ R → ∀ p, p < 3 → (ask2 (askT σ R s tok bd pt kd ab) R).2.1 29 (3 * k + p) = σ.2.1 29 (3 * k + p) := fun k hk p hp => by
    rw [a2_f (by decide), askT_29o (fun r hr => by omega)]
  have fle := fst_le (fun r => mayb P (askT σ R s tok bd pt kd ab) ((hm + r) % N) R) N 0
  have ff := fst_f (fun r => mayb P (askT σ R s tok bd pt kd ab) ((hm + r) % N) R) N 0
  unfold askF
  unfold fndS at hok ⊢
  generalize fst (fun r => mayb P (askT σ R s tok bd pt kd ab) ((hm + r) % N) R) N 0 = r0 at *
  by_cases c1 : r0 < N
  · rw [if_pos c1]
    have hr : (hm + r0) % N < N := Nat.mod_lt _ (by omega)
    show Inv P N (R + 1) T e t (ansS P (ask2 (askT σ R s tok bd pt kd ab) R) ((hm + r0) % N) R)
    generalize (hm + r0) % N = r1 at *
    have hi := ans_inw (r := r1) hw (k := R) (by omega)
    have as := ans_same P (ask2 (askT σ R s tok bd pt kd ab) R) r1 R
    have a27 := ans_st P (ask2 (askT σ R s tok bd pt kd ab) R) r1 R
    have o27 : ∀ k, k ≠ R → (ansS P (ask2 (askT σ R s tok bd pt kd ab) R) r1 R).2.1 27 k = σ.2.1 27 k := fun k hk => by
      rw [a27]
      simp only [va_up, if_neg hk]
      exact a2_o hk (by decide)
    have r27 : (ansS P (ask2 (askT σ R s tok bd pt kd ab) R) r1 R).2.1 27 R = 1 := by
      rw [a27]
      simp [va_up]
    obtain ⟨i1, i2, i3, i4, i5, i6, i7⟩ := hi
    refine ⟨⟨i1, i2, i3, i4, i5, i6, i7, ?_⟩, fun r hr => ?_⟩
    · rw [wl_cnt]
      simp only [cnt]
      rw [cnt_x (fun k hk => o27 k (by omega)), r27, if_neg (by decide)]
      exact w40
    · refine ask_non (h.2 r hr) ?_ ?_ ?_ ?_ ?_ ?_ ?_ ?_ ?_ o27 hP3 (fun q => by rw [r27] at q; exact absurd q (by decide))
      · rw [as.2.1 4 (by decide), s4 4 (by decide)]
      · rw [as.2.1 18 (by decide), s4 18 (by decide)]
      · rw [as.2.1 21 (by decide), s4 21 (by decide)]
      · rw [as.2.1 22 (by decide), s4 22 (by decide)]
      · rw [as.2.1 24 (by decide), s4 24 (by decide)]
      · intro i
        have := ans_ge P (ask2 (askT σ R s tok bd pt kd ab) R) r1 R i
        rwa [s4 25 (by decide)] at this
      · intro k hk
        rw [as.2.1 28 (by decide), a2_o hk (by decide)]
      · intro k hk
        rw [as.2.1 30 (by decide), a2_o hk (by decide)]
      · intro k hk p hp
        rw [as.2.1 29 (by decide), n29 k hk p hp]
  · rw [if_neg c1]
    by_cases c2 : pt = 0
    · rw [if_pos c2]
      show Inv P N (R + 1) T e t (uI (uI (ask2 (askT σ R s tok bd pt kd ab) R) 27 R 2) 38 R ((askT σ R s tok bd pt kd ab).1 3))
      generalize (askT σ R s tok bd pt kd ab).1 3 = vv
      have as : same [27, 38] (ask2 (askT σ R s tok bd pt kd ab) R) (uI (uI (ask2 (askT σ R s tok bd pt kd ab) R) 27 R 2) 38 R vv) := same.trans (same.uI _ _ _ (by decide)) (same.uI _ _ _ (by decide))
      have o27 : ∀ k, k ≠ R → (uI (uI (ask2 (askT σ R s tok bd pt kd ab) R) 27 R 2) 38 R vv).2.1 27 k = σ.2.1 27 k := fun k hk => by
        rw [uI_ne hk, uI_ne hk, a2_o hk (by decide)]
      have r27 : (uI (uI (ask2 (askT σ R s tok bd pt kd ab) R) 27 R 2) 38 R vv).2.1 27 R = 2 := by
        rw [uI_o (by decide), uI_g]
      obtain ⟨i1, i2, i3, i4, i5, i6, i7⟩ := hw
      refine ⟨⟨i1.same as, i2.same as (by decide), i3.same as (by decide), i4.same as (by decide) (by decide), i5.same as (by decide), i6.same as (by decide), i7.same as (by decide), ?_⟩, fun r hr => ?_⟩
      · rw [wl_cnt]
        simp only [cnt]
        rw [cnt_x (fun k hk => o27 k (by omega)), r27, if_neg (by decide)]
        exact w40
      · refine ask_non (h.2 r hr) ?_ ?_ ?_ ?_ ?_ ?_ ?_ ?_ ?_ o27 hP3 (fun q => by rw [r27] at q; exact absurd q (by decide))
        · rw [as.2.1 4 (by decide), s4 4 (by decide)]
        · rw [as.2.1 18 (by decide), s4 18 (by decide)]
        · rw [as.2.1 21 (by decide), s4 21 (by decide)]
        · rw [as.2.1 22 (by decide), s4 22 (by decide)]
        · rw [as.2.1 24 (by decide), s4 24 (by decide)]
        · intro i
          rw [as.2.1 25 (by decide), s4 25 (by decide)]
          exact Int32.le_refl _
        · intro k hk
          rw [as.2.1 28 (by decide), a2_o hk (by decide)]
        · intro k hk
          rw [as.2.1 30 (by decide), a2_o hk (by decide)]
        · intro k hk p hp
          rw [as.2.1 29 (by decide), n29 k hk p hp]
    · rw [if_neg c2, ct]
      have c3 : ¬ cnt σ 0 R = 40 := (hok.resolve_left c1).resolve_left c2
      rw [if_neg c3]
      show Inv P N (R + 1) T e t (ask2 (askT σ R s tok bd pt kd ab) R)
      have o27 : ∀ k, k ≠ R → (ask2 (askT σ R s tok bd pt kd ab) R).2.1 27 k = σ.2.1 27 k := fun k hk => a2_o hk (by decide)
      have r27 : (ask2 (askT σ R s tok bd pt kd ab) R).2.1 27 R = 0 := by
        rw [a2_27]
        simp [va_up]
      obtain ⟨i1, i2, i3, i4, i5, i6, i7⟩ := hw
      refine ⟨⟨i1, i2, i3, i4, i5, i6, i7, ?_⟩, fun r hr => ?_⟩
      · rw [wl_cnt]
        simp only [cnt]
        rw [cnt_x (fun k hk => o27 k (by omega)), r27, if_pos rfl]
        omega
      · refine ask_non (h.2 r hr) (s4 4 (by decide)) (s4 18 (by decide)) (s4 21 (by decide)) (s4 22 (by decide)) (s4 24 (by decide)) (fun i => by rw [s4 25 (by decide)]; exact Int32.le_refl _) (fun k hk => a2_o hk (by decide)) (fun k hk => a2_o hk (by decide)) n29 o27 hP3 (fun _ => ?_)
        rw [may_e (σ := askT σ R s tok bd pt kd ab) (fun f hf => a2_f (by intro q; subst q; simp at hf))]
        have g := ff (by omega)
        by_cases hge : hm ≤ r
        · have := g (r - hm) (by omega) (by omega)
          rwa [show hm + (r - hm) = r by omega, Nat.mod_eq_of_lt hr] at this
        · have := g (r + N - hm) (by omega) (by omega)
          rwa [show hm + (r + N - hm) = r + N by omega, Nat.add_mod_right, Nat.mod_eq_of_lt hr] at this
end XDF
section XDG
variable {x : xX} {y : xY} {σ ν : xS} {h : xH} {T : Nat} {t : Nat → Nat} {s : Nat} {bd pt kd ab : Int32} {tok : Int64}
theorem JW.add {R : Nat} {v : Int32} {y' : xY} (hj : JW R y σ) (h27 : ∀ k, k ≠ R → ν.2.1 27 k = σ.2.1 27 k) (hv : ν.2.1 27 R = v) (h0 : y'.2.1 0 = nI (cnt σ 0 R + if v = 0 then 1 else 0)) (h1 : y'.2.1 1 = nI (cnt σ 1 R + if v = 1 then 1 else 0)) (h2 : y'.2.1 2 = nI (cnt σ 2 R + if v = 2 then 1 else 0)) (hw : ∀ c, c < cnt σ 0 R → y'.1 c = y.1 c) (hn : v = 0 → y'.1 (cnt σ 0 R) = nI R) : JW (R + 1) y' ν := by
  have cx : ∀ w n, n ≤ R → cnt ν w n = cnt σ w n := fun w n hn => cnt_x (fun k hk => h27 k (by omega))
  obtain ⟨j0, j1, j2, j3⟩ := hj
  refine ⟨?_, fun k hk hz => ?_, ?_, ?_⟩
  · simp only [cnt]
    rw [cx 0 R (Nat.le_refl _), hv, h0]
  · rw [cx 0 k (by omega)]
    by_cases hkR : k = R
    · subst hkR
      exact hn (hv.symm.trans hz)
    · rw [h27 k hkR] at hz
      rw [hw _ (cnt_lt σ 0 (by omega) hz)]
      exact j1 k (by omega) hz
  · simp only [cnt]
    rw [cx 1 R (Nat.le_refl _), hv, h1]
  · simp only [cnt]
    rw [cx 2 R (Nat.le_refl _), hv, h2]
theorem c_ask0 {hm : Nat} (hx : Wx x) (hi : Inv (dP x) (dN x) (dR x) T (dE x) t σ) (hj : JW (dR x) y σ) (hf : Fr x h) (hr : 10 ≤ h.1.2.1 ∧ 50 ≤ h.1.2.2) (hR : dR x < 500) (hs : s < 8) (eh : σ.2.1 23 s = nI hm) (hhm : hm < dN x) (hq : qok (dP x) kd ab) (h3 : isTok (dP x) σ tok = true) (h4 : inb bd.toInt64 (-1) 400 = true) (h5 : inb pt.toInt64 0 1000 = true) :
    (fndS (dP x) (dN x) (askT σ (dR x) s tok bd pt kd ab) hm (dR x) < dN x ∨ pt = 0 ∨ ¬ cnt σ 0 (dR x) = 40 → ∃ y', f_RS_ask (en x 0 0 0) (nI s) tok bd pt kd ab (er x y σ h) = some (.inl (nI (dR x)), er (addR x (h.1.1 + 2) h.1.1) y' (askF (dP x) (dN x) (askT σ (dR x) s tok bd pt kd ab) hm (dR x) pt).2 (rH h (dR x) s (σ.1 3) tok bd pt kd ab)) ∧ JW (dR x + 1) y' (askF (dP x) (dN x) (askT σ (dR x) s tok bd pt kd ab) hm (dR x) pt).2 ∧ y'.2.2 = (yR y (dR x) (h.1.1 + 2)).2.2) ∧
    (¬ (fndS (dP x) (dN x) (askT σ (dR x) s tok bd pt kd ab) hm (dR x) < dN x ∨ pt = 0 ∨ ¬ cnt σ 0 (dR x) = 40) → ThrE (f_RS_ask (en x 0 0 0) (nI s) tok bd pt kd ab) x y σ h 12) := by
  have hP : σ.1 0 = nI (dP x) := hi.1.1.2.2.2.2.2.2.1
  have h26 : σ.1 26 = nI (dR x) := hi.1.1.2.2.2.2.2.2.2.2.1
  have hP1 := hi.1.1.1
  have hN1 := hi.1.1.2.2.1
  have hw := ask_inw hi.1 hR hs hq h3 h4 h5
  have g1 := c_askQ (y := y) hx hP h26 hR hf hr hs hq h3 h4 h5
  have hX := addR_wx (a := h.1.1 + 2) (b := h.1.1) hx hR (by omega) (hf.off (by omega)) (hf.off (by omega)) (hf.off (by omega))
  have hE := er_rH (y := y) (σ := σ) (s := s) (tok := tok) (bd := bd) (pt := pt) (kd := kd) (ab := ab) hx hR hf
  have w40 : cnt σ 0 (dR x) ≤ 40 := by
    rw [← wl_cnt]
    exact hi.1.2.2.2.2.2.2.2
  have e0 : en (addR x (h.1.1 + 2) h.1.1) 0 0 0 = en x 0 0 0 := addR_en (by omega)
  have e17 : en (addR x (h.1.1 + 2) h.1.1) 17 s 0 = en x 17 s 0 := addR_en (by omega)
  have e25 := addR_25 (x := x) (h.1.1 + 2) h.1.1
  have sm := askT_same σ (dR x) s tok bd pt kd ab
  have rs := rT_same (σ := σ) (R := dR x) (s := s) (tok := tok) (bd := bd) (pt := pt) (kd := kd) (ab := ab)
  obtain ⟨i1, i2, i3, i4, i5, i6, i7⟩ := hw
  have i6' : i_rd (dP x) (dR x + 1) T (rT σ (dR x) s tok bd pt kd ab) := i6
  have hl := c_askl (x := addR x (h.1.1 + 2) h.1.1) (y := y) (σ := rT σ (dR x) s tok bd pt kd ab) (h := rH h (dR x) s (σ.1 3) tok bd pt kd ab) (s := s) (hm := hm) (R := dR x) (pt := pt) (T := T) (t := t) hX (by rw [rs.1]; exact hP) hP1 (hi.1.2.2.1.same rs (by decide)) (hi.1.2.2.2.2.1.same rs (by decide)) i6' hN1 (Nat.lt_succ_self _) hs hhm (by rw [rs.2.1 23 (by decide)]; exact eh)
  have ct : cnt (askT σ (dR x) s tok bd pt kd ab) 0 (dR x) = cnt σ 0 (dR x) := cnt_x (fun k hk => askT_o (by omega) (by decide))
  have fle := fst_le (fun r => mayb (dP x) (askT σ (dR x) s tok bd pt kd ab) ((hm + r) % dN x) (dR x)) (dN x) 0
  have eP : dP (addR x (h.1.1 + 2) h.1.1) = dP x := rfl
  have eN : dN (addR x (h.1.1 + 2) h.1.1) = dN x := rfl
  rw [e0, e17, e25, eP, eN] at hl
  rw [hE, hl] at g1
  unfold rT at g1
  rw [fnd_27] at g1
  have t0 : (askT σ (dR x) s tok bd pt kd ab).1 0 = nI (dP x) := by rw [sm.1]; exact hP
  have t26 : (askT σ (dR x) s tok bd pt kd ab).1 26 = nI (dR x) := by rw [sm.1]; exact h26
  have o27 : ∀ k, k ≠ dR x → (ask2 (askT σ (dR x) s tok bd pt kd ab) (dR x)).2.1 27 k = σ.2.1 27 k := fun k hk => a2_o hk (by decide)
  obtain ⟨j0, j1, j2, j3⟩ := hj
  unfold askF
  change fndS (dP x) (dN x) (askT σ (dR x) s tok bd pt kd ab) hm (dR x) ≥ 0 ∧ fndS (dP x) (dN x) (askT σ (dR x) s tok bd pt kd ab) hm (dR x) ≤ 0 + dN x at fle
  generalize fndS (dP x) (dN x) (askT σ (dR x) s tok bd pt kd ab) hm (dR x) = r0 at *
  by_cases c1 : r0 < dN x
  · have es : slt (dN x) hm r0 = nI ((hm + r0) % dN x) := if_pos c1
    rw [es] at g1
    rw [if_pos c1]
    refine ⟨fun _ => ?_, fun q => absurd (Or.inl c1) q⟩
    have hr1 : (hm + r0) % dN x < dN x := Nat.mod_lt _ (by omega)
    have hA := c_askA (x := addR x (h.1.1 + 2) h.1.1) (y := y) (h := rH h (dR x) s (σ.1 3) tok bd pt kd ab) (pt := pt) (T := T) (t := t) hX t0 hP1 i3 i5 i6 (Nat.lt_succ_self _) t26 hr1
    rw [e0, e25] at hA
    refine ⟨_, g1.trans hA, ?_, rfl⟩
    have a27 := ans_st (dP x) (ask2 (askT σ (dR x) s tok bd pt kd ab) (dR x)) ((hm + r0) % dN x) (dR x)
    refine JW.add (v := 1) ⟨j0, j1, j2, j3⟩ (fun k hk => ?_) ?_ ?_ ?_ ?_ (fun c hc => rfl) (fun q => absurd q (by decide))
    · show (ansS (dP x) _ _ _).2.1 27 k = _
      rw [a27]
      simp only [va_up, if_neg hk]
      exact o27 k hk
    · show (ansS (dP x) _ _ _).2.1 27 (dR x) = _
      rw [a27]
      simp [va_up]
    · rw [if_neg (by decide)]
      exact j0
    · rw [if_pos rfl, ← np1, ← j2]
      rfl
    · rw [if_neg (by decide)]
      exact j3
  · have es : slt (dN x) hm r0 = -1 := if_neg c1
    rw [es] at g1
    rw [if_neg c1]
    by_cases c2 : pt = 0
    · refine ⟨fun _ => ?_, fun q => absurd (Or.inr (Or.inl c2)) q⟩
      rw [if_pos c2]
      have hA := c_askB (x := addR x (h.1.1 + 2) h.1.1) (y := y) (h := rH h (dR x) s (σ.1 3) tok bd pt kd ab) (pt := pt) hX (Nat.lt_succ_self _) t26 c2
      rw [e0, e25] at hA
      refine ⟨_, g1.trans hA, ?_, rfl⟩
      refine JW.add (v := 2) ⟨j0, j1, j2, j3⟩ (fun k hk => ?_) ?_ ?_ ?_ ?_ (fun c hc => rfl) (fun q => absurd q (by decide))
      · show (uI (uI _ 27 _ 2) 38 _ _).2.1 27 k = _
        rw [uI_ne hk, uI_ne hk]
        exact o27 k hk
      · show (uI (uI _ 27 _ 2) 38 _ _).2.1 27 _ = _
        rw [uI_o (by decide), uI_g]
      · rw [if_neg (by decide)]
        exact j0
      · rw [if_neg (by decide)]
        exact j2
      · rw [if_pos rfl, ← np1, ← j3]
        rfl
    · rw [if_neg c2, ct]
      by_cases c3 : cnt σ 0 (dR x) = 40
      · refine ⟨fun q => absurd c3 ((q.resolve_left c1).resolve_left c2), fun _ => ?_⟩
        have hC := c_askC (x := addR x (h.1.1 + 2) h.1.1) (y := y) (h := rH h (dR x) s (σ.1 3) tok bd pt kd ab) (R := dR x) (pt := pt) (σ := uI (askT σ (dR x) s tok bd pt kd ab) 27 (dR x) 0) hX c2 (by rw [j0, c3]; rfl)
        rw [e0, e25] at hC
        have hE' : er (addR x (h.1.1 + 2) h.1.1) y (uI (askT σ (dR x) s tok bd pt kd ab) 27 (dR x) 0) (rH h (dR x) s (σ.1 3) tok bd pt kd ab) = er x y σ (rH h (dR x) s (σ.1 3) tok bd pt kd ab) := hE.symm
        rw [hC, hE'] at g1
        refine thrE_ext hf (Ext.rH h (dR x) s (σ.1 3)) (by omega) (by omega) g1 ?_
        show 1 ≤ h.1.2.1 - 1 - 1 - 1 ∧ 6 ≤ h.1.2.2 - 1 - 3 - 12
        omega
      · refine ⟨fun _ => ?_, fun q => absurd (Or.inr (Or.inr c3)) q⟩
        rw [if_neg c3]
        have hA := c_askD (x := addR x (h.1.1 + 2) h.1.1) (y := y) (h := rH h (dR x) s (σ.1 3) tok bd pt kd ab) (pt := pt) hX (Nat.lt_succ_self _) t26 c2 j0 (by omega)
        rw [e0, e25] at hA
        refine ⟨_, g1.trans hA, ?_, rfl⟩
        refine JW.add (v := 0) ⟨j0, j1, j2, j3⟩ o27 ?_ ?_ ?_ ?_ (fun c hc => ?_) (fun _ => ?_)
        · show (ask2 _ _).2.1 27 _ = _
          rw [a2_27]
          simp [va_up]
        · rw [if_pos rfl]
          rfl
        · rw [if_neg (by decide)]
          exact j2
        · rw [if_neg (by decide)]
          exact j3
        · show va_up y.1 _ _ c = _
          have : ¬ c = cnt σ 0 (dR x) := by omega
          simp [va_up, this]
        · show va_up y.1 _ _ _ = _
          simp [va_up]
theorem JL.ask {a b : Nat} {y' : xY} (hj : JL x y t) (hP3 : dP x ≤ 3) (hy : y'.2.2 = (yR y (dR x) a).2.2) : JL (addR x a b) y' t := by
  intro p hp j hj4
  have hp : p < dP x := hp
  rw [hy]
  show va_up y.2.2 3 _ p j = _
  have : ¬ p = 3 := by omega
  simp only [va_up, if_neg this]
  rw [hj p hp j hj4, addR_en (by omega)]
  rfl
theorem JR.ask {a b : Nat} {y' : xY} (hj : JR x y) (hy : y'.2.2 = (yR y (dR x) a).2.2) : JR (addR x a b) y' := by
  intro k hk
  have hk : k < dR x + 1 := hk
  rw [hy]
  show va_up y.2.2 3 (va_up (y.2.2 3) (dR x) (some a)) 3 k = _
  simp only [va_up, if_true]
  by_cases hkR : k = dR x
  · subst hkR
    rw [if_pos rfl, addR_25]
  · rw [if_neg hkR, addR_en (by omega)]
    exact hj k (by omega)
theorem Fr.ask {H : xH} (hf : Fr x h) (hH : h.1.1 + 3 ≤ H.1.1) : Fr (addR x (h.1.1 + 2) h.1.1) H := by
  intro t i j hv
  rcases addR_v hv with hv | ⟨ht, rfl, rfl⟩
  · rw [addR_en (addR_o hv)]
    have := hf t i j hv
    omega
  · rcases ht with rfl | rfl | rfl
    · rw [addR_25]; omega
    · rw [addR_26]; omega
    · rw [addR_27]; omega
end XDG
