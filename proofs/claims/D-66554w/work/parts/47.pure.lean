/-! the model: steps and ticks -/
def hurS (P r : Nat) : Nat → xS → Nat → Nat → Nat → Nat × xS
  | 0, σ, t, _, _ => (t, σ)
  | n + 1, σ, t, i, p => if σ.2.1 21 r = 0 ∨ σ.2.1 19 r ≤ nI t ∨ P ≤ i then (t, σ) else if (advS P σ r p).1 = 1 then hurS P r n (advS P σ r p).2 (t + 1) 0 ((p + 1) % P) else hurS P r n (advS P σ r p).2 t (i + 1) ((p + 1) % P)
def hur (P : Nat) (σ : xS) (r : Nat) : Nat × xS := hurS P r 1000 σ 0 0 (cn (σ.2.1 20 r))
def trS (P : Nat) (σ : xS) : Nat → Int32 × xS
  | 0 => (0, σ)
  | r + 1 => ((trS P σ r).1 + nI (hur P (trS P σ r).2 r).1, (hur P (trS P σ r).2 r).2)
def failS (σ : xS) : Nat → xS
  | 0 => σ
  | k + 1 => if (failS σ k).2.1 27 k = 0 ∧ ¬ σ.1 3 - σ.2.1 32 k < σ.2.1 31 k then uI (uI (failS σ k) 27 k 2) 38 k (σ.1 3) else failS σ k
def tickS (P N R : Nat) (σ : xS) : Int32 × xS := ((trS P (uS σ 3 (σ.1 3 + 1)) N).1, failS (trS P (uS σ 3 (σ.1 3 + 1)) N).2 R)
def ticksS (P N R : Nat) (σ : xS) : Nat → Int32 × xS
  | 0 => (0, σ)
  | n + 1 => ((ticksS P N R σ n).1 + (tickS P N R (ticksS P N R σ n).2).1, (tickS P N R (ticksS P N R σ n).2).2)
theorem fail_same (σ : xS) (k : Nat) : same [27, 38] σ (failS σ k) := by
  induction k with
  | zero => exact same.refl _ _
  | succ k ih =>
    simp only [failS]
    split
    · exact ih.trans (same.trans (same.uI _ _ _ (by decide)) (same.uI _ _ _ (by decide)))
    · exact ih
theorem fail_st0 (σ : xS) (k j : Nat) (h : (failS σ k).2.1 27 j = 0) : σ.2.1 27 j = 0 := by
  induction k with
  | zero => exact h
  | succ k ih =>
    simp only [failS] at h
    split at h
    · rw [uI_o (by decide)] at h
      by_cases hjk : j = k
      · subst hjk
        rw [uI_g] at h
        exact absurd h (by decide)
      · rw [uI_i hjk] at h
        exact ih h
    · exact ih h
section XMW
variable {h : xH} {m : Nat} {σ τ : xS} {P N R T : Nat} {e t : Nat → Nat}
theorem fail_inv (hi : Inv P N R T e t σ) (k : Nat) : Inv P N R T e t (failS σ k) := by
  have hs := fail_same σ k
  obtain ⟨⟨h1, h2, h3, h4, h5, h6, h7, h8⟩, h9⟩ := hi
  refine ⟨⟨h1.same hs, h2.same hs (by decide), h3.same hs (by decide), h4.same hs (by decide) (by decide), h5.same hs (by decide), h6.same hs (by decide), h7.same hs (by decide), ?_⟩, ?_⟩
  · exact Nat.le_trans (wl_le (fun j _ h0 => fail_st0 σ k j h0)) h8
  · intro r hr
    exact non_c hs (by decide) (fun i => by rw [hs.2.1 25 (by decide)]; exact Int32.le_refl _) (fun j _ h0 => fail_st0 σ k j h0) (h9 r hr)
theorem hur_inv (hi : Inv P N R T e t σ) {r p : Nat} (hr : r < N) (hp : p < P) (n t' i : Nat) : Inv P N R T e t (hurS P r n σ t' i p).2 := by
  induction n generalizing σ t' i p with
  | zero => exact hi
  | succ n ih =>
    simp only [hurS]
    have hP1 := hi.1.1.1
    split
    · exact hi
    split
    · exact ih (adv_inv hi hr hp) (Nat.mod_lt _ (by omega)) _ _
    · exact ih (adv_inv hi hr hp) (Nat.mod_lt _ (by omega)) _ _
theorem Inv0.next (hi : Inv0 P N R T e t σ) {r : Nat} (hr : r < 4) : ∃ p, p < P ∧ σ.2.1 20 r = nI p ∧ cn (σ.2.1 20 r) = p := by
  obtain ⟨⟨p, hp, ep⟩, -⟩ := hi.2.2.2.2.2.2.1 r hr
  exact ⟨p, hp, ep, by rw [ep, cn_nI (by have := hi.1.2.1; omega)]⟩
theorem tr_inv (hi : Inv P N R T e t σ) (r : Nat) (hr : r ≤ N) : Inv P N R T e t (trS P σ r).2 := by
  induction r with
  | zero => exact hi
  | succ r ih =>
    have i1 := ih (by omega)
    have hN := i1.1.1.2.2.2.1
    obtain ⟨p, hp, -, ep⟩ := i1.1.next (r := r) (by omega)
    simp only [trS, hur]
    rw [ep]
    exact hur_inv i1 (by omega) hp _ _ _
theorem non_uS {k : Nat} {v : Int32} {r : Nat} (h9 : non P R σ r) : non P R (uS σ k v) r := by
  intro j hj h0
  cases hm : mayb P (uS σ k v) r j
  · rfl
  · have := may_m (τ := uS σ k v) (σ := σ) (P := P) (r := r) (k := j) id rfl (fun _ _ => rfl) rfl (fun _ _ => Int32.le_refl _) (fun _ _ => Int32.le_refl _) rfl (fun _ _ => Int32.le_refl _) (fun _ _ => id) hm
    rw [h9 j hj h0] at this
    cases this
theorem time_inv (hi : Inv P N R T e t σ) (hT : T + 1 ≤ 100000) : Inv P N R (T + 1) e t (uS σ 3 (nI (T + 1))) := by
  obtain ⟨⟨h1, h2, h3, h4, h5, h6, h7, h8⟩, h9⟩ := hi
  obtain ⟨p1, p2, p3, p4, p5, p6, p7, p8, p9, p10⟩ := h1
  refine ⟨⟨⟨p1, p2, p3, p4, p5, hT, p7, p8, p9, rfl⟩, h2, h3, h4, h5, fun k hk => ?_, h7, h8⟩, fun r hr => non_uS (h9 r hr)⟩
  obtain ⟨q1, q2, q3, q4, ⟨a, qa, q5⟩, q6⟩ := h6 k hk
  exact ⟨q1, q2, q3, q4, ⟨a, by omega, q5⟩, q6⟩
theorem tick_inv (hi : Inv P N R T e t σ) (hT : T + 1 ≤ 100000) : Inv P N R (T + 1) e t (tickS P N R σ).2 := by
  unfold tickS
  rw [hi.1.1.2.2.2.2.2.2.2.2.2, np1]
  exact fail_inv (tr_inv (time_inv hi hT) N (Nat.le_refl N)) R
theorem ticks_inv (hi : Inv P N R T e t σ) (n : Nat) (hT : T + n ≤ 100000) : Inv P N R (T + n) e t (ticksS P N R σ n).2 := by
  induction n with
  | zero => exact hi
  | succ n ih => exact tick_inv (ih (by omega)) (by omega)
theorem adv_sc (P : Nat) (σ : xS) (r p : Nat) : (advS P σ r p).2.1 = σ.1 := by
  rw [adv_eq]
  split
  · rfl
  split
  · rw [(look_same _ _ _ _).1, (adv0_same _ _ _ _).1]
  · rfl
theorem hur_sc (P r n : Nat) (σ : xS) (t' i p : Nat) : (hurS P r n σ t' i p).2.1 = σ.1 := by
  induction n generalizing σ t' i p with
  | zero => rfl
  | succ n ih =>
    simp only [hurS]
    split
    · rfl
    split
    · rw [ih, adv_sc]
    · rw [ih, adv_sc]
theorem tr_sc (P : Nat) (σ : xS) (r : Nat) : (trS P σ r).2.1 = σ.1 := by
  induction r with
  | zero => rfl
  | succ r ih =>
    simp only [trS, hur]
    rw [hur_sc, ih]
theorem tick_sc (P N R : Nat) (σ : xS) : (tickS P N R σ).2.1 = va_up σ.1 3 (σ.1 3 + 1) := by
  unfold tickS
  rw [(fail_same _ _).1, tr_sc]
  rfl
theorem ticks_sc (P N R : Nat) (σ : xS) (n j : Nat) (hj : j ≠ 3) : (ticksS P N R σ n).2.1 j = σ.1 j := by
  induction n with
  | zero => rfl
  | succ n ih =>
    simp only [ticksS]
    rw [tick_sc]
    simp only [va_up, if_neg hj]
    exact ih
theorem s_advance (hi : Inv P N R T e t σ) {r p : Nat} (hr : r < N) (hp : p < P) : f_Mdl_advance m (nI r) (nI p) (em h m σ) = some (.inl (advS P σ r p).1, em h m (advS P σ r p).2) := by
  have hN := hi.1.1.2.2.2.1
  have hP1 := hi.1.1.1
  have hP3 := hi.1.1.2.1
  have hR := hi.1.1.2.2.2.2.1
  have hP := hi.1.1.2.2.2.2.2.2.1
  obtain ⟨a, ea, h1, h2, h3, h4⟩ := hi.1.at (r := r) (p := p) (by omega) hp
  rw [adv_eq, hi.1.nr]
  by_cases c1 : σ.2.1 18 (3 * r + p) = σ.2.1 4 p
  · rw [if_pos c1]
    simp (disch := omega) only [f_Mdl_advance, c1, ↓mg0, ↓mg1, ↓mg2, ↓mg3, ↓mg26, ↓mp0, ↓mp1, ↓mp2, ↓mp3, ↓mp26, ↓mg4, ↓mg5, ↓mg6, ↓mg7, ↓mg8, ↓mg9, ↓mg10, ↓mg11, ↓mg12, ↓mg13, ↓mg14, ↓mg15, ↓mg16, ↓mg17, ↓mg18, ↓mg19, ↓mg20, ↓mg21, ↓mg22, ↓mg23, ↓mg24, ↓mg25, ↓mg27, ↓mg28, ↓mg29, ↓mg30, ↓mg31, ↓mg32, ↓mg33, ↓mg34, ↓mg35, ↓mg36, ↓mg37, ↓mg38, ↓ml4, ↓ms4, ↓ml5, ↓ms5, ↓ml6, ↓ms6, ↓ml7, ↓ms7, ↓ml8, ↓ms8, ↓ml9, ↓ms9, ↓ml10, ↓ms10, ↓ml11, ↓ms11, ↓ml12, ↓ms12, ↓ml13, ↓ms13, ↓ml14, ↓ms14, ↓ml15, ↓ms15, ↓ml16, ↓ms16, ↓ml17, ↓ms17, ↓ml18, ↓ms18, ↓ml19, ↓ms19, ↓ml20, ↓ms20, ↓ml21, ↓ml22, ↓ms22, ↓ml23, ↓ms23, ↓ml24, ↓ms24, ↓ml25, ↓ms25, ↓ml27, ↓ms27, ↓ml28, ↓ms28, ↓ml29, ↓ms29, ↓ml30, ↓ms30, ↓ml31, ↓ms31, ↓ml32, ↓ms32, ↓ml33, ↓ms33, ↓ml34, ↓ms34, ↓ml35, ↓ms35, ↓ml36, ↓ms36, ↓ml37, ↓ms37, ↓ml38, ↓ms38, ↓m_xv, ↓xb, ↓xr, ml4, ms4, ml5, ms5, ml6, ms6, ml7, ms7, ml8, ms8, ml9, ms9, ml10, ms10, ml11, ms11, ml12, ms12, ml13, ms13, ml14, ms14, ml15, ms15, ml16, ms16, ml17, ms17, ml18, ms18, ml19, ms19, ml20, ms20, ml21, ml22, ms22, ml23, ms23, ml24, ms24, ml25, ms25, ml27, ms27, ml28, ms28, ml29, ms29, ml30, ms30, ml31, ms31, ml32, ms32, ml33, ms33, ml34, ms34, ml35, ms35, ml36, ms36, ml37, ms37, ml38, ms38, n3, n30, n10, n300, n401, n4p, np1, np2, nI_add, ↓reduceIte]
  rw [if_neg c1]
  have ha := h4 c1
  have hl := (adv0_inv hi.1 hr hp ea ha).lok
  have lk := s_look (h := h) (m := m) (r := r) hl hP1 hP3 hR (by omega)
  obtain ⟨ci, cc, -, -⟩ := (hi.1.2.1 p hp).2.2.2.2 (a + 1) (by omega) (by omega)
  have tk := s_take (h := h) (m := m) (σ := σ) (s := r) (k := 401 * p + a + 1) (by omega) (by omega) ci cc
  have cvr := s_covers (h := h) (m := m) (σ := σ) (A := m + 7) (L := 3609) (f := σ.2.1 10) (b := 3 * (401 * p + a + 1)) (r := r) hP hP3 (by omega) (by omega) (fun i hi kk => ml10 hi)
  have hca : cn (σ.2.1 18 (3 * r + p)) = a := by rw [ea, cn_nI (by omega)]
  have c1' : ¬ nI a = σ.2.1 4 p := by rw [← ea]; exact c1
  rw [hca]
  by_cases c2 : cv σ (σ.2.1 10) (3 * (401 * p + a + 1)) r P = true
  · rw [if_pos c2]
    rw [c2, bI_t] at cvr
    have e18 := (take_same σ r (401 * p + a + 1)).2.1 18 (by decide)
    have e0 : (takeS σ r (401 * p + a + 1)).1 0 = nI P := by rw [(take_same _ _ _).1]; exact hP
    have c3 : ¬ nI P = 0 := nI_ne0 (by omega) (by omega)
    unfold adv0 at lk
    rw [hca, ea] at lk
    have lk' : f_Mdl_look m (nI r) (em h m (uI (uI (takeS σ r (401 * p + a + 1)) 18 (3 * r + p) (nI (a + 1))) 20 r (nI ((p + 1) % P)))) = some (Sum.inl (), em h m (lookS P (adv0 P σ r p) r R)) := by
      rw [np1] at lk
      unfold adv0
      rw [hca, ea, np1]
      exact lk
    simp (disch := omega) only [f_Mdl_advance, ea, c1', cvr, tk, show ¬ (1 : Int32) = 0 by decide, e18, e0, c3, rI, pk_rem, uI_s, lk', ↓mg0, ↓mg1, ↓mg2, ↓mg3, ↓mg26, ↓mp0, ↓mp1, ↓mp2, ↓mp3, ↓mp26, ↓mg4, ↓mg5, ↓mg6, ↓mg7, ↓mg8, ↓mg9, ↓mg10, ↓mg11, ↓mg12, ↓mg13, ↓mg14, ↓mg15, ↓mg16, ↓mg17, ↓mg18, ↓mg19, ↓mg20, ↓mg21, ↓mg22, ↓mg23, ↓mg24, ↓mg25, ↓mg27, ↓mg28, ↓mg29, ↓mg30, ↓mg31, ↓mg32, ↓mg33, ↓mg34, ↓mg35, ↓mg36, ↓mg37, ↓mg38, ↓ml4, ↓ms4, ↓ml5, ↓ms5, ↓ml6, ↓ms6, ↓ml7, ↓ms7, ↓ml8, ↓ms8, ↓ml9, ↓ms9, ↓ml10, ↓ms10, ↓ml11, ↓ms11, ↓ml12, ↓ms12, ↓ml13, ↓ms13, ↓ml14, ↓ms14, ↓ml15, ↓ms15, ↓ml16, ↓ms16, ↓ml17, ↓ms17, ↓ml18, ↓ms18, ↓ml19, ↓ms19, ↓ml20, ↓ms20, ↓ml21, ↓ml22, ↓ms22, ↓ml23, ↓ms23, ↓ml24, ↓ms24, ↓ml25, ↓ms25, ↓ml27, ↓ms27, ↓ml28, ↓ms28, ↓ml29, ↓ms29, ↓ml30, ↓ms30, ↓ml31, ↓ms31, ↓ml32, ↓ms32, ↓ml33, ↓ms33, ↓ml34, ↓ms34, ↓ml35, ↓ms35, ↓ml36, ↓ms36, ↓ml37, ↓ms37, ↓ml38, ↓ms38, ↓m_xv, ↓xb, ↓xr, ml4, ms4, ml5, ms5, ml6, ms6, ml7, ms7, ml8, ms8, ml9, ms9, ml10, ms10, ml11, ms11, ml12, ms12, ml13, ms13, ml14, ms14, ml15, ms15, ml16, ms16, ml17, ms17, ml18, ms18, ml19, ms19, ml20, ms20, ml21, ml22, ms22, ml23, ms23, ml24, ms24, ml25, ms25, ml27, ms27, ml28, ms28, ml29, ms29, ml30, ms30, ml31, ms31, ml32, ms32, ml33, ms33, ml34, ms34, ml35, ms35, ml36, ms36, ml37, ms37, ml38, ms38, n3, n30, n10, n300, n401, n4p, np1, np2, nI_add, ↓reduceIte]
  · rw [if_neg c2]
    rw [Bool.not_eq_true] at c2
    rw [c2, bI_f] at cvr
    simp (disch := omega) only [f_Mdl_advance, ea, c1', cvr, ↓mg0, ↓mg1, ↓mg2, ↓mg3, ↓mg26, ↓mp0, ↓mp1, ↓mp2, ↓mp3, ↓mp26, ↓mg4, ↓mg5, ↓mg6, ↓mg7, ↓mg8, ↓mg9, ↓mg10, ↓mg11, ↓mg12, ↓mg13, ↓mg14, ↓mg15, ↓mg16, ↓mg17, ↓mg18, ↓mg19, ↓mg20, ↓mg21, ↓mg22, ↓mg23, ↓mg24, ↓mg25, ↓mg27, ↓mg28, ↓mg29, ↓mg30, ↓mg31, ↓mg32, ↓mg33, ↓mg34, ↓mg35, ↓mg36, ↓mg37, ↓mg38, ↓ml4, ↓ms4, ↓ml5, ↓ms5, ↓ml6, ↓ms6, ↓ml7, ↓ms7, ↓ml8, ↓ms8, ↓ml9, ↓ms9, ↓ml10, ↓ms10, ↓ml11, ↓ms11, ↓ml12, ↓ms12, ↓ml13, ↓ms13, ↓ml14, ↓ms14, ↓ml15, ↓ms15, ↓ml16, ↓ms16, ↓ml17, ↓ms17, ↓ml18, ↓ms18, ↓ml19, ↓ms19, ↓ml20, ↓ms20, ↓ml21, ↓ml22, ↓ms22, ↓ml23, ↓ms23, ↓ml24, ↓ms24, ↓ml25, ↓ms25, ↓ml27, ↓ms27, ↓ml28, ↓ms28, ↓ml29, ↓ms29, ↓ml30, ↓ms30, ↓ml31, ↓ms31, ↓ml32, ↓ms32, ↓ml33, ↓ms33, ↓ml34, ↓ms34, ↓ml35, ↓ms35, ↓ml36, ↓ms36, ↓ml37, ↓ms37, ↓ml38, ↓ms38, ↓m_xv, ↓xb, ↓xr, ml4, ms4, ml5, ms5, ml6, ms6, ml7, ms7, ml8, ms8, ml9, ms9, ml10, ms10, ml11, ms11, ml12, ms12, ml13, ms13, ml14, ms14, ml15, ms15, ml16, ms16, ml17, ms17, ml18, ms18, ml19, ms19, ml20, ms20, ml21, ml22, ms22, ml23, ms23, ml24, ms24, ml25, ms25, ml27, ms27, ml28, ms28, ml29, ms29, ml30, ms30, ml31, ms31, ml32, ms32, ml33, ms33, ml34, ms34, ml35, ms35, ml36, ms36, ml37, ms37, ml38, ms38, n3, n30, n10, n300, n401, n4p, np1, np2, nI_add, ↓reduceIte]
theorem s_hur (hi : Inv P N R T e t σ) {r : Nat} (hr : r < N) {k14 : Nat → Int32 → Int32 → xM Int32} {al : Int32} (n p t' i : Nat) (hp : p < P) (hti : t' ≤ 10) (hii : i ≤ P) (hn : (10 - t') * 4 + (P - i) < n) : f_Mdl_tick_h35 k14 n m al (nI r) (nI t') (nI i) (nI p) (em h m σ) = k14 m (al + nI (hurS P r n σ t' i p).1) (nI (r + 1)) (em h m (hurS P r n σ t' i p).2) := by
  induction n generalizing σ t' i p with
  | zero => omega
  | succ n ih =>
    have hN := hi.1.1.2.2.2.1
    have hP1 := hi.1.1.1
    have hP3 := hi.1.1.2.1
    have hP := hi.1.1.2.2.2.2.2.2.1
    have c3 : ¬ nI P = 0 := nI_ne0 (by omega) (by omega)
    obtain ⟨-, ⟨v, hv, ev⟩, -⟩ := hi.1.2.2.2.2.2.2.1 r (by omega)
    simp only [hurS]
    by_cases c1 : σ.2.1 21 r = 0
    · rw [if_pos (Or.inl c1)]
      simp (disch := omega) only [f_Mdl_tick_h35, f_Mdl_tick_b35, f_Mdl_tick_b100, c1, ↓mg0, ↓mg1, ↓mg2, ↓mg3, ↓mg26, ↓mp0, ↓mp1, ↓mp2, ↓mp3, ↓mp26, ↓mg4, ↓mg5, ↓mg6, ↓mg7, ↓mg8, ↓mg9, ↓mg10, ↓mg11, ↓mg12, ↓mg13, ↓mg14, ↓mg15, ↓mg16, ↓mg17, ↓mg18, ↓mg19, ↓mg20, ↓mg21, ↓mg22, ↓mg23, ↓mg24, ↓mg25, ↓mg27, ↓mg28, ↓mg29, ↓mg30, ↓mg31, ↓mg32, ↓mg33, ↓mg34, ↓mg35, ↓mg36, ↓mg37, ↓mg38, ↓ml4, ↓ms4, ↓ml5, ↓ms5, ↓ml6, ↓ms6, ↓ml7, ↓ms7, ↓ml8, ↓ms8, ↓ml9, ↓ms9, ↓ml10, ↓ms10, ↓ml11, ↓ms11, ↓ml12, ↓ms12, ↓ml13, ↓ms13, ↓ml14, ↓ms14, ↓ml15, ↓ms15, ↓ml16, ↓ms16, ↓ml17, ↓ms17, ↓ml18, ↓ms18, ↓ml19, ↓ms19, ↓ml20, ↓ms20, ↓ml21, ↓ml22, ↓ms22, ↓ml23, ↓ms23, ↓ml24, ↓ms24, ↓ml25, ↓ms25, ↓ml27, ↓ms27, ↓ml28, ↓ms28, ↓ml29, ↓ms29, ↓ml30, ↓ms30, ↓ml31, ↓ms31, ↓ml32, ↓ms32, ↓ml33, ↓ms33, ↓ml34, ↓ms34, ↓ml35, ↓ms35, ↓ml36, ↓ms36, ↓ml37, ↓ms37, ↓ml38, ↓ms38, ↓m_xv, ↓xb, ↓xr, ml4, ms4, ml5, ms5, ml6, ms6, ml7, ms7, ml8, ms8, ml9, ms9, ml10, ms10, ml11, ms11, ml12, ms12, ml13, ms13, ml14, ms14, ml15, ms15, ml16, ms16, ml17, ms17, ml18, ms18, ml19, ms19, ml20, ms20, ml21, ml22, ms22, ml23, ms23, ml24, ms24, ml25, ms25, ml27, ms27, ml28, ms28, ml29, ms29, ml30, ms30, ml31, ms31, ml32, ms32, ml33, ms33, ml34, ms34, ml35, ms35, ml36, ms36, ml37, ms37, ml38, ms38, n3, n30, n10, n300, n401, n4p, np1, np2, nI_add, ↓reduceIte]
    by_cases c2 : σ.2.1 19 r ≤ nI t'
    · rw [if_pos (Or.inr (Or.inl c2))]
      simp (disch := omega) only [f_Mdl_tick_h35, f_Mdl_tick_b35, f_Mdl_tick_b100, c1, c2, ↓mg0, ↓mg1, ↓mg2, ↓mg3, ↓mg26, ↓mp0, ↓mp1, ↓mp2, ↓mp3, ↓mp26, ↓mg4, ↓mg5, ↓mg6, ↓mg7, ↓mg8, ↓mg9, ↓mg10, ↓mg11, ↓mg12, ↓mg13, ↓mg14, ↓mg15, ↓mg16, ↓mg17, ↓mg18, ↓mg19, ↓mg20, ↓mg21, ↓mg22, ↓mg23, ↓mg24, ↓mg25, ↓mg27, ↓mg28, ↓mg29, ↓mg30, ↓mg31, ↓mg32, ↓mg33, ↓mg34, ↓mg35, ↓mg36, ↓mg37, ↓mg38, ↓ml4, ↓ms4, ↓ml5, ↓ms5, ↓ml6, ↓ms6, ↓ml7, ↓ms7, ↓ml8, ↓ms8, ↓ml9, ↓ms9, ↓ml10, ↓ms10, ↓ml11, ↓ms11, ↓ml12, ↓ms12, ↓ml13, ↓ms13, ↓ml14, ↓ms14, ↓ml15, ↓ms15, ↓ml16, ↓ms16, ↓ml17, ↓ms17, ↓ml18, ↓ms18, ↓ml19, ↓ms19, ↓ml20, ↓ms20, ↓ml21, ↓ml22, ↓ms22, ↓ml23, ↓ms23, ↓ml24, ↓ms24, ↓ml25, ↓ms25, ↓ml27, ↓ms27, ↓ml28, ↓ms28, ↓ml29, ↓ms29, ↓ml30, ↓ms30, ↓ml31, ↓ms31, ↓ml32, ↓ms32, ↓ml33, ↓ms33, ↓ml34, ↓ms34, ↓ml35, ↓ms35, ↓ml36, ↓ms36, ↓ml37, ↓ms37, ↓ml38, ↓ms38, ↓m_xv, ↓xb, ↓xr, ml4, ms4, ml5, ms5, ml6, ms6, ml7, ms7, ml8, ms8, ml9, ms9, ml10, ms10, ml11, ms11, ml12, ms12, ml13, ms13, ml14, ms14, ml15, ms15, ml16, ms16, ml17, ms17, ml18, ms18, ml19, ms19, ml20, ms20, ml21, ml22, ms22, ml23, ms23, ml24, ms24, ml25, ms25, ml27, ms27, ml28, ms28, ml29, ms29, ml30, ms30, ml31, ms31, ml32, ms32, ml33, ms33, ml34, ms34, ml35, ms35, ml36, ms36, ml37, ms37, ml38, ms38, n3, n30, n10, n300, n401, n4p, np1, np2, nI_add, ↓reduceIte]
    by_cases c4 : P ≤ i
    · rw [if_pos (Or.inr (Or.inr c4))]
      have c4' : nI P ≤ nI i := nI_le c4 (by omega)
      simp (disch := omega) only [f_Mdl_tick_h35, f_Mdl_tick_b35, f_Mdl_tick_b100, c1, c2, c4', hP, ↓mg0, ↓mg1, ↓mg2, ↓mg3, ↓mg26, ↓mp0, ↓mp1, ↓mp2, ↓mp3, ↓mp26, ↓mg4, ↓mg5, ↓mg6, ↓mg7, ↓mg8, ↓mg9, ↓mg10, ↓mg11, ↓mg12, ↓mg13, ↓mg14, ↓mg15, ↓mg16, ↓mg17, ↓mg18, ↓mg19, ↓mg20, ↓mg21, ↓mg22, ↓mg23, ↓mg24, ↓mg25, ↓mg27, ↓mg28, ↓mg29, ↓mg30, ↓mg31, ↓mg32, ↓mg33, ↓mg34, ↓mg35, ↓mg36, ↓mg37, ↓mg38, ↓ml4, ↓ms4, ↓ml5, ↓ms5, ↓ml6, ↓ms6, ↓ml7, ↓ms7, ↓ml8, ↓ms8, ↓ml9, ↓ms9, ↓ml10, ↓ms10, ↓ml11, ↓ms11, ↓ml12, ↓ms12, ↓ml13, ↓ms13, ↓ml14, ↓ms14, ↓ml15, ↓ms15, ↓ml16, ↓ms16, ↓ml17, ↓ms17, ↓ml18, ↓ms18, ↓ml19, ↓ms19, ↓ml20, ↓ms20, ↓ml21, ↓ml22, ↓ms22, ↓ml23, ↓ms23, ↓ml24, ↓ms24, ↓ml25, ↓ms25, ↓ml27, ↓ms27, ↓ml28, ↓ms28, ↓ml29, ↓ms29, ↓ml30, ↓ms30, ↓ml31, ↓ms31, ↓ml32, ↓ms32, ↓ml33, ↓ms33, ↓ml34, ↓ms34, ↓ml35, ↓ms35, ↓ml36, ↓ms36, ↓ml37, ↓ms37, ↓ml38, ↓ms38, ↓m_xv, ↓xb, ↓xr, ml4, ms4, ml5, ms5, ml6, ms6, ml7, ms7, ml8, ms8, ml9, ms9, ml10, ms10, ml11, ms11, ml12, ms12, ml13, ms13, ml14, ms14, ml15, ms15, ml16, ms16, ml17, ms17, ml18, ms18, ml19, ms19, ml20, ms20, ml21, ml22, ms22, ml23, ms23, ml24, ms24, ml25, ms25, ml27, ms27, ml28, ms28, ml29, ms29, ml30, ms30, ml31, ms31, ml32, ms32, ml33, ms33, ml34, ms34, ml35, ms35, ml36, ms36, ml37, ms37, ml38, ms38, n3, n30, n10, n300, n401, n4p, np1, np2, nI_add, ↓reduceIte]
    rw [if_neg (fun q => q.elim c1 (fun q => q.elim c2 c4))]
    have c4' : ¬ nI P ≤ nI i := nI_ge (by omega) (by omega)
    have av := s_advance (h := h) (m := m) hi hr hp
    have iv := adv_inv hi hr hp
    have hP' := iv.1.1.2.2.2.2.2.2.1
    have hv2 : ¬ v ≤ t' := by rw [ev, nI_leI (by omega) (by omega)] at c2; exact c2
    by_cases c5 : (advS P σ r p).1 = 1
    · rw [if_pos c5]
      simp (disch := omega) only [f_Mdl_tick_h35, f_Mdl_tick_b35, f_Mdl_tick_b86, c1, c2, c4', hP, av, c5, hP', rI, c3, pk_rem, ↓mg0, ↓mg1, ↓mg2, ↓mg3, ↓mg26, ↓mp0, ↓mp1, ↓mp2, ↓mp3, ↓mp26, ↓mg4, ↓mg5, ↓mg6, ↓mg7, ↓mg8, ↓mg9, ↓mg10, ↓mg11, ↓mg12, ↓mg13, ↓mg14, ↓mg15, ↓mg16, ↓mg17, ↓mg18, ↓mg19, ↓mg20, ↓mg21, ↓mg22, ↓mg23, ↓mg24, ↓mg25, ↓mg27, ↓mg28, ↓mg29, ↓mg30, ↓mg31, ↓mg32, ↓mg33, ↓mg34, ↓mg35, ↓mg36, ↓mg37, ↓mg38, ↓ml4, ↓ms4, ↓ml5, ↓ms5, ↓ml6, ↓ms6, ↓ml7, ↓ms7, ↓ml8, ↓ms8, ↓ml9, ↓ms9, ↓ml10, ↓ms10, ↓ml11, ↓ms11, ↓ml12, ↓ms12, ↓ml13, ↓ms13, ↓ml14, ↓ms14, ↓ml15, ↓ms15, ↓ml16, ↓ms16, ↓ml17, ↓ms17, ↓ml18, ↓ms18, ↓ml19, ↓ms19, ↓ml20, ↓ms20, ↓ml21, ↓ml22, ↓ms22, ↓ml23, ↓ms23, ↓ml24, ↓ms24, ↓ml25, ↓ms25, ↓ml27, ↓ms27, ↓ml28, ↓ms28, ↓ml29, ↓ms29, ↓ml30, ↓ms30, ↓ml31, ↓ms31, ↓ml32, ↓ms32, ↓ml33, ↓ms33, ↓ml34, ↓ms34, ↓ml35, ↓ms35, ↓ml36, ↓ms36, ↓ml37, ↓ms37, ↓ml38, ↓ms38, ↓m_xv, ↓xb, ↓xr, ml4, ms4, ml5, ms5, ml6, ms6, ml7, ms7, ml8, ms8, ml9, ms9, ml10, ms10, ml11, ms11, ml12, ms12, ml13, ms13, ml14, ms14, ml15, ms15, ml16, ms16, ml17, ms17, ml18, ms18, ml19, ms19, ml20, ms20, ml21, ml22, ms22, ml23, ms23, ml24, ms24, ml25, ms25, ml27, ms27, ml28, ms28, ml29, ms29, ml30, ms30, ml31, ms31, ml32, ms32, ml33, ms33, ml34, ms34, ml35, ms35, ml36, ms36, ml37, ms37, ml38, ms38, n3, n30, n10, n300, n401, n4p, np1, np2, nI_add, ↓reduceIte]
      have := ih iv ((p + 1) % P) (t' + 1) 0 (Nat.mod_lt _ (by omega)) (by omega) (by omega) (by omega)
      rw [nI_0] at this
      exact this
    · rw [if_neg c5]
      simp (disch := omega) only [f_Mdl_tick_h35, f_Mdl_tick_b35, f_Mdl_tick_b86, c1, c2, c4', hP, av, c5, hP', rI, c3, pk_rem, ↓mg0, ↓mg1, ↓mg2, ↓mg3, ↓mg26, ↓mp0, ↓mp1, ↓mp2, ↓mp3, ↓mp26, ↓mg4, ↓mg5, ↓mg6, ↓mg7, ↓mg8, ↓mg9, ↓mg10, ↓mg11, ↓mg12, ↓mg13, ↓mg14, ↓mg15, ↓mg16, ↓mg17, ↓mg18, ↓mg19, ↓mg20, ↓mg21, ↓mg22, ↓mg23, ↓mg24, ↓mg25, ↓mg27, ↓mg28, ↓mg29, ↓mg30, ↓mg31, ↓mg32, ↓mg33, ↓mg34, ↓mg35, ↓mg36, ↓mg37, ↓mg38, ↓ml4, ↓ms4, ↓ml5, ↓ms5, ↓ml6, ↓ms6, ↓ml7, ↓ms7, ↓ml8, ↓ms8, ↓ml9, ↓ms9, ↓ml10, ↓ms10, ↓ml11, ↓ms11, ↓ml12, ↓ms12, ↓ml13, ↓ms13, ↓ml14, ↓ms14, ↓ml15, ↓ms15, ↓ml16, ↓ms16, ↓ml17, ↓ms17, ↓ml18, ↓ms18, ↓ml19, ↓ms19, ↓ml20, ↓ms20, ↓ml21, ↓ml22, ↓ms22, ↓ml23, ↓ms23, ↓ml24, ↓ms24, ↓ml25, ↓ms25, ↓ml27, ↓ms27, ↓ml28, ↓ms28, ↓ml29, ↓ms29, ↓ml30, ↓ms30, ↓ml31, ↓ms31, ↓ml32, ↓ms32, ↓ml33, ↓ms33, ↓ml34, ↓ms34, ↓ml35, ↓ms35, ↓ml36, ↓ms36, ↓ml37, ↓ms37, ↓ml38, ↓ms38, ↓m_xv, ↓xb, ↓xr, ml4, ms4, ml5, ms5, ml6, ms6, ml7, ms7, ml8, ms8, ml9, ms9, ml10, ms10, ml11, ms11, ml12, ms12, ml13, ms13, ml14, ms14, ml15, ms15, ml16, ms16, ml17, ms17, ml18, ms18, ml19, ms19, ml20, ms20, ml21, ml22, ms22, ml23, ms23, ml24, ms24, ml25, ms25, ml27, ms27, ml28, ms28, ml29, ms29, ml30, ms30, ml31, ms31, ml32, ms32, ml33, ms33, ml34, ms34, ml35, ms35, ml36, ms36, ml37, ms37, ml38, ms38, n3, n30, n10, n300, n401, n4p, np1, np2, nI_add, ↓reduceIte]
      exact ih iv ((p + 1) % P) t' (i + 1) (Nat.mod_lt _ (by omega)) (by omega) (by omega) (by omega)
theorem s_fails (hR : R ≤ 500) (hRn : σ.1 26 = nI R) {al : Int32} : f_Mdl_tick_h112 1000 m al 0 (em h m σ) = some (.inl al, em h m (failS σ R)) := by
  have key : ∀ d k n, k + d = R → d < n → f_Mdl_tick_h112 n m al (nI k) (em h m (failS σ k)) = some (.inl al, em h m (failS σ R)) := by
    intro d
    induction d with
    | zero =>
      intro k n hk hn
      obtain ⟨n, rfl, -⟩ := pos_of hn
      obtain rfl : k = R := by omega
      have c1 : nI k ≤ nI k := nI_le (by omega) (by omega)
      simp only [f_Mdl_tick_h112, f_Mdl_tick_b112, c1, (fail_same σ k).1, hRn, ↓mg0, ↓mg1, ↓mg2, ↓mg3, ↓mg26, ↓mp0, ↓mp1, ↓mp2, ↓mp3, ↓mp26, ↓mg4, ↓mg5, ↓mg6, ↓mg7, ↓mg8, ↓mg9, ↓mg10, ↓mg11, ↓mg12, ↓mg13, ↓mg14, ↓mg15, ↓mg16, ↓mg17, ↓mg18, ↓mg19, ↓mg20, ↓mg21, ↓mg22, ↓mg23, ↓mg24, ↓mg25, ↓mg27, ↓mg28, ↓mg29, ↓mg30, ↓mg31, ↓mg32, ↓mg33, ↓mg34, ↓mg35, ↓mg36, ↓mg37, ↓mg38, ↓ml4, ↓ms4, ↓ml5, ↓ms5, ↓ml6, ↓ms6, ↓ml7, ↓ms7, ↓ml8, ↓ms8, ↓ml9, ↓ms9, ↓ml10, ↓ms10, ↓ml11, ↓ms11, ↓ml12, ↓ms12, ↓ml13, ↓ms13, ↓ml14, ↓ms14, ↓ml15, ↓ms15, ↓ml16, ↓ms16, ↓ml17, ↓ms17, ↓ml18, ↓ms18, ↓ml19, ↓ms19, ↓ml20, ↓ms20, ↓ml21, ↓ml22, ↓ms22, ↓ml23, ↓ms23, ↓ml24, ↓ms24, ↓ml25, ↓ms25, ↓ml27, ↓ms27, ↓ml28, ↓ms28, ↓ml29, ↓ms29, ↓ml30, ↓ms30, ↓ml31, ↓ms31, ↓ml32, ↓ms32, ↓ml33, ↓ms33, ↓ml34, ↓ms34, ↓ml35, ↓ms35, ↓ml36, ↓ms36, ↓ml37, ↓ms37, ↓ml38, ↓ms38, ↓m_xv, ↓xb, ↓xr, ml4, ms4, ml5, ms5, ml6, ms6, ml7, ms7, ml8, ms8, ml9, ms9, ml10, ms10, ml11, ms11, ml12, ms12, ml13, ms13, ml14, ms14, ml15, ms15, ml16, ms16, ml17, ms17, ml18, ms18, ml19, ms19, ml20, ms20, ml21, ml22, ms22, ml23, ms23, ml24, ms24, ml25, ms25, ml27, ms27, ml28, ms28, ml29, ms29, ml30, ms30, ml31, ms31, ml32, ms32, ml33, ms33, ml34, ms34, ml35, ms35, ml36, ms36, ml37, ms37, ml38, ms38, n3, n30, n10, n300, n401, n4p, np1, np2, nI_add, ↓reduceIte]
    | succ d ih =>
      intro k n hk hn
      obtain ⟨n, rfl, hn⟩ := pos_of hn
      have c1 : ¬ nI R ≤ nI k := nI_ge (by omega) (by omega)
      have i1 := ih (k + 1) n (by omega) (by omega)
      simp only [failS] at i1
      have hs := fail_same σ k
      have e32 := hs.2.1 32 (by decide)
      have e31 := hs.2.1 31 (by decide)
      by_cases h1 : (failS σ k).2.1 27 k = 0
      · by_cases h2 : σ.1 3 - σ.2.1 32 k < σ.2.1 31 k
        · simp (disch := omega) only [f_Mdl_tick_h112, f_Mdl_tick_b112, f_Mdl_tick_b154, c1, hs.1, hRn, h1, e32, e31, h2, ↓mg0, ↓mg1, ↓mg2, ↓mg3, ↓mg26, ↓mp0, ↓mp1, ↓mp2, ↓mp3, ↓mp26, ↓mg4, ↓mg5, ↓mg6, ↓mg7, ↓mg8, ↓mg9, ↓mg10, ↓mg11, ↓mg12, ↓mg13, ↓mg14, ↓mg15, ↓mg16, ↓mg17, ↓mg18, ↓mg19, ↓mg20, ↓mg21, ↓mg22, ↓mg23, ↓mg24, ↓mg25, ↓mg27, ↓mg28, ↓mg29, ↓mg30, ↓mg31, ↓mg32, ↓mg33, ↓mg34, ↓mg35, ↓mg36, ↓mg37, ↓mg38, ↓ml4, ↓ms4, ↓ml5, ↓ms5, ↓ml6, ↓ms6, ↓ml7, ↓ms7, ↓ml8, ↓ms8, ↓ml9, ↓ms9, ↓ml10, ↓ms10, ↓ml11, ↓ms11, ↓ml12, ↓ms12, ↓ml13, ↓ms13, ↓ml14, ↓ms14, ↓ml15, ↓ms15, ↓ml16, ↓ms16, ↓ml17, ↓ms17, ↓ml18, ↓ms18, ↓ml19, ↓ms19, ↓ml20, ↓ms20, ↓ml21, ↓ml22, ↓ms22, ↓ml23, ↓ms23, ↓ml24, ↓ms24, ↓ml25, ↓ms25, ↓ml27, ↓ms27, ↓ml28, ↓ms28, ↓ml29, ↓ms29, ↓ml30, ↓ms30, ↓ml31, ↓ms31, ↓ml32, ↓ms32, ↓ml33, ↓ms33, ↓ml34, ↓ms34, ↓ml35, ↓ms35, ↓ml36, ↓ms36, ↓ml37, ↓ms37, ↓ml38, ↓ms38, ↓m_xv, ↓xb, ↓xr, ml4, ms4, ml5, ms5, ml6, ms6, ml7, ms7, ml8, ms8, ml9, ms9, ml10, ms10, ml11, ms11, ml12, ms12, ml13, ms13, ml14, ms14, ml15, ms15, ml16, ms16, ml17, ms17, ml18, ms18, ml19, ms19, ml20, ms20, ml21, ml22, ms22, ml23, ms23, ml24, ms24, ml25, ms25, ml27, ms27, ml28, ms28, ml29, ms29, ml30, ms30, ml31, ms31, ml32, ms32, ml33, ms33, ml34, ms34, ml35, ms35, ml36, ms36, ml37, ms37, ml38, ms38, n3, n30, n10, n300, n401, n4p, np1, np2, nI_add, ↓reduceIte]
          simpa only [h1, h2, not_true, and_false, if_false] using i1
        · simp (disch := omega) only [f_Mdl_tick_h112, f_Mdl_tick_b112, f_Mdl_tick_b154, f_Mdl_fail, c1, hs.1, hRn, h1, e32, e31, h2, uI_s, ↓mg0, ↓mg1, ↓mg2, ↓mg3, ↓mg26, ↓mp0, ↓mp1, ↓mp2, ↓mp3, ↓mp26, ↓mg4, ↓mg5, ↓mg6, ↓mg7, ↓mg8, ↓mg9, ↓mg10, ↓mg11, ↓mg12, ↓mg13, ↓mg14, ↓mg15, ↓mg16, ↓mg17, ↓mg18, ↓mg19, ↓mg20, ↓mg21, ↓mg22, ↓mg23, ↓mg24, ↓mg25, ↓mg27, ↓mg28, ↓mg29, ↓mg30, ↓mg31, ↓mg32, ↓mg33, ↓mg34, ↓mg35, ↓mg36, ↓mg37, ↓mg38, ↓ml4, ↓ms4, ↓ml5, ↓ms5, ↓ml6, ↓ms6, ↓ml7, ↓ms7, ↓ml8, ↓ms8, ↓ml9, ↓ms9, ↓ml10, ↓ms10, ↓ml11, ↓ms11, ↓ml12, ↓ms12, ↓ml13, ↓ms13, ↓ml14, ↓ms14, ↓ml15, ↓ms15, ↓ml16, ↓ms16, ↓ml17, ↓ms17, ↓ml18, ↓ms18, ↓ml19, ↓ms19, ↓ml20, ↓ms20, ↓ml21, ↓ml22, ↓ms22, ↓ml23, ↓ms23, ↓ml24, ↓ms24, ↓ml25, ↓ms25, ↓ml27, ↓ms27, ↓ml28, ↓ms28, ↓ml29, ↓ms29, ↓ml30, ↓ms30, ↓ml31, ↓ms31, ↓ml32, ↓ms32, ↓ml33, ↓ms33, ↓ml34, ↓ms34, ↓ml35, ↓ms35, ↓ml36, ↓ms36, ↓ml37, ↓ms37, ↓ml38, ↓ms38, ↓m_xv, ↓xb, ↓xr, ml4, ms4, ml5, ms5, ml6, ms6, ml7, ms7, ml8, ms8, ml9, ms9, ml10, ms10, ml11, ms11, ml12, ms12, ml13, ms13, ml14, ms14, ml15, ms15, ml16, ms16, ml17, ms17, ml18, ms18, ml19, ms19, ml20, ms20, ml21, ml22, ms22, ml23, ms23, ml24, ms24, ml25, ms25, ml27, ms27, ml28, ms28, ml29, ms29, ml30, ms30, ml31, ms31, ml32, ms32, ml33, ms33, ml34, ms34, ml35, ms35, ml36, ms36, ml37, ms37, ml38, ms38, n3, n30, n10, n300, n401, n4p, np1, np2, nI_add, ↓reduceIte]
          simpa only [h1, h2, not_false_iff, and_true, if_true] using i1
      · simp (disch := omega) only [f_Mdl_tick_h112, f_Mdl_tick_b112, f_Mdl_tick_b154, c1, hs.1, hRn, h1, ↓mg0, ↓mg1, ↓mg2, ↓mg3, ↓mg26, ↓mp0, ↓mp1, ↓mp2, ↓mp3, ↓mp26, ↓mg4, ↓mg5, ↓mg6, ↓mg7, ↓mg8, ↓mg9, ↓mg10, ↓mg11, ↓mg12, ↓mg13, ↓mg14, ↓mg15, ↓mg16, ↓mg17, ↓mg18, ↓mg19, ↓mg20, ↓mg21, ↓mg22, ↓mg23, ↓mg24, ↓mg25, ↓mg27, ↓mg28, ↓mg29, ↓mg30, ↓mg31, ↓mg32, ↓mg33, ↓mg34, ↓mg35, ↓mg36, ↓mg37, ↓mg38, ↓ml4, ↓ms4, ↓ml5, ↓ms5, ↓ml6, ↓ms6, ↓ml7, ↓ms7, ↓ml8, ↓ms8, ↓ml9, ↓ms9, ↓ml10, ↓ms10, ↓ml11, ↓ms11, ↓ml12, ↓ms12, ↓ml13, ↓ms13, ↓ml14, ↓ms14, ↓ml15, ↓ms15, ↓ml16, ↓ms16, ↓ml17, ↓ms17, ↓ml18, ↓ms18, ↓ml19, ↓ms19, ↓ml20, ↓ms20, ↓ml21, ↓ml22, ↓ms22, ↓ml23, ↓ms23, ↓ml24, ↓ms24, ↓ml25, ↓ms25, ↓ml27, ↓ms27, ↓ml28, ↓ms28, ↓ml29, ↓ms29, ↓ml30, ↓ms30, ↓ml31, ↓ms31, ↓ml32, ↓ms32, ↓ml33, ↓ms33, ↓ml34, ↓ms34, ↓ml35, ↓ms35, ↓ml36, ↓ms36, ↓ml37, ↓ms37, ↓ml38, ↓ms38, ↓m_xv, ↓xb, ↓xr, ml4, ms4, ml5, ms5, ml6, ms6, ml7, ms7, ml8, ms8, ml9, ms9, ml10, ms10, ml11, ms11, ml12, ms12, ml13, ms13, ml14, ms14, ml15, ms15, ml16, ms16, ml17, ms17, ml18, ms18, ml19, ms19, ml20, ms20, ml21, ml22, ms22, ml23, ms23, ml24, ms24, ml25, ms25, ml27, ms27, ml28, ms28, ml29, ms29, ml30, ms30, ml31, ms31, ml32, ms32, ml33, ms33, ml34, ms34, ml35, ms35, ml36, ms36, ml37, ms37, ml38, ms38, n3, n30, n10, n300, n401, n4p, np1, np2, nI_add, ↓reduceIte]
        simpa only [h1, false_and, if_false] using i1
  exact key R 0 1000 (by omega) (by omega)
theorem s_tick (hi : Inv P N R T e t σ) (hT : T + 1 ≤ 100000) : f_Mdl_tick m (em h m σ) = some (.inl (tickS P N R σ).1, em h m (tickS P N R σ).2) := by
  have i0 := time_inv hi hT
  have hN := hi.1.1.2.2.2.1
  have hP3 := hi.1.1.2.1
  have hR := hi.1.1.2.2.2.2.1
  have key : ∀ d r n, r + d = N → d < n → f_Mdl_tick_h14 n m (trS P (uS σ 3 (σ.1 3 + 1)) r).1 (nI r) (em h m (trS P (uS σ 3 (σ.1 3 + 1)) r).2) = some (.inl (tickS P N R σ).1, em h m (tickS P N R σ).2) := by
    intro d
    induction d with
    | zero =>
      intro r n hr hn
      obtain ⟨n, rfl, -⟩ := pos_of hn
      obtain rfl : r = N := by omega
      have c1 : nI r ≤ nI r := nI_le (by omega) (by omega)
      have iv : Inv P r R (T + 1) e t (trS P (uS σ 3 (σ.1 3 + 1)) r).2 := by
        rw [hi.1.1.2.2.2.2.2.2.2.2.2, np1]
        exact tr_inv i0 r (Nat.le_refl r)
      have fl := s_fails (h := h) (m := m) (al := (trS P (uS σ 3 (σ.1 3 + 1)) r).1) hR iv.1.1.2.2.2.2.2.2.2.2.1
      have hNn := iv.1.1.2.2.2.2.2.2.2.1
      simp only [f_Mdl_tick_h14, f_Mdl_tick_b14, c1, hNn, fl, ↓mg0, ↓mg1, ↓mg2, ↓mg3, ↓mg26, ↓mp0, ↓mp1, ↓mp2, ↓mp3, ↓mp26, ↓mg4, ↓mg5, ↓mg6, ↓mg7, ↓mg8, ↓mg9, ↓mg10, ↓mg11, ↓mg12, ↓mg13, ↓mg14, ↓mg15, ↓mg16, ↓mg17, ↓mg18, ↓mg19, ↓mg20, ↓mg21, ↓mg22, ↓mg23, ↓mg24, ↓mg25, ↓mg27, ↓mg28, ↓mg29, ↓mg30, ↓mg31, ↓mg32, ↓mg33, ↓mg34, ↓mg35, ↓mg36, ↓mg37, ↓mg38, ↓ml4, ↓ms4, ↓ml5, ↓ms5, ↓ml6, ↓ms6, ↓ml7, ↓ms7, ↓ml8, ↓ms8, ↓ml9, ↓ms9, ↓ml10, ↓ms10, ↓ml11, ↓ms11, ↓ml12, ↓ms12, ↓ml13, ↓ms13, ↓ml14, ↓ms14, ↓ml15, ↓ms15, ↓ml16, ↓ms16, ↓ml17, ↓ms17, ↓ml18, ↓ms18, ↓ml19, ↓ms19, ↓ml20, ↓ms20, ↓ml21, ↓ml22, ↓ms22, ↓ml23, ↓ms23, ↓ml24, ↓ms24, ↓ml25, ↓ms25, ↓ml27, ↓ms27, ↓ml28, ↓ms28, ↓ml29, ↓ms29, ↓ml30, ↓ms30, ↓ml31, ↓ms31, ↓ml32, ↓ms32, ↓ml33, ↓ms33, ↓ml34, ↓ms34, ↓ml35, ↓ms35, ↓ml36, ↓ms36, ↓ml37, ↓ms37, ↓ml38, ↓ms38, ↓m_xv, ↓xb, ↓xr, ml4, ms4, ml5, ms5, ml6, ms6, ml7, ms7, ml8, ms8, ml9, ms9, ml10, ms10, ml11, ms11, ml12, ms12, ml13, ms13, ml14, ms14, ml15, ms15, ml16, ms16, ml17, ms17, ml18, ms18, ml19, ms19, ml20, ms20, ml21, ml22, ms22, ml23, ms23, ml24, ms24, ml25, ms25, ml27, ms27, ml28, ms28, ml29, ms29, ml30, ms30, ml31, ms31, ml32, ms32, ml33, ms33, ml34, ms34, ml35, ms35, ml36, ms36, ml37, ms37, ml38, ms38, n3, n30, n10, n300, n401, n4p, np1, np2, nI_add, ↓reduceIte]
      rfl
    | succ d ih =>
      intro r n hr hn
      obtain ⟨n, rfl, hn⟩ := pos_of hn
      have c1 : ¬ nI N ≤ nI r := nI_ge (by omega) (by omega)
      have i1 := ih (r + 1) n (by omega) (by omega)
      have iv : Inv P N R (T + 1) e t (trS P (uS σ 3 (σ.1 3 + 1)) r).2 := by
        rw [hi.1.1.2.2.2.2.2.2.2.2.2, np1]
        exact tr_inv i0 r (by omega)
      have hNn := iv.1.1.2.2.2.2.2.2.2.1
      obtain ⟨p, hp, e1, e2⟩ := iv.1.next (r := r) (by omega)
      have hu := s_hur (h := h) (m := m) iv (r := r) (by omega) (k14 := f_Mdl_tick_h14 n) (al := (trS P (uS σ 3 (σ.1 3 + 1)) r).1) 1000 p 0 0 hp (by omega) (by omega) (by omega)
      simp (disch := omega) only [f_Mdl_tick_h14, f_Mdl_tick_b14, c1, hNn, e1, ↓mg0, ↓mg1, ↓mg2, ↓mg3, ↓mg26, ↓mp0, ↓mp1, ↓mp2, ↓mp3, ↓mp26, ↓mg4, ↓mg5, ↓mg6, ↓mg7, ↓mg8, ↓mg9, ↓mg10, ↓mg11, ↓mg12, ↓mg13, ↓mg14, ↓mg15, ↓mg16, ↓mg17, ↓mg18, ↓mg19, ↓mg20, ↓mg21, ↓mg22, ↓mg23, ↓mg24, ↓mg25, ↓mg27, ↓mg28, ↓mg29, ↓mg30, ↓mg31, ↓mg32, ↓mg33, ↓mg34, ↓mg35, ↓mg36, ↓mg37, ↓mg38, ↓ml4, ↓ms4, ↓ml5, ↓ms5, ↓ml6, ↓ms6, ↓ml7, ↓ms7, ↓ml8, ↓ms8, ↓ml9, ↓ms9, ↓ml10, ↓ms10, ↓ml11, ↓ms11, ↓ml12, ↓ms12, ↓ml13, ↓ms13, ↓ml14, ↓ms14, ↓ml15, ↓ms15, ↓ml16, ↓ms16, ↓ml17, ↓ms17, ↓ml18, ↓ms18, ↓ml19, ↓ms19, ↓ml20, ↓ms20, ↓ml21, ↓ml22, ↓ms22, ↓ml23, ↓ms23, ↓ml24, ↓ms24, ↓ml25, ↓ms25, ↓ml27, ↓ms27, ↓ml28, ↓ms28, ↓ml29, ↓ms29, ↓ml30, ↓ms30, ↓ml31, ↓ms31, ↓ml32, ↓ms32, ↓ml33, ↓ms33, ↓ml34, ↓ms34, ↓ml35, ↓ms35, ↓ml36, ↓ms36, ↓ml37, ↓ms37, ↓ml38, ↓ms38, ↓m_xv, ↓xb, ↓xr, ml4, ms4, ml5, ms5, ml6, ms6, ml7, ms7, ml8, ms8, ml9, ms9, ml10, ms10, ml11, ms11, ml12, ms12, ml13, ms13, ml14, ms14, ml15, ms15, ml16, ms16, ml17, ms17, ml18, ms18, ml19, ms19, ml20, ms20, ml21, ml22, ms22, ml23, ms23, ml24, ms24, ml25, ms25, ml27, ms27, ml28, ms28, ml29, ms29, ml30, ms30, ml31, ms31, ml32, ms32, ml33, ms33, ml34, ms34, ml35, ms35, ml36, ms36, ml37, ms37, ml38, ms38, n3, n30, n10, n300, n401, n4p, np1, np2, nI_add, ↓reduceIte]
      rw [nI_0] at hu
      rw [hu, ← e2]
      exact i1
  simp only [f_Mdl_tick, mg3, mp3]
  exact key N 0 1000 (by omega) (by omega)
theorem s_ticks (hi : Inv P N R T e t σ) (h2 : σ.1 2 = 0) {n : Nat} (hn100 : n ≤ 100) (hT : T + n ≤ 100000) : f_Mdl_ticks_h25 1000 m (nI n) 0 0 (em h m σ) = some (.inl (ticksS P N R σ n).1, em h m (ticksS P N R σ n).2) := by
  have hthr : ∀ k, k ≤ n → (ticksS P N R σ k).2.1 2 = 0 := fun k _ => by rw [ticks_sc _ _ _ _ _ _ (by decide)]; exact h2
  have key : ∀ d k f, k + d = n → d < f → f_Mdl_ticks_h25 f m (nI n) (ticksS P N R σ k).1 (nI k) (em h m (ticksS P N R σ k).2) = some (.inl (ticksS P N R σ n).1, em h m (ticksS P N R σ n).2) := by
    intro d
    induction d with
    | zero =>
      intro k f hk hf
      obtain ⟨f, rfl, -⟩ := pos_of hf
      obtain rfl : k = n := by omega
      have c1 : nI k ≤ nI k := nI_le (by omega) (by omega)
      simp only [f_Mdl_ticks_h25, f_Mdl_ticks_b25, f_Mdl_ticks_b50, c1, ↓mg0, ↓mg1, ↓mg2, ↓mg3, ↓mg26, ↓mp0, ↓mp1, ↓mp2, ↓mp3, ↓mp26, ↓mg4, ↓mg5, ↓mg6, ↓mg7, ↓mg8, ↓mg9, ↓mg10, ↓mg11, ↓mg12, ↓mg13, ↓mg14, ↓mg15, ↓mg16, ↓mg17, ↓mg18, ↓mg19, ↓mg20, ↓mg21, ↓mg22, ↓mg23, ↓mg24, ↓mg25, ↓mg27, ↓mg28, ↓mg29, ↓mg30, ↓mg31, ↓mg32, ↓mg33, ↓mg34, ↓mg35, ↓mg36, ↓mg37, ↓mg38, ↓ml4, ↓ms4, ↓ml5, ↓ms5, ↓ml6, ↓ms6, ↓ml7, ↓ms7, ↓ml8, ↓ms8, ↓ml9, ↓ms9, ↓ml10, ↓ms10, ↓ml11, ↓ms11, ↓ml12, ↓ms12, ↓ml13, ↓ms13, ↓ml14, ↓ms14, ↓ml15, ↓ms15, ↓ml16, ↓ms16, ↓ml17, ↓ms17, ↓ml18, ↓ms18, ↓ml19, ↓ms19, ↓ml20, ↓ms20, ↓ml21, ↓ml22, ↓ms22, ↓ml23, ↓ms23, ↓ml24, ↓ms24, ↓ml25, ↓ms25, ↓ml27, ↓ms27, ↓ml28, ↓ms28, ↓ml29, ↓ms29, ↓ml30, ↓ms30, ↓ml31, ↓ms31, ↓ml32, ↓ms32, ↓ml33, ↓ms33, ↓ml34, ↓ms34, ↓ml35, ↓ms35, ↓ml36, ↓ms36, ↓ml37, ↓ms37, ↓ml38, ↓ms38, ↓m_xv, ↓xb, ↓xr, ml4, ms4, ml5, ms5, ml6, ms6, ml7, ms7, ml8, ms8, ml9, ms9, ml10, ms10, ml11, ms11, ml12, ms12, ml13, ms13, ml14, ms14, ml15, ms15, ml16, ms16, ml17, ms17, ml18, ms18, ml19, ms19, ml20, ms20, ml21, ml22, ms22, ml23, ms23, ml24, ms24, ml25, ms25, ml27, ms27, ml28, ms28, ml29, ms29, ml30, ms30, ml31, ms31, ml32, ms32, ml33, ms33, ml34, ms34, ml35, ms35, ml36, ms36, ml37, ms37, ml38, ms38, n3, n30, n10, n300, n401, n4p, np1, np2, nI_add, ↓reduceIte]
    | succ d ih =>
      intro k f hk hf
      obtain ⟨f, rfl, hf⟩ := pos_of hf
      have c1 : ¬ nI n ≤ nI k := nI_ge (by omega) (by omega)
      have i1 := ih (k + 1) f (by omega) (by omega)
      have tk := s_tick (h := h) (m := m) (ticks_inv hi k (by omega)) (by omega)
      simp (disch := omega) only [f_Mdl_ticks_h25, f_Mdl_ticks_b25, c1, hthr k (by omega), tk, ↓mg0, ↓mg1, ↓mg2, ↓mg3, ↓mg26, ↓mp0, ↓mp1, ↓mp2, ↓mp3, ↓mp26, ↓mg4, ↓mg5, ↓mg6, ↓mg7, ↓mg8, ↓mg9, ↓mg10, ↓mg11, ↓mg12, ↓mg13, ↓mg14, ↓mg15, ↓mg16, ↓mg17, ↓mg18, ↓mg19, ↓mg20, ↓mg21, ↓mg22, ↓mg23, ↓mg24, ↓mg25, ↓mg27, ↓mg28, ↓mg29, ↓mg30, ↓mg31, ↓mg32, ↓mg33, ↓mg34, ↓mg35, ↓mg36, ↓mg37, ↓mg38, ↓ml4, ↓ms4, ↓ml5, ↓ms5, ↓ml6, ↓ms6, ↓ml7, ↓ms7, ↓ml8, ↓ms8, ↓ml9, ↓ms9, ↓ml10, ↓ms10, ↓ml11, ↓ms11, ↓ml12, ↓ms12, ↓ml13, ↓ms13, ↓ml14, ↓ms14, ↓ml15, ↓ms15, ↓ml16, ↓ms16, ↓ml17, ↓ms17, ↓ml18, ↓ms18, ↓ml19, ↓ms19, ↓ml20, ↓ms20, ↓ml21, ↓ml22, ↓ms22, ↓ml23, ↓ms23, ↓ml24, ↓ms24, ↓ml25, ↓ms25, ↓ml27, ↓ms27, ↓ml28, ↓ms28, ↓ml29, ↓ms29, ↓ml30, ↓ms30, ↓ml31, ↓ms31, ↓ml32, ↓ms32, ↓ml33, ↓ms33, ↓ml34, ↓ms34, ↓ml35, ↓ms35, ↓ml36, ↓ms36, ↓ml37, ↓ms37, ↓ml38, ↓ms38, ↓m_xv, ↓xb, ↓xr, ml4, ms4, ml5, ms5, ml6, ms6, ml7, ms7, ml8, ms8, ml9, ms9, ml10, ms10, ml11, ms11, ml12, ms12, ml13, ms13, ml14, ms14, ml15, ms15, ml16, ms16, ml17, ms17, ml18, ms18, ml19, ms19, ml20, ms20, ml21, ml22, ms22, ml23, ms23, ml24, ms24, ml25, ms25, ml27, ms27, ml28, ms28, ml29, ms29, ml30, ms30, ml31, ms31, ml32, ms32, ml33, ms33, ml34, ms34, ml35, ms35, ml36, ms36, ml37, ms37, ml38, ms38, n3, n30, n10, n300, n401, n4p, np1, np2, nI_add, ↓reduceIte]
      exact i1
  exact key n 0 1000 (by omega) (by omega)
end XMW
