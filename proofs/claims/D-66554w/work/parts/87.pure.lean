/-! the component's constructor -/
def rt1 (A P : Nat) : List Value := [.int (nI P), .ref (A + 4), .null, .ref (A + 1), .ref (A + 2), .int 0, .ref (A + 3), .int 0, .int 0, .int 0, .long 0]
def rt2 (A P : Nat) : List Value := [.int (nI P), .ref (A + 4), .ref (A + (5 + 2 * P)), .ref (A + 1), .ref (A + 2), .int 0, .ref (A + 3), .int 0, .int 0, .int 0, .long 0]
/-- k logs made -/
def kc1 (A P k : Nat) : Nat → xE := fun i => if i < 5 then (if i = 0 then .inr (0, rt1 A P) else if i = 1 then aA 7 8 (fun _ => none) else if i = 2 then aA 8 500 (fun _ => none) else if i = 3 then .inl (0, 40, .inl fun _ => 0) else aA 5 P (clA k fun j => A + (5 + 2 * j))) else lgc (A + (5 + 2 * ((i - 5) / 2))) ((i - 5) % 2)
/-- k replicas, s sessions made -/
def kc2 (A P N k s : Nat) : Nat → xE := fun i => if i = 0 then .inr (0, rt2 A P) else if i = 1 then aA 7 8 (clA s fun j => A + (6 + 2 * P + 133 * N + 5 * j)) else if i = 5 + 2 * P then aA 6 N (clA k fun j => A + (6 + 2 * P + 133 * j)) else kc1 A P P i
def rpl (C : Nat) : Nat → xE := fun i => rpc (C + 133 * (i / 133)) (i % 133)
def sel (E : Nat) : Nat → xE := fun i => ses (E + 5 * (i / 5)) (i % 5)
def kc3 (A P N k : Nat) : Nat → xE := jn (6 + 2 * P) (kc2 A P N k 0) (rpl (A + (6 + 2 * P)))
def kc4 (A P N s : Nat) : Nat → xE := jn (6 + 2 * P + 133 * N) (jn (6 + 2 * P) (kc2 A P N N s) (rpl (A + (6 + 2 * P)))) (sel (A + (6 + 2 * P + 133 * N)))
theorem clA_up (k : Nat) (f : Nat → Nat) {a : Nat} (ha : a = f k) : va_up (clA k f) k (some a) = clA (k + 1) f := by
  funext q
  unfold va_up clA
  by_cases hq : q = k
  · subst hq
    rw [if_pos rfl, if_pos (by omega), ha]
  · rw [if_neg hq]
    by_cases h2 : q < k
    · rw [if_pos h2, if_pos (by omega)]
    · rw [if_neg h2, if_neg (by omega)]
theorem clA_0 (f : Nat → Nat) : clA 0 f = fun _ => none := by
  funext q
  simp [clA]
section XFB
variable {α β : Type} {h : xH} {P N : Nat}
theorem t_ses_l (hN : N ≤ 4) (hP : P ≤ 3) (hr : rm h (6 + 2 * P + 133 * N + 40) (559 + P + 403 * P + N + 1021 * N + 96)) : f_RS_init_h149 1000 h.1.1 0 (cat h (6 + 2 * P + 133 * N + 5 * 0) (559 + P + 403 * P + N + 1021 * N + 12 * 0) (kc4 h.1.1 P N 0)) = some (.inl (), cat h (6 + 2 * P + 133 * N + 40) (559 + P + 403 * P + N + 1021 * N + 96) (kc4 h.1.1 P N 8)) := by
  have key : ∀ d k n, k + d = 8 → d < n → f_RS_init_h149 n h.1.1 (nI k) (cat h (6 + 2 * P + 133 * N + 5 * k) (559 + P + 403 * P + N + 1021 * N + 12 * k) (kc4 h.1.1 P N k)) = some (.inl (), cat h (6 + 2 * P + 133 * N + 40) (559 + P + 403 * P + N + 1021 * N + 96) (kc4 h.1.1 P N 8)) := by
    intro d
    induction d with
    | zero =>
      intro k n hk hn
      obtain ⟨n, rfl, -⟩ := pos_of hn
      obtain rfl : k = 8 := by omega
      show f_RS_init_b149 (f_RS_init_h149 n) _ _ _ = _
      unfold f_RS_init_b149
      rw [if_pos (by decide)]
      rfl
    | succ d ih =>
      intro k n hk hn
      obtain ⟨n, rfl, hn⟩ := pos_of hn
      have c1 : ¬ (8 : Int32) ≤ nI k := nI_ge (b := 8) (by omega) (by omega)
      have e0 : kc4 h.1.1 P N k 0 = .inr (0, rt2 h.1.1 P) := by
        unfold kc4 jn
        rw [if_pos (by omega), if_pos (by omega)]
        rfl
      have e1 : kc4 h.1.1 P N k 1 = aA 7 8 (clA k fun j => h.1.1 + (6 + 2 * P + 133 * N + 5 * j)) := by
        unfold kc4 jn
        rw [if_pos (by omega), if_pos (by omega)]
        rfl
      have r1 : rm (cat h (6 + 2 * P + 133 * N + 5 * k) (559 + P + 403 * P + N + 1021 * N + 12 * k) (kc4 h.1.1 P N k)) 5 12 := rm.cat (hr.le (by omega) (by omega))
      have v1 : f_Sess_init (h.1.1 + (6 + 2 * P + 133 * N + 5 * k)) (cat (cat h (6 + 2 * P + 133 * N + 5 * k) (559 + P + 403 * P + N + 1021 * N + 12 * k) (kc4 h.1.1 P N k)) 1 4 (fun _ => .inr (6, z_Sess))) = some (.inl (), cat (cat h (6 + 2 * P + 133 * N + 5 * k) (559 + P + 403 * P + N + 1021 * N + 12 * k) (kc4 h.1.1 P N k)) 5 12 (ses (h.1.1 + (6 + 2 * P + 133 * N + 5 * k)))) := t_ses r1
      have gj : jn (6 + 2 * P + 133 * N + 5 * k) (kc4 h.1.1 P N k) (ses (h.1.1 + (6 + 2 * P + 133 * N + 5 * k))) (6 + 2 * P + 133 * N + 5 * k) = .inr (x_tc 7, [.int 0, .int 0, .ref (h.1.1 + (6 + 2 * P + 133 * N + 5 * k) + 1), .ref (h.1.1 + (6 + 2 * P + 133 * N + 5 * k) + 3)]) := by
        unfold jn
        rw [if_neg (by omega), Nat.sub_self]
        rfl
      have g1 : jn (6 + 2 * P + 133 * N + 5 * k) (kc4 h.1.1 P N k) (ses (h.1.1 + (6 + 2 * P + 133 * N + 5 * k))) 1 = aA 7 8 (clA k fun j => h.1.1 + (6 + 2 * P + 133 * N + 5 * j)) := by
        unfold jn
        rw [if_pos (by omega), e1]
      show f_RS_init_b149 (f_RS_init_h149 n) _ _ _ = _
      unfold f_RS_init_b149
      rw [if_neg c1, t_gA0 (v := h.1.1 + 1) (by omega) e0 rfl, t_nE (hr.le (by omega) (by omega)), xb_ok v1, cat_cat, t_sA (by omega) g1 (by omega) (by omega) (by omega) gj, np1, clA_up _ _ rfl]
      have e : cat h (6 + 2 * P + 133 * N + 5 * k + 5) (559 + P + 403 * P + N + 1021 * N + 12 * k + 12) (va_up (jn (6 + 2 * P + 133 * N + 5 * k) (kc4 h.1.1 P N k) (ses (h.1.1 + (6 + 2 * P + 133 * N + 5 * k)))) 1 (aA 7 8 (clA (k + 1) fun j => h.1.1 + (6 + 2 * P + 133 * N + 5 * j)))) = cat h (6 + 2 * P + 133 * N + 5 * (k + 1)) (559 + P + 403 * P + N + 1021 * N + 12 * (k + 1)) (kc4 h.1.1 P N (k + 1)) := by
        rw [show 6 + 2 * P + 133 * N + 5 * k + 5 = 6 + 2 * P + 133 * N + 5 * (k + 1) by omega, show 559 + P + 403 * P + N + 1021 * N + 12 * k + 12 = 559 + P + 403 * P + N + 1021 * N + 12 * (k + 1) by omega]
        refine cat_c fun i hi => ?_
        by_cases h1 : i = 1
        · subst h1
          unfold kc4 jn va_up
          rw [if_pos rfl, if_pos (by omega), if_pos (by omega)]
          rfl
        · unfold va_up
          rw [if_neg h1]
          unfold kc4 jn
          by_cases h2 : i < 6 + 2 * P + 133 * N
          · rw [if_pos (by omega), if_pos h2, if_pos h2]
            by_cases h3 : i < 6 + 2 * P
            · rw [if_pos h3, if_pos h3]
              unfold kc2
              rw [if_neg h1, if_neg h1]
            · rw [if_neg h3, if_neg h3]
          · rw [if_neg h2, if_neg h2]
            by_cases h4 : i < 6 + 2 * P + 133 * N + 5 * k
            · rw [if_pos h4]
            · rw [if_neg h4]
              unfold sel
              rw [show (i - (6 + 2 * P + 133 * N)) / 5 = k by omega, show (i - (6 + 2 * P + 133 * N)) % 5 = i - (6 + 2 * P + 133 * N + 5 * k) by omega, Nat.add_assoc h.1.1]
      rw [e]
      exact ih (k + 1) n (by omega) (by omega)
  have k0 := key 8 0 1000 (by omega) (by omega)
  rw [nI_0] at k0
  exact k0
theorem t_rep_l (hN : N ≤ 4) (hP : P ≤ 3) (hr : rm h (6 + 2 * P + 133 * N + 40) (559 + P + 403 * P + N + 1021 * N + 96)) : f_RS_init_h119 1000 h.1.1 0 (cat h (6 + 2 * P + 133 * 0) (559 + P + 403 * P + N + 1021 * 0) (kc3 h.1.1 P N 0)) = some (.inl (), cat h (6 + 2 * P + 133 * N + 40) (559 + P + 403 * P + N + 1021 * N + 96) (kc4 h.1.1 P N 8)) := by
  have sl := t_ses_l (h := h) hN hP hr
  have key : ∀ d k n, k + d = N → d < n → f_RS_init_h119 n h.1.1 (nI k) (cat h (6 + 2 * P + 133 * k) (559 + P + 403 * P + N + 1021 * k) (kc3 h.1.1 P N k)) = some (.inl (), cat h (6 + 2 * P + 133 * N + 40) (559 + P + 403 * P + N + 1021 * N + 96) (kc4 h.1.1 P N 8)) := by
    intro d
    induction d with
    | zero =>
      intro k n hk hn
      obtain ⟨n, rfl, -⟩ := pos_of hn
      obtain rfl : k = N := by omega
      have c1 : nI k ≤ nI k := nI_le (by omega) (by omega)
      have e0 : kc3 h.1.1 P k k 0 = .inr (0, rt2 h.1.1 P) := by
        unfold kc3 jn
        rw [if_pos (by omega)]
        rfl
      have e1 : kc3 h.1.1 P k k (5 + 2 * P) = aA 6 k (clA k fun j => h.1.1 + (6 + 2 * P + 133 * j)) := by
        unfold kc3 jn
        rw [if_pos (by omega)]
        unfold kc2
        rw [if_neg (by omega), if_neg (by omega), if_pos rfl]
      show f_RS_init_b119 (f_RS_init_h119 n) _ _ _ = _
      unfold f_RS_init_b119
      rw [t_gA0 (v := h.1.1 + (5 + 2 * P)) (by omega) e0 rfl, t_aL (by omega) e1 (by omega), if_pos c1, ← sl]
      congr 1
      show cat h (6 + 2 * P + 133 * k) (559 + P + 403 * P + k + 1021 * k) _ = cat h (6 + 2 * P + 133 * k) (559 + P + 403 * P + k + 1021 * k) _
      refine cat_c fun i hi => ?_
      unfold kc4 kc3 jn
      rw [if_pos hi]
    | succ d ih =>
      intro k n hk hn
      obtain ⟨n, rfl, hn⟩ := pos_of hn
      have c1 : ¬ nI N ≤ nI k := nI_ge (by omega) (by omega)
      have e0 : kc3 h.1.1 P N k 0 = .inr (0, rt2 h.1.1 P) := by
        unfold kc3 jn
        rw [if_pos (by omega)]
        rfl
      have e1 : kc3 h.1.1 P N k (5 + 2 * P) = aA 6 N (clA k fun j => h.1.1 + (6 + 2 * P + 133 * j)) := by
        unfold kc3 jn
        rw [if_pos (by omega)]
        unfold kc2
        rw [if_neg (by omega), if_neg (by omega), if_pos rfl]
      have r1 : rm (cat h (6 + 2 * P + 133 * k) (559 + P + 403 * P + N + 1021 * k) (kc3 h.1.1 P N k)) 133 1021 := rm.cat (hr.le (by omega) (by omega))
      have v1 : f_Repl_init (h.1.1 + (6 + 2 * P + 133 * k)) (cat (cat h (6 + 2 * P + 133 * k) (559 + P + 403 * P + N + 1021 * k) (kc3 h.1.1 P N k)) 1 5 (fun _ => .inr (5, z_Repl))) = some (.inl (), cat (cat h (6 + 2 * P + 133 * k) (559 + P + 403 * P + N + 1021 * k) (kc3 h.1.1 P N k)) 133 1021 (rpc (h.1.1 + (6 + 2 * P + 133 * k)))) := t_rep r1
      have gj : jn (6 + 2 * P + 133 * k) (kc3 h.1.1 P N k) (rpc (h.1.1 + (6 + 2 * P + 133 * k))) (6 + 2 * P + 133 * k) = .inr (x_tc 6, [.ref (h.1.1 + (6 + 2 * P + 133 * k) + 1), .ref (h.1.1 + (6 + 2 * P + 133 * k) + 67), .int 1, .int 0, .int 0]) := by
        unfold jn
        rw [if_neg (by omega), Nat.sub_self]
        rfl
      have g1 : jn (6 + 2 * P + 133 * k) (kc3 h.1.1 P N k) (rpc (h.1.1 + (6 + 2 * P + 133 * k))) (5 + 2 * P) = aA 6 N (clA k fun j => h.1.1 + (6 + 2 * P + 133 * j)) := by
        unfold jn
        rw [if_pos (by omega), e1]
      show f_RS_init_b119 (f_RS_init_h119 n) _ _ _ = _
      unfold f_RS_init_b119
      rw [t_gA0 (v := h.1.1 + (5 + 2 * P)) (by omega) e0 rfl, t_aL (by omega) e1 (by omega), if_neg c1, t_gA0 (v := h.1.1 + (5 + 2 * P)) (by omega) e0 rfl, t_nE (hr.le (by omega) (by omega)), xb_ok v1, cat_cat, t_sA (by omega) g1 (by omega) (by omega) (by omega) gj, np1, clA_up _ _ rfl]
      have e : cat h (6 + 2 * P + 133 * k + 133) (559 + P + 403 * P + N + 1021 * k + 1021) (va_up (jn (6 + 2 * P + 133 * k) (kc3 h.1.1 P N k) (rpc (h.1.1 + (6 + 2 * P + 133 * k)))) (5 + 2 * P) (aA 6 N (clA (k + 1) fun j => h.1.1 + (6 + 2 * P + 133 * j)))) = cat h (6 + 2 * P + 133 * (k + 1)) (559 + P + 403 * P + N + 1021 * (k + 1)) (kc3 h.1.1 P N (k + 1)) := by
        rw [show 6 + 2 * P + 133 * k + 133 = 6 + 2 * P + 133 * (k + 1) by omega, show 559 + P + 403 * P + N + 1021 * k + 1021 = 559 + P + 403 * P + N + 1021 * (k + 1) by omega]
        refine cat_c fun i hi => ?_
        by_cases h1 : i = 5 + 2 * P
        · subst h1
          unfold kc3 jn va_up
          rw [if_pos rfl, if_pos (by omega)]
          unfold kc2
          rw [if_neg (by omega), if_neg (by omega), if_pos rfl]
        · unfold va_up
          rw [if_neg h1]
          unfold kc3 jn
          by_cases h2 : i < 6 + 2 * P
          · rw [if_pos (by omega), if_pos h2, if_pos h2]
            unfold kc2
            rw [if_neg h1, if_neg h1]
          · rw [if_neg h2, if_neg h2]
            by_cases h4 : i < 6 + 2 * P + 133 * k
            · rw [if_pos h4]
            · rw [if_neg h4]
              unfold rpl
              rw [show (i - (6 + 2 * P)) / 133 = k by omega, show (i - (6 + 2 * P)) % 133 = i - (6 + 2 * P + 133 * k) by omega, Nat.add_assoc h.1.1]
      rw [e]
      exact ih (k + 1) n (by omega) (by omega)
  have k0 := key N 0 1000 (by omega) (by omega)
  rw [nI_0] at k0
  exact k0
def pn (hi : Int64) (l : Int32) (P : Nat) : Prop := (inb l.toInt64 1 hi = false ∧ P = 2) ∨ (inb l.toInt64 1 hi = true ∧ l = nI P)
theorem t_log_l {l2 : Int32} (hN : N ≤ 4) (hP1 : 1 ≤ P) (hP : P ≤ 3) (h2 : pn 4 l2 N) (hr : rm h (6 + 2 * P + 133 * N + 40) (559 + P + 403 * P + N + 1021 * N + 96)) : f_RS_init_h65 1000 h.1.1 l2 0 (cat h (5 + 2 * 0) (559 + P + 403 * 0) (kc1 h.1.1 P 0)) = some (.inl (), cat h (6 + 2 * P + 133 * N + 40) (559 + P + 403 * P + N + 1021 * N + 96) (kc4 h.1.1 P N 8)) := by
  have sl := t_rep_l (h := h) hN hP hr
  have key : ∀ d k n, k + d = P → d < n → f_RS_init_h65 n h.1.1 l2 (nI k) (cat h (5 + 2 * k) (559 + P + 403 * k) (kc1 h.1.1 P k)) = some (.inl (), cat h (6 + 2 * P + 133 * N + 40) (559 + P + 403 * P + N + 1021 * N + 96) (kc4 h.1.1 P N 8)) := by
    intro d
    induction d with
    | zero =>
      intro k n hk hn
      obtain ⟨n, rfl, -⟩ := pos_of hn
      obtain rfl : k = P := by omega
      have c1 : nI k ≤ nI k := nI_le (by omega) (by omega)
      have e0 : kc1 h.1.1 k k 0 = .inr (0, rt1 h.1.1 k) := rfl
      have e1 : kc1 h.1.1 k k 4 = aA 5 k (clA k fun j => h.1.1 + (5 + 2 * j)) := rfl
      have fin : f_RS_init_b111 h.1.1 (nI N) h.1.1 (cat h (5 + 2 * k) (559 + k + 403 * k) (kc1 h.1.1 k k)) = some (.inl (), cat h (6 + 2 * k + 133 * N + 40) (559 + k + 403 * k + N + 1021 * N + 96) (kc4 h.1.1 k N 8)) := by
        have e0' : va_up (kc1 h.1.1 k k) (5 + 2 * k) (aA 6 N fun _ => none) 0 = .inr (0, rt1 h.1.1 k) := by
          unfold va_up
          rw [if_neg (by omega), e0]
        unfold f_RS_init_b111
        rw [t_nAA (k := N) rfl (by omega) (hr.le (by omega) (by omega)), t_pV0 (by omega) e0' (by simp [rt1]), ← sl]
        congr 1
        rw [show 6 + 2 * k + 133 * 0 = 5 + 2 * k + 1 by omega, Nat.mul_zero, Nat.add_zero]
        refine cat_c fun i hi => ?_
        unfold kc3 jn
        rw [if_pos (by omega)]
        unfold kc2
        by_cases h0 : i = 0
        · subst h0
          rfl
        · unfold va_up
          rw [if_neg h0, if_neg h0]
          by_cases h5 : i = 5 + 2 * k
          · rw [if_pos h5, if_neg (by omega), if_pos h5, clA_0]
          · rw [if_neg h5]
            by_cases h1 : i = 1
            · subst h1
              rw [if_pos rfl, clA_0]
              rfl
            · rw [if_neg h1, if_neg h5]
      show f_RS_init_b65 (f_RS_init_h65 n) _ _ _ _ = _
      unfold f_RS_init_b65
      rw [t_gA0 (v := h.1.1 + 4) (by omega) e0 rfl, t_aL (by omega) e1 (by omega), if_pos c1, xb_ok (c_in _ _ _)]
      rcases h2 with ⟨h2, rfl⟩ | ⟨h2, rfl⟩
      · rw [h2, bI_f, if_pos rfl]
        exact fin
      · rw [h2, bI_t, if_neg ne10]
        exact fin
    | succ d ih =>
      intro k n hk hn
      obtain ⟨n, rfl, hn⟩ := pos_of hn
      have c1 : ¬ nI P ≤ nI k := nI_ge (by omega) (by omega)
      have e0 : kc1 h.1.1 P k 0 = .inr (0, rt1 h.1.1 P) := rfl
      have e1 : kc1 h.1.1 P k 4 = aA 5 P (clA k fun j => h.1.1 + (5 + 2 * j)) := rfl
      have r1 : rm (cat h (5 + 2 * k) (559 + P + 403 * k) (kc1 h.1.1 P k)) 2 403 := rm.cat (hr.le (by omega) (by omega))
      have v1 : f_Log_init (h.1.1 + (5 + 2 * k)) (cat (cat h (5 + 2 * k) (559 + P + 403 * k) (kc1 h.1.1 P k)) 1 3 (fun _ => .inr (3, z_Log))) = some (.inl (), cat (cat h (5 + 2 * k) (559 + P + 403 * k) (kc1 h.1.1 P k)) 2 403 (lgc (h.1.1 + (5 + 2 * k)))) := t_log r1
      have gj : jn (5 + 2 * k) (kc1 h.1.1 P k) (lgc (h.1.1 + (5 + 2 * k))) (5 + 2 * k) = .inr (x_tc 5, [.ref (h.1.1 + (5 + 2 * k) + 1), .int 0, .int 0]) := by
        unfold jn
        rw [if_neg (by omega), Nat.sub_self]
        rfl
      have g1 : jn (5 + 2 * k) (kc1 h.1.1 P k) (lgc (h.1.1 + (5 + 2 * k))) 4 = aA 5 P (clA k fun j => h.1.1 + (5 + 2 * j)) := by
        unfold jn
        rw [if_pos (by omega), e1]
      show f_RS_init_b65 (f_RS_init_h65 n) _ _ _ _ = _
      unfold f_RS_init_b65
      rw [t_gA0 (v := h.1.1 + 4) (by omega) e0 rfl, t_aL (by omega) e1 (by omega), if_neg c1, t_gA0 (v := h.1.1 + 4) (by omega) e0 rfl, t_nE (hr.le (by omega) (by omega)), xb_ok v1, cat_cat, t_sA (by omega) g1 (by omega) (by omega) (by omega) gj, np1, clA_up _ _ rfl]
      have e : cat h (5 + 2 * k + 2) (559 + P + 403 * k + 403) (va_up (jn (5 + 2 * k) (kc1 h.1.1 P k) (lgc (h.1.1 + (5 + 2 * k)))) 4 (aA 5 P (clA (k + 1) fun j => h.1.1 + (5 + 2 * j)))) = cat h (5 + 2 * (k + 1)) (559 + P + 403 * (k + 1)) (kc1 h.1.1 P (k + 1)) := by
        rw [show 5 + 2 * k + 2 = 5 + 2 * (k + 1) by omega, show 559 + P + 403 * k + 403 = 559 + P + 403 * (k + 1) by omega]
        refine cat_c fun i hi => ?_
        by_cases h1 : i = 4
        · subst h1
          rfl
        · unfold va_up
          rw [if_neg h1]
          unfold jn kc1
          by_cases h2 : i < 5
          · rw [if_pos (by omega), if_pos h2, if_pos h2]
            have : i = 0 ∨ i = 1 ∨ i = 2 ∨ i = 3 := by omega
            rcases this with rfl | rfl | rfl | rfl <;> rfl
          · rw [if_neg h2, if_neg h2]
            by_cases h4 : i < 5 + 2 * k
            · rw [if_pos h4]
            · rw [if_neg h4, show (i - 5) / 2 = k by omega, show (i - 5) % 2 = i - (5 + 2 * k) by omega]
      rw [e]
      exact ih (k + 1) n (by omega) (by omega)
  have k0 := key P 0 1000 (by omega) (by omega)
  rw [nI_0] at k0
  exact k0
theorem t_rs {l1 l2 : Int32} (hN : N ≤ 4) (hP1 : 1 ≤ P) (hP : P ≤ 3) (h1 : pn 3 l1 P) (h2 : pn 4 l2 N) (hr : rm h (6 + 2 * P + 133 * N + 40) (559 + P + 403 * P + N + 1021 * N + 96)) : f_RS_init h.1.1 l1 l2 (cat h 1 11 (fun _ => .inr (0, z_RS))) = some (.inl (), cat h (6 + 2 * P + 133 * N + 40) (559 + P + 403 * P + N + 1021 * N + 96) (kc4 h.1.1 P N 8)) := by
  have sl := t_log_l (h := h) hN hP1 hP h2 hr
  unfold f_RS_init
  rw [t_nAA (c := 8) (k := 8) rfl (by omega) (hr.le (by omega) (by omega)), t_pV0 (by omega) rfl (by decide), t_nAA (c := 500) (k := 500) rfl (by omega) (hr.le (by omega) (by omega)), t_pV0 (fs := List.set z_RS 3 (.ref (h.1.1 + 1))) (by omega) rfl (by simp), t_nAI (c := 40) (k := 40) rfl (by omega) (hr.le (by omega) (by omega)), t_pV0 (fs := List.set (List.set z_RS 3 (.ref (h.1.1 + 1))) 4 (.ref (h.1.1 + 2))) (by omega) rfl (by simp), xb_ok (c_in _ _ _)]
  generalize hg : va_up _ 0 (Sum.inr (0, List.set (List.set (List.set z_RS 3 (.ref (h.1.1 + 1))) 4 (.ref (h.1.1 + 2))) 6 (.ref (h.1.1 + (1 + 1 + 1))))) = g
  have g0 : g 0 = .inr (0, List.set (List.set (List.set z_RS 3 (.ref (h.1.1 + 1))) 4 (.ref (h.1.1 + 2))) 6 (.ref (h.1.1 + (1 + 1 + 1)))) := by rw [← hg]; rfl
  have fin : f_RS_init_b49 h.1.1 l2 (nI P) h.1.1 (cat h (1 + 1 + 1 + 1) (11 + 8 + 500 + 40) g) = some (.inl (), cat h (6 + 2 * P + 133 * N + 40) (559 + P + 403 * P + N + 1021 * N + 96) (kc4 h.1.1 P N 8)) := by
    unfold f_RS_init_b49
    rw [t_pV0 (by omega) g0 (by simp), t_gI0 (v := nI P) (fs := List.set (List.set (List.set (List.set z_RS 3 (.ref (h.1.1 + 1))) 4 (.ref (h.1.1 + 2))) 6 (.ref (h.1.1 + (1 + 1 + 1)))) 0 (.int (nI P))) (by omega) rfl rfl, t_nAA (k := P) rfl (by omega) (hr.le (by omega) (by omega)), t_pV0 (fs := List.set (List.set (List.set (List.set z_RS 3 (.ref (h.1.1 + 1))) 4 (.ref (h.1.1 + 2))) 6 (.ref (h.1.1 + (1 + 1 + 1)))) 0 (.int (nI P))) (by omega) rfl (by simp), ← sl]
    congr 1
    refine cat_c fun i hi => ?_
    have : i = 0 ∨ i = 1 ∨ i = 2 ∨ i = 3 ∨ i = 4 := by omega
    rcases this with rfl | rfl | rfl | rfl | rfl
    · rfl
    · show g 1 = _
      rw [← hg]
      rfl
    · show g 2 = _
      rw [← hg]
      rfl
    · show g 3 = _
      rw [← hg]
      rfl
    · show aA 5 P (fun _ => none) = aA 5 P (clA 0 _)
      rw [clA_0]
  rcases h1 with ⟨h1, rfl⟩ | ⟨h1, rfl⟩
  · rw [h1, bI_f, if_pos rfl]
    exact fin
  · rw [h1, bI_t, if_neg ne10]
    exact fin
end XFB
