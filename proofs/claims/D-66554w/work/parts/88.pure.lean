/-! the layout behind the constructor -/
def sb (A P s : Nat) : Nat := if s < 4 then A + (6 + 2 * P + 133 * s + 1) else A + (6 + 2 * P + 133 * (s - 4) + 67)
def enc (A P N : Nat) (d : xK) : Nat := if d.1 ≤ 4 then A + d.1 else if d.1 = 5 then A + (5 + 2 * d.2.1) else if d.1 = 6 then A + (6 + 2 * d.2.1) else if d.1 = 7 then A + (5 + 2 * P) else if d.1 = 8 then A + (6 + 2 * P + 133 * d.2.1) else if d.1 ≤ 13 then sb A P d.2.1 + (d.1 - 9) else if d.1 = 14 then sb A P d.2.1 + (6 + 2 * d.2.2) else if d.1 = 15 then sb A P d.2.1 + (7 + 2 * d.2.2) else if d.1 = 16 then sb A P d.2.1 + 5 else A + (6 + 2 * P + 133 * N + (5 * d.2.1 + (d.1 - 17)))
def dcS (s w : Nat) : xK := if w < 5 then (9 + w, s, 0) else if w = 5 then (16, s, 0) else if (w - 6) % 2 = 0 then (14, s, (w - 6) / 2) else (15, s, (w - 6) / 2)
def dcR (u : Nat) : xK := if u % 133 = 0 then (8, u / 133, 0) else if u % 133 < 67 then dcS (u / 133) (u % 133 - 1) else dcS (4 + u / 133) (u % 133 - 67)
def dec (A P N q : Nat) : xK := if q - A < 5 then (q - A, 0, 0) else if q - A < 5 + 2 * P then (if (q - A - 5) % 2 = 0 then (5, (q - A - 5) / 2, 0) else (6, (q - A - 5) / 2, 0)) else if q - A = 5 + 2 * P then (7, 0, 0) else if q - A < 6 + 2 * P + 133 * N then dcR (q - A - (6 + 2 * P)) else (17 + (q - A - (6 + 2 * P + 133 * N)) % 5, (q - A - (6 + 2 * P + 133 * N)) / 5, 0)
def x0 (A P N : Nat) : xX := (enc A P N, dec A P N, (P, N, 0), fun _ => 0)
def y0 : xY := (fun _ => 0, fun _ => 0, fun _ _ => none)
def s0 (P N : Nat) : xS := (fun k => if k = 0 then nI P else if k = 1 then nI N else 0, fun k i => if k = 14 ∧ i < 240 then 1 else if k = 21 ∧ i < N then 1 else 0, fun _ _ => 0)
section XFC
variable {A P N : Nat}
theorem dec_st {s w : Nat} (hN : N ≤ 4) (hs : s < N ∨ (4 ≤ s ∧ s < 4 + N)) (hw : w < 66) : dec A P N (sb A P s + w) = dcS s w := by
  unfold sb
  rcases hs with hs | hs
  · rw [if_pos (by omega)]
    unfold dec
    rw [if_neg (by omega), if_neg (by omega), if_neg (by omega), if_pos (by omega), show A + (6 + 2 * P + 133 * s + 1) + w - A - (6 + 2 * P) = 133 * s + (1 + w) by omega]
    unfold dcR
    rw [if_neg (by omega), if_pos (by omega), show (133 * s + (1 + w)) / 133 = s by omega, show (133 * s + (1 + w)) % 133 - 1 = w by omega]
  · rw [if_neg (by omega)]
    obtain ⟨r, rfl⟩ : ∃ r, s = 4 + r := ⟨s - 4, by omega⟩
    unfold dec
    rw [if_neg (by omega), if_neg (by omega), if_neg (by omega), if_pos (by omega), show A + (6 + 2 * P + 133 * (4 + r - 4) + 67) + w - A - (6 + 2 * P) = 133 * r + (67 + w) by omega]
    unfold dcR
    rw [if_neg (by omega), if_neg (by omega), show (133 * r + (67 + w)) / 133 = r by omega, show (133 * r + (67 + w)) % 133 - 67 = w by omega]
theorem dec_se {s v : Nat} (hv : v < 5) : dec A P N (A + (6 + 2 * P + 133 * N + (5 * s + v))) = (17 + v, s, 0) := by
  unfold dec
  rw [if_neg (by omega), if_neg (by omega), if_neg (by omega), if_neg (by omega), show A + (6 + 2 * P + 133 * N + (5 * s + v)) - A - (6 + 2 * P + 133 * N) = 5 * s + v by omega, show (5 * s + v) % 5 = v by omega, show (5 * s + v) / 5 = s by omega]
theorem x0_wx (hP : P ≤ 3) (hN : N ≤ 4) : Wx (x0 A P N) := by
  refine ⟨fun t i j hv => ?_, fun p hp => Nat.zero_le _, hP, hN, Nat.zero_le _⟩
  show dec A P N (enc A P N (t, i, j)) = (t, i, j)
  match t with
  | 0 =>
    have hb : i = 0 ∧ j = 0 := of_decide_eq_true hv
    obtain ⟨rfl, rfl⟩ := hb
    show dec A P N (A + 0) = _
    unfold dec
    rw [if_pos (by omega), Nat.add_sub_cancel_left]
  | 1 =>
    have hb : i = 0 ∧ j = 0 := of_decide_eq_true hv
    obtain ⟨rfl, rfl⟩ := hb
    show dec A P N (A + 1) = _
    unfold dec
    rw [if_pos (by omega), Nat.add_sub_cancel_left]
  | 2 =>
    have hb : i = 0 ∧ j = 0 := of_decide_eq_true hv
    obtain ⟨rfl, rfl⟩ := hb
    show dec A P N (A + 2) = _
    unfold dec
    rw [if_pos (by omega), Nat.add_sub_cancel_left]
  | 3 =>
    have hb : i = 0 ∧ j = 0 := of_decide_eq_true hv
    obtain ⟨rfl, rfl⟩ := hb
    show dec A P N (A + 3) = _
    unfold dec
    rw [if_pos (by omega), Nat.add_sub_cancel_left]
  | 4 =>
    have hb : i = 0 ∧ j = 0 := of_decide_eq_true hv
    obtain ⟨rfl, rfl⟩ := hb
    show dec A P N (A + 4) = _
    unfold dec
    rw [if_pos (by omega), Nat.add_sub_cancel_left]
  | 5 =>
    have hb : i < P ∧ j = 0 := of_decide_eq_true hv
    obtain ⟨hi, rfl⟩ := hb
    show dec A P N (A + (5 + 2 * i)) = _
    unfold dec
    rw [if_neg (by omega), if_pos (by omega), if_pos (by omega), show (A + (5 + 2 * i) - A - 5) / 2 = i by omega]
  | 6 =>
    have hb : i < P ∧ j = 0 := of_decide_eq_true hv
    obtain ⟨hi, rfl⟩ := hb
    show dec A P N (A + (6 + 2 * i)) = _
    unfold dec
    rw [if_neg (by omega), if_pos (by omega), if_neg (by omega), show (A + (6 + 2 * i) - A - 5) / 2 = i by omega]
  | 7 =>
    have hb : i = 0 ∧ j = 0 := of_decide_eq_true hv
    obtain ⟨rfl, rfl⟩ := hb
    show dec A P N (A + (5 + 2 * P)) = _
    unfold dec
    rw [if_neg (by omega), if_neg (by omega), if_pos (by omega)]
  | 8 =>
    have hb : i < N ∧ j = 0 := of_decide_eq_true hv
    obtain ⟨hi, rfl⟩ := hb
    show dec A P N (A + (6 + 2 * P + 133 * i)) = _
    unfold dec
    rw [if_neg (by omega), if_neg (by omega), if_neg (by omega), if_pos (by omega), show A + (6 + 2 * P + 133 * i) - A - (6 + 2 * P) = 133 * i by omega]
    unfold dcR
    rw [if_pos (by omega), show 133 * i / 133 = i by omega]
  | 9 =>
    have hb : (i < N ∨ (4 ≤ i ∧ i < 4 + N)) ∧ j = 0 := of_decide_eq_true hv
    obtain ⟨hi, rfl⟩ := hb
    exact dec_st (w := 0) hN hi (by omega)
  | 10 =>
    have hb : (i < N ∨ (4 ≤ i ∧ i < 4 + N)) ∧ j = 0 := of_decide_eq_true hv
    obtain ⟨hi, rfl⟩ := hb
    exact dec_st (w := 1) hN hi (by omega)
  | 11 =>
    have hb : (i < N ∨ (4 ≤ i ∧ i < 4 + N)) ∧ j = 0 := of_decide_eq_true hv
    obtain ⟨hi, rfl⟩ := hb
    exact dec_st (w := 2) hN hi (by omega)
  | 12 =>
    have hb : (i < N ∨ (4 ≤ i ∧ i < 4 + N)) ∧ j = 0 := of_decide_eq_true hv
    obtain ⟨hi, rfl⟩ := hb
    exact dec_st (w := 3) hN hi (by omega)
  | 13 =>
    have hb : (i < N ∨ (4 ≤ i ∧ i < 4 + N)) ∧ j = 0 := of_decide_eq_true hv
    obtain ⟨hi, rfl⟩ := hb
    exact dec_st (w := 4) hN hi (by omega)
  | 14 =>
    have hb : (i < N ∨ (4 ≤ i ∧ i < 4 + N)) ∧ j < 30 := of_decide_eq_true hv
    obtain ⟨hi, hj⟩ := hb
    refine (dec_st (w := 6 + 2 * j) hN hi (by omega)).trans ?_
    unfold dcS
    rw [if_neg (by omega), if_neg (by omega), if_pos (by omega), show (6 + 2 * j - 6) / 2 = j by omega]
  | 15 =>
    have hb : (i < N ∨ (4 ≤ i ∧ i < 4 + N)) ∧ j < 30 := of_decide_eq_true hv
    obtain ⟨hi, hj⟩ := hb
    refine (dec_st (w := 7 + 2 * j) hN hi (by omega)).trans ?_
    unfold dcS
    rw [if_neg (by omega), if_neg (by omega), if_neg (by omega), show (7 + 2 * j - 6) / 2 = j by omega]
  | 16 =>
    have hb : (i < N ∨ (4 ≤ i ∧ i < 4 + N)) ∧ j = 0 := of_decide_eq_true hv
    obtain ⟨hi, rfl⟩ := hb
    exact dec_st (w := 5) hN hi (by omega)
  | 17 =>
    have hb : i < 8 ∧ j = 0 := of_decide_eq_true hv
    obtain ⟨hi, rfl⟩ := hb
    exact dec_se (v := 0) (by omega)
  | 18 =>
    have hb : i < 8 ∧ j = 0 := of_decide_eq_true hv
    obtain ⟨hi, rfl⟩ := hb
    exact dec_se (v := 1) (by omega)
  | 19 =>
    have hb : i < 8 ∧ j = 0 := of_decide_eq_true hv
    obtain ⟨hi, rfl⟩ := hb
    exact dec_se (v := 2) (by omega)
  | 20 =>
    have hb : i < 8 ∧ j = 0 := of_decide_eq_true hv
    obtain ⟨hi, rfl⟩ := hb
    exact dec_se (v := 3) (by omega)
  | 21 =>
    have hb : i < 8 ∧ j = 0 := of_decide_eq_true hv
    obtain ⟨hi, rfl⟩ := hb
    exact dec_se (v := 4) (by omega)
  | 22 =>
    have hb : i < P ∧ 1 ≤ j ∧ j ≤ 0 := of_decide_eq_true hv
    omega
  | 23 =>
    have hb : i < P ∧ 1 ≤ j ∧ j ≤ 0 := of_decide_eq_true hv
    omega
  | 24 =>
    have hb : i < P ∧ 1 ≤ j ∧ j ≤ 0 := of_decide_eq_true hv
    omega
  | 25 =>
    have hb : i < 0 ∧ j = 0 := of_decide_eq_true hv
    omega
  | 26 =>
    have hb : i < 0 ∧ j = 0 := of_decide_eq_true hv
    omega
  | 27 =>
    have hb : i < 0 ∧ j = 0 := of_decide_eq_true hv
    omega
  | n + 28 => cases hv
theorem kc_st {s w : Nat} (hN : N ≤ 4) (hs : s < N ∨ (4 ≤ s ∧ s < 4 + N)) (hw : w < 66) : sb A P s + w = A + (sb 0 P s + w) ∧ sb 0 P s + w < 6 + 2 * P + 133 * N + 40 ∧ kc4 A P N 8 (sb 0 P s + w) = stc (sb A P s) 30 w := by
  unfold sb
  rcases hs with hs | hs
  · rw [if_pos (by omega), if_pos (by omega)]
    refine ⟨by omega, by omega, ?_⟩
    unfold kc4 jn
    rw [if_pos (by omega), if_neg (by omega)]
    unfold rpl
    rw [show (0 + (6 + 2 * P + 133 * s + 1) + w - (6 + 2 * P)) / 133 = s by omega, show (0 + (6 + 2 * P + 133 * s + 1) + w - (6 + 2 * P)) % 133 = 1 + w by omega]
    unfold rpc
    rw [if_neg (by omega), if_pos (by omega), Nat.add_sub_cancel_left, show A + (6 + 2 * P) + 133 * s + 1 = A + (6 + 2 * P + 133 * s + 1) by omega]
  · rw [if_neg (by omega), if_neg (by omega)]
    obtain ⟨r, rfl⟩ : ∃ r, s = 4 + r := ⟨s - 4, by omega⟩
    rw [show 4 + r - 4 = r by omega]
    refine ⟨by omega, by omega, ?_⟩
    unfold kc4 jn
    rw [if_pos (by omega), if_neg (by omega)]
    unfold rpl
    rw [show (0 + (6 + 2 * P + 133 * r + 67) + w - (6 + 2 * P)) / 133 = r by omega, show (0 + (6 + 2 * P + 133 * r + 67) + w - (6 + 2 * P)) % 133 = 67 + w by omega]
    unfold rpc
    rw [if_neg (by omega), if_neg (by omega), Nat.add_sub_cancel_left, show A + (6 + 2 * P) + 133 * r + 67 = A + (6 + 2 * P + 133 * r + 67) by omega]
theorem kc_se {s v : Nat} (hs : s < 8) (hv : v < 5) : kc4 A P N 8 (6 + 2 * P + 133 * N + (5 * s + v)) = ses (A + (6 + 2 * P + 133 * N + 5 * s)) v := by
  unfold kc4 jn
  rw [if_neg (by omega), Nat.add_sub_cancel_left]
  unfold sel
  rw [show (5 * s + v) / 5 = s by omega, show (5 * s + v) % 5 = v by omega, Nat.add_assoc A]
theorem cl_z (n : Nat) : (cl n fun _ => 0) = fun _ => 0 := by
  funext q
  simp [cl]
theorem clJ_z (n : Nat) : (clJ n fun _ => 0) = fun _ => 0 := by
  funext q
  simp [clJ]
theorem kc_lo {i : Nat} (hi : i < 6 + 2 * P) : kc4 A P N 8 i = kc2 A P N N 8 i := by
  unfold kc4 jn
  rw [if_pos (by omega), if_pos hi]
theorem kc_lo1 {i : Nat} (h1 : 2 ≤ i) (hi : i < 5 + 2 * P) : kc4 A P N 8 i = kc1 A P P i := by
  rw [kc_lo (by omega)]
  unfold kc2
  rw [if_neg (by omega), if_neg (by omega), if_neg (by omega)]
theorem s0_z {k i : Nat} (h1 : k ≠ 14) (h2 : k ≠ 21) : (s0 P N).2.1 k i = 0 := by
  show (if k = 14 ∧ i < 240 then (1 : Int32) else if k = 21 ∧ i < N then 1 else 0) = 0
  rw [if_neg (fun q => h1 q.1), if_neg (fun q => h2 q.1)]
theorem s0_14 {i : Nat} (h : i < 240) : (s0 P N).2.1 14 i = 1 := if_pos ⟨rfl, h⟩
theorem s0_21 {i : Nat} (h : i < N) : (s0 P N).2.1 21 i = 1 := by
  show (if 21 = 14 ∧ i < 240 then (1 : Int32) else if 21 = 21 ∧ i < N then 1 else 0) = 1
  rw [if_neg (fun q => by omega), if_pos ⟨rfl, h⟩]
theorem kc_cell (hP : P ≤ 3) (hN : N ≤ 4) {t i j : Nat} (hv : vd (x0 A P N) t i j = true) : ∃ q, enc A P N (t, i, j) = A + q ∧ q < 6 + 2 * P + 133 * N + 40 ∧ kc4 A P N 8 q = cd (x0 A P N) y0 (s0 P N) t i j := by
  match t with
  | 0 =>
    have hb : i = 0 ∧ j = 0 := of_decide_eq_true hv
    obtain ⟨rfl, rfl⟩ := hb
    exact ⟨0, rfl, by omega, (kc_lo (by omega)).trans rfl⟩
  | 1 =>
    have hb : i = 0 ∧ j = 0 := of_decide_eq_true hv
    obtain ⟨rfl, rfl⟩ := hb
    exact ⟨1, rfl, by omega, (kc_lo (by omega)).trans rfl⟩
  | 2 =>
    have hb : i = 0 ∧ j = 0 := of_decide_eq_true hv
    obtain ⟨rfl, rfl⟩ := hb
    exact ⟨2, rfl, by omega, (kc_lo1 (by omega) (by omega)).trans rfl⟩
  | 3 =>
    have hb : i = 0 ∧ j = 0 := of_decide_eq_true hv
    obtain ⟨rfl, rfl⟩ := hb
    exact ⟨3, rfl, by omega, (kc_lo1 (by omega) (by omega)).trans rfl⟩
  | 4 =>
    have hb : i = 0 ∧ j = 0 := of_decide_eq_true hv
    obtain ⟨rfl, rfl⟩ := hb
    exact ⟨4, rfl, by omega, (kc_lo1 (by omega) (by omega)).trans rfl⟩
  | 5 =>
    have hb : i < P ∧ j = 0 := of_decide_eq_true hv
    obtain ⟨hi, rfl⟩ := hb
    refine ⟨5 + 2 * i, rfl, by omega, (kc_lo1 (by omega) (by omega)).trans ?_⟩
    unfold kc1
    rw [if_neg (by omega), show (5 + 2 * i - 5) / 2 = i by omega, show (5 + 2 * i - 5) % 2 = 0 by omega]
    show Sum.inr (3, [Value.ref (A + (5 + 2 * i) + 1), Value.int 0, Value.int 0]) = Sum.inr (3, [Value.ref (A + (6 + 2 * i)), Value.int ((s0 P N).2.1 4 i), Value.int ((s0 P N).2.1 5 i)])
    rw [s0_z (by decide) (by decide), s0_z (by decide) (by decide), show A + (5 + 2 * i) + 1 = A + (6 + 2 * i) by omega]
  | 6 =>
    have hb : i < P ∧ j = 0 := of_decide_eq_true hv
    obtain ⟨hi, rfl⟩ := hb
    refine ⟨6 + 2 * i, rfl, by omega, (kc_lo1 (by omega) (by omega)).trans ?_⟩
    unfold kc1
    rw [if_neg (by omega), show (6 + 2 * i - 5) % 2 = 1 by omega]
    rfl
  | 7 =>
    have hb : i = 0 ∧ j = 0 := of_decide_eq_true hv
    obtain ⟨rfl, rfl⟩ := hb
    refine ⟨5 + 2 * P, rfl, by omega, (kc_lo (by omega)).trans ?_⟩
    unfold kc2
    rw [if_neg (by omega), if_neg (by omega), if_pos rfl]
    rfl
  | 8 =>
    have hb : i < N ∧ j = 0 := of_decide_eq_true hv
    obtain ⟨hi, rfl⟩ := hb
    refine ⟨6 + 2 * P + 133 * i, rfl, by omega, ?_⟩
    unfold kc4 jn
    rw [if_pos (by omega), if_neg (by omega), Nat.add_sub_cancel_left]
    unfold rpl
    rw [show 133 * i / 133 = i by omega, show 133 * i % 133 = 0 by omega]
    show Sum.inr (5, [Value.ref (A + (6 + 2 * P) + 133 * i + 1), Value.ref (A + (6 + 2 * P) + 133 * i + 67), Value.int 1, Value.int 0, Value.int 0]) = Sum.inr (5, [Value.ref (sb A P i + 0), Value.ref (sb A P (4 + i) + 0), Value.int ((s0 P N).2.1 21 i), Value.int ((s0 P N).2.1 19 i), Value.int ((s0 P N).2.1 20 i)])
    rw [s0_21 hi, s0_z (by decide) (by decide), s0_z (by decide) (by decide)]
    unfold sb
    rw [if_pos (by omega), if_neg (by omega), show 4 + i - 4 = i by omega, show A + (6 + 2 * P + 133 * i + 1) + 0 = A + (6 + 2 * P) + 133 * i + 1 by omega, show A + (6 + 2 * P + 133 * i + 67) + 0 = A + (6 + 2 * P) + 133 * i + 67 by omega]
  | 9 =>
    have hb : (i < N ∨ (4 ≤ i ∧ i < 4 + N)) ∧ j = 0 := of_decide_eq_true hv
    obtain ⟨hi, rfl⟩ := hb
    obtain ⟨e1, e2, e3⟩ := kc_st (A := A) (P := P) (w := 0) hN hi (by omega)
    exact ⟨_, e1, e2, e3.trans rfl⟩
  | 10 =>
    have hb : (i < N ∨ (4 ≤ i ∧ i < 4 + N)) ∧ j = 0 := of_decide_eq_true hv
    obtain ⟨hi, rfl⟩ := hb
    obtain ⟨e1, e2, e3⟩ := kc_st (A := A) (P := P) (w := 1) hN hi (by omega)
    refine ⟨_, e1, e2, e3.trans ?_⟩
    show aA 3 30 (clA 30 fun j => sb A P i + 6 + 2 * j) = aA 3 30 (clA 30 fun k => sb A P i + (6 + 2 * k))
    simp only [Nat.add_assoc]
  | 11 =>
    have hb : (i < N ∨ (4 ≤ i ∧ i < 4 + N)) ∧ j = 0 := of_decide_eq_true hv
    obtain ⟨hi, rfl⟩ := hb
    obtain ⟨e1, e2, e3⟩ := kc_st (A := A) (P := P) (w := 2) hN hi (by omega)
    refine ⟨_, e1, e2, e3.trans ?_⟩
    show Sum.inl (1, 10, Sum.inr (Sum.inl fun _ => 0)) = Sum.inl (1, 10, Sum.inr (Sum.inl (clJ 10 fun _ => 0)))
    rw [clJ_z]
  | 12 =>
    have hb : (i < N ∨ (4 ≤ i ∧ i < 4 + N)) ∧ j = 0 := of_decide_eq_true hv
    obtain ⟨hi, rfl⟩ := hb
    obtain ⟨e1, e2, e3⟩ := kc_st (A := A) (P := P) (w := 3) hN hi (by omega)
    refine ⟨_, e1, e2, e3.trans ?_⟩
    show Sum.inl (0, 10, Sum.inl fun _ => 0) = Sum.inl (0, 10, Sum.inl (cl 10 fun c => (s0 P N).2.1 17 (10 * i + c)))
    simp only [fun c => s0_z (P := P) (N := N) (k := 17) (i := c) (by decide) (by decide), cl_z]
  | 13 =>
    have hb : (i < N ∨ (4 ≤ i ∧ i < 4 + N)) ∧ j = 0 := of_decide_eq_true hv
    obtain ⟨hi, rfl⟩ := hb
    obtain ⟨e1, e2, e3⟩ := kc_st (A := A) (P := P) (w := 4) hN hi (by omega)
    exact ⟨_, e1, e2, e3.trans rfl⟩
  | 14 =>
    have hb : (i < N ∨ (4 ≤ i ∧ i < 4 + N)) ∧ j < 30 := of_decide_eq_true hv
    obtain ⟨hi, hj⟩ := hb
    obtain ⟨e1, e2, e3⟩ := kc_st (A := A) (P := P) (w := 6 + 2 * j) hN hi (by omega)
    refine ⟨_, e1, e2, e3.trans ?_⟩
    unfold stc
    rw [if_neg (by omega), show (6 + 2 * j - 6) / 2 = j by omega, show (6 + 2 * j - 6) % 2 = 0 by omega]
    show Sum.inr (2, [Value.int 0, Value.int 0, Value.int 0, Value.int 1, Value.ref (sb A P i + 6 + 2 * j + 1)]) = Sum.inr (2, [Value.int ((s0 P N).2.1 11 (30 * i + j)), Value.int ((s0 P N).2.1 12 (30 * i + j)), Value.int ((s0 P N).2.1 13 (30 * i + j)), Value.int ((s0 P N).2.1 14 (30 * i + j)), Value.ref (sb A P i + (7 + 2 * j))])
    rw [s0_z (by decide) (by decide), s0_z (by decide) (by decide), s0_z (by decide) (by decide), s0_14 (by omega), show sb A P i + 6 + 2 * j + 1 = sb A P i + (7 + 2 * j) by omega]
  | 15 =>
    have hb : (i < N ∨ (4 ≤ i ∧ i < 4 + N)) ∧ j < 30 := of_decide_eq_true hv
    obtain ⟨hi, hj⟩ := hb
    obtain ⟨e1, e2, e3⟩ := kc_st (A := A) (P := P) (w := 7 + 2 * j) hN hi (by omega)
    refine ⟨_, e1, e2, e3.trans ?_⟩
    unfold stc
    rw [if_neg (by omega), show (7 + 2 * j - 6) % 2 = 1 by omega]
    show Sum.inl (0, 10, Sum.inl fun _ => 0) = Sum.inl (0, 10, Sum.inl (cl 10 fun c => (s0 P N).2.1 15 (30 * (10 * i + c) + j)))
    simp only [fun c => s0_z (P := P) (N := N) (k := 15) (i := c) (by decide) (by decide), cl_z]
  | 16 =>
    have hb : (i < N ∨ (4 ≤ i ∧ i < 4 + N)) ∧ j = 0 := of_decide_eq_true hv
    obtain ⟨hi, rfl⟩ := hb
    obtain ⟨e1, e2, e3⟩ := kc_st (A := A) (P := P) (w := 5) hN hi (by omega)
    refine ⟨_, e1, e2, e3.trans ?_⟩
    show Sum.inl (0, 3, Sum.inl fun _ => 0) = Sum.inl (0, 3, Sum.inl (cl 3 fun c => (s0 P N).2.1 18 (3 * i + c)))
    simp only [fun c => s0_z (P := P) (N := N) (k := 18) (i := c) (by decide) (by decide), cl_z]
  | 17 =>
    have hb : i < 8 ∧ j = 0 := of_decide_eq_true hv
    obtain ⟨hi, rfl⟩ := hb
    refine ⟨6 + 2 * P + 133 * N + (5 * i + 0), rfl, by omega, (kc_se hi (by omega)).trans ?_⟩
    show Sum.inr (6, [Value.int 0, Value.int 0, Value.ref (A + (6 + 2 * P + 133 * N + 5 * i) + 1), Value.ref (A + (6 + 2 * P + 133 * N + 5 * i) + 3)]) = Sum.inr (6, [Value.int ((s0 P N).2.1 22 i), Value.int ((s0 P N).2.1 23 i), Value.ref (A + (6 + 2 * P + 133 * N + (5 * i + 1))), Value.ref (A + (6 + 2 * P + 133 * N + (5 * i + 3)))])
    rw [s0_z (by decide) (by decide), s0_z (by decide) (by decide), show A + (6 + 2 * P + 133 * N + 5 * i) + 1 = A + (6 + 2 * P + 133 * N + (5 * i + 1)) by omega, show A + (6 + 2 * P + 133 * N + 5 * i) + 3 = A + (6 + 2 * P + 133 * N + (5 * i + 3)) by omega]
  | 18 =>
    have hb : i < 8 ∧ j = 0 := of_decide_eq_true hv
    obtain ⟨hi, rfl⟩ := hb
    refine ⟨6 + 2 * P + 133 * N + (5 * i + 1), rfl, by omega, (kc_se hi (by omega)).trans ?_⟩
    show Sum.inr (8, [Value.ref (A + (6 + 2 * P + 133 * N + 5 * i) + 1 + 1)]) = Sum.inr (8, [Value.ref (A + (6 + 2 * P + 133 * N + (5 * i + 2)))])
    rw [show A + (6 + 2 * P + 133 * N + 5 * i) + 1 + 1 = A + (6 + 2 * P + 133 * N + (5 * i + 2)) by omega]
  | 19 =>
    have hb : i < 8 ∧ j = 0 := of_decide_eq_true hv
    obtain ⟨hi, rfl⟩ := hb
    refine ⟨6 + 2 * P + 133 * N + (5 * i + 2), rfl, by omega, (kc_se hi (by omega)).trans ?_⟩
    show Sum.inl (0, 3, Sum.inl fun _ => 0) = Sum.inl (0, 3, Sum.inl (cl 3 fun c => (s0 P N).2.1 24 (3 * i + c)))
    simp only [fun c => s0_z (P := P) (N := N) (k := 24) (i := c) (by decide) (by decide), cl_z]
  | 20 =>
    have hb : i < 8 ∧ j = 0 := of_decide_eq_true hv
    obtain ⟨hi, rfl⟩ := hb
    refine ⟨6 + 2 * P + 133 * N + (5 * i + 3), rfl, by omega, (kc_se hi (by omega)).trans ?_⟩
    show Sum.inr (8, [Value.ref (A + (6 + 2 * P + 133 * N + 5 * i) + 3 + 1)]) = Sum.inr (8, [Value.ref (A + (6 + 2 * P + 133 * N + (5 * i + 4)))])
    rw [show A + (6 + 2 * P + 133 * N + 5 * i) + 3 + 1 = A + (6 + 2 * P + 133 * N + (5 * i + 4)) by omega]
  | 21 =>
    have hb : i < 8 ∧ j = 0 := of_decide_eq_true hv
    obtain ⟨hi, rfl⟩ := hb
    refine ⟨6 + 2 * P + 133 * N + (5 * i + 4), rfl, by omega, (kc_se hi (by omega)).trans ?_⟩
    show Sum.inl (0, 3, Sum.inl fun _ => 0) = Sum.inl (0, 3, Sum.inl (cl 3 fun c => (s0 P N).2.1 25 (3 * i + c)))
    simp only [fun c => s0_z (P := P) (N := N) (k := 25) (i := c) (by decide) (by decide), cl_z]
  | 22 =>
    have hb : i < P ∧ 1 ≤ j ∧ j ≤ 0 := of_decide_eq_true hv
    omega
  | 23 =>
    have hb : i < P ∧ 1 ≤ j ∧ j ≤ 0 := of_decide_eq_true hv
    omega
  | 24 =>
    have hb : i < P ∧ 1 ≤ j ∧ j ≤ 0 := of_decide_eq_true hv
    omega
  | 25 =>
    have hb : i < 0 ∧ j = 0 := of_decide_eq_true hv
    omega
  | 26 =>
    have hb : i < 0 ∧ j = 0 := of_decide_eq_true hv
    omega
  | 27 =>
    have hb : i < 0 ∧ j = 0 := of_decide_eq_true hv
    omega
  | n + 28 => cases hv
end XFC
