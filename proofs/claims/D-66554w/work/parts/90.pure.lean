/-! the law on every script -/
section XFE
variable {h H : xH} {P N L b : Nat} {f : Nat → Int32}
theorem er_self {x : xX} {y : xY} {σ : xS} (hc : ∀ t i j, vd x t i j = true → h.2 (en x t i j) = some (cd x y σ t i j)) : er x y σ h = h := by
  refine Prod.ext rfl (funext fun q => ?_)
  show (if vd x (tg x q).1 (tg x q).2.1 (tg x q).2.2 = true ∧ en x (tg x q).1 (tg x q).2.1 (tg x q).2.2 = q then some (cd x y σ (tg x q).1 (tg x q).2.1 (tg x q).2.2) else h.2 q) = h.2 q
  by_cases hq : vd x (tg x q).1 (tg x q).2.1 (tg x q).2.2 = true ∧ en x (tg x q).1 (tg x q).2.1 (tg x q).2.2 = q
  · rw [if_pos hq, ← hc _ _ _ hq.1, hq.2]
  · rw [if_neg hq]
theorem Ext.cat (h : xH) (n w : Nat) (g : Nat → xE) : Ext h (cat h n w g) n w := by
  refine ⟨?_, fun q hq => cat_lo hq, ?_, ?_⟩
  · show h.1.1 ≤ h.1.1 + n
    omega
  · show h.1.2.1 ≤ h.1.2.1 - n + n
    omega
  · show h.1.2.2 ≤ h.1.2.2 - w + w
    omega
theorem k0 {A : Nat} (hP1 : 1 ≤ P) (hP : P ≤ 3) (hN1 : 1 ≤ N) (hN : N ≤ 4) : Kn (x0 A P N) y0 (s0 P N) 0 (fun _ => 0) := by
  have z : ∀ k i, k ≠ 14 → k ≠ 21 → (s0 P N).2.1 k i = nI 0 := fun k i h1 h2 => s0_z h1 h2
  refine ⟨x0_wx hP hN, ⟨⟨⟨hP1, hP, hN1, hN, Nat.zero_le _, Nat.zero_le _, rfl, rfl, rfl, rfl⟩, ?_, ⟨?_, ?_⟩, ?_, ?_, ?_, ?_, ?_⟩, ?_⟩, ⟨rfl, fun k hk => absurd hk (Nat.not_lt_zero _), rfl, rfl⟩, fun k hk => absurd hk (Nat.not_lt_zero _), ?_⟩
  · intro p hp
    exact ⟨z 4 p (by decide) (by decide), z 5 p (by decide) (by decide), Nat.le_refl _, Nat.zero_le _, fun j j1 j2 => absurd j2 (by show ¬ j ≤ 0; omega)⟩
  · intro s hs q hq
    exact ⟨0, z 18 _ (by decide) (by decide), Nat.zero_le _, fun _ => Nat.zero_le _, fun _ => rfl⟩
  · intro r hr q hq
    refine ⟨Nat.zero_le _, ?_⟩
    rw [z 18 _ (by decide) (by decide), z 18 _ (by decide) (by decide)]
    exact Nat.le_refl _
  · intro s hs i hi
    exact ⟨0, Nat.zero_le _, z 13 _ (by decide) (by decide)⟩
  · intro j hj
    refine ⟨⟨0, hN1, z 23 _ (by decide) (by decide)⟩, fun q hq => ⟨⟨0, Nat.zero_le _, z 24 _ (by decide) (by decide), fun _ => Nat.zero_le _, fun _ => rfl⟩, ?_, fun _ => s0_z (by decide) (by decide)⟩⟩
    rw [s0_z (by decide) (by decide)]
    exact le00
  · intro k hk
    exact absurd hk (Nat.not_lt_zero _)
  · intro r hr
    refine ⟨⟨0, hP1, z 20 _ (by decide) (by decide)⟩, ⟨0, Nat.zero_le _, z 19 _ (by decide) (by decide)⟩, ?_⟩
    show (if 21 = 14 ∧ r < 240 then (1 : Int32) else if 21 = 21 ∧ r < N then 1 else 0) = 0 ∨ (if 21 = 14 ∧ r < 240 then (1 : Int32) else if 21 = 21 ∧ r < N then 1 else 0) = 1
    rw [if_neg (fun q => by omega)]
    by_cases hr2 : r < N
    · rw [if_pos ⟨rfl, hr2⟩]
      exact Or.inr rfl
    · rw [if_neg (fun q => hr2 q.2)]
      exact Or.inl rfl
  · exact Nat.zero_le _
  · intro r hr k hk
    exact absurd hk (Nat.not_lt_zero _)
  · intro p hp j hj
    show none = if 0 ≤ j ∧ j < 0 then _ else none
    rw [if_neg (by omega)]
def cel (L : Nat) (f : Nat → Int32) (i : Nat) : Int32 := if L ≤ i then 0 else f i
theorem t_cell {i : Nat} {c : Int32} (hc : c = nI i) (hi : i < 2) (hL : L ≤ 4098) (hb : H.2 b = some (.inl (9, L, .inl f))) : f_law_cell b c H = some (.inl (cel L f i), H) := by
  subst hc
  unfold f_law_cell cel
  have ea : ∀ kk : Int32 → xM Int32, aL b kk H = kk (nI L) H := fun kk => by
    simp [aL, hb]
  rw [ea]
  by_cases h1 : L ≤ i
  · rw [if_pos (nI_le h1 (by omega)), if_pos h1]
    rfl
  · rw [if_neg (nI_ge (by omega) (by omega)), if_neg h1]
    simp only [lI, hb]
    rw [if_pos ⟨by decide, nI_in (by omega) (by omega)⟩, nI_clamp (by omega)]
    rfl
theorem pn_ex {hi : Int64} {K : Nat} (hK : 2 ≤ K) (hK2 : K ≤ 4) (hh : hi.toInt = K) (l : Int32) : ∃ Q, 1 ≤ Q ∧ Q ≤ K ∧ pn hi l Q := by
  cases h1 : inb l.toInt64 1 hi
  · exact ⟨2, by omega, hK, Or.inl ⟨h1, rfl⟩⟩
  · obtain ⟨g1, g2⟩ := (inb_iff _ _ _).mp h1
    have g1 : (1 : Int) ≤ l.toInt := g1
    refine ⟨l.toInt.toNat, by omega, by omega, Or.inr ⟨h1, ?_⟩⟩
    apply Int32.toInt_inj.mp
    rw [nI_toInt (by omega)]
    omega
theorem cat_z (h : xH) (g : Nat → xE) : cat h 0 0 g = h := by
  refine Prod.ext rfl (funext fun q => ?_)
  show (if h.1.1 ≤ q ∧ q < h.1.1 + 0 then some (g (q - h.1.1)) else h.2 q) = _
  rw [if_neg (by omega)]
theorem t_nE0 {β : Type} {k : Nat} {e : xE} {kk : Nat → xM β} (hr : rm h 1 k) : nE k e kk h = kk h.1.1 (cat h 1 k (fun _ => e)) := by
  have := t_nE (h := h) (n := 0) (w := 0) (k := k) (e := e) (g := fun _ => e) (kk := kk) (by rw [Nat.zero_add, Nat.zero_add]; exact hr)
  rw [cat_z] at this
  exact this
theorem law_all (hL : L ≤ 4098) (hb : h.2 b = some (.inl (9, L, .inl f))) (hbs : b < h.1.1) (h1 : 603072 ≤ h.1.2.1) (h2 : 7223016 ≤ h.1.2.2) : ∃ H, f_law_law b h = some (.inl 1, H) := by
  obtain ⟨P, hP1, hP, hp⟩ := pn_ex (hi := 3) (K := 3) (by omega) (by omega) (by decide) (cel L f 0)
  obtain ⟨N, hN1, hN, hn⟩ := pn_ex (hi := 4) (K := 4) (by omega) (by omega) (by decide) (cel L f 1)
  have ra : rm h (6 + 2 * P + 133 * N + 40) (559 + P + 403 * P + N + 1021 * N + 96) := ⟨by omega, by omega⟩
  have b1 : (cat h 1 11 (fun _ => .inr (0, z_RS))).2 b = some (.inl (9, L, .inl f)) := (cat_lo hbs).trans hb
  have t1 := t_rs hN hP1 hP hp hn ra
  generalize hh1 : cat h (6 + 2 * P + 133 * N + 40) (559 + P + 403 * P + N + 1021 * N + 96) (kc4 h.1.1 P N 8) = H1 at t1
  have z1 : H1.1 = (h.1.1 + (6 + 2 * P + 133 * N + 40), h.1.2.1 - (6 + 2 * P + 133 * N + 40), h.1.2.2 - (559 + P + 403 * P + N + 1021 * N + 96)) := by rw [← hh1]; rfl
  have s1 : H1.1.1 = h.1.1 + (6 + 2 * P + 133 * N + 40) := by rw [z1]
  have s1c : H1.1.2.1 = h.1.2.1 - (6 + 2 * P + 133 * N + 40) := by rw [z1]
  have s1w : H1.1.2.2 = h.1.2.2 - (559 + P + 403 * P + N + 1021 * N + 96) := by rw [z1]
  have rb : rm H1 35 19086 := ⟨by omega, by omega⟩
  have b2 : (cat H1 1 39 (fun _ => .inr (9, z_Mdl))).2 b = some (.inl (9, L, .inl f)) := by
    rw [cat_lo (by omega), ← hh1, cat_lo hbs, hb]
  have t2 := t_mdl hN hp hn rb
  generalize hh2 : em (cat H1 35 19086 (mz (mzf H1.1.1 34))) H1.1.1 (s0 P N) = H2 at t2
  have z2 : H2.1 = (H1.1.1 + 35, H1.1.2.1 - 35, H1.1.2.2 - 19086) := by rw [← hh2]; rfl
  have s2 : H2.1.1 = H1.1.1 + 35 := by rw [z2]
  have s2c : H2.1.2.1 = H1.1.2.1 - 35 := by rw [z2]
  have s2w : H2.1.2.2 = H1.1.2.2 - 19086 := by rw [z2]
  have rc : rm H2 1 1 := ⟨by omega, by omega⟩
  have lo2 : ∀ q, q < H1.1.1 → H2.2 q = H1.2 q := fun q hq => by
    rw [← hh2, em_o (by omega), cat_lo hq]
  have m2 : em H2 H1.1.1 (s0 P N) = H2 := by
    rw [← hh2]
    exact em_em
  generalize hh3 : cat H2 1 1 (fun _ => .inl (1, 1, .inr (.inl fun _ => 0))) = H3
  have x3 : Ext H2 H3 1 1 := by
    rw [← hh3]
    exact Ext.cat _ _ _ _
  have z3 : H3.1 = (H2.1.1 + 1, H2.1.2.1 - 1, H2.1.2.2 - 1) := by rw [← hh3]; rfl
  have s3 : H3.1.1 = H2.1.1 + 1 := by rw [z3]
  have s3c : H3.1.2.1 = H2.1.2.1 - 1 := by rw [z3]
  have s3w : H3.1.2.2 = H2.1.2.2 - 1 := by rw [z3]
  have cells : ∀ t i j, vd (x0 h.1.1 P N) t i j = true → ∃ q, en (x0 h.1.1 P N) t i j = h.1.1 + q ∧ q < 6 + 2 * P + 133 * N + 40 ∧ H3.2 (h.1.1 + q) = some (cd (x0 h.1.1 P N) y0 (s0 P N) t i j) := by
    intro t i j hv
    obtain ⟨q, q1, q2, q3⟩ := kc_cell hP hN hv
    refine ⟨q, q1, q2, ?_⟩
    rw [x3.2.1 _ (by omega), lo2 _ (by omega), ← hh1, cat_at q2, q3]
  have e3 : er (x0 h.1.1 P N) y0 (s0 P N) H3 = H3 := er_self (fun t i j hv => by
    obtain ⟨q, q1, q2, q3⟩ := cells t i j hv
    rw [q1, q3])
  have ohi : ∀ q, H1.1.1 ≤ q → off (x0 h.1.1 P N) q := fun q hq t i j hv e => by
    obtain ⟨u, q1, q2, -⟩ := cells t i j hv
    rw [q1] at e
    omega
  have hJ : Jn H1.1.1 H2.1.1 b L f 512 (x0 h.1.1 P N) y0 (s0 P N) H3 0 (fun _ => 0) := by
    refine ⟨k0 hP1 hP hN1 hN, fun t i j hv => ?_, ⟨fun q q1 q2 => ohi q q1, by omega, ⟨ohi _ (by omega), by omega, Or.inr (by omega)⟩, ⟨fun t i j hv e => ?_, by omega, Or.inl (by omega)⟩, by omega, ⟨fun _ => 0, ?_⟩, ?_⟩, em_ext m2 x3 (by omega), by omega, by omega, by omega⟩
    · obtain ⟨q, q1, q2, -⟩ := cells t i j hv
      rw [q1]
      omega
    · obtain ⟨q, q1, q2, -⟩ := cells t i j hv
      rw [q1] at e
      omega
    · rw [← hh3]
      exact cat_at0 (by omega)
    · rw [x3.2.1 _ (by omega), lo2 _ (by omega), ← hh1, cat_lo hbs, hb]
  obtain ⟨H, hH⟩ := lp hL 512 2 1000 _ _ _ _ _ _ hJ (by omega) (by omega) (by omega)
  refine ⟨H, ?_⟩
  rw [e3] at hH
  unfold f_law_law
  rw [t_nE0 ⟨by omega, by omega⟩, xb_ok (t_cell (c := 0) (i := 0) rfl (by omega) hL b1), xb_ok (t_cell (c := 1) (i := 1) rfl (by omega) hL b1), xb_ok t1, t_nE0 (rb.le (by omega) (by omega)), xb_ok (t_cell (c := 0) (i := 0) rfl (by omega) hL b2), xb_ok (t_cell (c := 1) (i := 1) rfl (by omega) hL b2), xb_ok t2]
  have tj : nAJ 1 (fun a9 => f_law_law_h43 1000 b h.1.1 H1.1.1 a9 2) H2 = f_law_law_h43 1000 b h.1.1 H1.1.1 H2.1.1 2 H3 := by
    rw [← hh3]
    unfold nAJ
    rw [if_neg (by decide), show (1 : Int32).toNatClampNeg = 1 by decide, t_nE0 rc]
  exact tj.trans hH
end XFE
