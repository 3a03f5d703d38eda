/-! the model's constructor -/
def sz : xS := (fun _ => 0, fun _ _ => 0, fun _ _ => 0)
def mzr (m k i : Nat) : Value := if i ≤ k then .ref (m + i) else .null
def mzf (m k : Nat) : List Value := [.int 0, .int 0, .int 0, .int 0, mzr m k 1, mzr m k 2, mzr m k 3, mzr m k 4, mzr m k 5, mzr m k 6, mzr m k 7, mzr m k 8, mzr m k 9, mzr m k 10, mzr m k 11, mzr m k 12, mzr m k 13, mzr m k 14, mzr m k 15, mzr m k 16, mzr m k 17, mzr m k 18, mzr m k 19, mzr m k 20, mzr m k 21, mzr m k 22, .int 0, mzr m k 23, mzr m k 24, mzr m k 25, mzr m k 26, mzr m k 27, mzr m k 28, mzr m k 29, mzr m k 30, mzr m k 31, mzr m k 32, mzr m k 33, mzr m k 34]
def mz (fs : List Value) : Nat → xE := fun i => if i = 0 then .inr (9, fs) else .inl (marr sz i)
section XFD
variable {h : xH} {P N : Nat}
theorem z_I {c : Int32} {K : xM Unit} (n w k f : Nat) (hc : c = nI k) (hk : k ≤ 100000) (hr : rm h (n + 1) (w + k)) (hn : 0 < n) (hf : f < 39) (hs : (mzf h.1.1 (n - 1)).set f (.ref (h.1.1 + n)) = mzf h.1.1 n) (hcell : (.inl (0, k, .inl fun _ => 0) : xE) = .inl (marr sz n)) : (nAI c fun a => pV h.1.1 9 f (.ref a) K) (cat h n w (mz (mzf h.1.1 (n - 1)))) = K (cat h (n + 1) (w + k) (mz (mzf h.1.1 n))) := by
  have e0 : va_up (mz (mzf h.1.1 (n - 1))) n (.inl (0, k, .inl fun _ => 0)) 0 = .inr (9, mzf h.1.1 (n - 1)) := by
    unfold va_up
    rw [if_neg (by omega)]
    rfl
  rw [t_nAI hc hk hr, t_pV0 (by omega) e0 hf]
  refine congrArg K (cat_c fun i hi => ?_)
  unfold va_up
  by_cases h0 : i = 0
  · subst h0
    rw [if_pos rfl, hs]
    rfl
  · rw [if_neg h0]
    by_cases h1 : i = n
    · subst h1
      rw [if_pos rfl, hcell]
      unfold mz
      rw [if_neg h0]
    · rw [if_neg h1]
      unfold mz
      rw [if_neg h0, if_neg h0]
theorem z_Z {c : Int32} {K : xM Unit} (n w k f : Nat) (hc : c = nI k) (hk : k ≤ 100000) (hr : rm h (n + 1) (w + k)) (hn : 0 < n) (hf : f < 39) (hs : (mzf h.1.1 (n - 1)).set f (.ref (h.1.1 + n)) = mzf h.1.1 n) (hcell : (.inl (2, k, .inl fun _ => 0) : xE) = .inl (marr sz n)) : (nAZ c fun a => pV h.1.1 9 f (.ref a) K) (cat h n w (mz (mzf h.1.1 (n - 1)))) = K (cat h (n + 1) (w + k) (mz (mzf h.1.1 n))) := by
  have e0 : va_up (mz (mzf h.1.1 (n - 1))) n (.inl (2, k, .inl fun _ => 0)) 0 = .inr (9, mzf h.1.1 (n - 1)) := by
    unfold va_up
    rw [if_neg (by omega)]
    rfl
  rw [t_nAZ hc hk hr, t_pV0 (by omega) e0 hf]
  refine congrArg K (cat_c fun i hi => ?_)
  unfold va_up
  by_cases h0 : i = 0
  · subst h0
    rw [if_pos rfl, hs]
    rfl
  · rw [if_neg h0]
    by_cases h1 : i = n
    · subst h1
      rw [if_pos rfl, hcell]
      unfold mz
      rw [if_neg h0]
    · rw [if_neg h1]
      unfold mz
      rw [if_neg h0, if_neg h0]
theorem z_J {c : Int32} {K : xM Unit} (n w k f : Nat) (hc : c = nI k) (hk : k ≤ 100000) (hr : rm h (n + 1) (w + k)) (hn : 0 < n) (hf : f < 39) (hs : (mzf h.1.1 (n - 1)).set f (.ref (h.1.1 + n)) = mzf h.1.1 n) (hcell : (.inl (1, k, .inr (.inl fun _ => 0)) : xE) = .inl (marr sz n)) : (nAJ c fun a => pV h.1.1 9 f (.ref a) K) (cat h n w (mz (mzf h.1.1 (n - 1)))) = K (cat h (n + 1) (w + k) (mz (mzf h.1.1 n))) := by
  have e0 : va_up (mz (mzf h.1.1 (n - 1))) n (.inl (1, k, .inr (.inl fun _ => 0))) 0 = .inr (9, mzf h.1.1 (n - 1)) := by
    unfold va_up
    rw [if_neg (by omega)]
    rfl
  rw [t_nAJ hc hk hr, t_pV0 (by omega) e0 hf]
  refine congrArg K (cat_c fun i hi => ?_)
  unfold va_up
  by_cases h0 : i = 0
  · subst h0
    rw [if_pos rfl, hs]
    rfl
  · rw [if_neg h0]
    by_cases h1 : i = n
    · subst h1
      rw [if_pos rfl, hcell]
      unfold mz
      rw [if_neg h0]
    · rw [if_neg h1]
      unfold mz
      rw [if_neg h0, if_neg h0]
/- slots in all: 19086 -/
theorem t_mdl0 {l1 l2 : Int32} (hr : rm h 35 19086) : f_Mdl_init h.1.1 l1 l2 (cat h 1 39 (fun _ => .inr (9, z_Mdl))) = (if l1 < 1 then f_Mdl_init_b308 h.1.1 l2 h.1.1 else if (3 : Int32) < l1 then f_Mdl_init_b308 h.1.1 l2 h.1.1 else f_Mdl_init_b309 h.1.1 l2 l1 h.1.1) (cat h 35 19086 (mz (mzf h.1.1 34))) := by
  have e : cat h 1 39 (fun _ => .inr (9, z_Mdl)) = cat h 1 39 (mz (mzf h.1.1 (1 - 1))) := cat_c fun i hi => by
    obtain rfl : i = 0 := by omega
    rfl
  rw [e]
  unfold f_Mdl_init
  refine (z_I 1 39 3 4 rfl (by omega) (hr.le (by omega) (by omega)) (by omega) (by omega) rfl rfl).trans ?_
  refine (z_I 2 42 3 5 rfl (by omega) (hr.le (by omega) (by omega)) (by omega) (by omega) rfl rfl).trans ?_
  refine (z_I 3 45 1203 6 rfl (by omega) (hr.le (by omega) (by omega)) (by omega) (by omega) rfl rfl).trans ?_
  refine (z_I 4 1248 1203 7 rfl (by omega) (hr.le (by omega) (by omega)) (by omega) (by omega) rfl rfl).trans ?_
  refine (z_I 5 2451 1203 8 rfl (by omega) (hr.le (by omega) (by omega)) (by omega) (by omega) rfl rfl).trans ?_
  refine (z_I 6 3654 1203 9 rfl (by omega) (hr.le (by omega) (by omega)) (by omega) (by omega) rfl rfl).trans ?_
  refine (z_I 7 4857 3609 10 rfl (by omega) (hr.le (by omega) (by omega)) (by omega) (by omega) rfl rfl).trans ?_
  refine (z_I 8 8466 240 11 rfl (by omega) (hr.le (by omega) (by omega)) (by omega) (by omega) rfl rfl).trans ?_
  refine (z_I 9 8706 240 12 rfl (by omega) (hr.le (by omega) (by omega)) (by omega) (by omega) rfl rfl).trans ?_
  refine (z_I 10 8946 240 13 rfl (by omega) (hr.le (by omega) (by omega)) (by omega) (by omega) rfl rfl).trans ?_
  refine (z_I 11 9186 240 14 rfl (by omega) (hr.le (by omega) (by omega)) (by omega) (by omega) rfl rfl).trans ?_
  refine (z_I 12 9426 2400 15 rfl (by omega) (hr.le (by omega) (by omega)) (by omega) (by omega) rfl rfl).trans ?_
  refine (z_J 13 11826 80 16 rfl (by omega) (hr.le (by omega) (by omega)) (by omega) (by omega) rfl rfl).trans ?_
  refine (z_I 14 11906 80 17 rfl (by omega) (hr.le (by omega) (by omega)) (by omega) (by omega) rfl rfl).trans ?_
  refine (z_I 15 11986 24 18 rfl (by omega) (hr.le (by omega) (by omega)) (by omega) (by omega) rfl rfl).trans ?_
  refine (z_I 16 12010 4 19 rfl (by omega) (hr.le (by omega) (by omega)) (by omega) (by omega) rfl rfl).trans ?_
  refine (z_I 17 12014 4 20 rfl (by omega) (hr.le (by omega) (by omega)) (by omega) (by omega) rfl rfl).trans ?_
  refine (z_Z 18 12018 4 21 rfl (by omega) (hr.le (by omega) (by omega)) (by omega) (by omega) rfl rfl).trans ?_
  refine (z_I 19 12022 8 22 rfl (by omega) (hr.le (by omega) (by omega)) (by omega) (by omega) rfl rfl).trans ?_
  refine (z_I 20 12030 8 23 rfl (by omega) (hr.le (by omega) (by omega)) (by omega) (by omega) rfl rfl).trans ?_
  refine (z_I 21 12038 24 24 rfl (by omega) (hr.le (by omega) (by omega)) (by omega) (by omega) rfl rfl).trans ?_
  refine (z_I 22 12062 24 25 rfl (by omega) (hr.le (by omega) (by omega)) (by omega) (by omega) rfl rfl).trans ?_
  refine (z_I 23 12086 500 27 rfl (by omega) (hr.le (by omega) (by omega)) (by omega) (by omega) rfl rfl).trans ?_
  refine (z_I 24 12586 500 28 rfl (by omega) (hr.le (by omega) (by omega)) (by omega) (by omega) rfl rfl).trans ?_
  refine (z_I 25 13086 1500 29 rfl (by omega) (hr.le (by omega) (by omega)) (by omega) (by omega) rfl rfl).trans ?_
  refine (z_I 26 14586 500 30 rfl (by omega) (hr.le (by omega) (by omega)) (by omega) (by omega) rfl rfl).trans ?_
  refine (z_I 27 15086 500 31 rfl (by omega) (hr.le (by omega) (by omega)) (by omega) (by omega) rfl rfl).trans ?_
  refine (z_I 28 15586 500 32 rfl (by omega) (hr.le (by omega) (by omega)) (by omega) (by omega) rfl rfl).trans ?_
  refine (z_I 29 16086 500 33 rfl (by omega) (hr.le (by omega) (by omega)) (by omega) (by omega) rfl rfl).trans ?_
  refine (z_I 30 16586 500 34 rfl (by omega) (hr.le (by omega) (by omega)) (by omega) (by omega) rfl rfl).trans ?_
  refine (z_I 31 17086 500 35 rfl (by omega) (hr.le (by omega) (by omega)) (by omega) (by omega) rfl rfl).trans ?_
  refine (z_J 32 17586 500 36 rfl (by omega) (hr.le (by omega) (by omega)) (by omega) (by omega) rfl rfl).trans ?_
  refine (z_J 33 18086 500 37 rfl (by omega) (hr.le (by omega) (by omega)) (by omega) (by omega) rfl rfl).trans ?_
  refine (z_I 34 18586 500 38 rfl (by omega) (hr.le (by omega) (by omega)) (by omega) (by omega) rfl rfl).trans ?_
  rfl
theorem em_self {W : Nat} : cat h 35 W (mz (mzf h.1.1 34)) = em (cat h 35 W (mz (mzf h.1.1 34))) h.1.1 sz := by
  refine Prod.ext rfl (funext fun q => ?_)
  by_cases hq : h.1.1 ≤ q ∧ q < h.1.1 + 35
  · obtain ⟨i, rfl⟩ : ∃ i, q = h.1.1 + i := ⟨q - h.1.1, by omega⟩
    rw [cat_at (by omega)]
    by_cases h0 : i = 0
    · subst h0
      exact (em_m (h := cat h 35 W (mz (mzf h.1.1 34))) (m := h.1.1) (σ := sz)).symm
    · rw [em_a (by omega) (by omega)]
      unfold mz
      rw [if_neg h0]
  · exact (em_o (by omega)).symm
def sU (P N k j : Nat) : xS := (fun q => if q = 0 then nI P else if q = 1 then nI N else 0, fun f i => if f = 14 ∧ i < j then 1 else if f = 21 ∧ i < k then 1 else 0, fun _ _ => 0)
theorem sU_0 : uS (uS sz 0 (nI P)) 1 (nI N) = sU P N 0 0 := by
  refine Prod.ext (funext fun q => ?_) (Prod.ext (funext fun f => funext fun i => ?_) rfl)
  · show (if q = 1 then nI N else if q = 0 then nI P else (0 : Int32)) = (if q = 0 then nI P else if q = 1 then nI N else 0)
    by_cases h0 : q = 0
    · subst h0
      rfl
    · rw [if_neg h0, if_neg h0]
  · show (0 : Int32) = (if f = 14 ∧ i < 0 then 1 else if f = 21 ∧ i < 0 then 1 else 0)
    rw [if_neg (fun q => by omega), if_neg (fun q => by omega)]
theorem sU_21 (k : Nat) : uI (sU P N k 0) 21 k 1 = sU P N (k + 1) 0 := by
  refine Prod.ext rfl (Prod.ext (funext fun f => funext fun i => ?_) rfl)
  show va_up (sU P N k 0).2.1 21 (va_up ((sU P N k 0).2.1 21) k 1) f i = (if f = 14 ∧ i < 0 then 1 else if f = 21 ∧ i < k + 1 then 1 else 0)
  rw [if_neg (fun q => by omega)]
  by_cases hf : f = 21
  · subst hf
    unfold va_up
    rw [if_pos rfl]
    by_cases hi : i = k
    · rw [if_pos hi, if_pos ⟨rfl, by omega⟩]
    · rw [if_neg hi]
      show (if 21 = 14 ∧ i < 0 then (1 : Int32) else if 21 = 21 ∧ i < k then 1 else 0) = _
      rw [if_neg (fun q => by omega)]
      by_cases h2 : i < k
      · rw [if_pos ⟨rfl, h2⟩, if_pos ⟨rfl, by omega⟩]
      · rw [if_neg (fun q => h2 q.2), if_neg (fun q => by omega)]
  · rw [if_neg (fun q => hf q.1)]
    unfold va_up
    rw [if_neg hf]
    show (if f = 14 ∧ i < 0 then (1 : Int32) else if f = 21 ∧ i < k then 1 else 0) = _
    rw [if_neg (fun q => by omega), if_neg (fun q => hf q.1)]
theorem sU_14 (j : Nat) : uI (sU P N N j) 14 j 1 = sU P N N (j + 1) := by
  refine Prod.ext rfl (Prod.ext (funext fun f => funext fun i => ?_) rfl)
  show va_up (sU P N N j).2.1 14 (va_up ((sU P N N j).2.1 14) j 1) f i = (if f = 14 ∧ i < j + 1 then 1 else if f = 21 ∧ i < N then 1 else 0)
  by_cases hf : f = 14
  · subst hf
    unfold va_up
    rw [if_pos rfl]
    by_cases hi : i = j
    · rw [if_pos hi, if_pos ⟨rfl, by omega⟩]
    · rw [if_neg hi]
      show (if 14 = 14 ∧ i < j then (1 : Int32) else if 14 = 21 ∧ i < N then 1 else 0) = _
      by_cases h2 : i < j
      · rw [if_pos ⟨rfl, h2⟩, if_pos ⟨rfl, by omega⟩]
      · rw [if_neg (fun q => h2 q.2), if_neg (fun q => by omega), if_neg (fun q => by omega)]
  · rw [if_neg (fun q => hf q.1)]
    unfold va_up
    rw [if_neg hf]
    show (if f = 14 ∧ i < j then (1 : Int32) else if f = 21 ∧ i < N then 1 else 0) = _
    rw [if_neg (fun q => hf q.1)]
theorem t_mdl14 {g : xH} {m : Nat} : f_Mdl_init_h356 1000 m 0 (em g m (sU P N N 0)) = some (.inl (), em g m (s0 P N)) := by
  have key : ∀ d k n, k + d = 240 → d < n → f_Mdl_init_h356 n m (nI k) (em g m (sU P N N k)) = some (.inl (), em g m (s0 P N)) := by
    intro d
    induction d with
    | zero =>
      intro k n hk hn
      obtain ⟨n, rfl, -⟩ := pos_of hn
      obtain rfl : k = 240 := by omega
      show f_Mdl_init_b356 (f_Mdl_init_h356 n) _ _ _ = _
      unfold f_Mdl_init_b356
      rw [if_pos (by decide)]
      rfl
    | succ d ih =>
      intro k n hk hn
      obtain ⟨n, rfl, hn⟩ := pos_of hn
      have c1 : ¬ (240 : Int32) ≤ nI k := nI_ge (b := 240) (by omega) (by omega)
      show f_Mdl_init_b356 (f_Mdl_init_h356 n) _ _ _ = _
      unfold f_Mdl_init_b356
      rw [if_neg c1, mg14, ms14 (by omega), np1, sU_14]
      exact ih (k + 1) n (by omega) (by omega)
  have k0 := key 240 0 1000 (by omega) (by omega)
  rw [nI_0] at k0
  exact k0
theorem t_mdl21 {g : xH} {m : Nat} (hN : N ≤ 4) : f_Mdl_init_h333 1000 m 0 (em g m (sU P N 0 0)) = some (.inl (), em g m (s0 P N)) := by
  have key : ∀ d k n, k + d = N → d < n → f_Mdl_init_h333 n m (nI k) (em g m (sU P N k 0)) = some (.inl (), em g m (s0 P N)) := by
    intro d
    induction d with
    | zero =>
      intro k n hk hn
      obtain ⟨n, rfl, -⟩ := pos_of hn
      obtain rfl : k = N := by omega
      have c1 : nI k ≤ nI k := nI_le (by omega) (by omega)
      show f_Mdl_init_b333 (f_Mdl_init_h333 n) _ _ _ = _
      unfold f_Mdl_init_b333
      rw [mg1, show (sU P k k 0).1 1 = nI k from rfl, if_pos c1]
      exact t_mdl14
    | succ d ih =>
      intro k n hk hn
      obtain ⟨n, rfl, hn⟩ := pos_of hn
      have c1 : ¬ nI N ≤ nI k := nI_ge (by omega) (by omega)
      show f_Mdl_init_b333 (f_Mdl_init_h333 n) _ _ _ = _
      unfold f_Mdl_init_b333
      rw [mg1, show (sU P N k 0).1 1 = nI N from rfl, if_neg c1, mg21, ms21 (by omega) (Or.inr rfl), np1, sU_21]
      exact ih (k + 1) n (by omega) (by omega)
  have k0 := key N 0 1000 (by omega) (by omega)
  rw [nI_0] at k0
  exact k0
theorem pn_c {α : Type} {hi : Int64} {c l : Int32} {Q : Nat} (hc : hi.toInt = c.toInt) (hp : pn hi l Q) (F : Int32 → α) : (if l < 1 then F 2 else if c < l then F 2 else F l) = F (nI Q) := by
  have e1 : (1 : Int64).toInt = 1 := by decide
  have e2 : (1 : Int32).toInt = 1 := by decide
  rcases hp with ⟨h1, rfl⟩ | ⟨h1, rfl⟩
  · by_cases c1 : l < 1
    · rw [if_pos c1]
      rfl
    · rw [if_neg c1]
      by_cases c2 : c < l
      · rw [if_pos c2]
        rfl
      · exfalso
        rw [Int32.lt_iff_toInt_lt] at c1 c2
        have : inb l.toInt64 1 hi = true := (inb_iff _ _ _).mpr ⟨by omega, by omega⟩
        rw [h1] at this
        cases this
  · obtain ⟨g1, g2⟩ := (inb_iff _ _ _).mp h1
    have c1 : ¬ nI Q < 1 := by
      rw [Int32.lt_iff_toInt_lt]
      omega
    have c2 : ¬ c < nI Q := by
      rw [Int32.lt_iff_toInt_lt]
      omega
    rw [if_neg c1, if_neg c2]
theorem t_mdl {l1 l2 : Int32} (hN : N ≤ 4) (h1 : pn 3 l1 P) (h2 : pn 4 l2 N) (hr : rm h 35 19086) : f_Mdl_init h.1.1 l1 l2 (cat h 1 39 (fun _ => .inr (9, z_Mdl))) = some (.inl (), em (cat h 35 19086 (mz (mzf h.1.1 34))) h.1.1 (s0 P N)) := by
  rw [t_mdl0 hr]
  have e1 := pn_c (c := 3) (by decide) h1 (fun v => f_Mdl_init_b309 h.1.1 l2 v h.1.1)
  have e1' : (if l1 < 1 then f_Mdl_init_b308 h.1.1 l2 h.1.1 else if (3 : Int32) < l1 then f_Mdl_init_b308 h.1.1 l2 h.1.1 else f_Mdl_init_b309 h.1.1 l2 l1 h.1.1) = f_Mdl_init_b309 h.1.1 l2 (nI P) h.1.1 := e1
  rw [e1', em_self]
  generalize cat h 35 19086 (mz (mzf h.1.1 34)) = g
  rw [em_em]
  unfold f_Mdl_init_b309
  rw [mp0]
  have e2 := pn_c (c := 4) (by decide) h2 (fun v => f_Mdl_init_b328 h.1.1 v h.1.1)
  have e2' : (if l2 < 1 then f_Mdl_init_b327 h.1.1 h.1.1 else if (4 : Int32) < l2 then f_Mdl_init_b327 h.1.1 h.1.1 else f_Mdl_init_b328 h.1.1 l2 h.1.1) = f_Mdl_init_b328 h.1.1 (nI N) h.1.1 := e2
  rw [e2']
  unfold f_Mdl_init_b328
  rw [mp1, sU_0]
  exact t_mdl21 hN
end XFD
