/-! the constructors: cells laid behind a heap -/
def cat (h : xH) (n w : Nat) (g : Nat → xE) : xH := ((h.1.1 + n, h.1.2.1 - n, h.1.2.2 - w), fun q => if h.1.1 ≤ q ∧ q < h.1.1 + n then some (g (q - h.1.1)) else h.2 q)
def jn (n : Nat) (g g' : Nat → xE) : Nat → xE := fun i => if i < n then g i else g' (i - n)
def rm (h : xH) (n w : Nat) : Prop := n ≤ h.1.2.1 ∧ w ≤ h.1.2.2
section XFA
variable {α β : Type} {h : xH} {n w n' w' i k : Nat} {g g' : Nat → xE} {e : xE}
theorem rm.le (hr : rm h n w) (h1 : n' ≤ n) (h2 : w' ≤ w) : rm h n' w' := ⟨Nat.le_trans h1 hr.1, Nat.le_trans h2 hr.2⟩
theorem rm.cat (hr : rm h (n + n') (w + w')) : rm (cat h n w g) n' w' := by
  obtain ⟨h1, h2⟩ := hr
  constructor
  · show n' ≤ h.1.2.1 - n
    omega
  · show w' ≤ h.1.2.2 - w
    omega
theorem cat_at (hi : i < n) : (cat h n w g).2 (h.1.1 + i) = some (g i) := by
  show (if h.1.1 ≤ h.1.1 + i ∧ h.1.1 + i < h.1.1 + n then some (g (h.1.1 + i - h.1.1)) else h.2 (h.1.1 + i)) = _
  rw [if_pos ⟨by omega, by omega⟩, Nat.add_sub_cancel_left]
theorem cat_at0 (hi : 0 < n) : (cat h n w g).2 h.1.1 = some (g 0) := cat_at (i := 0) hi
theorem cat_lo {q : Nat} (hq : q < h.1.1) : (cat h n w g).2 q = h.2 q := by
  show (if h.1.1 ≤ q ∧ q < h.1.1 + n then some (g (q - h.1.1)) else h.2 q) = _
  rw [if_neg (by omega)]
theorem cat_c (hg : ∀ i, i < n → g i = g' i) : cat h n w g = cat h n w g' := by
  refine Prod.ext rfl (funext fun q => ?_)
  show (if h.1.1 ≤ q ∧ q < h.1.1 + n then some (g (q - h.1.1)) else h.2 q) = (if h.1.1 ≤ q ∧ q < h.1.1 + n then some (g' (q - h.1.1)) else h.2 q)
  by_cases hq : h.1.1 ≤ q ∧ q < h.1.1 + n
  · rw [if_pos hq, if_pos hq, hg _ (by omega)]
  · rw [if_neg hq, if_neg hq]
theorem cat_cat : cat (cat h n w g) n' w' g' = cat h (n + n') (w + w') (jn n g g') := by
  refine Prod.ext ?_ (funext fun q => ?_)
  · show (h.1.1 + n + n', h.1.2.1 - n - n', h.1.2.2 - w - w') = (h.1.1 + (n + n'), h.1.2.1 - (n + n'), h.1.2.2 - (w + w'))
    rw [Nat.add_assoc, Nat.sub_sub, Nat.sub_sub]
  · show (if h.1.1 + n ≤ q ∧ q < h.1.1 + n + n' then some (g' (q - (h.1.1 + n))) else if h.1.1 ≤ q ∧ q < h.1.1 + n then some (g (q - h.1.1)) else h.2 q) = (if h.1.1 ≤ q ∧ q < h.1.1 + (n + n') then some (jn n g g' (q - h.1.1)) else h.2 q)
    unfold jn
    by_cases h1 : h.1.1 + n ≤ q ∧ q < h.1.1 + n + n'
    · rw [if_pos h1, if_pos (by omega), if_neg (by omega), Nat.sub_sub]
    · rw [if_neg h1]
      by_cases h2 : h.1.1 ≤ q ∧ q < h.1.1 + n
      · rw [if_pos h2, if_pos (by omega), if_pos (by omega)]
      · rw [if_neg h2, if_neg (by omega)]
theorem cat_up (hi : i < n) : ((cat h n w g).1, va_up (cat h n w g).2 (h.1.1 + i) (some e)) = cat h n w (va_up g i e) := by
  refine Prod.ext rfl (funext fun q => ?_)
  show va_up (cat h n w g).2 (h.1.1 + i) (some e) q = (if h.1.1 ≤ q ∧ q < h.1.1 + n then some (va_up g i e (q - h.1.1)) else h.2 q)
  by_cases hq : q = h.1.1 + i
  · subst hq
    rw [if_pos ⟨by omega, by omega⟩]
    simp [va_up]
  · simp only [va_up, if_neg hq]
    show (if h.1.1 ≤ q ∧ q < h.1.1 + n then some (g (q - h.1.1)) else h.2 q) = _
    by_cases h2 : h.1.1 ≤ q ∧ q < h.1.1 + n
    · rw [if_pos h2, if_pos h2, if_neg (by omega)]
    · rw [if_neg h2, if_neg h2]
theorem t_nE {kk : Nat → xM β} (hr : rm h (n + 1) (w + k)) : nE k e kk (cat h n w g) = kk (h.1.1 + n) (cat (cat h n w g) 1 k (fun _ => e)) := by
  obtain ⟨h1, h2⟩ := hr
  unfold nE
  show (if 1 ≤ h.1.2.1 - n ∧ k ≤ h.1.2.2 - w then _ else _) = _
  rw [if_pos ⟨by omega, by omega⟩]
  show kk (h.1.1 + n) _ = kk (h.1.1 + n) _
  congr 1
  refine Prod.ext rfl (funext fun q => ?_)
  show va_up (cat h n w g).2 (h.1.1 + n) (some e) q = (if h.1.1 + n ≤ q ∧ q < h.1.1 + n + 1 then some e else (cat h n w g).2 q)
  by_cases hq : q = h.1.1 + n
  · rw [if_pos ⟨by omega, by omega⟩]
    simp [va_up, hq]
  · rw [if_neg (by omega)]
    simp only [va_up, if_neg hq]
theorem cat_1 : cat (cat h n w g) 1 k (fun _ => e) = cat h (n + 1) (w + k) (va_up g n e) := by
  rw [cat_cat]
  refine cat_c fun i hi => ?_
  unfold jn va_up
  by_cases h1 : i = n
  · rw [if_neg (by omega), if_pos h1]
  · rw [if_pos (by omega), if_neg h1]
theorem t_nE1 {kk : Nat → xM β} (hr : rm h (n + 1) (w + k)) : nE k e kk (cat h n w g) = kk (h.1.1 + n) (cat h (n + 1) (w + k) (va_up g n e)) := by
  rw [t_nE hr, cat_1]
theorem k_ok (hk : k ≤ 100000) : ¬ (nI k < 0 ∨ 100000 < (nI k).toNatClampNeg) := by
  rw [nI_clamp (by omega)]
  intro q
  rcases q with q | q
  · exact nI_pos (by omega) q
  · omega
theorem t_nAI {c : Int32} {kk : Nat → xM β} (hc : c = nI k) (hk : k ≤ 100000) (hr : rm h (n + 1) (w + k)) : nAI c kk (cat h n w g) = kk (h.1.1 + n) (cat h (n + 1) (w + k) (va_up g n (.inl (0, k, .inl fun _ => 0)))) := by
  subst hc
  unfold nAI
  rw [if_neg (k_ok hk), nI_clamp (by omega), t_nE1 hr]
theorem t_nAZ {c : Int32} {kk : Nat → xM β} (hc : c = nI k) (hk : k ≤ 100000) (hr : rm h (n + 1) (w + k)) : nAZ c kk (cat h n w g) = kk (h.1.1 + n) (cat h (n + 1) (w + k) (va_up g n (.inl (2, k, .inl fun _ => 0)))) := by
  subst hc
  unfold nAZ
  rw [if_neg (k_ok hk), nI_clamp (by omega), t_nE1 hr]
theorem t_nAJ {c : Int32} {kk : Nat → xM β} (hc : c = nI k) (hk : k ≤ 100000) (hr : rm h (n + 1) (w + k)) : nAJ c kk (cat h n w g) = kk (h.1.1 + n) (cat h (n + 1) (w + k) (va_up g n (.inl (1, k, .inr (.inl fun _ => 0))))) := by
  subst hc
  unfold nAJ
  rw [if_neg (k_ok hk), nI_clamp (by omega), t_nE1 hr]
theorem t_nAA {c : Int32} {ta : Nat} {kk : Nat → xM β} (hc : c = nI k) (hk : k ≤ 100000) (hr : rm h (n + 1) (w + k)) : nAA ta c kk (cat h n w g) = kk (h.1.1 + n) (cat h (n + 1) (w + k) (va_up g n (aA ta k fun _ => none))) := by
  subst hc
  unfold nAA
  rw [if_neg (k_ok hk), nI_clamp (by omega), t_nE1 hr]
  rfl
theorem t_pV {ci f : Nat} {fs : List Value} {v : Value} {kk : xM β} (hi : i < n) (hg : g i = .inr (ci, fs)) (hf : f < fs.length) : pV (h.1.1 + i) ci f v kk (cat h n w g) = kk (cat h n w (va_up g i (.inr (ci, fs.set f v)))) := by
  rw [← cat_up hi]
  simp [pV, cat_at hi, hg, hf]
theorem t_pV0 {ci f : Nat} {fs : List Value} {v : Value} {kk : xM β} (hi : 0 < n) (hg : g 0 = .inr (ci, fs)) (hf : f < fs.length) : pV h.1.1 ci f v kk (cat h n w g) = kk (cat h n w (va_up g 0 (.inr (ci, fs.set f v)))) := t_pV hi hg hf
theorem t_gA0 {ci f v : Nat} {fs : List Value} {kk : Nat → xM β} (hi : 0 < n) (hg : g 0 = .inr (ci, fs)) (hf : fs[f]? = some (.ref v)) : gA h.1.1 ci f kk (cat h n w g) = kk v (cat h n w g) := by
  simp [gA, cat_at0 hi, hg, hf]
theorem t_gI0 {ci f : Nat} {v : Int32} {fs : List Value} {kk : Int32 → xM β} (hi : 0 < n) (hg : g 0 = .inr (ci, fs)) (hf : fs[f]? = some (.int v)) : gI h.1.1 ci f kk (cat h n w g) = kk v (cat h n w g) := by
  simp [gI, cat_at0 hi, hg, hf]
theorem t_aL {ta : Nat} {f : Nat → Option Nat} {kk : Int32 → xM β} (hi : i < n) (hg : g i = aA ta k f) (ht : ta < 10) : aL (h.1.1 + i) kk (cat h n w g) = kk (nI k) (cat h n w g) := by
  simp [aL, cat_at hi, hg, aA, ht]
theorem t_sA {ta i2 c : Nat} {f : Nat → Option Nat} {fs : List Value} {kk : xM β} (hi : i < n) (hg : g i = aA ta k f) (hc : c < k) (hk : k < 2 ^ 31) (hi2 : i2 < n) (hg2 : g i2 = .inr (x_tc ta, fs)) : sA ta (h.1.1 + i) (nI c) (h.1.1 + i2) kk (cat h n w g) = kk (cat h n w (va_up g i (aA ta k (va_up f c (some (h.1.1 + i2)))))) := by
  rw [← cat_up hi]
  simp only [sA, cat_at hi, hg, aA, cat_at hi2, hg2]
  rw [if_pos ⟨by simp, nI_in hc hk⟩, nI_clamp (by omega), if_pos trivial]
/-- a vector at D -/
def vec (D : Nat) : Nat → xE := fun i => if i = 0 then .inr (8, [.ref (D + 1)]) else .inl (0, 3, .inl fun _ => 0)
theorem t_vec (hr : rm h 2 4) : f_Vec_init h.1.1 (cat h 1 1 (fun _ => .inr (8, z_Vec))) = some (.inl (), cat h 2 4 (vec h.1.1)) := by
  unfold f_Vec_init
  rw [t_nAI (c := 3) (k := 3) rfl (by omega) hr, t_pV0 (by omega) rfl (by simp)]
  show some (Sum.inl (), _) = some (Sum.inl (), _)
  rw [cat_c (g' := vec h.1.1)]
  intro i hi
  have : i = 0 ∨ i = 1 := by omega
  rcases this with rfl | rfl <;> rfl
/-- a session at E -/
def ses (E : Nat) : Nat → xE := fun i => if i = 0 then .inr (6, [.int 0, .int 0, .ref (E + 1), .ref (E + 3)]) else if i < 3 then vec (E + 1) (i - 1) else vec (E + 3) (i - 3)
theorem t_ses (hr : rm h 5 12) : f_Sess_init h.1.1 (cat h 1 4 (fun _ => .inr (6, z_Sess))) = some (.inl (), cat h 5 12 (ses h.1.1)) := by
  have r1 : rm (cat h 1 4 (fun _ => .inr (6, z_Sess))) 2 4 := rm.cat (hr.le (by omega) (by omega))
  have v1 : f_Vec_init (h.1.1 + 1) (cat (cat h 1 4 (fun _ => .inr (6, z_Sess))) 1 1 (fun _ => .inr (8, z_Vec))) = some (.inl (), cat (cat h 1 4 (fun _ => .inr (6, z_Sess))) 2 4 (vec (h.1.1 + 1))) := t_vec r1
  unfold f_Sess_init
  rw [t_nE (hr.le (by omega) (by omega)), xb_ok v1, cat_cat, t_pV0 (by omega) rfl (by simp)]
  generalize hg : va_up (jn 1 (fun _ => Sum.inr (6, z_Sess)) (vec (h.1.1 + 1))) 0 (Sum.inr (6, List.set z_Sess 2 (Value.ref (h.1.1 + 1)))) = g
  have r2 : rm (cat h (1 + 2) (4 + 4) g) 2 4 := rm.cat (hr.le (by omega) (by omega))
  have v2 : f_Vec_init (h.1.1 + (1 + 2)) (cat (cat h (1 + 2) (4 + 4) g) 1 1 (fun _ => .inr (8, z_Vec))) = some (.inl (), cat (cat h (1 + 2) (4 + 4) g) 2 4 (vec (h.1.1 + (1 + 2)))) := t_vec r2
  rw [t_nE (hr.le (by omega) (by omega)), xb_ok v2, cat_cat, t_pV0 (fs := List.set z_Sess 2 (Value.ref (h.1.1 + 1))) (by omega) (by rw [← hg]; rfl) (by simp)]
  show some (Sum.inl (), _) = some (Sum.inl (), _)
  rw [cat_c (g' := ses h.1.1)]
  intro i hi
  rw [← hg]
  have : i = 0 ∨ i = 1 ∨ i = 2 ∨ i = 3 ∨ i = 4 := by omega
  rcases this with rfl | rfl | rfl | rfl | rfl <;> rfl
/-- an item at D -/
def itm (D : Nat) : Nat → xE := fun i => if i = 0 then .inr (2, [.int 0, .int 0, .int 0, .int 1, .ref (D + 1)]) else .inl (0, 10, .inl fun _ => 0)
theorem t_itm (hr : rm h 2 15) : f_Item_init h.1.1 (cat h 1 5 (fun _ => .inr (2, z_Item))) = some (.inl (), cat h 2 15 (itm h.1.1)) := by
  unfold f_Item_init
  rw [t_pV0 (by omega) rfl (by simp), t_nAI (c := 10) (k := 10) rfl (by omega) hr, t_pV0 (fs := List.set z_Item 3 (.int 1)) (by omega) rfl (by simp)]
  show some (Sum.inl (), _) = some (Sum.inl (), _)
  rw [cat_c (g' := itm h.1.1)]
  intro i hi
  have : i = 0 ∨ i = 1 := by omega
  rcases this with rfl | rfl <;> rfl
/-- a log at D -/
def lgc (D : Nat) : Nat → xE := fun i => if i = 0 then .inr (3, [.ref (D + 1), .int 0, .int 0]) else aA 4 400 fun _ => none
theorem t_log (hr : rm h 2 403) : f_Log_init h.1.1 (cat h 1 3 (fun _ => .inr (3, z_Log))) = some (.inl (), cat h 2 403 (lgc h.1.1)) := by
  unfold f_Log_init
  rw [t_nAA (c := 400) (k := 400) rfl (by omega) hr, t_pV0 (by omega) rfl (by simp)]
  show some (Sum.inl (), _) = some (Sum.inl (), _)
  rw [cat_c (g' := lgc h.1.1)]
  intro i hi
  have : i = 0 ∨ i = 1 := by omega
  rcases this with rfl | rfl <;> rfl
/-- a state at D, k items of it made -/
def stc (D k : Nat) : Nat → xE := fun i => if i < 6 then (if i = 0 then .inr (7, [.ref (D + 1), .ref (D + 2), .ref (D + 3), .ref (D + 4)]) else if i = 1 then aA 3 30 (clA k fun j => D + 6 + 2 * j) else if i = 2 then .inl (1, 10, .inr (.inl fun _ => 0)) else if i = 3 then .inl (0, 10, .inl fun _ => 0) else vec (D + 4) (i - 4)) else itm (D + 6 + 2 * ((i - 6) / 2)) ((i - 6) % 2)
theorem t_stl (hr : rm h 66 508) : f_St_init_h42 1000 h.1.1 0 (cat h 6 58 (stc h.1.1 0)) = some (.inl (), cat h 66 508 (stc h.1.1 30)) := by
  have key : ∀ d k n, k + d = 30 → d < n → f_St_init_h42 n h.1.1 (nI k) (cat h (6 + 2 * k) (58 + 15 * k) (stc h.1.1 k)) = some (.inl (), cat h 66 508 (stc h.1.1 30)) := by
    intro d
    induction d with
    | zero =>
      intro k n hk hn
      obtain ⟨n, rfl, -⟩ := pos_of hn
      obtain rfl : k = 30 := by omega
      show f_St_init_b42 (f_St_init_h42 n) _ _ _ = _
      unfold f_St_init_b42
      rw [if_pos (by decide)]
      rfl
    | succ d ih =>
      intro k n hk hn
      obtain ⟨n, rfl, hn⟩ := pos_of hn
      have c1 : ¬ (30 : Int32) ≤ nI k := nI_ge (b := 30) (by omega) (by omega)
      have r1 : rm (cat h (6 + 2 * k) (58 + 15 * k) (stc h.1.1 k)) 2 15 := rm.cat (hr.le (by omega) (by omega))
      have v1 : f_Item_init (h.1.1 + (6 + 2 * k)) (cat (cat h (6 + 2 * k) (58 + 15 * k) (stc h.1.1 k)) 1 5 (fun _ => .inr (2, z_Item))) = some (.inl (), cat (cat h (6 + 2 * k) (58 + 15 * k) (stc h.1.1 k)) 2 15 (itm (h.1.1 + (6 + 2 * k)))) := t_itm r1
      have gj : jn (6 + 2 * k) (stc h.1.1 k) (itm (h.1.1 + (6 + 2 * k))) (6 + 2 * k) = .inr (x_tc 3, [.int 0, .int 0, .int 0, .int 1, .ref (h.1.1 + (6 + 2 * k) + 1)]) := by
        unfold jn
        rw [if_neg (by omega), Nat.sub_self]
        rfl
      have g1 : jn (6 + 2 * k) (stc h.1.1 k) (itm (h.1.1 + (6 + 2 * k))) 1 = aA 3 30 (clA k fun j => h.1.1 + 6 + 2 * j) := by
        unfold jn
        rw [if_pos (by omega)]
        rfl
      show f_St_init_b42 (f_St_init_h42 n) _ _ _ = _
      unfold f_St_init_b42
      rw [if_neg c1, t_gA0 (v := h.1.1 + 1) (by omega) rfl rfl, t_nE (hr.le (by omega) (by omega)), xb_ok v1, cat_cat, t_sA (by omega) g1 (by omega) (by omega) (by omega) gj, np1]
      have e : cat h (6 + 2 * k + 2) (58 + 15 * k + 15) (va_up (jn (6 + 2 * k) (stc h.1.1 k) (itm (h.1.1 + (6 + 2 * k)))) 1 (aA 3 30 (va_up (clA k fun j => h.1.1 + 6 + 2 * j) k (some (h.1.1 + (6 + 2 * k)))))) = cat h (6 + 2 * (k + 1)) (58 + 15 * (k + 1)) (stc h.1.1 (k + 1)) := by
        rw [show 6 + 2 * k + 2 = 6 + 2 * (k + 1) by omega, show 58 + 15 * k + 15 = 58 + 15 * (k + 1) by omega]
        refine cat_c fun i hi => ?_
        by_cases h1 : i = 1
        · subst h1
          have : va_up (clA k fun j => h.1.1 + 6 + 2 * j) k (some (h.1.1 + (6 + 2 * k))) = clA (k + 1) fun j => h.1.1 + 6 + 2 * j := by
            funext q
            unfold va_up clA
            by_cases hq : q = k
            · subst hq
              rw [if_pos rfl, if_pos (by omega)]
              show some (h.1.1 + (6 + 2 * q)) = some (h.1.1 + 6 + 2 * q)
              rw [Nat.add_assoc]
            · rw [if_neg hq]
              by_cases h2 : q < k
              · rw [if_pos h2, if_pos (by omega)]
              · rw [if_neg h2, if_neg (by omega)]
          rw [this]
          rfl
        · unfold va_up jn
          rw [if_neg h1]
          unfold stc
          by_cases h6 : i < 6
          · rw [if_pos (by omega), if_pos h6, if_pos h6, if_neg h1, if_neg h1]
          · rw [if_neg h6, if_neg h6]
            by_cases h2 : i < 6 + 2 * k
            · rw [if_pos h2]
            · rw [if_neg h2, show (i - 6) / 2 = k by omega, show (i - 6) % 2 = i - (6 + 2 * k) by omega, Nat.add_assoc h.1.1]
      rw [e]
      exact ih (k + 1) n (by omega) (by omega)
  have k0 := key 30 0 1000 (by omega) (by omega)
  rw [nI_0] at k0
  exact k0
theorem t_st (hr : rm h 66 508) : f_St_init h.1.1 (cat h 1 4 (fun _ => .inr (7, z_St))) = some (.inl (), cat h 66 508 (stc h.1.1 30)) := by
  unfold f_St_init
  rw [t_nAA (c := 30) (k := 30) rfl (by omega) (hr.le (by omega) (by omega)), t_pV0 (by omega) rfl (by simp), t_nAJ (c := 10) (k := 10) rfl (by omega) (hr.le (by omega) (by omega)), t_pV0 (fs := List.set z_St 0 (.ref (h.1.1 + 1))) (by omega) rfl (by simp), t_nAI (c := 10) (k := 10) rfl (by omega) (hr.le (by omega) (by omega)), t_pV0 (fs := List.set (List.set z_St 0 (.ref (h.1.1 + 1))) 1 (.ref (h.1.1 + 2))) (by omega) rfl (by simp)]
  generalize hg : va_up _ 0 (Sum.inr (7, List.set (List.set (List.set z_St 0 (.ref (h.1.1 + 1))) 1 (.ref (h.1.1 + 2))) 2 (.ref (h.1.1 + (1 + 1 + 1))))) = g
  have r2 : rm (cat h (1 + 1 + 1 + 1) (4 + 30 + 10 + 10) g) 2 4 := rm.cat (hr.le (by omega) (by omega))
  have v2 : f_Vec_init (h.1.1 + (1 + 1 + 1 + 1)) (cat (cat h (1 + 1 + 1 + 1) (4 + 30 + 10 + 10) g) 1 1 (fun _ => .inr (8, z_Vec))) = some (.inl (), cat (cat h (1 + 1 + 1 + 1) (4 + 30 + 10 + 10) g) 2 4 (vec (h.1.1 + (1 + 1 + 1 + 1)))) := t_vec r2
  rw [t_nE (hr.le (by omega) (by omega)), xb_ok v2, cat_cat, t_pV0 (fs := List.set (List.set (List.set z_St 0 (.ref (h.1.1 + 1))) 1 (.ref (h.1.1 + 2))) 2 (.ref (h.1.1 + (1 + 1 + 1)))) (by omega) (by rw [← hg]; rfl) (by simp), ← t_stl hr]
  congr 1
  refine cat_c fun i hi => ?_
  rw [← hg]
  have : i = 0 ∨ i = 1 ∨ i = 2 ∨ i = 3 ∨ i = 4 ∨ i = 5 := by omega
  have ec : ∀ D : Nat, (clA 0 fun j => D + 6 + 2 * j) = fun _ => none := fun D => by
    funext q
    simp [clA]
  rcases this with rfl | rfl | rfl | rfl | rfl | rfl
  · rfl
  · show aA 3 30 (fun _ => none) = aA 3 30 (clA 0 fun j => h.1.1 + 6 + 2 * j)
    rw [ec]
  · rfl
  · rfl
  · rfl
  · rfl
/-- a replica at C -/
def rpc (C : Nat) : Nat → xE := fun i => if i = 0 then .inr (5, [.ref (C + 1), .ref (C + 67), .int 1, .int 0, .int 0]) else if i < 67 then stc (C + 1) 30 (i - 1) else stc (C + 67) 30 (i - 67)
theorem t_rep (hr : rm h 133 1021) : f_Repl_init h.1.1 (cat h 1 5 (fun _ => .inr (5, z_Repl))) = some (.inl (), cat h 133 1021 (rpc h.1.1)) := by
  have r1 : rm (cat h 1 5 (fun _ => .inr (5, z_Repl))) 66 508 := rm.cat (hr.le (by omega) (by omega))
  have v1 : f_St_init (h.1.1 + 1) (cat (cat h 1 5 (fun _ => .inr (5, z_Repl))) 1 4 (fun _ => .inr (7, z_St))) = some (.inl (), cat (cat h 1 5 (fun _ => .inr (5, z_Repl))) 66 508 (stc (h.1.1 + 1) 30)) := t_st r1
  unfold f_Repl_init
  rw [t_nE (hr.le (by omega) (by omega)), xb_ok v1, cat_cat, t_pV0 (by omega) rfl (by simp)]
  generalize hg : va_up (jn 1 (fun _ => Sum.inr (5, z_Repl)) (stc (h.1.1 + 1) 30)) 0 (Sum.inr (5, List.set z_Repl 0 (Value.ref (h.1.1 + 1)))) = g
  have g0 : g 0 = .inr (5, List.set z_Repl 0 (Value.ref (h.1.1 + 1))) := by rw [← hg]; rfl
  have r2 : rm (cat h (1 + 66) (5 + 508) g) 66 508 := rm.cat (hr.le (by omega) (by omega))
  have v2 : f_St_init (h.1.1 + (1 + 66)) (cat (cat h (1 + 66) (5 + 508) g) 1 4 (fun _ => .inr (7, z_St))) = some (.inl (), cat (cat h (1 + 66) (5 + 508) g) 66 508 (stc (h.1.1 + (1 + 66)) 30)) := t_st r2
  rw [t_nE (hr.le (by omega) (by omega)), xb_ok v2, cat_cat, t_pV0 (g := jn (1 + 66) g (stc (h.1.1 + (1 + 66)) 30)) (fs := List.set z_Repl 0 (Value.ref (h.1.1 + 1))) (by omega) g0 (by simp)]
  unfold pZ
  rw [if_pos (Or.inr rfl), t_pV0 (fs := List.set (List.set z_Repl 0 (Value.ref (h.1.1 + 1))) 1 (Value.ref (h.1.1 + (1 + 66)))) (by omega) rfl (by simp)]
  show some (Sum.inl (), _) = some (Sum.inl (), _)
  rw [cat_c (g' := rpc h.1.1)]
  intro i hi
  by_cases h0 : i = 0
  · subst h0
    rfl
  · unfold va_up jn rpc
    rw [if_neg h0, if_neg h0, if_neg h0]
    by_cases h1 : i < 67
    · rw [if_pos h1, if_pos h1, ← hg]
      unfold va_up jn
      rw [if_neg h0, if_neg (by omega)]
    · rw [if_neg h1, if_neg h1]
end XFA
