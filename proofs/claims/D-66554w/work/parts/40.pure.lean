/-! numbers -/
theorem n3 (r : Nat) : (3 : Int32) * nI r = nI (3 * r) := pk_mul 3 r
theorem n30 (r : Nat) : (30 : Int32) * nI r = nI (30 * r) := pk_mul 30 r
theorem n10 (r : Nat) : (10 : Int32) * nI r = nI (10 * r) := pk_mul 10 r
theorem n300 (r : Nat) : (300 : Int32) * nI r = nI (300 * r) := pk_mul 300 r
theorem n401 (r : Nat) : (401 : Int32) * nI r = nI (401 * r) := pk_mul 401 r
theorem n4p (r : Nat) : (4 : Int32) + nI r = nI (4 + r) := nI_add 4 r
theorem np1 (r : Nat) : nI r + (1 : Int32) = nI (r + 1) := nI_add r 1
theorem np2 (r : Nat) : nI r + (2 : Int32) = nI (r + 2) := nI_add r 2
theorem nI_z : (0 : Int32) = nI 0 := rfl
theorem nI_i1 : (1 : Int32) = nI 1 := rfl
theorem nI_i2 : (2 : Int32) = nI 2 := rfl
/-! the model's state: numbers by field, int arrays by field, long arrays by field -/
abbrev xS : Type := (Nat → Int32) × (Nat → Nat → Int32) × (Nat → Nat → Int64)
def uS (σ : xS) (k : Nat) (v : Int32) : xS := (va_up σ.1 k v, σ.2)
def uI (σ : xS) (k i : Nat) (v : Int32) : xS := (σ.1, va_up σ.2.1 k (va_up (σ.2.1 k) i v), σ.2.2)
def uJ (σ : xS) (k i : Nat) (v : Int64) : xS := (σ.1, σ.2.1, va_up σ.2.2 k (va_up (σ.2.2 k) i v))
def mflds (σ : xS) (m : Nat) : List Value := [.int (σ.1 0), .int (σ.1 1), .int (σ.1 2), .int (σ.1 3), .ref (m + 1), .ref (m + 2), .ref (m + 3), .ref (m + 4), .ref (m + 5), .ref (m + 6), .ref (m + 7), .ref (m + 8), .ref (m + 9), .ref (m + 10), .ref (m + 11), .ref (m + 12), .ref (m + 13), .ref (m + 14), .ref (m + 15), .ref (m + 16), .ref (m + 17), .ref (m + 18), .ref (m + 19), .ref (m + 20), .ref (m + 21), .ref (m + 22), .int (σ.1 26), .ref (m + 23), .ref (m + 24), .ref (m + 25), .ref (m + 26), .ref (m + 27), .ref (m + 28), .ref (m + 29), .ref (m + 30), .ref (m + 31), .ref (m + 32), .ref (m + 33), .ref (m + 34)]
def mfld (j : Nat) : Nat := if j ≤ 22 then j + 3 else j + 4
def mlen (k : Nat) : Nat := match k with
  | 4 => 3
  | 5 => 3
  | 6 => 1203
  | 7 => 1203
  | 8 => 1203
  | 9 => 1203
  | 10 => 3609
  | 11 => 240
  | 12 => 240
  | 13 => 240
  | 14 => 240
  | 15 => 2400
  | 16 => 80
  | 17 => 80
  | 18 => 24
  | 19 => 4
  | 20 => 4
  | 21 => 4
  | 22 => 8
  | 23 => 8
  | 24 => 24
  | 25 => 24
  | 29 => 1500
  | _ => 500
def mtag (k : Nat) : Nat := match k with
  | 16 => 1
  | 21 => 2
  | 36 => 1
  | 37 => 1
  | _ => 0
theorem mlen_lt (k : Nat) : mlen k < 2 ^ 31 := by
  unfold mlen
  split <;> omega
def marr (σ : xS) (j : Nat) : Nat × vp_A := (mtag (mfld j), mlen (mfld j), if mtag (mfld j) = 1 then .inr (.inl (σ.2.2 (mfld j))) else .inl (σ.2.1 (mfld j)))
/-- a heap with the model's state laid at m -/
def em (h : xH) (m : Nat) (σ : xS) : xH := (h.1, fun q => if m ≤ q ∧ q < m + 35 then (if q = m then some (.inr (9, mflds σ m)) else some (.inl (marr σ (q - m)))) else h.2 q)
section XEM
variable {β : Type} {h : xH} {m : Nat} {σ : xS}
theorem em_m : (em h m σ).2 m = some (.inr (9, mflds σ m)) := by simp [em]
theorem em_a {j : Nat} (h0 : 0 < j) (hj : j < 35) : (em h m σ).2 (m + j) = some (.inl (marr σ j)) := by
  show (if m ≤ m + j ∧ m + j < m + 35 then (if m + j = m then some (.inr (9, mflds σ m)) else some (.inl (marr σ (m + j - m)))) else h.2 (m + j)) = _
  rw [if_pos ⟨by omega, by omega⟩, if_neg (by omega), Nat.add_sub_cancel_left]
theorem em_o {q : Nat} (hq : q < m ∨ m + 35 ≤ q) : (em h m σ).2 q = h.2 q := by
  show (if m ≤ q ∧ q < m + 35 then _ else h.2 q) = _
  rw [if_neg (by omega)]
theorem mfld_inj {i j : Nat} (hij : mfld i = mfld j) : i = j := by
  unfold mfld at hij
  split at hij <;> split at hij <;> omega
theorem em_uI {j : Nat} (h0 : 0 < j) (hj : j < 35) (ht : mtag (mfld j) ≠ 1) (i : Nat) (x : Int32) : ((em h m σ).1, va_up (em h m σ).2 (m + j) (some (.inl (mtag (mfld j), mlen (mfld j), .inl (va_up (σ.2.1 (mfld j)) i x))))) = em h m (uI σ (mfld j) i x) := by
  refine Prod.ext rfl (funext fun q => ?_)
  by_cases hq : q = m + j
  · subst hq
    rw [em_a h0 hj]
    simp [va_up, marr, uI, ht]
  · show va_up _ _ _ q = _
    simp only [va_up, if_neg hq]
    by_cases hr : m ≤ q ∧ q < m + 35
    · by_cases hm : q = m
      · subst hm
        rw [em_m, em_m]
        rfl
      · obtain ⟨i', rfl⟩ : ∃ i', q = m + i' := ⟨q - m, by omega⟩
        rw [em_a (by omega) (by omega), em_a (by omega) (by omega)]
        have : mfld i' ≠ mfld j := fun e => hq (by rw [mfld_inj e])
        simp [marr, uI, va_up, this]
    · rw [em_o (by omega), em_o (by omega)]
theorem em_uJ {j : Nat} (h0 : 0 < j) (hj : j < 35) (ht : mtag (mfld j) = 1) (i : Nat) (x : Int64) : ((em h m σ).1, va_up (em h m σ).2 (m + j) (some (.inl (mtag (mfld j), mlen (mfld j), .inr (.inl (va_up (σ.2.2 (mfld j)) i x)))))) = em h m (uJ σ (mfld j) i x) := by
  refine Prod.ext rfl (funext fun q => ?_)
  by_cases hq : q = m + j
  · subst hq
    rw [em_a h0 hj]
    simp [va_up, marr, uJ, ht]
  · show va_up _ _ _ q = _
    simp only [va_up, if_neg hq]
    by_cases hr : m ≤ q ∧ q < m + 35
    · by_cases hm : q = m
      · subst hm
        rw [em_m, em_m]
        rfl
      · obtain ⟨i', rfl⟩ : ∃ i', q = m + i' := ⟨q - m, by omega⟩
        rw [em_a (by omega) (by omega), em_a (by omega) (by omega)]
        have : mfld i' ≠ mfld j := fun e => hq (by rw [mfld_inj e])
        simp [marr, uJ, va_up, this]
    · rw [em_o (by omega), em_o (by omega)]
theorem m_uS {k : Nat} {v : Int32} (hk : (mflds σ m).set k (.int v) = mflds (uS σ k v) m) : ((em h m σ).1, va_up (em h m σ).2 m (some (.inr (9, (mflds σ m).set k (.int v))))) = em h m (uS σ k v) := by
  refine Prod.ext rfl (funext fun q => ?_)
  by_cases hq : q = m
  · subst hq
    rw [em_m]
    simp [va_up, hk]
  · show va_up _ _ _ q = _
    simp only [va_up, if_neg hq]
    by_cases hr : m ≤ q ∧ q < m + 35
    · obtain ⟨i', rfl⟩ : ∃ i', q = m + i' := ⟨q - m, by omega⟩
      rw [em_a (by omega) (by omega), em_a (by omega) (by omega)]
      rfl
    · rw [em_o (by omega), em_o (by omega)]
theorem m_gA {k v : Nat} {kk : Nat → xM β} (hk : (mflds σ m)[k]? = some (.ref v)) : gA m 9 k kk (em h m σ) = kk v (em h m σ) := by
  simp [gA, em_m, hk]
theorem m_gI {k : Nat} {v : Int32} {kk : Int32 → xM β} (hk : (mflds σ m)[k]? = some (.int v)) : gI m 9 k kk (em h m σ) = kk v (em h m σ) := by
  simp [gI, em_m, hk]
theorem m_xv {K : xM β} : xv m 9 K (em h m σ) = K (em h m σ) := by
  simp [xv, em_m]
theorem m_lI {j i : Nat} (hj : (0 < j ∧ j < 35) ∧ mtag (mfld j) = 0) (hi : i < mlen (mfld j)) (hb : i < 2 ^ 31) {kk : Int32 → xM β} : lI (m + j) (nI i) kk (em h m σ) = kk (σ.2.1 (mfld j) i) (em h m σ) := by
  have e : (em h m σ).2 (m + j) = some (.inl (0, mlen (mfld j), .inl (σ.2.1 (mfld j)))) := by rw [em_a hj.1.1 hj.1.2]; simp [marr, hj.2]
  simp only [lI, e]
  rw [if_pos ⟨by decide, nI_in hi (mlen_lt _)⟩, nI_clamp hb]
theorem m_lZ {j i : Nat} (hj : (0 < j ∧ j < 35) ∧ mtag (mfld j) = 2) (hi : i < mlen (mfld j)) (hb : i < 2 ^ 31) {kk : Int32 → xM β} : lZ (m + j) (nI i) kk (em h m σ) = kk (σ.2.1 (mfld j) i) (em h m σ) := by
  have e : (em h m σ).2 (m + j) = some (.inl (2, mlen (mfld j), .inl (σ.2.1 (mfld j)))) := by rw [em_a hj.1.1 hj.1.2]; simp [marr, hj.2]
  simp only [lZ, e]
  rw [if_pos ⟨by decide, nI_in hi (mlen_lt _)⟩, nI_clamp hb]
theorem m_lJ {j i : Nat} (hj : (0 < j ∧ j < 35) ∧ mtag (mfld j) = 1) (hi : i < mlen (mfld j)) (hb : i < 2 ^ 31) {kk : Int64 → xM β} : lJ (m + j) (nI i) kk (em h m σ) = kk (σ.2.2 (mfld j) i) (em h m σ) := by
  have e : (em h m σ).2 (m + j) = some (.inl (1, mlen (mfld j), .inr (.inl (σ.2.2 (mfld j))))) := by rw [em_a hj.1.1 hj.1.2]; simp [marr, hj.2]
  simp only [lJ, e]
  rw [if_pos ⟨by decide, nI_in hi (mlen_lt _)⟩, nI_clamp hb]
theorem m_sI {j i : Nat} (hj : (0 < j ∧ j < 35) ∧ mtag (mfld j) = 0) (hi : i < mlen (mfld j)) (hb : i < 2 ^ 31) {x : Int32} {kk : xM β} : sI (m + j) (nI i) x kk (em h m σ) = kk (em h m (uI σ (mfld j) i x)) := by
  have e : (em h m σ).2 (m + j) = some (.inl (0, mlen (mfld j), .inl (σ.2.1 (mfld j)))) := by rw [em_a hj.1.1 hj.1.2]; simp [marr, hj.2]
  simp only [sI, e]
  rw [if_pos ⟨by decide, nI_in hi (mlen_lt _)⟩, nI_clamp hb, ← em_uI hj.1.1 hj.1.2 (by rw [hj.2]; decide), hj.2]
theorem m_sZ {j i : Nat} (hj : (0 < j ∧ j < 35) ∧ mtag (mfld j) = 2) (hi : i < mlen (mfld j)) (hb : i < 2 ^ 31) {x : Int32} (hx : x = 0 ∨ x = 1) {kk : xM β} : sZ (m + j) (nI i) x kk (em h m σ) = kk (em h m (uI σ (mfld j) i x)) := by
  have e : (em h m σ).2 (m + j) = some (.inl (2, mlen (mfld j), .inl (σ.2.1 (mfld j)))) := by rw [em_a hj.1.1 hj.1.2]; simp [marr, hj.2]
  simp only [sZ, e]
  rw [if_pos ⟨by decide, nI_in hi (mlen_lt _), hx⟩, nI_clamp hb, ← em_uI hj.1.1 hj.1.2 (by rw [hj.2]; decide), hj.2]
theorem m_sJ {j i : Nat} (hj : (0 < j ∧ j < 35) ∧ mtag (mfld j) = 1) (hi : i < mlen (mfld j)) (hb : i < 2 ^ 31) {x : Int64} {kk : xM β} : sJ (m + j) (nI i) x kk (em h m σ) = kk (em h m (uJ σ (mfld j) i x)) := by
  have e : (em h m σ).2 (m + j) = some (.inl (1, mlen (mfld j), .inr (.inl (σ.2.2 (mfld j))))) := by rw [em_a hj.1.1 hj.1.2]; simp [marr, hj.2]
  simp only [sJ, e]
  rw [if_pos ⟨by decide, nI_in hi (mlen_lt _)⟩, nI_clamp hb, ← em_uJ hj.1.1 hj.1.2 hj.2, hj.2]
/-- parts -/
theorem mg0 {kk : Int32 → xM β} : gI m 9 0 kk (em h m σ) = kk (σ.1 0) (em h m σ) := m_gI rfl
theorem mp0 {v : Int32} {kk : xM β} : pV m 9 0 (.int v) kk (em h m σ) = kk (em h m (uS σ 0 v)) := by
  simp only [pV, em_m]
  rw [if_pos ⟨by decide, by simp [mflds]⟩, m_uS rfl]
/-- replicas -/
theorem mg1 {kk : Int32 → xM β} : gI m 9 1 kk (em h m σ) = kk (σ.1 1) (em h m σ) := m_gI rfl
theorem mp1 {v : Int32} {kk : xM β} : pV m 9 1 (.int v) kk (em h m σ) = kk (em h m (uS σ 1 v)) := by
  simp only [pV, em_m]
  rw [if_pos ⟨by decide, by simp [mflds]⟩, m_uS rfl]
/-- thrown -/
theorem mg2 {kk : Int32 → xM β} : gI m 9 2 kk (em h m σ) = kk (σ.1 2) (em h m σ) := m_gI rfl
theorem mp2 {v : Int32} {kk : xM β} : pV m 9 2 (.int v) kk (em h m σ) = kk (em h m (uS σ 2 v)) := by
  simp only [pV, em_m]
  rw [if_pos ⟨by decide, by simp [mflds]⟩, m_uS rfl]
/-- time -/
theorem mg3 {kk : Int32 → xM β} : gI m 9 3 kk (em h m σ) = kk (σ.1 3) (em h m σ) := m_gI rfl
theorem mp3 {v : Int32} {kk : xM β} : pV m 9 3 (.int v) kk (em h m σ) = kk (em h m (uS σ 3 v)) := by
  simp only [pV, em_m]
  rw [if_pos ⟨by decide, by simp [mflds]⟩, m_uS rfl]
/-- ends -/
theorem mg4 {kk : Nat → xM β} : gA m 9 4 kk (em h m σ) = kk (m + 1) (em h m σ) := m_gA rfl
theorem ml4 {i : Nat} (hi : i < 3) {kk : Int32 → xM β} : lI (m + 1) (nI i) kk (em h m σ) = kk (σ.2.1 4 i) (em h m σ) := m_lI (by decide) hi (by omega)
theorem ms4 {i : Nat} (hi : i < 3) {x : Int32} {kk : xM β} : sI (m + 1) (nI i) x kk (em h m σ) = kk (em h m (uI σ 4 i x)) := m_sI (by decide) hi (by omega)
/-- trimmed -/
theorem mg5 {kk : Nat → xM β} : gA m 9 5 kk (em h m σ) = kk (m + 2) (em h m σ) := m_gA rfl
theorem ml5 {i : Nat} (hi : i < 3) {kk : Int32 → xM β} : lI (m + 2) (nI i) kk (em h m σ) = kk (σ.2.1 5 i) (em h m σ) := m_lI (by decide) hi (by omega)
theorem ms5 {i : Nat} (hi : i < 3) {x : Int32} {kk : xM β} : sI (m + 2) (nI i) x kk (em h m σ) = kk (em h m (uI σ 5 i x)) := m_sI (by decide) hi (by omega)
/-- kinds -/
theorem mg6 {kk : Nat → xM β} : gA m 9 6 kk (em h m σ) = kk (m + 3) (em h m σ) := m_gA rfl
theorem ml6 {i : Nat} (hi : i < 1203) {kk : Int32 → xM β} : lI (m + 3) (nI i) kk (em h m σ) = kk (σ.2.1 6 i) (em h m σ) := m_lI (by decide) hi (by omega)
theorem ms6 {i : Nat} (hi : i < 1203) {x : Int32} {kk : xM β} : sI (m + 3) (nI i) x kk (em h m σ) = kk (em h m (uI σ 6 i x)) := m_sI (by decide) hi (by omega)
/-- items -/
theorem mg7 {kk : Nat → xM β} : gA m 9 7 kk (em h m σ) = kk (m + 4) (em h m σ) := m_gA rfl
theorem ml7 {i : Nat} (hi : i < 1203) {kk : Int32 → xM β} : lI (m + 4) (nI i) kk (em h m σ) = kk (σ.2.1 7 i) (em h m σ) := m_lI (by decide) hi (by omega)
theorem ms7 {i : Nat} (hi : i < 1203) {x : Int32} {kk : xM β} : sI (m + 4) (nI i) x kk (em h m σ) = kk (em h m (uI σ 7 i x)) := m_sI (by decide) hi (by omega)
/-- customers -/
theorem mg8 {kk : Nat → xM β} : gA m 9 8 kk (em h m σ) = kk (m + 5) (em h m σ) := m_gA rfl
theorem ml8 {i : Nat} (hi : i < 1203) {kk : Int32 → xM β} : lI (m + 5) (nI i) kk (em h m σ) = kk (σ.2.1 8 i) (em h m σ) := m_lI (by decide) hi (by omega)
theorem ms8 {i : Nat} (hi : i < 1203) {x : Int32} {kk : xM β} : sI (m + 5) (nI i) x kk (em h m σ) = kk (em h m (uI σ 8 i x)) := m_sI (by decide) hi (by omega)
/-- amounts -/
theorem mg9 {kk : Nat → xM β} : gA m 9 9 kk (em h m σ) = kk (m + 6) (em h m σ) := m_gA rfl
theorem ml9 {i : Nat} (hi : i < 1203) {kk : Int32 → xM β} : lI (m + 6) (nI i) kk (em h m σ) = kk (σ.2.1 9 i) (em h m σ) := m_lI (by decide) hi (by omega)
theorem ms9 {i : Nat} (hi : i < 1203) {x : Int32} {kk : xM β} : sI (m + 6) (nI i) x kk (em h m σ) = kk (em h m (uI σ 9 i x)) := m_sI (by decide) hi (by omega)
/-- needs -/
theorem mg10 {kk : Nat → xM β} : gA m 9 10 kk (em h m σ) = kk (m + 7) (em h m σ) := m_gA rfl
theorem ml10 {i : Nat} (hi : i < 3609) {kk : Int32 → xM β} : lI (m + 7) (nI i) kk (em h m σ) = kk (σ.2.1 10 i) (em h m σ) := m_lI (by decide) hi (by omega)
theorem ms10 {i : Nat} (hi : i < 3609) {x : Int32} {kk : xM β} : sI (m + 7) (nI i) x kk (em h m σ) = kk (em h m (uI σ 10 i x)) := m_sI (by decide) hi (by omega)
/-- stock -/
theorem mg11 {kk : Nat → xM β} : gA m 9 11 kk (em h m σ) = kk (m + 8) (em h m σ) := m_gA rfl
theorem ml11 {i : Nat} (hi : i < 240) {kk : Int32 → xM β} : lI (m + 8) (nI i) kk (em h m σ) = kk (σ.2.1 11 i) (em h m σ) := m_lI (by decide) hi (by omega)
theorem ms11 {i : Nat} (hi : i < 240) {x : Int32} {kk : xM β} : sI (m + 8) (nI i) x kk (em h m σ) = kk (em h m (uI σ 11 i x)) := m_sI (by decide) hi (by omega)
/-- reserved -/
theorem mg12 {kk : Nat → xM β} : gA m 9 12 kk (em h m σ) = kk (m + 9) (em h m σ) := m_gA rfl
theorem ml12 {i : Nat} (hi : i < 240) {kk : Int32 → xM β} : lI (m + 9) (nI i) kk (em h m σ) = kk (σ.2.1 12 i) (em h m σ) := m_lI (by decide) hi (by omega)
theorem ms12 {i : Nat} (hi : i < 240) {x : Int32} {kk : xM β} : sI (m + 9) (nI i) x kk (em h m σ) = kk (em h m (uI σ 12 i x)) := m_sI (by decide) hi (by omega)
/-- sold -/
theorem mg13 {kk : Nat → xM β} : gA m 9 13 kk (em h m σ) = kk (m + 10) (em h m σ) := m_gA rfl
theorem ml13 {i : Nat} (hi : i < 240) {kk : Int32 → xM β} : lI (m + 10) (nI i) kk (em h m σ) = kk (σ.2.1 13 i) (em h m σ) := m_lI (by decide) hi (by omega)
theorem ms13 {i : Nat} (hi : i < 240) {x : Int32} {kk : xM β} : sI (m + 10) (nI i) x kk (em h m σ) = kk (em h m (uI σ 13 i x)) := m_sI (by decide) hi (by omega)
/-- price -/
theorem mg14 {kk : Nat → xM β} : gA m 9 14 kk (em h m σ) = kk (m + 11) (em h m σ) := m_gA rfl
theorem ml14 {i : Nat} (hi : i < 240) {kk : Int32 → xM β} : lI (m + 11) (nI i) kk (em h m σ) = kk (σ.2.1 14 i) (em h m σ) := m_lI (by decide) hi (by omega)
theorem ms14 {i : Nat} (hi : i < 240) {x : Int32} {kk : xM β} : sI (m + 11) (nI i) x kk (em h m σ) = kk (em h m (uI σ 14 i x)) := m_sI (by decide) hi (by omega)
/-- holds -/
theorem mg15 {kk : Nat → xM β} : gA m 9 15 kk (em h m σ) = kk (m + 12) (em h m σ) := m_gA rfl
theorem ml15 {i : Nat} (hi : i < 2400) {kk : Int32 → xM β} : lI (m + 12) (nI i) kk (em h m σ) = kk (σ.2.1 15 i) (em h m σ) := m_lI (by decide) hi (by omega)
theorem ms15 {i : Nat} (hi : i < 2400) {x : Int32} {kk : xM β} : sI (m + 12) (nI i) x kk (em h m σ) = kk (em h m (uI σ 15 i x)) := m_sI (by decide) hi (by omega)
/-- paid -/
theorem mg16 {kk : Nat → xM β} : gA m 9 16 kk (em h m σ) = kk (m + 13) (em h m σ) := m_gA rfl
theorem ml16 {i : Nat} (hi : i < 80) {kk : Int64 → xM β} : lJ (m + 13) (nI i) kk (em h m σ) = kk (σ.2.2 16 i) (em h m σ) := m_lJ (by decide) hi (by omega)
theorem ms16 {i : Nat} (hi : i < 80) {x : Int64} {kk : xM β} : sJ (m + 13) (nI i) x kk (em h m σ) = kk (em h m (uJ σ 16 i x)) := m_sJ (by decide) hi (by omega)
/-- refusals -/
theorem mg17 {kk : Nat → xM β} : gA m 9 17 kk (em h m σ) = kk (m + 14) (em h m σ) := m_gA rfl
theorem ml17 {i : Nat} (hi : i < 80) {kk : Int32 → xM β} : lI (m + 14) (nI i) kk (em h m σ) = kk (σ.2.1 17 i) (em h m σ) := m_lI (by decide) hi (by omega)
theorem ms17 {i : Nat} (hi : i < 80) {x : Int32} {kk : xM β} : sI (m + 14) (nI i) x kk (em h m σ) = kk (em h m (uI σ 17 i x)) := m_sI (by decide) hi (by omega)
/-- at -/
theorem mg18 {kk : Nat → xM β} : gA m 9 18 kk (em h m σ) = kk (m + 15) (em h m σ) := m_gA rfl
theorem ml18 {i : Nat} (hi : i < 24) {kk : Int32 → xM β} : lI (m + 15) (nI i) kk (em h m σ) = kk (σ.2.1 18 i) (em h m σ) := m_lI (by decide) hi (by omega)
theorem ms18 {i : Nat} (hi : i < 24) {x : Int32} {kk : xM β} : sI (m + 15) (nI i) x kk (em h m σ) = kk (em h m (uI σ 18 i x)) := m_sI (by decide) hi (by omega)
/-- speeds -/
theorem mg19 {kk : Nat → xM β} : gA m 9 19 kk (em h m σ) = kk (m + 16) (em h m σ) := m_gA rfl
theorem ml19 {i : Nat} (hi : i < 4) {kk : Int32 → xM β} : lI (m + 16) (nI i) kk (em h m σ) = kk (σ.2.1 19 i) (em h m σ) := m_lI (by decide) hi (by omega)
theorem ms19 {i : Nat} (hi : i < 4) {x : Int32} {kk : xM β} : sI (m + 16) (nI i) x kk (em h m σ) = kk (em h m (uI σ 19 i x)) := m_sI (by decide) hi (by omega)
/-- next -/
theorem mg20 {kk : Nat → xM β} : gA m 9 20 kk (em h m σ) = kk (m + 17) (em h m σ) := m_gA rfl
theorem ml20 {i : Nat} (hi : i < 4) {kk : Int32 → xM β} : lI (m + 17) (nI i) kk (em h m σ) = kk (σ.2.1 20 i) (em h m σ) := m_lI (by decide) hi (by omega)
theorem ms20 {i : Nat} (hi : i < 4) {x : Int32} {kk : xM β} : sI (m + 17) (nI i) x kk (em h m σ) = kk (em h m (uI σ 20 i x)) := m_sI (by decide) hi (by omega)
/-- up -/
theorem mg21 {kk : Nat → xM β} : gA m 9 21 kk (em h m σ) = kk (m + 18) (em h m σ) := m_gA rfl
theorem ml21 {i : Nat} (hi : i < 4) {kk : Int32 → xM β} : lZ (m + 18) (nI i) kk (em h m σ) = kk (σ.2.1 21 i) (em h m σ) := m_lZ (by decide) hi (by omega)
theorem ms21 {i : Nat} (hi : i < 4) {x : Int32} (hx : x = 0 ∨ x = 1) {kk : xM β} : sZ (m + 18) (nI i) x kk (em h m σ) = kk (em h m (uI σ 21 i x)) := m_sZ (by decide) hi (by omega) hx
/-- modes -/
theorem mg22 {kk : Nat → xM β} : gA m 9 22 kk (em h m σ) = kk (m + 19) (em h m σ) := m_gA rfl
theorem ml22 {i : Nat} (hi : i < 8) {kk : Int32 → xM β} : lI (m + 19) (nI i) kk (em h m σ) = kk (σ.2.1 22 i) (em h m σ) := m_lI (by decide) hi (by omega)
theorem ms22 {i : Nat} (hi : i < 8) {x : Int32} {kk : xM β} : sI (m + 19) (nI i) x kk (em h m σ) = kk (em h m (uI σ 22 i x)) := m_sI (by decide) hi (by omega)
/-- homes -/
theorem mg23 {kk : Nat → xM β} : gA m 9 23 kk (em h m σ) = kk (m + 20) (em h m σ) := m_gA rfl
theorem ml23 {i : Nat} (hi : i < 8) {kk : Int32 → xM β} : lI (m + 20) (nI i) kk (em h m σ) = kk (σ.2.1 23 i) (em h m σ) := m_lI (by decide) hi (by omega)
theorem ms23 {i : Nat} (hi : i < 8) {x : Int32} {kk : xM β} : sI (m + 20) (nI i) x kk (em h m σ) = kk (em h m (uI σ 23 i x)) := m_sI (by decide) hi (by omega)
/-- wrote -/
theorem mg24 {kk : Nat → xM β} : gA m 9 24 kk (em h m σ) = kk (m + 21) (em h m σ) := m_gA rfl
theorem ml24 {i : Nat} (hi : i < 24) {kk : Int32 → xM β} : lI (m + 21) (nI i) kk (em h m σ) = kk (σ.2.1 24 i) (em h m σ) := m_lI (by decide) hi (by omega)
theorem ms24 {i : Nat} (hi : i < 24) {x : Int32} {kk : xM β} : sI (m + 21) (nI i) x kk (em h m σ) = kk (em h m (uI σ 24 i x)) := m_sI (by decide) hi (by omega)
/-- saw -/
theorem mg25 {kk : Nat → xM β} : gA m 9 25 kk (em h m σ) = kk (m + 22) (em h m σ) := m_gA rfl
theorem ml25 {i : Nat} (hi : i < 24) {kk : Int32 → xM β} : lI (m + 22) (nI i) kk (em h m σ) = kk (σ.2.1 25 i) (em h m σ) := m_lI (by decide) hi (by omega)
theorem ms25 {i : Nat} (hi : i < 24) {x : Int32} {kk : xM β} : sI (m + 22) (nI i) x kk (em h m σ) = kk (em h m (uI σ 25 i x)) := m_sI (by decide) hi (by omega)
/-- reads -/
theorem mg26 {kk : Int32 → xM β} : gI m 9 26 kk (em h m σ) = kk (σ.1 26) (em h m σ) := m_gI rfl
theorem mp26 {v : Int32} {kk : xM β} : pV m 9 26 (.int v) kk (em h m σ) = kk (em h m (uS σ 26 v)) := by
  simp only [pV, em_m]
  rw [if_pos ⟨by decide, by simp [mflds]⟩, m_uS rfl]
/-- state -/
theorem mg27 {kk : Nat → xM β} : gA m 9 27 kk (em h m σ) = kk (m + 23) (em h m σ) := m_gA rfl
theorem ml27 {i : Nat} (hi : i < 500) {kk : Int32 → xM β} : lI (m + 23) (nI i) kk (em h m σ) = kk (σ.2.1 27 i) (em h m σ) := m_lI (by decide) hi (by omega)
theorem ms27 {i : Nat} (hi : i < 500) {x : Int32} {kk : xM β} : sI (m + 23) (nI i) x kk (em h m σ) = kk (em h m (uI σ 27 i x)) := m_sI (by decide) hi (by omega)
/-- session -/
theorem mg28 {kk : Nat → xM β} : gA m 9 28 kk (em h m σ) = kk (m + 24) (em h m σ) := m_gA rfl
theorem ml28 {i : Nat} (hi : i < 500) {kk : Int32 → xM β} : lI (m + 24) (nI i) kk (em h m σ) = kk (σ.2.1 28 i) (em h m σ) := m_lI (by decide) hi (by omega)
theorem ms28 {i : Nat} (hi : i < 500) {x : Int32} {kk : xM β} : sI (m + 24) (nI i) x kk (em h m σ) = kk (em h m (uI σ 28 i x)) := m_sI (by decide) hi (by omega)
/-- needed -/
theorem mg29 {kk : Nat → xM β} : gA m 9 29 kk (em h m σ) = kk (m + 25) (em h m σ) := m_gA rfl
theorem ml29 {i : Nat} (hi : i < 1500) {kk : Int32 → xM β} : lI (m + 25) (nI i) kk (em h m σ) = kk (σ.2.1 29 i) (em h m σ) := m_lI (by decide) hi (by omega)
theorem ms29 {i : Nat} (hi : i < 1500) {x : Int32} {kk : xM β} : sI (m + 25) (nI i) x kk (em h m σ) = kk (em h m (uI σ 29 i x)) := m_sI (by decide) hi (by omega)
/-- stale -/
theorem mg30 {kk : Nat → xM β} : gA m 9 30 kk (em h m σ) = kk (m + 26) (em h m σ) := m_gA rfl
theorem ml30 {i : Nat} (hi : i < 500) {kk : Int32 → xM β} : lI (m + 26) (nI i) kk (em h m σ) = kk (σ.2.1 30 i) (em h m σ) := m_lI (by decide) hi (by omega)
theorem ms30 {i : Nat} (hi : i < 500) {x : Int32} {kk : xM β} : sI (m + 26) (nI i) x kk (em h m σ) = kk (em h m (uI σ 30 i x)) := m_sI (by decide) hi (by omega)
/-- patience -/
theorem mg31 {kk : Nat → xM β} : gA m 9 31 kk (em h m σ) = kk (m + 27) (em h m σ) := m_gA rfl
theorem ml31 {i : Nat} (hi : i < 500) {kk : Int32 → xM β} : lI (m + 27) (nI i) kk (em h m σ) = kk (σ.2.1 31 i) (em h m σ) := m_lI (by decide) hi (by omega)
theorem ms31 {i : Nat} (hi : i < 500) {x : Int32} {kk : xM β} : sI (m + 27) (nI i) x kk (em h m σ) = kk (em h m (uI σ 31 i x)) := m_sI (by decide) hi (by omega)
/-- asked -/
theorem mg32 {kk : Nat → xM β} : gA m 9 32 kk (em h m σ) = kk (m + 28) (em h m σ) := m_gA rfl
theorem ml32 {i : Nat} (hi : i < 500) {kk : Int32 → xM β} : lI (m + 28) (nI i) kk (em h m σ) = kk (σ.2.1 32 i) (em h m σ) := m_lI (by decide) hi (by omega)
theorem ms32 {i : Nat} (hi : i < 500) {x : Int32} {kk : xM β} : sI (m + 28) (nI i) x kk (em h m σ) = kk (em h m (uI σ 32 i x)) := m_sI (by decide) hi (by omega)
/-- question -/
theorem mg33 {kk : Nat → xM β} : gA m 9 33 kk (em h m σ) = kk (m + 29) (em h m σ) := m_gA rfl
theorem ml33 {i : Nat} (hi : i < 500) {kk : Int32 → xM β} : lI (m + 29) (nI i) kk (em h m σ) = kk (σ.2.1 33 i) (em h m σ) := m_lI (by decide) hi (by omega)
theorem ms33 {i : Nat} (hi : i < 500) {x : Int32} {kk : xM β} : sI (m + 29) (nI i) x kk (em h m σ) = kk (em h m (uI σ 33 i x)) := m_sI (by decide) hi (by omega)
/-- about -/
theorem mg34 {kk : Nat → xM β} : gA m 9 34 kk (em h m σ) = kk (m + 30) (em h m σ) := m_gA rfl
theorem ml34 {i : Nat} (hi : i < 500) {kk : Int32 → xM β} : lI (m + 30) (nI i) kk (em h m σ) = kk (σ.2.1 34 i) (em h m σ) := m_lI (by decide) hi (by omega)
theorem ms34 {i : Nat} (hi : i < 500) {x : Int32} {kk : xM β} : sI (m + 30) (nI i) x kk (em h m σ) = kk (em h m (uI σ 34 i x)) := m_sI (by decide) hi (by omega)
/-- by -/
theorem mg35 {kk : Nat → xM β} : gA m 9 35 kk (em h m σ) = kk (m + 31) (em h m σ) := m_gA rfl
theorem ml35 {i : Nat} (hi : i < 500) {kk : Int32 → xM β} : lI (m + 31) (nI i) kk (em h m σ) = kk (σ.2.1 35 i) (em h m σ) := m_lI (by decide) hi (by omega)
theorem ms35 {i : Nat} (hi : i < 500) {x : Int32} {kk : xM β} : sI (m + 31) (nI i) x kk (em h m σ) = kk (em h m (uI σ 35 i x)) := m_sI (by decide) hi (by omega)
/-- answer -/
theorem mg36 {kk : Nat → xM β} : gA m 9 36 kk (em h m σ) = kk (m + 32) (em h m σ) := m_gA rfl
theorem ml36 {i : Nat} (hi : i < 500) {kk : Int64 → xM β} : lJ (m + 32) (nI i) kk (em h m σ) = kk (σ.2.2 36 i) (em h m σ) := m_lJ (by decide) hi (by omega)
theorem ms36 {i : Nat} (hi : i < 500) {x : Int64} {kk : xM β} : sJ (m + 32) (nI i) x kk (em h m σ) = kk (em h m (uJ σ 36 i x)) := m_sJ (by decide) hi (by omega)
/-- vector -/
theorem mg37 {kk : Nat → xM β} : gA m 9 37 kk (em h m σ) = kk (m + 33) (em h m σ) := m_gA rfl
theorem ml37 {i : Nat} (hi : i < 500) {kk : Int64 → xM β} : lJ (m + 33) (nI i) kk (em h m σ) = kk (σ.2.2 37 i) (em h m σ) := m_lJ (by decide) hi (by omega)
theorem ms37 {i : Nat} (hi : i < 500) {x : Int64} {kk : xM β} : sJ (m + 33) (nI i) x kk (em h m σ) = kk (em h m (uJ σ 37 i x)) := m_sJ (by decide) hi (by omega)
/-- ended -/
theorem mg38 {kk : Nat → xM β} : gA m 9 38 kk (em h m σ) = kk (m + 34) (em h m σ) := m_gA rfl
theorem ml38 {i : Nat} (hi : i < 500) {kk : Int32 → xM β} : lI (m + 34) (nI i) kk (em h m σ) = kk (σ.2.1 38 i) (em h m σ) := m_lI (by decide) hi (by omega)
theorem ms38 {i : Nat} (hi : i < 500) {x : Int32} {kk : xM β} : sI (m + 34) (nI i) x kk (em h m σ) = kk (em h m (uI σ 38 i x)) := m_sI (by decide) hi (by omega)
end XEM
