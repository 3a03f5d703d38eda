/-! the model: tests of arguments, tokens, commands that are taken, steps -/
def inb (v lo hi : Int64) : Bool := decide (lo ≤ v) && decide (v ≤ hi)
theorem inb_iff (x : Int32) (lo hi : Int64) : inb x.toInt64 lo hi = true ↔ lo.toInt ≤ x.toInt ∧ x.toInt ≤ hi.toInt := by
  unfold inb
  rw [Bool.and_eq_true, decide_eq_true_iff, decide_eq_true_iff, Int64.le_iff_toInt_le, Int64.le_iff_toInt_le, Int32.toInt_toInt64]
theorem inb_of {x : Int32} {n : Nat} {hi : Int64} (hn : n < 2 ^ 31) (hh : hi.toInt = (n : Int) - 1) (h : inb x.toInt64 0 hi = true) : ∃ j, j < n ∧ x = nI j := by
  obtain ⟨h1, h2⟩ := (inb_iff _ _ _).mp h
  rw [hh] at h2
  have h1 : (0 : Int) ≤ x.toInt := h1
  rcases pk_ix x hn with h3 | h3 | h3
  · rw [Int32.lt_iff_toInt_lt] at h3
    have : x.toInt < 0 := h3
    omega
  · rw [Int32.le_iff_toInt_le, nI_toInt hn] at h3
    omega
  · exact h3
theorem inb_nI {j n : Nat} {hi : Int64} (hj : j < n) (hn : n < 2 ^ 31) (hh : hi.toInt = (n : Int) - 1) : inb (nI j).toInt64 0 hi = true := by
  rw [inb_iff, nI_toInt (by omega), hh]
  refine ⟨?_, by omega⟩
  show (0 : Int) ≤ _
  omega
def sh20 (t : Int64) : Int64 := t >>> ((20 : Int32).toInt64 &&& 63)
def posS (t : Int64) (p : Nat) : Int32 := ((t >>> ((20 + (9 * nI p)).toInt64 &&& 63)) &&& 511).toInt32
def tkl (P : Nat) (σ : xS) (t : Int64) : Nat → Bool
  | 0 => true
  | p + 1 => tkl P σ t p && decide (posS t p ≤ if p < P then σ.2.1 4 p else 0)
def isTok (P : Nat) (σ : xS) (t : Int64) : Bool := decide (0 ≤ t) && (decide (sh20 t < 134217728) && (decide (t &&& 1048575 = chkS (sh20 t)) && tkl P σ t 3))
def isQ (P : Nat) (kd a : Int32) : Bool := inb kd.toInt64 0 8 && (if kd < 4 ∨ kd = 7 then inb a.toInt64 0 29 else if kd < 7 then inb a.toInt64 0 9 else inb a.toInt64 (-1) (nI P - 1).toInt64)
def takeS (σ : xS) (s k : Nat) : xS :=
  if σ.2.1 6 k = 0 then
    (if 100000 < σ.2.1 11 (30 * s + cn (σ.2.1 7 k)) + σ.2.1 9 k then σ else uI σ 11 (30 * s + cn (σ.2.1 7 k)) (σ.2.1 11 (30 * s + cn (σ.2.1 7 k)) + σ.2.1 9 k))
  else if σ.2.1 6 k = 1 then
    (if σ.2.1 11 (30 * s + cn (σ.2.1 7 k)) - σ.2.1 12 (30 * s + cn (σ.2.1 7 k)) < σ.2.1 9 k then uI σ 17 (10 * s + cn (σ.2.1 8 k)) (σ.2.1 17 (10 * s + cn (σ.2.1 8 k)) + 1)
    else uI (uI σ 15 (30 * (10 * s + cn (σ.2.1 8 k)) + cn (σ.2.1 7 k)) (σ.2.1 15 (30 * (10 * s + cn (σ.2.1 8 k)) + cn (σ.2.1 7 k)) + σ.2.1 9 k)) 12 (30 * s + cn (σ.2.1 7 k)) (σ.2.1 12 (30 * s + cn (σ.2.1 7 k)) + σ.2.1 9 k))
  else if σ.2.1 6 k = 2 then
    (if σ.2.1 9 k ≤ σ.2.1 15 (30 * (10 * s + cn (σ.2.1 8 k)) + cn (σ.2.1 7 k)) then
      uJ (uI (uI (uI (uI σ 15 (30 * (10 * s + cn (σ.2.1 8 k)) + cn (σ.2.1 7 k)) (σ.2.1 15 (30 * (10 * s + cn (σ.2.1 8 k)) + cn (σ.2.1 7 k)) - σ.2.1 9 k)) 12 (30 * s + cn (σ.2.1 7 k)) (σ.2.1 12 (30 * s + cn (σ.2.1 7 k)) - σ.2.1 9 k)) 11 (30 * s + cn (σ.2.1 7 k)) (σ.2.1 11 (30 * s + cn (σ.2.1 7 k)) - σ.2.1 9 k)) 13 (30 * s + cn (σ.2.1 7 k)) (σ.2.1 13 (30 * s + cn (σ.2.1 7 k)) + σ.2.1 9 k)) 16 (10 * s + cn (σ.2.1 8 k)) (σ.2.2 16 (10 * s + cn (σ.2.1 8 k)) + (σ.2.1 9 k).toInt64 * (σ.2.1 14 (30 * s + cn (σ.2.1 7 k))).toInt64)
    else σ)
  else if σ.2.1 6 k = 3 then
    uI (uI σ 15 (30 * (10 * s + cn (σ.2.1 8 k)) + cn (σ.2.1 7 k)) (σ.2.1 15 (30 * (10 * s + cn (σ.2.1 8 k)) + cn (σ.2.1 7 k)) - mn (σ.2.1 9 k) (σ.2.1 15 (30 * (10 * s + cn (σ.2.1 8 k)) + cn (σ.2.1 7 k))))) 12 (30 * s + cn (σ.2.1 7 k)) (σ.2.1 12 (30 * s + cn (σ.2.1 7 k)) - mn (σ.2.1 9 k) (σ.2.1 15 (30 * (10 * s + cn (σ.2.1 8 k)) + cn (σ.2.1 7 k))))
  else uI σ 14 (30 * s + cn (σ.2.1 7 k)) (σ.2.1 9 k)
theorem take_same (σ : xS) (s k : Nat) : same [11, 12, 13, 14, 15, 16, 17] σ (takeS σ s k) := by
  unfold takeS
  repeat' split
  all_goals repeat (first | exact same.refl _ _ | refine same.trans ?_ (same.uI _ _ _ (by decide)) | refine same.trans ?_ (same.uJ _ _ _ (by decide)))
def advS (P : Nat) (σ : xS) (r p : Nat) : Int32 × xS :=
  if σ.2.1 18 (3 * r + p) = σ.2.1 4 p then (0, σ) else
  if cv σ (σ.2.1 10) (3 * (401 * p + cn (σ.2.1 18 (3 * r + p)) + 1)) r P = true then
    (1, lookS P (uI (uI (takeS σ r (401 * p + cn (σ.2.1 18 (3 * r + p)) + 1)) 18 (3 * r + p) (σ.2.1 18 (3 * r + p) + 1)) 20 r (nI ((p + 1) % P))) r (cn (σ.1 26)))
  else (-1, σ)
section XMV
variable {h : xH} {m : Nat} {σ : xS} {P N R : Nat}
theorem s_in (v lo hi : Int64) {H : xH} : f_Mdl_in v lo hi H = some (.inl (bI (inb v lo hi)), H) := by
  unfold f_Mdl_in inb f_Mdl_in_b17 f_Mdl_in_b18
  simp only [lg_cmp_lt, lg_cmp_gt]
  by_cases h1 : v < lo
  · have : ¬ lo ≤ v := by rw [Int64.not_le]; exact h1
    simp [h1, this, xr, bI]
  · have : lo ≤ v := by rw [← Int64.not_lt]; exact h1
    by_cases h2 : hi < v
    · have h3 : ¬ v ≤ hi := by rw [Int64.not_le]; exact h2
      simp [h1, h2, h3, xr, bI]
    · have h3 : v ≤ hi := by rw [← Int64.not_lt]; exact h2
      simp [h1, h2, h3, this, xr, bI]
theorem s_isSession (x : Int32) {H : xH} : f_Mdl_isSession x H = some (.inl (bI (inb x.toInt64 0 7)), H) := by
  simp only [f_Mdl_isSession, xb, s_in, bI_01, if_true, xr]
theorem s_isReplica (x : Int32) : f_Mdl_isReplica m x (em h m σ) = some (.inl (bI (inb x.toInt64 0 (σ.1 1 - 1).toInt64)), em h m σ) := by
  simp only [f_Mdl_isReplica, mg1, xb, s_in, bI_01, if_true, xr]
theorem s_isPart (x : Int32) : f_Mdl_isPart m x (em h m σ) = some (.inl (bI (inb x.toInt64 0 (σ.1 0 - 1).toInt64)), em h m σ) := by
  simp only [f_Mdl_isPart, mg0, xb, s_in, bI_01, if_true, xr]
theorem s_position (t : Int64) (p : Nat) {H : xH} : f_Mdl_position t (nI p) H = some (.inl (posS t p), H) := rfl
theorem s_isQuestion (hP : σ.1 0 = nI P) (kd a : Int32) : f_Mdl_isQuestion m kd a (em h m σ) = some (.inl (bI (isQ P kd a)), em h m σ) := by
  unfold f_Mdl_isQuestion isQ
  by_cases h0 : kd < 0
  · have : inb kd.toInt64 0 8 = false := by
      rw [← Bool.not_eq_true, inb_iff]
      rw [Int32.lt_iff_toInt_lt] at h0
      intro ⟨q1, q2⟩
      have q1 : (0 : Int) ≤ _ := q1
      have h0 : _ < (0 : Int) := h0
      omega
    simp [h0, this, f_Mdl_isQuestion_b10, xr, bI]
  by_cases h8 : kd ≤ 8
  · have : inb kd.toInt64 0 8 = true := by
      rw [inb_iff]
      rw [Int32.not_lt, Int32.le_iff_toInt_le] at h0
      rw [Int32.le_iff_toInt_le] at h8
      exact ⟨h0, h8⟩
    simp only [h0, h8, this, if_true, if_false, Bool.true_and]
    have hf : (7 : Int32) ≤ kd ↔ ¬ kd < 7 := by rw [Int32.not_lt]
    by_cases h4 : kd < 4
    · simp only [h4, true_or, if_true, f_Mdl_isQuestion_b23, f_Mdl_isQuestion_b68, xb, s_in, bI_01, xr]
    · by_cases h7 : kd = 7
      · subst h7
        simp only [show ¬ (7 : Int32) < 4 by decide, or_true, if_true, f_Mdl_isQuestion_b23, f_Mdl_isQuestion_b68, xb, s_in, bI_01, xr, if_false]
      · by_cases h6 : kd < 7
        · simp only [h4, h7, h6, hf, not_true, or_false, if_true, if_false, f_Mdl_isQuestion_b23, f_Mdl_isQuestion_b68, xb, s_in, bI_01, xr]
        · simp only [h4, h7, h6, hf, not_false_iff, or_false, if_true, if_false, f_Mdl_isQuestion_b23, f_Mdl_isQuestion_b68, xb, s_in, bI_01, xr, mg0, hP]
  · have : inb kd.toInt64 0 8 = false := by
      rw [← Bool.not_eq_true, inb_iff]
      rw [Int32.le_iff_toInt_le] at h8
      intro ⟨q1, q2⟩
      exact h8 q2
    simp [h0, h8, this, f_Mdl_isQuestion_b10, xr, bI]
theorem s_tkl {t : Int64} (hP : σ.1 0 = nI P) (hP3 : P ≤ 3) : f_Mdl_isToken_h40 1000 m t 1 0 (em h m σ) = some (.inl (bI (tkl P σ t 3)), em h m σ) := by
  have key : ∀ d p n, p + d = 3 → d < n → f_Mdl_isToken_h40 n m t (bI (tkl P σ t p)) (nI p) (em h m σ) = some (.inl (bI (tkl P σ t 3)), em h m σ) := by
    intro d
    induction d with
    | zero =>
      intro p n hp hn
      obtain ⟨n, rfl, -⟩ := pos_of hn
      obtain rfl : p = 3 := by omega
      have c1 : (3 : Int32) ≤ nI 3 := by decide
      simp only [f_Mdl_isToken_h40, f_Mdl_isToken_b40, c1, bI_01, ↓mg0, ↓mg1, ↓mg2, ↓mg3, ↓mg26, ↓mp0, ↓mp1, ↓mp2, ↓mp3, ↓mp26, ↓mg4, ↓mg5, ↓mg6, ↓mg7, ↓mg8, ↓mg9, ↓mg10, ↓mg11, ↓mg12, ↓mg13, ↓mg14, ↓mg15, ↓mg16, ↓mg17, ↓mg18, ↓mg19, ↓mg20, ↓mg21, ↓mg22, ↓mg23, ↓mg24, ↓mg25, ↓mg27, ↓mg28, ↓mg29, ↓mg30, ↓mg31, ↓mg32, ↓mg33, ↓mg34, ↓mg35, ↓mg36, ↓mg37, ↓mg38, ↓ml4, ↓ms4, ↓ml5, ↓ms5, ↓ml6, ↓ms6, ↓ml7, ↓ms7, ↓ml8, ↓ms8, ↓ml9, ↓ms9, ↓ml10, ↓ms10, ↓ml11, ↓ms11, ↓ml12, ↓ms12, ↓ml13, ↓ms13, ↓ml14, ↓ms14, ↓ml15, ↓ms15, ↓ml16, ↓ms16, ↓ml17, ↓ms17, ↓ml18, ↓ms18, ↓ml19, ↓ms19, ↓ml20, ↓ms20, ↓ml21, ↓ml22, ↓ms22, ↓ml23, ↓ms23, ↓ml24, ↓ms24, ↓ml25, ↓ms25, ↓ml27, ↓ms27, ↓ml28, ↓ms28, ↓ml29, ↓ms29, ↓ml30, ↓ms30, ↓ml31, ↓ms31, ↓ml32, ↓ms32, ↓ml33, ↓ms33, ↓ml34, ↓ms34, ↓ml35, ↓ms35, ↓ml36, ↓ms36, ↓ml37, ↓ms37, ↓ml38, ↓ms38, ↓m_xv, ↓xb, ↓xr, ml4, ms4, ml5, ms5, ml6, ms6, ml7, ms7, ml8, ms8, ml9, ms9, ml10, ms10, ml11, ms11, ml12, ms12, ml13, ms13, ml14, ms14, ml15, ms15, ml16, ms16, ml17, ms17, ml18, ms18, ml19, ms19, ml20, ms20, ml21, ml22, ms22, ml23, ms23, ml24, ms24, ml25, ms25, ml27, ms27, ml28, ms28, ml29, ms29, ml30, ms30, ml31, ms31, ml32, ms32, ml33, ms33, ml34, ms34, ml35, ms35, ml36, ms36, ml37, ms37, ml38, ms38, n3, n30, n10, n300, n401, n4p, np1, np2, nI_add, ↓reduceIte]
    | succ d ih =>
      intro p n hp hn
      obtain ⟨n, rfl, hn⟩ := pos_of hn
      have c1 : ¬ (3 : Int32) ≤ nI p := nI_ge (b := 3) (by omega) (by omega)
      have i1 := ih (p + 1) n (by omega) (by omega)
      have fin : ∀ x : Int32, x = (if p < P then σ.2.1 4 p else 0) → f_Mdl_isToken_b74 (f_Mdl_isToken_h40 n) m t (nI p) x (posS t p) (bI (tkl P σ t p)) (em h m σ) = some (.inl (bI (tkl P σ t 3)), em h m σ) := by
        intro x hx
        subst hx
        simp only [f_Mdl_isToken_b74, f_Mdl_isToken_b82, np1]
        by_cases h1 : posS t p ≤ (if p < P then σ.2.1 4 p else 0)
        · rw [if_neg (by rw [Int32.not_lt]; exact h1), ← bI_t, bI_and]
          simpa only [tkl, h1, decide_true] using i1
        · rw [if_pos (by rw [← Int32.not_le]; exact h1), ← bI_f, bI_and]
          simpa only [tkl, h1, decide_false] using i1
      by_cases h2 : p < P
      · have c2 : ¬ nI P ≤ nI p := nI_ge (by omega) (by omega)
        simp (disch := omega) only [f_Mdl_isToken_h40, f_Mdl_isToken_b40, c1, c2, hP, s_position, ↓mg0, ↓mg1, ↓mg2, ↓mg3, ↓mg26, ↓mp0, ↓mp1, ↓mp2, ↓mp3, ↓mp26, ↓mg4, ↓mg5, ↓mg6, ↓mg7, ↓mg8, ↓mg9, ↓mg10, ↓mg11, ↓mg12, ↓mg13, ↓mg14, ↓mg15, ↓mg16, ↓mg17, ↓mg18, ↓mg19, ↓mg20, ↓mg21, ↓mg22, ↓mg23, ↓mg24, ↓mg25, ↓mg27, ↓mg28, ↓mg29, ↓mg30, ↓mg31, ↓mg32, ↓mg33, ↓mg34, ↓mg35, ↓mg36, ↓mg37, ↓mg38, ↓ml4, ↓ms4, ↓ml5, ↓ms5, ↓ml6, ↓ms6, ↓ml7, ↓ms7, ↓ml8, ↓ms8, ↓ml9, ↓ms9, ↓ml10, ↓ms10, ↓ml11, ↓ms11, ↓ml12, ↓ms12, ↓ml13, ↓ms13, ↓ml14, ↓ms14, ↓ml15, ↓ms15, ↓ml16, ↓ms16, ↓ml17, ↓ms17, ↓ml18, ↓ms18, ↓ml19, ↓ms19, ↓ml20, ↓ms20, ↓ml21, ↓ml22, ↓ms22, ↓ml23, ↓ms23, ↓ml24, ↓ms24, ↓ml25, ↓ms25, ↓ml27, ↓ms27, ↓ml28, ↓ms28, ↓ml29, ↓ms29, ↓ml30, ↓ms30, ↓ml31, ↓ms31, ↓ml32, ↓ms32, ↓ml33, ↓ms33, ↓ml34, ↓ms34, ↓ml35, ↓ms35, ↓ml36, ↓ms36, ↓ml37, ↓ms37, ↓ml38, ↓ms38, ↓m_xv, ↓xb, ↓xr, ml4, ms4, ml5, ms5, ml6, ms6, ml7, ms7, ml8, ms8, ml9, ms9, ml10, ms10, ml11, ms11, ml12, ms12, ml13, ms13, ml14, ms14, ml15, ms15, ml16, ms16, ml17, ms17, ml18, ms18, ml19, ms19, ml20, ms20, ml21, ml22, ms22, ml23, ms23, ml24, ms24, ml25, ms25, ml27, ms27, ml28, ms28, ml29, ms29, ml30, ms30, ml31, ms31, ml32, ms32, ml33, ms33, ml34, ms34, ml35, ms35, ml36, ms36, ml37, ms37, ml38, ms38, n3, n30, n10, n300, n401, n4p, np1, np2, nI_add, ↓reduceIte]
        exact fin _ (if_pos h2).symm
      · have c2 : nI P ≤ nI p := nI_le (by omega) (by omega)
        simp (disch := omega) only [f_Mdl_isToken_h40, f_Mdl_isToken_b40, c1, c2, hP, s_position, ↓mg0, ↓mg1, ↓mg2, ↓mg3, ↓mg26, ↓mp0, ↓mp1, ↓mp2, ↓mp3, ↓mp26, ↓mg4, ↓mg5, ↓mg6, ↓mg7, ↓mg8, ↓mg9, ↓mg10, ↓mg11, ↓mg12, ↓mg13, ↓mg14, ↓mg15, ↓mg16, ↓mg17, ↓mg18, ↓mg19, ↓mg20, ↓mg21, ↓mg22, ↓mg23, ↓mg24, ↓mg25, ↓mg27, ↓mg28, ↓mg29, ↓mg30, ↓mg31, ↓mg32, ↓mg33, ↓mg34, ↓mg35, ↓mg36, ↓mg37, ↓mg38, ↓ml4, ↓ms4, ↓ml5, ↓ms5, ↓ml6, ↓ms6, ↓ml7, ↓ms7, ↓ml8, ↓ms8, ↓ml9, ↓ms9, ↓ml10, ↓ms10, ↓ml11, ↓ms11, ↓ml12, ↓ms12, ↓ml13, ↓ms13, ↓ml14, ↓ms14, ↓ml15, ↓ms15, ↓ml16, ↓ms16, ↓ml17, ↓ms17, ↓ml18, ↓ms18, ↓ml19, ↓ms19, ↓ml20, ↓ms20, ↓ml21, ↓ml22, ↓ms22, ↓ml23, ↓ms23, ↓ml24, ↓ms24, ↓ml25, ↓ms25, ↓ml27, ↓ms27, ↓ml28, ↓ms28, ↓ml29, ↓ms29, ↓ml30, ↓ms30, ↓ml31, ↓ms31, ↓ml32, ↓ms32, ↓ml33, ↓ms33, ↓ml34, ↓ms34, ↓ml35, ↓ms35, ↓ml36, ↓ms36, ↓ml37, ↓ms37, ↓ml38, ↓ms38, ↓m_xv, ↓xb, ↓xr, ml4, ms4, ml5, ms5, ml6, ms6, ml7, ms7, ml8, ms8, ml9, ms9, ml10, ms10, ml11, ms11, ml12, ms12, ml13, ms13, ml14, ms14, ml15, ms15, ml16, ms16, ml17, ms17, ml18, ms18, ml19, ms19, ml20, ms20, ml21, ml22, ms22, ml23, ms23, ml24, ms24, ml25, ms25, ml27, ms27, ml28, ms28, ml29, ms29, ml30, ms30, ml31, ms31, ml32, ms32, ml33, ms33, ml34, ms34, ml35, ms35, ml36, ms36, ml37, ms37, ml38, ms38, n3, n30, n10, n300, n401, n4p, np1, np2, nI_add, ↓reduceIte]
        exact fin _ (if_neg h2).symm
  exact key 3 0 1000 (by omega) (by omega)
theorem s_isToken {t : Int64} (hP : σ.1 0 = nI P) (hP3 : P ≤ 3) : f_Mdl_isToken m t (em h m σ) = some (.inl (bI (isTok P σ t)), em h m σ) := by
  have e1 := s_tkl (h := h) (m := m) (t := t) hP hP3
  have e2 : ∀ x (H : xH), f_Mdl_check x H = some (.inl (chkS x), H) := fun x H => rfl
  unfold f_Mdl_isToken isTok sh20
  simp only [lg_cmp_lt, lg_cmp_ge, lg_cmp_eq, f_Mdl_isToken_b32, e2, xb]
  generalize t >>> ((20 : Int32).toInt64 &&& 63) = u
  generalize (134217728 : Int64) = B
  have e3 : ∀ H : xH, f_Mdl_check u H = some (.inl (chkS u), H) := e2 u
  generalize chkS u = w at e3 ⊢
  generalize t &&& 1048575 = z
  generalize tkl P σ t 3 = b at e1 ⊢
  generalize f_Mdl_isToken_h40 1000 m t 1 0 = F at e1 ⊢
  by_cases h1 : t < 0
  · have : ¬ 0 ≤ t := by rw [Int64.not_le]; exact h1
    simp [h1, this, xr, bI]
  have h1' : 0 ≤ t := by rw [← Int64.not_lt]; exact h1
  by_cases h2 : B ≤ u
  · have : ¬ u < B := by rw [Int64.not_lt]; exact h2
    simp [h1, h1', h2, this, xr, bI]
  have h2' : u < B := by rw [← Int64.not_le]; exact h2
  by_cases h3 : z = w
  · rw [if_neg h1, if_neg h2]
    simp only [xb, e3]
    rw [if_pos h3, e1]
    simp only [h1', h2', h3, decide_true, Bool.true_and]
  · simp [h1, h1', h2, h2', h3, xr, bI, xb, e3]
theorem s_take {s k : Nat} (hs : s < 8) (hk : k < 1203) (hi : ∃ i, i < 30 ∧ σ.2.1 7 k = nI i) (hc : ∃ c, c < 10 ∧ σ.2.1 8 k = nI c) : f_Mdl_take m (nI s) (nI k) (em h m σ) = some (.inl (), em h m (takeS σ s k)) := by
  obtain ⟨i, hi, ei⟩ := hi
  obtain ⟨c, hc, ec⟩ := hc
  unfold takeS
  rw [ei, ec, cn_nI (by omega), cn_nI (by omega)]
  by_cases h0 : σ.2.1 6 k = 0
  · by_cases h1 : 100000 < σ.2.1 11 (30 * s + i) + σ.2.1 9 k
    · simp (disch := omega) only [f_Mdl_take, f_Mdl_take_b302, ei, ec, h0, h1, ↓mg0, ↓mg1, ↓mg2, ↓mg3, ↓mg26, ↓mp0, ↓mp1, ↓mp2, ↓mp3, ↓mp26, ↓mg4, ↓mg5, ↓mg6, ↓mg7, ↓mg8, ↓mg9, ↓mg10, ↓mg11, ↓mg12, ↓mg13, ↓mg14, ↓mg15, ↓mg16, ↓mg17, ↓mg18, ↓mg19, ↓mg20, ↓mg21, ↓mg22, ↓mg23, ↓mg24, ↓mg25, ↓mg27, ↓mg28, ↓mg29, ↓mg30, ↓mg31, ↓mg32, ↓mg33, ↓mg34, ↓mg35, ↓mg36, ↓mg37, ↓mg38, ↓ml4, ↓ms4, ↓ml5, ↓ms5, ↓ml6, ↓ms6, ↓ml7, ↓ms7, ↓ml8, ↓ms8, ↓ml9, ↓ms9, ↓ml10, ↓ms10, ↓ml11, ↓ms11, ↓ml12, ↓ms12, ↓ml13, ↓ms13, ↓ml14, ↓ms14, ↓ml15, ↓ms15, ↓ml16, ↓ms16, ↓ml17, ↓ms17, ↓ml18, ↓ms18, ↓ml19, ↓ms19, ↓ml20, ↓ms20, ↓ml21, ↓ml22, ↓ms22, ↓ml23, ↓ms23, ↓ml24, ↓ms24, ↓ml25, ↓ms25, ↓ml27, ↓ms27, ↓ml28, ↓ms28, ↓ml29, ↓ms29, ↓ml30, ↓ms30, ↓ml31, ↓ms31, ↓ml32, ↓ms32, ↓ml33, ↓ms33, ↓ml34, ↓ms34, ↓ml35, ↓ms35, ↓ml36, ↓ms36, ↓ml37, ↓ms37, ↓ml38, ↓ms38, ↓m_xv, ↓xb, ↓xr, ml4, ms4, ml5, ms5, ml6, ms6, ml7, ms7, ml8, ms8, ml9, ms9, ml10, ms10, ml11, ms11, ml12, ms12, ml13, ms13, ml14, ms14, ml15, ms15, ml16, ms16, ml17, ms17, ml18, ms18, ml19, ms19, ml20, ms20, ml21, ml22, ms22, ml23, ms23, ml24, ms24, ml25, ms25, ml27, ms27, ml28, ms28, ml29, ms29, ml30, ms30, ml31, ms31, ml32, ms32, ml33, ms33, ml34, ms34, ml35, ms35, ml36, ms36, ml37, ms37, ml38, ms38, n3, n30, n10, n300, n401, n4p, np1, np2, nI_add, ↓reduceIte]
    · simp (disch := omega) only [f_Mdl_take, f_Mdl_take_b302, ei, ec, h0, h1, ↓mg0, ↓mg1, ↓mg2, ↓mg3, ↓mg26, ↓mp0, ↓mp1, ↓mp2, ↓mp3, ↓mp26, ↓mg4, ↓mg5, ↓mg6, ↓mg7, ↓mg8, ↓mg9, ↓mg10, ↓mg11, ↓mg12, ↓mg13, ↓mg14, ↓mg15, ↓mg16, ↓mg17, ↓mg18, ↓mg19, ↓mg20, ↓mg21, ↓mg22, ↓mg23, ↓mg24, ↓mg25, ↓mg27, ↓mg28, ↓mg29, ↓mg30, ↓mg31, ↓mg32, ↓mg33, ↓mg34, ↓mg35, ↓mg36, ↓mg37, ↓mg38, ↓ml4, ↓ms4, ↓ml5, ↓ms5, ↓ml6, ↓ms6, ↓ml7, ↓ms7, ↓ml8, ↓ms8, ↓ml9, ↓ms9, ↓ml10, ↓ms10, ↓ml11, ↓ms11, ↓ml12, ↓ms12, ↓ml13, ↓ms13, ↓ml14, ↓ms14, ↓ml15, ↓ms15, ↓ml16, ↓ms16, ↓ml17, ↓ms17, ↓ml18, ↓ms18, ↓ml19, ↓ms19, ↓ml20, ↓ms20, ↓ml21, ↓ml22, ↓ms22, ↓ml23, ↓ms23, ↓ml24, ↓ms24, ↓ml25, ↓ms25, ↓ml27, ↓ms27, ↓ml28, ↓ms28, ↓ml29, ↓ms29, ↓ml30, ↓ms30, ↓ml31, ↓ms31, ↓ml32, ↓ms32, ↓ml33, ↓ms33, ↓ml34, ↓ms34, ↓ml35, ↓ms35, ↓ml36, ↓ms36, ↓ml37, ↓ms37, ↓ml38, ↓ms38, ↓m_xv, ↓xb, ↓xr, ml4, ms4, ml5, ms5, ml6, ms6, ml7, ms7, ml8, ms8, ml9, ms9, ml10, ms10, ml11, ms11, ml12, ms12, ml13, ms13, ml14, ms14, ml15, ms15, ml16, ms16, ml17, ms17, ml18, ms18, ml19, ms19, ml20, ms20, ml21, ml22, ms22, ml23, ms23, ml24, ms24, ml25, ms25, ml27, ms27, ml28, ms28, ml29, ms29, ml30, ms30, ml31, ms31, ml32, ms32, ml33, ms33, ml34, ms34, ml35, ms35, ml36, ms36, ml37, ms37, ml38, ms38, n3, n30, n10, n300, n401, n4p, np1, np2, nI_add, ↓reduceIte]
  by_cases h1 : σ.2.1 6 k = 1
  · by_cases h2 : σ.2.1 11 (30 * s + i) - σ.2.1 12 (30 * s + i) < σ.2.1 9 k
    · simp (disch := omega) only [f_Mdl_take, f_Mdl_take_b302, ei, ec, h1, h2, show ¬ (1 : Int32) = 0 by decide, ↓mg0, ↓mg1, ↓mg2, ↓mg3, ↓mg26, ↓mp0, ↓mp1, ↓mp2, ↓mp3, ↓mp26, ↓mg4, ↓mg5, ↓mg6, ↓mg7, ↓mg8, ↓mg9, ↓mg10, ↓mg11, ↓mg12, ↓mg13, ↓mg14, ↓mg15, ↓mg16, ↓mg17, ↓mg18, ↓mg19, ↓mg20, ↓mg21, ↓mg22, ↓mg23, ↓mg24, ↓mg25, ↓mg27, ↓mg28, ↓mg29, ↓mg30, ↓mg31, ↓mg32, ↓mg33, ↓mg34, ↓mg35, ↓mg36, ↓mg37, ↓mg38, ↓ml4, ↓ms4, ↓ml5, ↓ms5, ↓ml6, ↓ms6, ↓ml7, ↓ms7, ↓ml8, ↓ms8, ↓ml9, ↓ms9, ↓ml10, ↓ms10, ↓ml11, ↓ms11, ↓ml12, ↓ms12, ↓ml13, ↓ms13, ↓ml14, ↓ms14, ↓ml15, ↓ms15, ↓ml16, ↓ms16, ↓ml17, ↓ms17, ↓ml18, ↓ms18, ↓ml19, ↓ms19, ↓ml20, ↓ms20, ↓ml21, ↓ml22, ↓ms22, ↓ml23, ↓ms23, ↓ml24, ↓ms24, ↓ml25, ↓ms25, ↓ml27, ↓ms27, ↓ml28, ↓ms28, ↓ml29, ↓ms29, ↓ml30, ↓ms30, ↓ml31, ↓ms31, ↓ml32, ↓ms32, ↓ml33, ↓ms33, ↓ml34, ↓ms34, ↓ml35, ↓ms35, ↓ml36, ↓ms36, ↓ml37, ↓ms37, ↓ml38, ↓ms38, ↓m_xv, ↓xb, ↓xr, ml4, ms4, ml5, ms5, ml6, ms6, ml7, ms7, ml8, ms8, ml9, ms9, ml10, ms10, ml11, ms11, ml12, ms12, ml13, ms13, ml14, ms14, ml15, ms15, ml16, ms16, ml17, ms17, ml18, ms18, ml19, ms19, ml20, ms20, ml21, ml22, ms22, ml23, ms23, ml24, ms24, ml25, ms25, ml27, ms27, ml28, ms28, ml29, ms29, ml30, ms30, ml31, ms31, ml32, ms32, ml33, ms33, ml34, ms34, ml35, ms35, ml36, ms36, ml37, ms37, ml38, ms38, n3, n30, n10, n300, n401, n4p, np1, np2, nI_add, ↓reduceIte]
    · simp (disch := omega) only [f_Mdl_take, f_Mdl_take_b302, ei, ec, h1, h2, show ¬ (1 : Int32) = 0 by decide, ↓mg0, ↓mg1, ↓mg2, ↓mg3, ↓mg26, ↓mp0, ↓mp1, ↓mp2, ↓mp3, ↓mp26, ↓mg4, ↓mg5, ↓mg6, ↓mg7, ↓mg8, ↓mg9, ↓mg10, ↓mg11, ↓mg12, ↓mg13, ↓mg14, ↓mg15, ↓mg16, ↓mg17, ↓mg18, ↓mg19, ↓mg20, ↓mg21, ↓mg22, ↓mg23, ↓mg24, ↓mg25, ↓mg27, ↓mg28, ↓mg29, ↓mg30, ↓mg31, ↓mg32, ↓mg33, ↓mg34, ↓mg35, ↓mg36, ↓mg37, ↓mg38, ↓ml4, ↓ms4, ↓ml5, ↓ms5, ↓ml6, ↓ms6, ↓ml7, ↓ms7, ↓ml8, ↓ms8, ↓ml9, ↓ms9, ↓ml10, ↓ms10, ↓ml11, ↓ms11, ↓ml12, ↓ms12, ↓ml13, ↓ms13, ↓ml14, ↓ms14, ↓ml15, ↓ms15, ↓ml16, ↓ms16, ↓ml17, ↓ms17, ↓ml18, ↓ms18, ↓ml19, ↓ms19, ↓ml20, ↓ms20, ↓ml21, ↓ml22, ↓ms22, ↓ml23, ↓ms23, ↓ml24, ↓ms24, ↓ml25, ↓ms25, ↓ml27, ↓ms27, ↓ml28, ↓ms28, ↓ml29, ↓ms29, ↓ml30, ↓ms30, ↓ml31, ↓ms31, ↓ml32, ↓ms32, ↓ml33, ↓ms33, ↓ml34, ↓ms34, ↓ml35, ↓ms35, ↓ml36, ↓ms36, ↓ml37, ↓ms37, ↓ml38, ↓ms38, ↓m_xv, ↓xb, ↓xr, ml4, ms4, ml5, ms5, ml6, ms6, ml7, ms7, ml8, ms8, ml9, ms9, ml10, ms10, ml11, ms11, ml12, ms12, ml13, ms13, ml14, ms14, ml15, ms15, ml16, ms16, ml17, ms17, ml18, ms18, ml19, ms19, ml20, ms20, ml21, ml22, ms22, ml23, ms23, ml24, ms24, ml25, ms25, ml27, ms27, ml28, ms28, ml29, ms29, ml30, ms30, ml31, ms31, ml32, ms32, ml33, ms33, ml34, ms34, ml35, ms35, ml36, ms36, ml37, ms37, ml38, ms38, n3, n30, n10, n300, n401, n4p, np1, np2, nI_add, ↓reduceIte]
      rfl
  by_cases h2 : σ.2.1 6 k = 2
  · by_cases h3 : σ.2.1 9 k ≤ σ.2.1 15 (30 * (10 * s + c) + i)
    · simp (disch := omega) only [f_Mdl_take, f_Mdl_take_b302, ei, ec, h2, h3, show ¬ (2 : Int32) = 0 by decide, show ¬ (2 : Int32) = 1 by decide, ↓mg0, ↓mg1, ↓mg2, ↓mg3, ↓mg26, ↓mp0, ↓mp1, ↓mp2, ↓mp3, ↓mp26, ↓mg4, ↓mg5, ↓mg6, ↓mg7, ↓mg8, ↓mg9, ↓mg10, ↓mg11, ↓mg12, ↓mg13, ↓mg14, ↓mg15, ↓mg16, ↓mg17, ↓mg18, ↓mg19, ↓mg20, ↓mg21, ↓mg22, ↓mg23, ↓mg24, ↓mg25, ↓mg27, ↓mg28, ↓mg29, ↓mg30, ↓mg31, ↓mg32, ↓mg33, ↓mg34, ↓mg35, ↓mg36, ↓mg37, ↓mg38, ↓ml4, ↓ms4, ↓ml5, ↓ms5, ↓ml6, ↓ms6, ↓ml7, ↓ms7, ↓ml8, ↓ms8, ↓ml9, ↓ms9, ↓ml10, ↓ms10, ↓ml11, ↓ms11, ↓ml12, ↓ms12, ↓ml13, ↓ms13, ↓ml14, ↓ms14, ↓ml15, ↓ms15, ↓ml16, ↓ms16, ↓ml17, ↓ms17, ↓ml18, ↓ms18, ↓ml19, ↓ms19, ↓ml20, ↓ms20, ↓ml21, ↓ml22, ↓ms22, ↓ml23, ↓ms23, ↓ml24, ↓ms24, ↓ml25, ↓ms25, ↓ml27, ↓ms27, ↓ml28, ↓ms28, ↓ml29, ↓ms29, ↓ml30, ↓ms30, ↓ml31, ↓ms31, ↓ml32, ↓ms32, ↓ml33, ↓ms33, ↓ml34, ↓ms34, ↓ml35, ↓ms35, ↓ml36, ↓ms36, ↓ml37, ↓ms37, ↓ml38, ↓ms38, ↓m_xv, ↓xb, ↓xr, ml4, ms4, ml5, ms5, ml6, ms6, ml7, ms7, ml8, ms8, ml9, ms9, ml10, ms10, ml11, ms11, ml12, ms12, ml13, ms13, ml14, ms14, ml15, ms15, ml16, ms16, ml17, ms17, ml18, ms18, ml19, ms19, ml20, ms20, ml21, ml22, ms22, ml23, ms23, ml24, ms24, ml25, ms25, ml27, ms27, ml28, ms28, ml29, ms29, ml30, ms30, ml31, ms31, ml32, ms32, ml33, ms33, ml34, ms34, ml35, ms35, ml36, ms36, ml37, ms37, ml38, ms38, n3, n30, n10, n300, n401, n4p, np1, np2, nI_add, ↓reduceIte]
      rfl
    · simp (disch := omega) only [f_Mdl_take, f_Mdl_take_b302, ei, ec, h2, h3, show ¬ (2 : Int32) = 0 by decide, show ¬ (2 : Int32) = 1 by decide, ↓mg0, ↓mg1, ↓mg2, ↓mg3, ↓mg26, ↓mp0, ↓mp1, ↓mp2, ↓mp3, ↓mp26, ↓mg4, ↓mg5, ↓mg6, ↓mg7, ↓mg8, ↓mg9, ↓mg10, ↓mg11, ↓mg12, ↓mg13, ↓mg14, ↓mg15, ↓mg16, ↓mg17, ↓mg18, ↓mg19, ↓mg20, ↓mg21, ↓mg22, ↓mg23, ↓mg24, ↓mg25, ↓mg27, ↓mg28, ↓mg29, ↓mg30, ↓mg31, ↓mg32, ↓mg33, ↓mg34, ↓mg35, ↓mg36, ↓mg37, ↓mg38, ↓ml4, ↓ms4, ↓ml5, ↓ms5, ↓ml6, ↓ms6, ↓ml7, ↓ms7, ↓ml8, ↓ms8, ↓ml9, ↓ms9, ↓ml10, ↓ms10, ↓ml11, ↓ms11, ↓ml12, ↓ms12, ↓ml13, ↓ms13, ↓ml14, ↓ms14, ↓ml15, ↓ms15, ↓ml16, ↓ms16, ↓ml17, ↓ms17, ↓ml18, ↓ms18, ↓ml19, ↓ms19, ↓ml20, ↓ms20, ↓ml21, ↓ml22, ↓ms22, ↓ml23, ↓ms23, ↓ml24, ↓ms24, ↓ml25, ↓ms25, ↓ml27, ↓ms27, ↓ml28, ↓ms28, ↓ml29, ↓ms29, ↓ml30, ↓ms30, ↓ml31, ↓ms31, ↓ml32, ↓ms32, ↓ml33, ↓ms33, ↓ml34, ↓ms34, ↓ml35, ↓ms35, ↓ml36, ↓ms36, ↓ml37, ↓ms37, ↓ml38, ↓ms38, ↓m_xv, ↓xb, ↓xr, ml4, ms4, ml5, ms5, ml6, ms6, ml7, ms7, ml8, ms8, ml9, ms9, ml10, ms10, ml11, ms11, ml12, ms12, ml13, ms13, ml14, ms14, ml15, ms15, ml16, ms16, ml17, ms17, ml18, ms18, ml19, ms19, ml20, ms20, ml21, ml22, ms22, ml23, ms23, ml24, ms24, ml25, ms25, ml27, ms27, ml28, ms28, ml29, ms29, ml30, ms30, ml31, ms31, ml32, ms32, ml33, ms33, ml34, ms34, ml35, ms35, ml36, ms36, ml37, ms37, ml38, ms38, n3, n30, n10, n300, n401, n4p, np1, np2, nI_add, ↓reduceIte]
  by_cases h3 : σ.2.1 6 k = 3
  · simp (disch := omega) only [f_Mdl_take, f_Mdl_take_b302, ei, ec, h3, show ¬ (3 : Int32) = 0 by decide, show ¬ (3 : Int32) = 1 by decide, show ¬ (3 : Int32) = 2 by decide, s_lesser, ↓mg0, ↓mg1, ↓mg2, ↓mg3, ↓mg26, ↓mp0, ↓mp1, ↓mp2, ↓mp3, ↓mp26, ↓mg4, ↓mg5, ↓mg6, ↓mg7, ↓mg8, ↓mg9, ↓mg10, ↓mg11, ↓mg12, ↓mg13, ↓mg14, ↓mg15, ↓mg16, ↓mg17, ↓mg18, ↓mg19, ↓mg20, ↓mg21, ↓mg22, ↓mg23, ↓mg24, ↓mg25, ↓mg27, ↓mg28, ↓mg29, ↓mg30, ↓mg31, ↓mg32, ↓mg33, ↓mg34, ↓mg35, ↓mg36, ↓mg37, ↓mg38, ↓ml4, ↓ms4, ↓ml5, ↓ms5, ↓ml6, ↓ms6, ↓ml7, ↓ms7, ↓ml8, ↓ms8, ↓ml9, ↓ms9, ↓ml10, ↓ms10, ↓ml11, ↓ms11, ↓ml12, ↓ms12, ↓ml13, ↓ms13, ↓ml14, ↓ms14, ↓ml15, ↓ms15, ↓ml16, ↓ms16, ↓ml17, ↓ms17, ↓ml18, ↓ms18, ↓ml19, ↓ms19, ↓ml20, ↓ms20, ↓ml21, ↓ml22, ↓ms22, ↓ml23, ↓ms23, ↓ml24, ↓ms24, ↓ml25, ↓ms25, ↓ml27, ↓ms27, ↓ml28, ↓ms28, ↓ml29, ↓ms29, ↓ml30, ↓ms30, ↓ml31, ↓ms31, ↓ml32, ↓ms32, ↓ml33, ↓ms33, ↓ml34, ↓ms34, ↓ml35, ↓ms35, ↓ml36, ↓ms36, ↓ml37, ↓ms37, ↓ml38, ↓ms38, ↓m_xv, ↓xb, ↓xr, ml4, ms4, ml5, ms5, ml6, ms6, ml7, ms7, ml8, ms8, ml9, ms9, ml10, ms10, ml11, ms11, ml12, ms12, ml13, ms13, ml14, ms14, ml15, ms15, ml16, ms16, ml17, ms17, ml18, ms18, ml19, ms19, ml20, ms20, ml21, ml22, ms22, ml23, ms23, ml24, ms24, ml25, ms25, ml27, ms27, ml28, ms28, ml29, ms29, ml30, ms30, ml31, ms31, ml32, ms32, ml33, ms33, ml34, ms34, ml35, ms35, ml36, ms36, ml37, ms37, ml38, ms38, n3, n30, n10, n300, n401, n4p, np1, np2, nI_add, ↓reduceIte]
    rfl
  simp (disch := omega) only [f_Mdl_take, f_Mdl_take_b302, ei, ec, h0, h1, h2, h3, ↓mg0, ↓mg1, ↓mg2, ↓mg3, ↓mg26, ↓mp0, ↓mp1, ↓mp2, ↓mp3, ↓mp26, ↓mg4, ↓mg5, ↓mg6, ↓mg7, ↓mg8, ↓mg9, ↓mg10, ↓mg11, ↓mg12, ↓mg13, ↓mg14, ↓mg15, ↓mg16, ↓mg17, ↓mg18, ↓mg19, ↓mg20, ↓mg21, ↓mg22, ↓mg23, ↓mg24, ↓mg25, ↓mg27, ↓mg28, ↓mg29, ↓mg30, ↓mg31, ↓mg32, ↓mg33, ↓mg34, ↓mg35, ↓mg36, ↓mg37, ↓mg38, ↓ml4, ↓ms4, ↓ml5, ↓ms5, ↓ml6, ↓ms6, ↓ml7, ↓ms7, ↓ml8, ↓ms8, ↓ml9, ↓ms9, ↓ml10, ↓ms10, ↓ml11, ↓ms11, ↓ml12, ↓ms12, ↓ml13, ↓ms13, ↓ml14, ↓ms14, ↓ml15, ↓ms15, ↓ml16, ↓ms16, ↓ml17, ↓ms17, ↓ml18, ↓ms18, ↓ml19, ↓ms19, ↓ml20, ↓ms20, ↓ml21, ↓ml22, ↓ms22, ↓ml23, ↓ms23, ↓ml24, ↓ms24, ↓ml25, ↓ms25, ↓ml27, ↓ms27, ↓ml28, ↓ms28, ↓ml29, ↓ms29, ↓ml30, ↓ms30, ↓ml31, ↓ms31, ↓ml32, ↓ms32, ↓ml33, ↓ms33, ↓ml34, ↓ms34, ↓ml35, ↓ms35, ↓ml36, ↓ms36, ↓ml37, ↓ms37, ↓ml38, ↓ms38, ↓m_xv, ↓xb, ↓xr, ml4, ms4, ml5, ms5, ml6, ms6, ml7, ms7, ml8, ms8, ml9, ms9, ml10, ms10, ml11, ms11, ml12, ms12, ml13, ms13, ml14, ms14, ml15, ms15, ml16, ms16, ml17, ms17, ml18, ms18, ml19, ms19, ml20, ms20, ml21, ml22, ms22, ml23, ms23, ml24, ms24, ml25, ms25, ml27, ms27, ml28, ms28, ml29, ms29, ml30, ms30, ml31, ms31, ml32, ms32, ml33, ms33, ml34, ms34, ml35, ms35, ml36, ms36, ml37, ms37, ml38, ms38, n3, n30, n10, n300, n401, n4p, np1, np2, nI_add, ↓reduceIte]
end XMV
