/-! the model's answers -/
def heldS (σ : xS) (c : Nat) : Nat → Int64
  | 0 => 0
  | k + 1 => heldS σ c k + (σ.2.1 15 (30 * c + k)).toInt64
def worthS (P : Nat) (σ : xS) (r : Nat) (a : Int32) : Nat → Int64
  | 0 => 0
  | k + 1 => if a < 0 ∨ nI (k % P) = a then worthS P σ r a k + (σ.2.1 11 (30 * r + k)).toInt64 * (σ.2.1 14 (30 * r + k)).toInt64 else worthS P σ r a k
/-- item j stands before item k -/
def bef (σ : xS) (r k j : Nat) : Bool := decide (σ.2.1 13 (30 * r + k) < σ.2.1 13 (30 * r + j) ∨ (σ.2.1 13 (30 * r + j) = σ.2.1 13 (30 * r + k) ∧ j < k))
def befs (σ : xS) (r k : Nat) : Nat → Nat
  | 0 => 0
  | j + 1 => befs σ r k j + if bef σ r k j then 1 else 0
def rankS (σ : xS) (r a : Nat) : Nat → Nat
  | 0 => 0
  | k + 1 => if befs σ r k 30 = a then k else rankS σ r a k
def cn (x : Int32) : Nat := x.toNatClampNeg
theorem cn_nI {n : Nat} (h : n < 2 ^ 31) : cn (nI n) = n := nI_clamp h
def tellS (P : Nat) (σ : xS) (r : Nat) (kd a : Int32) : Int64 :=
  if kd = 0 then (σ.2.1 11 (30 * r + cn a)).toInt64 else
  if kd = 1 then (σ.2.1 12 (30 * r + cn a)).toInt64 else
  if kd = 2 then (σ.2.1 13 (30 * r + cn a)).toInt64 else
  if kd = 3 then (σ.2.1 14 (30 * r + cn a)).toInt64 else
  if kd = 4 then σ.2.2 16 (10 * r + cn a) else
  if kd = 5 then heldS σ (10 * r + cn a) 30 else
  if kd = 6 then (σ.2.1 17 (10 * r + cn a)).toInt64 else
  if kd = 7 then (nI (rankS σ r (cn a) 30)).toInt64 else worthS P σ r a 30
/-- a question that may be asked -/
def qok (P : Nat) (kd a : Int32) : Prop := ∃ k, k ≤ 8 ∧ kd = nI k ∧ (((k < 4 ∨ k = 7) ∧ ∃ i, i < 30 ∧ a = nI i) ∨ ((4 ≤ k ∧ k < 7) ∧ ∃ i, i < 10 ∧ a = nI i) ∨ (k = 8 ∧ (a = -1 ∨ ∃ i, i < P ∧ a = nI i)))
theorem befs_le (σ : xS) (r k n : Nat) : befs σ r k n ≤ n := by
  induction n with
  | zero => exact Nat.le_refl _
  | succ n ih =>
    simp only [befs]
    split <;> omega
theorem rankS_lt (σ : xS) (r a n : Nat) (hn : 0 < n) : rankS σ r a n < n := by
  induction n with
  | zero => omega
  | succ n ih =>
    simp only [rankS]
    split
    · omega
    · rcases Nat.eq_zero_or_pos n with h | h
      · subst h
        simp [rankS]
      · have := ih h
        omega
/-- few enough were sold -/
def sok (σ : xS) (r : Nat) : Prop := ∀ i, i < 30 → ∃ v, v < 2 ^ 30 ∧ σ.2.1 13 (30 * r + i) = nI v
theorem more_iff {σ : xS} {r : Nat} (hs : sok σ r) {j k : Nat} (hj : j < 30) (hk : k < 30) : ((0 : Int32) < σ.2.1 13 (30 * r + j) - σ.2.1 13 (30 * r + k) ↔ σ.2.1 13 (30 * r + k) < σ.2.1 13 (30 * r + j)) ∧ (σ.2.1 13 (30 * r + j) - σ.2.1 13 (30 * r + k) = 0 ↔ σ.2.1 13 (30 * r + j) = σ.2.1 13 (30 * r + k)) := by
  obtain ⟨a, ha, ea⟩ := hs j hj
  obtain ⟨b, hb, eb⟩ := hs k hk
  rw [ea, eb, Int32.lt_iff_toInt_lt, ← Int32.toInt_inj, pk_sub_toInt ha hb, nI_ltI (by omega) (by omega), nI_eq (by omega) (by omega)]
  constructor
  · show (0 : Int) < _ ↔ _
    omega
  · show _ = (0 : Int) ↔ _
    omega
section XMT
variable {h : xH} {m : Nat} {σ : xS} {P N : Nat}
theorem s_held {c : Nat} (hc : c < 80) : f_Mdl_tell_h115 1000 m (nI c) 0 0 (em h m σ) = some (.inl (heldS σ c 30), em h m σ) := by
  have key : ∀ d k n, k + d = 30 → d < n → f_Mdl_tell_h115 n m (nI c) (heldS σ c k) (nI k) (em h m σ) = some (.inl (heldS σ c 30), em h m σ) := by
    intro d
    induction d with
    | zero =>
      intro k n hk hn
      obtain ⟨n, rfl, -⟩ := pos_of hn
      obtain rfl : k = 30 := by omega
      have c1 : (30 : Int32) ≤ nI 30 := by decide
      simp only [f_Mdl_tell_h115, f_Mdl_tell_b115, c1, ↓mg0, ↓mg1, ↓mg2, ↓mg3, ↓mg26, ↓mp0, ↓mp1, ↓mp2, ↓mp3, ↓mp26, ↓mg4, ↓mg5, ↓mg6, ↓mg7, ↓mg8, ↓mg9, ↓mg10, ↓mg11, ↓mg12, ↓mg13, ↓mg14, ↓mg15, ↓mg16, ↓mg17, ↓mg18, ↓mg19, ↓mg20, ↓mg21, ↓mg22, ↓mg23, ↓mg24, ↓mg25, ↓mg27, ↓mg28, ↓mg29, ↓mg30, ↓mg31, ↓mg32, ↓mg33, ↓mg34, ↓mg35, ↓mg36, ↓mg37, ↓mg38, ↓ml4, ↓ms4, ↓ml5, ↓ms5, ↓ml6, ↓ms6, ↓ml7, ↓ms7, ↓ml8, ↓ms8, ↓ml9, ↓ms9, ↓ml10, ↓ms10, ↓ml11, ↓ms11, ↓ml12, ↓ms12, ↓ml13, ↓ms13, ↓ml14, ↓ms14, ↓ml15, ↓ms15, ↓ml16, ↓ms16, ↓ml17, ↓ms17, ↓ml18, ↓ms18, ↓ml19, ↓ms19, ↓ml20, ↓ms20, ↓ml21, ↓ml22, ↓ms22, ↓ml23, ↓ms23, ↓ml24, ↓ms24, ↓ml25, ↓ms25, ↓ml27, ↓ms27, ↓ml28, ↓ms28, ↓ml29, ↓ms29, ↓ml30, ↓ms30, ↓ml31, ↓ms31, ↓ml32, ↓ms32, ↓ml33, ↓ms33, ↓ml34, ↓ms34, ↓ml35, ↓ms35, ↓ml36, ↓ms36, ↓ml37, ↓ms37, ↓ml38, ↓ms38, ↓m_xv, ↓xb, ↓xr, ml4, ms4, ml5, ms5, ml6, ms6, ml7, ms7, ml8, ms8, ml9, ms9, ml10, ms10, ml11, ms11, ml12, ms12, ml13, ms13, ml14, ms14, ml15, ms15, ml16, ms16, ml17, ms17, ml18, ms18, ml19, ms19, ml20, ms20, ml21, ml22, ms22, ml23, ms23, ml24, ms24, ml25, ms25, ml27, ms27, ml28, ms28, ml29, ms29, ml30, ms30, ml31, ms31, ml32, ms32, ml33, ms33, ml34, ms34, ml35, ms35, ml36, ms36, ml37, ms37, ml38, ms38, n3, n30, n10, n300, n401, n4p, np1, np2, nI_add, ↓reduceIte]
    | succ d ih =>
      intro k n hk hn
      obtain ⟨n, rfl, hn⟩ := pos_of hn
      have c1 : ¬ (30 : Int32) ≤ nI k := nI_ge (b := 30) (by omega) (by omega)
      simp (disch := omega) only [f_Mdl_tell_h115, f_Mdl_tell_b115, c1, ↓mg0, ↓mg1, ↓mg2, ↓mg3, ↓mg26, ↓mp0, ↓mp1, ↓mp2, ↓mp3, ↓mp26, ↓mg4, ↓mg5, ↓mg6, ↓mg7, ↓mg8, ↓mg9, ↓mg10, ↓mg11, ↓mg12, ↓mg13, ↓mg14, ↓mg15, ↓mg16, ↓mg17, ↓mg18, ↓mg19, ↓mg20, ↓mg21, ↓mg22, ↓mg23, ↓mg24, ↓mg25, ↓mg27, ↓mg28, ↓mg29, ↓mg30, ↓mg31, ↓mg32, ↓mg33, ↓mg34, ↓mg35, ↓mg36, ↓mg37, ↓mg38, ↓ml4, ↓ms4, ↓ml5, ↓ms5, ↓ml6, ↓ms6, ↓ml7, ↓ms7, ↓ml8, ↓ms8, ↓ml9, ↓ms9, ↓ml10, ↓ms10, ↓ml11, ↓ms11, ↓ml12, ↓ms12, ↓ml13, ↓ms13, ↓ml14, ↓ms14, ↓ml15, ↓ms15, ↓ml16, ↓ms16, ↓ml17, ↓ms17, ↓ml18, ↓ms18, ↓ml19, ↓ms19, ↓ml20, ↓ms20, ↓ml21, ↓ml22, ↓ms22, ↓ml23, ↓ms23, ↓ml24, ↓ms24, ↓ml25, ↓ms25, ↓ml27, ↓ms27, ↓ml28, ↓ms28, ↓ml29, ↓ms29, ↓ml30, ↓ms30, ↓ml31, ↓ms31, ↓ml32, ↓ms32, ↓ml33, ↓ms33, ↓ml34, ↓ms34, ↓ml35, ↓ms35, ↓ml36, ↓ms36, ↓ml37, ↓ms37, ↓ml38, ↓ms38, ↓m_xv, ↓xb, ↓xr, ml4, ms4, ml5, ms5, ml6, ms6, ml7, ms7, ml8, ms8, ml9, ms9, ml10, ms10, ml11, ms11, ml12, ms12, ml13, ms13, ml14, ms14, ml15, ms15, ml16, ms16, ml17, ms17, ml18, ms18, ml19, ms19, ml20, ms20, ml21, ml22, ms22, ml23, ms23, ml24, ms24, ml25, ms25, ml27, ms27, ml28, ms28, ml29, ms29, ml30, ms30, ml31, ms31, ml32, ms32, ml33, ms33, ml34, ms34, ml35, ms35, ml36, ms36, ml37, ms37, ml38, ms38, n3, n30, n10, n300, n401, n4p, np1, np2, nI_add, ↓reduceIte]
      exact ih (k + 1) n (by omega) (by omega)
  exact key 30 0 1000 (by omega) (by omega)
theorem s_worth {r : Nat} {a : Int32} (hP : σ.1 0 = nI P) (hP1 : 1 ≤ P) (hP3 : P ≤ 3) (hr : r < 8) : f_Mdl_tell_h170 1000 m (nI r) a 0 0 (em h m σ) = some (.inl (worthS P σ r a 30), em h m σ) := by
  have key : ∀ d k n, k + d = 30 → d < n → f_Mdl_tell_h170 n m (nI r) a (worthS P σ r a k) (nI k) (em h m σ) = some (.inl (worthS P σ r a 30), em h m σ) := by
    intro d
    induction d with
    | zero =>
      intro k n hk hn
      obtain ⟨n, rfl, -⟩ := pos_of hn
      obtain rfl : k = 30 := by omega
      have c1 : (30 : Int32) ≤ nI 30 := by decide
      simp only [f_Mdl_tell_h170, f_Mdl_tell_b170, c1, ↓mg0, ↓mg1, ↓mg2, ↓mg3, ↓mg26, ↓mp0, ↓mp1, ↓mp2, ↓mp3, ↓mp26, ↓mg4, ↓mg5, ↓mg6, ↓mg7, ↓mg8, ↓mg9, ↓mg10, ↓mg11, ↓mg12, ↓mg13, ↓mg14, ↓mg15, ↓mg16, ↓mg17, ↓mg18, ↓mg19, ↓mg20, ↓mg21, ↓mg22, ↓mg23, ↓mg24, ↓mg25, ↓mg27, ↓mg28, ↓mg29, ↓mg30, ↓mg31, ↓mg32, ↓mg33, ↓mg34, ↓mg35, ↓mg36, ↓mg37, ↓mg38, ↓ml4, ↓ms4, ↓ml5, ↓ms5, ↓ml6, ↓ms6, ↓ml7, ↓ms7, ↓ml8, ↓ms8, ↓ml9, ↓ms9, ↓ml10, ↓ms10, ↓ml11, ↓ms11, ↓ml12, ↓ms12, ↓ml13, ↓ms13, ↓ml14, ↓ms14, ↓ml15, ↓ms15, ↓ml16, ↓ms16, ↓ml17, ↓ms17, ↓ml18, ↓ms18, ↓ml19, ↓ms19, ↓ml20, ↓ms20, ↓ml21, ↓ml22, ↓ms22, ↓ml23, ↓ms23, ↓ml24, ↓ms24, ↓ml25, ↓ms25, ↓ml27, ↓ms27, ↓ml28, ↓ms28, ↓ml29, ↓ms29, ↓ml30, ↓ms30, ↓ml31, ↓ms31, ↓ml32, ↓ms32, ↓ml33, ↓ms33, ↓ml34, ↓ms34, ↓ml35, ↓ms35, ↓ml36, ↓ms36, ↓ml37, ↓ms37, ↓ml38, ↓ms38, ↓m_xv, ↓xb, ↓xr, ml4, ms4, ml5, ms5, ml6, ms6, ml7, ms7, ml8, ms8, ml9, ms9, ml10, ms10, ml11, ms11, ml12, ms12, ml13, ms13, ml14, ms14, ml15, ms15, ml16, ms16, ml17, ms17, ml18, ms18, ml19, ms19, ml20, ms20, ml21, ml22, ms22, ml23, ms23, ml24, ms24, ml25, ms25, ml27, ms27, ml28, ms28, ml29, ms29, ml30, ms30, ml31, ms31, ml32, ms32, ml33, ms33, ml34, ms34, ml35, ms35, ml36, ms36, ml37, ms37, ml38, ms38, n3, n30, n10, n300, n401, n4p, np1, np2, nI_add, ↓reduceIte]
    | succ d ih =>
      intro k n hk hn
      obtain ⟨n, rfl, hn⟩ := pos_of hn
      have c1 : ¬ (30 : Int32) ≤ nI k := nI_ge (b := 30) (by omega) (by omega)
      have c2 : ¬ nI P = 0 := nI_ne0 (by omega) (by omega)
      have i1 := ih (k + 1) n (by omega) (by omega)
      by_cases h1 : a < 0
      · simp (disch := omega) only [f_Mdl_tell_h170, f_Mdl_tell_b170, f_Mdl_tell_b192, f_Mdl_tell_b224, c1, h1, ↓mg0, ↓mg1, ↓mg2, ↓mg3, ↓mg26, ↓mp0, ↓mp1, ↓mp2, ↓mp3, ↓mp26, ↓mg4, ↓mg5, ↓mg6, ↓mg7, ↓mg8, ↓mg9, ↓mg10, ↓mg11, ↓mg12, ↓mg13, ↓mg14, ↓mg15, ↓mg16, ↓mg17, ↓mg18, ↓mg19, ↓mg20, ↓mg21, ↓mg22, ↓mg23, ↓mg24, ↓mg25, ↓mg27, ↓mg28, ↓mg29, ↓mg30, ↓mg31, ↓mg32, ↓mg33, ↓mg34, ↓mg35, ↓mg36, ↓mg37, ↓mg38, ↓ml4, ↓ms4, ↓ml5, ↓ms5, ↓ml6, ↓ms6, ↓ml7, ↓ms7, ↓ml8, ↓ms8, ↓ml9, ↓ms9, ↓ml10, ↓ms10, ↓ml11, ↓ms11, ↓ml12, ↓ms12, ↓ml13, ↓ms13, ↓ml14, ↓ms14, ↓ml15, ↓ms15, ↓ml16, ↓ms16, ↓ml17, ↓ms17, ↓ml18, ↓ms18, ↓ml19, ↓ms19, ↓ml20, ↓ms20, ↓ml21, ↓ml22, ↓ms22, ↓ml23, ↓ms23, ↓ml24, ↓ms24, ↓ml25, ↓ms25, ↓ml27, ↓ms27, ↓ml28, ↓ms28, ↓ml29, ↓ms29, ↓ml30, ↓ms30, ↓ml31, ↓ms31, ↓ml32, ↓ms32, ↓ml33, ↓ms33, ↓ml34, ↓ms34, ↓ml35, ↓ms35, ↓ml36, ↓ms36, ↓ml37, ↓ms37, ↓ml38, ↓ms38, ↓m_xv, ↓xb, ↓xr, ml4, ms4, ml5, ms5, ml6, ms6, ml7, ms7, ml8, ms8, ml9, ms9, ml10, ms10, ml11, ms11, ml12, ms12, ml13, ms13, ml14, ms14, ml15, ms15, ml16, ms16, ml17, ms17, ml18, ms18, ml19, ms19, ml20, ms20, ml21, ml22, ms22, ml23, ms23, ml24, ms24, ml25, ms25, ml27, ms27, ml28, ms28, ml29, ms29, ml30, ms30, ml31, ms31, ml32, ms32, ml33, ms33, ml34, ms34, ml35, ms35, ml36, ms36, ml37, ms37, ml38, ms38, n3, n30, n10, n300, n401, n4p, np1, np2, nI_add, ↓reduceIte]
        simpa only [worthS, h1, true_or, if_true] using i1
      · by_cases h2 : nI (k % P) = a
        · simp (disch := omega) only [f_Mdl_tell_h170, f_Mdl_tell_b170, f_Mdl_tell_b192, f_Mdl_tell_b224, rI, c1, c2, h1, hP, pk_rem, h2, ↓mg0, ↓mg1, ↓mg2, ↓mg3, ↓mg26, ↓mp0, ↓mp1, ↓mp2, ↓mp3, ↓mp26, ↓mg4, ↓mg5, ↓mg6, ↓mg7, ↓mg8, ↓mg9, ↓mg10, ↓mg11, ↓mg12, ↓mg13, ↓mg14, ↓mg15, ↓mg16, ↓mg17, ↓mg18, ↓mg19, ↓mg20, ↓mg21, ↓mg22, ↓mg23, ↓mg24, ↓mg25, ↓mg27, ↓mg28, ↓mg29, ↓mg30, ↓mg31, ↓mg32, ↓mg33, ↓mg34, ↓mg35, ↓mg36, ↓mg37, ↓mg38, ↓ml4, ↓ms4, ↓ml5, ↓ms5, ↓ml6, ↓ms6, ↓ml7, ↓ms7, ↓ml8, ↓ms8, ↓ml9, ↓ms9, ↓ml10, ↓ms10, ↓ml11, ↓ms11, ↓ml12, ↓ms12, ↓ml13, ↓ms13, ↓ml14, ↓ms14, ↓ml15, ↓ms15, ↓ml16, ↓ms16, ↓ml17, ↓ms17, ↓ml18, ↓ms18, ↓ml19, ↓ms19, ↓ml20, ↓ms20, ↓ml21, ↓ml22, ↓ms22, ↓ml23, ↓ms23, ↓ml24, ↓ms24, ↓ml25, ↓ms25, ↓ml27, ↓ms27, ↓ml28, ↓ms28, ↓ml29, ↓ms29, ↓ml30, ↓ms30, ↓ml31, ↓ms31, ↓ml32, ↓ms32, ↓ml33, ↓ms33, ↓ml34, ↓ms34, ↓ml35, ↓ms35, ↓ml36, ↓ms36, ↓ml37, ↓ms37, ↓ml38, ↓ms38, ↓m_xv, ↓xb, ↓xr, ml4, ms4, ml5, ms5, ml6, ms6, ml7, ms7, ml8, ms8, ml9, ms9, ml10, ms10, ml11, ms11, ml12, ms12, ml13, ms13, ml14, ms14, ml15, ms15, ml16, ms16, ml17, ms17, ml18, ms18, ml19, ms19, ml20, ms20, ml21, ml22, ms22, ml23, ms23, ml24, ms24, ml25, ms25, ml27, ms27, ml28, ms28, ml29, ms29, ml30, ms30, ml31, ms31, ml32, ms32, ml33, ms33, ml34, ms34, ml35, ms35, ml36, ms36, ml37, ms37, ml38, ms38, n3, n30, n10, n300, n401, n4p, np1, np2, nI_add, ↓reduceIte]
          simpa only [worthS, h1, h2, or_true, if_true] using i1
        · simp (disch := omega) only [f_Mdl_tell_h170, f_Mdl_tell_b170, f_Mdl_tell_b192, f_Mdl_tell_b224, rI, c1, c2, h1, hP, pk_rem, h2, ↓mg0, ↓mg1, ↓mg2, ↓mg3, ↓mg26, ↓mp0, ↓mp1, ↓mp2, ↓mp3, ↓mp26, ↓mg4, ↓mg5, ↓mg6, ↓mg7, ↓mg8, ↓mg9, ↓mg10, ↓mg11, ↓mg12, ↓mg13, ↓mg14, ↓mg15, ↓mg16, ↓mg17, ↓mg18, ↓mg19, ↓mg20, ↓mg21, ↓mg22, ↓mg23, ↓mg24, ↓mg25, ↓mg27, ↓mg28, ↓mg29, ↓mg30, ↓mg31, ↓mg32, ↓mg33, ↓mg34, ↓mg35, ↓mg36, ↓mg37, ↓mg38, ↓ml4, ↓ms4, ↓ml5, ↓ms5, ↓ml6, ↓ms6, ↓ml7, ↓ms7, ↓ml8, ↓ms8, ↓ml9, ↓ms9, ↓ml10, ↓ms10, ↓ml11, ↓ms11, ↓ml12, ↓ms12, ↓ml13, ↓ms13, ↓ml14, ↓ms14, ↓ml15, ↓ms15, ↓ml16, ↓ms16, ↓ml17, ↓ms17, ↓ml18, ↓ms18, ↓ml19, ↓ms19, ↓ml20, ↓ms20, ↓ml21, ↓ml22, ↓ms22, ↓ml23, ↓ms23, ↓ml24, ↓ms24, ↓ml25, ↓ms25, ↓ml27, ↓ms27, ↓ml28, ↓ms28, ↓ml29, ↓ms29, ↓ml30, ↓ms30, ↓ml31, ↓ms31, ↓ml32, ↓ms32, ↓ml33, ↓ms33, ↓ml34, ↓ms34, ↓ml35, ↓ms35, ↓ml36, ↓ms36, ↓ml37, ↓ms37, ↓ml38, ↓ms38, ↓m_xv, ↓xb, ↓xr, ml4, ms4, ml5, ms5, ml6, ms6, ml7, ms7, ml8, ms8, ml9, ms9, ml10, ms10, ml11, ms11, ml12, ms12, ml13, ms13, ml14, ms14, ml15, ms15, ml16, ms16, ml17, ms17, ml18, ms18, ml19, ms19, ml20, ms20, ml21, ml22, ms22, ml23, ms23, ml24, ms24, ml25, ms25, ml27, ms27, ml28, ms28, ml29, ms29, ml30, ms30, ml31, ms31, ml32, ms32, ml33, ms33, ml34, ms34, ml35, ms35, ml36, ms36, ml37, ms37, ml38, ms38, n3, n30, n10, n300, n401, n4p, np1, np2, nI_add, ↓reduceIte]
          simpa only [worthS, h1, h2, or_false, if_false] using i1
  exact key 30 0 1000 (by omega) (by omega)
theorem s_ranked {r a : Nat} (hr : r < 8) (ha : a < 30) (hs : sok σ r) : f_Mdl_ranked m (nI r) (nI a) (em h m σ) = some (.inl (nI (rankS σ r a 30)), em h m σ) := by
  have key : ∀ d k n, k + d = 30 → d < n → f_Mdl_ranked_h5 n m (nI r) (nI a) (nI (rankS σ r a k)) (nI k) (em h m σ) = some (.inl (nI (rankS σ r a 30)), em h m σ) := by
    intro d
    induction d with
    | zero =>
      intro k n hk hn
      obtain ⟨n, rfl, -⟩ := pos_of hn
      obtain rfl : k = 30 := by omega
      have c1 : (30 : Int32) ≤ nI 30 := by decide
      simp only [f_Mdl_ranked_h5, f_Mdl_ranked_b5, c1, ↓mg0, ↓mg1, ↓mg2, ↓mg3, ↓mg26, ↓mp0, ↓mp1, ↓mp2, ↓mp3, ↓mp26, ↓mg4, ↓mg5, ↓mg6, ↓mg7, ↓mg8, ↓mg9, ↓mg10, ↓mg11, ↓mg12, ↓mg13, ↓mg14, ↓mg15, ↓mg16, ↓mg17, ↓mg18, ↓mg19, ↓mg20, ↓mg21, ↓mg22, ↓mg23, ↓mg24, ↓mg25, ↓mg27, ↓mg28, ↓mg29, ↓mg30, ↓mg31, ↓mg32, ↓mg33, ↓mg34, ↓mg35, ↓mg36, ↓mg37, ↓mg38, ↓ml4, ↓ms4, ↓ml5, ↓ms5, ↓ml6, ↓ms6, ↓ml7, ↓ms7, ↓ml8, ↓ms8, ↓ml9, ↓ms9, ↓ml10, ↓ms10, ↓ml11, ↓ms11, ↓ml12, ↓ms12, ↓ml13, ↓ms13, ↓ml14, ↓ms14, ↓ml15, ↓ms15, ↓ml16, ↓ms16, ↓ml17, ↓ms17, ↓ml18, ↓ms18, ↓ml19, ↓ms19, ↓ml20, ↓ms20, ↓ml21, ↓ml22, ↓ms22, ↓ml23, ↓ms23, ↓ml24, ↓ms24, ↓ml25, ↓ms25, ↓ml27, ↓ms27, ↓ml28, ↓ms28, ↓ml29, ↓ms29, ↓ml30, ↓ms30, ↓ml31, ↓ms31, ↓ml32, ↓ms32, ↓ml33, ↓ms33, ↓ml34, ↓ms34, ↓ml35, ↓ms35, ↓ml36, ↓ms36, ↓ml37, ↓ms37, ↓ml38, ↓ms38, ↓m_xv, ↓xb, ↓xr, ml4, ms4, ml5, ms5, ml6, ms6, ml7, ms7, ml8, ms8, ml9, ms9, ml10, ms10, ml11, ms11, ml12, ms12, ml13, ms13, ml14, ms14, ml15, ms15, ml16, ms16, ml17, ms17, ml18, ms18, ml19, ms19, ml20, ms20, ml21, ml22, ms22, ml23, ms23, ml24, ms24, ml25, ms25, ml27, ms27, ml28, ms28, ml29, ms29, ml30, ms30, ml31, ms31, ml32, ms32, ml33, ms33, ml34, ms34, ml35, ms35, ml36, ms36, ml37, ms37, ml38, ms38, n3, n30, n10, n300, n401, n4p, np1, np2, nI_add, ↓reduceIte]
    | succ d ih =>
      intro k n hk hn
      obtain ⟨n, rfl, hn⟩ := pos_of hn
      have c1 : ¬ (30 : Int32) ≤ nI k := nI_ge (b := 30) (by omega) (by omega)
      have i1 := ih (k + 1) n (by omega) (by omega)
      have inner : ∀ d j n', j + d = 30 → d < n' → f_Mdl_ranked_h18 (f_Mdl_ranked_h5 n) n' m (nI r) (nI a) (nI (rankS σ r a k)) (nI k) (nI (befs σ r k j)) (nI j) (em h m σ) = some (.inl (nI (rankS σ r a 30)), em h m σ) := by
        intro d
        induction d with
        | zero =>
          intro j n' hj hn'
          obtain ⟨n', rfl, -⟩ := pos_of hn'
          obtain rfl : j = 30 := by omega
          have c1 : (30 : Int32) ≤ nI 30 := by decide
          have hb := befs_le σ r k 30
          by_cases h2 : befs σ r k 30 = a
          · have c2 : nI (befs σ r k 30) = nI a := by rw [h2]
            simp only [f_Mdl_ranked_h18, f_Mdl_ranked_b18, f_Mdl_ranked_b87, c1, c2, ↓mg0, ↓mg1, ↓mg2, ↓mg3, ↓mg26, ↓mp0, ↓mp1, ↓mp2, ↓mp3, ↓mp26, ↓mg4, ↓mg5, ↓mg6, ↓mg7, ↓mg8, ↓mg9, ↓mg10, ↓mg11, ↓mg12, ↓mg13, ↓mg14, ↓mg15, ↓mg16, ↓mg17, ↓mg18, ↓mg19, ↓mg20, ↓mg21, ↓mg22, ↓mg23, ↓mg24, ↓mg25, ↓mg27, ↓mg28, ↓mg29, ↓mg30, ↓mg31, ↓mg32, ↓mg33, ↓mg34, ↓mg35, ↓mg36, ↓mg37, ↓mg38, ↓ml4, ↓ms4, ↓ml5, ↓ms5, ↓ml6, ↓ms6, ↓ml7, ↓ms7, ↓ml8, ↓ms8, ↓ml9, ↓ms9, ↓ml10, ↓ms10, ↓ml11, ↓ms11, ↓ml12, ↓ms12, ↓ml13, ↓ms13, ↓ml14, ↓ms14, ↓ml15, ↓ms15, ↓ml16, ↓ms16, ↓ml17, ↓ms17, ↓ml18, ↓ms18, ↓ml19, ↓ms19, ↓ml20, ↓ms20, ↓ml21, ↓ml22, ↓ms22, ↓ml23, ↓ms23, ↓ml24, ↓ms24, ↓ml25, ↓ms25, ↓ml27, ↓ms27, ↓ml28, ↓ms28, ↓ml29, ↓ms29, ↓ml30, ↓ms30, ↓ml31, ↓ms31, ↓ml32, ↓ms32, ↓ml33, ↓ms33, ↓ml34, ↓ms34, ↓ml35, ↓ms35, ↓ml36, ↓ms36, ↓ml37, ↓ms37, ↓ml38, ↓ms38, ↓m_xv, ↓xb, ↓xr, ml4, ms4, ml5, ms5, ml6, ms6, ml7, ms7, ml8, ms8, ml9, ms9, ml10, ms10, ml11, ms11, ml12, ms12, ml13, ms13, ml14, ms14, ml15, ms15, ml16, ms16, ml17, ms17, ml18, ms18, ml19, ms19, ml20, ms20, ml21, ml22, ms22, ml23, ms23, ml24, ms24, ml25, ms25, ml27, ms27, ml28, ms28, ml29, ms29, ml30, ms30, ml31, ms31, ml32, ms32, ml33, ms33, ml34, ms34, ml35, ms35, ml36, ms36, ml37, ms37, ml38, ms38, n3, n30, n10, n300, n401, n4p, np1, np2, nI_add, ↓reduceIte]
            simpa only [rankS, h2, if_true] using i1
          · have c2 : ¬ nI (befs σ r k 30) = nI a := by rw [nI_eq (by omega) (by omega)]; exact h2
            simp only [f_Mdl_ranked_h18, f_Mdl_ranked_b18, f_Mdl_ranked_b87, c1, c2, ↓mg0, ↓mg1, ↓mg2, ↓mg3, ↓mg26, ↓mp0, ↓mp1, ↓mp2, ↓mp3, ↓mp26, ↓mg4, ↓mg5, ↓mg6, ↓mg7, ↓mg8, ↓mg9, ↓mg10, ↓mg11, ↓mg12, ↓mg13, ↓mg14, ↓mg15, ↓mg16, ↓mg17, ↓mg18, ↓mg19, ↓mg20, ↓mg21, ↓mg22, ↓mg23, ↓mg24, ↓mg25, ↓mg27, ↓mg28, ↓mg29, ↓mg30, ↓mg31, ↓mg32, ↓mg33, ↓mg34, ↓mg35, ↓mg36, ↓mg37, ↓mg38, ↓ml4, ↓ms4, ↓ml5, ↓ms5, ↓ml6, ↓ms6, ↓ml7, ↓ms7, ↓ml8, ↓ms8, ↓ml9, ↓ms9, ↓ml10, ↓ms10, ↓ml11, ↓ms11, ↓ml12, ↓ms12, ↓ml13, ↓ms13, ↓ml14, ↓ms14, ↓ml15, ↓ms15, ↓ml16, ↓ms16, ↓ml17, ↓ms17, ↓ml18, ↓ms18, ↓ml19, ↓ms19, ↓ml20, ↓ms20, ↓ml21, ↓ml22, ↓ms22, ↓ml23, ↓ms23, ↓ml24, ↓ms24, ↓ml25, ↓ms25, ↓ml27, ↓ms27, ↓ml28, ↓ms28, ↓ml29, ↓ms29, ↓ml30, ↓ms30, ↓ml31, ↓ms31, ↓ml32, ↓ms32, ↓ml33, ↓ms33, ↓ml34, ↓ms34, ↓ml35, ↓ms35, ↓ml36, ↓ms36, ↓ml37, ↓ms37, ↓ml38, ↓ms38, ↓m_xv, ↓xb, ↓xr, ml4, ms4, ml5, ms5, ml6, ms6, ml7, ms7, ml8, ms8, ml9, ms9, ml10, ms10, ml11, ms11, ml12, ms12, ml13, ms13, ml14, ms14, ml15, ms15, ml16, ms16, ml17, ms17, ml18, ms18, ml19, ms19, ml20, ms20, ml21, ml22, ms22, ml23, ms23, ml24, ms24, ml25, ms25, ml27, ms27, ml28, ms28, ml29, ms29, ml30, ms30, ml31, ms31, ml32, ms32, ml33, ms33, ml34, ms34, ml35, ms35, ml36, ms36, ml37, ms37, ml38, ms38, n3, n30, n10, n300, n401, n4p, np1, np2, nI_add, ↓reduceIte]
            simpa only [rankS, h2, if_false] using i1
        | succ d ih2 =>
          intro j n' hj hn'
          obtain ⟨n', rfl, hn'⟩ := pos_of hn'
          have c2 : ¬ (30 : Int32) ≤ nI j := nI_ge (b := 30) (by omega) (by omega)
          have i2 := ih2 (j + 1) n' (by omega) (by omega)
          obtain ⟨m1, m2⟩ := more_iff hs (j := j) (k := k) (by omega) (by omega)
          have c3 : nI k ≤ nI j ↔ ¬ j < k := by rw [nI_leI (by omega) (by omega)]; omega
          simp (disch := omega) only [f_Mdl_ranked_h18, f_Mdl_ranked_b18, f_Mdl_ranked_b72, f_Mdl_ranked_b69, c2, m1, m2, c3, ↓mg0, ↓mg1, ↓mg2, ↓mg3, ↓mg26, ↓mp0, ↓mp1, ↓mp2, ↓mp3, ↓mp26, ↓mg4, ↓mg5, ↓mg6, ↓mg7, ↓mg8, ↓mg9, ↓mg10, ↓mg11, ↓mg12, ↓mg13, ↓mg14, ↓mg15, ↓mg16, ↓mg17, ↓mg18, ↓mg19, ↓mg20, ↓mg21, ↓mg22, ↓mg23, ↓mg24, ↓mg25, ↓mg27, ↓mg28, ↓mg29, ↓mg30, ↓mg31, ↓mg32, ↓mg33, ↓mg34, ↓mg35, ↓mg36, ↓mg37, ↓mg38, ↓ml4, ↓ms4, ↓ml5, ↓ms5, ↓ml6, ↓ms6, ↓ml7, ↓ms7, ↓ml8, ↓ms8, ↓ml9, ↓ms9, ↓ml10, ↓ms10, ↓ml11, ↓ms11, ↓ml12, ↓ms12, ↓ml13, ↓ms13, ↓ml14, ↓ms14, ↓ml15, ↓ms15, ↓ml16, ↓ms16, ↓ml17, ↓ms17, ↓ml18, ↓ms18, ↓ml19, ↓ms19, ↓ml20, ↓ms20, ↓ml21, ↓ml22, ↓ms22, ↓ml23, ↓ms23, ↓ml24, ↓ms24, ↓ml25, ↓ms25, ↓ml27, ↓ms27, ↓ml28, ↓ms28, ↓ml29, ↓ms29, ↓ml30, ↓ms30, ↓ml31, ↓ms31, ↓ml32, ↓ms32, ↓ml33, ↓ms33, ↓ml34, ↓ms34, ↓ml35, ↓ms35, ↓ml36, ↓ms36, ↓ml37, ↓ms37, ↓ml38, ↓ms38, ↓m_xv, ↓xb, ↓xr, ml4, ms4, ml5, ms5, ml6, ms6, ml7, ms7, ml8, ms8, ml9, ms9, ml10, ms10, ml11, ms11, ml12, ms12, ml13, ms13, ml14, ms14, ml15, ms15, ml16, ms16, ml17, ms17, ml18, ms18, ml19, ms19, ml20, ms20, ml21, ml22, ms22, ml23, ms23, ml24, ms24, ml25, ms25, ml27, ms27, ml28, ms28, ml29, ms29, ml30, ms30, ml31, ms31, ml32, ms32, ml33, ms33, ml34, ms34, ml35, ms35, ml36, ms36, ml37, ms37, ml38, ms38, n3, n30, n10, n300, n401, n4p, np1, np2, nI_add, ↓reduceIte]
          by_cases h1 : σ.2.1 13 (30 * r + k) < σ.2.1 13 (30 * r + j)
          · rw [if_pos h1]
            simpa only [befs, bef, h1, true_or, decide_true, if_true] using i2
          · rw [if_neg h1]
            by_cases h2 : σ.2.1 13 (30 * r + j) = σ.2.1 13 (30 * r + k)
            · rw [if_pos h2]
              by_cases h3 : j < k
              · rw [if_neg (fun q => q h3)]
                simpa only [befs, bef, h2, h3, and_self, or_true, decide_true, if_true] using i2
              · rw [if_pos h3]
                simpa only [befs, bef, h1, h2, h3, and_false, or_false, decide_false, if_false, Nat.add_zero, Bool.false_eq_true, Int32.lt_irrefl] using i2
            · rw [if_neg h2]
              simpa only [befs, bef, h1, h2, false_and, or_false, decide_false, if_false, Nat.add_zero, Bool.false_eq_true] using i2
      simp (disch := omega) only [f_Mdl_ranked_h5, f_Mdl_ranked_b5, c1, ↓reduceIte]
      exact inner 30 0 1000 (by omega) (by omega)
  exact key 30 0 1000 (by omega) (by omega)
theorem s_tell {r : Nat} {kd a : Int32} (hP : σ.1 0 = nI P) (hP1 : 1 ≤ P) (hP3 : P ≤ 3) (hr : r < 8) (hq : qok P kd a) (hs : sok σ r) : f_Mdl_tell m (nI r) kd a (em h m σ) = some (.inl (tellS P σ r kd a), em h m σ) := by
  obtain ⟨k, hk8, rfl, hq⟩ := hq
  have hk : k = 0 ∨ k = 1 ∨ k = 2 ∨ k = 3 ∨ k = 4 ∨ k = 5 ∨ k = 6 ∨ k = 7 ∨ k = 8 := by omega
  rcases hq with ⟨hk2, i, hi, rfl⟩ | ⟨hk2, i, hi, rfl⟩ | ⟨rfl, -⟩
  · have hcn : cn (nI i) = i := cn_nI (by omega)
    have e1 := s_ranked (h := h) (m := m) hr hi hs
    unfold tellS
    rw [hcn]
    rcases hk with rfl | rfl | rfl | rfl | rfl | rfl | rfl | rfl | rfl <;> first | omega | (simp (disch := omega) only [f_Mdl_tell, show nI 0 = 0 from rfl, show nI 1 = 1 from rfl, show nI 2 = 2 from rfl, show nI 3 = 3 from rfl, show nI 7 = 7 from rfl, show ¬ (1 : Int32) = 0 by decide, show ¬ (2 : Int32) = 0 by decide, show ¬ (2 : Int32) = 1 by decide, show ¬ (3 : Int32) = 0 by decide, show ¬ (3 : Int32) = 1 by decide, show ¬ (3 : Int32) = 2 by decide, show ¬ (7 : Int32) = 0 by decide, show ¬ (7 : Int32) = 1 by decide, show ¬ (7 : Int32) = 2 by decide, show ¬ (7 : Int32) = 3 by decide, show ¬ (7 : Int32) = 4 by decide, show ¬ (7 : Int32) = 5 by decide, show ¬ (7 : Int32) = 6 by decide, e1, ↓mg0, ↓mg1, ↓mg2, ↓mg3, ↓mg26, ↓mp0, ↓mp1, ↓mp2, ↓mp3, ↓mp26, ↓mg4, ↓mg5, ↓mg6, ↓mg7, ↓mg8, ↓mg9, ↓mg10, ↓mg11, ↓mg12, ↓mg13, ↓mg14, ↓mg15, ↓mg16, ↓mg17, ↓mg18, ↓mg19, ↓mg20, ↓mg21, ↓mg22, ↓mg23, ↓mg24, ↓mg25, ↓mg27, ↓mg28, ↓mg29, ↓mg30, ↓mg31, ↓mg32, ↓mg33, ↓mg34, ↓mg35, ↓mg36, ↓mg37, ↓mg38, ↓ml4, ↓ms4, ↓ml5, ↓ms5, ↓ml6, ↓ms6, ↓ml7, ↓ms7, ↓ml8, ↓ms8, ↓ml9, ↓ms9, ↓ml10, ↓ms10, ↓ml11, ↓ms11, ↓ml12, ↓ms12, ↓ml13, ↓ms13, ↓ml14, ↓ms14, ↓ml15, ↓ms15, ↓ml16, ↓ms16, ↓ml17, ↓ms17, ↓ml18, ↓ms18, ↓ml19, ↓ms19, ↓ml20, ↓ms20, ↓ml21, ↓ml22, ↓ms22, ↓ml23, ↓ms23, ↓ml24, ↓ms24, ↓ml25, ↓ms25, ↓ml27, ↓ms27, ↓ml28, ↓ms28, ↓ml29, ↓ms29, ↓ml30, ↓ms30, ↓ml31, ↓ms31, ↓ml32, ↓ms32, ↓ml33, ↓ms33, ↓ml34, ↓ms34, ↓ml35, ↓ms35, ↓ml36, ↓ms36, ↓ml37, ↓ms37, ↓ml38, ↓ms38, ↓m_xv, ↓xb, ↓xr, ml4, ms4, ml5, ms5, ml6, ms6, ml7, ms7, ml8, ms8, ml9, ms9, ml10, ms10, ml11, ms11, ml12, ms12, ml13, ms13, ml14, ms14, ml15, ms15, ml16, ms16, ml17, ms17, ml18, ms18, ml19, ms19, ml20, ms20, ml21, ml22, ms22, ml23, ms23, ml24, ms24, ml25, ms25, ml27, ms27, ml28, ms28, ml29, ms29, ml30, ms30, ml31, ms31, ml32, ms32, ml33, ms33, ml34, ms34, ml35, ms35, ml36, ms36, ml37, ms37, ml38, ms38, n3, n30, n10, n300, n401, n4p, np1, np2, nI_add, ↓reduceIte])
  · have hcn : cn (nI i) = i := cn_nI (by omega)
    have e1 := s_held (h := h) (m := m) (σ := σ) (c := 10 * r + i) (by omega)
    unfold tellS
    rw [hcn]
    rcases hk with rfl | rfl | rfl | rfl | rfl | rfl | rfl | rfl | rfl <;> first | omega | (simp (disch := omega) only [f_Mdl_tell, show nI 4 = 4 from rfl, show nI 5 = 5 from rfl, show nI 6 = 6 from rfl, show ¬ (4 : Int32) = 0 by decide, show ¬ (4 : Int32) = 1 by decide, show ¬ (4 : Int32) = 2 by decide, show ¬ (4 : Int32) = 3 by decide, show ¬ (5 : Int32) = 0 by decide, show ¬ (5 : Int32) = 1 by decide, show ¬ (5 : Int32) = 2 by decide, show ¬ (5 : Int32) = 3 by decide, show ¬ (5 : Int32) = 4 by decide, show ¬ (6 : Int32) = 0 by decide, show ¬ (6 : Int32) = 1 by decide, show ¬ (6 : Int32) = 2 by decide, show ¬ (6 : Int32) = 3 by decide, show ¬ (6 : Int32) = 4 by decide, show ¬ (6 : Int32) = 5 by decide, e1, ↓mg0, ↓mg1, ↓mg2, ↓mg3, ↓mg26, ↓mp0, ↓mp1, ↓mp2, ↓mp3, ↓mp26, ↓mg4, ↓mg5, ↓mg6, ↓mg7, ↓mg8, ↓mg9, ↓mg10, ↓mg11, ↓mg12, ↓mg13, ↓mg14, ↓mg15, ↓mg16, ↓mg17, ↓mg18, ↓mg19, ↓mg20, ↓mg21, ↓mg22, ↓mg23, ↓mg24, ↓mg25, ↓mg27, ↓mg28, ↓mg29, ↓mg30, ↓mg31, ↓mg32, ↓mg33, ↓mg34, ↓mg35, ↓mg36, ↓mg37, ↓mg38, ↓ml4, ↓ms4, ↓ml5, ↓ms5, ↓ml6, ↓ms6, ↓ml7, ↓ms7, ↓ml8, ↓ms8, ↓ml9, ↓ms9, ↓ml10, ↓ms10, ↓ml11, ↓ms11, ↓ml12, ↓ms12, ↓ml13, ↓ms13, ↓ml14, ↓ms14, ↓ml15, ↓ms15, ↓ml16, ↓ms16, ↓ml17, ↓ms17, ↓ml18, ↓ms18, ↓ml19, ↓ms19, ↓ml20, ↓ms20, ↓ml21, ↓ml22, ↓ms22, ↓ml23, ↓ms23, ↓ml24, ↓ms24, ↓ml25, ↓ms25, ↓ml27, ↓ms27, ↓ml28, ↓ms28, ↓ml29, ↓ms29, ↓ml30, ↓ms30, ↓ml31, ↓ms31, ↓ml32, ↓ms32, ↓ml33, ↓ms33, ↓ml34, ↓ms34, ↓ml35, ↓ms35, ↓ml36, ↓ms36, ↓ml37, ↓ms37, ↓ml38, ↓ms38, ↓m_xv, ↓xb, ↓xr, ml4, ms4, ml5, ms5, ml6, ms6, ml7, ms7, ml8, ms8, ml9, ms9, ml10, ms10, ml11, ms11, ml12, ms12, ml13, ms13, ml14, ms14, ml15, ms15, ml16, ms16, ml17, ms17, ml18, ms18, ml19, ms19, ml20, ms20, ml21, ml22, ms22, ml23, ms23, ml24, ms24, ml25, ms25, ml27, ms27, ml28, ms28, ml29, ms29, ml30, ms30, ml31, ms31, ml32, ms32, ml33, ms33, ml34, ms34, ml35, ms35, ml36, ms36, ml37, ms37, ml38, ms38, n3, n30, n10, n300, n401, n4p, np1, np2, nI_add, ↓reduceIte])
  · have e1 := s_worth (h := h) (m := m) (a := a) hP hP1 hP3 hr
    unfold tellS f_Mdl_tell
    simp only [show ¬ nI 8 = 0 by decide, show ¬ nI 8 = 1 by decide, show ¬ nI 8 = 2 by decide, show ¬ nI 8 = 3 by decide, show ¬ nI 8 = 4 by decide, show ¬ nI 8 = 5 by decide, show ¬ nI 8 = 6 by decide, show ¬ nI 8 = 7 by decide, e1, ↓reduceIte]
end XMT
