/-! the model: answers to reads, looking at the reads that wait, commands that are taken -/
def xof (a b c : Int32) : Int64 := (a.toInt64 + (512 * b.toInt64)) + (262144 * c.toInt64)
def chkS (x : Int64) : Int64 := ((x * (-7046029254386353131)).toUInt64 >>> ((44 : Int32).toInt64.toUInt64 &&& Int64.toUInt64 63)).toInt64
def tokS (a b c : Int32) : Int64 := xof a b c * 1048576 + chkS (xof a b c)
def mx (a b : Int32) : Int32 := if a ≤ b then b else a
def mn (a b : Int32) : Int32 := if b ≤ a then b else a
def riseS (σ : xS) (s r : Nat) : Nat → xS
  | 0 => σ
  | p + 1 => uI (riseS σ s r p) 25 (3 * s + p) (mx ((riseS σ s r p).2.1 25 (3 * s + p)) (σ.2.1 18 (3 * r + p)))
def ansS (P : Nat) (σ : xS) (r k : Nat) : xS := riseS (uI (uJ (uJ (uI (uI σ 27 k 1) 35 k (nI r)) 36 k (tellS P σ r (σ.2.1 33 k) (σ.2.1 34 k))) 37 k (tokS (σ.2.1 18 (3 * r)) (σ.2.1 18 (3 * r + 1)) (σ.2.1 18 (3 * r + 2)))) 38 k (σ.1 3)) (sn σ k) r P
def lookS (P : Nat) (σ : xS) (r : Nat) : Nat → xS
  | 0 => σ
  | k + 1 => if (lookS P σ r k).2.1 27 k = 0 ∧ mayb P (lookS P σ r k) r k = true then ansS P (lookS P σ r k) r k else lookS P σ r k
/-- two states that differ in these fields at most -/
def same (F : List Nat) (σ τ : xS) : Prop := τ.1 = σ.1 ∧ (∀ j, j ∉ F → τ.2.1 j = σ.2.1 j) ∧ ∀ j, j ∉ F → τ.2.2 j = σ.2.2 j
theorem same.refl (F : List Nat) (σ : xS) : same F σ σ := ⟨rfl, fun _ _ => rfl, fun _ _ => rfl⟩
theorem same.trans {F : List Nat} {σ τ υ : xS} (h1 : same F σ τ) (h2 : same F τ υ) : same F σ υ := ⟨h2.1.trans h1.1, fun j hj => (h2.2.1 j hj).trans (h1.2.1 j hj), fun j hj => (h2.2.2 j hj).trans (h1.2.2 j hj)⟩
theorem same.uI {F : List Nat} {σ : xS} (k i : Nat) (v : Int32) (hk : k ∈ F) : same F σ (uI σ k i v) := ⟨rfl, fun j hj => by
  have : j ≠ k := fun e => hj (e ▸ hk)
  simp [_root_.Jvm.Pilot.CReadSideLaw_law_r1185_50799c.uI, va_up, this], fun j hj => rfl⟩
theorem same.uJ {F : List Nat} {σ : xS} (k i : Nat) (v : Int64) (hk : k ∈ F) : same F σ (uJ σ k i v) := ⟨rfl, fun j hj => rfl, fun j hj => by
  have : j ≠ k := fun e => hj (e ▸ hk)
  simp [_root_.Jvm.Pilot.CReadSideLaw_law_r1185_50799c.uJ, va_up, this]⟩
theorem same.mono {F G : List Nat} {σ τ : xS} (h : same F σ τ) (hs : ∀ j, j ∈ F → j ∈ G) : same G σ τ := ⟨h.1, fun j hj => h.2.1 j (fun q => hj (hs j q)), fun j hj => h.2.2 j (fun q => hj (hs j q))⟩
theorem uI_s (σ : xS) (k i : Nat) (v : Int32) : (uI σ k i v).1 = σ.1 := rfl
theorem uI_J (σ : xS) (k i : Nat) (v : Int32) : (uI σ k i v).2.2 = σ.2.2 := rfl
theorem uI_g (σ : xS) (k i : Nat) (v : Int32) : (uI σ k i v).2.1 k i = v := by simp [uI, va_up]
theorem uI_o {σ : xS} {k i j : Nat} {v : Int32} (h : j ≠ k) : (uI σ k i v).2.1 j = σ.2.1 j := by simp [uI, va_up, h]
theorem uI_i {σ : xS} {k i j : Nat} {v : Int32} (h : j ≠ i) : (uI σ k i v).2.1 k j = σ.2.1 k j := by simp [uI, va_up, h]
theorem uJ_o {σ : xS} {k i j : Nat} {v : Int64} (h : j ≠ k) : (uJ σ k i v).2.2 j = σ.2.2 j := by simp [uJ, va_up, h]
theorem uJ_i {σ : xS} {k i j : Nat} {v : Int64} (h : j ≠ i) : (uJ σ k i v).2.2 k j = σ.2.2 k j := by simp [uJ, va_up, h]
theorem uJ_g (σ : xS) (k i : Nat) (v : Int64) : (uJ σ k i v).2.2 k i = v := by simp [uJ, va_up]
theorem rise_same (σ : xS) (s r p : Nat) : same [25] σ (riseS σ s r p) := by
  induction p with
  | zero => exact same.refl _ _
  | succ p ih => exact ih.trans (same.uI _ _ _ (by decide))
theorem ans_same (P : Nat) (σ : xS) (r k : Nat) : same [25, 27, 35, 36, 37, 38] σ (ansS P σ r k) := by
  refine same.trans ?_ ((rise_same _ _ _ _).mono (by decide))
  refine same.trans ?_ (same.uI _ _ _ (by decide))
  refine same.trans ?_ (same.uJ _ _ _ (by decide))
  refine same.trans ?_ (same.uJ _ _ _ (by decide))
  refine same.trans ?_ (same.uI _ _ _ (by decide))
  exact same.uI _ _ _ (by decide)
theorem look_same (P : Nat) (σ : xS) (r k : Nat) : same [25, 27, 35, 36, 37, 38] σ (lookS P σ r k) := by
  induction k with
  | zero => exact same.refl _ _
  | succ k ih =>
    simp only [lookS]
    split
    · exact ih.trans (ans_same _ _ _ _)
    · exact ih
theorem heldS_c {σ τ : xS} (h : τ.2.1 15 = σ.2.1 15) (c n : Nat) : heldS τ c n = heldS σ c n := by
  induction n with
  | zero => rfl
  | succ n ih => simp only [heldS, ih, h]
theorem worthS_c {P : Nat} {σ τ : xS} {r : Nat} {a : Int32} (h : τ.2.1 11 = σ.2.1 11) (h2 : τ.2.1 14 = σ.2.1 14) (n : Nat) : worthS P τ r a n = worthS P σ r a n := by
  induction n with
  | zero => rfl
  | succ n ih => simp only [worthS, ih, h, h2]
theorem befs_c {σ τ : xS} (h : τ.2.1 13 = σ.2.1 13) (r k n : Nat) : befs τ r k n = befs σ r k n := by
  induction n with
  | zero => rfl
  | succ n ih =>
    have e : bef τ r k n = bef σ r k n := by unfold bef; rw [h]
    simp only [befs, ih, e]
theorem rankS_c {σ τ : xS} (h : τ.2.1 13 = σ.2.1 13) (r a n : Nat) : rankS τ r a n = rankS σ r a n := by
  induction n with
  | zero => rfl
  | succ n ih => simp only [rankS, ih, befs_c h]
theorem tellS_c {P : Nat} {σ τ : xS} {F : List Nat} (h : same F σ τ) (hF : ∀ j, j ∈ F → j < 11 ∨ 17 < j) (r : Nat) (kd a : Int32) : tellS P τ r kd a = tellS P σ r kd a := by
  have g : ∀ j, 11 ≤ j → j ≤ 17 → j ∉ F := fun j h1 h2 q => by have := hF j q; omega
  simp only [tellS, heldS_c (h.2.1 15 (g _ (by omega) (by omega))), worthS_c (h.2.1 11 (g _ (by omega) (by omega))) (h.2.1 14 (g _ (by omega) (by omega))), rankS_c (h.2.1 13 (g _ (by omega) (by omega))), h.2.1 11 (g _ (by omega) (by omega)), h.2.1 12 (g _ (by omega) (by omega)), h.2.1 13 (g _ (by omega) (by omega)), h.2.1 14 (g _ (by omega) (by omega)), h.2.1 17 (g _ (by omega) (by omega)), h.2.2 16 (g _ (by omega) (by omega))]
theorem sok_c {σ τ : xS} (h : τ.2.1 13 = σ.2.1 13) {r : Nat} (hs : sok σ r) : sok τ r := by
  unfold sok
  rw [h]
  exact hs
section XMU
variable {h : xH} {m : Nat} {σ : xS} {P N R : Nat}
theorem s_greater (a b : Int32) {H : xH} : f_Mdl_greater a b H = some (.inl (mx a b), H) := by
  unfold f_Mdl_greater mx f_Mdl_greater_b10
  split <;> rfl
theorem s_lesser (a b : Int32) {H : xH} : f_Mdl_lesser a b H = some (.inl (mn a b), H) := by
  unfold f_Mdl_lesser mn f_Mdl_lesser_b10
  split <;> rfl
theorem s_tok (a b c : Int32) {H : xH} : f_Mdl_tokenOf a b c H = some (.inl (tokS a b c), H) := rfl
theorem s_rise {s r k : Nat} (hP : σ.1 0 = nI P) (hP3 : P ≤ 3) (hr : r < 8) (hk : k < 500) (hs8 : s < 8) (hs : σ.2.1 28 k = nI s) : f_Mdl_answer_h86 1000 m (nI r) (nI k) 0 (em h m σ) = some (.inl (), em h m (riseS σ s r P)) := by
  have key : ∀ d p n, p + d = P → d < n → f_Mdl_answer_h86 n m (nI r) (nI k) (nI p) (em h m (riseS σ s r p)) = some (.inl (), em h m (riseS σ s r P)) := by
    intro d
    induction d with
    | zero =>
      intro p n hp hn
      obtain ⟨n, rfl, -⟩ := pos_of hn
      obtain rfl : p = P := by omega
      have c1 : nI p ≤ nI p := nI_le (by omega) (by omega)
      simp only [f_Mdl_answer_h86, f_Mdl_answer_b86, c1, (rise_same σ s r p).1, hP, ↓mg0, ↓mg1, ↓mg2, ↓mg3, ↓mg26, ↓mp0, ↓mp1, ↓mp2, ↓mp3, ↓mp26, ↓mg4, ↓mg5, ↓mg6, ↓mg7, ↓mg8, ↓mg9, ↓mg10, ↓mg11, ↓mg12, ↓mg13, ↓mg14, ↓mg15, ↓mg16, ↓mg17, ↓mg18, ↓mg19, ↓mg20, ↓mg21, ↓mg22, ↓mg23, ↓mg24, ↓mg25, ↓mg27, ↓mg28, ↓mg29, ↓mg30, ↓mg31, ↓mg32, ↓mg33, ↓mg34, ↓mg35, ↓mg36, ↓mg37, ↓mg38, ↓ml4, ↓ms4, ↓ml5, ↓ms5, ↓ml6, ↓ms6, ↓ml7, ↓ms7, ↓ml8, ↓ms8, ↓ml9, ↓ms9, ↓ml10, ↓ms10, ↓ml11, ↓ms11, ↓ml12, ↓ms12, ↓ml13, ↓ms13, ↓ml14, ↓ms14, ↓ml15, ↓ms15, ↓ml16, ↓ms16, ↓ml17, ↓ms17, ↓ml18, ↓ms18, ↓ml19, ↓ms19, ↓ml20, ↓ms20, ↓ml21, ↓ml22, ↓ms22, ↓ml23, ↓ms23, ↓ml24, ↓ms24, ↓ml25, ↓ms25, ↓ml27, ↓ms27, ↓ml28, ↓ms28, ↓ml29, ↓ms29, ↓ml30, ↓ms30, ↓ml31, ↓ms31, ↓ml32, ↓ms32, ↓ml33, ↓ms33, ↓ml34, ↓ms34, ↓ml35, ↓ms35, ↓ml36, ↓ms36, ↓ml37, ↓ms37, ↓ml38, ↓ms38, ↓m_xv, ↓xb, ↓xr, ml4, ms4, ml5, ms5, ml6, ms6, ml7, ms7, ml8, ms8, ml9, ms9, ml10, ms10, ml11, ms11, ml12, ms12, ml13, ms13, ml14, ms14, ml15, ms15, ml16, ms16, ml17, ms17, ml18, ms18, ml19, ms19, ml20, ms20, ml21, ml22, ms22, ml23, ms23, ml24, ms24, ml25, ms25, ml27, ms27, ml28, ms28, ml29, ms29, ml30, ms30, ml31, ms31, ml32, ms32, ml33, ms33, ml34, ms34, ml35, ms35, ml36, ms36, ml37, ms37, ml38, ms38, n3, n30, n10, n300, n401, n4p, np1, np2, nI_add, ↓reduceIte]
    | succ d ih =>
      intro p n hp hn
      obtain ⟨n, rfl, hn⟩ := pos_of hn
      have c1 : ¬ nI P ≤ nI p := nI_ge (by omega) (by omega)
      have e1 : (riseS σ s r p).2.1 28 k = nI s := by rw [(rise_same σ s r p).2.1 28 (by decide)]; exact hs
      have e2 : (riseS σ s r p).2.1 18 = σ.2.1 18 := (rise_same σ s r p).2.1 18 (by decide)
      simp (disch := omega) only [f_Mdl_answer_h86, f_Mdl_answer_b86, c1, (rise_same σ s r p).1, hP, e1, e2, s_greater, ↓mg0, ↓mg1, ↓mg2, ↓mg3, ↓mg26, ↓mp0, ↓mp1, ↓mp2, ↓mp3, ↓mp26, ↓mg4, ↓mg5, ↓mg6, ↓mg7, ↓mg8, ↓mg9, ↓mg10, ↓mg11, ↓mg12, ↓mg13, ↓mg14, ↓mg15, ↓mg16, ↓mg17, ↓mg18, ↓mg19, ↓mg20, ↓mg21, ↓mg22, ↓mg23, ↓mg24, ↓mg25, ↓mg27, ↓mg28, ↓mg29, ↓mg30, ↓mg31, ↓mg32, ↓mg33, ↓mg34, ↓mg35, ↓mg36, ↓mg37, ↓mg38, ↓ml4, ↓ms4, ↓ml5, ↓ms5, ↓ml6, ↓ms6, ↓ml7, ↓ms7, ↓ml8, ↓ms8, ↓ml9, ↓ms9, ↓ml10, ↓ms10, ↓ml11, ↓ms11, ↓ml12, ↓ms12, ↓ml13, ↓ms13, ↓ml14, ↓ms14, ↓ml15, ↓ms15, ↓ml16, ↓ms16, ↓ml17, ↓ms17, ↓ml18, ↓ms18, ↓ml19, ↓ms19, ↓ml20, ↓ms20, ↓ml21, ↓ml22, ↓ms22, ↓ml23, ↓ms23, ↓ml24, ↓ms24, ↓ml25, ↓ms25, ↓ml27, ↓ms27, ↓ml28, ↓ms28, ↓ml29, ↓ms29, ↓ml30, ↓ms30, ↓ml31, ↓ms31, ↓ml32, ↓ms32, ↓ml33, ↓ms33, ↓ml34, ↓ms34, ↓ml35, ↓ms35, ↓ml36, ↓ms36, ↓ml37, ↓ms37, ↓ml38, ↓ms38, ↓m_xv, ↓xb, ↓xr, ml4, ms4, ml5, ms5, ml6, ms6, ml7, ms7, ml8, ms8, ml9, ms9, ml10, ms10, ml11, ms11, ml12, ms12, ml13, ms13, ml14, ms14, ml15, ms15, ml16, ms16, ml17, ms17, ml18, ms18, ml19, ms19, ml20, ms20, ml21, ml22, ms22, ml23, ms23, ml24, ms24, ml25, ms25, ml27, ms27, ml28, ms28, ml29, ms29, ml30, ms30, ml31, ms31, ml32, ms32, ml33, ms33, ml34, ms34, ml35, ms35, ml36, ms36, ml37, ms37, ml38, ms38, n3, n30, n10, n300, n401, n4p, np1, np2, nI_add, ↓reduceIte]
      exact ih (p + 1) n (by omega) (by omega)
  exact key P 0 1000 (by omega) (by omega)
theorem s_answer {r k : Nat} (hP : σ.1 0 = nI P) (hP1 : 1 ≤ P) (hP3 : P ≤ 3) (hr : r < 8) (hk : k < 500) (hs : ∃ s, s < 8 ∧ σ.2.1 28 k = nI s) (hq : qok P (σ.2.1 33 k) (σ.2.1 34 k)) (hso : sok σ r) : f_Mdl_answer m (nI r) (nI k) (em h m σ) = some (.inl (), em h m (ansS P σ r k)) := by
  obtain ⟨s, hs8, hs⟩ := hs
  have hsn : sn σ k = s := by unfold sn; rw [hs, nI_clamp (by omega)]
  have sm : same [27, 35] σ (uI (uI σ 27 k 1) 35 k (nI r)) := same.trans (same.uI _ _ _ (by decide)) (same.uI _ _ _ (by decide))
  have t1 := s_tell (h := h) (m := m) (σ := uI (uI σ 27 k 1) 35 k (nI r)) (P := P) (r := r) (kd := σ.2.1 33 k) (a := σ.2.1 34 k) hP hP1 hP3 hr hq (sok_c rfl hso)
  rw [tellS_c sm (by decide)] at t1
  have r1 := s_rise (h := h) (m := m) (σ := uI (uJ (uJ (uI (uI σ 27 k 1) 35 k (nI r)) 36 k (tellS P σ r (σ.2.1 33 k) (σ.2.1 34 k))) 37 k (tokS (σ.2.1 18 (3 * r)) (σ.2.1 18 (3 * r + 1)) (σ.2.1 18 (3 * r + 2)))) 38 k (σ.1 3)) (P := P) (r := r) (k := k) (s := s) hP hP3 (by omega) hk hs8 hs
  have e33 : (uI (uI σ 27 k 1) 35 k (nI r)).2.1 33 = σ.2.1 33 := rfl
  have e34 : (uI (uI σ 27 k 1) 35 k (nI r)).2.1 34 = σ.2.1 34 := rfl
  have e18 : ∀ v, (uJ (uI (uI σ 27 k 1) 35 k (nI r)) 36 k v).2.1 18 = σ.2.1 18 := fun v => rfl
  have e3 : ∀ v w, (uJ (uJ (uI (uI σ 27 k 1) 35 k (nI r)) 36 k v) 37 k w).1 3 = σ.1 3 := fun v w => rfl
  unfold ansS
  rw [hsn]
  simp (disch := omega) only [f_Mdl_answer, e33, e34, t1, e18, e3, s_tok, r1, ↓mg0, ↓mg1, ↓mg2, ↓mg3, ↓mg26, ↓mp0, ↓mp1, ↓mp2, ↓mp3, ↓mp26, ↓mg4, ↓mg5, ↓mg6, ↓mg7, ↓mg8, ↓mg9, ↓mg10, ↓mg11, ↓mg12, ↓mg13, ↓mg14, ↓mg15, ↓mg16, ↓mg17, ↓mg18, ↓mg19, ↓mg20, ↓mg21, ↓mg22, ↓mg23, ↓mg24, ↓mg25, ↓mg27, ↓mg28, ↓mg29, ↓mg30, ↓mg31, ↓mg32, ↓mg33, ↓mg34, ↓mg35, ↓mg36, ↓mg37, ↓mg38, ↓ml4, ↓ms4, ↓ml5, ↓ms5, ↓ml6, ↓ms6, ↓ml7, ↓ms7, ↓ml8, ↓ms8, ↓ml9, ↓ms9, ↓ml10, ↓ms10, ↓ml11, ↓ms11, ↓ml12, ↓ms12, ↓ml13, ↓ms13, ↓ml14, ↓ms14, ↓ml15, ↓ms15, ↓ml16, ↓ms16, ↓ml17, ↓ms17, ↓ml18, ↓ms18, ↓ml19, ↓ms19, ↓ml20, ↓ms20, ↓ml21, ↓ml22, ↓ms22, ↓ml23, ↓ms23, ↓ml24, ↓ms24, ↓ml25, ↓ms25, ↓ml27, ↓ms27, ↓ml28, ↓ms28, ↓ml29, ↓ms29, ↓ml30, ↓ms30, ↓ml31, ↓ms31, ↓ml32, ↓ms32, ↓ml33, ↓ms33, ↓ml34, ↓ms34, ↓ml35, ↓ms35, ↓ml36, ↓ms36, ↓ml37, ↓ms37, ↓ml38, ↓ms38, ↓m_xv, ↓xb, ↓xr, ml4, ms4, ml5, ms5, ml6, ms6, ml7, ms7, ml8, ms8, ml9, ms9, ml10, ms10, ml11, ms11, ml12, ms12, ml13, ms13, ml14, ms14, ml15, ms15, ml16, ms16, ml17, ms17, ml18, ms18, ml19, ms19, ml20, ms20, ml21, ml22, ms22, ml23, ms23, ml24, ms24, ml25, ms25, ml27, ms27, ml28, ms28, ml29, ms29, ml30, ms30, ml31, ms31, ml32, ms32, ml33, ms33, ml34, ms34, ml35, ms35, ml36, ms36, ml37, ms37, ml38, ms38, n3, n30, n10, n300, n401, n4p, np1, np2, nI_add, ↓reduceIte]
def lok (P R : Nat) (σ : xS) : Prop := σ.1 0 = nI P ∧ σ.1 26 = nI R ∧ (∀ k, k < R → (∃ s, s < 8 ∧ σ.2.1 28 k = nI s) ∧ qok P (σ.2.1 33 k) (σ.2.1 34 k)) ∧ ∀ r, r < 8 → sok σ r
theorem lok.same {τ : xS} (hl : lok P R σ) {F : List Nat} (hs : same F σ τ) (hF : ∀ j, j ∈ F → j ≠ 28 ∧ j ≠ 33 ∧ j ≠ 34 ∧ j ≠ 13) : lok P R τ := by
  unfold lok
  rw [hs.1, hs.2.1 28 (fun q => (hF _ q).1 rfl), hs.2.1 33 (fun q => (hF _ q).2.1 rfl), hs.2.1 34 (fun q => (hF _ q).2.2.1 rfl)]
  exact ⟨hl.1, hl.2.1, hl.2.2.1, fun r hr => sok_c (hs.2.1 13 (fun q => (hF _ q).2.2.2 rfl)) (hl.2.2.2 r hr)⟩
theorem s_look {r : Nat} (hl : lok P R σ) (hP1 : 1 ≤ P) (hP3 : P ≤ 3) (hR : R ≤ 500) (hr : r < 4) : f_Mdl_look m (nI r) (em h m σ) = some (.inl (), em h m (lookS P σ r R)) := by
  have key : ∀ d k n, k + d = R → d < n → f_Mdl_look_h2 n m (nI r) (nI k) (em h m (lookS P σ r k)) = some (.inl (), em h m (lookS P σ r R)) := by
    intro d
    induction d with
    | zero =>
      intro k n hk hn
      obtain ⟨n, rfl, -⟩ := pos_of hn
      obtain rfl : k = R := by omega
      have c1 : nI k ≤ nI k := nI_le (by omega) (by omega)
      simp only [f_Mdl_look_h2, f_Mdl_look_b2, c1, (look_same P σ r k).1, hl.2.1, ↓mg0, ↓mg1, ↓mg2, ↓mg3, ↓mg26, ↓mp0, ↓mp1, ↓mp2, ↓mp3, ↓mp26, ↓mg4, ↓mg5, ↓mg6, ↓mg7, ↓mg8, ↓mg9, ↓mg10, ↓mg11, ↓mg12, ↓mg13, ↓mg14, ↓mg15, ↓mg16, ↓mg17, ↓mg18, ↓mg19, ↓mg20, ↓mg21, ↓mg22, ↓mg23, ↓mg24, ↓mg25, ↓mg27, ↓mg28, ↓mg29, ↓mg30, ↓mg31, ↓mg32, ↓mg33, ↓mg34, ↓mg35, ↓mg36, ↓mg37, ↓mg38, ↓ml4, ↓ms4, ↓ml5, ↓ms5, ↓ml6, ↓ms6, ↓ml7, ↓ms7, ↓ml8, ↓ms8, ↓ml9, ↓ms9, ↓ml10, ↓ms10, ↓ml11, ↓ms11, ↓ml12, ↓ms12, ↓ml13, ↓ms13, ↓ml14, ↓ms14, ↓ml15, ↓ms15, ↓ml16, ↓ms16, ↓ml17, ↓ms17, ↓ml18, ↓ms18, ↓ml19, ↓ms19, ↓ml20, ↓ms20, ↓ml21, ↓ml22, ↓ms22, ↓ml23, ↓ms23, ↓ml24, ↓ms24, ↓ml25, ↓ms25, ↓ml27, ↓ms27, ↓ml28, ↓ms28, ↓ml29, ↓ms29, ↓ml30, ↓ms30, ↓ml31, ↓ms31, ↓ml32, ↓ms32, ↓ml33, ↓ms33, ↓ml34, ↓ms34, ↓ml35, ↓ms35, ↓ml36, ↓ms36, ↓ml37, ↓ms37, ↓ml38, ↓ms38, ↓m_xv, ↓xb, ↓xr, ml4, ms4, ml5, ms5, ml6, ms6, ml7, ms7, ml8, ms8, ml9, ms9, ml10, ms10, ml11, ms11, ml12, ms12, ml13, ms13, ml14, ms14, ml15, ms15, ml16, ms16, ml17, ms17, ml18, ms18, ml19, ms19, ml20, ms20, ml21, ml22, ms22, ml23, ms23, ml24, ms24, ml25, ms25, ml27, ms27, ml28, ms28, ml29, ms29, ml30, ms30, ml31, ms31, ml32, ms32, ml33, ms33, ml34, ms34, ml35, ms35, ml36, ms36, ml37, ms37, ml38, ms38, n3, n30, n10, n300, n401, n4p, np1, np2, nI_add, ↓reduceIte]
    | succ d ih =>
      intro k n hk hn
      obtain ⟨n, rfl, hn⟩ := pos_of hn
      have c1 : ¬ nI R ≤ nI k := nI_ge (by omega) (by omega)
      have hl' : lok P R (lookS P σ r k) := hl.same (look_same P σ r k) (by decide)
      have i1 := ih (k + 1) n (by omega) (by omega)
      simp only [lookS] at i1
      have m1 := s_may (h := h) (m := m) (r := r) (k := k) hl'.1 hP1 hP3 hr (by omega) (hl'.2.2.1 k (by omega)).1
      have a1 := s_answer (h := h) (m := m) (r := r) (k := k) hl'.1 hP1 hP3 (by omega) (by omega) (hl'.2.2.1 k (by omega)).1 (hl'.2.2.1 k (by omega)).2 (hl'.2.2.2 r (by omega))
      by_cases h1 : (lookS P σ r k).2.1 27 k = 0
      · cases h2 : mayb P (lookS P σ r k) r k
        · simp (disch := omega) only [f_Mdl_look_h2, f_Mdl_look_b2, f_Mdl_look_b34, c1, hl'.2.1, h1, m1, h2, bI_f, ↓mg0, ↓mg1, ↓mg2, ↓mg3, ↓mg26, ↓mp0, ↓mp1, ↓mp2, ↓mp3, ↓mp26, ↓mg4, ↓mg5, ↓mg6, ↓mg7, ↓mg8, ↓mg9, ↓mg10, ↓mg11, ↓mg12, ↓mg13, ↓mg14, ↓mg15, ↓mg16, ↓mg17, ↓mg18, ↓mg19, ↓mg20, ↓mg21, ↓mg22, ↓mg23, ↓mg24, ↓mg25, ↓mg27, ↓mg28, ↓mg29, ↓mg30, ↓mg31, ↓mg32, ↓mg33, ↓mg34, ↓mg35, ↓mg36, ↓mg37, ↓mg38, ↓ml4, ↓ms4, ↓ml5, ↓ms5, ↓ml6, ↓ms6, ↓ml7, ↓ms7, ↓ml8, ↓ms8, ↓ml9, ↓ms9, ↓ml10, ↓ms10, ↓ml11, ↓ms11, ↓ml12, ↓ms12, ↓ml13, ↓ms13, ↓ml14, ↓ms14, ↓ml15, ↓ms15, ↓ml16, ↓ms16, ↓ml17, ↓ms17, ↓ml18, ↓ms18, ↓ml19, ↓ms19, ↓ml20, ↓ms20, ↓ml21, ↓ml22, ↓ms22, ↓ml23, ↓ms23, ↓ml24, ↓ms24, ↓ml25, ↓ms25, ↓ml27, ↓ms27, ↓ml28, ↓ms28, ↓ml29, ↓ms29, ↓ml30, ↓ms30, ↓ml31, ↓ms31, ↓ml32, ↓ms32, ↓ml33, ↓ms33, ↓ml34, ↓ms34, ↓ml35, ↓ms35, ↓ml36, ↓ms36, ↓ml37, ↓ms37, ↓ml38, ↓ms38, ↓m_xv, ↓xb, ↓xr, ml4, ms4, ml5, ms5, ml6, ms6, ml7, ms7, ml8, ms8, ml9, ms9, ml10, ms10, ml11, ms11, ml12, ms12, ml13, ms13, ml14, ms14, ml15, ms15, ml16, ms16, ml17, ms17, ml18, ms18, ml19, ms19, ml20, ms20, ml21, ml22, ms22, ml23, ms23, ml24, ms24, ml25, ms25, ml27, ms27, ml28, ms28, ml29, ms29, ml30, ms30, ml31, ms31, ml32, ms32, ml33, ms33, ml34, ms34, ml35, ms35, ml36, ms36, ml37, ms37, ml38, ms38, n3, n30, n10, n300, n401, n4p, np1, np2, nI_add, ↓reduceIte]
          simpa only [h1, h2, Bool.false_eq_true, and_false, if_false] using i1
        · simp (disch := omega) only [f_Mdl_look_h2, f_Mdl_look_b2, f_Mdl_look_b34, c1, hl'.2.1, h1, m1, h2, bI_t, a1, show ¬ (1 : Int32) = 0 by decide, ↓mg0, ↓mg1, ↓mg2, ↓mg3, ↓mg26, ↓mp0, ↓mp1, ↓mp2, ↓mp3, ↓mp26, ↓mg4, ↓mg5, ↓mg6, ↓mg7, ↓mg8, ↓mg9, ↓mg10, ↓mg11, ↓mg12, ↓mg13, ↓mg14, ↓mg15, ↓mg16, ↓mg17, ↓mg18, ↓mg19, ↓mg20, ↓mg21, ↓mg22, ↓mg23, ↓mg24, ↓mg25, ↓mg27, ↓mg28, ↓mg29, ↓mg30, ↓mg31, ↓mg32, ↓mg33, ↓mg34, ↓mg35, ↓mg36, ↓mg37, ↓mg38, ↓ml4, ↓ms4, ↓ml5, ↓ms5, ↓ml6, ↓ms6, ↓ml7, ↓ms7, ↓ml8, ↓ms8, ↓ml9, ↓ms9, ↓ml10, ↓ms10, ↓ml11, ↓ms11, ↓ml12, ↓ms12, ↓ml13, ↓ms13, ↓ml14, ↓ms14, ↓ml15, ↓ms15, ↓ml16, ↓ms16, ↓ml17, ↓ms17, ↓ml18, ↓ms18, ↓ml19, ↓ms19, ↓ml20, ↓ms20, ↓ml21, ↓ml22, ↓ms22, ↓ml23, ↓ms23, ↓ml24, ↓ms24, ↓ml25, ↓ms25, ↓ml27, ↓ms27, ↓ml28, ↓ms28, ↓ml29, ↓ms29, ↓ml30, ↓ms30, ↓ml31, ↓ms31, ↓ml32, ↓ms32, ↓ml33, ↓ms33, ↓ml34, ↓ms34, ↓ml35, ↓ms35, ↓ml36, ↓ms36, ↓ml37, ↓ms37, ↓ml38, ↓ms38, ↓m_xv, ↓xb, ↓xr, ml4, ms4, ml5, ms5, ml6, ms6, ml7, ms7, ml8, ms8, ml9, ms9, ml10, ms10, ml11, ms11, ml12, ms12, ml13, ms13, ml14, ms14, ml15, ms15, ml16, ms16, ml17, ms17, ml18, ms18, ml19, ms19, ml20, ms20, ml21, ml22, ms22, ml23, ms23, ml24, ms24, ml25, ms25, ml27, ms27, ml28, ms28, ml29, ms29, ml30, ms30, ml31, ms31, ml32, ms32, ml33, ms33, ml34, ms34, ml35, ms35, ml36, ms36, ml37, ms37, ml38, ms38, n3, n30, n10, n300, n401, n4p, np1, np2, nI_add, ↓reduceIte]
          simpa only [h1, h2, and_self, if_true] using i1
      · simp (disch := omega) only [f_Mdl_look_h2, f_Mdl_look_b2, f_Mdl_look_b34, c1, hl'.2.1, h1, ↓mg0, ↓mg1, ↓mg2, ↓mg3, ↓mg26, ↓mp0, ↓mp1, ↓mp2, ↓mp3, ↓mp26, ↓mg4, ↓mg5, ↓mg6, ↓mg7, ↓mg8, ↓mg9, ↓mg10, ↓mg11, ↓mg12, ↓mg13, ↓mg14, ↓mg15, ↓mg16, ↓mg17, ↓mg18, ↓mg19, ↓mg20, ↓mg21, ↓mg22, ↓mg23, ↓mg24, ↓mg25, ↓mg27, ↓mg28, ↓mg29, ↓mg30, ↓mg31, ↓mg32, ↓mg33, ↓mg34, ↓mg35, ↓mg36, ↓mg37, ↓mg38, ↓ml4, ↓ms4, ↓ml5, ↓ms5, ↓ml6, ↓ms6, ↓ml7, ↓ms7, ↓ml8, ↓ms8, ↓ml9, ↓ms9, ↓ml10, ↓ms10, ↓ml11, ↓ms11, ↓ml12, ↓ms12, ↓ml13, ↓ms13, ↓ml14, ↓ms14, ↓ml15, ↓ms15, ↓ml16, ↓ms16, ↓ml17, ↓ms17, ↓ml18, ↓ms18, ↓ml19, ↓ms19, ↓ml20, ↓ms20, ↓ml21, ↓ml22, ↓ms22, ↓ml23, ↓ms23, ↓ml24, ↓ms24, ↓ml25, ↓ms25, ↓ml27, ↓ms27, ↓ml28, ↓ms28, ↓ml29, ↓ms29, ↓ml30, ↓ms30, ↓ml31, ↓ms31, ↓ml32, ↓ms32, ↓ml33, ↓ms33, ↓ml34, ↓ms34, ↓ml35, ↓ms35, ↓ml36, ↓ms36, ↓ml37, ↓ms37, ↓ml38, ↓ms38, ↓m_xv, ↓xb, ↓xr, ml4, ms4, ml5, ms5, ml6, ms6, ml7, ms7, ml8, ms8, ml9, ms9, ml10, ms10, ml11, ms11, ml12, ms12, ml13, ms13, ml14, ms14, ml15, ms15, ml16, ms16, ml17, ms17, ml18, ms18, ml19, ms19, ml20, ms20, ml21, ml22, ms22, ml23, ms23, ml24, ms24, ml25, ms25, ml27, ms27, ml28, ms28, ml29, ms29, ml30, ms30, ml31, ms31, ml32, ms32, ml33, ms33, ml34, ms34, ml35, ms35, ml36, ms36, ml37, ms37, ml38, ms38, n3, n30, n10, n300, n401, n4p, np1, np2, nI_add, ↓reduceIte]
        simpa only [h1, false_and, if_false] using i1
  exact key R 0 1000 (by omega) (by omega)
end XMU
