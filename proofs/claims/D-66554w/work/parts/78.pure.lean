/-! a read taken into the layout -/
def addR (x : xX) (a b : Nat) : xX := (fun d => if d = (25, dR x, 0) then a else if d = (26, dR x, 0) then b else if d = (27, dR x, 0) then b + 1 else x.1 d, fun q => if q = a then (25, dR x, 0) else if q = b then (26, dR x, 0) else if q = b + 1 then (27, dR x, 0) else x.2.1 q, (dP x, dN x, dR x + 1), x.2.2.2)
section XDA
variable {β : Type} {x x' : xX} {y y' : xY} {σ σ' : xS} {h : xH} {T : Nat} {t : Nat → Nat}
theorem addR_R (a b : Nat) : dR (addR x a b) = dR x + 1 := rfl
theorem addR_v {a b t i j : Nat} : vd (addR x a b) t i j = true → vd x t i j = true ∨ ((t = 25 ∨ t = 26 ∨ t = 27) ∧ i = dR x ∧ j = 0) := by
  intro hv
  by_cases ht : t = 25 ∨ t = 26 ∨ t = 27
  · have hb : i < dR x + 1 ∧ j = 0 := by
      rcases ht with rfl | rfl | rfl <;> exact of_decide_eq_true hv
    by_cases hi : i = dR x
    · exact Or.inr ⟨ht, hi, hb.2⟩
    · left
      have hb2 : i < dR x ∧ j = 0 := by omega
      rcases ht with rfl | rfl | rfl <;> exact decide_eq_true hb2
  · left
    rw [← hv]
    unfold vd
    split <;> first | rfl | (exfalso; omega)
theorem addR_v2 {a b t i j : Nat} (hv : vd x t i j = true) : vd (addR x a b) t i j = true := by
  by_cases ht : t = 25 ∨ t = 26 ∨ t = 27
  · have hb : i < dR x ∧ j = 0 := by
      rcases ht with rfl | rfl | rfl <;> exact of_decide_eq_true hv
    have hb2 : i < dR x + 1 ∧ j = 0 := by omega
    rcases ht with rfl | rfl | rfl <;> exact decide_eq_true hb2
  · rw [← hv]
    unfold vd
    split <;> first | rfl | (exfalso; omega)
theorem addR_o {t i j : Nat} (hv : vd x t i j = true) : ¬ ((t = 25 ∨ t = 26 ∨ t = 27) ∧ i = dR x ∧ j = 0) := by
  rintro ⟨ht, rfl, rfl⟩
  have hb : dR x < dR x ∧ 0 = 0 := by
    rcases ht with rfl | rfl | rfl <;> exact of_decide_eq_true hv
  omega
theorem addR_en {a b t i j : Nat} (hn : ¬ ((t = 25 ∨ t = 26 ∨ t = 27) ∧ i = dR x ∧ j = 0)) : en (addR x a b) t i j = en x t i j := by
  show (if (t, i, j) = (25, dR x, 0) then a else if (t, i, j) = (26, dR x, 0) then b else if (t, i, j) = (27, dR x, 0) then b + 1 else x.1 (t, i, j)) = _
  rw [if_neg (fun q => hn (by cases q; exact ⟨Or.inl rfl, rfl, rfl⟩)), if_neg (fun q => hn (by cases q; exact ⟨Or.inr (Or.inl rfl), rfl, rfl⟩)), if_neg (fun q => hn (by cases q; exact ⟨Or.inr (Or.inr rfl), rfl, rfl⟩))]
  rfl
theorem addR_25 (a b : Nat) : en (addR x a b) 25 (dR x) 0 = a := if_pos rfl
theorem addR_26 (a b : Nat) : en (addR x a b) 26 (dR x) 0 = b := by
  show (if (26, dR x, 0) = (25, dR x, 0) then a else if (26, dR x, 0) = (26, dR x, 0) then b else _) = _
  rw [if_neg (by simp), if_pos rfl]
theorem addR_27 (a b : Nat) : en (addR x a b) 27 (dR x) 0 = b + 1 := by
  show (if (27, dR x, 0) = (25, dR x, 0) then a else if (27, dR x, 0) = (26, dR x, 0) then b else if (27, dR x, 0) = (27, dR x, 0) then b + 1 else _) = _
  rw [if_neg (by simp), if_neg (by simp), if_pos rfl]
theorem addR_tg (a b q : Nat) : tg (addR x a b) q = if q = a then (25, dR x, 0) else if q = b then (26, dR x, 0) else if q = b + 1 then (27, dR x, 0) else tg x q := rfl
theorem addR_wx {a b : Nat} (hx : Wx x) (hR : dR x < 500) (hab : a ≠ b ∧ a ≠ b + 1) (ho : off x a) (ho1 : off x b) (ho2 : off x (b + 1)) : Wx (addR x a b) := by
  refine ⟨fun t i j hv => ?_, hx.2.1, hx.2.2.1, hx.2.2.2.1, by rw [addR_R]; omega⟩
  rcases addR_v hv with hv | ⟨ht, rfl, rfl⟩
  · rw [addR_en (addR_o hv), addR_tg, if_neg (ho t i j hv), if_neg (ho1 t i j hv), if_neg (ho2 t i j hv)]
    exact hx.1 t i j hv
  · rcases ht with rfl | rfl | rfl
    · rw [addR_25, addR_tg, if_pos rfl]
    · rw [addR_26, addR_tg, if_neg (by omega), if_pos rfl]
    · rw [addR_27, addR_tg, if_neg (by omega), if_neg (by omega), if_pos rfl]
theorem cd_en2 (hx1 : ∀ t i j, en x' t i j = en x t i j ∨ t = 25 ∨ t = 26 ∨ t = 27) (hP : dP x' = dP x) (hN : dN x' = dN x) {t i j : Nat} (ht : t ≠ 25 ∧ t ≠ 26) : cd x' y σ t i j = cd x y σ t i j := by
  have g : ∀ t i j, t ≠ 25 → t ≠ 26 → t ≠ 27 → en x' t i j = en x t i j := fun t i j a b c => (hx1 t i j).resolve_right (fun q => by omega)
  match t with
  | 25 => exact absurd rfl ht.1
  | 26 => exact absurd rfl ht.2
  | 0 => simp only [cd, g 4 0 0 (by decide) (by decide) (by decide), g 7 0 0 (by decide) (by decide) (by decide), g 1 0 0 (by decide) (by decide) (by decide), g 2 0 0 (by decide) (by decide) (by decide), g 3 0 0 (by decide) (by decide) (by decide)]
  | 1 => simp only [cd, fun k => g 17 k 0 (by decide) (by decide) (by decide)]
  | 2 => rfl
  | 3 => rfl
  | 4 => simp only [cd, hP, fun k => g 5 k 0 (by decide) (by decide) (by decide)]
  | 5 => simp only [cd, g 6 i 0 (by decide) (by decide) (by decide)]
  | 6 => rfl
  | 7 => simp only [cd, hN, fun k => g 8 k 0 (by decide) (by decide) (by decide)]
  | 8 => simp only [cd, g 9 i 0 (by decide) (by decide) (by decide), g 9 (4 + i) 0 (by decide) (by decide) (by decide)]
  | 9 => simp only [cd, g 10 i 0 (by decide) (by decide) (by decide), g 11 i 0 (by decide) (by decide) (by decide), g 12 i 0 (by decide) (by decide) (by decide), g 13 i 0 (by decide) (by decide) (by decide)]
  | 10 => simp only [cd, fun k => g 14 i k (by decide) (by decide) (by decide)]
  | 11 => rfl
  | 12 => rfl
  | 13 => simp only [cd, g 16 i 0 (by decide) (by decide) (by decide)]
  | 14 => simp only [cd, g 15 i j (by decide) (by decide) (by decide)]
  | 15 => rfl
  | 16 => rfl
  | 17 => simp only [cd, g 18 i 0 (by decide) (by decide) (by decide), g 20 i 0 (by decide) (by decide) (by decide)]
  | 18 => simp only [cd, g 19 i 0 (by decide) (by decide) (by decide)]
  | 19 => rfl
  | 20 => simp only [cd, g 21 i 0 (by decide) (by decide) (by decide)]
  | 21 => rfl
  | 22 => simp only [cd, g 23 i j (by decide) (by decide) (by decide)]
  | 23 => simp only [cd, g 24 i j (by decide) (by decide) (by decide)]
  | 24 => rfl
  | 27 => rfl
  | n + 28 => rfl
theorem uI_ne {k i f j : Nat} {v : Int32} (hj : j ≠ i) : (uI σ k i v).2.1 f j = σ.2.1 f j := by
  by_cases hk : f = k
  · subst hk
    exact uI_i hj
  · rw [uI_o hk]
theorem uJ_ne {k i f j : Nat} {v : Int64} (hj : j ≠ i) : (uJ σ k i v).2.2 f j = σ.2.2 f j := by
  by_cases hk : f = k
  · subst hk
    exact uJ_i hj
  · rw [uJ_o hk]
/-- the read's row as it is written, its state 0 -/
def rT (σ : xS) (R s : Nat) (tok : Int64) (bd pt kd ab : Int32) : xS := uI (askT σ R s tok bd pt kd ab) 27 R 0
section XDB
variable {R s : Nat} {tok : Int64} {bd pt kd ab : Int32}
theorem askT_o {f j : Nat} (hj : j ≠ R) (hf : f ≠ 29) : (askT σ R s tok bd pt kd ab).2.1 f j = σ.2.1 f j := by
  unfold askT
  rw [uI_ne hj, uJ_I, uJ_I, uI_ne hj, uI_ne hj, uI_ne hj, uI_ne hj, uI_ne hj, uI_ne hj, (nq_same _ _ _ _).2.1 f (by simpa using hf), uI_ne hj]
theorem askT_oJ {f j : Nat} (hj : j ≠ R) (hf : f ≠ 29) : (askT σ R s tok bd pt kd ab).2.2 f j = σ.2.2 f j := by
  unfold askT
  rw [uI_J, uJ_ne hj, uJ_ne hj, uI_J, uI_J, uI_J, uI_J, uI_J, uI_J, (nq_same _ _ _ _).2.2 f (by simpa using hf), uI_J]
theorem nqS_at (σ : xS) (q n : Nat) (hq : q < n) : (nqS σ R tok n).2.1 29 (3 * R + q) = posS tok q := by
  induction n with
  | zero => omega
  | succ n ih =>
    show (uI (nqS σ R tok n) 29 (3 * R + n) (posS tok n)).2.1 29 (3 * R + q) = _
    by_cases hqn : q = n
    · subst hqn
      exact uI_g _ _ _ _
    · rw [uI_i (by omega)]
      exact ih (by omega)
theorem nqS_o (σ : xS) (j n : Nat) (hj : ∀ q, q < n → j ≠ 3 * R + q) : (nqS σ R tok n).2.1 29 j = σ.2.1 29 j := by
  induction n with
  | zero => rfl
  | succ n ih =>
    show (uI (nqS σ R tok n) 29 (3 * R + n) (posS tok n)).2.1 29 j = _
    rw [uI_i (hj n (by omega))]
    exact ih (fun q hq => hj q (by omega))
theorem askT_n : (askT σ R s tok bd pt kd ab).2.1 29 = (nqS (uI σ 28 R (nI s)) R tok 3).2.1 29 := by
  unfold askT
  rw [uI_o (by decide), uJ_I, uJ_I, uI_o (by decide), uI_o (by decide), uI_o (by decide), uI_o (by decide), uI_o (by decide), uI_o (by decide)]
theorem askT_29 {q : Nat} (hq : q < 3) : (askT σ R s tok bd pt kd ab).2.1 29 (3 * R + q) = posS tok q := by
  rw [askT_n, nqS_at _ _ _ hq]
theorem askT_29o {j : Nat} (hj : ∀ q, q < 3 → j ≠ 3 * R + q) : (askT σ R s tok bd pt kd ab).2.1 29 j = σ.2.1 29 j := by
  rw [askT_n, nqS_o _ _ _ hj, uI_o (by decide)]
theorem askT_30 : (askT σ R s tok bd pt kd ab).2.1 30 R = bd := by
  unfold askT
  rw [uI_o (by decide), uJ_I, uJ_I, uI_o (by decide), uI_o (by decide), uI_o (by decide), uI_o (by decide), uI_o (by decide), uI_g]
theorem askT_31 : (askT σ R s tok bd pt kd ab).2.1 31 R = pt := by
  unfold askT
  rw [uI_o (by decide), uJ_I, uJ_I, uI_o (by decide), uI_o (by decide), uI_o (by decide), uI_o (by decide), uI_g]
theorem askT_32 : (askT σ R s tok bd pt kd ab).2.1 32 R = σ.1 3 := by
  unfold askT
  rw [uI_o (by decide), uJ_I, uJ_I, uI_o (by decide), uI_o (by decide), uI_o (by decide), uI_g]
theorem askT_35 : (askT σ R s tok bd pt kd ab).2.1 35 R = -1 := by
  unfold askT
  rw [uI_o (by decide), uJ_I, uJ_I, uI_g]
theorem askT_36 : (askT σ R s tok bd pt kd ab).2.2 36 R = 0 := by
  unfold askT
  rw [uI_J, uJ_o (by decide), uJ_g]
theorem askT_37 : (askT σ R s tok bd pt kd ab).2.2 37 R = 0 := by
  unfold askT
  rw [uI_J, uJ_g]
theorem askT_38 : (askT σ R s tok bd pt kd ab).2.1 38 R = -1 := by
  unfold askT
  rw [uI_g]
theorem rT_same : same [27, 28, 29, 30, 31, 32, 33, 34, 35, 36, 37, 38] σ (rT σ R s tok bd pt kd ab) := same.trans ((askT_same σ R s tok bd pt kd ab).mono (by decide)) (same.uI _ _ _ (by decide))
theorem rT_f {f : Nat} (hf : f ≠ 27) : (rT σ R s tok bd pt kd ab).2.1 f = (askT σ R s tok bd pt kd ab).2.1 f := uI_o hf
theorem rT_J : (rT σ R s tok bd pt kd ab).2.2 = (askT σ R s tok bd pt kd ab).2.2 := uI_J _ _ _ _
theorem rT_o {f j : Nat} (hj : j ≠ R) (hf : f ≠ 29) : (rT σ R s tok bd pt kd ab).2.1 f j = σ.2.1 f j := by
  unfold rT
  rw [uI_ne hj, askT_o hj hf]
end XDB
theorem cd_25 (i : Nat) : cd x y σ 25 i 0 = .inr (4, [.int (nI i), .int (σ.2.1 28 i), .ref (en x 26 i 0), .int (σ.2.1 30 i), .long ((σ.2.1 32 i).toInt64 + (σ.2.1 31 i).toInt64), .int (σ.2.1 33 i), .int (σ.2.1 34 i), .int (σ.2.1 27 i), .int (σ.2.1 35 i), .long (σ.2.2 36 i), .long (σ.2.2 37 i), .long (σ.2.1 38 i).toInt64]) := rfl
theorem cd_26 (i : Nat) : cd x y σ 26 i 0 = .inr (8, [.ref (en x 27 i 0)]) := rfl
theorem cd_27 (i : Nat) : cd x y σ 27 i 0 = .inl (0, 3, .inl (cl 3 fun p => σ.2.1 29 (3 * i + p))) := rfl
theorem rT_27 {R s : Nat} {tok : Int64} {bd pt kd ab : Int32} : (rT σ R s tok bd pt kd ab).2.1 27 R = 0 := uI_g _ _ _ _
theorem m1_64 : (-1 : Int32).toInt64 = -1 := by decide
theorem addR_enq (a b : Nat) (t i j : Nat) : en (addR x a b) t i j = en x t i j ∨ t = 25 ∨ t = 26 ∨ t = 27 := by
  by_cases ht : t = 25 ∨ t = 26 ∨ t = 27
  · exact Or.inr ht
  · exact Or.inl (addR_en (fun q => ht q.1))
/-- the new read in the layout -/
theorem er_addR {s a b : Nat} {tok : Int64} {bd pt kd ab : Int32} {H : xH} (hx : Wx x) (hR : dR x < 500) (hab : a ≠ b ∧ a ≠ b + 1) (ho : off x a) (ho1 : off x b) (ho2 : off x (b + 1)) (e0 : H.2 a = some (.inr (4, [.int (nI (dR x)), .int (nI s), .ref b, .int bd, .long ((σ.1 3).toInt64 + pt.toInt64), .int kd, .int ab, .int 0, .int (-1), .long 0, .long 0, .long (-1)]))) (e1 : H.2 b = some (.inr (8, [.ref (b + 1)]))) (e2 : H.2 (b + 1) = some (.inl (0, 3, .inl (pr tok 3)))) :
    er x y σ H = er (addR x a b) y (rT σ (dR x) s tok bd pt kd ab) H := by
  have hx' := addR_wx hx hR hab ho ho1 ho2
  refine er_adopt hx hx' (fun t i j hv => ?_) (fun t i j hv => ?_)
  · have hn := addR_o hv
    refine ⟨addR_v2 hv, addR_en hn, ?_⟩
    by_cases h25 : t = 25
    · subst h25
      have hb : i < dR x ∧ j = 0 := of_decide_eq_true hv
      obtain ⟨hi, rfl⟩ := hb
      have hne : i ≠ dR x := by omega
      rw [cd_25, cd_25, rT_o hne (by decide), rT_o hne (by decide), rT_o hne (by decide), rT_o hne (by decide), rT_o hne (by decide), rT_o hne (by decide), rT_o hne (by decide), rT_o hne (by decide), rT_o hne (by decide), rT_J, askT_oJ hne (by decide), askT_oJ hne (by decide), addR_en (fun q => hne q.2.1)]
    by_cases h26 : t = 26
    · subst h26
      have hb : i < dR x ∧ j = 0 := of_decide_eq_true hv
      rw [hb.2, cd_26, cd_26, addR_en (fun q => by omega)]
    by_cases h27 : t = 27
    · subst h27
      have hb : i < dR x ∧ j = 0 := of_decide_eq_true hv
      rw [hb.2, cd_27, cd_27]
      congr 4
      refine cl_ext fun q hq => ?_
      rw [rT_f (by decide), askT_29o (fun r hr => by omega)]
    · rw [cd_en2 (addR_enq a b) rfl rfl ⟨h25, h26⟩]
      refine cd_same rT_same t i j (fun k hk hm => ?_)
      simp at hm
      rcases hm with rfl | rfl | rfl | rfl | rfl | rfl | rfl | rfl | rfl | rfl | rfl | rfl
      · exact h25 (rd27 hk)
      · exact h25 (rd28 hk)
      · exact h27 (rd29 hk)
      · exact h25 (rd30 hk)
      · exact h25 (rd31 hk)
      · exact h25 (rd32 hk)
      · exact h25 (rd33 hk)
      · exact h25 (rd34 hk)
      · exact h25 (rd35 hk)
      · exact h25 (rd36 hk)
      · exact h25 (rd37 hk)
      · exact h25 (rd38 hk)
  · rcases addR_v hv with hv | ⟨ht, rfl, rfl⟩
    · exact Or.inl hv
    · right
      rcases ht with rfl | rfl | rfl
      · rw [addR_25]
        refine ⟨ho, e0.trans ?_⟩
        rw [cd_25, rT_27, rT_f (by decide), rT_f (by decide), rT_f (by decide), rT_f (by decide), rT_f (by decide), rT_f (by decide), rT_f (by decide), rT_f (by decide), rT_J, askT_28, askT_30, askT_31, askT_32, askT_33, askT_34, askT_35, askT_36, askT_37, askT_38, addR_26, m1_64]
      · rw [addR_26]
        refine ⟨ho1, e1.trans ?_⟩
        rw [cd_26, addR_27]
      · rw [addR_27]
        refine ⟨ho2, e2.trans ?_⟩
        rw [cd_27]
        congr 5
        unfold pr
        refine cl_ext fun q hq => ?_
        rw [rT_f (by decide), askT_29 hq]
end XDA
