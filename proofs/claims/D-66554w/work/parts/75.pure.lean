/-! the component: command, the whole -/
section XCS
variable {β : Type} {x x' : xX} {y y' : xY} {σ σ' : xS} {h : xH} {T : Nat} {t : Nat → Nat}
theorem addC_enq (p a : Nat) (t i j : Nat) : en (addC x p a) t i j = en x t i j ∨ t = 22 ∨ t = 23 ∨ t = 24 := by
  by_cases ht : t = 22 ∨ t = 23 ∨ t = 24
  · exact Or.inr ht
  · exact Or.inl (addC_en (fun q => ht q.1))
/-- the new command in the layout -/
theorem er_addC {s p : Nat} {kd it cu am : Int32} {H : xH} (hx : Wx x) (hp : p < dP x) (hE : dE x p < 400) (hs : s < 8) (ho : off x h.1.1) (ho1 : off x (h.1.1 + 1)) (ho2 : off x (h.1.1 + 2)) (e0 : H.2 h.1.1 = some (.inr (1, [.int kd, .int it, .int cu, .int am, .ref (h.1.1 + 1)]))) (e1 : H.2 (h.1.1 + 1) = some (.inr (8, [.ref (h.1.1 + 2)]))) (e2 : H.2 (h.1.1 + 2) = some (.inl (0, 3, .inl (cl 3 (needN σ s))))) :
    er x y (uI (uI σ 4 p (nI (dE x p + 1))) 24 (3 * s + p) (nI (dE x p + 1))) H = er (addC x p h.1.1) y (cmdS σ s p (dE x p) kd it cu am) H := by
  have hx' := addC_wx hx hp hE ho ho1 ho2
  refine er_adopt hx hx' (fun t i j hv => ?_) (fun t i j hv => ?_)
  · have hn := addC_o (p := p) hv
    refine ⟨addC_v2 hv, addC_en hn, ?_⟩
    have hsm := cmdS_same σ s p (dE x p) kd it cu am
    by_cases h22 : t = 22
    · subst h22
      have hb : i < dP x ∧ 1 ≤ j ∧ j ≤ dE x i := of_decide_eq_true hv
      have hP3 := hx.2.2.1
      have hne : 401 * i + j ≠ 401 * p + (dE x p + 1) := by
        have := hx.2.1 i hb.1
        by_cases hip : i = p
        · subst hip
          omega
        · omega
      show Sum.inr (1, [Value.int _, Value.int _, Value.int _, Value.int _, Value.ref (en (addC x p h.1.1) 23 i j)]) = Sum.inr (1, [Value.int _, Value.int _, Value.int _, Value.int _, Value.ref (en x 23 i j)])
      rw [cmdS_k (Or.inl rfl) hne, cmdS_k (Or.inr (Or.inl rfl)) hne, cmdS_k (Or.inr (Or.inr (Or.inl rfl))) hne, cmdS_k (Or.inr (Or.inr (Or.inr rfl))) hne, addC_en (fun q => hn ⟨Or.inl rfl, q.2⟩)]
      rfl
    by_cases h23 : t = 23
    · subst h23
      show Sum.inr (8, [Value.ref (en (addC x p h.1.1) 24 i j)]) = Sum.inr (8, [Value.ref (en x 24 i j)])
      rw [addC_en (fun q => hn ⟨Or.inr (Or.inl rfl), q.2⟩)]
    by_cases h24 : t = 24
    · subst h24
      have hb : i < dP x ∧ 1 ≤ j ∧ j ≤ dE x i := of_decide_eq_true hv
      have hP3 := hx.2.2.1
      have hne : 401 * i + j ≠ 401 * p + (dE x p + 1) := by
        have := hx.2.1 i hb.1
        by_cases hip : i = p
        · subst hip
          omega
        · omega
      show Sum.inl (0, 3, Sum.inl (cl 3 fun q => (cmdS σ s p (dE x p) kd it cu am).2.1 10 (3 * (401 * i + j) + q))) = Sum.inl (0, 3, Sum.inl (cl 3 fun q => σ.2.1 10 (3 * (401 * i + j) + q)))
      congr 4
      refine cl_ext fun q hq => ?_
      exact cmdS_10o (fun r hr => by omega)
    · rw [cd_en (addC_enq p h.1.1) rfl rfl ⟨h22, h23⟩]
      refine cd_same hsm t i j (fun k hk hm => ?_)
      simp at hm
      rcases hm with rfl | rfl | rfl | rfl | rfl
      · exact h22 (rd6 hk)
      · exact h22 (rd7 hk)
      · exact h22 (rd8 hk)
      · exact h22 (rd9 hk)
      · exact h24 (rd10 hk)
  · rcases addC_v hv with hv | ⟨ht, rfl, rfl⟩
    · exact Or.inl hv
    · right
      obtain ⟨a6, a7, a8, a9⟩ := cmdS_at σ s i (dE x i) kd it cu am
      rcases ht with rfl | rfl | rfl
      · rw [addC_22]
        refine ⟨ho, e0.trans ?_⟩
        show _ = some (Sum.inr (1, [Value.int _, Value.int _, Value.int _, Value.int _, Value.ref (en (addC x i h.1.1) 23 i (dE x i + 1))]))
        rw [a6, a7, a8, a9, addC_23]
      · rw [addC_23]
        refine ⟨ho1, e1.trans ?_⟩
        show _ = some (Sum.inr (8, [Value.ref (en (addC x i h.1.1) 24 i (dE x i + 1))]))
        rw [addC_24]
      · rw [addC_24]
        refine ⟨ho2, e2.trans ?_⟩
        show _ = some (Sum.inl (0, 3, Sum.inl (cl 3 fun q => (cmdS σ s i (dE x i) kd it cu am).2.1 10 (3 * (401 * i + (dE x i + 1)) + q))))
        congr 5
        refine cl_ext fun q hq => ?_
        exact (cmdS_10 σ s i (dE x i) q kd it cu am hq).symm
end XCS
