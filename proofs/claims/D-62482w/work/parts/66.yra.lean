/-! LAYER 2: the law's own row; the relation moves on -/
set_option maxRecDepth 100000
section RCW
variable {A : gA} {M0 : gM}
/-- a store into the law's row -/
theorem RL.out {M : gM} {S : gm_S} {out i : Nat} {v : Value} (h : RL A M0 M S) (ht : gs_t S out = 104) : RL A M0 M (gs_put S 2 out i v) := by
  have g := ag.put (S := S) (F := 2) (a := out) (i := i) (v := v) (by decide)
  obtain ⟨c1, c2, b⟩ := h.b
  obtain ⟨b1, b2, b3, b4, b5, b6, b7, b8, b9⟩ := b
  obtain ⟨-, -, -, -, -, u6, -, -, u9, -⟩ := id b9
  have n3 : A 3 0 ≠ out := fun z => by have := b3.2.1; rw [z, ht] at this; cases this
  have n4 : A 4 0 ≠ out := fun z => by have := b4.2.1; rw [z, ht] at this; cases this
  have n5 : A 5 0 ≠ out := fun z => by have := b6.2.1; rw [z, ht] at this; cases this
  have n340 : A 34 0 ≠ out := fun z => by rw [z, ht] at u9; cases u9
  have n342 : A 34 2 ≠ out := fun z => by rw [z, ht] at u6; cases u6
  have cap : ∀ b, g_cap (gs_put S 2 out i v) b = g_cap S b := fun b => y_cap (by decide)
  have pb : ∀ d1 d2, rDb A S d1 d2 → rDb A (gs_put S 2 out i v) d1 d2 := fun d1 d2 z => z.same rfl rfl rfl cap
  have pr : rR A M (gs_put S 2 out i v) := b9.mono g ⟨fun k a hk z => by omega, fun k a hk z => by omega, fun a z => by omega, fun z => n340 z.2, fun z => n342 z.2⟩ (fun _ _ _ => rfl)
  have hi := b1.put (F := 2) (i := i) (v := v) (by decide) (by rw [ht]; decide : gs_t S out ≠ 0)
  obtain ⟨c1, c2, ⟨C, h⟩ | h⟩ := h
  · exact ⟨c1, c2, Or.inl ⟨C, hi, h.W, h.H.kp (ag_kp2 g (fun F a z => by rw [z.1]; decide) (fun _ z => z.elim)), h.mc, h.a.mono g (by simp) (fun _ _ _ => rfl), h.v.mono g (by simp [n3]) (fun _ => rfl), h.q.mono g (by simp [n4]) (fun _ _ _ => rfl), h.s.mono g (by simp) (by simp) (fun _ _ _ => rfl), h.t.mono g (by simp [n5]) (fun _ _ _ => rfl), h.c.mono g (by simp), h.h.mono g (by simp) (fun _ _ _ => rfl), pb _ _ h.b, pr⟩⟩
  · obtain ⟨⟨e1, e2, e3, e4, e5, e6, e7, e8, e9⟩, m1, m2, m3, m4⟩ := h
    exact ⟨c1, c2, Or.inr ⟨⟨hi, e2.mono g (by simp) (fun _ _ _ => rfl), e3.mono g (by simp [n3]) (fun _ => rfl), e4.mono g (by simp [n4]) (fun _ _ _ => rfl), e5.mono g (by simp) (by simp) (fun _ _ _ => rfl), e6.mono g (by simp [n5]) (fun _ _ _ => rfl), e7.mono g (by simp), pb _ _ e8, pr⟩, (g.2.2 (A 8 0) (by rw [m1]; decide)).trans m1, m2, m3, m4⟩⟩
/-- the relation without a chart, where only fresh cells (and the model's own) are new -/
theorem RN.move {M0' M : gM} {S S' : gm_S} {c1 c2 d0 d1 : Nat} (h : RN A M0 M S c1 c2) (g : ag (fun _ _ => False) (fun _ => False) S S') (hi : g_inv M0' S') (hc : gs_c S' ≤ gs_c S + d0) (hk : gs_k S' ≤ gs_k S + d1) (hb : A 33 0 + d0 ≤ 600000) (hb' : A 33 1 + d1 ≤ 7301000) : RN (aB A (A 33 0 + d0) (A 33 1 + d1)) M0' M S' c1 c2 := by
  obtain ⟨⟨e1, e2, e3, e4, e5, e6, e7, ⟨k1, k2, k3, k4, k5, k6, k7⟩, e9⟩, m1, m2, m3, m4⟩ := h
  have t6 : gs_t S (A 6 0) ≠ 0 := by rw [e5.2.1]; decide
  have tc1 : gs_t S c1 ≠ 0 := by rw [e7.2.2.1]; decide
  have tc2 : gs_t S c2 ≠ 0 := by rw [e7.2.2.2.1]; decide
  have cap : ∀ a, gs_t S a ≠ 0 → g_cap S' a = g_cap S a := fun a ha => by unfold g_cap; rw [g.1 _ _ _ ha (fun z => z)]
  have l6 := g.2.1 _ t6 (fun q => q)
  have q1 : p_c A S' c1 c2 ≤ A 33 0 + d0 := by
    unfold p_c at k1 ⊢
    rw [cap _ t6, cap _ tc1, cap _ tc2, l6]
    omega
  have q2 : p_k A S' c1 c2 ≤ A 33 1 + d1 := by
    unfold p_k at k2 ⊢
    rw [cap _ t6, cap _ tc1, cap _ tc2, l6]
    omega
  have pr := e9.mono g (M' := M) ⟨fun _ _ _ z => z, fun _ _ _ z => z, fun _ z => z, fun z => z, fun z => z⟩ (fun _ _ _ => rfl)
  exact ⟨⟨hi, e2.mono g (by simp) (fun _ _ _ => rfl), e3.mono g (by simp) (fun _ => rfl), e4.mono g (by simp) (fun _ _ _ => rfl), e5.mono g (by simp) (fun z => z) (fun _ _ _ => rfl), e6.mono g (by simp) (fun _ _ _ => rfl), e7.mono g (by simp), ⟨q1, q2, hb, hb', by rw [← cap _ t6] at k5; exact k5, by rw [← cap _ tc1] at k6; exact k6, by rw [← cap _ tc2] at k7; exact k7⟩, pr⟩, (g.2.2 (A 8 0) (by rw [m1]; decide)).trans m1, (g.2.1 (A 8 0) (by rw [m1]; decide) (fun q => q)).trans m2, m3, m4⟩
end RCW
