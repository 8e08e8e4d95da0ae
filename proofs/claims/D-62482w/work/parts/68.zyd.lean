/-! LAYER 2, build: the old chart stays -/
set_option maxRecDepth 100000
section RDZs
variable {A : gA} {M0 : gM}
/-- the side of the model's memory that holds a chart -/
def inS (w k i : Nat) : Prop := k = 7 ∨ (9 ≤ k ∧ k ≤ 13 ∧ i = w) ∨ (14 ≤ k ∧ k ≤ 17 ∧ 16 * w ≤ i ∧ i < 16 * w + 16) ∨ (18 ≤ k ∧ k ≤ 22 ∧ 24 * w ≤ i ∧ i < 24 * w + 24) ∨ (23 ≤ k ∧ k ≤ 32 ∧ 64 * w ≤ i ∧ i < 64 * w + 64) ∨ (33 ≤ k ∧ k ≤ 37 ∧ 48 * w ≤ i ∧ i < 48 * w + 48)
theorem cW_side {C C' : gM} (h : cW A C) (e : ∀ k i, inS (A 9 5) k i → C' k i = C k i) : cW A C' := by
  obtain ⟨⟨z1, z2, z3, z4, z5, z6, z7, z8, z9, z10, z11⟩, h1, h2, h3, h4, h5, h6⟩ := h
  have mi : ∀ k i, inS (A 9 5) k i → n_I C' k i = n_I C k i := fun k i q => by unfold n_I; rw [e k i q]
  have md : ∀ k i, inS (A 9 5) k i → n_D C' k i = n_D C k i := fun k i q => by unfold n_D; rw [e k i q]
  have ek : ∀ i, i < A 9 0 → c_kind A C' i = c_kind A C i := fun i u => mi _ _ (by unfold inS; omega)
  have eb : ∀ i, i < A 9 0 → c_bel A C' i = c_bel A C i := fun i u => mi _ _ (by unfold inS; omega)
  have es : ∀ i, i < A 9 0 → c_sub A C' i = c_sub A C i := fun i u => by unfold c_sub; rw [eb i u]
  refine ⟨⟨by rw [mi _ _ (by unfold inS; omega)]; exact z1, z2, z3, z4, z5, z6, z7, z8, by rw [mi _ _ (by unfold inS; omega)]; exact z9, by rw [mi _ _ (by unfold inS; omega)]; exact z10, by rw [mi _ _ (by unfold inS; omega)]; exact z11⟩, fun i u => ?_, fun i u => ?_, fun t u => ?_, fun k u => ?_, fun j u => ?_, fun a u => ?_⟩
  · have := h1 i u
    unfold cW1 at this ⊢
    rw [mi 15 _ (by unfold inS; omega), ek i u]
    exact this
  · obtain ⟨w1, w2, w3⟩ := h2 i u
    refine ⟨by rw [eb i u]; exact w1, fun j uj q => ?_, fun j k uj uk q1 q2 q3 => ?_⟩
    · rw [es j uj, eb i u]; exact w2 j uj q
    · rw [es j uj, es k uk]; exact w3 j k uj uk q1 q2 q3
  · have := h3 t u
    unfold cW3 at this ⊢
    rw [mi 18 _ (by unfold inS; omega), mi 20 _ (by unfold inS; omega), mi 21 _ (by unfold inS; omega), mi 22 _ (by unfold inS; omega)]
    exact this
  · have := h4 k u
    unfold cW4 at this ⊢
    rw [mi 23 _ (by unfold inS; omega)]
    exact this
  · have := h5 j u
    unfold cW5 at this ⊢
    rw [mi 26 _ (by unfold inS; omega), mi 27 _ (by unfold inS; omega), mi 29 _ (by unfold inS; omega), mi 30 _ (by unfold inS; omega)]
    exact this
  · have := h6 a u
    unfold cW6 at this ⊢
    rw [mi 33 _ (by unfold inS; omega), mi 34 _ (by unfold inS; omega), mi 35 _ (by unfold inS; omega), mi 36 _ (by unfold inS; omega), md 37 _ (by unfold inS; omega)]
    exact this
theorem cH_side {C C' : gM} {S : gm_S} (hW : cW A C) (h : cH A C S) (e : ∀ k i, inS (A 9 5) k i → C' k i = C k i) : cH A C' S := by
  obtain ⟨⟨z1, z2, z3, z4, z5, z6, z7, z8, z9, z10, z11⟩, -⟩ := hW
  obtain ⟨h0, h1, h2, h3, h4, h5, h6⟩ := h
  have mi : ∀ k i, inS (A 9 5) k i → n_I C' k i = n_I C k i := fun k i q => by unfold n_I; rw [e k i q]
  have md : ∀ k i, inS (A 9 5) k i → n_D C' k i = n_D C k i := fun k i q => by unfold n_D; rw [e k i q]
  have ek : ∀ i, i < A 9 0 → c_kind A C' i = c_kind A C i := fun i u => mi _ _ (by unfold inS; omega)
  have eb : ∀ i, i < A 9 0 → c_bel A C' i = c_bel A C i := fun i u => mi _ _ (by unfold inS; omega)
  refine ⟨h0, fun i u => ?_, fun t u => ?_, fun k u => ?_, fun j u => ?_, fun a u => ?_, h6⟩
  · have := h1 i u
    unfold cH1 at this ⊢
    rw [ek i u, eb i u]
    exact this
  · have := h2 t u
    unfold cH2 at this ⊢
    rw [mi 19 _ (by unfold inS; omega)]
    exact this
  · have := h3 k u
    unfold cH3 at this ⊢
    rw [mi 25 _ (by unfold inS; omega)]
    exact this
  · have := h4 j u
    unfold cH4 at this ⊢
    rw [mi 26 _ (by unfold inS; omega), mi 28 _ (by unfold inS; omega), mi 29 _ (by unfold inS; omega), mi 30 _ (by unfold inS; omega), md 31 _ (by unfold inS; omega), md 32 _ (by unfold inS; omega)]
    exact this
  · have := h5 a u
    unfold cH5 at this ⊢
    rw [mi 34 _ (by unfold inS; omega), mi 35 _ (by unfold inS; omega), mi 36 _ (by unfold inS; omega), md 37 _ (by unfold inS; omega)]
    exact this
def eF (A : gA) : Nat → Nat → Prop := fun F a => ((F = 103 ∨ F = 104) ∧ a = A 0 0) ∨ ((F = 201 ∨ F = 202 ∨ F = 203 ∨ F = 204 ∨ F = 206 ∨ F = 207) ∧ a = A 1 0) ∨ (F = 2 ∧ a = A 34 1)
def mF (w : Nat) (M M' : gM) : Prop := ∀ k i, ¬ (k = 0 ∨ k = 1 ∨ k = 2 ∨ k = 4 ∨ k = 5 ∨ k = 6 ∨ k = 8 ∨ k = 38 ∨ k = 39 ∨ (9 ≤ k ∧ k ≤ 13 ∧ i = w) ∨ (14 ≤ k ∧ k ≤ 17 ∧ 16 * w ≤ i ∧ i < 16 * w + 16) ∨ (18 ≤ k ∧ k ≤ 22 ∧ 24 * w ≤ i ∧ i < 24 * w + 24) ∨ (23 ≤ k ∧ k ≤ 32 ∧ 64 * w ≤ i ∧ i < 64 * w + 64) ∨ (33 ≤ k ∧ k ≤ 37 ∧ 48 * w ≤ i ∧ i < 48 * w + 48)) → M' k i = M k i
theorem rDb_more {S S' : gm_S} {c1 c2 d0 d1 : Nat} (h : rDb A S c1 c2) (t6 : gs_t S (A 6 0) ≠ 0) (tc1 : gs_t S c1 ≠ 0) (tc2 : gs_t S c2 ≠ 0) (g : ag (eF A) (fun _ => False) S S') (hc : gs_c S' ≤ gs_c S + d0) (hk : gs_k S' ≤ gs_k S + d1) (hb : A 33 0 + d0 ≤ 600000) (hb' : A 33 1 + d1 ≤ 7301000) : rDb (aB A (A 33 0 + d0) (A 33 1 + d1)) S' c1 c2 := by
  obtain ⟨k1, k2, k3, k4, k5, k6, k7⟩ := h
  have cap : ∀ a, gs_t S a ≠ 0 → g_cap S' a = g_cap S a := fun a ha => by unfold g_cap; rw [g.1 _ _ _ ha (by unfold eF; omega)]
  have e6 := g.2.1 _ t6 (fun q => q)
  have q1 : p_c A S' c1 c2 ≤ A 33 0 + d0 := by
    unfold p_c at k1 ⊢
    rw [cap _ t6, cap _ tc1, cap _ tc2, e6]
    omega
  have q2 : p_k A S' c1 c2 ≤ A 33 1 + d1 := by
    unfold p_k at k2 ⊢
    rw [cap _ t6, cap _ tc1, cap _ tc2, e6]
    omega
  exact ⟨q1, q2, hb, hb', by rw [← cap _ t6] at k5; exact k5, by rw [← cap _ tc1] at k6; exact k6, by rw [← cap _ tc2] at k7; exact k7⟩
/-- a build that failed -/
theorem RL_rd {M M' : gM} {S S' : gm_S} {w d0 d1 : Nat} (h : RL A M0 M S) (hw : w < 2) (hlw : n_I M 7 0 ≠ nI w) (g : ag (eF A) (fun _ => False) S S') (hi : g_inv M0 S') (hM : mF w M M') (hr : rR A M' S') (hc : gs_c S' ≤ gs_c S + d0) (hk : gs_k S' ≤ gs_k S + d1) (hb : A 33 0 + d0 ≤ 600000) (hb' : A 33 1 + d1 ≤ 7301000) : RL (aB A (A 33 0 + d0) (A 33 1 + d1)) M0 M' S' := by
  obtain ⟨c1, c2, b⟩ := h.b
  obtain ⟨b1, b2, b3, b4, b5, b6, b7, b8, b9⟩ := b
  obtain ⟨-, -, -, -, -, -, -, -, u9, -, -, u12, -, d1', d2', -, -⟩ := b9
  have n3 : A 3 0 ≠ A 34 1 := fun z => by have := b3.2.1; rw [z, u12] at this; exact absurd this (by decide)
  have n4 : A 4 0 ≠ A 34 1 := fun z => by have := b4.2.1; rw [z, u12] at this; exact absurd this (by decide)
  have n5 : A 5 0 ≠ A 34 1 := fun z => d2' z.symm
  obtain ⟨c1, c2, ⟨C, h⟩ | h⟩ := h
  · have lv : n_I M 7 0 = nI (A 9 5) := h.lv
    have w2 : A 9 5 < 2 := h.w2
    have ne : A 9 5 ≠ w := fun q => hlw (by rw [lv, q])
    have hC : ∀ k i, inS (A 9 5) k i → Mc M' k i = C k i := fun k i q => by
      have hk : k = 7 ∨ (9 ≤ k ∧ k ≤ 37) := by unfold inS at q; omega
      rw [← Mc_r h.mc hk]
      simp only [Mc]
      rw [if_pos hk]
      exact hM k i (by unfold inS at q; omega)
    have hH := cH_side h.W (h.H.kp (ag_kp2 g (fun F a z => by
      rcases z with z | z | z
      · rcases z.1 with q | q <;> rw [q] <;> decide
      · unfold k_dy2
        rw [Bool.or_eq_true]
        right
        simp
        omega
      · rw [z.1]; decide) (fun _ z => z.elim))) hC
    refine ⟨c1, c2, Or.inl ⟨Mc M', hi, cW_side h.W hC, hH, rfl, h.a.mono g (fun k q => by unfold eF; omega) (fun k i z => hM k i (by omega)), h.v.mono g ⟨by unfold eF; omega, by unfold eF; omega, by unfold eF; omega⟩ (fun i => hM _ i (by omega)), h.q.mono g ⟨by unfold eF; omega, by unfold eF; omega, by unfold eF; omega, by unfold eF; omega, by unfold eF; omega⟩ (fun k i z => hM k i (by omega)), h.s.mono g ⟨by unfold eF; omega, fun x => ⟨by unfold eF; omega, by unfold eF; omega⟩⟩ (fun q => q) (fun k i z => hM k i (by omega)), h.t.mono g ⟨by unfold eF; omega, by unfold eF; omega, by unfold eF; omega, by unfold eF; omega⟩ (fun k i z => hM k i (by omega)), h.c.mono g ⟨by unfold eF; omega, by unfold eF; omega⟩, h.h.mono g (fun i _ => ⟨by unfold eF; omega, by unfold eF; omega⟩) (fun k i z => hM k i (by omega)), rDb_more h.b (by rw [h.s.2.1]; decide) (by rw [h.c.2.2.1]; decide) (by rw [h.c.2.2.2.1]; decide) g hc hk hb hb', hr⟩⟩
  · obtain ⟨⟨e1, e2, e3, e4, e5, e6, e7, e8, e9⟩, n1, n2, n3', n4'⟩ := h
    refine ⟨c1, c2, Or.inr ⟨⟨hi, e2.mono g (fun k q => by unfold eF; omega) (fun k i z => hM k i (by omega)), e3.mono g ⟨by unfold eF; omega, by unfold eF; omega, by unfold eF; omega⟩ (fun i => hM _ i (by omega)), e4.mono g ⟨by unfold eF; omega, by unfold eF; omega, by unfold eF; omega, by unfold eF; omega, by unfold eF; omega⟩ (fun k i z => hM k i (by omega)), e5.mono g ⟨by unfold eF; omega, fun x => ⟨by unfold eF; omega, by unfold eF; omega⟩⟩ (fun q => q) (fun k i z => hM k i (by omega)), e6.mono g ⟨by unfold eF; omega, by unfold eF; omega, by unfold eF; omega, by unfold eF; omega⟩ (fun k i z => hM k i (by omega)), e7.mono g ⟨by unfold eF; omega, by unfold eF; omega⟩, rDb_more e8 (by rw [e5.2.1]; decide) (by rw [e7.2.2.1]; decide) (by rw [e7.2.2.2.1]; decide) g hc hk hb hb', hr⟩, (g.2.2 (A 8 0) (by rw [n1]; decide)).trans n1, ?_, by unfold n_I; rw [hM _ _ (by omega)]; exact n3', by unfold n_I; rw [hM _ _ (by omega)]; exact n4'⟩⟩
    show S'.2.1 (A 8 0) = []
    rw [g.2.1 _ (by rw [n1]; decide) (fun q => q)]; exact n2
end RDZs
