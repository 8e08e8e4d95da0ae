/-! LAYER 2, reading: tests stay -/
set_option maxRecDepth 100000
section RDQ
theorem qT_old {N N' : gA} {M M' : gM} {S S' : gm_S} {E : Nat → Nat → Prop} {L : Nat → Prop} {j : Nat} (h : cW5 N M j ∧ cH4 N M S j) (e5 : N' 9 5 = N 9 5) (e32 : N' 32 j = N 32 j) (e13 : N' 13 j = N 13 j) (e21 : N' 21 j = N 21 j) (e22 : N' 22 j = N 22 j) (e4 : N 9 4 ≤ N' 9 4) (e12 : N 32 j ≠ 0 → N' 12 (N 32 j - 1) = N 12 (N 32 j - 1)) (g : ag E L S S') (hE : ∀ F b, 900 ≤ F → F < 1500 → ¬ (1000 ≤ F ∧ F < 1300) → ¬ E F b) (hM : ∀ k, 26 ≤ k → k ≤ 32 → M' k (64 * N 9 5 + j) = M k (64 * N 9 5 + j)) : cW5 N' M' j ∧ cH4 N' M' S' j := by
  obtain ⟨h1, h2⟩ := h
  have m : ∀ k, 26 ≤ k → k ≤ 32 → n_I M' k (64 * N 9 5 + j) = n_I M k (64 * N 9 5 + j) := fun k w1 w2 => by unfold n_I; rw [hM k w1 w2]
  have md : ∀ k, 26 ≤ k → k ≤ 32 → n_D M' k (64 * N 9 5 + j) = n_D M k (64 * N 9 5 + j) := fun k w1 w2 => by unfold n_D; rw [hM k w1 w2]
  have op : ∀ o v d, h_op S o v d → h_op S' o v d := by
    intro o v d w
    refine ⟨g.gI w.1 (by decide) (hE _ _ (by omega) (by omega) (by omega)), ?_⟩
    obtain ⟨q, eq, tq, vq⟩ := y_gDt w.2
    cases eq
    rw [y_gD ((g.2.2 _ (by rw [tq]; decide)).trans tq), g.1 _ _ _ (by rw [tq]; decide) (hE _ _ (by omega) (by omega) (by omega)), vq]
  constructor
  · unfold cW5 at h1 ⊢
    rw [e5, e32, m 26 (by omega) (by omega), m 27 (by omega) (by omega), m 29 (by omega) (by omega), m 30 (by omega) (by omega)]
    refine ⟨h1.1, ?_⟩
    rcases h1.2 with w | w
    · exact Or.inl w
    · exact Or.inr ⟨w.1, w.2.1, Nat.le_trans w.2.2 e4⟩
  · unfold cH4 at h2 ⊢
    rw [e5, e32, e13, e21, e22, m 26 (by omega) (by omega), m 28 (by omega) (by omega), m 29 (by omega) (by omega), m 30 (by omega) (by omega), md 31 (by omega) (by omega), md 32 (by omega) (by omega)]
    refine ⟨fun w => ?_, fun w => ?_⟩
    · obtain ⟨f1, f2, f3, f4, f5, f6⟩ := h2.1 w
      exact ⟨g.gI f1 (by decide) (hE _ _ (by omega) (by omega) (by omega)), g.gR f2 (by decide) (hE _ _ (by omega) (by omega) (by omega)), op _ _ _ f3, g.gR f4 (by decide) (hE _ _ (by omega) (by omega) (by omega)), op _ _ _ f5, g.gI f6 (by decide) (hE _ _ (by omega) (by omega) (by omega))⟩
    · obtain ⟨f1, f2⟩ := h2.2 w
      rw [e12 w]
      exact ⟨g.gI f1 (by decide) (hE _ _ (by omega) (by omega) (by omega)), g.gR f2 (by decide) (hE _ _ (by omega) (by omega) (by omega))⟩
end RDQ
