/-! LAYER 2: build, a new chart -/
set_option maxRecDepth 100000
section RDZx
variable {A : gA} {M0 : gM}
def eG (A : gA) : Nat → Nat → Prop := fun F a => ((F = 103 ∨ F = 104) ∧ a = A 0 0) ∨ ((F = 201 ∨ F = 202 ∨ F = 203 ∨ F = 204 ∨ F = 206 ∨ F = 207) ∧ a = A 1 0) ∨ (F = 2 ∧ (a = A 34 1 ∨ a = A 34 2 ∨ a = A 3 0)) ∨ ((F = 300 ∨ F = 301 ∨ F = 302 ∨ F = 306 ∨ F = 310) ∧ a = A 2 0)
theorem RL_new {N : gA} {M Mb Mf : gM} {S Sf : gm_S} {w c1 c2 : Nat} (hw : w < 2) (hb : A 33 0 + 1300 ≤ 599900) (hb' : A 33 1 + 64200 ≤ 7300000) (b2 : rDa A M S) (b3 : rDv A M S) (b4 : rDq A M S) (b5 : rDs A M S) (b6 : rDt A M S) (b7 : rDc A S c1 c2) (b8 : rDb A S c1 c2) (b9 : rR A M S) (gT : ag (eG A) (fun a => a = A 6 0) S Sf) (W : cW (aNew A N Mb) (Mc Mf)) (H : cH (aNew A N Mb) (Mc Mf) Sf) (h7' : N 7 0 = gs_n S) (l60 : A 6 0 < gs_n S) (lc1 : c1 < gs_n S) (lc2 : c2 < gs_n S)
    (y2 : g_gR Sf (some (A 2 0)) 3 0 = some (some (N 8 0))) (y3 : g_gI Sf (some (A 2 0)) 3 1 = some 0) (y4 : g_gI Sf (some (A 2 0)) 3 2 = some 0) (y5 : g_gI Sf (some (A 2 0)) 3 6 = some 0) (y6 : g_gI Sf (some (A 2 0)) 3 10 = some 0) (y7 : Sf.2.1 (A 6 0) = []) (y8 : ∀ j, j < 6 → Sf.1 2 (A 3 0) j = .double FP.dconst0) (y10 : g_inv M0 Sf) (cf : gs_c Sf ≤ gs_c S + 1282) (kf : gs_k Sf ≤ gs_k S + 64006)
    (o3 : n_I Mf 1 0 = 0) (o4 : n_I Mf 2 0 = 0) (o5 : n_I Mf 6 0 = -1) (o6 : n_I Mf 7 0 = nI w) (o7 : n_I Mf 40 0 = 0) (o8 : n_I Mf 41 0 = 0) (o9 : n_I Mf 53 0 = 0) (o10 : ∀ j, j < 6 → n_D Mf 42 j = FP.dconst0) (o11 : ∀ j, j < 16 → n_I Mf 43 j = 0 ∧ n_I Mf 44 j = 0) (o12 : n_I Mf 45 0 = 0) (o13 : n_I Mf 47 0 = 0) (mfM : Mf 51 0 = M 51 0) (n16 : N 9 0 ≤ 16)
    (hst : ∀ i, i < N 9 0 → g_gI Sf (some (N 10 i)) 5 8 = some 0 ∧ g_gI Sf (some (N 10 i)) 5 9 = some 0) (v1 : g_gI Sf (some (A 0 0)) 1 3 = some (-1)) (v2 : g_gI Sf (some (A 0 0)) 1 4 = some 0) (v3 : g_gI Sf (some (A 1 0)) 2 1 = some 0) (el : ∀ j, j < 16 → gm_I (Sf.1 2 (A 34 2) j) = n_I Mf 17 (16 * w + j) ∧ (n_I Mf 17 (16 * w + j) = -1 ∨ ∃ k : Nat, k < N 9 0 ∧ n_I Mf 17 (16 * w + j) = nI k)) : RL (aB (aNew A N Mb) (A 33 0 + 1300) (A 33 1 + 64200)) M0 Mf Sf := by
  obtain ⟨r1, r2, r3, r4, r5, r6, r7, r8, r9, r10, r11, r12, r13, d1, d2, d3, d4, -, -⟩ := id b9
  obtain ⟨p1, p2, p3, p4, p5, p6, p7⟩ := b8
  have X : ∀ F a, ¬ (F = 103 ∨ F = 104 ∨ F = 201 ∨ F = 202 ∨ F = 203 ∨ F = 204 ∨ F = 206 ∨ F = 207 ∨ F = 2 ∨ F = 300 ∨ F = 301 ∨ F = 302 ∨ F = 306 ∨ F = 310) → ¬ eG A F a := fun F a q => by unfold eG; omega
  have cap : ∀ a, gs_t S a ≠ 0 → g_cap Sf a = g_cap S a := fun a ha => by unfold g_cap; rw [gT.1 _ _ _ ha (X _ _ (by omega))]
  have c6 := cap (A 6 0) (by rw [b5.2.1]; decide)
  have cc1 := cap c1 (by rw [b7.2.2.1]; decide)
  have cc2 := cap c2 (by rw [b7.2.2.2.1]; decide)
  have q1 : p_c A Sf c1 c2 ≤ A 33 0 + 1300 := by
    unfold p_c at p1 ⊢
    rw [c6, cc1, cc2, y7]
    show gs_c Sf + (8 - 0) + _ + _ + _ ≤ _
    omega
  have q2 : p_k A Sf c1 c2 ≤ A 33 1 + 64200 := by
    unfold p_k at p2 ⊢
    rw [c6, cc1, cc2, y7]
    show gs_k Sf + 2 * (8 - 0) + _ + _ + _ ≤ _
    omega
  refine ⟨c1, c2, Or.inl ⟨Mc Mf, y10, W, H, rfl, ?_, ?_, ?_, ?_, ?_, ?_, ?_, ?_, ?_⟩⟩
  · obtain ⟨a1, a2, a3, a4, ⟨q, a5, a6, a7⟩, ck, a8, a9⟩ := b2
    refine ⟨y2, by rw [o7]; exact y3, Or.inl o7, by rw [o8]; exact y4, ⟨q, a5, gT.gI a6 (by decide) (X _ _ (by omega)), by unfold n_I; rw [mfM]; exact a7⟩, ck, gT.gI a8 (by decide) (X _ _ (by omega)), fun q => by rw [o7] at q; cases q⟩
  · obtain ⟨a1, a2, a3, a4⟩ := b3
    refine ⟨gT.gR a1 (by decide) (X _ _ (by omega)), (gT.2.2 (A 3 0) (by rw [a2]; decide)).trans a2, (congrArg gm_N (gT.1 1 (A 3 0) 0 (by rw [a2]; decide) (X _ _ (by omega)))).trans a3, fun i hi => ?_⟩
    have e8 : Sf.1 2 (A 3 0) i = .double FP.dconst0 := y8 i hi
    rw [o10 i hi]
    exact ⟨congrArg gm_D e8, d_c0⟩
  · obtain ⟨a1, a2, a3, f, q, a4, a5, a6, a7, a8, a9⟩ := b4
    exact ⟨gT.gR a1 (by decide) (X _ _ (by omega)), (gT.2.2 (A 4 0) (by rw [a2]; decide)).trans a2, (congrArg gm_N (gT.1 1 (A 4 0) 0 (by rw [a2]; decide) (X _ _ (by omega)))).trans a3, f, 0, a4, by omega, gT.gI a6 (by decide) (X _ _ (by omega)), y5, o12, fun j hj => by omega⟩
  · obtain ⟨a1, a2, a3, a4, a5, a6⟩ := b5
    have l0 : (Sf.2.1 (A 6 0)).length = 0 := by rw [y7]; rfl
    refine ⟨gT.gR a1 (by decide) (X _ _ (by omega)), (gT.2.2 (A 6 0) (by rw [a2]; decide)).trans a2, ?_, ?_, ?_, fun j x hx => ?_⟩
    · show A 6 0 < N 7 0
      rw [h7']; exact l60
    · show (Sf.2.1 (A 6 0)).length ≤ 8
      omega
    · show n_I Mf 47 0 = nI (Sf.2.1 (A 6 0)).length
      rw [l0]; exact o13
    · have hx : (Sf.2.1 (A 6 0))[j]? = some x := hx
      rw [y7] at hx; cases hx
  · obtain ⟨a1, a2, a3, q, a4, a5, a6, a7⟩ := b6
    exact ⟨gT.gR a1 (by decide) (X _ _ (by omega)), (gT.2.2 (A 5 0) (by rw [a2]; decide)).trans a2, (congrArg gm_N (gT.1 1 (A 5 0) 0 (by rw [a2]; decide) (X _ _ (by omega)))).trans a3, 0, by omega, y6, o9, fun j hj => by omega⟩
  · obtain ⟨a1, a2, a3, a4, a5, a6, a7, a8, a9⟩ := b7
    refine ⟨gT.gR a1 (by decide) (X _ _ (by omega)), gT.gR a2 (by decide) (X _ _ (by omega)), (gT.2.2 _ (by rw [a3]; decide)).trans a3, (gT.2.2 _ (by rw [a4]; decide)).trans a4, ?_, ?_, a7, a8, a9⟩
    · show c1 < N 7 0
      rw [h7']; exact lc1
    · show c2 < N 7 0
      rw [h7']; exact lc2
  · intro i hi
    have hi : i < N 9 0 := hi
    rw [(o11 i (by omega)).1, (o11 i (by omega)).2]
    exact hst i hi
  · exact ⟨q1, q2, (by show A 33 0 + 1300 ≤ 600000; omega), (by show A 33 1 + 64200 ≤ 7301000; omega), by rw [← c6] at p5; exact p5, by rw [← cc1] at p6; exact p6, by rw [← cc2] at p7; exact p7⟩
  · refine ⟨gT.gR r1 (by decide) (X _ _ (by omega)), gT.gR r2 (by decide) (X _ _ (by omega)), gT.gR r3 (by decide) (X _ _ (by omega)), by rw [o5]; exact v1, by rw [o3]; exact v2, (gT.2.2 (A 34 2) (by rw [r6]; decide)).trans r6, (congrArg gm_N (gT.1 1 (A 34 2) 0 (by rw [r6]; decide) (X _ _ (by omega)))).trans r7, gT.gR r8 (by decide) (X _ _ (by omega)), (gT.2.2 (A 34 0) (by rw [r9]; decide)).trans r9, (congrArg gm_N (gT.1 1 (A 34 0) 0 (by rw [r9]; decide) (X _ _ (by omega)))).trans r10, gT.gR r11 (by decide) (X _ _ (by omega)), (gT.2.2 (A 34 1) (by rw [r12]; decide)).trans r12, (congrArg gm_N (gT.1 1 (A 34 1) 0 (by rw [r12]; decide) (X _ _ (by omega)))).trans r13, d1, d2, d3, d4, ⟨0, 0, by omega, by omega, v3, o4, o3, fun j hj => by omega⟩, fun w' hw2 hl j hj => ?_⟩
    have ew : w' = w := by
      rw [o6] at hl
      exact ((nI_eq (by omega) (by omega)).mp hl).symm
    rw [ew]
    exact el j hj
end RDZx
