/-! LAYER 2: the beginning: the chart -/
set_option maxRecDepth 100000
section INC
variable {M0 : gM}
/-- the model's memory at the beginning -/
def iM (M : gM) : Prop := n_I M 1 0 = 0 ∧ n_I M 2 0 = 0 ∧ n_I M 6 0 = -1 ∧ n_I M 7 0 = -1 ∧ n_I M 40 0 = 0 ∧ n_I M 41 0 = 0 ∧ n_I M 45 0 = 0 ∧ n_I M 47 0 = 0 ∧ n_I M 51 0 = 0 ∧ n_I M 53 0 = 0 ∧ ∀ i, i < 6 → n_D M 42 i = FP.dconst0
/-- the addresses at the beginning -/
def aI (o n b0 b1 : Nat) : gA := fun k i => if k = 0 then o else if k = 1 then n else if k = 2 then n + 3 else if k = 3 then n + 5 else if k = 4 then n + 6 else if k = 5 then n + 8 else if k = 6 then n + 7 else if k = 7 then n + 12 else if k = 8 then n + 4 else if k = 33 then (if i = 0 then b0 else b1) else if k = 34 then (if i = 0 then n + 1 else if i = 1 then n + 2 else n + 11) else 0
theorem L_init {S : gm_S} (hi : g_inv M0 S) {o : Nat} (h : gs_t S o = 1) (hnul : ∀ F, F ≠ 0 → S.1 F o 0 = .null) (h1 : gs_c S + 100 ≤ 600000) (h2 : gs_k S + 1000 ≤ 7301000) (fu : Nat) : ∃ S', F_X1_init fu (some o) S = some (.returned none, S') ∧ g_inv M0 S' ∧ gs_n S' = gs_n S + 12 ∧ gs_c S' = gs_c S + 12 ∧ gs_k S' = gs_k S + 342 ∧ ag (fun _ a => a = o) (fun _ => False) S S' ∧ ∀ M, iM M → RN (aI o (gs_n S) (gs_c S + 100) (gs_k S + 1000)) M0 M S' (gs_n S + 9) (gs_n S + 10) := by
  have h0 : gs_t S o ≠ 0 := by rw [h]; decide
  have ho : o < gs_n S := hi.2.2.2 o h0
  obtain ⟨n, hn⟩ : ∃ n, n = gs_n S := ⟨_, rfl⟩
  -- reader
  obtain ⟨S1, s1⟩ : ∃ S1, S1 = g_mk S 2 8 := ⟨_, rfl⟩
  have g1 : ag (fun _ _ => False) (fun _ => False) S S1 := by rw [s1]; exact ag.mk hi.2.2.2
  have i1 : g_inv M0 S1 := by rw [s1]; exact hi.mk
  have t1 : gs_t S1 n = 2 := by rw [s1, hn]; exact y_mkn
  have n1 : gs_n S1 = n + 1 := by rw [s1, hn]; rfl
  have c1 : gs_c S1 = gs_c S + 1 := by rw [s1]; rfl
  have k1 : gs_k S1 = gs_k S + 8 := by rw [s1]; rfl
  have z1 : ∀ F i, F ≠ 0 → S1.1 F n i = .null := fun F i q => by rw [s1, hn]; exact gm_fresh_n (by omega)
  obtain ⟨S3, a1, a2, a3, a4, a5, a6, a7, a8, a9, a10, a11, a12, a13, a14⟩ := x_reader i1 t1 (by omega) (by omega) fu
  rw [n1] at a2 a3 a4 a5 a6 a7 a11
  have ot3 : gs_t S3 o = 1 := (a9.2.2 _ (by rw [g1.2.2 _ h0, h]; decide)).trans ((g1.2.2 _ h0).trans h)
  obtain ⟨S4, s4⟩ : ∃ S4, S4 = gs_put S3 (100 * 1 + 0) o 0 (va_rf (some n)) := ⟨_, rfl⟩
  have g4 : ag (fun F a => F = 100 ∧ a = o) (fun _ => False) S3 S4 := by rw [s4]; exact ag.put (by decide)
  have i4 : g_inv M0 S4 := by rw [s4]; exact a10.put (by decide) (by rw [ot3]; decide)
  have ot4 : gs_t S4 o = 1 := (g4.2.2 _ (by rw [ot3]; decide)).trans ot3
  have n4 : gs_n S4 = n + 3 := by rw [s4]; show gs_n S3 = _; omega
  have c4 : gs_c S4 = gs_c S + 3 := by rw [s4]; show gs_c S3 = _; omega
  have k4 : gs_k S4 = gs_k S + 184 := by rw [s4]; show gs_k S3 = _; omega
  -- run
  obtain ⟨S5, s5⟩ : ∃ S5, S5 = g_mk S4 3 14 := ⟨_, rfl⟩
  have g5 : ag (fun _ _ => False) (fun _ => False) S4 S5 := by rw [s5]; exact ag.mk i4.2.2.2
  have i5 : g_inv M0 S5 := by rw [s5]; exact i4.mk
  have t5 : gs_t S5 (n + 3) = 3 := by rw [s5, ← n4]; exact y_mkn
  have n5 : gs_n S5 = n + 4 := by rw [s5]; show gs_n S4 + 1 = _; omega
  have c5 : gs_c S5 = gs_c S + 4 := by rw [s5]; show gs_c S4 + 1 = _; omega
  have k5 : gs_k S5 = gs_k S + 198 := by rw [s5]; show gs_k S4 + 14 = _; omega
  have z5 : ∀ F i, F ≠ 0 → S5.1 F (n + 3) i = .null := fun F i q => by rw [s5, ← n4]; exact gm_fresh_n (by omega)
  obtain ⟨S6, b1, b2, b3, b4, b5, b6, b7, b8, ⟨b9, b10⟩, ⟨b11, b12, b13⟩, ⟨b14, b15⟩, ⟨b16, b17, b18⟩, ⟨b19, b20⟩, ⟨b21, b22⟩, ⟨b23, b24⟩, b25, b26, b27, b28, b29, b30⟩ := x_run i5 t5 (by omega) (by omega) fu
  rw [n5] at b2 b3 b4 b5 b6 b7 b8 b9 b10 b11 b12 b13 b14 b15 b16 b17 b18 b19 b20 b21 b22 b23 b24 b27
  have ot5 : gs_t S5 o = 1 := (g5.2.2 _ (by rw [ot4]; decide)).trans ot4
  have ot6 : gs_t S6 o = 1 := (b25.2.2 _ (by rw [ot5]; decide)).trans ot5
  obtain ⟨S7, s7⟩ : ∃ S7, S7 = gs_put S6 (100 * 1 + 1) o 0 (va_rf (some (n + 3))) := ⟨_, rfl⟩
  have g7 : ag (fun F a => F = 101 ∧ a = o) (fun _ => False) S6 S7 := by rw [s7]; exact ag.put (by decide)
  have i7 : g_inv M0 S7 := by rw [s7]; exact b26.put (by decide) (by rw [ot6]; decide)
  have ot7 : gs_t S7 o = 1 := (g7.2.2 _ (by rw [ot6]; decide)).trans ot6
  have n7 : gs_n S7 = n + 11 := by rw [s7]; show gs_n S6 = _; omega
  have c7 : gs_c S7 = gs_c S + 11 := by rw [s7]; show gs_c S6 = _; omega
  have k7 : gs_k S7 = gs_k S + 326 := by rw [s7]; show gs_k S6 = _; omega
  obtain ⟨S9, d1, d2, d3, d4, d5, d6, d7, d8, d9, d10, d11, d12⟩ := x_af (t := 0) (n := 16) (k := 2) i7 ot7 (by decide) (by omega) (by omega) (by omega)
  rw [n7] at d2 d3 d4 d5
  obtain ⟨Sf, sf⟩ : ∃ Sf, Sf = gs_put S9 (100 * 1 + 3) o 0 (.int (-1)) := ⟨_, rfl⟩
  have gf : ag (fun F a => F = 103 ∧ a = o) (fun _ => False) S9 Sf := by rw [sf]; exact ag.put (by decide)
  have jf : g_inv M0 Sf := by rw [sf]; exact d8.put (by decide) (by rw [d12]; decide)
  have otf : gs_t Sf o = 1 := (gf.2.2 _ (by rw [d12]; decide)).trans d12
  -- frames to the end
  have k9 : ag (fun F a => (F = 102 ∨ F = 103) ∧ a = o) (fun _ => False) S7 Sf := (d7.trans gf).wk (fun F a w => by omega) (fun a w => w.elim id id)
  have k6 : ag (fun F a => (F = 101 ∨ F = 102 ∨ F = 103) ∧ a = o) (fun _ => False) S6 Sf := (g7.trans k9).wk (fun F a w => by omega) (fun a w => w.elim id id)
  have k55 : ag (fun F a => ((F = 300 ∨ F = 303 ∨ F = 304 ∨ F = 307 ∨ F = 309 ∨ F = 312 ∨ F = 313) ∧ a = n + 3) ∨ ((F = 101 ∨ F = 102 ∨ F = 103) ∧ a = o)) (fun _ => False) S5 Sf := (b25.trans k6).wk (fun F a w => w) (fun a w => w.elim id id)
  have k44 : ag (fun F a => ((F = 300 ∨ F = 303 ∨ F = 304 ∨ F = 307 ∨ F = 309 ∨ F = 312 ∨ F = 313) ∧ a = n + 3) ∨ ((F = 101 ∨ F = 102 ∨ F = 103) ∧ a = o)) (fun _ => False) S4 Sf := (g5.trans k55).wk (fun F a w => w.elim (fun w => w.elim) id) (fun a w => w.elim id id)
  have k33 : ag (fun F a => ((F = 300 ∨ F = 303 ∨ F = 304 ∨ F = 307 ∨ F = 309 ∨ F = 312 ∨ F = 313) ∧ a = n + 3) ∨ ((F = 100 ∨ F = 101 ∨ F = 102 ∨ F = 103) ∧ a = o)) (fun _ => False) S3 Sf := (g4.trans k44).wk (fun F a w => by omega) (fun a w => w.elim id id)
  have k11 : ag (fun F a => ((F = 200 ∨ F = 205) ∧ a = n) ∨ ((F = 300 ∨ F = 303 ∨ F = 304 ∨ F = 307 ∨ F = 309 ∨ F = 312 ∨ F = 313) ∧ a = n + 3) ∨ ((F = 100 ∨ F = 101 ∨ F = 102 ∨ F = 103) ∧ a = o)) (fun _ => False) S1 Sf := (a9.trans k33).wk (fun F a w => w) (fun a w => w.elim id id)
  have k00 : ag (fun F a => ((F = 200 ∨ F = 205) ∧ a = n) ∨ ((F = 300 ∨ F = 303 ∨ F = 304 ∨ F = 307 ∨ F = 309 ∨ F = 312 ∨ F = 313) ∧ a = n + 3) ∨ ((F = 100 ∨ F = 101 ∨ F = 102 ∨ F = 103) ∧ a = o)) (fun _ => False) S Sf := (g1.trans k11).wk (fun F a w => w.elim (fun w => w.elim) id) (fun a w => w.elim id id)
  have rtf : gs_t Sf n = 2 := (k11.2.2 _ (by rw [t1]; decide)).trans t1
  have utf : gs_t Sf (n + 3) = 3 := (k55.2.2 _ (by rw [t5]; decide)).trans t5
  have capk : ∀ a, gs_t S6 a ≠ 0 → g_cap Sf a = g_cap S6 a := fun a ha => by unfold g_cap; rw [k6.1 _ _ _ ha (by omega)]
  have run0 : ∀ k, k = 1 ∨ k = 2 ∨ k = 5 ∨ k = 6 ∨ k = 8 ∨ k = 10 ∨ k = 11 → g_gI Sf (some (n + 3)) 3 k = some 0 := fun k q => by
    rw [y_gI utf, k55.1 _ _ _ (by rw [t5]; decide) (by omega), z5 _ _ (by omega)]; rfl
  have cf : gs_c Sf = gs_c S + 12 := by rw [sf]; show gs_c S9 = _; omega
  have kf : gs_k Sf = gs_k S + 342 := by rw [sf]; show gs_k S9 = _; omega
  refine ⟨Sf, ?_, jf, by rw [sf]; show gs_n S9 = _; omega, cf, kf, k00.fr (fun F a u1 u2 => ?_) (fun a _ u => u), fun M hM => ?_⟩
  · unfold F_X1_init
    rw [y_q h, y_new (by omega) (by omega), y_b]
    dsimp only
    rw [← s1, ← hn, y_q t1, a1, y_cV, y_pR ot3, y_b, ← s4, y_new (by omega) (by omega), y_b]
    dsimp only
    rw [← s5, n4, y_q t5, b1, y_cV, y_pR ot6, y_b, ← s7]
    refine (d1 _).trans ?_
    rw [y_pI d12, y_b, ← sf]
  · have := hi.2.2.2 a u1
    omega
  · obtain ⟨m1, m2, m6, m7, m40, m41, m45, m47, m51, m53, m42⟩ := hM
    rw [← hn]
    refine ⟨⟨jf, ⟨k6.gR b2 (by decide) (by omega), ?_, Or.inl m40, ?_, ⟨0, by omega, run0 11 (by omega), m51⟩, 0, run0 8 (by omega), fun q => (by rw [m40] at q; cases q)⟩, ⟨k6.gR b3 (by decide) (by omega), (k6.2.2 (n + 5) (by rw [b11]; decide)).trans b11, (congrArg gm_N (k6.1 1 (n + 5) 0 (by rw [b11]; decide) (by omega))).trans b12, fun i hi' => ?_⟩, ⟨k6.gR b4 (by decide) (by omega), (k6.2.2 (n + 6) (by rw [b14]; decide)).trans b14, (congrArg gm_N (k6.1 1 (n + 6) 0 (by rw [b14]; decide) (by omega))).trans b15, 0, 0, by omega, by omega, run0 5 (by omega), run0 6 (by omega), m45, fun j hj => by omega⟩, ⟨k6.gR b5 (by decide) (by omega), (k6.2.2 (n + 7) (by rw [b16]; decide)).trans b16, (by show n + 7 < n + 12; omega), ?_, ?_, fun j x hx => ?_⟩, ⟨k6.gR b6 (by decide) (by omega), (k6.2.2 (n + 8) (by rw [b19]; decide)).trans b19, (congrArg gm_N (k6.1 1 (n + 8) 0 (by rw [b19]; decide) (by omega))).trans b20, 0, by omega, run0 10 (by omega), m53, fun j hj => by omega⟩, ⟨k6.gR b7 (by decide) (by omega), k6.gR b8 (by decide) (by omega), (k6.2.2 (n + 9) (by rw [b21]; decide)).trans b21, (k6.2.2 (n + 10) (by rw [b23]; decide)).trans b23, (by show n + 9 < n + 12; omega), (by show n + 10 < n + 12; omega), by omega, (by show n + 9 ≠ n + 7; omega), (by show n + 10 ≠ n + 7; omega)⟩, ?_, ?_⟩, (k6.2.2 (n + 4) (by rw [b9]; decide)).trans b9, (k6.2.1 (n + 4) (by rw [b9]; decide) (fun q => q)).trans b10, m7, m40⟩
    · rw [m40]; exact run0 1 (by omega)
    · rw [m41]; exact run0 2 (by omega)
    · rw [m42 i hi']
      have e : Sf.1 2 (n + 5) i = .null := (k6.1 2 (n + 5) i (by rw [b11]; decide) (by omega)).trans (b13 i)
      exact ⟨(congrArg gm_D e).trans rfl, d_c0⟩
    · show (Sf.2.1 (n + 7)).length ≤ 8
      rw [(k6.2.1 (n + 7) (by rw [b16]; decide) (fun q => q)).trans b17]; exact Nat.zero_le _
    · show n_I M 47 0 = nI (Sf.2.1 (n + 7)).length
      rw [(k6.2.1 (n + 7) (by rw [b16]; decide) (fun q => q)).trans b17]; exact m47
    · have hx : (Sf.2.1 (n + 7))[j]? = some x := hx
      rw [(k6.2.1 (n + 7) (by rw [b16]; decide) (fun q => q)).trans b17] at hx; cases hx
    · have e7 : g_cap Sf (n + 7) = 0 := (capk _ (by rw [b16]; decide)).trans b18
      have e9 : g_cap Sf (n + 9) = 0 := (capk _ (by rw [b21]; decide)).trans b22
      have e10 : g_cap Sf (n + 10) = 0 := (capk _ (by rw [b23]; decide)).trans b24
      have l7 : Sf.2.1 (n + 7) = [] := (k6.2.1 (n + 7) (by rw [b16]; decide) (fun q => q)).trans b17
      refine ⟨?_, ?_, h1, h2, ?_, ?_, ?_⟩
      · show gs_c Sf + (8 - (Sf.2.1 (n + 7)).length) + (22 - g_cap Sf (n + 7)) + (22 - g_cap Sf (n + 9)) + (22 - g_cap Sf (n + 10)) ≤ gs_c S + 100
        rw [l7, e7, e9, e10, cf]
        show gs_c S + 12 + (8 - 0) + (22 - 0) + (22 - 0) + (22 - 0) ≤ _
        omega
      · show gs_k Sf + 2 * (8 - (Sf.2.1 (n + 7)).length) + 4 * (22 - g_cap Sf (n + 7)) + 4 * (22 - g_cap Sf (n + 9)) + 4 * (22 - g_cap Sf (n + 10)) ≤ gs_k S + 1000
        rw [l7, e7, e9, e10, kf]
        show gs_k S + 342 + 2 * (8 - 0) + 4 * (22 - 0) + 4 * (22 - 0) + 4 * (22 - 0) ≤ _
        omega
      · show k_ok (g_cap Sf (n + 7)); rw [e7]; exact Or.inl rfl
      · show k_ok (g_cap Sf (n + 9)); rw [e9]; exact Or.inl rfl
      · show k_ok (g_cap Sf (n + 10)); rw [e10]; exact Or.inl rfl
    · have v0 : g_gR S4 (some o) 1 0 = some (some n) := by rw [y_gR ot4, s4, y_pE]; rfl
      have v1 : g_gR S7 (some o) 1 1 = some (some (n + 3)) := by rw [y_gR ot7, s7, y_pE]; rfl
      have v3 : g_gI Sf (some o) 1 3 = some (-1) := by rw [y_gI otf, sf, y_pE]; rfl
      have v4 : g_gI Sf (some o) 1 4 = some 0 := by rw [y_gI otf, k00.1 _ _ _ h0 (by omega), hnul _ (by decide)]; rfl
      have v21 : g_gI Sf (some n) 2 1 = some 0 := by rw [y_gI rtf, k11.1 _ _ _ (by rw [t1]; decide) (by omega), z1 _ _ (by decide)]; rfl
      refine ⟨k44.gR v0 (by decide) (by omega), k9.gR v1 (by decide) (by omega), gf.gR d2 (by decide) (by omega), by rw [m6]; exact v3, by rw [m1]; exact v4, (gf.2.2 (n + 11) (by rw [d3]; decide)).trans d3, (congrArg gm_N (gf.1 1 (n + 11) 0 (by rw [d3]; decide) (by omega))).trans d4, k33.gR a2 (by decide) (by omega), (k33.2.2 (n + 1) (by rw [a4]; decide)).trans a4, (congrArg gm_N (k33.1 1 (n + 1) 0 (by rw [a4]; decide) (by omega))).trans a5, k33.gR a3 (by decide) (by omega), (k33.2.2 (n + 2) (by rw [a6]; decide)).trans a6, (congrArg gm_N (k33.1 1 (n + 2) 0 (by rw [a6]; decide) (by omega))).trans a7, (by show n + 1 ≠ n + 6; omega), (by show n + 2 ≠ n + 8; omega), (by show n + 11 ≠ n + 8; omega), (by show n + 2 ≠ n + 11; omega), ⟨0, 0, by omega, by omega, v21, m2, m1, fun j hj => by omega⟩, fun w hw hl => ?_⟩
      rw [m7] at hl
      have h0' : (0 : Int32) ≤ nI w := nI_pos' (by omega)
      rw [← hl] at h0'
      exact absurd h0' (by decide)
end INC
