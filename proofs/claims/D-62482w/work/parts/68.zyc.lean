/-! LAYER 2, reading: a chart, whole -/
set_option maxRecDepth 100000
section RDZr
variable {A : gA} {M0 : gM} {z bc bk : Nat} {tx : Nat → Nat}
theorem s_chart {M1 : gM} {S : gm_S} {w fu : Nat} (hf : 400 ≤ fu) (hw : w < 2) (hi : g_inv M0 S) (h1 : gs_t S (A 1 0) = 2) (h2 : g_gR S (some (A 1 0)) 2 0 = some (some (A 34 0))) (h3 : gs_t S (A 34 0) = 101) (h4 : gm_N (S.1 1 (A 34 0) 0) = 160) (h5 : g_gI S (some (A 1 0)) 2 1 = some (nI z)) (h6 : n_I M1 2 0 = nI z) (h7 : z ≤ 160) (h8 : ∀ j, j < z → 32 < tx j ∧ tx j ≤ 126 ∧ gm_I (S.1 2 (A 34 0) j) = nI (tx j) ∧ n_I M1 3 j = nI (tx j)) (l1 : g_gR S (some (A 1 0)) 2 5 = some (some (A 34 1))) (l2 : gs_t S (A 34 1) = 100) (l3 : gm_N (S.1 1 (A 34 1) 0) = 16)
    (m8 : n_I M1 8 0 = nI w) (m4 : n_I M1 4 0 = 0) (m5 : n_I M1 5 0 = 0) (mc : ∀ c, 9 ≤ c → c ≤ 13 → n_I M1 c w = 0) (m17 : ∀ j, j < 16 → n_I M1 17 (16 * w + j) = -1) (b1 : gs_c S + 2 + 1280 ≤ bc) (b2 : gs_k S + 6 + 64000 ≤ bk) (b3 : bc ≤ 599900) (b4 : bk ≤ 7300000) (hB : A 36 0 = gs_n S) :
    ∃ M', mSt0 fu M1 = F_X4_build_126 fu M' ∧ ((∃ N x S' op Mb Sb bc' bk' p, F_X2_chart fu (some (A 1 0)) S = some (.returned (some (va_rf (some x))), S') ∧ QS A N M0 z tx bc' bk' op (fun _ => false) Mb Sb p ∧ bc' ≤ bc ∧ bk' ≤ bk ∧ (∀ j, op j = true → j = 0) ∧ 0 < N 9 0 ∧ N 9 5 = w ∧ N 7 0 = gs_n S ∧ g_inv M0 S' ∧ nJ A N Mb Sb (N 9 4) M' S' ∧ xS A w (gs_n S) M1 S Mb Sb) ∨
      (∃ o S', F_X2_chart fu (some (A 1 0)) S = some (o, S') ∧ PF A M0 bc bk M' o S' ∧ xS A w (gs_n S) M1 S M' S')) := by
  obtain ⟨N, Si, e1, e2, e3, e4, e5, e6⟩ := c_init (A := A) (M0 := M0) (z := z) (tx := tx) (bc := bc) (bk := bk) (fu := fu) (by omega) hw hi h1 h2 h3 h4 h5 h6 h7 h8 l1 l2 l3 m8 m4 m5 mc m17 b1 b2 b3 b4 (by omega)
  have x0 : xS A w (gs_n S) M1 S M1 Si := ⟨e6, fun _ _ _ => rfl⟩
  have hst := s_state (A := A) (M0 := M0) (z := z) (tx := tx) hf (z - 0) 0 rfl bc bk N M1 Si (fun _ => false) (fun _ => false) 0 1 fu 8 e2 (Nat.zero_le _) (fun q => absurd rfl q) (by omega) (by omega) (by omega) rfl
  rw [if_pos rfl, e3, e4, e5] at hst
  unfold mSt0 F_X4_readChart
  rw [e1]
  unfold cSt
  rcases hst with ⟨N', Mb, Sb, p', n', f', a1, a2, a3, a4, a5, a6, a7, a8, a9, a10, a11, a12⟩ | ⟨M', o, S', a1, a2, a3, a4⟩
  · have hP := a3.1.1
    have hpz := hP.pz
    obtain ⟨f', rfl⟩ : ∃ f'', f' = f'' + 1 := ⟨f' - 1, by omega⟩
    obtain ⟨n', rfl⟩ : ∃ n'', n' = n'' + 1 := ⟨n' - 1, by omega⟩
    have hm : F_X4_readChart_6 fu fu (-1) 1 1 M1 = F_X4_readChart_204 fu Mb := by
      rw [show F_X4_readChart_6 fu fu (-1) 1 1 M1 = _ from a1, F_X4_readChart_87, hP.m5, if_pos rfl, show pcv 0 = -1 from rfl, if_pos (by decide)]
      unfold F_X4_readChart_191
      rw [if_pos (by decide), F_X4_readChart_6, if_pos rfl]
    rw [hm, show F_X2_state fu 8 (some (A 1 0)) none 1 Si = _ from a2, gz_cR_rf, hP.at', y_b, hP.2.2.2.2.1, y_b]
    unfold F_X4_readChart_204
    rw [hP.m4, hP.2.2.2.2.2.1]
    have hn5 : N' 9 5 = w := (a10.2.1 9 5 (by omega)).trans e4
    have hn7 : N' 7 0 = gs_n S := (a10.2.1 7 0 (by omega)).trans e5
    by_cases ez : p' = z
    · have ez' : nI p' = nI z := by rw [ez]
      rw [if_pos ez', if_pos ez']
      unfold F_X4_readChart_221 F_X2_chart_82
      rw [m_want1, y_cV, y_cV, hP.m5, if_pos rfl, y_q hP.1, c_want1, y_cV]
      unfold F_X4_findNames
      have h8b : n_I Mb 8 0 = nI w := by rw [← hn5]; exact a3.1.2.2.2.1.2.1.1
      rw [h8b, y_m64, ← hn5]
      have hnn : N' 9 4 ≤ 63 := by have := a3.1.2.2.2.2.1; omega
      have J0 : nJ A N' Mb Sb 0 Mb Sb := ⟨fun _ _ _ => rfl, fun _ _ _ _ => rfl, rfl, fun k hk => by omega⟩
      rcases s_names (fu := fu) a3 hnn (some (N' 10 0)) (N' 9 4 - 0) 0 Mb Sb fu fu rfl (Nat.zero_le _) (by omega) (by omega) a3.1.2.1 J0 with ⟨M', S', w1, w2, w3, w4⟩ | ⟨M', o, S', w1, w2, w3, w4, w5⟩
      · rw [Nat.add_zero] at w1
        rw [w1, y_cV, show F_X2_chart_87 fu fu (some (A 1 0)) (some (N' 10 0)) 0 Sb = _ from w2]
        refine ⟨M', rfl, Or.inl ⟨N', N' 10 0, S', _, Mb, Sb, _, _, p', rfl, a3, by omega, by omega, fun j q => ?_, by omega, rfl, hn7, w3, w4, ?_⟩⟩
        · by_cases ej : j = 0
          · exact ej
          · rw [if_neg ej] at q; cases q
        · rw [hn5]; exact x0.trans a12
      · rw [Nat.add_zero] at w1
        rw [w1, y_cV, show F_X2_chart_87 fu fu (some (A 1 0)) (some (N' 10 0)) 0 Sb = _ from w2]
        refine ⟨M', rfl, Or.inr ⟨o, S', rfl, w3.b (by omega) (by omega), ?_⟩⟩
        rw [hn5] at w4 ⊢
        exact (x0.trans a12).trans ⟨w5.wk (fun F a q => by unfold eJ at q; unfold eS; omega) (fun a q => q.elim), fun k i q => w4 k i (by omega)⟩
    · have ez' : ¬ nI p' = nI z := fun q => ez ((nI_eq (by omega) (by omega)).mp q)
      rw [if_neg ez', if_neg ez']
      obtain ⟨f1, f2⟩ := s_fail hP a3.1.2.1 a3.1.2.2.1 fu (some (A 1 0))
      unfold F_X4_readChart_221 F_X2_chart_82
      rw [m_want0, y_cV, y_cV, n_ps, if_neg (by decide), y_q hP.1, f1, y_cVt]
      refine ⟨_, rfl, Or.inr ⟨_, _, rfl, f2.b (by omega) (by omega), ?_⟩⟩
      exact (x0.trans a12).trans ⟨(ag.mk a3.1.2.1.2.2.2).wk (fun F a q => q.elim) (fun a q => q.elim), fun k i q => y_uk (by omega)⟩
  · obtain ⟨a, pp, g1, g2⟩ := id a3
    have h5' : n_I M' 5 0 = 1 := g2.2.2.2.1
    rw [show F_X4_readChart_6 fu fu (-1) 1 1 M1 = _ from a1, y_cV, h5', if_neg (by decide), show F_X2_state fu 8 (some (A 1 0)) none 1 Si = _ from a2, g1, y_cRt]
    exact ⟨M', rfl, Or.inr ⟨_, _, rfl, by rw [← g1]; exact a3, x0.trans a4⟩⟩
end RDZr
