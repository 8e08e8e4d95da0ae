/-! LAYER 2: the beginning: new objects -/
set_option maxRecDepth 100000
section INA
variable {M0 : gM}
/-- a new array goes into a field -/
theorem x_af {S : gm_S} (hi : g_inv M0 S) {o tt k t n : Nat} (h : gs_t S o = tt) (ht : tt ≠ 0) (hn : n ≤ 1000) (h1 : gs_c S < 600096) (h2 : gs_k S + n ≤ 7301386) : ∃ S', (∀ f : gm_S → gR, (Option.bind (g_newa S t (nI n)) fun q => Option.bind (g_pR q.2 (some o) tt k (some q.1)) f) = f S') ∧ g_gR S' (some o) tt k = some (some (gs_n S)) ∧ gs_t S' (gs_n S) = 100 + t ∧ gm_N (S'.1 1 (gs_n S) 0) = n ∧ (∀ i, S'.1 2 (gs_n S) i = .null) ∧ S'.2.1 = S.2.1 ∧ ag (fun F a => F = 100 * tt + k ∧ a = o) (fun _ => False) S S' ∧ g_inv M0 S' ∧ gs_n S' = gs_n S + 1 ∧ gs_c S' = gs_c S + 1 ∧ gs_k S' = gs_k S + n ∧ gs_t S' o = tt := by
  have h0 : gs_t S o ≠ 0 := by rw [h]; exact ht
  have ho : o < gs_n S := hi.2.2.2 o h0
  have hF : 100 * tt + k ≠ 0 := by omega
  obtain ⟨S1, e1⟩ : ∃ S1, S1 = gs_put (g_mk S (100 + t) n) 1 (gs_n S) 0 (.ref n) := ⟨_, rfl⟩
  have t1 : gs_t S1 o = tt := by rw [e1, y_pt (by decide), y_mkt (by omega)]; exact h
  have tn : gs_t S1 (gs_n S) = 100 + t := by rw [e1, y_pt (by decide)]; exact y_mkn
  have g1 : ag (fun _ _ => False) (fun _ => False) S S1 := by
    rw [e1]
    exact ((ag.mk hi.2.2.2).trans (ag.put (by decide))).fr (fun F a u1 u2 => by
      have := hi.2.2.2 a u1
      rcases u2 with u2 | u2
      · exact u2
      · omega) (fun a u1 u2 => u2.elim id id)
  have i1 : g_inv M0 S1 := by rw [e1]; exact hi.mk.put (by decide) (by rw [y_mkn]; omega)
  have en : g_newa S t (nI n) = some (gs_n S, S1) := by
    unfold g_newa
    have c1 : (decide ((0 : Int32) ≤ nI n) && decide (nI n ≤ (1000 : Int32))) = true := by
      rw [Bool.and_eq_true, decide_eq_true_eq, decide_eq_true_eq]
      exact ⟨nI_pos' (by omega), (nI_leI (a := n) (b := 1000) (by omega) (by omega)).mpr hn⟩
    rw [if_pos c1, nI_clamp (by omega), if_pos (by simp [g_room]; exact ⟨h1, h2⟩), e1]
  refine ⟨gs_put S1 (100 * tt + k) o 0 (va_rf (some (gs_n S))), fun f => ?_, ?_, ?_, ?_, fun i => ?_, ?_, ?_, ?_, ?_, ?_, ?_, (y_pt hF).trans t1⟩
  · rw [en, y_b]
    dsimp only
    rw [y_pR t1, y_b]
  · rw [y_gR ((y_pt hF).trans t1), y_pE]; rfl
  · rw [y_pt hF]; exact tn
  · rw [y_pM (by omega), e1, y_pE]; rfl
  · rw [y_pM (by omega), e1, y_pM (by omega)]; exact gm_fresh_n (by omega)
  · rw [e1]; rfl
  · exact (g1.trans (ag.put hF)).wk (fun F a w => w.elim (fun w => w.elim) id) (fun a w => w.elim id id)
  · exact i1.put hF (by rw [t1]; exact ht)
  · rw [e1]; rfl
  · rw [e1]; rfl
  · rw [e1]; rfl
theorem x_lf2 {S : gm_S} (hi : g_inv M0 S) {o t k : Nat} (h : gs_t S o = t) (ht : t ≠ 0) (h1 : gs_c S < 600096) (h2 : gs_k S + 3 ≤ 7301386) : ∃ S', (∀ f : gm_S → gR, (Option.bind (g_new S 32 3) fun q => Option.bind (g_lnew q.2 (some q.1)) fun S3 => Option.bind (g_pR S3 (some o) t k (some q.1)) f) = f S') ∧ g_gR S' (some o) t k = some (some (gs_n S)) ∧ gs_t S' (gs_n S) = 16 ∧ S'.2.1 (gs_n S) = [] ∧ (∀ b, b ≠ gs_n S → S'.2.1 b = S.2.1 b) ∧ ag (fun F a => F = 100 * t + k ∧ a = o) (fun _ => False) S S' ∧ g_inv M0 S' ∧ gs_n S' = gs_n S + 1 ∧ gs_c S' = gs_c S + 1 ∧ gs_k S' = gs_k S + 3 ∧ gs_t S' o = t ∧ g_cap S' (gs_n S) = 0 := by
  have h0 : gs_t S o ≠ 0 := by rw [h]; exact ht
  have ho : o < gs_n S := hi.2.2.2 o h0
  have ta : gs_t (nwL S) o = t := by rw [nwL_o (by omega)]; exact h
  have hF : 100 * t + k ≠ 0 := by omega
  refine ⟨gs_put (nwL S) (100 * t + k) o 0 (va_rf (some (gs_n S))), fun f => ?_, ?_, ?_, ?_, ?_, ?_, ?_, rfl, rfl, rfl, (y_pt hF).trans ta, ?_⟩
  · rw [y_new h1 h2, y_b]
    dsimp only
    rw [y_lnew, y_b, y_pR ta, y_b]
  · rw [y_gR ((y_pt hF).trans ta), y_pE]; rfl
  · rw [y_pt hF]; exact nwL_t
  · exact nwL_e
  · intro b w; exact nwL_l w
  · exact ((nwL_ag hi).trans (ag.put hF)).wk (fun F a w => w.elim (fun w => w.elim) id) (fun a w => w.elim id id)
  · exact (nwL_inv hi).put hF (by rw [ta]; exact ht)
  · unfold g_cap
    rw [y_pM (by omega)]
    show gm_N (gm_st (g_mk S 32 3).1 0 (gs_n S) 0 (.ref 16) 3 (gs_n S) 0) = 0
    rw [gm_st_F (by decide)]
    show gm_N (gm_fresh S.1 (gs_n S) 32 3 (gs_n S) 0) = 0
    rw [gm_fresh_n (by omega)]; rfl
/-- the reader -/
theorem x_reader {S : gm_S} (hi : g_inv M0 S) {o : Nat} (h : gs_t S o = 2) (h1 : gs_c S + 2 < 600096) (h2 : gs_k S + 176 ≤ 7301386) (fu : Nat) : ∃ S', F_X2_init fu (some o) S = some (.returned none, S') ∧ g_gR S' (some o) 2 0 = some (some (gs_n S)) ∧ g_gR S' (some o) 2 5 = some (some (gs_n S + 1)) ∧ gs_t S' (gs_n S) = 101 ∧ gm_N (S'.1 1 (gs_n S) 0) = 160 ∧ gs_t S' (gs_n S + 1) = 100 ∧ gm_N (S'.1 1 (gs_n S + 1) 0) = 16 ∧ S'.2.1 = S.2.1 ∧ ag (fun F a => (F = 200 ∨ F = 205) ∧ a = o) (fun _ => False) S S' ∧ g_inv M0 S' ∧ gs_n S' = gs_n S + 2 ∧ gs_c S' = gs_c S + 2 ∧ gs_k S' = gs_k S + 176 ∧ gs_t S' o = 2 := by
  have h0 : gs_t S o ≠ 0 := by rw [h]; decide
  have ho : o < gs_n S := hi.2.2.2 o h0
  obtain ⟨Sa, a1, a2, a3, a4, a5, a6, a7, a8, a9, a10, a11, a12⟩ := x_af (t := 1) (n := 160) (k := 0) hi h (by decide) (by omega) (by omega) (by omega)
  obtain ⟨Sb, b1, b2, b3, b4, b5, b6, b7, b8, b9, b10, b11, b12⟩ := x_af (t := 0) (n := 16) (k := 5) a8 a12 (by decide) (by omega) (by omega) (by omega)
  rw [a9] at b2 b3 b4 b5
  refine ⟨Sb, ?_, b7.gR a2 (by decide) (by omega), b2, (b7.2.2 _ (by rw [a3]; decide)).trans a3, by rw [b7.1 _ _ _ (by rw [a3]; decide) (by omega)]; exact a4, b3, b4, b6.trans a6, (a7.trans b7).wk (fun F a w => by omega) (fun a w => w.elim id id), b8, by omega, by omega, by omega, b12⟩
  unfold F_X2_init
  rw [y_q h]
  exact (a1 _).trans (b1 _)
end INA
