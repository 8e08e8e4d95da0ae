/-! LAYER 2, reading: a test by a name, whole -/
set_option maxRecDepth 100000
section RDO
variable {A : gA} {M0 : gM} {z p bc bk : Nat} {tx : Nat → Nat}
/-- the component's part -/
def cWi (fu : Nat) (x0 : Option Nat) (v1 : Int32) (S2 : gm_S) : gR := gz_q (g_at S2 x0 2) (gz_cI (F_X2_isAmong fu x0 (97 : Int32) (112 : Int32) S2) fun v7 S7 =>
  gz_q (g_at S7 x0 2) (gz_cV (F_X2_want fu x0 v7 S7) fun S8 =>
  Option.bind (g_new S8 11 4) fun q9 =>
  gz_q (g_at q9.2 x0 2) (gz_cI (F_X2_look fu x0 q9.2) fun v10 S10 =>
  Option.bind (g_gI S10 x0 2 2) fun v11 =>
  gz_q (g_at S10 (some q9.1) 11) (gz_cV (F_X11_init fu (some q9.1) v10 v11 (0 : Int32) S10) fun S12 =>
  Option.bind (g_gI S12 x0 2 2) fun v13 =>
  Option.bind (g_pI S12 x0 2 2 (v13 + (1 : Int32))) fun S14 =>
  Option.bind (g_gR S14 x0 2 4) fun v15 =>
  Option.bind (g_ladd S14 v15 (some q9.1)) fun S16 =>
  Option.bind (g_new S16 13 2) fun q17 =>
  gz_q (g_at q17.2 (some q17.1) 13) (gz_cV (F_X13_init fu (some q17.1) v1 (some q9.1) q17.2) fun S18 =>
  some (.returned (some (va_rf (some q17.1))), S18))))))
theorem s_within {N : gA} {M : gM} {S : gm_S} (h : PA A M S z tx p) (hi : g_inv M0 S) (hb : PB bc bk S p) (hq : qN A N M S) (h3 : 3 * N 9 4 + 2 ≤ p) {fu : Nat} (hf : 100 ≤ fu) {v : Int32} (hv : g_okZ v = true) :
    (∃ x y M' S' p', F_X4_readName fu 0 M = some (.returned (some (.int (nI (64 * N 9 5 + N 9 4)))), M') ∧ cWi fu (some (A 1 0)) v S = some (.returned (some (va_rf (some y))), S') ∧ PA A M' S' z tx p' ∧ g_inv M0 S' ∧ PB bc bk S' p' ∧ p < p' ∧ qN A (aNam N x) M' S' ∧ gs_t S x = 0 ∧ gs_t S y = 0 ∧ g_gI S' (some y) 13 0 = some v ∧ g_gR S' (some y) 13 1 = some (some x) ∧ ag (eN A N) (fun a => a = N 35 0) S S' ∧ (∀ b, b ≠ N 35 0 → S'.2.1 b = S.2.1 b) ∧ mNa N M M') ∨
    (∃ w M' o S', F_X4_readName fu 0 M = some (.returned (some (.int w)), M') ∧ cWi fu (some (A 1 0)) v S = some (o, S') ∧ PF A M0 bc bk M' o S' ∧ ag (eN A N) (fun a => a = N 35 0) S S' ∧ (∀ b, b ≠ N 35 0 → S'.2.1 b = S.2.1 b) ∧ mNa N M M') := by
  have hpz := h.pz
  have hct := ct_le h
  have hq0 := hq
  obtain ⟨q1, q2, q3, q4, q5, q6, q7, q8, q9⟩ := hq
  have hma := m_among h fu (lo := 97) (hi := 112) (by omega) (by omega)
  have hca := c_among h fu (lo := 97) (hi := 112) (by omega) (by omega)
  unfold F_X4_readName cWi
  rw [show F_X4_among fu 97 112 M = _ from hma, y_cI, y_q h.1, show F_X2_isAmong fu (some (A 1 0)) 97 112 S = _ from hca, y_cI, y_q h.1]
  by_cases hd' : 97 ≤ ct z tx p ∧ ct z tx p ≤ 112
  · obtain ⟨hp, hcc⟩ := ct_lo (by omega) hd'.1
    have ea : am 97 112 (ct z tx p) = 1 := if_pos hd'
    obtain ⟨b1, b2, b3, b4⟩ := hb
    obtain ⟨ix, hix⟩ : ∃ ix, ix = 64 * N 9 5 + N 9 4 := ⟨_, rfl⟩
    have hix2 : ix < 128 := by omega
    obtain ⟨l, hlt⟩ : ∃ l, tx p = 97 + l := ⟨tx p - 97, by omega⟩
    have e97 : nI (tx p) - 97 = nI l := by
      have := pk_sub (a := tx p) (b := 97) (by omega)
      rw [show tx p - 97 = l by omega] at this
      exact this
    obtain ⟨M10, hM10⟩ : ∃ M10, M10 = n_up M 24 ix (.int (nI p)) := ⟨_, rfl⟩
    have P10 : PA A M10 S z tx p := h.mono g_none ⟨fun w => w, fun w => w, fun w => w, fun w => w, fun w => w⟩ (fun k i w => by rw [hM10]; exact y_uk (by omega))
    obtain ⟨x1, -, -⟩ := s_next P10 fu hp
    obtain ⟨M15, hM15⟩ : ∃ M15, M15 = n_up (n_up (n_p M10 4 (nI (p + 1))) 23 ix (.int (nI l))) 25 ix (.int 0) := ⟨_, rfl⟩
    have f15 : ∀ k i, k ≠ 4 → ¬ (23 ≤ k ∧ k ≤ 25 ∧ i = ix) → M15 k i = M k i := fun k i w w' => by
      rw [hM15, n_upo (by omega), n_upo (by omega)]
      show n_up M10 4 0 _ k i = _
      rw [y_uk w, hM10, n_upo (by omega)]
    have m8 : n_I M15 8 0 = nI (N 9 5) := by unfold n_I; rw [f15 _ _ (by omega) (by omega)]; exact q1
    have m13 : n_I M15 13 (N 9 5) = nI (N 9 4) := by unfold n_I; rw [f15 _ _ (by omega) (by omega)]; exact q3
    obtain ⟨M2, hM2⟩ : ∃ M2, M2 = n_up M15 13 (N 9 5) (.int (nI (N 9 4 + 1))) := ⟨_, rfl⟩
    -- the component
    have gm := ag.mk (S := S) (t := 11) (w := 4) hi.2.2.2
    have Pm : PA A M (g_mk S 11 4) z tx p := h.mono gm ⟨fun w => w, fun w => w, fun w => w, fun w => w, fun w => w⟩ (fun _ _ _ => rfl)
    obtain ⟨S12, y1, y2, y3, y4, y5, y6, y7⟩ := x_name (M0 := M0) (S := g_mk S 11 4) y_mkn (c := ct z tx p) (by omega) (nI p) (nI 0) fu
    have g12 : ag (fun _ _ => False) (fun _ => False) S S12 := (ag.mkt hi.2.2.2 y5).wk (fun F a w => w.2 w.1.2) (fun a w => w.1)
    have P12 : PA A M S12 z tx p := h.mono g12 ⟨fun w => w, fun w => w, fun w => w, fun w => w, fun w => w⟩ (fun _ _ _ => rfl)
    have i12 := y7 hi.mk
    have ts : tA A S12 (sA A S12 (p + 1)) := tA.s
    have i14 := ts.inv i12 P12.1
    have P14 : PA A M2 (sA A S12 (p + 1)) z tx (p + 1) := by
      have := P12.to (q := p + 1) (by omega)
      refine this.mono g_none ⟨fun w => w, fun w => w, fun w => w, fun w => w, fun w => w⟩ (fun k i w => ?_)
      rw [hM2, y_uk (by omega), hM15, y_uk (by omega), y_uk (by omega)]
      by_cases e4 : k = 4 ∧ i = 0
      · obtain ⟨rfl, rfl⟩ := e4
        show n_up M10 4 0 _ 4 0 = n_up M 4 0 _ 4 0
        rw [y_us, y_us]
      · show n_up M10 4 0 _ k i = n_up M 4 0 _ k i
        rw [n_upo e4, n_upo e4, hM10, y_uk (by omega)]
    have gS14 : ag (eA A) (fun _ => False) S (sA A S12 (p + 1)) := (g12.trans ts.ag).wk (fun F a w => w.elim (fun w => w.elim) id) (fun a w => w.elim id id)
    have c14 : gs_c (sA A S12 (p + 1)) = gs_c S + 1 := by show S12.2.2.2.1 = _; rw [y6]; rfl
    have k14 : gs_k (sA A S12 (p + 1)) = gs_k S + 4 := by show S12.2.2.2.2 = _; rw [y6]; rfl
    have l14 : (sA A S12 (p + 1)).2.1 = S.2.1 := by show S12.2.1 = _; rw [y6]; rfl
    have f2 : ∀ k i, k ≠ 4 → ¬ (k = 13 ∧ i = N 9 5) → ¬ (23 ≤ k ∧ k ≤ 25 ∧ i = ix) → M2 k i = M k i := fun k i w w' w'' => by rw [hM2, n_upo w', f15 k i w w'']
    have fresh : ∀ n, gs_n S ≤ n → gs_t S n = 0 := fun n hn => by
      rcases Nat.eq_zero_or_pos (gs_t S n) with w | w
      · exact w
      · have := hi.2.2.2 n (by omega); omega
    have t14 : gs_t (sA A S12 (p + 1)) (gs_n S) = 11 := (ts.t _).trans (by obtain ⟨a, e, ta, -⟩ := y_gIt y2; cases e; exact ta)
    have v1 : qN1 N M2 (sA A S12 (p + 1)) (gs_n S) (N 9 4) := by
      refine ⟨l, p, 0, by omega, by omega, by omega, ?_, ?_, ?_, ?_, ts.ag.gI y3 (by decide) (by unfold eA; omega), ts.ag.gI y4 (by decide) (by unfold eA; omega)⟩
      · rw [← hix]; unfold n_I; rw [hM2, y_uk (by decide), hM15, y_uk (by decide), y_us]; rfl
      · rw [← hix]; unfold n_I; rw [hM2, y_uk (by decide), hM15, y_uk (by decide), y_uk (by decide)]
        show gm_I (n_up M10 4 0 _ 24 ix) = _
        rw [y_uk (by decide), hM10, y_us]; rfl
      · rw [← hix]; unfold n_I; rw [hM2, y_uk (by decide), hM15, y_us]; rfl
      · rw [← hlt, hcc]; exact ts.ag.gI y2 (by decide) (by unfold eA; omega)
    obtain ⟨S16, d1, d2, d3, d4, d5, d6, d7, d8, d9⟩ := c_nam (M' := M2) hq0 i14 gS14 l14 (by omega) t14 (fresh _ (Nat.le_refl _)) (by have := hi.2.2.2 (N 35 0) (by rw [q5]; decide); omega) v1 (by rw [hM2]; unfold n_I; rw [y_us]; rfl) (by unfold n_I; rw [f2 _ _ (by omega) (by omega) (by omega)]; exact q1) (fun K k f1 f3 f4 => f2 _ _ (by omega) (by omega) (by omega)) (by omega) (by omega)
    obtain ⟨S18, z1, z2, z3, z4, z5, z6⟩ := x_within (M0 := M0) (S := g_mk S16 13 2) (o := gs_n S16) (x := gs_n S) y_mkn hv fu
    have g18 : ag (fun _ _ => False) (fun _ => False) S16 S18 := (ag.mkt d6.2.2.2 z4).wk (fun F a w => w.2 w.1.2) (fun a w => w.1)
    have hne : N 35 0 ≠ A 34 0 := fun w => by rw [w, h.2.2.1] at q5; cases q5
    have n16 : gs_n S ≤ gs_n S16 := by
      have := d6.2.2.2 (gs_n S) (by rw [d5.2.2 _ (by rw [t14]; decide), t14]; decide)
      omega
    have l18 : S18.2.1 = S16.2.1 := by rw [z5]; rfl
    refine Or.inl ⟨gs_n S, gs_n S16, M2, S18, p + 1, ?_, ?_, (P14.mono d5 (by simp) (fun _ _ _ => rfl)).mono g18 ⟨fun w => w, fun w => w, fun w => w, fun w => w, fun w => w⟩ (fun _ _ _ => rfl), z6 d6.mk, ⟨?_, ?_, b3, b4⟩, by omega, ?_, fresh _ (Nat.le_refl _), fresh _ n16, z2, z3, (d4.trans g18).wk (fun F a w => w.elim id (fun w => w.elim)) (fun a w => w.elim id (fun w => w.elim)), fun b hb' => by rw [l18]; exact d9 b hb', fun k i w => f2 k i (by omega) (by omega) (by omega)⟩
    · rw [ea, m_want1, y_cV, q1, y_aI (by omega) (by omega), y_b, q3, h.m5, if_pos rfl, y_m64, nI_add, ← hix, h.m4, y_sI hix2 (by omega), y_b, ← hM10, x1, y_cI, e97, y_sI hix2 (by omega), y_b, y_sI hix2 (by omega), y_b, ← hM15]
      obtain ⟨f, rfl⟩ : ∃ f, fu = f + 1 := ⟨fu - 1, by omega⟩
      rw [F_X4_readName_71, if_neg (show ¬ (2 : Int32) ≤ 0 by decide), if_pos rfl]
      unfold F_X4_readName_105
      rw [m8, y_aI (by omega) (by omega), y_b, m13, nI_1, y_sI (by omega) (by omega), y_b, ← hM2]
    · rw [ea, c_want1, y_cV, y_new (by omega) (by omega), y_b]
      dsimp only
      rw [y_q Pm.1, c_look Pm fu, y_cI, Pm.at', y_b, y_q y_mkn, show F_X11_init fu (some (gs_n S)) (nI (ct z tx p)) (nI p) 0 (g_mk S 11 4) = _ from y1, y_cV, P12.at', y_b, nI_1, y_pI P12.1, y_b]
      show (Option.bind (g_gR (sA A S12 (p + 1)) (some (A 1 0)) 2 4) _) = _
      rw [d1, y_b]
      show (Option.bind (g_ladd (sA A S12 (p + 1)) (some (N 35 0)) (some (gs_n S))) _) = _
      rw [d2, y_b, y_new (by omega) (by omega), y_b]
      dsimp only
      rw [y_q y_mkn, z1, y_cV]
    · show S18.2.2.2.1 + _ ≤ _; rw [z5]; show gs_c S16 + 1 + _ ≤ _; omega
    · show S18.2.2.2.2 + _ ≤ _; rw [z5]; show gs_k S16 + 2 + _ ≤ _; omega
    · obtain ⟨e1, e2, e3, e4, e5, e6, e7, e8⟩ := d3
      exact ⟨e1, e2, e3, g18.gR e4 (by decide) (fun w => w), (g18.2.2 _ (by rw [e5]; decide)).trans e5, by rw [l18]; exact e6, fun k hk => (e7 k hk).mono g18 (fun _ _ _ w => w) (fun _ _ _ => rfl), e8⟩
  · have ea : am 97 112 (ct z tx p) = 0 := am1.mpr hd'
    obtain ⟨f1, f2⟩ := s_fail (bc := bc) (bk := bk) h hi hb fu (some (A 1 0))
    have q8' : n_I (n_p M 5 1) 8 0 = nI (N 9 5) := (n_po (by decide)).trans q1
    rw [ea, m_want0, y_cV, q8', y_aI (by omega) (by omega), y_b, n_ps, if_neg (by decide), f1, y_cVt]
    exact Or.inr ⟨0, _, _, _, rfl, rfl, f2, (ag.mk hi.2.2.2).wk (fun F a w => w.elim) (fun a w => w.elim), fun _ _ => rfl, fun k i w => y_uk (by omega)⟩
end RDO
