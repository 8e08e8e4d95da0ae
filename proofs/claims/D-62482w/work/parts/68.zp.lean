/-! LAYER 2, reading: the end of a transition -/
set_option maxRecDepth 100000
section RDV
variable {A : gA} {M0 : gM} {z p bc bk : Nat} {tx : Nat → Nat}
/-- the model from '>' on -/
def mTB (fu : Nat) (x2 x3 : Int32) (M7 : gM) : gQ := Option.bind (n_sI M7 22 48 x2 (-1 : Int32)) fun M9 =>
  gz_cI (F_X4_takes fu (33 : Int32) M9) fun v10 M10 =>
  if v10 = 0 then (gz_cI (F_X4_readName fu (1 : Int32) M10) fun v12 M12 =>
  Option.bind (n_sI M12 22 48 x2 v12) fun M13 =>
  F_X4_readTransition_210 fu x3 M13)
  else (F_X4_readTransition_210 fu x3 M10)
theorem i_trB {M : gM} (h : n_I M 5 0 = 1) {w ix : Nat} (hw : n_I M 8 0 = nI w) (hw2 : w < 2) (hix : ix < 48) (fu : Nat) (x3 : Int32) : ∃ M', mTB fu (nI ix) x3 M = some (.returned none, M') ∧ n_I M' 5 0 = 1 ∧ ∀ k i, ¬ (k = 5 ∨ (k = 22 ∧ i = ix)) → M' k i = M k i := by
  obtain ⟨M9, hM9⟩ : ∃ M9, M9 = n_up M 22 ix (.int (-1)) := ⟨_, rfl⟩
  have h9 : n_I M9 5 0 = 1 := by unfold n_I; rw [hM9, y_uk (by decide)]; exact h
  have h89 : n_I M9 8 0 = nI w := by unfold n_I; rw [hM9, y_uk (by decide)]; exact hw
  have h13 : n_I (n_up (n_p M9 5 1) 22 ix (.int 0)) 5 0 = 1 := by unfold n_I; rw [y_uk (by decide)]; exact n_ps
  unfold mTB
  rw [y_sI hix (by omega), y_b, ← hM9, show F_X4_takes fu 33 M9 = _ from i_takes h9 fu (c := 33) (by omega) (by omega), y_cI, if_pos rfl, i_name h9 h89 hw2, y_cI, y_sI hix (by omega), y_b, i_tr210 h13]
  refine ⟨_, rfl, h13, fun k i q => ?_⟩
  rw [n_upo (by omega), show n_p M9 5 1 k i = M9 k i from y_uk (by omega), hM9, n_upo (by omega)]
theorem i_tr154 {M : gM} (h : n_I M 5 0 = 1) {w ix : Nat} (hw : n_I M 8 0 = nI w) (hw2 : w < 2) (hix : ix < 48) (fu : Nat) (x3 : Int32) : ∃ M', F_X4_readTransition_154 fu (nI ix) x3 M = some (.returned none, M') ∧ n_I M' 5 0 = 1 ∧ ∀ k i, ¬ (k = 5 ∨ ((k = 21 ∨ k = 22) ∧ i = ix)) → M' k i = M k i := by
  obtain ⟨M6, hM6⟩ : ∃ M6, M6 = n_up M 21 ix (.int ((64 : Int32) * nI w + n_I M 11 w)) := ⟨_, rfl⟩
  have h6 : n_I M6 5 0 = 1 := by unfold n_I; rw [hM6, y_uk (by decide)]; exact h
  have h86 : n_I (n_p M6 5 1) 8 0 = nI w := (n_po (by decide)).trans (by unfold n_I; rw [hM6, y_uk (by decide)]; exact hw)
  obtain ⟨M', e1, e2, e3⟩ := i_trB (M := n_p M6 5 1) n_ps h86 hw2 hix fu x3
  unfold F_X4_readTransition_154
  rw [hw, y_aI (by omega) (by omega), y_b, y_sI hix (by omega), y_b, ← hM6, show F_X4_take fu 62 M6 = _ from i_take h6 fu (c := 62) (by omega) (by omega), y_cV]
  refine ⟨M', e1, e2, fun k i q => ?_⟩
  rw [e3 k i (by omega), show n_p M6 5 1 k i = M6 k i from y_uk (by omega), hM6, n_upo (by omega)]
def eU (A : gA) (r3 rs : Nat) : Nat → Nat → Prop := fun F a => ((F = 202 ∨ F = 207) ∧ a = A 1 0) ∨ ((F = 3 ∨ F = 4) ∧ (a = r3 ∨ a = rs))
theorem s_tail {N : gA} {M : gM} {S : gm_S} (h : PA A M S z tx p) (hi : g_inv M0 S) (hb : PB (bc - 8) (bk - 400) S p) (hbb : 8 ≤ bc ∧ 400 ≤ bk ∧ bc ≤ 599900 ∧ bk ≤ 7300000) (hq : qA A N M S) {t st tr r3 rs : Nat} (ht : t < 300) (htr : gs_t S tr = 10) (h10 : g_gR S (some tr) 10 3 = some (some r3)) (hr3 : gs_t S r3 = 16) (hl3 : S.2.1 r3 = (l_ac N t).map (N 14)) (h54 : g_gR S (some st) 5 4 = some (some rs)) (hrs : gs_t S rs = 16) (hls : (S.2.1 rs).length < 100) (hne : r3 ≠ rs) {fu : Nat} (hf : 200 ≤ fu) :
    (∃ N' M' S' p', F_X4_readTransition_210 fu (nI t) M = some (.returned none, M') ∧ F_X2_transition_114 fu (some (A 1 0)) (some st) (some tr) S = some (.returned none, S') ∧ PA A M' S' z tx p' ∧ g_inv M0 S' ∧ PB bc bk S' p' ∧ p ≤ p' ∧ qA A N' M' S' ∧ exA N N' t ∧ S'.2.1 r3 = (l_ac N' t).map (N' 14) ∧ S'.2.1 rs = S.2.1 rs ++ [tr] ∧ ag (eU A r3 rs) (fun a => a = r3 ∨ a = rs) S S' ∧ (∀ b, b ≠ r3 → b ≠ rs → S'.2.1 b = S.2.1 b) ∧ mAcs N M M') ∨
    (∃ M' o S', F_X4_readTransition_210 fu (nI t) M = some (.returned none, M') ∧ F_X2_transition_114 fu (some (A 1 0)) (some st) (some tr) S = some (o, S') ∧ PF A M0 bc bk M' o S' ∧ ag (eU A r3 rs) (fun a => a = r3 ∨ a = rs) S S' ∧ mAcs N M M') := by
  have hpz := h.pz
  have r1 : r3 ≠ A 1 0 := fun w => by rw [w, h.1] at hr3; cases hr3
  have r34 : rs ≠ A 34 0 := fun w => by rw [w, h.2.2.1] at hrs; cases hrs
  have rs1 : rs ≠ A 1 0 := fun w => by rw [w, h.1] at hrs; cases hrs
  unfold F_X4_readTransition_210 F_X2_transition_114
  rw [y_q h.1]
  obtain ⟨v, M1, S1, p1, hv, e1, e2, P1, t1, f1⟩ := s_opt h fu (c := 47) (by omega) (by omega)
  have i1 := t1.inv hi h.1
  have pp1 : p ≤ p1 := by rcases hv with w | w <;> omega
  have b1 : PB (bc - 8) (bk - 400) S1 p1 := t1.b hb pp1
  have q1 : qA A N M1 S1 := hq.at' t1 f1
  have l1 : S1.2.1 = S.2.1 := by rw [t1.2]
  have h10' := t1.ag.gR h10 (by decide) (by unfold eA; omega)
  have h54' := t1.ag.gR h54 (by decide) (by unfold eA; omega)
  have g1 : ag (eU A r3 rs) (fun a => a = r3 ∨ a = rs) S S1 := t1.ag.wk (fun F a w => Or.inl ⟨Or.inl w.1, w.2⟩) (fun a w => w.elim)
  have m1 : mAcs N M M1 := fun k i q => f1 k i (by omega)
  rw [show F_X4_takes fu 47 M = _ from e1, y_cI, show F_X2_takes fu (some (A 1 0)) 47 S = _ from e2, y_cI]
  -- the transition goes into its state's list
  have fin : ∀ (N' : gA) (M' : gM) (S2 : gm_S) (p' : Nat), PA A M' S2 z tx p' → g_inv M0 S2 → PB (bc - 8) (bk - 400) S2 p' → qA A N' M' S2 → ag (eR A r3) (fun a => a = r3) S1 S2 → (∀ b, b ≠ r3 → S2.2.1 b = S1.2.1 b) → S2.2.1 r3 = (l_ac N' t).map (N' 14) → ∃ S', F_X2_transition_131 fu (some st) (some tr) S2 = some (.returned none, S') ∧ PA A M' S' z tx p' ∧ g_inv M0 S' ∧ PB bc bk S' p' ∧ qA A N' M' S' ∧ S'.2.1 r3 = (l_ac N' t).map (N' 14) ∧ S'.2.1 rs = S.2.1 rs ++ [tr] ∧ ag (eU A r3 rs) (fun a => a = r3 ∨ a = rs) S S' ∧ (∀ b, b ≠ r3 → b ≠ rs → S'.2.1 b = S.2.1 b) := by
    intro N' M' S2 p' w1 w2 w3 w4 w5 w6 w7
    obtain ⟨d1, d2, d3, d4⟩ := w3
    have g2 : ag (eU A r3 rs) (fun a => a = r3 ∨ a = rs) S S2 := (g1.trans w5).wk (fun F a w => w.elim id (fun w => by unfold eR at w; unfold eU; omega)) (fun a w => w.elim id (fun w => Or.inl w))
    have trs2 : gs_t S2 rs = 16 := (g2.2.2 rs (by rw [hrs]; decide)).trans hrs
    have ttr2 : gs_t S2 tr = 10 := (g2.2.2 tr (by rw [htr]; decide)).trans htr
    have ls2 : S2.2.1 rs = S.2.1 rs := by rw [w6 rs (fun w => hne w.symm), l1]
    obtain ⟨S', c1, c2, c3, c4, c5, c6, c7⟩ := c_ladd w2 trs2 (x := tr) (by rw [ttr2]; decide) (by rw [ls2]; exact hls) (by omega) (by omega)
    have h542 : g_gR S2 (some st) 5 4 = some (some rs) := w5.gR h54' (by decide) (by unfold eR; omega)
    refine ⟨S', ?_, w1.mono c2 (by simp) (fun _ _ _ => rfl), c4, ⟨by omega, by omega, by omega, by omega⟩, w4.mono c2 ⟨fun F b q1 q2 q3 => by omega, fun q => by omega⟩ ⟨rfl, rfl, fun _ _ => ⟨rfl, rfl, rfl⟩⟩ ⟨rfl, rfl, fun _ _ _ _ _ => rfl⟩, by rw [c7 r3 hne]; exact w7, by rw [c3, ls2], (g2.trans c2).wk (fun F a w => w.elim id (fun w => by unfold eU; omega)) (fun a w => w.elim id (fun w => Or.inr w)), fun b q1 q2 => by rw [c7 b q2, w6 b q1, l1]⟩
    unfold F_X2_transition_131
    rw [h542, y_b, c1, y_b]
  rcases hv with ⟨hv0, hp1, hM1, hS1, -⟩ | ⟨hv1, hp1, -⟩
  · rw [if_pos hv0, if_pos hv0]
    obtain ⟨S', w⟩ := fin N M1 S1 p1 P1 i1 b1 q1 (g_none.wk (fun F a w => w.elim) (fun a w => w.elim)) (fun _ _ => rfl) (by rw [l1]; exact hl3)
    exact Or.inl ⟨N, M1, S', p1, rfl, w.1, w.2.1, w.2.2.1, w.2.2.2.1, pp1, w.2.2.2.2.1, exA.refl, w.2.2.2.2.2.1, w.2.2.2.2.2.2.1, w.2.2.2.2.2.2.2.1, w.2.2.2.2.2.2.2.2, m1⟩
  · rw [if_neg (by rw [hv1]; decide), if_neg (by rw [hv1]; decide), h10', y_b, y_q P1.1]
    have P1z := P1.pz
    unfold F_X4_readActions F_X2_actions
    rcases s_actions (z := z) (tx := tx) (bc := bc - 8) (bk := bk - 400) (M0 := M0) (r := r3) (fu := fu) (by omega) ht (z - p1) p1 N M1 S1 fu fu rfl (by omega) (by omega) P1 i1 b1 q1 ((t1.t r3).trans hr3) (by rw [l1]; exact hl3) with ⟨N', M2, S2, p2, a1, a2, a3, a4, a5, a6, a7, a8, a9, a10, a11, a12⟩ | ⟨M2, o, S2, a1, a2, a3, a4, a5, a6⟩
    · obtain ⟨S', w⟩ := fin N' M2 S2 p2 a3 a4 a5 a7 a10 a11 a8
      rw [a1, y_cV, a2, y_cV]
      exact Or.inl ⟨N', M2, S', p2, rfl, w.1, w.2.1, w.2.2.1, w.2.2.2.1, by omega, w.2.2.2.2.1, a9, w.2.2.2.2.2.1, w.2.2.2.2.2.2.1, w.2.2.2.2.2.2.2.1, w.2.2.2.2.2.2.2.2, fun k i q => (a12 k i q).trans (m1 k i q)⟩
    · obtain ⟨a, pp, e1, e2⟩ := a3
      rw [a1, y_cV, a2]
      refine Or.inr ⟨M2, o, S2, rfl, by rw [e1]; rfl, PF.b ⟨a, pp, e1, e2⟩ (by omega) (by omega), (g1.trans a4).wk (fun F a w => w.elim id (fun w => by unfold eR at w; unfold eU; omega)) (fun a w => w.elim id (fun w => Or.inl w)), fun k i q => (a6 k i q).trans (m1 k i q)⟩
end RDV
