/-! LAYER 2, reading: rows of actions, whole -/
set_option maxRecDepth 100000
section RDJ
variable {A : gA} {M0 : gM} {z bc bk : Nat} {tx : Nat → Nat}
/-- more actions, of one owner -/
def exA (N N' : gA) (o : Nat) : Prop := N 9 3 ≤ N' 9 3 ∧ (∀ k i, ¬ (k = 9 ∧ i = 3) → ¬ ((k = 14 ∨ k = 31 ∨ k = 23) ∧ N 9 3 ≤ i) → N' k i = N k i) ∧ (∀ o', o' ≠ o → (l_ac N' o').map (N' 14) = (l_ac N o').map (N 14))
theorem exA.refl {N : gA} {o : Nat} : exA N N o := ⟨Nat.le_refl _, fun _ _ _ _ => rfl, fun _ _ => rfl⟩
theorem exA.trans {N N' N'' : gA} {o : Nat} (h : exA N N' o) (h' : exA N' N'' o) : exA N N'' o := ⟨Nat.le_trans h.1 h'.1, fun k i w w' => (h'.2.1 k i w (fun q => w' ⟨q.1, Nat.le_trans h.1 q.2⟩)).trans (h.2.1 k i w w'), fun o' w => (h'.2.2 o' w).trans (h.2.2 o' w)⟩
theorem exA.one {N : gA} {o x op : Nat} : exA N (aAct N o x op) o := ⟨by rw [aAct_n]; omega, fun k i w w' => aAct_o w (fun q => w' ⟨q.1, by omega⟩), fun o' w => by rw [aAct_l, if_neg w, List.append_nil]⟩
def mAcs (N : gA) (M M' : gM) : Prop := ∀ k i, ¬ (k = 4 ∨ k = 5 ∨ k = 38 ∨ k = 39 ∨ (k = 12 ∧ i = N 9 5) ∨ (33 ≤ k ∧ k ≤ 37 ∧ 48 * N 9 5 ≤ i ∧ i < 48 * N 9 5 + 48)) → M' k i = M k i
theorem qA.at' {N : gA} {M M' : gM} {S S' : gm_S} (h : qA A N M S) (g : tA A S S') (hM : ∀ k i, k ≠ 4 → M' k i = M k i) : qA A N M' S' := by
  obtain ⟨q1, q2, q3, q4, q5, q6⟩ := h
  have m : ∀ k i, k ≠ 4 → n_I M' k i = n_I M k i := fun k i w => by unfold n_I; rw [hM k i w]
  have md : ∀ k i, k ≠ 4 → n_D M' k i = n_D M k i := fun k i w => by unfold n_D; rw [hM k i w]
  have ga := g.ag
  refine ⟨(m _ _ (by decide)).trans q1, q2, (m _ _ (by decide)).trans q3, q4, ga.gI q5 (by decide) (by unfold eA; omega), fun a ha => ?_⟩
  obtain ⟨h1, h2⟩ := q6 a ha
  constructor
  · unfold cW6 at h1 ⊢
    rw [m 33 _ (by decide), m 34 _ (by decide), m 35 _ (by decide), m 36 _ (by decide), md 37 _ (by decide)]
    exact h1
  · unfold cH5 at h2 ⊢
    rw [m 34 _ (by decide), m 35 _ (by decide), m 36 _ (by decide), md 37 _ (by decide)]
    refine ⟨fun w => ?_, fun w => ?_⟩
    · obtain ⟨f1, f2⟩ := h2.1 w
      exact ⟨ga.gI f1 (by decide) (by unfold eA; omega), ga.gI f2 (by decide) (by unfold eA; omega)⟩
    · obtain ⟨f1, f2, f3, f4⟩ := h2.2 w
      refine ⟨ga.gI f1 (by decide) (by unfold eA; omega), ga.gI f2 (by decide) (by unfold eA; omega), ga.gR f3 (by decide) (by unfold eA; omega), ga.gI f4.1 (by decide) (by unfold eA; omega), ?_⟩
      obtain ⟨q, eq, tq, vq⟩ := y_gDt f4.2
      cases eq
      rw [y_gD ((ga.2.2 _ (by rw [tq]; decide)).trans tq), ga.1 _ _ _ (by rw [tq]; decide) (by unfold eA; omega), vq]
theorem s_actions {fu r o : Nat} (hf : 100 ≤ fu) (ho : o < 300) : ∀ (d p : Nat) (N : gA) (M : gM) (S : gm_S) (n m : Nat), z - p = d → d < n → d < m → PA A M S z tx p → g_inv M0 S → PB bc bk S p → qA A N M S → gs_t S r = 16 → S.2.1 r = (l_ac N o).map (N 14) →
    (∃ N' M' S' p', F_X4_readActions_0 fu n (nI o) M = some (.returned none, M') ∧ F_X2_actions_0 fu m (some (A 1 0)) (some r) S = some (.returned none, S') ∧ PA A M' S' z tx p' ∧ g_inv M0 S' ∧ PB bc bk S' p' ∧ p < p' ∧ qA A N' M' S' ∧ S'.2.1 r = (l_ac N' o).map (N' 14) ∧ exA N N' o ∧ ag (eR A r) (fun a => a = r) S S' ∧ (∀ b, b ≠ r → S'.2.1 b = S.2.1 b) ∧ mAcs N M M') ∨
    (∃ M' oo S', F_X4_readActions_0 fu n (nI o) M = some (.returned none, M') ∧ F_X2_actions_0 fu m (some (A 1 0)) (some r) S = some (oo, S') ∧ PF A M0 bc bk M' oo S' ∧ ag (eR A r) (fun a => a = r) S S' ∧ (∀ b, b ≠ r → S'.2.1 b = S.2.1 b) ∧ mAcs N M M') := by
  intro d
  induction d using Nat.strongRecOn with
  | _ d ih =>
    intro p N M S n m hd hn hm h hi hb hq hr hl
    obtain ⟨n, rfl⟩ : ∃ n', n = n' + 1 := ⟨n - 1, by omega⟩
    obtain ⟨m, rfl⟩ : ∃ m', m = m' + 1 := ⟨m - 1, by omega⟩
    have hna := hq.2.2.2.1
    rw [F_X4_readActions_0]
    rcases s_action1 h hi hb hq ho hr hl hf m with ⟨x, op, M1, S1, p1, a1, a2, a3, a4, a5, a6, a7, a8, a9, a10, a11⟩ | ⟨M1, oo, S1, a1, a2, a3, a4, a5, a6⟩
    · have hM1 : mAcs N M M1 := fun k i w => a11 k i (by omega)
      rw [a1, y_cV, a2]
      unfold cT
      rw [y_q a3.1]
      rcases s_takes a3 fu (c := 44) (by omega) (by omega) with ⟨t1, t2, t3, t4⟩ | ⟨t1, t2, t3⟩
      · have ts : tA A S1 (sA A S1 (p1 + 1)) := tA.s
        have hpz := t4.pz
        have r1 : gs_t S1 r = 16 := (a9.2.2 r (by rw [hr]; decide)).trans hr
        rw [show F_X4_takes fu 44 M1 = _ from t2, y_cI, if_neg (by decide), show F_X2_takes fu (some (A 1 0)) 44 S1 = _ from t3, y_cI, if_neg (by decide)]
        have gT : ag (eR A r) (fun a => a = r) S1 (sA A S1 (p1 + 1)) := ts.ag.wk (fun F a w => Or.inl ⟨Or.inl w.1, w.2⟩) (fun a w => w.elim)
        rcases ih (z - (p1 + 1)) (by omega) (p1 + 1) (aAct N o x op) (n_p M1 4 (nI (p1 + 1))) (sA A S1 (p1 + 1)) n m rfl (by omega) (by omega) t4 (ts.inv a4 a3.1) (ts.b a5 (by omega)) (a7.at' ts (fun k i w => y_uk w)) ((ts.t r).trans r1) a8 with ⟨N', M', S', p', w1, w2, w3, w4, w5, w6, w7, w8, w9, w10, w11, w12⟩ | ⟨M', oo, S', w1, w2, w3, w4, w5, w6⟩
        · refine Or.inl ⟨N', M', S', p', w1, w2, w3, w4, w5, by omega, w7, w8, exA.one.trans w9, ((a9.trans gT).trans w10).wk (fun F a w => w.elim (fun w => w.elim id id) id) (fun a w => w.elim (fun w => w.elim id id) id), fun b hb' => (w11 b hb').trans (a10 b hb'), fun k i w => ?_⟩
          have := w12 k i (by rw [aAct_w]; exact w)
          exact this.trans ((y_uk (by omega)).trans (hM1 k i w))
        · refine Or.inr ⟨M', oo, S', w1, w2, w3, ((a9.trans gT).trans w4).wk (fun F a w => w.elim (fun w => w.elim id id) id) (fun a w => w.elim (fun w => w.elim id id) id), fun b hb' => (w5 b hb').trans (a10 b hb'), fun k i w => ?_⟩
          have := w6 k i (by rw [aAct_w]; exact w)
          exact this.trans ((y_uk (by omega)).trans (hM1 k i w))
      · rw [show F_X4_takes fu 44 M1 = _ from t2, y_cI, if_pos rfl, show F_X2_takes fu (some (A 1 0)) 44 S1 = _ from t3, y_cI, if_pos rfl]
        exact Or.inl ⟨_, M1, S1, p1, rfl, rfl, a3, a4, a5, a6, a7, a8, exA.one, a9, a10, hM1⟩
    · have h5 : n_I M1 5 0 = 1 := by obtain ⟨a, pp, -, -, -, -, g5, -⟩ := a3; exact g5
      rw [a1, y_cV, show F_X4_takes fu 44 M1 = _ from i_takes h5 fu (c := 44) (by omega) (by omega), y_cI, if_pos rfl, a2]
      exact Or.inr ⟨M1, oo, S1, rfl, rfl, a3, a4, a5, fun k i w => a6 k i (by omega)⟩
/-- the model's actions, when it is ill: nothing more is read -/
theorem i_actions {M : gM} (h : n_I M 5 0 = 1) {w : Nat} (hw : n_I M 8 0 = nI w) (hw2 : w < 2) {fu : Nat} (hf : 100 ≤ fu) (o : Int32) : F_X4_readActions fu o M = some (.returned none, n_p M 5 1) := by
  obtain ⟨f, rfl⟩ : ∃ f, fu = f + 1 := ⟨fu - 1, by omega⟩
  have h' : n_I (n_p M 5 1) 5 0 = 1 := n_ps
  have ha : F_X4_readAction (f + 1) o M = some (.returned none, n_p M 5 1) := by
    unfold F_X4_readAction F_X4_readAction_42
    rw [show F_X4_among (f + 1) 65 72 M = _ from i_among h (f + 1) (lo := 65) (by omega) (by omega) 72, y_cI, if_pos rfl, show F_X4_among (f + 1) 117 122 M = _ from i_among h (f + 1) (lo := 117) (by omega) (by omega) 122, y_cI, if_pos rfl, m_want0, y_cV, show n_I (n_p M 5 1) 8 0 = nI w from (n_po (by decide)).trans hw, y_aI (by omega) (by omega), y_b, n_ps, if_neg (by decide)]
  unfold F_X4_readActions
  rw [F_X4_readActions_0, ha, y_cV, show F_X4_takes (f + 1) 44 (n_p M 5 1) = _ from i_takes h' (f + 1) (c := 44) (by omega) (by omega), y_cI, if_pos rfl]
end RDJ
