/-! LAYER 2: the chart's own methods: tick, event -/
set_option maxRecDepth 100000
section RCS
variable {A : gA} {M0 C : gM} {c1 c2 : Nat}
theorem RC.wClock {M : gM} {S : gm_S} (h : RC A M0 C M S c1 c2) (v : Int32) : g_pI S (some (A 2 0)) 3 8 v = some (gs_put S 308 (A 2 0) 0 (.int v)) ∧ RC A M0 C (n_p M 50 v) (gs_put S 308 (A 2 0) 0 (.int v)) c1 c2 := by
  have ht := h.rt
  have g := ag.put (S := S) (F := 308) (a := A 2 0) (i := 0) (v := .int v) (by decide)
  obtain ⟨h1, h2, h3, h4, ⟨q, h5, h6, h7⟩, ck, h8, h9⟩ := h.a
  refine ⟨y_pI ht, h.wA (Or.inr (Or.inr (Or.inl rfl))) (fun k i z => y_uk (by omega)) ⟨g.gR h1 (by decide) (n1 (by decide)), ?_, ?_, ?_, ⟨q, h5, g.gI h6 (by decide) (n1 (by decide)), ?_⟩, v, ?_, fun _ => n_ps.symm⟩⟩
  · rw [n_po (by decide)]; exact g.gI h2 (by decide) (n1 (by decide))
  · rw [n_po (by decide)]; exact h3
  · rw [n_po (by decide)]; exact g.gI h4 (by decide) (n1 (by decide))
  · rw [n_po (by decide)]; exact h7
  · rw [y_gI ((y_pt (by decide)).trans ht), y_pE]; rfl
/-- how a call ends that may get stuck, by budgets -/
def rP (A : gA) (M0 C : gM) (b0 b1 : Nat) (M' : gM) (o : Outcome) (S' : gm_S) : Prop := ∃ d1 d2, (o = .returned none ∧ RC (aB A b0 b1) M0 C M' S' d1 d2 ∧ n_I M' 40 0 = 1 ∧ n_I M' 52 0 = 0) ∨ (∃ a, o = .threw a ∧ gs_t S' a = 19 ∧ RC (aB A (b0 + 1) (b1 + 6)) M0 C M' S' d1 d2 ∧ n_I M' 40 0 = 0 ∧ n_I M' 52 0 = 1)
theorem rP.wk {b0 b1 d0 d1 : Nat} {M' : gM} {o : Outcome} {S' : gm_S} (h : rP A M0 C b0 b1 M' o S') (h0 : b0 ≤ d0) (h1 : b1 ≤ d1) (h2 : d0 + 1 ≤ 600000) (h3 : d1 + 6 ≤ 7301000) : rP A M0 C d0 d1 M' o S' := by
  obtain ⟨x, y, ⟨e1, e2, e3⟩ | ⟨a, e1, e2, e3, e4⟩⟩ := h
  · exact ⟨x, y, Or.inl ⟨e1, e2.budb h0 h1 (by omega) (by omega), e3⟩⟩
  · exact ⟨x, y, Or.inr ⟨a, e1, e2, e3.budb (by omega) (by omega) (by omega) (by omega), e4⟩⟩
theorem rO.rP {b0 b1 : Nat} {M M' : gM} {o : Outcome} {S' : gm_S} (h : rO (aB A b0 b1) M0 C M M' o S') : rP A M0 C b0 b1 M' o S' := by
  obtain ⟨x, y, ⟨e1, e2, e3, e4, e5⟩ | ⟨a, e1, e2, e3, e4⟩⟩ := h
  · exact ⟨x, y, Or.inl ⟨e1, e2, e3, e4⟩⟩
  · rw [aB_aB] at e3
    exact ⟨x, y, Or.inr ⟨a, e1, e2, e3, e4⟩⟩
theorem s_tick3 {fu : Nat} (hf : 7000000000 ≤ fu) {b0 b1 : Nat} (hb : b0 + 9 ≤ 600000) (hb' : b1 + 22 ≤ 7301000) {M : gM} {S : gm_S} (h : RC (aB A b0 b1) M0 C M S c1 c2) (hr : n_I M 40 0 = 1) (h52 : n_I M 52 0 = 0) : ∃ M' o S', F_X4_oneTick fu M = some (.returned none, M') ∧ F_X3_tick fu (some (A 2 0)) S = some (o, S') ∧ rP A M0 C (b0 + 8) (b1 + 16) M' o S' := by
  obtain ⟨ck, h8, h9⟩ := h.a.2.2.2.2.2
  have h8 : g_gI S (some (A 2 0)) 3 8 = some ck := h8
  rw [h9 hr] at h8
  obtain ⟨p1, p2⟩ := h.wClock (n_I M 50 0 + 1)
  have p1 : g_pI S (some (A 2 0)) 3 8 (n_I M 50 0 + 1) = some (gs_put S 308 (A 2 0) 0 (.int (n_I M 50 0 + 1))) := p1
  have p2 : RC (aB A b0 b1) M0 C (n_p M 50 (n_I M 50 0 + 1)) (gs_put S 308 (A 2 0) 0 (.int (n_I M 50 0 + 1))) c1 c2 := p2
  obtain ⟨s1, s2, s3, s4, s5, s6⟩ := p2.s
  have s1 : g_gR (gs_put S 308 (A 2 0) 0 (.int (n_I M 50 0 + 1))) (some (A 2 0)) 3 7 = some (some (A 6 0)) := s1
  have s2 : gs_t (gs_put S 308 (A 2 0) 0 (.int (n_I M 50 0 + 1))) (A 6 0) = 16 := s2
  have s4 : ((gs_put S 308 (A 2 0) 0 (.int (n_I M 50 0 + 1))).2.1 (A 6 0)).length ≤ 8 := s4
  have s5 : n_I (n_p M 50 (n_I M 50 0 + 1)) 47 0 = nI ((gs_put S 308 (A 2 0) 0 (.int (n_I M 50 0 + 1))).2.1 (A 6 0)).length := s5
  obtain ⟨M', o, S', w1, w2, w3⟩ := s_tick22 (A := A) (M0 := M0) (C := C) hf _ 0 0 _ _ c1 c2 fu fu b0 b1 (by omega) (by omega) (by omega) (by omega) (by omega) p2 ((n_po (by decide)).trans hr) ((n_po (by decide)).trans h52) (Nat.le_of_eq (Nat.zero_add _))
  rw [Nat.zero_add] at w1 w2
  refine ⟨M', o, S', ?_, ?_, (show rP A M0 C _ _ M' o S' from w3).wk (by omega) (by omega) (by omega) (by omega)⟩
  · unfold F_X4_oneTick
    rw [show n_pIO M 50 (n_I M 50 0 + 1) = some (n_p M 50 (n_I M 50 0 + 1)) from rfl, y_b, s5]
    exact w1
  · unfold F_X3_tick
    rw [h8, y_b, p1, y_b, s1, y_b, y_lsz s2, y_b]
    exact w2
/-- how a call ends, by value and by code: z the tag of code 0 -/
def rV (A : gA) (M0 C : gM) (b0 b1 z : Nat) (v : Int32) (M' : gM) (o : Outcome) (S' : gm_S) : Prop := ∃ d1 d2, RC (aB A b0 b1) M0 C M' S' d1 d2 ∧ ((o = .returned (some (.int v)) ∧ n_I M' 0 0 = 0) ∨ ∃ a c, o = .threw a ∧ 1 ≤ c ∧ z + c ≤ 19 ∧ gs_t S' a = z + c ∧ n_I M' 0 0 = nI c)
theorem y_ch {M : gM} {S : gm_S} (h : RC A M0 C M S c1 c2) : g_gR S (some (A 0 0)) 1 1 = some (some (A 2 0)) := h.r.2.1
theorem m_ans0 {M : gM} (fu : Nat) (x : Int32) (h : n_I M 52 0 = 0) : F_X4_answer fu x M = some (.returned (some (.int (n_I M 51 0))), n_p M 0 0) := by
  unfold F_X4_answer F_X4_answer_13
  rw [h, if_pos rfl, show n_pIO M 0 0 = some (n_p M 0 0) from rfl, y_b, n_po (by decide), n_po (by decide), h, if_pos rfl]
theorem m_ans1 {M : gM} (fu : Nat) (x : Int32) (h : n_I M 52 0 = 1) : F_X4_answer fu x M = some (.returned (some (.int 0)), n_p M 0 x) := by
  unfold F_X4_answer F_X4_answer_13
  rw [h, if_neg (by decide), show n_pIO M 0 x = some (n_p M 0 x) from rfl, y_b, n_po (by decide), h, if_neg (by decide)]
/-- the answer of a call that ran -/
theorem s_ans {b0 b1 z c : Nat} {M' : gM} {o : Outcome} {S' : gm_S} (fu : Nat) (h : rP A M0 C b0 b1 M' o S') (hb : b0 + 1 ≤ 600000) (hb' : b1 + 6 ≤ 7301000) (hz : z + c = 19) : ∃ v M2, F_X4_answer fu (nI c) M' = some (.returned (some (.int v)), M2) ∧ ∃ d1 d2, RC (aB A (b0 + 1) (b1 + 6)) M0 C M2 S' d1 d2 ∧
    ((o = .returned none ∧ g_gI S' (some (A 2 0)) 3 11 = some v ∧ n_I M2 0 0 = 0) ∨ (∃ a, o = .threw a ∧ gs_t S' a = z + c ∧ n_I M2 0 0 = nI c)) := by
  obtain ⟨d1, d2, ⟨e1, e2, e3, e4⟩ | ⟨a, e1, e2, e3, e4, e5⟩⟩ := h
  · obtain ⟨q, q1, q2, q3⟩ := e2.a.2.2.2.2.1
    have q2 : g_gI S' (some (A 2 0)) 3 11 = some (nI q) := q2
    exact ⟨n_I M' 51 0, n_p M' 0 0, m_ans0 fu _ e4, d1, d2, (e2.budb (b0 := b0 + 1) (b1 := b1 + 6) (by omega) (by omega) (by omega) (by omega)).m0 0, Or.inl ⟨e1, by rw [q3]; exact q2, n_ps⟩⟩
  · exact ⟨0, n_p M' 0 (nI c), m_ans1 fu _ e5, d1, d2, e3.m0 _, Or.inr ⟨a, e1, by rw [e2, hz], n_ps⟩⟩
/-- the ticks of one call -/
theorem s_ticks {fu : Nat} (hf : 7000000000 ≤ fu) : ∀ (d i : Nat) (M : gM) (S : gm_S) (c1 c2 n m b0 b1 : Nat), d < n → d < m → i + d ≤ 20 → b0 + 8 * d + 1 ≤ 600000 → b1 + 16 * d + 6 ≤ 7301000 → RC (aB A b0 b1) M0 C M S c1 c2 → n_I M 40 0 = 1 → n_I M 52 0 = 0 →
    ∃ v M' o S', F_X4_tick_45 fu n (nI (i + d)) (nI i) M = some (.returned (some (.int v)), M') ∧ F_X1_tick_45 fu m (some (A 0 0)) (nI (i + d)) (nI i) S = some (o, S') ∧ rV A M0 C (b0 + 8 * d + 1) (b1 + 16 * d + 6) 16 v M' o S' := by
  intro d
  induction d with
  | zero =>
    intro i M S c1 c2 n m b0 b1 hn hm hi hb hb' h hr h52
    obtain ⟨n, rfl⟩ : ∃ n', n = n' + 1 := ⟨n - 1, by omega⟩
    obtain ⟨m, rfl⟩ : ∃ m', m = m' + 1 := ⟨m - 1, by omega⟩
    have hp : rP A M0 C b0 b1 M (.returned none) S := ⟨c1, c2, Or.inl ⟨rfl, h, hr, h52⟩⟩
    obtain ⟨v, M2, y1, d1, d2, y2, ⟨-, y3, y4⟩ | ⟨a, w, -⟩⟩ := s_ans fu hp (by omega) (by omega) (c := 3) (z := 16) (by omega)
    case inr => cases w
    have hch : g_gR S (some (A 0 0)) 1 1 = some (some (A 2 0)) := h.r.2.1
    refine ⟨v, M2, .returned (some (.int v)), S, ?_, ?_, d1, d2, y2, Or.inl ⟨rfl, y4⟩⟩
    · rw [F_X4_tick_45, Nat.add_zero, if_pos (Int32.le_refl _)]
      unfold F_X4_tick_67
      rw [show F_X4_answer fu 3 M = _ from y1, y_cI]
    · rw [F_X1_tick_45, Nat.add_zero, if_pos (Int32.le_refl _), hch, y_b, y3, y_b]
  | succ d ih =>
    intro i M S c1 c2 n m b0 b1 hn hm hi hb hb' h hr h52
    obtain ⟨n, rfl⟩ : ∃ n', n = n' + 1 := ⟨n - 1, by omega⟩
    obtain ⟨m, rfl⟩ : ∃ m', m = m' + 1 := ⟨m - 1, by omega⟩
    have hch : g_gR S (some (A 0 0)) 1 1 = some (some (A 2 0)) := h.r.2.1
    have hne : ¬ nI (i + (d + 1)) ≤ nI i := nI_ge (by omega) (by omega)
    obtain ⟨M1, o, S1, z1, z2, z3⟩ := s_tick3 hf (A := A) (by omega) (by omega) h hr h52
    rw [F_X4_tick_45, if_neg hne, h52, if_pos rfl, z1, y_cV, F_X1_tick_45, if_neg hne, hch, y_b, y_q (show gs_t S (A 2 0) = 3 from h.rt), z2, nI_1]
    have z30 := z3
    obtain ⟨d1, d2, ⟨y1, y2, y3, y4⟩ | ⟨a, y1, y2, y3, y4, y5⟩⟩ := z3
    · rw [y1, y_cV]
      obtain ⟨v, M', o', S', w1, w2, w3⟩ := ih (i + 1) M1 S1 d1 d2 n m (b0 + 8) (b1 + 16) (by omega) (by omega) (by omega) (by omega) (by omega) y2 y3 y4
      rw [show i + (d + 1) = i + 1 + d by omega]
      refine ⟨v, M', o', S', w1, w2, ?_⟩
      rw [show b0 + 8 * (d + 1) + 1 = b0 + 8 + 8 * d + 1 by omega, show b1 + 16 * (d + 1) + 6 = b1 + 16 + 16 * d + 6 by omega]
      exact w3
    · rw [y1, y_cVt]
      have hr3 := y3.budb (b0 := b0 + 8 * (d + 1) + 1) (b1 := b1 + 16 * (d + 1) + 6) (by omega) (by omega) (by omega) (by omega)
      refine ⟨0, n_p M1 0 3, .threw a, S1, ?_, rfl, d1, d2, hr3.m0 3, Or.inr ⟨a, 3, rfl, by omega, by omega, y2, n_ps⟩⟩
      have e67 : F_X4_tick_67 fu M1 = some (.returned (some (.int 0)), n_p M1 0 3) := by
        unfold F_X4_tick_67
        rw [m_ans1 fu 3 y5, y_cI]
      obtain ⟨n, rfl⟩ : ∃ n', n = n' + 1 := ⟨n - 1, by omega⟩
      rw [F_X4_tick_45]
      by_cases hz : nI (i + (d + 1)) ≤ nI (i + 1)
      · rw [if_pos hz, e67]
      · rw [if_neg hz, y5, if_neg (by decide), e67]
end RCS
