/-! LAYER 2: the calls, with and without a chart -/
set_option maxRecDepth 100000
section RCU
variable {A : gA} {M0 C : gM} {c1 c2 : Nat}
def RB (A : gA) (M0 M : gM) (S : gm_S) (c1 c2 : Nat) : Prop := g_inv M0 S ∧ rDa A M S ∧ rDv A M S ∧ rDq A M S ∧ rDs A M S ∧ rDt A M S ∧ rDc A S c1 c2 ∧ rDb A S c1 c2 ∧ rR A M S
/-- no chart yet -/
def RN (A : gA) (M0 M : gM) (S : gm_S) (c1 c2 : Nat) : Prop := RB A M0 M S c1 c2 ∧ gs_t S (A 8 0) = 16 ∧ S.2.1 (A 8 0) = [] ∧ n_I M 7 0 = -1 ∧ n_I M 40 0 = 0
def RL (A : gA) (M0 M : gM) (S : gm_S) : Prop := ∃ c1 c2, (∃ C, RC A M0 C M S c1 c2) ∨ RN A M0 M S c1 c2
theorem RL.b {M : gM} {S : gm_S} (h : RL A M0 M S) : ∃ c1 c2, RB A M0 M S c1 c2 := by
  obtain ⟨c1, c2, ⟨C, h⟩ | h⟩ := h
  · exact ⟨c1, c2, h.inv, h.a, h.v, h.q, h.s, h.t, h.c, h.b, h.r⟩
  · exact ⟨c1, c2, h.1⟩
theorem RN.m0 {M : gM} {S : gm_S} (h : RN A M0 M S c1 c2) (v : Int32) : RN A M0 (n_p M 0 v) S c1 c2 := by
  obtain ⟨⟨b1, b2, b3, b4, b5, b6, b7, b8, b9⟩, n1, n2, n3, n4⟩ := h
  have g : ag (fun _ _ => False) (fun _ => False) S S := ⟨fun _ _ _ _ _ => rfl, fun _ _ _ => rfl, fun _ _ => rfl⟩
  have hu : ∀ k i, k ≠ 0 → n_p M 0 v k i = M k i := fun k i z => y_uk z
  exact ⟨⟨b1, b2.mono g (by simp) (fun k i z => hu k i (by omega)), b3.mono g (by simp) (fun i => hu _ i (by omega)), b4.mono g (by simp) (fun k i z => hu k i (by omega)), b5.mono g (by simp) (by simp) (fun k i z => hu k i (by omega)), b6.mono g (by simp) (fun k i z => hu k i (by omega)), b7, b8, b9.mono g (by simp) (fun k i z => hu k i (by omega))⟩, n1, n2, (n_po (by decide)).trans n3, (n_po (by decide)).trans n4⟩
theorem RL.m0 {M : gM} {S : gm_S} (h : RL A M0 M S) (v : Int32) : RL A M0 (n_p M 0 v) S := by
  obtain ⟨c1, c2, ⟨C, h⟩ | h⟩ := h
  · exact ⟨c1, c2, Or.inl ⟨C, h.m0 v⟩⟩
  · exact ⟨c1, c2, Or.inr (h.m0 v)⟩
theorem RN.mkx {M : gM} {S : gm_S} (h : RN A M0 M S c1 c2) {t w : Nat} (hb : A 33 0 + 1 ≤ 600000) (hb' : A 33 1 + w ≤ 7301000) : g_new S t w = some (gs_n S, g_mk S t w) ∧ gs_t (g_mk S t w) (gs_n S) = t ∧ RN (aB A (A 33 0 + 1) (A 33 1 + w)) M0 M (g_mk S t w) c1 c2 := by
  obtain ⟨⟨i1, i2, i3, i4, i5, i6, i7, i8, i9⟩, n1, n2, n3, n4⟩ := h
  obtain ⟨b1, b2, b3, b4, b5, b6, b7⟩ := i8
  have g := ag.mk (S := S) (t := t) (w := w) i1.2.2.2
  have hcap : ∀ a, gs_t S a ≠ 0 → g_cap (g_mk S t w) a = g_cap S a := fun a ha => by unfold g_cap; rw [g.1 _ _ _ ha (fun z => z)]
  have cs : g_cap (g_mk S t w) (A 6 0) = g_cap S (A 6 0) := hcap _ (by rw [i5.2.1]; decide)
  have cc1 : g_cap (g_mk S t w) c1 = g_cap S c1 := hcap _ (by rw [i7.2.2.1]; decide)
  have cc2 : g_cap (g_mk S t w) c2 = g_cap S c2 := hcap _ (by rw [i7.2.2.2.1]; decide)
  have hr := i9.mono g (M' := M) ⟨fun _ _ _ z => z, fun _ _ _ z => z, fun _ z => z, fun z => z, fun z => z⟩ (fun _ _ _ => rfl)
  have hpc : gs_c S ≤ 600000 := by unfold p_c at b1; omega
  have hpk : gs_k S + w ≤ 7301000 := by unfold p_k at b2; omega
  have k1 : p_c A (g_mk S t w) c1 c2 ≤ A 33 0 + 1 := by
    unfold p_c at b1 ⊢
    rw [cs, cc1, cc2]
    show gs_c S + 1 + (8 - (S.2.1 (A 6 0)).length) + _ + _ + _ ≤ _
    omega
  have k2 : p_k A (g_mk S t w) c1 c2 ≤ A 33 1 + w := by
    unfold p_k at b2 ⊢
    rw [cs, cc1, cc2]
    show gs_k S + w + 2 * (8 - (S.2.1 (A 6 0)).length) + _ + _ + _ ≤ _
    omega
  exact ⟨y_new (by omega) (by omega), y_mkn, ⟨i1.mk, i2.mono g (by simp) (fun _ _ _ => rfl), i3.mono g (by simp) (fun _ => rfl), i4.mono g (by simp) (fun _ _ _ => rfl), i5.mono g (by simp) (fun z => z) (fun _ _ _ => rfl), i6.mono g (by simp) (fun _ _ _ => rfl), i7.mono g (by simp), ⟨k1, k2, hb, hb', by rw [← cs] at b5; exact b5, by rw [← cc1] at b6; exact b6, by rw [← cc2] at b7; exact b7⟩, hr⟩, (g.2.2 (A 8 0) (by rw [n1]; decide)).trans n1, n2, n3, n4⟩
/-- something is thrown -/
theorem RL.thr {M : gM} {S : gm_S} (h : RL A M0 M S) (t : Nat) (hb : A 33 0 + 1 ≤ 600000) (hb' : A 33 1 + 6 ≤ 7301000) : g_new S t 6 = some (gs_n S, g_mk S t 6) ∧ gs_t (g_mk S t 6) (gs_n S) = t ∧ RL (aB A (A 33 0 + 1) (A 33 1 + 6)) M0 M (g_mk S t 6) := by
  obtain ⟨c1, c2, ⟨C, h⟩ | h⟩ := h
  · obtain ⟨e1, e2, e3⟩ := h.mkx (t := t) (w := 6) hb hb'
    exact ⟨e1, e2, c1, c2, Or.inl ⟨C, e3⟩⟩
  · obtain ⟨e1, e2, e3⟩ := h.mkx (t := t) (w := 6) hb hb'
    exact ⟨e1, e2, c1, c2, Or.inr e3⟩
/-- budgets may grow -/
theorem RL.bud {M : gM} {S : gm_S} {a0 a1 : Nat} (h : RL (aB A a0 a1) M0 M S) {b0 b1 : Nat} (h0 : a0 ≤ b0) (h1 : a1 ≤ b1) (h2 : b0 ≤ 600000) (h3 : b1 ≤ 7301000) : RL (aB A b0 b1) M0 M S := by
  obtain ⟨c1, c2, ⟨C, h⟩ | h⟩ := h
  · exact ⟨c1, c2, Or.inl ⟨C, h.budb h0 h1 h2 h3⟩⟩
  · obtain ⟨⟨i1, i2, i3, i4, i5, i6, i7, ⟨k1, k2, k3, k4, k5⟩, i9⟩, n1⟩ := h
    exact ⟨c1, c2, Or.inr ⟨⟨i1, i2, i3, i4, i5, i6, i7, ⟨Nat.le_trans k1 h0, Nat.le_trans k2 h1, h2, h3, k5⟩, i9⟩, n1⟩⟩
/-- how a call ends -/
def rW (A : gA) (M0 : gM) (b0 b1 z : Nat) (v : Int32) (M' : gM) (o : Outcome) (S' : gm_S) : Prop := RL (aB A b0 b1) M0 M' S' ∧ ((o = .returned (some (.int v)) ∧ n_I M' 0 0 = 0) ∨ ∃ a c, o = .threw a ∧ 1 ≤ c ∧ z + c ≤ 19 ∧ gs_t S' a = z + c ∧ n_I M' 0 0 = nI c)
theorem rV.rW {b0 b1 z : Nat} {v : Int32} {M' : gM} {o : Outcome} {S' : gm_S} (h : rV A M0 C b0 b1 z v M' o S') : rW A M0 b0 b1 z v M' o S' := by
  obtain ⟨d1, d2, h1, h2⟩ := h
  exact ⟨⟨d1, d2, Or.inl ⟨C, h1⟩⟩, h2⟩
theorem rW.wk {b0 b1 z d0 d1 : Nat} {v : Int32} {M' : gM} {o : Outcome} {S' : gm_S} (h : rW A M0 b0 b1 z v M' o S') (h0 : b0 ≤ d0) (h1 : b1 ≤ d1) (h2 : d0 ≤ 600000) (h3 : d1 ≤ 7301000) : rW A M0 d0 d1 z v M' o S' := ⟨h.1.bud h0 h1 h2 h3, h.2⟩
/-- thrown, with its code -/
theorem RL.thrc {M : gM} {S : gm_S} {b0 b1 : Nat} (h : RL (aB A b0 b1) M0 M S) (z c : Nat) (hc : 1 ≤ c ∧ z + c ≤ 19) (hb : b0 + 1 ≤ 600000) (hb' : b1 + 6 ≤ 7301000) : ∃ S', (Option.bind (g_new S (z + c) 6) fun q : Nat × gm_S => some (Outcome.threw q.1, q.2)) = some (.threw (gs_n S), S') ∧ rW A M0 (b0 + 1) (b1 + 6) z 0 (n_p M 0 (nI c)) (.threw (gs_n S)) S' := by
  obtain ⟨e1, e2, e3⟩ := RL.thr h (z + c) hb hb'
  rw [aB_aB] at e3
  exact ⟨g_mk S (z + c) 6, by rw [e1, y_b], e3.m0 _, Or.inr ⟨gs_n S, c, rfl, hc.1, hc.2, e2, n_ps⟩⟩
theorem L_event {fu : Nat} (hf : 7000000000 ≤ fu) {b0 b1 : Nat} (hb : b0 + 1 ≤ 600000) (hb' : b1 + 6 ≤ 7301000) {M : gM} {S : gm_S} (h : RL (aB A b0 b1) M0 M S) (x : Int32) : ∃ v M' o S', F_X4_event fu x M = some (.returned (some (.int v)), M') ∧ F_X1_event fu (some (A 0 0)) x S = some (o, S') ∧ rW A M0 (b0 + 1) (b1 + 6) 16 v M' o S' := by
  have ill : ∀ c, 1 ≤ c ∧ c ≤ 3 → F_X4_event_29 fu x (nI c) M = some (.returned (some (.int 0)), n_p M 0 (nI c)) := by
    intro c hc
    unfold F_X4_event_29
    rw [show n_pIO M 0 (nI c) = some (n_p M 0 (nI c)) from rfl, y_b, n_ps, if_neg (fun z => by
      have := (nI_eq (a := c) (b := 0) (by omega) (by omega)).mp z
      omega)]
  have bad : ∃ v M' o S', F_X4_event_29 fu x 1 M = some (.returned (some (.int v)), M') ∧ F_X1_event_12 fu S = some (o, S') ∧ rW A M0 (b0 + 1) (b1 + 6) 16 v M' o S' := by
    obtain ⟨S', e1, e2⟩ := h.thrc 16 1 (by omega) hb hb'
    exact ⟨0, _, _, S', ill 1 (by omega), e1, e2⟩
  unfold F_X4_event F_X1_event
  by_cases x1 : x < 65
  · rw [if_pos x1, if_pos x1]; exact bad
  · rw [if_neg x1, if_neg x1]
    by_cases x2 : x ≤ 72
    · rw [if_pos x2, if_pos x2]
      obtain ⟨c1, c2, ⟨C, h⟩ | hN⟩ := h
      · have hch : g_gR S (some (A 0 0)) 1 1 = some (some (A 2 0)) := h.r.2.1
        have hru : g_gI S (some (A 2 0)) 3 1 = some (n_I M 40 0) := h.a.2.1
        rw [hch, y_b, hru, y_b]
        rcases h.a.2.2.1 with r0 | r1
        · rw [r0, if_pos rfl, if_pos rfl]
          obtain ⟨S', e1, e2⟩ := RL.thrc (A := A) ⟨c1, c2, Or.inl ⟨C, h⟩⟩ 16 2 (by omega) hb hb'
          exact ⟨0, _, _, S', ill 2 (by omega), e1, e2⟩
        · rw [r1, if_neg (by decide), if_neg (by decide)]
          have h0 := h.m0 0
          obtain ⟨M1, S1, o1, o2, o3, o4, o5, o6, -⟩ := s_open h0 fu
          obtain ⟨M2, o, S2, w1, w2, w3⟩ := s_come hf (show b0 + 1 ≤ 600000 from hb) (show b1 + 6 ≤ 7301000 from hb') o3 (by unfold n_I; rw [o6 _ _ (by omega)]; exact (n_po (by decide)).trans r1) o4 x
          have o2 : F_X3_open fu (some (A 2 0)) S = some (.returned none, S1) := o2
          have w2 : F_X3_come fu (some (A 2 0)) x S1 = some (o, S2) := w2
          have hch1 : g_gR S1 (some (A 0 0)) 1 1 = some (some (A 2 0)) := o3.r.2.1
          obtain ⟨v, M3, a1, d1, d2, a2, a3⟩ := s_ans fu (rO.rP w3) hb hb' (z := 16) (c := 3) (by omega)
          have hm : F_X4_event_29 fu x 0 M = some (.returned (some (.int v)), M3) := by
            unfold F_X4_event_29
            rw [show n_pIO M 0 0 = some (n_p M 0 0) from rfl, y_b, n_ps, if_pos rfl, o1, y_cV, w1, y_cV, show F_X4_answer fu 3 M2 = _ from a1, y_cI]
          rw [hm, y_b, y_q (show gs_t S (A 2 0) = 3 from h.rt), o2, y_cV, hch1, y_b, y_q (show gs_t S1 (A 2 0) = 3 from o3.rt), w2]
          rcases a3 with ⟨e1, e2, e3⟩ | ⟨a, e1, e2, e3⟩
          · have hch2 : g_gR S2 (some (A 0 0)) 1 1 = some (some (A 2 0)) := a2.r.2.1
            rw [e1, y_cV, hch2, y_b, e2, y_b]
            exact ⟨v, M3, _, S2, rfl, rfl, ⟨d1, d2, Or.inl ⟨C, a2⟩⟩, Or.inl ⟨rfl, e3⟩⟩
          · rw [e1, y_cVt]
            exact ⟨v, M3, _, S2, rfl, rfl, ⟨d1, d2, Or.inl ⟨C, a2⟩⟩, Or.inr ⟨a, 3, rfl, by omega, by omega, e2, e3⟩⟩
      · have hch : g_gR S (some (A 0 0)) 1 1 = some (some (A 2 0)) := hN.1.2.2.2.2.2.2.2.2.2.1
        have hru : g_gI S (some (A 2 0)) 3 1 = some (n_I M 40 0) := hN.1.2.1.2.1
        rw [hch, y_b, hru, y_b, hN.2.2.2.2, if_pos rfl, if_pos rfl]
        obtain ⟨S', e1, e2⟩ := RL.thrc (A := A) ⟨c1, c2, Or.inr hN⟩ 16 2 (by omega) hb hb'
        exact ⟨0, _, _, S', ill 2 (by omega), e1, e2⟩
    · rw [if_neg x2, if_neg x2]; exact bad
theorem L_tick {fu : Nat} (hf : 7000000000 ≤ fu) {b0 b1 : Nat} (hb : b0 + 161 ≤ 600000) (hb' : b1 + 326 ≤ 7301000) {M : gM} {S : gm_S} (h : RL (aB A b0 b1) M0 M S) (x : Int32) : ∃ v M' o S', F_X4_tick fu x M = some (.returned (some (.int v)), M') ∧ F_X1_tick fu (some (A 0 0)) x S = some (o, S') ∧ rW A M0 (b0 + 161) (b1 + 326) 16 v M' o S' := by
  have ill : ∀ c, 1 ≤ c ∧ c ≤ 3 → F_X4_tick_27 fu x (nI c) M = some (.returned (some (.int 0)), n_p M 0 (nI c)) := by
    intro c hc
    unfold F_X4_tick_27
    rw [show n_pIO M 0 (nI c) = some (n_p M 0 (nI c)) from rfl, y_b, n_ps, if_neg (fun z => by
      have := (nI_eq (a := c) (b := 0) (by omega) (by omega)).mp z
      omega)]
  have bad : ∃ v M' o S', F_X4_tick_27 fu x 1 M = some (.returned (some (.int v)), M') ∧ F_X1_tick_10 fu S = some (o, S') ∧ rW A M0 (b0 + 161) (b1 + 326) 16 v M' o S' := by
    obtain ⟨S', e1, e2⟩ := h.thrc 16 1 (by omega) (by omega) (by omega)
    exact ⟨0, _, _, S', ill 1 (by omega), e1, e2.wk (by omega) (by omega) hb hb'⟩
  unfold F_X4_tick F_X1_tick
  by_cases x1 : x < 0
  · rw [if_pos x1, if_pos x1]; exact bad
  · rw [if_neg x1, if_neg x1]
    by_cases x2 : x ≤ 20
    · rw [if_pos x2, if_pos x2]
      obtain ⟨c1, c2, ⟨C, h⟩ | hN⟩ := h
      · have hch : g_gR S (some (A 0 0)) 1 1 = some (some (A 2 0)) := h.r.2.1
        have hru : g_gI S (some (A 2 0)) 3 1 = some (n_I M 40 0) := h.a.2.1
        rw [hch, y_b, hru, y_b]
        rcases h.a.2.2.1 with r0 | r1
        · rw [r0, if_pos rfl, if_pos rfl]
          obtain ⟨S', e1, e2⟩ := RL.thrc (A := A) ⟨c1, c2, Or.inl ⟨C, h⟩⟩ 16 2 (by omega) (by omega) (by omega)
          exact ⟨0, _, _, S', ill 2 (by omega), e1, e2.wk (by omega) (by omega) hb hb'⟩
        · rw [r1, if_neg (by decide), if_neg (by decide)]
          have h0 := h.m0 0
          obtain ⟨M1, S1, o1, o2, o3, o4, o5, o6, -⟩ := s_open h0 fu
          have o2 : F_X3_open fu (some (A 2 0)) S = some (.returned none, S1) := o2
          obtain ⟨k, hk, hxk⟩ : ∃ k : Nat, k ≤ 20 ∧ x = nI k := by
            have e1 : 0 ≤ x.toInt := by
              have := Int32.not_lt.mp x1
              exact Int32.le_iff_toInt_le.mp this
            have e2 : x.toInt ≤ 20 := Int32.le_iff_toInt_le.mp x2
            refine ⟨x.toInt.toNat, by omega, ?_⟩
            apply Int32.toInt_inj.mp
            rw [nI_toInt (by omega)]
            omega
          rw [hxk]
          obtain ⟨v, M', o, S', w1, w2, w3⟩ := s_ticks (A := A) (M0 := M0) (C := C) hf k 0 M1 S1 c1 c2 fu fu b0 b1 (by omega) (by omega) (by omega) (by omega) (by omega) o3 (by unfold n_I; rw [o6 _ _ (by omega)]; exact (n_po (by decide)).trans r1) o4
          rw [Nat.zero_add] at w1 w2
          refine ⟨v, M', o, S', ?_, ?_, (rV.rW w3).wk (by omega) (by omega) hb hb'⟩
          · unfold F_X4_tick_27
            rw [show n_pIO M 0 0 = some (n_p M 0 0) from rfl, y_b, n_ps, if_pos rfl, o1, y_cV]
            exact w1
          · rw [y_b, y_q (show gs_t S (A 2 0) = 3 from h.rt), o2, y_cV]
            exact w2
      · have hch : g_gR S (some (A 0 0)) 1 1 = some (some (A 2 0)) := hN.1.2.2.2.2.2.2.2.2.2.1
        have hru : g_gI S (some (A 2 0)) 3 1 = some (n_I M 40 0) := hN.1.2.1.2.1
        rw [hch, y_b, hru, y_b, hN.2.2.2.2, if_pos rfl, if_pos rfl]
        obtain ⟨S', e1, e2⟩ := RL.thrc (A := A) ⟨c1, c2, Or.inr hN⟩ 16 2 (by omega) (by omega) (by omega)
        exact ⟨0, _, _, S', ill 2 (by omega), e1, e2.wk (by omega) (by omega) hb hb'⟩
    · rw [if_neg x2, if_neg x2]; exact bad
theorem L_start {fu : Nat} (hf : 7000000000 ≤ fu) {b0 b1 : Nat} (hb : b0 + 9 ≤ 600000) (hb' : b1 + 22 ≤ 7301000) {M : gM} {S : gm_S} (h : RL (aB A b0 b1) M0 M S) : ∃ v M' o S', F_X4_start fu M = some (.returned (some (.int v)), M') ∧ F_X1_start fu (some (A 0 0)) S = some (o, S') ∧ rW A M0 (b0 + 9) (b1 + 22) 17 v M' o S' := by
  obtain ⟨c1, c2, ⟨C, h⟩ | hN⟩ := h
  · have hch : g_gR S (some (A 0 0)) 1 1 = some (some (A 2 0)) := h.r.2.1
    have hst : g_gR S (some (A 2 0)) 3 0 = some (some (A 8 0)) := h.a.1
    have hl : gs_t S (A 8 0) = 16 := h.H.1.1
    have hll : S.2.1 (A 8 0) = (List.range (A 9 0)).map (A 10) := h.H.1.2.2
    have hn : 0 < A 9 0 ∧ A 9 0 ≤ 16 := h.n16
    have hlv : n_I M 7 0 = nI (A 9 5) := h.lv
    have hw : A 9 5 < 2 := h.w2
    obtain ⟨M3, M', o, S', f1, f2, f3, f4⟩ := s_start hf hb hb' (h.m0 0)
    obtain ⟨v, M4, a1, d1, d2, a2, a3⟩ := s_ans fu f4 (by omega) (by omega) (z := 17) (c := 2) (by omega)
    have hm : F_X4_start fu M = some (.returned (some (.int v)), M4) := by
      unfold F_X4_start F_X4_start_13
      rw [hlv, if_pos (nI_pos' (by omega)), show n_pIO M 0 0 = some (n_p M 0 0) from rfl, y_b, n_po (by decide), hlv, if_pos (nI_pos' (by omega)), f1, y_cV, f2 (fun M11 => gz_cI (F_X4_answer fu (2 : Int32) M11) fun v12 M12 => some (.returned (some (.int v12)), M12)), show F_X4_answer fu 2 M' = _ from a1, y_cI]
    unfold F_X1_start
    rw [hm, hch, y_b, hst, y_b, y_lemp hl, y_b, hll, if_neg (show ¬ (List.range (A 9 0)).map (A 10) = [] by
      intro z
      have := congrArg List.length z
      rw [List.length_map, List.length_range] at this
      have : A 9 0 = 0 := this
      omega), if_pos rfl, y_b, y_q (show gs_t S (A 2 0) = 3 from h.rt), f3]
    rcases a3 with ⟨e1, e2, e3⟩ | ⟨a, e1, e2, e3⟩
    · have hch2 : g_gR S' (some (A 0 0)) 1 1 = some (some (A 2 0)) := a2.r.2.1
      rw [e1, y_cV, hch2, y_b, e2, y_b]
      exact ⟨v, M4, _, S', rfl, rfl, ⟨d1, d2, Or.inl ⟨C, a2⟩⟩, Or.inl ⟨rfl, e3⟩⟩
    · rw [e1, y_cVt]
      exact ⟨v, M4, _, S', rfl, rfl, ⟨d1, d2, Or.inl ⟨C, a2⟩⟩, Or.inr ⟨a, 2, rfl, by omega, by omega, e2, e3⟩⟩
  · have hch : g_gR S (some (A 0 0)) 1 1 = some (some (A 2 0)) := hN.1.2.2.2.2.2.2.2.2.2.1
    have hst : g_gR S (some (A 2 0)) 3 0 = some (some (A 8 0)) := hN.1.2.1.1
    have hl : gs_t S (A 8 0) = 16 := hN.2.1
    have hll : S.2.1 (A 8 0) = [] := hN.2.2.1
    obtain ⟨S', e1, e2⟩ := RL.thrc (A := A) ⟨c1, c2, Or.inr hN⟩ 17 1 (by omega) (by omega) (by omega)
    refine ⟨0, n_p M 0 1, _, S', ?_, ?_, e2.wk (by omega) (by omega) hb hb'⟩
    · unfold F_X4_start F_X4_start_13
      rw [hN.2.2.2.1, if_neg (by decide), show n_pIO M 0 1 = some (n_p M 0 1) from rfl, y_b, n_po (by decide), hN.2.2.2.1, if_neg (by decide)]
    · unfold F_X1_start
      rw [hch, y_b, hst, y_b, y_lemp hl, y_b, hll, if_pos rfl, if_neg (by decide)]
      exact e1
end RCU
