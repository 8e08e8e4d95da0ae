/-! LAYER 2: the small calls -/
set_option maxRecDepth 100000
section RCV
variable {A : gA} {M0 C : gM} {c1 c2 : Nat}
theorem i_nat {x : Int32} {a : Nat} (h0 : ¬ x < 0) (h1 : x < nI a) (ha : a < 2 ^ 31) : ∃ k : Nat, k < a ∧ x = nI k := by
  have e1 : 0 ≤ x.toInt := Int32.le_iff_toInt_le.mp (Int32.not_lt.mp h0)
  have e2 : x.toInt < (nI a).toInt := Int32.lt_iff_toInt_lt.mp h1
  rw [nI_toInt ha] at e2
  refine ⟨x.toInt.toNat, by omega, ?_⟩
  apply Int32.toInt_inj.mp
  rw [nI_toInt (by omega)]
  omega
theorem i_nat2 {x : Int32} {a b : Nat} (h0 : ¬ x < nI a) (h1 : x ≤ nI b) (ha : a < 2 ^ 31) (hb : b < 2 ^ 31) : ∃ k : Nat, a ≤ k ∧ k ≤ b ∧ x = nI k := by
  have e1 : (nI a).toInt ≤ x.toInt := Int32.le_iff_toInt_le.mp (Int32.not_lt.mp h0)
  have e2 : x.toInt ≤ (nI b).toInt := Int32.le_iff_toInt_le.mp h1
  rw [nI_toInt hb] at e2
  rw [nI_toInt ha] at e1
  refine ⟨x.toInt.toNat, by omega, by omega, ?_⟩
  apply Int32.toInt_inj.mp
  rw [nI_toInt (by omega)]
  omega
theorem L_place {M : gM} {S : gm_S} (h : RL A M0 M S) (fu : Nat) : ∃ v, F_X4_place fu M = some (.returned (some (.int v)), n_p M 0 0) ∧ F_X1_place fu (some (A 0 0)) S = some (.returned (some (.int v)), S) ∧ RL A M0 (n_p M 0 0) S := by
  obtain ⟨c1, c2, b⟩ := h.b
  refine ⟨n_I M 6 0, ?_, ?_, h.m0 0⟩
  · unfold F_X4_place
    rw [show n_pIO M 0 0 = some (n_p M 0 0) from rfl, y_b, n_po (by decide)]
  · unfold F_X1_place
    rw [b.2.2.2.2.2.2.2.2.2.2.2.1, y_b]
theorem L_runs {M : gM} {S : gm_S} (h : RL A M0 M S) (fu : Nat) : ∃ v, g_okZ v = true ∧ F_X4_runs fu M = some (.returned (some (.int v)), n_p M 0 0) ∧ F_X1_runs fu (some (A 0 0)) S = some (.returned (some (.int v)), S) ∧ RL A M0 (n_p M 0 0) S := by
  obtain ⟨c1, c2, b⟩ := h.b
  have hz : g_okZ (n_I M 40 0) = true := by rcases b.2.1.2.2.1 with z | z <;> rw [z] <;> decide
  refine ⟨n_I M 40 0, hz, ?_, ?_, h.m0 0⟩
  · unfold F_X4_runs
    rw [show n_pIO M 0 0 = some (n_p M 0 0) from rfl, y_b, n_po (by decide), if_pos hz]
  · unfold F_X1_runs
    rw [b.2.2.2.2.2.2.2.2.2.1, y_b, b.2.1.2.1, y_b, if_pos hz]
theorem L_sent {M : gM} {S : gm_S} (h : RL A M0 M S) (fu : Nat) : ∃ v, F_X4_sent fu M = some (.returned (some (.int v)), n_p M 0 0) ∧ F_X1_sent fu (some (A 0 0)) S = some (.returned (some (.int v)), S) ∧ RL A M0 (n_p M 0 0) S := by
  obtain ⟨c1, c2, b⟩ := h.b
  obtain ⟨s1, s2, s3, s4, s5, s6⟩ := b.2.2.2.2.1
  refine ⟨n_I M 47 0, ?_, ?_, h.m0 0⟩
  · unfold F_X4_sent
    rw [show n_pIO M 0 0 = some (n_p M 0 0) from rfl, y_b, n_po (by decide)]
  · unfold F_X1_sent
    rw [b.2.2.2.2.2.2.2.2.2.1, y_b, s1, y_b, y_lsz s2, y_b, s5]
theorem L_trace {M : gM} {S : gm_S} (h : RL A M0 M S) (fu : Nat) (x : Int32) : ∃ v, F_X4_trace fu x M = some (.returned (some (.int v)), n_p M 0 0) ∧ F_X1_trace fu (some (A 0 0)) x S = some (.returned (some (.int v)), S) ∧ RL A M0 (n_p M 0 0) S := by
  obtain ⟨c1, c2, b⟩ := h.b
  obtain ⟨t1, t2, t3, q, t4, t5, t6, t7⟩ := b.2.2.2.2.2.1
  unfold F_X4_trace F_X1_trace
  rw [show n_pIO M 0 0 = some (n_p M 0 0) from rfl, y_b, n_po (by decide), t6]
  by_cases x0 : x < 0
  · rw [if_pos x0, if_pos x0]
    exact ⟨0, rfl, rfl, h.m0 0⟩
  · rw [if_neg x0, if_neg x0, b.2.2.2.2.2.2.2.2.2.1, y_b, t5, y_b]
    by_cases x1 : x < nI q
    · obtain ⟨k, hk, rfl⟩ := i_nat x0 x1 (by omega)
      have ea : g_aI S (some (A 5 0)) 0 (nI k) = some (n_I M 54 k) := by
        unfold g_aI
        rw [y_el (t := 0) t2 t3 (by omega) (by omega)]
        show some (gm_I (S.1 2 (A 5 0) k)) = _
        rw [t7 k hk]
      rw [if_pos x1, if_pos x1, y_aI (by omega) (by omega), y_b, n_po (by decide), y_b, t1, y_b, ea, y_b]
      exact ⟨_, rfl, rfl, h.m0 0⟩
    · rw [if_neg x1, if_neg x1]
      exact ⟨0, rfl, rfl, h.m0 0⟩
theorem L_variable {M : gM} {S : gm_S} (h : RL A M0 M S) (fu : Nat) (x : Int32) : ∃ v, F_X4_variable fu x M = some (.returned (some (.double v)), n_p M 0 0) ∧ F_X1_variable fu (some (A 0 0)) x S = some (.returned (some (.double v)), S) ∧ RL A M0 (n_p M 0 0) S ∧ d_ok v := by
  obtain ⟨c1, c2, b⟩ := h.b
  obtain ⟨v1, v2, v3, v4⟩ := b.2.2.1
  unfold F_X4_variable F_X1_variable
  rw [show n_pIO M 0 0 = some (n_p M 0 0) from rfl, y_b]
  by_cases x0 : x < 117
  · rw [if_pos x0, if_pos x0]
    exact ⟨_, rfl, rfl, h.m0 0, d_c0⟩
  · rw [if_neg x0, if_neg x0]
    by_cases x1 : x ≤ 122
    · obtain ⟨k, hk, hk2, rfl⟩ := i_nat2 (a := 117) (b := 122) x0 x1 (by omega) (by omega)
      have e : nI k - (117 : Int32) = nI (k - 117) := pk_sub (a := k) (b := 117) hk
      have ea : g_aD S (some (A 3 0)) 2 (nI (k - 117)) = some (n_D M 42 (k - 117)) := by
        unfold g_aD
        rw [y_el (t := 2) v2 v3 (by omega) (by omega)]
        show some (gm_D (S.1 2 (A 3 0) (k - 117))) = _
        rw [(v4 _ (by omega)).1]
      have e2 : n_D (n_p M 0 0) 42 (k - 117) = n_D M 42 (k - 117) := by
        unfold n_D
        rw [show n_p M 0 0 42 (k - 117) = M 42 (k - 117) from y_uk (by decide)]
      rw [if_pos x1, if_pos x1, e, y_aD (by omega) (by omega), y_b, e2, b.2.2.2.2.2.2.2.2.2.1, y_b, v1, y_b, ea, y_b]
      exact ⟨_, rfl, rfl, h.m0 0, (v4 _ (by omega)).2⟩
    · rw [if_neg x1, if_neg x1]
      exact ⟨_, rfl, rfl, h.m0 0, d_c0⟩
/-- the state of a letter -/
theorem L_state {M : gM} {S : gm_S} (h : RL A M0 M S) (fu : Nat) (x : Int32) : ∃ o : Option Nat, F_X4_stateOf fu x M = some (.returned (some (.int (match o with | none => -1 | some k => nI k))), M) ∧ F_X1_stateOf fu (some (A 0 0)) x S = some (.returned (some (va_rf (o.map (A 10)))), S) ∧ (∀ k, o = some k → k < A 9 0 ∧ ∃ C c1 c2, RC A M0 C M S c1 c2) := by
  obtain ⟨c1, c2, ⟨C, h⟩ | hN⟩ := h
  · have hn := h.n16
    have hw := h.w2
    have hch : g_gR S (some (A 0 0)) 1 1 = some (some (A 2 0)) := h.r.2.1
    have hl := h.H.1.1
    have hll := h.H.1.2.2
    obtain ⟨r1, r2, r3, r4, r5, r6, r7, -⟩ := h.r
    have rl := h.r.2.2.2.2.2.2.2.2.2.2.2.2.2.2.2.2.2.2 (A 9 5) hw h.lv
    unfold F_X4_stateOf F_X1_stateOf
    rw [h.lv, if_neg (nI_pos (by omega)), hch, y_b, h.a.1, y_b, y_lemp hl, y_b, hll, if_neg (show ¬ (List.range (A 9 0)).map (A 10) = [] by
      intro z
      have := congrArg List.length z
      rw [List.length_map, List.length_range] at this
      have : A 9 0 = 0 := this
      omega), if_pos rfl]
    by_cases x0 : x < 97
    · rw [if_pos x0, if_pos x0]
      exact ⟨none, rfl, rfl, fun k z => by cases z⟩
    · rw [if_neg x0, if_neg x0]
      by_cases x1 : x ≤ 112
      · have x1' : ¬ (112 : Int32) < x := Int32.not_lt.mpr x1
        obtain ⟨k, hk, hk2, rfl⟩ := i_nat2 (a := 97) (b := 112) x0 x1 (by omega) (by omega)
        have e : nI k - (97 : Int32) = nI (k - 97) := pk_sub (a := k) (b := 97) hk
        have e2 : (16 : Int32) * nI (A 9 5) + nI k - 97 = nI (16 * A 9 5 + (k - 97)) := by
          rw [y_m16, nI_add]
          have := pk_sub (a := 16 * A 9 5 + k) (b := 97) (by omega)
          rw [show 16 * A 9 5 + k - 97 = 16 * A 9 5 + (k - 97) by omega] at this
          exact this
        obtain ⟨l1, l2⟩ := rl (k - 97) (by omega)
        have ea : g_aI S (some (A 34 2)) 0 (nI (k - 97)) = some (n_I M 17 (16 * A 9 5 + (k - 97))) := by
          unfold g_aI
          rw [y_el (t := 0) r6 r7 (by omega) (by omega)]
          show some (gm_I (S.1 2 (A 34 2) (k - 97))) = _
          rw [l1]
        rw [if_pos x1, if_neg x1', e2, y_aI (by omega) (by omega), y_b, r3, y_b, e, ea, y_b]
        rcases l2 with l2 | ⟨s, hs, l2⟩
        · rw [l2, if_neg (by decide)]
          exact ⟨none, rfl, rfl, fun k z => by cases z⟩
        · rw [l2] at ea
          rw [l2, if_pos (nI_pos' (by omega))]
          simp only [y_b]
          rw [h.a.1]
          simp only [y_b]
          rw [ea]
          simp only [y_b]
          rw [h.get hs, y_b, y_q (h.st hs)]
          exact ⟨some s, rfl, rfl, fun k z => by cases z; exact ⟨hs, C, c1, c2, h⟩⟩
      · have x1' : (112 : Int32) < x := Int32.not_le.mp x1
        rw [if_neg x1, if_pos x1']
        exact ⟨none, rfl, rfl, fun k z => by cases z⟩
  · have hch : g_gR S (some (A 0 0)) 1 1 = some (some (A 2 0)) := hN.1.2.2.2.2.2.2.2.2.2.1
    have hst : g_gR S (some (A 2 0)) 3 0 = some (some (A 8 0)) := hN.1.2.1.1
    refine ⟨none, ?_, ?_, fun k z => by cases z⟩
    · unfold F_X4_stateOf
      rw [hN.2.2.2.1, if_pos (by decide)]
    · unfold F_X1_stateOf
      rw [hch, y_b, hst, y_b, y_lemp hN.2.1, y_b, hN.2.2.1, if_pos rfl, if_neg (by decide)]
      rfl
theorem RL.nt {M : gM} {S : gm_S} (h : RL A M0 M S) : gs_t S (A 0 0) = 1 := by
  obtain ⟨c1, c2, b⟩ := h.b
  obtain ⟨a, e, ht, -⟩ := y_gRt b.2.2.2.2.2.2.2.2.1
  cases e
  exact ht
theorem L_active {M : gM} {S : gm_S} (h : RL A M0 M S) (fu : Nat) (x : Int32) : ∃ v, g_okZ v = true ∧ F_X4_active fu x M = some (.returned (some (.int v)), n_p M 0 0) ∧ F_X1_active fu (some (A 0 0)) x S = some (.returned (some (.int v)), S) ∧ RL A M0 (n_p M 0 0) S := by
  have h0 := h.m0 0
  obtain ⟨o, z1, z2, z3⟩ := L_state h0 fu x
  unfold F_X4_active F_X1_active
  rw [show n_pIO M 0 0 = some (n_p M 0 0) from rfl, y_b, z1, y_cI, y_q h.nt, z2, gz_cR_rf]
  cases o with
  | none =>
    refine ⟨0, by decide, ?_, ?_, h0⟩
    · show (if (-1 : Int32) < 0 then _ else _) = _
      rw [if_pos (by decide), if_pos y_z0]
    · rw [if_pos (show Option.map (A 10) none = none from rfl), if_pos y_z0]
  | some k =>
    obtain ⟨hk, C, c1, c2, hC⟩ := z3 k rfl
    have hn := hC.n16
    have hch : g_gR S (some (A 0 0)) 1 1 = some (some (A 2 0)) := hC.r.2.1
    show ∃ v, _ ∧ (if nI k < 0 then _ else _) = _ ∧ (if (some (A 10 k) : Option Nat) = none then _ else _) = _ ∧ _
    rw [if_neg (nI_pos (by omega)), m_in fu (by omega), y_cI, if_neg y_sn, hch, y_b]
    show ∃ v, _ ∧ _ ∧ (Option.bind (g_gI S (some (A 10 k)) 5 0) _) = _ ∧ _
    rw [(hC.H.2.1 k hk).1, y_b, y_q hC.rt, s_isActive hC fu (by omega), y_cI]
    by_cases hb : bt (n_I (n_p M 0 0) 41 0) k = true
    · rw [if_pos hb, if_neg (by decide), if_pos y_z1]
      exact ⟨1, by decide, rfl, rfl, h0⟩
    · rw [if_neg hb, if_pos rfl, if_pos y_z0]
      exact ⟨0, by decide, rfl, rfl, h0⟩
theorem L_history {M : gM} {S : gm_S} (h : RL A M0 M S) (fu : Nat) (x y : Int32) : ∃ v, F_X4_history fu x y M = some (.returned (some (.int v)), n_p M 0 0) ∧ F_X1_history fu (some (A 0 0)) x y S = some (.returned (some (.int v)), S) ∧ RL A M0 (n_p M 0 0) S := by
  have h0 := h.m0 0
  obtain ⟨o, z1, z2, z3⟩ := L_state h0 fu x
  unfold F_X4_history F_X1_history
  rw [show n_pIO M 0 0 = some (n_p M 0 0) from rfl, y_b, z1, y_cI, y_q h.nt, z2, gz_cR_rf]
  cases o with
  | none =>
    refine ⟨0, ?_, ?_, h0⟩
    · show (if (0 : Int32) ≤ -1 then _ else _) = _
      rw [if_neg (by decide)]
    · rw [if_pos (show Option.map (A 10) none = none from rfl)]
  | some k =>
    obtain ⟨hk, C, c1, c2, hC⟩ := z3 k rfl
    have hn := hC.n16
    obtain ⟨e1, e2⟩ := hC.h k hk
    show ∃ v, (if 0 ≤ nI k then _ else _) = _ ∧ (if (some (A 10 k) : Option Nat) = none then _ else _) = _ ∧ _
    rw [if_pos (nI_pos' (by omega)), if_neg y_sn]
    by_cases hy : y = 0
    · rw [if_pos hy, if_pos hy, y_aI (by omega) (by omega), y_b]
      show ∃ v, _ ∧ (Option.bind (g_gI S (some (A 10 k)) 5 8) _) = _ ∧ _
      rw [e1, y_b]
      exact ⟨_, rfl, rfl, h0⟩
    · rw [if_neg hy, if_neg hy, y_aI (by omega) (by omega), y_b]
      show ∃ v, _ ∧ (Option.bind (g_gI S (some (A 10 k)) 5 9) _) = _ ∧ _
      rw [e2, y_b]
      exact ⟨_, rfl, rfl, h0⟩
/-- only the text changes -/
theorem RL.txt {M M' : gM} {S S' : gm_S} (h : RL A M0 M S) (g : ag (fun F a => (F = 104 ∧ a = A 0 0) ∨ (F = 201 ∧ a = A 1 0) ∨ (F = 2 ∧ a = A 34 0)) (fun _ => False) S S') (h2 : S'.2 = S.2) (h3 : ∀ b, g_cap S' b = g_cap S b) (h4 : g_inv M0 S') (hM : ∀ k i, ¬ (k = 0 ∨ k = 1 ∨ k = 2 ∨ k = 3) → M' k i = M k i) (hr : rR A M' S') : RL A M0 M' S' := by
  obtain ⟨c1, c2, b⟩ := h.b
  obtain ⟨b1, b2, b3, b4, b5, b6, b7, b8, b9⟩ := b
  obtain ⟨-, -, -, -, -, -, -, -, u9, -, -, -, -, d1, -⟩ := b9
  have n3 : A 3 0 ≠ A 34 0 := fun z => by have := b3.2.1; rw [z, u9] at this; exact absurd this (by decide)
  have n4 : A 4 0 ≠ A 34 0 := Ne.symm d1
  have n5 : A 5 0 ≠ A 34 0 := fun z => by have := b6.2.1; rw [z, u9] at this; exact absurd this (by decide)
  have pb : ∀ d1 d2, rDb A S d1 d2 → rDb A S' d1 d2 := fun d1 d2 z => z.same (by show S'.2.2.2.1 = _; rw [h2]) (by show S'.2.2.2.2 = _; rw [h2]) (by rw [h2]) h3
  obtain ⟨c1, c2, ⟨C, h⟩ | h⟩ := h
  · refine ⟨c1, c2, Or.inl ⟨C, h4, h.W, h.H.kp (ag_kp2 g (fun F a z => ?_) (fun _ z => z.elim)), Mc_ag h.mc (fun k i z => hM k i (by omega)), h.a.mono g (by simp) (fun k i z => hM k i (by omega)), h.v.mono g (by simp [n3]) (fun i => hM _ i (by omega)), h.q.mono g (by simp [n4]) (fun k i z => hM k i (by omega)), h.s.mono g (by simp) (by simp) (fun k i z => hM k i (by omega)), h.t.mono g (by simp [n5]) (fun k i z => hM k i (by omega)), h.c.mono g (by simp), h.h.mono g (by simp) (fun k i z => hM k i (by omega)), pb _ _ h.b, hr⟩⟩
    rcases z with z | z | z <;> rw [z.1] <;> decide
  · obtain ⟨⟨e1, e2, e3, e4, e5, e6, e7, e8, e9⟩, n1, n2, n3', n4'⟩ := h
    refine ⟨c1, c2, Or.inr ⟨⟨h4, e2.mono g (by simp) (fun k i z => hM k i (by omega)), e3.mono g (by simp [n3]) (fun i => hM _ i (by omega)), e4.mono g (by simp [n4]) (fun k i z => hM k i (by omega)), e5.mono g (by simp) (by simp) (fun k i z => hM k i (by omega)), e6.mono g (by simp [n5]) (fun k i z => hM k i (by omega)), e7.mono g (by simp), pb _ _ e8, hr⟩, (g.2.2 _ (by rw [n1]; decide)).trans n1, by rw [h2]; exact n2, by unfold n_I; rw [hM _ _ (by omega)]; exact n3', by unfold n_I; rw [hM _ _ (by omega)]; exact n4'⟩⟩
theorem L_type {M : gM} {S : gm_S} (h : RL A M0 M S) (fu : Nat) (x : Int32) : ∃ v M' S', g_okZ v = true ∧ F_X4_type fu x M = some (.returned (some (.int v)), M') ∧ F_X1_type fu (some (A 0 0)) x S = some (.returned (some (.int v)), S') ∧ RL A M0 M' S' := by
  have h0 := h.m0 0
  obtain ⟨c1, c2, b⟩ := h0.b
  obtain ⟨b1, b2, b3, b4, b5, b6, b7, b8, b9⟩ := b
  obtain ⟨r1, r2, r3, r4, r5, r6, r7, r8, r9, r10, r11, r12, r13, d1, d2, d3, d4, ⟨z, y, q1, q2, q3, q4, q5, q6⟩, r20⟩ := b9
  have hnt := h.nt
  have hrt : gs_t S (A 1 0) = 2 := by obtain ⟨a, e, ht, -⟩ := y_gRt r8; cases e; exact ht
  have hn0 : gs_t S (A 0 0) ≠ 0 := by rw [hnt]; decide
  have hr0 : gs_t S (A 1 0) ≠ 0 := by rw [hrt]; decide
  have ha0 : gs_t S (A 34 0) ≠ 0 := by rw [r9]; decide
  have no : ∃ v M' S', g_okZ v = true ∧ (if g_okZ (0 : Int32) = true then some (Outcome.returned (some (.int (0 : Int32))), n_p M 0 0) else none) = some (.returned (some (.int v)), M') ∧ (if g_okZ (0 : Int32) = true then some (Outcome.returned (some (.int (0 : Int32))), S) else none) = some (.returned (some (.int v)), S') ∧ RL A M0 M' S' := ⟨0, n_p M 0 0, S, by decide, if_pos y_z0, if_pos y_z0, h0⟩
  unfold F_X4_type F_X1_type
  rw [show n_pIO M 0 0 = some (n_p M 0 0) from rfl, y_b]
  by_cases x0 : x < 32
  · rw [if_pos x0, if_pos x0]; exact no
  · rw [if_neg x0, if_neg x0]
    by_cases x1 : 126 < x
    · rw [if_pos x1, if_pos x1]; exact no
    · rw [if_neg x1, if_neg x1, r5, y_b]
      obtain ⟨e, he, he2, rfl⟩ := i_nat2 (a := 32) (b := 126) x0 (Int32.not_lt.mp x1) (by omega) (by omega)
      by_cases hy : y = 160
      · rw [q5, hy, if_pos (show nI 160 = (160 : Int32) from rfl), if_pos (show nI 160 = (160 : Int32) from rfl)]; exact no
      · have ey : ¬ nI y = (160 : Int32) := fun w => hy ((nI_eq (a := y) (b := 160) (by omega) (by omega)).mp w)
        rw [q5, if_neg ey, if_neg ey, y_b, nI_1, y_pI hnt, y_b, show n_pIO (n_p M 0 0) 1 (nI (y + 1)) = some (n_p (n_p M 0 0) 1 (nI (y + 1))) from rfl, y_b]
        obtain ⟨M4, hM4⟩ : ∃ M4, M4 = n_p (n_p M 0 0) 1 (nI (y + 1)) := ⟨_, rfl⟩
        obtain ⟨S3, hS3⟩ : ∃ S3, S3 = gs_put S 104 (A 0 0) 0 (.int (nI (y + 1))) := ⟨_, rfl⟩
        have g3 : ag (fun F a => F = 104 ∧ a = A 0 0) (fun _ => False) S S3 := by rw [hS3]; exact ag.put (by decide)
        have i3 : g_inv M0 S3 := by rw [hS3]; exact b1.put (by decide) hn0
        have c3 : ∀ b, g_cap S3 b = g_cap S b := fun b => by rw [hS3]; exact y_cap (by decide)
        have s3 : S3.2 = S.2 := by rw [hS3]; rfl
        have m4 : ∀ k i, k ≠ 1 → M4 k i = n_p M 0 0 k i := fun k i w => by rw [hM4]; exact y_uk w
        have m41 : n_I M4 1 0 = nI (y + 1) := by rw [hM4]; exact n_ps
        have v3 : g_gI S3 (some (A 0 0)) 1 4 = some (nI (y + 1)) := by rw [hS3, y_gI ((y_pt (by decide)).trans hnt), y_pE]; rfl
        rw [← hM4, ← hS3]
        by_cases h32 : nI e = (32 : Int32)
        · rw [if_pos h32, if_pos h32]
          refine ⟨1, M4, S3, by decide, if_pos y_z1, if_pos y_z1, h.txt (g3.wk (fun F a w => Or.inl w) (fun _ w => w)) s3 c3 i3 (fun k i w => (m4 k i (by omega)).trans (y_uk (by omega))) ?_⟩
          have rr := fun k i (w : k ≠ 1) => show n_I M4 k i = n_I (n_p M 0 0) k i by unfold n_I; rw [m4 k i w]
          refine ⟨g3.gR r1 (by decide) (by simp), g3.gR r2 (by decide) (by simp), g3.gR r3 (by decide) (by simp), ?_, by rw [m41]; exact v3, (g3.2.2 _ (by rw [r6]; decide)).trans r6, by rw [g3.1 _ _ _ (by rw [r6]; decide) (by simp)]; exact r7, g3.gR r8 (by decide) (by simp), (g3.2.2 _ ha0).trans r9, by rw [g3.1 _ _ _ ha0 (by simp)]; exact r10, g3.gR r11 (by decide) (by simp), (g3.2.2 _ (by rw [r12]; decide)).trans r12, by rw [g3.1 _ _ _ (by rw [r12]; decide) (by simp)]; exact r13, d1, d2, d3, d4, ⟨z, y + 1, by omega, by omega, g3.gI q3 (by decide) (by simp), (rr _ _ (by decide)).trans q4, m41, fun j hj => ?_⟩, fun w hw hl j hj => ?_⟩
          · rw [rr _ _ (by decide)]; exact g3.gI r4 (by decide) (by simp)
          · rw [g3.1 _ _ _ ha0 (by simp), rr _ _ (by decide)]; exact q6 j hj
          · rw [g3.1 _ _ _ (by rw [r6]; decide) (by simp), rr _ _ (by decide)]
            exact r20 w hw ((rr _ _ (by decide)).symm.trans hl) j hj
        · have hz : z < 160 := by omega
          have r1' : g_gR S3 (some (A 0 0)) 1 0 = some (some (A 1 0)) := g3.gR r1 (by decide) (by simp)
          have r8' : g_gR S3 (some (A 1 0)) 2 0 = some (some (A 34 0)) := g3.gR r8 (by decide) (by simp)
          have q3' : g_gI S3 (some (A 1 0)) 2 1 = some (nI z) := g3.gI q3 (by decide) (by simp)
          have hrt3 : gs_t S3 (A 1 0) = 2 := (g3.2.2 _ hr0).trans hrt
          have g8 := ag.put (S := S3) (F := 201) (a := A 1 0) (i := 0) (v := .int (nI (z + 1))) (by decide)
          have t9 : gs_t (gs_put S3 201 (A 1 0) 0 (.int (nI (z + 1)))) (A 34 0) = 101 := (y_pt (by decide)).trans ((g3.2.2 _ ha0).trans r9)
          have l9 : gm_N ((gs_put S3 201 (A 1 0) 0 (.int (nI (z + 1)))).1 1 (A 34 0) 0) = 160 := by rw [y_pM (by simp), g3.1 _ _ _ ha0 (by simp)]; exact r10
          have q42 : n_I M4 2 0 = nI z := by unfold n_I; rw [m4 _ _ (by decide)]; exact q4
          rw [if_neg h32, if_neg h32, r1', y_b, r8', y_b, y_b, q3', y_b, nI_1, y_pI hrt3, y_b, q42]
          unfold n_sC g_sC
          rw [if_pos (y_okC (by omega)), if_pos (y_okC (by omega)), y_as (t := 1) t9 l9 hz (by omega), y_b, y_sI hz (by omega), y_b]
          have q43 : n_I (n_up M4 3 z (.int (nI e))) 2 0 = nI z := by unfold n_I; rw [y_uk (by decide)]; exact q42
          rw [q43, nI_1, show n_pIO (n_up M4 3 z (.int (nI e))) 2 (nI (z + 1)) = some (n_p (n_up M4 3 z (.int (nI e))) 2 (nI (z + 1))) from rfl, y_b]
          obtain ⟨M9, hM9⟩ : ∃ M9, M9 = n_p (n_up M4 3 z (.int (nI e))) 2 (nI (z + 1)) := ⟨_, rfl⟩
          obtain ⟨S9, hS9⟩ : ∃ S9, S9 = gs_put (gs_put S3 201 (A 1 0) 0 (.int (nI (z + 1)))) 2 (A 34 0) z (.int (nI e)) := ⟨_, rfl⟩
          rw [← hM9, ← hS9]
          have g9 : ag (fun F a => (F = 104 ∧ a = A 0 0) ∨ (F = 201 ∧ a = A 1 0) ∨ (F = 2 ∧ a = A 34 0)) (fun _ => False) S S9 := by
            rw [hS9]
            exact ((g3.trans g8).trans (ag.put (by decide))).wk (fun F a w => by rcases w with (w | w) | w; exact Or.inl w; exact Or.inr (Or.inl w); exact Or.inr (Or.inr w)) (fun a w => by rcases w with (w | w) | w <;> exact w)
          have m9 : ∀ k i, ¬ (k = 1 ∨ k = 2 ∨ k = 3) → M9 k i = n_p M 0 0 k i := fun k i w => by rw [hM9]; exact (y_uk (by omega)).trans ((y_uk (by omega)).trans (m4 k i (by omega)))
          have rr := fun k i (w : ¬ (k = 1 ∨ k = 2 ∨ k = 3)) => show n_I M9 k i = n_I (n_p M 0 0) k i by unfold n_I; rw [m9 k i w]
          have m91 : n_I M9 1 0 = nI (y + 1) := by rw [hM9, n_po (by decide)]; unfold n_I; rw [y_uk (by decide)]; exact m41
          refine ⟨1, M9, S9, by decide, if_pos y_z1, if_pos y_z1, h.txt g9 (by rw [hS9]; exact s3) (fun b => by rw [hS9, y_cap (by decide), y_cap (by decide)]; exact c3 b) ?_ (fun k i w => (m9 k i (by omega)).trans (y_uk (by omega))) ?_⟩
          · rw [hS9]
            exact (i3.put (by decide) (by rw [hrt3]; decide)).put (by decide) (by rw [t9]; decide)
          · refine ⟨g9.gR r1 (by decide) (by simp), g9.gR r2 (by decide) (by simp), g9.gR r3 (by decide) (by simp), ?_, ?_, (g9.2.2 _ (by rw [r6]; decide)).trans r6, by rw [g9.1 _ _ _ (by rw [r6]; decide) (by simp)]; exact r7, g9.gR r8 (by decide) (by simp), (g9.2.2 _ ha0).trans r9, by rw [g9.1 _ _ _ ha0 (by simp)]; exact r10, g9.gR r11 (by decide) (by simp), (g9.2.2 _ (by rw [r12]; decide)).trans r12, by rw [g9.1 _ _ _ (by rw [r12]; decide) (by simp)]; exact r13, d1, d2, d3, d4, ⟨z + 1, y + 1, by omega, by omega, ?_, by rw [hM9]; exact n_ps, m91, fun j hj => ?_⟩, fun w hw hl j hj => ?_⟩
            · rw [rr _ _ (by decide)]; exact g9.gI r4 (by decide) (by simp)
            · rw [m91, hS9]
              exact (ag.put (by decide)).gI ((ag.put (by decide)).gI v3 (by decide) (by simp)) (by decide) (by simp)
            · rw [hS9, y_gI ((y_pt (by decide)).trans ((y_pt (by decide)).trans hrt3)), y_pM (by simp), y_pE]; rfl
            · have e3 : n_I M9 3 j = gm_I (n_up M4 3 z (.int (nI e)) 3 j) := by rw [hM9, n_po (by decide)]
              rw [e3]
              by_cases ej : j = z
              · subst ej
                rw [y_us, hS9, y_pE]
                exact ⟨e, he2, by
                  have : e ≠ 32 := fun w => h32 (by rw [w]; rfl)
                  omega, rfl, rfl⟩
              · rw [y_ui ej, m4 _ _ (by decide), hS9, y_pM (by simp [ej]), y_pM (by simp), g3.1 _ _ _ ha0 (by simp)]
                exact q6 j (by omega)
            · have a2 : A 34 2 ≠ A 34 0 := fun w => by rw [w, r9] at r6; exact absurd r6 (by decide)
              rw [g9.1 _ _ _ (by rw [r6]; decide) (by simp [a2]), rr _ _ (by decide)]
              exact r20 w hw ((rr _ _ (by decide)).symm.trans hl) j hj
end RCV
