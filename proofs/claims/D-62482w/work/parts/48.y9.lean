/-! LAYER 2: an event is sent; one action -/
set_option maxRecDepth 100000
section RCC
variable {A : gA} {M0 C M : gM} {S : gm_S} {c1 c2 : Nat}
theorem y_na {a t : Nat} (h : gs_t S a ≠ t) : g_at S (some a) t = none := by
  show (if gs_t S a = t then some a else none) = none
  rw [if_neg h]
theorem s_send (h : RC A M0 C M S c1 c2) (hr : n_I M 40 0 = 1) (fu : Nat) {e i q : Nat} (he : 65 ≤ e ∧ e ≤ 72) (hi : i < 96) (hq : 0 < q ∧ q ≤ 9) (h35 : n_I M 35 i = nI q) : ∃ M' S', F_X4_doAction_51 fu (nI i) (nI e) M = some (.returned none, M') ∧ F_X3_send fu (some (A 2 0)) (nI e) (nI q) S = some (.returned none, S') ∧ RC A M0 C M' S' c1 c2 ∧ fX S S' M M' c1 := by
  obtain ⟨s1, s2, s3, s4, s5, s6⟩ := h.s
  obtain ⟨a1, a2, a3, a4, a5, ck, a6, a7⟩ := h.a
  have hck := a7 hr
  obtain ⟨b1, b2, b3, b4, b5, b6, b7⟩ := h.b
  obtain ⟨k1, k2, k3, k4, k5, k6, k7, k8, k9⟩ := h.c
  have ht := h.rt
  have ha : gs_t S (A 2 0) ≠ 0 := by rw [ht]; decide
  have hs : gs_t S (A 6 0) ≠ 0 := by rw [s2]; decide
  have hn := h.inv.2.2.2
  unfold F_X4_doAction_51
  rw [y_aI hi (by omega), y_b, h35, if_neg (nI_nle hq.1 (by omega)), s5]
  obtain ⟨len, hlen⟩ : ∃ len, len = (S.2.1 (A 6 0)).length := ⟨_, rfl⟩
  rw [← hlen] at s4 ⊢
  unfold p_c at b1
  unfold p_k at b2
  rw [← hlen] at b1 b2
  by_cases hl : len = 8
  · refine ⟨M, S, ?_, ?_, h, fX.rfl⟩
    · rw [hl, if_pos (by decide)]
    · unfold F_X3_send
      rw [s1, y_b, y_lsz s2, y_b, ← hlen, hl, if_pos (by decide)]
  · have hlt : len < 8 := by omega
    have e2 : ¬ (8 : Int32) ≤ nI len := nI_ge (a := len) (b := 8) hlt (by omega)
    have hx : ∀ b, gs_t S b ≠ 0 → b ≠ gs_n S := fun b hb => by have := hn b hb; omega
    obtain ⟨S3, hS3⟩ : ∃ S3, S3 = gs_put (gs_put (g_mk S 15 2) 1500 (gs_n S) 0 (.int (nI e))) 1501 (gs_n S) 0 (.int (ck + nI q)) := ⟨_, rfl⟩
    have g3 : ag (fun F a => (F = 1500 ∧ a = gs_n S) ∨ (F = 1501 ∧ a = gs_n S)) (fun a => False ∨ False) (g_mk S 15 2) S3 := by
      rw [hS3]
      exact (ag.put (by decide)).trans (ag.put (by decide))
    have t3 : ∀ b, gs_t S3 b = gs_t (g_mk S 15 2) b := fun b => by rw [hS3, y_pt (by decide), y_pt (by decide)]
    have t3o : ∀ b, gs_t S b ≠ 0 → gs_t S3 b = gs_t S b := fun b hb => by rw [t3, y_mkt (hx b hb)]
    have t3x : gs_t S3 (gs_n S) = 15 := by rw [t3, y_mkn]
    have c3 : ∀ b, gs_t S b ≠ 0 → g_cap S3 b = g_cap S b := fun b hb => by
      unfold g_cap
      rw [hS3, y_pM (by simp), y_pM (by simp), y_mkM (hx b hb)]
    have l3 : S3.2.1 = S.2.1 := by rw [hS3]; rfl
    have gc3 : gs_c S3 = gs_c S + 1 := by rw [hS3]; rfl
    have gk3 : gs_k S3 = gs_k S + 2 := by rw [hS3]; rfl
    have i3 : g_inv M0 S3 := by
      rw [hS3]
      refine (h.inv.mk.put (by decide) ?_).put (by decide) ?_
      · rw [y_mkn]; decide
      · rw [y_pt (by decide), y_mkn]; decide
    obtain ⟨S', f1, f2, f3, f4, f5, f6, f7, f8, f9, f10, f11⟩ := s_ladd (M0 := M0) (S := S3) (a := A 6 0) (x := gs_n S) i3 ((t3o _ hs).trans s2) (by rw [t3x]; decide) (by rw [l3, ← hlen]; omega) (by rw [c3 _ hs]; exact b5) (by rw [gc3, c3 _ hs]; omega) (by rw [gk3, c3 _ hs]; omega)
    have g : ag (fun F b => (F = 3 ∨ F = 4) ∧ b = A 6 0) (fun b => b = A 6 0) S S' := by
      refine (ag.mkt hn (g3.trans f2)).wk (fun F a z => ?_) (fun a z => ?_)
      · obtain ⟨z1, z2⟩ := z
        rcases z1 with (z1 | z1) | z1
        · exact absurd z1.2 z2
        · exact absurd z1.2 z2
        · exact z1
      · obtain ⟨z1, z2⟩ := z
        rcases z1 with (z1 | z1) | z1
        · exact z1.elim
        · exact z1.elim
        · exact z1
    have hck3 : g_gI (g_mk S 15 2) (some (A 2 0)) 3 8 = some ck := (ag.mk hn).gI a6 (by decide) (by simp)
    refine ⟨n_p (n_up (n_up M 48 len (.int (nI e))) 49 len (.int (n_I M 50 0 + nI q))) 47 (nI (len + 1)), S', ?_, ?_, ?_⟩
    · rw [if_neg e2, y_sI hlt (by omega), y_b, y_aI hi (by omega), y_b]
      show Option.bind (n_sI (n_up M 48 len (.int (nI e))) 49 8 (gm_I (n_up M 48 len (.int (nI e)) 47 0)) (gm_I (n_up M 48 len (.int (nI e)) 50 0) + gm_I (n_up M 48 len (.int (nI e)) 35 i))) _ = _
      rw [y_uk (by decide), y_uk (by decide), y_uk (by decide), show gm_I (M 47 0) = nI len from s5.trans (by rw [hlen]), show gm_I (M 35 i) = nI q from h35, y_sI hlt (by omega), y_b]
      show some (Outcome.returned none, n_p (n_up (n_up M 48 len (.int (nI e))) 49 len (.int (n_I M 50 0 + nI q))) 47 (gm_I (n_up (n_up M 48 len (.int (nI e))) 49 len (.int (n_I M 50 0 + nI q)) 47 0) + 1)) = _
      rw [y_uk (by decide), y_uk (by decide), show gm_I (M 47 0) = nI len from s5.trans (by rw [hlen]), nI_1]
    · unfold F_X3_send
      rw [s1, y_b, y_lsz s2, y_b, ← hlen, if_neg e2, y_b, y_new (by omega) (by omega), y_b]
      show Option.bind (g_gI (g_mk S 15 2) (some (A 2 0)) 3 8) _ = _
      rw [hck3, y_b, y_q y_mkn]
      unfold F_X15_init
      rw [y_q y_mkn, y_pC y_mkn (y_okC (by omega)), y_b, y_pI ((y_pt (by decide)).trans y_mkn), y_b, y_cV, ← hS3, f1, y_b]
    · have hu : ∀ k i, k ≠ 47 → k ≠ 48 → k ≠ 49 → n_p (n_up (n_up M 48 len (.int (nI e))) 49 len (.int (n_I M 50 0 + nI q))) 47 (nI (len + 1)) k i = M k i := fun k i h1 h2 h3 => (y_uk h1).trans ((y_uk h3).trans (y_uk h2))
      refine ⟨h.upd g f4 (fun F a z => ?_) (fun a z => by rw [z]; exact s3) (Mc_up (Mc_up (Mc_up h.mc (by omega)) (by omega)) (by omega)) (fun k i hk => hu k i (by omega) (by omega) (by omega))
        (h.a.mono g (by simp) (fun k i hk => hu k i (by omega) (by omega) (by omega))) (h.v.mono g (by simp) (fun i => hu _ i (by omega) (by omega) (by omega))) (h.q.mono g (by simp) (fun k i hk => hu k i (by omega) (by omega) (by omega)))
        ?_ (h.t.mono g (by simp) (fun k i hk => hu k i (by omega) (by omega) (by omega))) (h.c.mono g (by simp)) (h.h.mono g (by simp) (fun k i hk => hu k i (by omega) (by omega) (by omega))) ?_, ⟨g.2.1 c1 (by rw [k3]; decide) k8, fun F a i ha h1 h2 => g.1 F a i ha (fun z => by omega), g.2.2, fun k i hk => hu k i (by omega) (by omega) (by omega), ?_⟩⟩
      · rcases z.1 with z | z <;> rw [z] <;> exact ⟨by decide, fun w => absurd w (by decide)⟩
      · refine ⟨g.gR s1 (by decide) (by simp), (g.2.2 _ hs).trans s2, s3, ?_, ?_, fun j y hy => ?_⟩
        · rw [f3, l3, List.length_append, ← hlen]; show len + 1 ≤ 8; omega
        · show gm_I (n_up _ 47 0 (.int (nI (len + 1))) 47 0) = _
          rw [y_us, f3, l3, List.length_append, ← hlen]; rfl
        · rw [f3, l3] at hy
          have m48 : n_I (n_p (n_up (n_up M 48 len (.int (nI e))) 49 len (.int (n_I M 50 0 + nI q))) 47 (nI (len + 1))) 48 j = gm_I (n_up M 48 len (.int (nI e)) 48 j) := by
            show gm_I (n_up (n_up (n_up M 48 len (.int (nI e))) 49 len (.int (n_I M 50 0 + nI q))) 47 0 (.int (nI (len + 1))) 48 j) = _
            rw [y_uk (by decide), y_uk (by decide)]
          have m49 : n_I (n_p (n_up (n_up M 48 len (.int (nI e))) 49 len (.int (n_I M 50 0 + nI q))) 47 (nI (len + 1))) 49 j = gm_I (n_up (n_up M 48 len (.int (nI e))) 49 len (.int (n_I M 50 0 + nI q)) 49 j) := by
            show gm_I (n_up (n_up (n_up M 48 len (.int (nI e))) 49 len (.int (n_I M 50 0 + nI q))) 47 0 (.int (nI (len + 1))) 49 j) = _
            rw [y_uk (by decide)]
          rw [m48, m49]
          by_cases ej : j = len
          · subst ej
            rw [List.getElem?_append_right (by omega), ← hlen, Nat.sub_self] at hy
            cases hy
            have gx : ∀ F i, 1500 ≤ F → S'.1 F (gs_n S) i = S3.1 F (gs_n S) i := fun F i hF => f2.1 F _ i (by rw [t3x]; decide) (by omega)
            have tx : gs_t S' (gs_n S) = 15 := (f2.2.2 _ (by rw [t3x]; decide)).trans t3x
            rw [y_us, y_us]
            refine ⟨e, he.1, he.2, ?_, rfl, ?_⟩
            · rw [y_gI tx, gx _ _ (by omega), hS3, y_pM (by simp), y_pE]; rfl
            · rw [y_gI tx, gx _ _ (by omega), hS3, y_pE, hck]
          · have hj : j < len := by
              have := (List.getElem?_eq_some_iff.mp hy).1
              rw [List.length_append, ← hlen] at this
              have : j < len + 1 := this
              omega
            rw [List.getElem?_append_left (by omega)] at hy
            obtain ⟨e', r1, r2, r3, r4, r5⟩ := s6 j y hy
            rw [y_ui ej, y_ui ej, y_uk (by decide)]
            exact ⟨e', r1, r2, g.gI r3 (by decide) (by simp), r4, g.gI r5 (by decide) (by simp)⟩
      · unfold rDb p_c p_k
        rw [f3, l3, List.length_append, ← hlen, f9 c1 (by rw [t3o _ (by rw [k3]; decide), k3]; decide) k8, f9 c2 (by rw [t3o _ (by rw [k4]; decide), k4]; decide) k9, c3 c1 (by rw [k3]; decide), c3 c2 (by rw [k4]; decide)]
        rw [c3 _ hs] at f5 f6
        have e1 : ([gs_n S] : List Nat).length = 1 := rfl
        rw [e1]
        refine ⟨by omega, by omega, b3, b4, f10, b6, b7⟩
      · show n_I M 47 0 ≤ gm_I (n_up _ 47 0 (.int (nI (len + 1))) 47 0)
        rw [y_us, show n_I M 47 0 = nI len from s5.trans (by rw [hlen])]
        exact (nI_leI (by omega) (by omega)).mpr (by omega)
/-- one action, on both sides -/
theorem s_act1 (h : RC A M0 C M S c1 c2) (hr : n_I M 40 0 = 1) (fu : Nat) {a : Nat} (ha : a < A 9 3) : ∃ M' S', F_X4_doAction fu (nI (48 * A 9 5 + a)) M = some (.returned none, M') ∧ F_act fu (some (A 14 a)) (some (A 2 0)) S = some (.returned none, S') ∧ RC A M0 C M' S' c1 c2 ∧ fX S S' M M' c1 := by
  by_cases hk : n_I C 34 (48 * A 9 5 + a) ≤ 72
  · obtain ⟨w1, -, w2⟩ := h.W.2.2.2.2.2.2 a ha
    rcases w2 with ⟨e, q, e1, e2, e3, e4, e5⟩ | ⟨m, g, hm, e1, -⟩
    · obtain ⟨a1, a2⟩ := (h.H.2.2.2.2.2.1 a ha).1 hk
      rw [e4] at a1
      rw [e5] at a2
      obtain ⟨ta, te, tt, -⟩ := y_gIt a1
      cases te
      have hw := h.w2
      have hna := h.na
      have hix : 48 * A 9 5 + a < 96 := by omega
      have r34 : n_I M 34 (48 * A 9 5 + a) = nI e := (h.rd (by omega)).trans e4
      have r35 : n_I M 35 (48 * A 9 5 + a) = nI q := (h.rd (by omega)).trans e5
      have hF : F_act fu (some (A 14 a)) (some (A 2 0)) S = F_X7_act fu (some (A 14 a)) (some (A 2 0)) S := by
        unfold F_act
        rw [if_pos (by rw [y_at tt]; rfl)]
      rw [hF]
      unfold F_X4_doAction F_X7_act
      rw [y_aI hix (by omega), y_b, r34, if_neg (by exact nI_nlt (a := 72) (by omega) (by omega)), y_aI hix (by omega), y_b, r35, a2, y_b]
      by_cases hq : q = 0
      · subst hq
        obtain ⟨M', S', m1, m2, m3, m4, m5⟩ := s_raise h fu (e := e) ⟨e1, e2⟩
        refine ⟨M', S', ?_, ?_, m3, m4⟩
        · rw [if_pos (by decide)]
          have fin : F_X4_doAction_51 fu (nI (48 * A 9 5 + a)) (nI e) M' = some (.returned none, M') := by
            unfold F_X4_doAction_51
            rw [y_aI hix (by omega), y_b, (m3.rd (by omega)).trans e5, if_pos (by decide)]
          by_cases hc : (10 : Int32) ≤ n_I M 45 0
          · rw [if_pos hc] at m1 ⊢
            subst m1
            exact fin
          · rw [if_neg hc] at m1 ⊢
            obtain ⟨M1, g1, g2⟩ := g_bind m1
            rw [g1, y_b, g2, y_b]
            exact fin
        · rw [if_pos (by decide), a1, y_b, y_q h.rt, m2, y_cV]
      · obtain ⟨M', S', m1, m2, m3, m4⟩ := s_send h hr fu (e := e) (i := 48 * A 9 5 + a) (q := q) ⟨e1, e2⟩ hix ⟨by omega, e3⟩ r35
        refine ⟨M', S', ?_, ?_, m3, m4⟩
        · rw [if_neg (nI_ne0 (by omega) (by omega))]
          exact m1
        · rw [if_neg (nI_ne0 (by omega) (by omega)), a1, y_b, y_b, y_q h.rt, m2, y_cV]
    · exact absurd ((nI_leI (a := 117 + m) (b := 72) (by omega) (by omega)).mp (by rw [e1] at hk; exact hk)) (by omega)
  · obtain ⟨M', S', m1, m2, m3, m4⟩ := s_assign h fu ha hk
    refine ⟨M', S', m1, ?_, m3, m4⟩
    obtain ⟨a1, -⟩ := (h.H.2.2.2.2.2.1 a ha).2 hk
    obtain ⟨ta, te, tt, -⟩ := y_gIt a1
    cases te
    unfold F_act
    rw [if_neg (by rw [y_na (by rw [tt]; decide)]; decide), if_pos (by rw [y_at tt]; rfl)]
    exact m2
end RCC
