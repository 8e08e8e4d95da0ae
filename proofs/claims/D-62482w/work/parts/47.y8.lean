/-! LAYER 2: raised and sent events -/
set_option maxRecDepth 100000
section RCB
variable {A : gA} {M0 C M : gM} {S : gm_S} {c1 c2 : Nat}
theorem y_rem {a : Nat} (ha : a < 2 ^ 31) : nI a - nI a / (10 : Int32) * (10 : Int32) = nI (a % 10) := pk_rem (d := 10) ha (by omega) (by omega)
theorem s_raise (h : RC A M0 C M S c1 c2) (fu : Nat) {e : Nat} (he : 65 ≤ e ∧ e ≤ 72) : ∃ M' S', (if (10 : Int32) ≤ (n_I M 45 0) then M' = M else (Option.bind (n_sI M 46 10 (n_I M 45 0) (nI e)) fun M18 => n_pIO M18 45 ((n_I M18 45 0) + (1 : Int32))) = some M') ∧ F_X3_raise fu (some (A 2 0)) (nI e) S = some (.returned none, S') ∧ RC A M0 C M' S' c1 c2 ∧ fX S S' M M' c1 ∧ (∀ i, M' 47 i = M 47 i) := by
  obtain ⟨q1, q2, q3, f, q, q4, q5, q6, q7, q8, q9⟩ := h.q
  have ht := h.rt
  have ha : gs_t S (A 2 0) ≠ 0 := by rw [ht]; decide
  have hb : gs_t S (A 4 0) ≠ 0 := by rw [q2]; decide
  by_cases hq : q = 10
  · refine ⟨M, S, ?_, ?_, h, fX.rfl, fun _ => rfl⟩
    · rw [q8, hq, if_pos (by decide)]
    · unfold F_X3_raise
      rw [q7, hq, y_b, if_pos (by decide)]
  · have hlt : q < 10 := by omega
    have e1 : ¬ nI q = (10 : Int32) := fun z => hq ((nI_eq (a := q) (b := 10) (by omega) (by omega)).mp z)
    have e2 : ¬ (10 : Int32) ≤ nI q := nI_ge (a := q) (b := 10) hlt (by omega)
    have hm : (f + q) % 10 < 10 := Nat.mod_lt _ (by omega)
    refine ⟨n_p (n_up M 46 q (.int (nI e))) 45 (nI (q + 1)), gs_put (gs_put S 2 (A 4 0) ((f + q) % 10) (.int (nI e))) 306 (A 2 0) 0 (.int (nI (q + 1))), ?_, ?_, ?_⟩
    · rw [q8, if_neg e2, y_sI hlt (by omega), y_b]
      show some (n_p (n_up M 46 q (.int (nI e))) 45 (gm_I (n_up M 46 q (.int (nI e)) 45 0) + 1)) = _
      rw [y_uk (by decide), show gm_I (M 45 0) = nI q from q8, nI_1]
    · unfold F_X3_raise
      rw [q7, y_b, if_neg e1, q1, y_b, q6, y_b, y_b, nI_add, y_rem (by omega)]
      unfold g_sC
      rw [if_pos (y_okC (by omega)), y_as (t := 1) q2 q3 hm (by omega), y_b]
      rw [show g_gI (gs_put S 2 (A 4 0) ((f + q) % 10) (.int (nI e))) (some (A 2 0)) 3 6 = some (nI q) from (ag.put (by decide)).gI q7 (by decide) (by simp), y_b, y_pI ((y_pt (by decide)).trans ht), y_b, nI_1]
    · have g := (ag.put (S := S) (F := 2) (a := A 4 0) (i := (f + q) % 10) (v := .int (nI e)) (by decide)).trans (ag.put (F := 306) (a := A 2 0) (i := 0) (v := .int (nI (q + 1))) (by decide))
      have hu : ∀ k i, k ≠ 45 → k ≠ 46 → n_p (n_up M 46 q (.int (nI e))) 45 (nI (q + 1)) k i = M k i := fun k i h1 h2 => (y_uk h1).trans (y_uk h2)
      refine ⟨h.upd g ((h.inv.put (by decide) hb).put (by decide) (by rw [y_pt (by decide)]; exact ha)) (fun F a z => ?_) (fun a z => by rcases z with z | z <;> exact z.elim) (Mc_up (Mc_up h.mc (by omega)) (by omega)) (fun k i hk => hu k i (by omega) (by omega))
        (h.a.mono g (by simp) (fun k i hk => hu k i (by omega) (by omega))) (h.v.mono g (by simp [h.d34]) (fun i => hu _ i (by omega) (by omega))) ?_
        (h.s.mono g (by simp) (by simp) (fun k i hk => hu k i (by omega) (by omega))) (h.t.mono g (by simp [Ne.symm h.d45]) (fun k i hk => hu k i (by omega) (by omega))) (h.c.mono g (by simp)) (h.h.mono g (by simp) (fun k i hk => hu k i (by omega) (by omega))) (h.b.same rfl rfl rfl (fun b => by rw [y_cap (by decide), y_cap (by decide)])), fX.of g (by rw [h.c.2.2.1]; decide) (by simp) (fun F a z => ?_) (fun k i hk => hu k i (by omega) (by omega)), fun i => hu _ i (by omega) (by omega)⟩
      · rcases z with z | z
        · rw [z.1, z.2]; exact ⟨by decide, fun _ => h.t4⟩
        · rw [z.1]; exact ⟨by decide, fun w => absurd w (by decide)⟩
      · refine ⟨g.gR q1 (by decide) (by simp), (g.2.2 _ hb).trans q2, by rw [g.1 _ _ _ hb (by simp)]; exact q3, f, q + 1, q4, by omega, g.gI q6 (by decide) (by simp), ?_, ?_, fun j hj => ?_⟩
        · rw [y_gI ((g.2.2 _ ha).trans ht), y_pE]; rfl
        · show gm_I (n_up (n_up M 46 q (.int (nI e))) 45 0 (.int (nI (q + 1))) 45 0) = _
          rw [y_us]; rfl
        · show ∃ e' : Nat, 65 ≤ e' ∧ e' ≤ 72 ∧ _ ∧ gm_I (n_up (n_up M 46 q (.int (nI e))) 45 0 (.int (nI (q + 1))) 46 j) = nI e'
          rw [y_uk (by decide)]
          by_cases e : j = q
          · subst e
            rw [y_us, y_pM (by simp), y_pE]
            exact ⟨_, he.1, he.2, rfl, rfl⟩
          · rw [y_ui e, y_pM (by simp), y_pM (by
              intro z
              have := z.2.2
              omega)]
            exact q9 j (by omega)
      · rcases z with z | z <;> omega
/-- the list of sent events grows: with or without a longer row -/
theorem s_ladd {S : gm_S} {a x : Nat} (hi : g_inv M0 S) (h : gs_t S a = 16) (hx : g_okE (gs_t S x) = true) (hl : (S.2.1 a).length ≤ 21) (hko : k_ok (g_cap S a)) (hc : gs_c S + (22 - g_cap S a) ≤ 600090) (hk : gs_k S + 4 * (22 - g_cap S a) ≤ 7301100) :
    ∃ S', g_ladd S (some a) (some x) = some S' ∧ ag (fun F b => (F = 3 ∨ F = 4) ∧ b = a) (fun b => b = a) S S' ∧ S'.2.1 a = S.2.1 a ++ [x] ∧ g_inv M0 S' ∧ gs_c S' + (22 - g_cap S' a) ≤ gs_c S + (22 - g_cap S a) ∧ gs_k S' + 4 * (22 - g_cap S' a) ≤ gs_k S + 4 * (22 - g_cap S a) ∧ gs_c S ≤ gs_c S' ∧ gs_k S ≤ gs_k S' ∧ (∀ b, gs_t S b ≠ 0 → b ≠ a → g_cap S' b = g_cap S b) ∧ k_ok (g_cap S' a) ∧ (∀ b, b ≠ a → S'.2.1 b = S.2.1 b) := by
  have ha : gs_t S a ≠ 0 := by rw [h]; decide
  have hn := hi.2.2.2
  have hane : a ≠ gs_n S := by have := hn a ha; omega
  rcases y_ladd h hx (by omega) (by omega) (by omega) with ⟨e1, e2⟩ | ⟨e1, w, e3, e4, e2⟩
  · exact ⟨_, e2, ⟨fun _ _ _ _ _ => rfl, fun b _ hb => y_Ln hb, fun _ _ => rfl⟩, y_Le, hi.lst, Nat.le_refl _, Nat.le_refl _, Nat.le_refl _, Nat.le_refl _, fun _ _ _ => rfl, hko, fun b hb => y_Ln hb⟩
  · obtain ⟨S1, hS1⟩ : ∃ S1, S1 = gs_put (gs_put (gs_put (g_mk S 30 w) 5 (gs_n S) 0 (.ref a)) 3 a 0 (.ref w)) 4 a 0 (.ref (gs_n S)) := ⟨_, rfl⟩
    rw [← hS1] at e2
    have hM : ∀ F b i, b ≠ gs_n S → ¬ ((F = 3 ∨ F = 4) ∧ b = a) → S1.1 F b i = S.1 F b i := by
      intro F b i hb hE
      rw [hS1, y_pM (fun z => hE ⟨Or.inr z.1, z.2.1⟩), y_pM (fun z => hE ⟨Or.inl z.1, z.2.1⟩), y_pM (fun z => hb z.2.1), y_mkM hb]
    have htg : ∀ b, b ≠ gs_n S → gs_t S1 b = gs_t S b := by
      intro b hb
      unfold gs_t
      rw [hM 0 b 0 hb (by omega)]
    have hcap : g_cap S1 a = w := by
      unfold g_cap
      rw [hS1, y_pM (by simp), y_pE]
      rfl
    have g1 : gs_c S1 = gs_c S + 1 := by rw [hS1]; rfl
    have g2 : gs_k S1 = gs_k S + w := by rw [hS1]; rfl
    have hw : (g_cap S a = 0 ∧ w = 10) ∨ (g_cap S a = 10 ∧ w = 15) ∨ (g_cap S a = 15 ∧ w = 22) := by
      unfold k_ok at hko
      rcases hko with z | z | z | z
      · rw [if_pos z] at e3; exact Or.inl ⟨z, e3⟩
      · rw [if_neg (by omega)] at e3; exact Or.inr (Or.inl ⟨z, by omega⟩)
      · rw [if_neg (by omega)] at e3; exact Or.inr (Or.inr ⟨z, by omega⟩)
      · omega
    have hcap2 : g_cap (gs_L S1 a (S.2.1 a ++ [x])) a = w := hcap
    refine ⟨gs_L S1 a (S.2.1 a ++ [x]), e2, ⟨fun F b i hb hE => hM F b i (by have := hn b hb; omega) hE, fun b hb hL => ?_, fun b hb => htg b (by have := hn b hb; omega)⟩, y_Le, ?_, ?_, ?_, ?_, ?_, ?_, ?_, ?_⟩
    · rw [y_Ln hL, hS1]; rfl
    · have i0 := (hi.mk (t := 30) (w := w))
      rw [hS1]
      refine ((i0.put (by decide) ?_).put (by decide) ?_).put (by decide) ?_
      · rw [y_mkn]; decide
      · rw [y_pt (by decide), y_mkt hane]; exact ha
      · rw [y_pt (by decide), y_pt (by decide), y_mkt hane]; exact ha
    · rw [hcap2]
      show gs_c S1 + _ ≤ _
      rw [g1]; omega
    · rw [hcap2]
      show gs_k S1 + _ ≤ _
      rw [g2]; omega
    · show gs_c S ≤ gs_c S1
      rw [g1]; omega
    · show gs_k S ≤ gs_k S1
      rw [g2]; omega
    · intro b hb hne
      show gm_N (S1.1 3 b 0) = _
      rw [hM 3 b 0 (by have := hn b hb; omega) (fun z => hne z.2)]; rfl
    · rw [hcap2]; unfold k_ok; omega
    · intro b hb
      rw [y_Ln hb, hS1]; rfl
end RCB
