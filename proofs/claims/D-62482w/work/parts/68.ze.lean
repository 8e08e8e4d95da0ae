/-! LAYER 2, reading: names -/
set_option maxRecDepth 100000
section RDK
variable {A : gA} {M0 : gM} {z p bc bk : Nat} {tx : Nat → Nat}
/-- the stars behind a name -/
theorem s_stars {M : gM} {S : gm_S} (h : PA A M S z tx p) {fu ix : Nat} (hf : 100 ≤ fu) (hix : ix < 128) (h25 : n_I M 25 ix = 0) (pl c : Int32) : ∃ st M' S' p', st ≤ 2 ∧ p ≤ p' ∧ F_X4_readName_71 fu fu 1 (nI ix) 0 M = F_X4_readName_105 fu (nI ix) M' ∧
    (gz_q (g_at S (some (A 1 0)) 2) (gz_cI (F_X2_takes fu (some (A 1 0)) (42 : Int32) S) fun v5 S5 => if v5 = 0 then (F_X2_target_36 fu (some (A 1 0)) pl c (0 : Int32) S5) else (F_X2_target_36 fu (some (A 1 0)) pl c (1 : Int32) S5))) = F_X2_target_53 fu (some (A 1 0)) pl c (nI st) S' ∧ PA A M' S' z tx p' ∧ tA A S S' ∧ n_I M' 25 ix = nI st ∧ (∀ k i, k ≠ 4 → ¬ (k = 25 ∧ i = ix) → M' k i = M k i) := by
  obtain ⟨f, rfl⟩ : ∃ f, fu = f + 1 + 1 + 1 := ⟨fu - 3, by omega⟩
  have n2 : ¬ (2 : Int32) ≤ nI 0 := by decide
  have n21 : ¬ (2 : Int32) ≤ nI 1 := by decide
  have p2 : (2 : Int32) ≤ nI 2 := by decide
  rw [y_q h.1]
  rcases s_takes h (f + 1 + 1 + 1) (c := 42) (by omega) (by omega) with ⟨t1, t2, t3, t4⟩ | ⟨t1, t2, t3⟩
  · have r25 : n_I (n_p M 4 (nI (p + 1))) 25 ix = 0 := (n_po (by decide)).trans h25
    obtain ⟨M1, hM1⟩ : ∃ M1, M1 = n_up (n_p M 4 (nI (p + 1))) 25 ix (.int 1) := ⟨_, rfl⟩
    have P1 : PA A M1 (sA A S (p + 1)) z tx (p + 1) := t4.mono g_none ⟨fun w => w, fun w => w, fun w => w, fun w => w, fun w => w⟩ (fun k i w => by rw [hM1]; exact y_uk (by omega))
    have r1 : n_I M1 25 ix = 1 := by rw [hM1]; unfold n_I; rw [y_us]; rfl
    have fm1 : ∀ k i, k ≠ 4 → ¬ (k = 25 ∧ i = ix) → M1 k i = M k i := fun k i w w' => by rw [hM1]; exact (n_upo w').trans (y_uk w)
    rw [F_X4_readName_71, if_neg (show ¬ (2 : Int32) ≤ 0 by decide), if_neg (by decide), show F_X4_takes (f + 1 + 1 + 1) 42 M = _ from t2, y_cI, if_neg (by decide), y_aI hix (by omega), y_b, r25, y_sI hix (by omega), y_b, show (0 : Int32) + 1 = 1 from by decide, ← hM1, F_X4_readName_71, if_neg (show ¬ (2 : Int32) ≤ 1 by decide), if_neg (by decide), show F_X2_takes (f + 1 + 1 + 1) (some (A 1 0)) 42 S = _ from t3, y_cI, if_neg (by decide)]
    unfold F_X2_target_36
    rw [if_pos rfl, y_q P1.1]
    rcases s_takes P1 (f + 1 + 1 + 1) (c := 42) (by omega) (by omega) with ⟨u1, u2, u3, u4⟩ | ⟨u1, u2, u3⟩
    · have r25' : n_I (n_p M1 4 (nI (p + 1 + 1))) 25 ix = 1 := (n_po (by decide)).trans r1
      rw [show F_X4_takes (f + 1 + 1 + 1) 42 M1 = _ from u2, y_cI, if_neg (by decide), y_aI hix (by omega), y_b, r25', y_sI hix (by omega), y_b, show (1 : Int32) + 1 = 2 from by decide, F_X4_readName_71, if_pos (show (2 : Int32) ≤ 2 by decide), show F_X2_takes (f + 1 + 1 + 1) (some (A 1 0)) 42 (sA A S (p + 1)) = _ from u3, y_cI, if_neg (by decide)]
      refine ⟨2, _, _, p + 1 + 1, by omega, by omega, rfl, rfl, u4.mono g_none ⟨fun w => w, fun w => w, fun w => w, fun w => w, fun w => w⟩ (fun k i w => y_uk (by omega)), tA.s.trans tA.s, by unfold n_I; rw [y_us]; rfl, fun k i w w' => (n_upo w').trans ((y_uk w).trans (fm1 k i w w'))⟩
    · rw [show F_X4_takes (f + 1 + 1 + 1) 42 M1 = _ from u2, y_cI, if_pos rfl, show F_X2_takes (f + 1 + 1 + 1) (some (A 1 0)) 42 (sA A S (p + 1)) = _ from u3, y_cI, if_pos rfl]
      exact ⟨1, M1, _, p + 1, by omega, by omega, rfl, rfl, P1, tA.s, r1, fm1⟩
  · rw [F_X4_readName_71, if_neg (show ¬ (2 : Int32) ≤ 0 by decide), if_neg (by decide), show F_X4_takes (f + 1 + 1 + 1) 42 M = _ from t2, y_cI, if_pos rfl, show F_X2_takes (f + 1 + 1 + 1) (some (A 1 0)) 42 S = _ from t3, y_cI, if_pos rfl]
    unfold F_X2_target_36
    rw [if_neg (by decide)]
    exact ⟨0, M, S, p, by omega, Nat.le_refl _, rfl, rfl, h, tA.refl, h25, fun _ _ _ _ => rfl⟩
theorem x_name {S : gm_S} {o : Nat} (h : gs_t S o = 11) {c : Nat} (hc : c ≤ 126) (pl st : Int32) (fu : Nat) : ∃ S', F_X11_init fu (some o) (nI c) pl st S = some (.returned none, S') ∧ g_gI S' (some o) 11 0 = some (nI c) ∧ g_gI S' (some o) 11 1 = some pl ∧ g_gI S' (some o) 11 2 = some st ∧ ag (fun F a => (F = 1100 ∨ F = 1101 ∨ F = 1102) ∧ a = o) (fun _ => False) S S' ∧ S'.2 = S.2 ∧ (g_inv M0 S → g_inv M0 S') := by
  have h0 : gs_t S o ≠ 0 := by rw [h]; decide
  have h1 : gs_t (gs_put S 1100 o 0 (.int (nI c))) o = 11 := (y_pt (by decide)).trans h
  have h2 : gs_t (gs_put (gs_put S 1100 o 0 (.int (nI c))) 1101 o 0 (.int pl)) o = 11 := (y_pt (by decide)).trans h1
  refine ⟨gs_put (gs_put (gs_put S 1100 o 0 (.int (nI c))) 1101 o 0 (.int pl)) 1102 o 0 (.int st), ?_, ?_, ?_, ?_, ?_, rfl, fun w => ((w.put (by decide) h0).put (by decide) (by rw [h1]; decide)).put (by decide) (by rw [h2]; decide)⟩
  · unfold F_X11_init
    rw [y_q h, y_pC h (y_okC (by omega)), y_b, y_pI h1, y_b, y_pI h2, y_b]
  · rw [y_gI ((y_pt (by decide)).trans h2), y_pM (by simp), y_pM (by simp), y_pE]; rfl
  · rw [y_gI ((y_pt (by decide)).trans h2), y_pM (by simp), y_pE]; rfl
  · rw [y_gI ((y_pt (by decide)).trans h2), y_pE]; rfl
  · exact (((ag.put (S := S) (F := 1100) (a := o) (i := 0) (v := .int (nI c)) (by decide)).trans (ag.put (F := 1101) (a := o) (i := 0) (v := .int pl) (by decide))).trans (ag.put (F := 1102) (a := o) (i := 0) (v := .int st) (by decide))).wk (fun F a w => by rcases w with (w | w) | w; exact ⟨Or.inl w.1, w.2⟩; exact ⟨Or.inr (Or.inl w.1), w.2⟩; exact ⟨Or.inr (Or.inr w.1), w.2⟩) (fun a w => by rcases w with (w | w) | w <;> exact w)
end RDK
