/-! LAYER 2, reading: rows of tests -/
set_option maxRecDepth 100000
section RDU
variable {A : gA} {M0 : gM} {z bc bk : Nat} {tx : Nat → Nat}
def eT (A N : gA) (r : Nat) : Nat → Nat → Prop := fun F a => (F = 202 ∧ a = A 1 0) ∨ ((F = 3 ∨ F = 4) ∧ (a = N 35 0 ∨ a = r))
theorem r_ext {N N' : gA} {f n : Nat} (hf : f ≤ n) (h : ∀ j, j < n → N' 13 j = N 13 j) : (List.range (n + 1 - f)).map (fun j => N' 13 (f + j)) = (List.range (n - f)).map (fun j => N 13 (f + j)) ++ [N' 13 n] := by
  rw [show n + 1 - f = (n - f) + 1 by omega, List.range_succ, List.map_append]
  congr 1
  · exact List.map_congr_left (fun a ha => h _ (by have := List.mem_range.mp ha; omega))
  · show [N' 13 (f + (n - f))] = _
    rw [show f + (n - f) = n by omega]
theorem s_tests {fu r tr f : Nat} (hf : 100 ≤ fu) (x1 : Option Nat) (x2 x3 : Int32) : ∀ (d p : Nat) (N : gA) (M : gM) (S : gm_S) (n m : Nat), z - p = d → d < n → d < m → PA A M S z tx p → g_inv M0 S → PB bc bk S (p - 1) → qN A N M S → qT N M S → 3 * N 9 4 + 2 ≤ p → 3 * N 9 2 + 2 ≤ p → g_gR S (some tr) 10 2 = some (some r) → gs_t S r = 16 → r ≠ N 35 0 → f ≤ N 9 2 → S.2.1 r = (List.range (N 9 2 - f)).map (fun j => N 13 (f + j)) →
    (∃ N' M' S' p', F_X4_readTransition_141 fu n x2 x3 M = F_X4_readTransition_154 fu x2 x3 M' ∧ F_X2_transition_70 fu m (some (A 1 0)) x1 (some tr) S = F_X2_transition_91 fu (some (A 1 0)) x1 (some tr) S' ∧ PA A M' S' z tx p' ∧ g_inv M0 S' ∧ PB bc bk S' p' ∧ p < p' ∧ qN A N' M' S' ∧ qT N' M' S' ∧ 3 * N' 9 4 + 1 ≤ p' ∧ 3 * N' 9 2 + 1 ≤ p' ∧ exT N N' ∧ f ≤ N' 9 2 ∧ S'.2.1 r = (List.range (N' 9 2 - f)).map (fun j => N' 13 (f + j)) ∧ ag (eT A N r) (fun a => a = N 35 0 ∨ a = r) S S' ∧ (∀ b, b ≠ N 35 0 → b ≠ r → S'.2.1 b = S.2.1 b) ∧ mTe N M M') ∨
    (∃ M' o S', F_X4_readTransition_141 fu n x2 x3 M = F_X4_readTransition_154 fu x2 x3 M' ∧ F_X2_transition_70 fu m (some (A 1 0)) x1 (some tr) S = some (o, S') ∧ PF A M0 bc bk M' o S' ∧ ag (eT A N r) (fun a => a = N 35 0 ∨ a = r) S S' ∧ mTe N M M') := by
  intro d
  induction d using Nat.strongRecOn with
  | _ d ih =>
    intro p N M S n m hd hn hm h hi hb qn qt h3 h4 g2 tr16 r35 hfn hl
    have hpz := h.pz
    obtain ⟨n, rfl⟩ : ∃ n', n = n' + 1 := ⟨n - 1, by omega⟩
    obtain ⟨m, rfl⟩ : ∃ m', m = m' + 1 := ⟨m - 1, by omega⟩
    obtain ⟨z1, z2, z3, z4⟩ := hb
    have hb1 : PB (bc - 8) (bk - 400) S p := ⟨by omega, by omega, by omega, by omega⟩
    have w2 := qn.2.1
    rw [F_X4_readTransition_141, F_X2_transition_70, g2, y_b, y_q h.1]
    have trt : gs_t S tr = 10 := by obtain ⟨a, ea, ta, -⟩ := y_gRt g2; cases ea; exact ta
    rcases s_test h hi hb1 qn qt h3 h4 hf with ⟨N1, y, M1, S1, p1, a1, a2, a3, a4, a5, a6, a7, a8, a9, a10, a11, a12, a13, a14, a15, a16⟩ | ⟨M1, o, S1, a1, a2, a3, a4, a5, a6⟩
    · have n35 : N1 35 0 = N 35 0 := a11.2.2 35 0 (by omega) (by omega) (by omega)
      have n5 : N1 9 5 = N 9 5 := a11.2.2 9 5 (by omega) (by omega) (by omega)
      have tr1 : gs_t S1 r = 16 := (a14.2.2 r (by rw [tr16]; decide)).trans tr16
      have l1 : S1.2.1 r = (List.range (N 9 2 - f)).map (fun j => N 13 (f + j)) := by rw [a15 r r35]; exact hl
      obtain ⟨b1, b2, b3, b4⟩ := a5
      obtain ⟨S2, c1, c2, c3, c4, c5, c6, c7⟩ := c_ladd a4 tr1 (x := y) a10 (by rw [l1, List.length_map, List.length_range]; omega) (by omega) (by omega)
      have l2 : S2.2.1 r = (List.range (N1 9 2 - f)).map (fun j => N1 13 (f + j)) := by
        rw [c3, l1, a12, r_ext hfn (fun j hj => a11.2.2 13 j (by omega) (by omega) (by omega)), a9]
      have r34 : r ≠ A 34 0 := fun w => by rw [w, h.2.2.1] at tr16; cases tr16
      have r1 : r ≠ A 1 0 := fun w => by rw [w, h.1] at tr16; cases tr16
      have P2 : PA A M1 S2 z tx p1 := a3.mono c2 (by simp) (fun _ _ _ => rfl)
      have b2' : PB bc bk S2 p1 := ⟨by omega, by omega, by omega, by omega⟩
      have qn2 : qN A N1 M1 S2 := a7.mono c2 ⟨fun F b w1 w2 w3 => by omega, fun w => by omega⟩ (by rw [n35]; exact fun w => r35 w.symm) ⟨rfl, rfl, rfl, fun _ _ => rfl⟩ ⟨rfl, rfl, fun _ _ _ _ _ => rfl⟩
      have qt2 : qT N1 M1 S2 := a8.mono c2 (fun F b w1 w2 w3 w4 => by omega) ⟨rfl, rfl, Nat.le_refl _, fun _ _ => rfl, fun _ _ => ⟨rfl, rfl, rfl, rfl⟩⟩ ⟨rfl, fun _ _ _ _ _ => rfl⟩
      have gS2 : ag (eT A N r) (fun a => a = N 35 0 ∨ a = r) S S2 := (a14.trans c2).wk (fun F a w => by unfold eN at w; unfold eT; omega) (fun a w => w)
      have gl2 : ∀ b, b ≠ N 35 0 → b ≠ r → S2.2.1 b = S.2.1 b := fun b w1 w2 => (c7 b w2).trans (a15 b w1)
      rw [a1, y_cV, a2, gz_cR_rf, c1, y_b, y_q P2.1]
      rcases s_takes P2 fu (c := 38) (by omega) (by omega) with ⟨t1, t2, t3, t4⟩ | ⟨t1, t2, t3⟩
      · have ts : tA A S2 (sA A S2 (p1 + 1)) := tA.s
        have hpz1 := t4.pz
        have i3 := ts.inv c4 P2.1
        have fr : ∀ k i, k ≠ 4 → n_p M1 4 (nI (p1 + 1)) k i = M1 k i := fun k i w => y_uk w
        have qn3 : qN A N1 (n_p M1 4 (nI (p1 + 1))) (sA A S2 (p1 + 1)) := qn2.mono ts.ag ⟨fun F b w1 w2 => by unfold eA; omega, by unfold eA; omega⟩ (fun w => w) ⟨rfl, rfl, rfl, fun _ _ => rfl⟩ ⟨fr _ _ (by omega), fr _ _ (by omega), fun k a w1 w2 w3 => fr _ _ (by omega)⟩
        have qt3 : qT N1 (n_p M1 4 (nI (p1 + 1))) (sA A S2 (p1 + 1)) := qt2.mono ts.ag (fun F b w1 w2 w3 => by unfold eA; omega) ⟨rfl, rfl, Nat.le_refl _, fun _ _ => rfl, fun _ _ => ⟨rfl, rfl, rfl, rfl⟩⟩ ⟨fr _ _ (by omega), fun k a w1 w2 w3 => fr _ _ (by omega)⟩
        have g23 : g_gR (sA A S2 (p1 + 1)) (some tr) 10 2 = some (some r) := ts.ag.gR (gS2.gR g2 (by decide) (by unfold eT; omega)) (by decide) (by unfold eA; omega)
        have gT : ag (eT A N r) (fun a => a = N 35 0 ∨ a = r) S (sA A S2 (p1 + 1)) := (gS2.trans ts.ag).wk (fun F a w => w.elim id (fun w => Or.inl w)) (fun a w => w.elim id (fun w => w.elim))
        rw [show F_X4_takes fu 38 M1 = _ from t2, y_cI, if_neg (by decide), show F_X2_takes fu (some (A 1 0)) 38 S2 = _ from t3, y_cI, if_neg (by decide)]
        rcases ih (z - (p1 + 1)) (by omega) (p1 + 1) N1 (n_p M1 4 (nI (p1 + 1))) (sA A S2 (p1 + 1)) n m rfl (by omega) (by omega) t4 i3 (ts.b b2' (by omega)) qn3 qt3 (by omega) (by omega) g23 ((ts.t r).trans ((c2.2.2 r (by rw [tr1]; decide)).trans tr1)) (by rw [n35]; exact r35) (by omega) l2 with ⟨N', M', S', p', w1, w2, w3, w4, w5, w6, w7, w8, w9, w10, w11, w12, w13, w14, w15, w16⟩ | ⟨M', o, S', w1, w2, w3, w4, w5⟩
        · rw [n35] at w14 w15
          refine Or.inl ⟨N', M', S', p', w1, w2, w3, w4, w5, by omega, w7, w8, w9, w10, a11.trans w11, w12, w13, (gT.trans w14).wk (fun F a w => by unfold eT at w ⊢; rw [n35] at w; omega) (fun a w => w.elim id id), fun b q1 q2 => (w15 b q1 q2).trans (gl2 b q1 q2), fun k i q => ?_⟩
          exact (w16 k i (by rw [n5]; exact q)).trans ((fr k i (by omega)).trans (a16 k i q))
        · rw [n35] at w4
          refine Or.inr ⟨M', o, S', w1, w2, w3, (gT.trans w4).wk (fun F a w => by unfold eT at w ⊢; rw [n35] at w; omega) (fun a w => w.elim id id), fun k i q => ?_⟩
          exact (w5 k i (by rw [n5]; exact q)).trans ((fr k i (by omega)).trans (a16 k i q))
      · rw [show F_X4_takes fu 38 M1 = _ from t2, y_cI, if_pos rfl, show F_X2_takes fu (some (A 1 0)) 38 S2 = _ from t3, y_cI, if_pos rfl]
        exact Or.inl ⟨N1, M1, S2, p1, rfl, rfl, P2, c4, b2', by omega, qn2, qt2, a13, by omega, a11, by omega, l2, gS2, gl2, a16⟩
    · have h5 : n_I M1 5 0 = 1 := by obtain ⟨a, pp, -, -, -, -, g5, -⟩ := a3; exact g5
      obtain ⟨a, pp, e1, e2⟩ := a3
      rw [a1, y_cV, show F_X4_takes fu 38 M1 = _ from i_takes h5 fu (c := 38) (by omega) (by omega), y_cI, if_pos rfl, a2]
      refine Or.inr ⟨M1, o, S1, rfl, by rw [e1]; rfl, PF.b ⟨a, pp, e1, e2⟩ (by omega) (by omega), a4.wk (fun F a w => by unfold eN at w; unfold eT; omega) (fun a w => Or.inl w), a6⟩
end RDU
