/-! LAYER 2, reading: from '>' to the end of a transition -/
set_option maxRecDepth 100000
section RDW
variable {A : gA} {M0 : gM} {z p bc bk : Nat} {tx : Nat → Nat}
def exE (N N' : gA) (o : Nat) : Prop := N 9 4 ≤ N' 9 4 ∧ N 9 3 ≤ N' 9 3 ∧ (∀ k i, ¬ (k = 9 ∧ (i = 3 ∨ i = 4)) → ¬ (k = 12 ∧ N 9 4 ≤ i) → ¬ ((k = 14 ∨ k = 31 ∨ k = 23) ∧ N 9 3 ≤ i) → N' k i = N k i) ∧ ∀ o', o' ≠ o → (l_ac N' o').map (N' 14) = (l_ac N o').map (N 14)
def eE (A N : gA) (tr r3 rs : Nat) : Nat → Nat → Prop := fun F a => ((F = 202 ∨ F = 207) ∧ a = A 1 0) ∨ (F = 1004 ∧ a = tr) ∨ ((F = 3 ∨ F = 4) ∧ (a = N 35 0 ∨ a = r3 ∨ a = rs))
def mEn (N : gA) (ix : Nat) (M M' : gM) : Prop := ∀ k i, ¬ (k = 4 ∨ k = 5 ∨ k = 38 ∨ k = 39 ∨ ((k = 12 ∨ k = 13) ∧ i = N 9 5) ∨ ((k = 21 ∨ k = 22) ∧ i = ix) ∨ (23 ≤ k ∧ k ≤ 25 ∧ 64 * N 9 5 ≤ i ∧ i < 64 * N 9 5 + 64) ∨ (33 ≤ k ∧ k ≤ 37 ∧ 48 * N 9 5 ≤ i ∧ i < 48 * N 9 5 + 48)) → M' k i = M k i
theorem l_ac_N {N N' : gA} (h3 : N' 9 3 = N 9 3) (h : ∀ a, a < N 9 3 → N' 31 a = N 31 a ∧ N' 14 a = N 14 a) (o : Nat) : (l_ac N' o).map (N' 14) = (l_ac N o).map (N 14) := by
  have e : l_ac N' o = l_ac N o := by
    unfold l_ac
    rw [h3]
    exact List.filter_congr (fun a ha => by rw [(h a (List.mem_range.mp ha)).1])
  rw [e]
  exact List.map_congr_left (fun a ha => (h a (l_ac_lt ha)).2)
theorem s_tend {N : gA} {M : gM} {S : gm_S} (h : PA A M S z tx p) (hi : g_inv M0 S) (hb : PB bc bk S p) (hn : qN A N M S) (hT : qT N M S) (hq : qA A N M S) (h3 : 3 * N 9 4 + 1 ≤ p) {t ix st tr r3 rs : Nat} (ht : t < 300) (hix : ix < 48) (htr : gs_t S tr = 10) (h10 : g_gR S (some tr) 10 3 = some (some r3)) (h104 : g_gR S (some tr) 10 4 = some none) (hr3 : gs_t S r3 = 16) (hl3 : S.2.1 r3 = (l_ac N t).map (N 14)) (h54 : g_gR S (some st) 5 4 = some (some rs)) (hrs : gs_t S rs = 16) (hls : (S.2.1 rs).length < 100) (hne : r3 ≠ rs) (n3 : r3 ≠ N 35 0) (ns : rs ≠ N 35 0) {fu : Nat} (hf : 200 ≤ fu) :
    (∃ N' M' S' p' tg, F_X4_readTransition_154 fu (nI ix) (nI t) M = some (.returned none, M') ∧ F_X2_transition_91 fu (some (A 1 0)) (some st) (some tr) S = some (.returned none, S') ∧ PA A M' S' z tx p' ∧ g_inv M0 S' ∧ PB bc bk S' p' ∧ p < p' ∧ qN A N' M' S' ∧ qT N' M' S' ∧ qA A N' M' S' ∧ 3 * N' 9 4 ≤ p' ∧ S'.2.1 r3 = (l_ac N' t).map (N' 14) ∧ S'.2.1 rs = S.2.1 rs ++ [tr] ∧ n_I M' 21 ix = nI (64 * N 9 5 + N 9 2) ∧ n_I M' 22 ix = (if tg = 0 then -1 else nI (64 * N 9 5 + (tg - 1))) ∧ tg ≤ N' 9 4 ∧ g_gR S' (some tr) 10 4 = some (if tg = 0 then none else some (N' 12 (tg - 1))) ∧ exE N N' t ∧ ag (eE A N tr r3 rs) (fun a => a = N 35 0 ∨ a = r3 ∨ a = rs) S S' ∧ (∀ b, b ≠ N 35 0 → b ≠ r3 → b ≠ rs → S'.2.1 b = S.2.1 b) ∧ mEn N ix M M') ∨
    (∃ M' o S', F_X4_readTransition_154 fu (nI ix) (nI t) M = some (.returned none, M') ∧ F_X2_transition_91 fu (some (A 1 0)) (some st) (some tr) S = some (o, S') ∧ PF A M0 bc bk M' o S' ∧ ag (eE A N tr r3 rs) (fun a => a = N 35 0 ∨ a = r3 ∨ a = rs) S S' ∧ mEn N ix M M') := by
  have hpz := h.pz
  obtain ⟨q1, q2, q3, q4, q5, q6, q7, -⟩ := id hn
  have tr1 : tr ≠ A 1 0 := fun w => by rw [w, h.1] at htr; cases htr
  obtain ⟨M6, hM6⟩ : ∃ M6, M6 = n_up M 21 ix (.int (nI (64 * N 9 5 + N 9 2))) := ⟨_, rfl⟩
  have P6 : PA A M6 S z tx p := h.mono g_none ⟨fun w => w, fun w => w, fun w => w, fun w => w, fun w => w⟩ (fun k i w => by rw [hM6, y_uk (by omega)])
  obtain ⟨b1, b2, b3, b4⟩ := hb
  unfold F_X4_readTransition_154 F_X2_transition_91
  rw [q1, y_aI (by omega) (by omega), y_b, hT.1, y_m64, nI_add, y_sI hix (by omega), y_b, ← hM6, y_q h.1]
  rcases s_tak (bc := bc) (bk := bk) P6 hi ⟨b1, b2, b3, b4⟩ fu (c := 62) (by omega) (by omega) with ⟨M7, S7, e1, e2, P7, t7, hct, f7⟩ | ⟨M7, o, S7, e1, e2, e3, e4, e5, e6⟩
  · rw [show F_X4_take fu 62 M6 = _ from e1, y_cV, show F_X2_take fu (some (A 1 0)) 62 S = _ from e2, y_cV, y_q P7.1]
    have hpz7 := P7.pz
    obtain ⟨M9, hM9⟩ : ∃ M9, M9 = n_up M7 22 ix (.int (-1)) := ⟨_, rfl⟩
    rw [y_sI hix (by omega), y_b, ← hM9]
    have P9 : PA A M9 S7 z tx (p + 1) := P7.mono g_none ⟨fun w => w, fun w => w, fun w => w, fun w => w, fun w => w⟩ (fun k i w => by rw [hM9, y_uk (by omega)])
    obtain ⟨v, M10, S10, p10, hv, e3, e4, P10, t10, f10⟩ := s_opt P9 fu (c := 33) (by omega) (by omega)
    rw [show F_X4_takes fu 33 M9 = _ from e3, y_cI, show F_X2_takes fu (some (A 1 0)) 33 S7 = _ from e4, y_cI]
    have tt : tA A S S10 := t7.trans t10
    have i10 := tt.inv hi h.1
    have p610 : p + 1 ≤ p10 := by rcases hv with w | w <;> omega
    have c10 : gs_c S10 = gs_c S := by show S10.2.2.2.1 = _; rw [tt.2]
    have k10 : gs_k S10 = gs_k S := by show S10.2.2.2.2 = _; rw [tt.2]
    have hpz10 := P10.pz
    have b10 : PB (bc - 8) (bk - 400) S10 p10 := ⟨by omega, by omega, by omega, by omega⟩
    have hbb : 8 ≤ bc ∧ 400 ≤ bk ∧ bc ≤ 599900 ∧ bk ≤ 7300000 := ⟨by omega, by omega, b3, b4⟩
    have fM : ∀ k i, k ≠ 4 → ¬ ((k = 21 ∨ k = 22) ∧ i = ix) → M10 k i = M k i := fun k i w w' => by
      rw [f10 k i w, hM9, n_upo (by omega), f7 k i w, hM6, n_upo (by omega)]
    have m21 : n_I M10 21 ix = nI (64 * N 9 5 + N 9 2) := by unfold n_I; rw [f10 _ _ (by omega), hM9, y_uk (by decide), f7 _ _ (by omega), hM6, y_us]; rfl
    have m22 : n_I M10 22 ix = -1 := by unfold n_I; rw [f10 _ _ (by omega), hM9, y_us]; rfl
    have l10 : S10.2.1 = S.2.1 := by rw [tt.2]
    have qn10 : qN A N M10 S10 := hn.mono tt.ag ⟨fun F b w1 w2 => by unfold eA; omega, by unfold eA; omega⟩ (fun w => w) ⟨rfl, rfl, rfl, fun _ _ => rfl⟩ ⟨fM _ _ (by omega) (by omega), fM _ _ (by omega) (by omega), fun k a w1 w2 w3 => fM _ _ (by omega) (by omega)⟩
    have qt10 : qT N M10 S10 := hT.mono tt.ag (fun F b w1 w2 w3 => by unfold eA; omega) ⟨rfl, rfl, Nat.le_refl _, fun _ _ => rfl, fun _ _ => ⟨rfl, rfl, rfl, rfl⟩⟩ ⟨fM _ _ (by omega) (by omega), fun k a w1 w2 w3 => fM _ _ (by omega) (by omega)⟩
    have qa10 : qA A N M10 S10 := hq.mono tt.ag ⟨fun F b w1 w2 => by unfold eA; omega, by unfold eA; omega⟩ ⟨rfl, rfl, fun _ _ => ⟨rfl, rfl, rfl⟩⟩ ⟨fM _ _ (by omega) (by omega), fM _ _ (by omega) (by omega), fun k a w1 w2 w3 => fM _ _ (by omega) (by omega)⟩
    -- the tail, from any state after the target
    have fin : ∀ (N1 : gA) (M13 : gM) (S13 : gm_S) (p13 tg : Nat), PA A M13 S13 z tx p13 → g_inv M0 S13 → PB (bc - 8) (bk - 400) S13 p13 → p + 1 ≤ p13 → qN A N1 M13 S13 → qT N1 M13 S13 → qA A N1 M13 S13 → 3 * N1 9 4 ≤ p13 → n_I M13 21 ix = nI (64 * N 9 5 + N 9 2) → n_I M13 22 ix = (if tg = 0 then -1 else nI (64 * N 9 5 + (tg - 1))) → tg ≤ N1 9 4 → g_gR S13 (some tr) 10 4 = some (if tg = 0 then none else some (N1 12 (tg - 1))) → ag (eE A N tr r3 rs) (fun a => a = N 35 0 ∨ a = r3 ∨ a = rs) S S13 → (∀ b, b ≠ N 35 0 → S13.2.1 b = S.2.1 b) → mEn N ix M M13 → N 9 4 ≤ N1 9 4 → (∀ k i, ¬ (k = 9 ∧ i = 4) → ¬ (k = 12 ∧ N 9 4 ≤ i) → N1 k i = N k i) →
      (∃ N' M' S' p' tg, F_X4_readTransition_210 fu (nI t) M13 = some (.returned none, M') ∧ F_X2_transition_114 fu (some (A 1 0)) (some st) (some tr) S13 = some (.returned none, S') ∧ PA A M' S' z tx p' ∧ g_inv M0 S' ∧ PB bc bk S' p' ∧ p < p' ∧ qN A N' M' S' ∧ qT N' M' S' ∧ qA A N' M' S' ∧ 3 * N' 9 4 ≤ p' ∧ S'.2.1 r3 = (l_ac N' t).map (N' 14) ∧ S'.2.1 rs = S.2.1 rs ++ [tr] ∧ n_I M' 21 ix = nI (64 * N 9 5 + N 9 2) ∧ n_I M' 22 ix = (if tg = 0 then -1 else nI (64 * N 9 5 + (tg - 1))) ∧ tg ≤ N' 9 4 ∧ g_gR S' (some tr) 10 4 = some (if tg = 0 then none else some (N' 12 (tg - 1))) ∧ exE N N' t ∧ ag (eE A N tr r3 rs) (fun a => a = N 35 0 ∨ a = r3 ∨ a = rs) S S' ∧ (∀ b, b ≠ N 35 0 → b ≠ r3 → b ≠ rs → S'.2.1 b = S.2.1 b) ∧ mEn N ix M M') ∨
      (∃ M' o S', F_X4_readTransition_210 fu (nI t) M13 = some (.returned none, M') ∧ F_X2_transition_114 fu (some (A 1 0)) (some st) (some tr) S13 = some (o, S') ∧ PF A M0 bc bk M' o S' ∧ ag (eE A N tr r3 rs) (fun a => a = N 35 0 ∨ a = r3 ∨ a = rs) S S' ∧ mEn N ix M M') := by
      intro N1 M13 S13 p13 tg w1 w2 w3 w4 w5 w6 w7 w8 w9 w10 w11 w12 w13 w14 w15 w16 w17
      have n5 : N1 9 5 = N 9 5 := w17 9 5 (by omega) (by omega)
      have n35 : N1 35 0 = N 35 0 := w17 35 0 (by omega) (by omega)
      have e3' : N1 9 3 = N 9 3 := w17 9 3 (by omega) (by omega)
      have la : ∀ o, (l_ac N1 o).map (N1 14) = (l_ac N o).map (N 14) := l_ac_N e3' (fun a _ => ⟨w17 31 a (by omega) (by omega), w17 14 a (by omega) (by omega)⟩)
      rcases s_tail (st := st) (rs := rs) w1 w2 w3 hbb w7 ht ((w13.2.2 tr (by rw [htr]; decide)).trans htr) (w13.gR h10 (by decide) (by unfold eE; omega)) ((w13.2.2 r3 (by rw [hr3]; decide)).trans hr3) (by rw [w14 r3 n3, hl3, la]) (w13.gR h54 (by decide) (by unfold eE; omega)) ((w13.2.2 rs (by rw [hrs]; decide)).trans hrs) (by rw [w14 rs ns]; exact hls) hne hf with ⟨N', M', S', p', a1, a2, a3, a4, a5, a6, a7, a8, a9, a10, a11, a12, a13⟩ | ⟨M', o, S', a1, a2, a3, a4, a5⟩
      · have f' : ∀ k i, ¬ (k = 9 ∧ i = 3) → ¬ ((k = 14 ∨ k = 31 ∨ k = 23) ∧ N 9 3 ≤ i) → N' k i = N1 k i := fun k i u1 u2 => a8.2.1 k i u1 (by rw [e3']; exact u2)
        have fm : ∀ k i, ¬ (k = 4 ∨ k = 5 ∨ k = 38 ∨ k = 39 ∨ (k = 12 ∧ i = N 9 5) ∨ (33 ≤ k ∧ k ≤ 37 ∧ 48 * N 9 5 ≤ i ∧ i < 48 * N 9 5 + 48)) → M' k i = M13 k i := fun k i u => a13 k i (by rw [n5]; exact u)
        refine Or.inl ⟨N', M', S', p', tg, a1, a2, a3, a4, a5, by omega, w5.mono a11 ⟨fun F b u1 u2 => by unfold eU; omega, by unfold eU; omega⟩ (by rw [n35]; exact fun u => u.elim (fun u => n3 u.symm) (fun u => ns u.symm)) ⟨f' _ _ (by omega) (by omega), f' _ _ (by omega) (by omega), f' _ _ (by omega) (by omega), fun k _ => f' _ _ (by omega) (by omega)⟩ ⟨fm _ _ (by omega), fm _ _ (by omega), fun k a u1 u2 u3 => fm _ _ (by omega)⟩, w6.mono a11 (fun F b u1 u2 u3 => by unfold eU; omega) ⟨f' _ _ (by omega) (by omega), f' _ _ (by omega) (by omega), Nat.le_of_eq (f' _ _ (by omega) (by omega)).symm, fun k _ => f' _ _ (by omega) (by omega), fun j _ => ⟨f' _ _ (by omega) (by omega), f' _ _ (by omega) (by omega), f' _ _ (by omega) (by omega), f' _ _ (by omega) (by omega)⟩⟩ ⟨fm _ _ (by omega), fun k a u1 u2 u3 => fm _ _ (by omega)⟩, a7, by rw [f' 9 4 (by omega) (by omega)]; omega, a9, by rw [a10, w14 rs ns], by unfold n_I; rw [fm _ _ (by omega)]; exact w9, by unfold n_I; rw [fm _ _ (by omega)]; exact w10, by rw [f' 9 4 (by omega) (by omega)]; exact w11, ?_, ⟨by rw [f' 9 4 (by omega) (by omega)]; exact w16, by have := a8.1; omega, fun k i u1 u2 u3 => (f' k i (by omega) u3).trans (w17 k i (by omega) u2), fun o' u => (a8.2.2 o' u).trans (la o')⟩, (w13.trans a11).wk (fun F a u => u.elim id (fun u => by unfold eU at u; unfold eE; omega)) (fun a u => u.elim id (fun u => Or.inr u)), fun b u1 u2 u3 => (a12 b u2 u3).trans (w14 b u1), fun k i u => (fm k i (by omega)).trans (w15 k i u)⟩
        rw [f' 12 _ (by omega) (by omega)]
        exact a11.gR w12 (by decide) (by unfold eU; omega)
      · exact Or.inr ⟨M', o, S', a1, a2, a3, (w13.trans a4).wk (fun F a u => u.elim id (fun u => by unfold eU at u; unfold eE; omega)) (fun a u => u.elim id (fun u => Or.inr u)), fun k i u => (a5 k i (by rw [n5]; omega)).trans (w15 k i u)⟩
    have gt : ag (eE A N tr r3 rs) (fun a => a = N 35 0 ∨ a = r3 ∨ a = rs) S S10 := tt.ag.wk (fun F a w => Or.inl ⟨Or.inl w.1, w.2⟩) (fun a w => w.elim)
    rcases hv with ⟨hv0, hp10, hM10, hS10, -⟩ | ⟨hv1, hp10, -⟩
    · rw [if_pos hv0, if_pos hv0, y_q P10.1]
      rcases s_target P10 i10 b10 qn10 (by omega) (fu := fu) (by omega) with ⟨x, M12, S12, p12, a1, a2, a3, a4, a5, a6, a7, a8, a9, a10, a11⟩ | ⟨w, M12, o, S12, a1, a2, a3, a4, a5, a6⟩
      · have t12 : gs_t S12 tr = 10 := (a9.2.2 tr (by rw [(tt.t tr)]; rw [htr]; decide)).trans ((tt.t tr).trans htr)
        rw [a1, y_cI, y_sI hix (by omega), y_b, a2, gz_cR_rf, y_pR t12, y_b]
        obtain ⟨M13, hM13⟩ : ∃ M13, M13 = n_up M12 22 ix (.int (nI (64 * N 9 5 + N 9 4))) := ⟨_, rfl⟩
        rw [← hM13]
        have f13 : ∀ k i, ¬ (k = 22 ∧ i = ix) → M13 k i = M12 k i := fun k i u => by rw [hM13, n_upo u]
        have gp := ag.put (S := S12) (F := 100 * 10 + 4) (a := tr) (i := 0) (v := va_rf (some x)) (by decide)
        have n5 : aNam N x 9 5 = N 9 5 := aNam_w
        have g13 : ag (eE A N tr r3 rs) (fun a => a = N 35 0 ∨ a = r3 ∨ a = rs) S (gs_put S12 (100 * 10 + 4) tr 0 (va_rf (some x))) := ((gt.trans a9).trans gp).wk (fun F a u => by unfold eE eN at u; unfold eE; omega) (fun a u => u.elim (fun u => u.elim id (fun u => Or.inl u)) (fun u => u.elim))
        have ga : ag (fun F a => eN A N F a ∨ (F = 1004 ∧ a = tr)) (fun a => a = N 35 0) S10 (gs_put S12 (100 * 10 + 4) tr 0 (va_rf (some x))) := (a9.trans gp).wk (fun F a u => u) (fun a u => u.elim id (fun u => u.elim))
        have fm12 : ∀ k i, ¬ (k = 4 ∨ k = 5 ∨ (k = 13 ∧ i = N 9 5) ∨ (k = 22 ∧ i = ix) ∨ (23 ≤ k ∧ k ≤ 25 ∧ 64 * N 9 5 ≤ i ∧ i < 64 * N 9 5 + 64)) → M13 k i = M10 k i := fun k i u => (f13 k i (by omega)).trans (a11 k i (by omega))
        refine fin (aNam N x) M13 _ p12 (N 9 4 + 1) (a3.mono gp (by simp) (fun k i u => f13 k i (by omega))) (a4.put (by decide) (by rw [t12]; decide)) a5 (by omega) (a7.mono gp ⟨fun F b u1 u2 u3 => by omega, fun u => by omega⟩ (fun u => u) ⟨rfl, rfl, rfl, fun _ _ => rfl⟩ ⟨f13 _ _ (by omega), f13 _ _ (by omega), fun k a u1 u2 u3 => f13 _ _ (by omega)⟩) (qt10.mono ga (fun F b u1 u2 u3 => by unfold eN; omega) ⟨aNam_o (by omega) (by omega), aNam_w, by rw [aNam_n]; omega, fun k hk => aNam_o (by omega) (by omega), fun j _ => ⟨aNam_o (by omega) (by omega), aNam_o (by omega) (by omega), aNam_o (by omega) (by omega), aNam_o (by omega) (by omega)⟩⟩ ⟨fm12 _ _ (by omega), fun k a u1 u2 u3 => fm12 _ _ (by omega)⟩) (qa10.mono ga ⟨fun F b u1 u2 => by unfold eN; omega, by unfold eN; omega⟩ ⟨aNam_o (by omega) (by omega), aNam_w, fun a _ => ⟨aNam_o (by omega) (by omega), aNam_o (by omega) (by omega), aNam_o (by omega) (by omega)⟩⟩ ⟨fm12 _ _ (by omega), fm12 _ _ (by omega), fun k a u1 u2 u3 => fm12 _ _ (by omega)⟩) (by rw [aNam_n]; omega) ?_ ?_ (by rw [aNam_n]; omega) ?_ g13 (fun b u => ?_) (fun k i u => (fm12 k i (by omega)).trans (fM k i (by omega) (by omega))) (by rw [aNam_n]; omega) (fun k i u1 u2 => aNam_o u1 (by omega))
        · unfold n_I; rw [fm12 _ _ (by omega)]; exact m21
        · rw [if_neg (by omega), Nat.add_sub_cancel, hM13]; unfold n_I; rw [y_us]; rfl
        · rw [if_neg (by omega), Nat.add_sub_cancel, aNam_x, y_gR ((y_pt (by decide)).trans t12), y_pE]; rfl
        · show S12.2.1 b = _
          rw [a10 b u, l10]
      · have h5 : n_I (n_up M12 22 ix (.int w)) 5 0 = 1 := by obtain ⟨a, pp, -, -, -, -, g5, -⟩ := a3; unfold n_I; rw [y_uk (by decide)]; exact g5
        obtain ⟨a, pp, g1, g2⟩ := a3
        rw [a1, y_cI, y_sI hix (by omega), y_b, i_tr210 h5, a2]
        refine Or.inr ⟨_, o, S12, rfl, by rw [g1]; rfl, (PF.b ⟨a, pp, g1, g2⟩ (by omega) (by omega)).m (by unfold n_I; rw [y_uk (by decide)]) h5, (gt.trans a4).wk (fun F a u => by unfold eE eN at u; unfold eE; omega) (fun a u => u.elim id (fun u => Or.inl u)), fun k i u => ?_⟩
        rw [n_upo (by omega), a6 k i (by omega), fM k i (by omega) (by omega)]
    · rw [if_neg (by rw [hv1]; decide), if_neg (by rw [hv1]; decide)]
      exact fin N M10 S10 p10 0 P10 i10 b10 p610 qn10 qt10 qa10 (by omega) m21 (by rw [if_pos rfl]; exact m22) (Nat.zero_le _) (by rw [if_pos rfl]; exact tt.ag.gR h104 (by decide) (by unfold eA; omega)) gt (fun b _ => by rw [l10]) (fun k i u => fM k i (by omega) (by omega)) (Nat.le_refl _) (fun _ _ _ _ => rfl)
  · have h5 : n_I M7 5 0 = 1 := by obtain ⟨a, pp, -, -, -, -, g5, -⟩ := e3; exact g5
    have h87 : n_I M7 8 0 = nI (N 9 5) := by unfold n_I; rw [e6 _ _ (by omega), hM6, y_uk (by decide)]; exact q1
    obtain ⟨M', u1, u2, u3⟩ := i_trB h5 h87 q2 hix fu (nI t)
    obtain ⟨a, pp, g1, g2⟩ := e3
    rw [show F_X4_take fu 62 M6 = _ from e1, y_cV, show F_X2_take fu (some (A 1 0)) 62 S = _ from e2]
    refine Or.inr ⟨M', o, S7, u1, by rw [g1]; rfl, PF.m ⟨a, pp, g1, g2⟩ (by unfold n_I; rw [u3 _ _ (by omega)]) u2, e4.wk (fun F a u => u.elim) (fun a u => u.elim), fun k i u => ?_⟩
    rw [u3 k i (by omega), e6 k i (by omega), hM6, n_upo (by omega)]
end RDW
