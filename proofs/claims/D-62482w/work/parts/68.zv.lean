/-! LAYER 2, reading: items of a state: the tables -/
set_option maxRecDepth 100000
section RDZb
variable {A : gA} {M0 : gM} {z p bc bk : Nat} {tx : Nat → Nat}
theorem qJ_mono {N N' : gA} {M M' : gM} {S S' : gm_S} {E : Nat → Nat → Prop} {L : Nat → Prop} (ha : qA A N M S) (hn : qN A N M S) (ht : qT N M S) (hr : qR A N M S) (g : ag E L S S') (hE : ∀ F b, E F b → F < 204 ∨ F = 205 ∨ (500 ≤ F ∧ F < 600)) (hL : ¬ L (N 35 0)) (hc : ∀ c, 1 ≤ c → c ≤ 5 → N' 9 c = N 9 c) (h35 : N' 35 0 = N 35 0) (h0 : N 9 0 ≤ N' 9 0) (h10 : ∀ i, i < N 9 0 → N' 10 i = N 10 i) (hN : ∀ k i, (11 ≤ k ∧ k ≤ 14) ∨ (19 ≤ k ∧ k ≤ 23) ∨ (26 ≤ k ∧ k ≤ 32) → N' k i = N k i) (hM : ∀ k i, k = 8 ∨ (10 ≤ k ∧ k ≤ 13) ∨ (18 ≤ k ∧ k ≤ 37) → M' k i = M k i) : qA A N' M' S' ∧ qN A N' M' S' ∧ qT N' M' S' ∧ qR A N' M' S' := by
  have hX : ∀ F b, ¬ (F < 204 ∨ F = 205 ∨ (500 ≤ F ∧ F < 600)) → ¬ E F b := fun F b w1 w2 => w1 (hE F b w2)
  have c1 := hc 1 (by omega) (by omega)
  have c5 := hc 5 (by omega) (by omega)
  refine ⟨ha.mono g ⟨fun F b u1 u2 => hX F b (by omega), hX _ _ (by omega)⟩ ⟨hc 3 (by omega) (by omega), c5, fun a _ => ⟨hN _ _ (by omega), hN _ _ (by omega), hN _ _ (by omega)⟩⟩ ⟨hM _ _ (by omega), hM _ _ (by omega), fun k a u1 u2 _ => hM _ _ (by omega)⟩,
    hn.mono g ⟨fun F b u1 u2 => hX F b (by omega), hX _ _ (by omega)⟩ hL ⟨hc 4 (by omega) (by omega), c5, h35, fun k _ => hN _ _ (by omega)⟩ ⟨hM _ _ (by omega), hM _ _ (by omega), fun k a u1 u2 _ => hM _ _ (by omega)⟩,
    ht.mono g (fun F b u1 u2 u3 => hX F b (by omega)) ⟨hc 2 (by omega) (by omega), c5, Nat.le_of_eq (hc 4 (by omega) (by omega)).symm, fun k _ => hN _ _ (by omega), fun j _ => ⟨hN _ _ (by omega), hN _ _ (by omega), hN _ _ (by omega), hN _ _ (by omega)⟩⟩ ⟨hM _ _ (by omega), fun k a u1 u2 _ => hM _ _ (by omega)⟩, ?_⟩
  obtain ⟨r1, r2, r3, r4, r5⟩ := hr
  refine ⟨by rw [c1]; exact g.gI r1 (by decide) (hX _ _ (by omega)), by rw [c1, c5]; unfold n_I; rw [hM _ _ (by omega)]; exact r2, by rw [c1]; exact r3, fun t u => ?_, fun t t' u u' e => ?_⟩
  · rw [c1] at u
    exact tF_mono (r4 t u) g (fun F b u1 u2 => hX F b (by omega)) c5 (fun k w => hN _ _ (by omega)) h0 h10 (Nat.le_of_eq (hc 2 (by omega) (by omega)).symm) (Nat.le_of_eq (hc 4 (by omega) (by omega)).symm) (fun k _ => hN _ _ (by omega)) (fun k u1 u2 => hM _ _ (by omega))
  · rw [c1] at u u'
    rw [hN _ _ (by omega), hN _ _ (by omega)] at e
    exact r5 t t' u u' e
theorem QI.at' {N : gA} {M M' : gM} {S S' : gm_S} {op : Nat → Bool} (h : QI A N M S op) (g : tA A S S') (hM : ∀ k i, k ≠ 4 → M' k i = M k i) : QI A N M' S' op := by
  obtain ⟨qa, qn, qt, qr, ql, qo, n16⟩ := h
  obtain ⟨j1, j2, j3, j4⟩ := qJ_mono (N' := N) (M' := M') qa qn qt qr g.ag (fun F b w => by unfold eA at w; omega) (fun w => w) (fun _ _ _ => rfl) rfl (Nat.le_refl _) (fun _ _ => rfl) (fun _ _ _ => rfl) (fun k i w => hM k i (by omega))
  exact ⟨j1, j2, j3, j4, ⟨fun a r u => ⟨(ql.1 a r u).1, (ql.1 a r u).2.ag g.ag (fun w => w)⟩, ql.2⟩, qo, n16⟩
/-- actions of a state -/
theorem QI_ac {N N' : gA} {M M' : gM} {S S' : gm_S} {op : Nat → Bool} {s r0 o a0 : Nat} (hQ : QI A N M S op) (hs : s < N 9 0) (ho : (r0 = 3000 + s ∧ o = 100 + s) ∨ (r0 = 4000 + s ∧ o = 200 + s)) (ha : rl N a0 r0) (x : exA N N' o) (qa : qA A N' M' S') (g : ag (eR A a0) (fun a => a = a0) S S') (hr : S'.2.1 a0 = (l_ac N' o).map (N' 14)) (m : mAcs N M M') : QI A N' M' S' op ∧ exI N N' ∧ N' 9 4 = N 9 4 ∧ N' 9 2 = N 9 2 := by
  obtain ⟨qa0, qn, qt, qr, ql, qo, n16⟩ := hQ
  obtain ⟨x1, x2, x3⟩ := x
  have e : ∀ k i, ¬ (k = 9 ∧ i = 3) → ¬ ((k = 14 ∨ k = 31 ∨ k = 23) ∧ N 9 3 ≤ i) → N' k i = N k i := x2
  have n0 : N' 9 0 = N 9 0 := e _ _ (by omega) (by omega)
  have n1 : N' 9 1 = N 9 1 := e _ _ (by omega) (by omega)
  have n5 : N' 9 5 = N 9 5 := e _ _ (by omega) (by omega)
  have n7 : N' 7 0 = N 7 0 := e _ _ (by omega) (by omega)
  have n24 := qr.2.2.1
  have k : ∀ k, k ≠ 9 → k ≠ 14 → k ≠ 31 → k ≠ 23 → N' k = N k := fun k u1 u2 u3 u4 => by funext i; exact e k i (by omega) (by omega)
  obtain ⟨u40, u0⟩ := ql.1 _ _ ha
  have n35 : N 35 0 ≠ a0 := fun w => by rw [← w, ql.2.1] at u40; exact rl_pos ha u40.symm
  have rle : ∀ a r, rl N' a r → rl N a r := fun a r u => by
    unfold rl at u ⊢
    rw [n0, n1, k 8 (by omega) (by omega) (by omega) (by omega), k 15 (by omega) (by omega) (by omega) (by omega), k 16 (by omega) (by omega) (by omega) (by omega), k 17 (by omega) (by omega) (by omega) (by omega), k 18 (by omega) (by omega) (by omega) (by omega), k 19 (by omega) (by omega) (by omega) (by omega), k 20 (by omega) (by omega) (by omega) (by omega)] at u
    exact u
  have lch : ∀ i, l_ch N' i = l_ch N i := fun i => by unfold l_ch; rw [n0, k 24 (by omega) (by omega) (by omega) (by omega)]
  have ltr : ∀ i, l_tr N' i = l_tr N i := fun i => by unfold l_tr; rw [n1, k 26 (by omega) (by omega) (by omega) (by omega)]
  have lts : ∀ i, l_ts N' i = l_ts N i := fun i => by unfold l_ts; rw [k 27 (by omega) (by omega) (by omega) (by omega), k 28 (by omega) (by omega) (by omega) (by omega)]
  have k10 := k 10 (by omega) (by omega) (by omega) (by omega)
  have k11 := k 11 (by omega) (by omega) (by omega) (by omega)
  have k13 := k 13 (by omega) (by omega) (by omega) (by omega)
  have oth : ∀ a r, rl N a r → r ≠ r0 → cont N' op r = cont N op r := fun a r u1 u2 => by
    rcases u1 with ⟨h1, h2⟩ | ⟨i, hi', hc⟩ | ⟨t', ht', hc⟩
    · rw [h1, cont_1, cont_1, n0, k10]
    · rcases hc with ⟨h1, h2⟩ | ⟨h1, h2⟩ | ⟨h1, h2⟩ | ⟨h1, h2⟩
      · rw [h1, cont_ch (by omega), cont_ch (by omega), lch, k10]
      · rw [h1, cont_tr (by omega), cont_tr (by omega), ltr, k11]
      · rw [h1, cont_en (by omega), cont_en (by omega), x3 _ (by omega)]
      · rw [h1, cont_ex (by omega), cont_ex (by omega), x3 _ (by omega)]
    · rcases hc with ⟨h1, h2⟩ | ⟨h1, h2⟩
      · rw [h1, cont_ts (by omega), cont_ts (by omega), lts, k13]
      · rw [h1, cont_ac, cont_ac, x3 _ (by omega)]
  refine ⟨⟨qa, qn.mono g ⟨fun F b u1 u2 => by unfold eR; omega, by unfold eR; omega⟩ n35 ⟨e _ _ (by omega) (by omega), n5, e _ _ (by omega) (by omega), fun k _ => e _ _ (by omega) (by omega)⟩ ⟨m _ _ (by omega), m _ _ (by omega), fun k a u1 u2 _ => m _ _ (by omega)⟩, qt.mono g (fun F b u1 u2 u3 => by unfold eR; omega) ⟨e _ _ (by omega) (by omega), n5, Nat.le_of_eq (e _ _ (by omega) (by omega)).symm, fun k _ => e _ _ (by omega) (by omega), fun j _ => ⟨e _ _ (by omega) (by omega), e _ _ (by omega) (by omega), e _ _ (by omega) (by omega), e _ _ (by omega) (by omega)⟩⟩ ⟨m _ _ (by omega), fun k a u1 u2 _ => m _ _ (by omega)⟩, ?_, ⟨fun a r u => ?_, ?_, ?_⟩, fun o' u => ?_, by rw [n0]; exact n16⟩, fun k i u => e _ _ (by omega) (by omega), e _ _ (by omega) (by omega), e _ _ (by omega) (by omega)⟩
  · obtain ⟨r1, r2, r3, r4, r5⟩ := qr
    refine ⟨by rw [n1]; exact g.gI r1 (by decide) (by unfold eR; omega), by rw [n1, n5]; unfold n_I; rw [m _ _ (by omega)]; exact r2, by rw [n1]; exact r3, fun t u => ?_, fun t t' u u' ee => ?_⟩
    · rw [n1] at u
      exact tF_mono (r4 t u) g (fun F b u1 u2 => by unfold eR; omega) n5 (fun k w => e _ _ (by omega) (by omega)) (Nat.le_of_eq n0.symm) (fun i _ => e _ _ (by omega) (by omega)) (Nat.le_of_eq (e _ _ (by omega) (by omega)).symm) (Nat.le_of_eq (e _ _ (by omega) (by omega)).symm) (fun k _ => e _ _ (by omega) (by omega)) (fun k u1 u2 => m _ _ (by omega))
    · rw [n1] at u u'
      rw [k11] at ee
      exact r5 t t' u u' ee
  · have u' := rle a r u
    obtain ⟨w1, w2⟩ := ql.1 a r u'
    rw [n7, k 40 (by omega) (by omega) (by omega) (by omega)]
    refine ⟨w1, ?_⟩
    by_cases ea : a = a0
    · have er : r = r0 := by rw [ea, u40] at w1; exact w1.symm
      rw [ea, er]
      refine ⟨(g.2.2 _ (by rw [u0.1]; decide)).trans u0.1, u0.2.1, ?_⟩
      rw [hr]
      rcases ho with ⟨h1, h2⟩ | ⟨h1, h2⟩
      · rw [h1, h2, cont_en (by omega)]
      · rw [h1, h2, cont_ex (by omega)]
    · have er : r ≠ r0 := fun w => ea (rl_un n16 n24 u' (by rw [w]; exact ha))
      rw [oth a r u' er]
      exact w2.ag g ea
  · rw [k 40 (by omega) (by omega) (by omega) (by omega), k 35 (by omega) (by omega) (by omega) (by omega)]
    exact ql.2.1
  · rw [n7, k 35 (by omega) (by omega) (by omega) (by omega)]
    exact ql.2.2
  · rw [n0, n1] at u
    have := x3 o' (by omega)
    rw [qo o' u] at this
    exact List.map_eq_nil_iff.mp this
end RDZb
