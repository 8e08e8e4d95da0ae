/-! LAYER 2, build: the new chart -/
set_option maxRecDepth 100000
section RDZt
variable {A : gA} {M0 : gM} {z p bc bk : Nat} {tx : Nat → Nat}
theorem sB_lt {N : gA} {M : gM} (hN : ∀ i, i < N 9 0 → N 24 i ≤ i) (h : sB N M) {i : Nat} (hi : i < N 9 0) : ∀ k, bt (c_bel N M i) k = true → i < k ∧ k < N 9 0 := by
  intro k
  induction k using Nat.strongRecOn with
  | _ k ih =>
    intro w
    obtain ⟨w1, w2, w3⟩ := (h i k hi).mp w
    have := hN k w1
    rcases w3 with w3 | w3
    · omega
    · have := ih (N 24 k - 1) (by omega) w3
      omega
theorem cW2_sB {N : gA} {M : gM} (hN : ∀ i, i < N 9 0 → N 24 i ≤ i) (h16 : N 9 0 ≤ 16) (h : sB N M) {i : Nat} (hi : i < N 9 0) : cW2 N M i := by
  refine ⟨sB_lt hN h hi, fun j hj q => ?_, fun j k hj hk q1 q2 ne => ?_⟩
  · rw [v_sub]
    exact fun b _ w => sB_sub hN h16 h hi hj q b w
  · rw [v_disj]
    have hij := hN j hj
    have hik := hN k hk
    have key : ∀ b, ¬ (bt (c_sub N M j) b = true ∧ bt (c_sub N M k) b = true) := by
      intro b
      induction b using Nat.strongRecOn with
      | _ b ih =>
        rintro ⟨w1, w2⟩
        have u1 := w1
        have u2 := w2
        unfold c_sub at w1 w2
        rw [b_or, Bool.or_eq_true, v_bt (by omega), decide_eq_true_eq] at w1 w2
        rcases w1 with w1 | w1 <;> rcases w2 with w2 | w2
        · obtain ⟨a1, a2, a3⟩ := (h j b hj).mp w1
          obtain ⟨c1, c2, c3⟩ := (h k b hk).mp w2
          have := hN b a1
          refine ih (N 24 b - 1) (by omega) ⟨?_, ?_⟩
          · unfold c_sub
            rw [b_or, Bool.or_eq_true, v_bt (by omega), decide_eq_true_eq]
            rcases a3 with a3 | a3
            · exact Or.inr (by omega)
            · exact Or.inl a3
          · unfold c_sub
            rw [b_or, Bool.or_eq_true, v_bt (by omega), decide_eq_true_eq]
            rcases c3 with c3 | c3
            · exact Or.inr (by omega)
            · exact Or.inl c3
        · obtain ⟨a1, a2, a3⟩ := (h j b hj).mp w1
          rw [w2, q2] at a3
          rcases a3 with a3 | a3
          · omega
          · have := sB_lt hN h hj _ a3
            omega
        · obtain ⟨a1, a2, a3⟩ := (h k b hk).mp w2
          rw [w1, q1] at a3
          rcases a3 with a3 | a3
          · omega
          · have := sB_lt hN h hk _ a3
            omega
        · omega
    exact fun b _ => key b
/-- the addresses with the new chart -/
def aNew (A N : gA) (Mb : gM) : gA := fun k i => if 7 ≤ k ∧ k ≤ 32 then (if k = 30 then nmS N Mb i else N k i) else A k i
theorem aNew_N {N : gA} {Mb : gM} {k i : Nat} (h1 : 7 ≤ k) (h2 : k ≤ 32) (h3 : k ≠ 30) : aNew A N Mb k i = N k i := by
  unfold aNew
  rw [if_pos ⟨h1, h2⟩, if_neg h3]
theorem new_chart {N : gA} {op : Nat → Bool} {Mb M' Mf : gM} {Sb S' Sf : gm_S} {E : Nat → Nat → Prop} {L : Nat → Prop} {w : Nat} (h : QS A N M0 z tx bc bk op (fun _ => false) Mb Sb p) (hpz : p ≤ 160) (hop : ∀ j, op j = true → j = 0) (h0 : 0 < N 9 0) (hw : N 9 5 = w) (hJ : nJ A N Mb Sb (N 9 4) M' S')
    (g : ag E L S' Sf) (hE : ∀ F b, E F b → ¬ (500 ≤ F ∧ F < 1500)) (hE2 : ∀ b, ¬ E 207 b ∧ ¬ E 206 b) (hL : ∀ b, L b → b < N 7 0) (hMf : ∀ k i, k = 8 ∨ (9 ≤ k ∧ k ≤ 37) → Mf k i = M' k i) (h7 : n_I Mf 7 0 = nI w) : cW (aNew A N Mb) (Mc Mf) ∧ cH (aNew A N Mb) (Mc Mf) Sf := by
  obtain ⟨⟨hP, hi, hb, hQ, h3, h4⟩, hS, hj, ho, hg⟩ := h
  obtain ⟨qa, qn, qt, qr, ql, qo, n16⟩ := id hQ
  obtain ⟨w8, ww, w13, r4, t35, c35, qq, B35, B12⟩ := id qn
  obtain ⟨q1, q2, ⟨l1, l2, l3, l4, l5⟩, q4, q5⟩ := id hS
  obtain ⟨J1, J2, J3, J4⟩ := id hJ
  obtain ⟨A', hA'⟩ : ∃ A', A' = aNew A N Mb := ⟨_, rfl⟩
  rw [← hA']
  have e : ∀ k i, 7 ≤ k → k ≤ 32 → k ≠ 30 → A' k i = N k i := fun k i u1 u2 u3 => by rw [hA']; exact aNew_N u1 u2 u3
  have e30 : ∀ i, A' 30 i = nmS N Mb i := fun i => by rw [hA']; rfl
  have tt : ∀ b, gs_t S' b = gs_t Sb b := fun b => by unfold gs_t; rw [J2 _ _ _ (by unfold eJ; omega)]
  have gJ : ag (eJ A) (fun _ => False) Sb S' := ⟨fun F a i _ q => J2 F a i q, fun a _ _ => by rw [J3], fun a _ => tt a⟩
  have gT : ag (fun F a => eJ A F a ∨ E F a) L Sb Sf := (gJ.trans g).wk (fun F a u => u) (fun a u => u.elim (fun u => u.elim) id)
  have hX : ∀ F b, 500 ≤ F → F < 1500 → F ≠ 1103 → ¬ (eJ A F b ∨ E F b) := fun F b u1 u2 u3 u => by
    rcases u with u | u
    · unfold eJ at u; omega
    · exact hE F b u ⟨u1, u2⟩
  have mm : ∀ k i, 8 ≤ k → k ≤ 37 → k ≠ 23 → Mf k i = Mb k i := fun k i u1 u2 u3 => (hMf k i (by omega)).trans (J1 k i (by omega))
  have mi : ∀ k i, 8 ≤ k → k ≤ 37 → k ≠ 23 → n_I Mf k i = n_I Mb k i := fun k i u1 u2 u3 => by unfold n_I; rw [mm k i u1 u2 u3]
  have n0 : A' 9 0 = N 9 0 := e _ _ (by omega) (by omega) (by omega)
  have n1 : A' 9 1 = N 9 1 := e _ _ (by omega) (by omega) (by omega)
  have n2 : A' 9 2 = N 9 2 := e _ _ (by omega) (by omega) (by omega)
  have n3 : A' 9 3 = N 9 3 := e _ _ (by omega) (by omega) (by omega)
  have n4 : A' 9 4 = N 9 4 := e _ _ (by omega) (by omega) (by omega)
  have n5 : A' 9 5 = N 9 5 := e _ _ (by omega) (by omega) (by omega)
  have n7 : A' 7 0 = N 7 0 := e _ _ (by omega) (by omega) (by omega)
  have e24 : A' 24 = N 24 := by funext i; exact e _ _ (by omega) (by omega) (by omega)
  have e25 : A' 25 = N 25 := by funext i; exact e _ _ (by omega) (by omega) (by omega)
  have e26 : A' 26 = N 26 := by funext i; exact e _ _ (by omega) (by omega) (by omega)
  have e27 : A' 27 = N 27 := by funext i; exact e _ _ (by omega) (by omega) (by omega)
  have e28 : A' 28 = N 28 := by funext i; exact e _ _ (by omega) (by omega) (by omega)
  have e31 : A' 31 = N 31 := by funext i; exact e _ _ (by omega) (by omega) (by omega)
  have e10 : A' 10 = N 10 := by funext i; exact e _ _ (by omega) (by omega) (by omega)
  have e11 : A' 11 = N 11 := by funext i; exact e _ _ (by omega) (by omega) (by omega)
  have e13 : A' 13 = N 13 := by funext i; exact e _ _ (by omega) (by omega) (by omega)
  have e14 : A' 14 = N 14 := by funext i; exact e _ _ (by omega) (by omega) (by omega)
  have lch : ∀ i, l_ch A' i = l_ch N i := fun i => by unfold l_ch; rw [n0, e24]
  have ltr : ∀ i, l_tr A' i = l_tr N i := fun i => by unfold l_tr; rw [n1, e26]
  have lts : ∀ i, l_ts A' i = l_ts N i := fun i => by unfold l_ts; rw [e27, e28]
  have lac : ∀ i, l_ac A' i = l_ac N i := fun i => by unfold l_ac; rw [n3, e31]
  have hN : ∀ i, i < N 9 0 → N 24 i ≤ i := fun i u => (q4 i u).1.2.1
  have ek : ∀ i, c_kind A' Mf i = c_kind N Mb i := fun i => by unfold c_kind; rw [n5, mi _ _ (by omega) (by omega) (by omega)]
  have eb : ∀ i, c_bel A' Mf i = c_bel N Mb i := fun i => by unfold c_bel; rw [n5, mi _ _ (by omega) (by omega) (by omega)]
  have sB' : sB A' Mf := fun i k u => by
    rw [n0] at u
    rw [eb, n0, e24]
    exact q5 i k u
  have hqT : qT A' Mf Sf := qt.mono gT (fun F b u1 u2 u3 => hX F b (by omega) (by omega) (by omega)) ⟨n2, n5, Nat.le_of_eq n4.symm, fun k _ => e _ _ (by omega) (by omega) (by omega), fun j _ => ⟨e _ _ (by omega) (by omega) (by omega), e _ _ (by omega) (by omega) (by omega), e _ _ (by omega) (by omega) (by omega), e _ _ (by omega) (by omega) (by omega)⟩⟩ ⟨mm _ _ (by omega) (by omega) (by omega), fun k a u1 u2 _ => mm _ _ (by omega) (by omega) (by omega)⟩
  have hqA : qA A A' Mf Sf := qa.mono gT ⟨fun F b u1 u2 => hX F b (by omega) (by omega) (by omega), fun u => u.elim (fun u => by unfold eJ at u; omega) (hE2 _).1⟩ ⟨n3, n5, fun a _ => ⟨e _ _ (by omega) (by omega) (by omega), e _ _ (by omega) (by omega) (by omega), e _ _ (by omega) (by omega) (by omega)⟩⟩ ⟨mm _ _ (by omega) (by omega) (by omega), mm _ _ (by omega) (by omega) (by omega), fun k a u1 u2 _ => mm _ _ (by omega) (by omega) (by omega)⟩
  have hR : ∀ t, t < N 9 1 → cW3 A' Mf t ∧ tF A' Mf Sf t := fun t u => tF_mono (qr.2.2.2.1 t u) gT (fun F b u1 u2 => hX F b (by omega) (by omega) (by omega)) n5 (fun k u => e _ _ (by omega) (by omega) (by omega)) (Nat.le_of_eq n0.symm) (fun i _ => e _ _ (by omega) (by omega) (by omega)) (Nat.le_of_eq n2.symm) (Nat.le_of_eq n4.symm) (fun k _ => e _ _ (by omega) (by omega) (by omega)) (fun k u1 u2 => mm _ _ (by omega) (by omega) (by omega))
  have hF : ∀ i, i < N 9 0 → sF A' Mf Sf (fun _ => false) i := fun i u => sF_mono (q4 i u).2 gT (fun F u1 u2 => hX F _ (by omega) (by omega) (by omega)) (fun k u => e _ _ (by omega) (by omega) (by omega)) (fun _ => e _ _ (by omega) (by omega) (by omega)) n5 rfl (mm _ _ (by omega) (by omega) (by omega)) (fun _ => eb i)
  have hLst : ∀ a r, rl N a r → h_L Sf (N 7 0) a (cont N op r) := fun a r u => (ql.1 a r u).2.ag gT (fun q => by have := hL a q; have := (ql.1 a r u).2.2.1; omega)
  have hch : ∀ i, (l_ch N i).filter (fun j => !op j) = l_ch N i := fun i => List.filter_eq_self.mpr (fun a ha => by
    cases eo : op a
    · rfl
    · have z := hop a eo
      have h24 : N 24 a = i + 1 := by unfold l_ch at ha; simpa using (List.mem_filter.mp ha).2
      have := hN a (l_ch_lt ha)
      omega)
  have hCc : ∀ k i, inS (A' 9 5) k i → Mc Mf k i = Mf k i := fun k i q => by
    simp only [Mc]
    rw [if_pos (by unfold inS at q; omega)]
  have W : cW A' Mf := by
    refine ⟨⟨by rw [n5, hw]; exact h7, by rw [n5]; exact ww, by rw [n0]; exact h0, by rw [n0]; exact n16, by rw [n1]; exact qr.2.2.1, by rw [n2]; omega, by rw [n3]; exact qa.2.2.2.1, by rw [n4]; omega, by rw [n5, n0, mi _ _ (by omega) (by omega) (by omega)]; exact q2, by rw [n5, n1, mi _ _ (by omega) (by omega) (by omega)]; exact qr.2.1, by rw [n5, n3, mi _ _ (by omega) (by omega) (by omega)]; exact qa.2.2.1⟩, fun i u => ?_, fun i u => cW2_sB (by rw [n0, e24]; exact hN) (by rw [n0]; exact n16) sB' u, fun t u => (hR t (by omega)).1, fun k u => ?_, fun j u => (hqT.2 j u).1, fun a u => (hqA.2.2.2.2.2 a u).1⟩
    · rw [n0] at u
      obtain ⟨z1, z2, z3, z4, z5, z6, z7⟩ := (q4 i u).1
      unfold cW1
      rw [n5, mi _ _ (by omega) (by omega) (by omega), e24, e25, ek, lch]
      exact ⟨z1, z2, z3, z4 rfl, z5, z6, z7⟩
    · rw [n4] at u
      obtain ⟨z1, z2, -⟩ := J4 k u
      unfold cW4
      rw [n5, n0, e30]
      refine ⟨?_, z2⟩
      unfold n_I
      rw [hMf _ _ (by omega)]
      exact z1
  have H : cH A' Mf Sf := by
    refine ⟨?_, fun i u => ?_, fun t u => ?_, fun k u => ?_, fun j u => (hqT.2 j u).2, fun a u => (hqA.2.2.2.2.2 a u).2, fun t t' u u' ee => ?_⟩
    · have := hLst _ _ (Or.inl ⟨rfl, rfl⟩ : rl N (N 8 0) 1)
      rw [cont_1] at this
      rw [n7, n0, e10, e 8 0 (by omega) (by omega) (by omega)]
      exact this
    · rw [n0] at u
      obtain ⟨f1, f2, f3, f4, f5, f6, f7, f8, -, -⟩ := hF i u
      have r15 := hLst _ _ (Or.inr (Or.inl ⟨i, u, Or.inl ⟨rfl, rfl⟩⟩) : rl N (N 15 i) (1000 + i))
      have r16 := hLst _ _ (Or.inr (Or.inl ⟨i, u, Or.inr (Or.inl ⟨rfl, rfl⟩)⟩) : rl N (N 16 i) (2000 + i))
      have r17 := hLst _ _ (Or.inr (Or.inl ⟨i, u, Or.inr (Or.inr (Or.inl ⟨rfl, rfl⟩))⟩) : rl N (N 17 i) (3000 + i))
      have r18 := hLst _ _ (Or.inr (Or.inl ⟨i, u, Or.inr (Or.inr (Or.inr ⟨rfl, rfl⟩))⟩) : rl N (N 18 i) (4000 + i))
      rw [cont_ch (by omega), hch] at r15
      rw [cont_tr (by omega)] at r16
      rw [cont_en (by omega)] at r17
      rw [cont_ex (by omega)] at r18
      refine ⟨f1, f2, f3, ⟨f4, ?_⟩, ⟨f5, ?_⟩, ⟨f6, ?_⟩, ⟨f7, ?_⟩, f8⟩
      · rw [n7, lch, e10, e 15 i (by omega) (by omega) (by omega)]; exact r15
      · rw [n7, ltr, e11, e 16 i (by omega) (by omega) (by omega)]; exact r16
      · rw [n7, lac, e14, e 17 i (by omega) (by omega) (by omega)]; exact r17
      · rw [n7, lac, e14, e 18 i (by omega) (by omega) (by omega)]; exact r18
    · rw [n1] at u
      obtain ⟨f1, f2, f3, f4, f5⟩ := (hR t u).2
      have n24 := qr.2.2.1
      have r19 := hLst _ _ (Or.inr (Or.inr ⟨t, u, Or.inl ⟨rfl, rfl⟩⟩) : rl N (N 19 t) (5000 + t))
      have r20 := hLst _ _ (Or.inr (Or.inr ⟨t, u, Or.inr ⟨rfl, rfl⟩⟩) : rl N (N 20 t) (6000 + t))
      rw [cont_ts (by omega)] at r19
      rw [cont_ac] at r20
      refine ⟨f1, f2, ⟨f3, ?_⟩, ⟨f4, ?_⟩, f5⟩
      · rw [n7, lts, e13, e 19 t (by omega) (by omega) (by omega)]; exact r19
      · rw [n7, lac, e14, e 20 t (by omega) (by omega) (by omega)]; exact r20
    · rw [n4] at u
      obtain ⟨-, -, z3⟩ := J4 k u
      obtain ⟨l, pl, st, -, -, -, -, -, v3, -, -, v6⟩ := qq k u
      refine ⟨?_, ?_⟩
      · rw [e30, e 12 k (by omega) (by omega) (by omega)]
        exact g.gI z3 (by decide) (fun q => hE _ _ q (by omega))
      · rw [n5, mi _ _ (by omega) (by omega) (by omega), v3, e 12 k (by omega) (by omega) (by omega)]
        exact gT.gI v6 (by decide) (hX _ _ (by omega) (by omega) (by omega))
    · rw [n1] at u u'
      rw [e11] at ee
      exact qr.2.2.2.2 t t' u u' ee
  exact ⟨cW_side W hCc, cH_side W H hCc⟩
end RDZt
