/-! LAYER 2, reading: a transition, whole -/
set_option maxRecDepth 100000
section RDZa
variable {A : gA} {M0 : gM} {z p bc bk : Nat} {tx : Nat → Nat}
theorem s_trfin {N : gA} {M M25 : gM} {S S25 : gm_S} {op : Nat → Bool} {s t ix tr r2 r3 fu : Nat} {cc : Nat} (hf : 300 ≤ fu) (hi : g_inv M0 S) (hQ : QI A N M S op) (ht : N 9 1 = t) (hna : t < 24) (hix : ix = 24 * N 9 5 + t) (hs : s < N 9 0) (h54 : g_gR S (some (N 10 s)) 5 4 = some (some (N 16 s))) (hB : N 7 0 ≤ gs_n S)
    (htr : tr = gs_n S) (hr2 : r2 = gs_n S + 1) (hr3 : r3 = gs_n S + 2) (g25 : ag (fun F a => ((F = 202 ∨ F = 206) ∧ a = A 1 0) ∨ (1000 ≤ F ∧ F ≤ 1003 ∧ a = tr)) (fun _ => False) S S25) (lo25 : ∀ b, b ≠ r2 → b ≠ r3 → S25.2.1 b = S.2.1 b) (l3 : S25.2.1 r3 = [])
    (fm25 : ∀ k i, ¬ (k = 4 ∨ (k = 10 ∧ i = N 9 5) ∨ ((k = 18 ∨ k = 19 ∨ k = 20) ∧ i = ix)) → M25 k i = M k i) (ttr25 : gs_t S25 tr = 10) (c7 : gs_t S25 r2 = 16) (c8 : gs_t S25 r3 = 16)
    (h10 : g_gR S25 (some tr) 10 3 = some (some r3)) (h102 : g_gR S25 (some tr) 10 2 = some (some r2)) (h100 : g_gR S25 (some tr) 10 0 = some (some (N 10 s))) (h101 : g_gI S25 (some tr) 10 1 = some (nI cc)) (h104 : g_gR S25 (some tr) 10 4 = some none)
    (hM18 : n_I M25 18 ix = nI s) (hM19 : n_I M25 19 ix = nI cc) (hM20 : n_I M25 20 ix = nI (64 * N 9 5 + N 9 2)) (hM10 : n_I M25 10 (N 9 5) = nI (t + 1)) (h206 : g_gI S25 (some (A 1 0)) 2 6 = some (nI (t + 1))) :
    ∀ (N1 : gA) (Me : gM) (Se : gm_S) (pe : Nat), PA A Me Se z tx pe → g_inv M0 Se → PB bc bk Se pe → p < pe → qN A N1 Me Se → qT N1 Me Se → 3 * N1 9 4 + 1 ≤ pe → 3 * N1 9 2 + 1 ≤ pe → exT N N1 → Se.2.1 r2 = (List.range (N1 9 2 - N 9 2)).map (fun j => N1 13 (N 9 2 + j)) → ag (eT A N r2) (fun a => a = N 35 0 ∨ a = r2) S25 Se → (∀ b, b ≠ N 35 0 → b ≠ r2 → Se.2.1 b = S25.2.1 b) → mTe N M25 Me →
      (∃ N' M' S' p', F_X4_readTransition_154 fu (nI ix) (nI t) Me = some (.returned none, M') ∧ F_X2_transition_91 fu (some (A 1 0)) (some (N 10 s)) (some tr) Se = some (.returned none, S') ∧ PA A M' S' z tx p' ∧ g_inv M0 S' ∧ PB bc bk S' p' ∧ p < p' ∧ QI A N' M' S' op ∧ 3 * N' 9 4 ≤ p' ∧ 3 * N' 9 2 ≤ p' ∧ exI N N' ∧ ag (eI A (N 7 0)) (fun a => N 7 0 ≤ a) S S' ∧ mI N M M') ∨
      (∃ M' o S', F_X4_readTransition_154 fu (nI ix) (nI t) Me = some (.returned none, M') ∧ F_X2_transition_91 fu (some (A 1 0)) (some (N 10 s)) (some tr) Se = some (o, S') ∧ PF A M0 bc bk M' o S' ∧ ag (eI A (N 7 0)) (fun a => N 7 0 ≤ a) S S' ∧ mI N M M') := by
  have hix48 : ix < 48 := by have := hQ.2.1.2.1; omega
  obtain ⟨qa, qn, qt, qr, ql, qo, n16⟩ := id hQ
  obtain ⟨q1, q2, -⟩ := id qn
  have z2 : gs_t S r2 = 0 := fresh0 hi (by omega)
  have z3 : gs_t S r3 = 0 := fresh0 hi (by omega)
  have zt : gs_t S tr = 0 := fresh0 hi (by omega)
  have t35 : gs_t S (N 35 0) = 16 := qn.2.2.2.2.1
  have rls : rl N (N 16 s) (2000 + s) := Or.inr (Or.inl ⟨s, hs, Or.inr (Or.inl ⟨rfl, rfl⟩)⟩)
  obtain ⟨u40, us⟩ := ql.1 _ _ rls
  have n35s : N 16 s ≠ N 35 0 := fun w => by rw [w, ql.2.1] at u40; omega
  have n35a : N 35 0 < gs_n S := hi.2.2.2 _ (by rw [t35]; decide)
  have nsa : N 16 s < gs_n S := hi.2.2.2 _ (by rw [us.1]; decide)
  have qo0 : l_ac N t = [] := qo t (by omega)
  have hls : (S.2.1 (N 16 s)).length < 100 := by
    rw [us.2.2, cont_tr (by omega), List.length_map]
    unfold l_tr
    exact Nat.lt_of_le_of_lt (List.length_filter_le _ _) (by rw [List.length_range]; omega)
  intro N1 Me Se pe w1 w2 w3 w4 w5 w6 w7 w8 w9 w10 w11 w12 w13
  have xx := w9.2.2
  have n5 : N1 9 5 = N 9 5 := xx 9 5 (by omega) (by omega) (by omega)
  have n35 : N1 35 0 = N 35 0 := xx 35 0 (by omega) (by omega) (by omega)
  have gSe : ag (fun F a => ((F = 202 ∨ F = 206) ∧ a = A 1 0) ∨ (1000 ≤ F ∧ F ≤ 1003 ∧ a = tr) ∨ ((F = 3 ∨ F = 4) ∧ (a = N 35 0 ∨ a = r2))) (fun a => a = N 35 0 ∨ a = r2) S Se := (g25.trans w11).wk (fun F a w => by unfold eT at w; omega) (fun a w => w.elim (fun w => w.elim) id)
  have fme : ∀ k i, ¬ (k = 4 ∨ k = 5 ∨ k = 38 ∨ k = 39 ∨ ((k = 10 ∨ k = 11 ∨ k = 13) ∧ i = N 9 5) ∨ ((k = 18 ∨ k = 19 ∨ k = 20) ∧ i = ix) ∨ (23 ≤ k ∧ k ≤ 32 ∧ 64 * N 9 5 ≤ i ∧ i < 64 * N 9 5 + 64)) → Me k i = M k i := fun k i w => (w13 k i (by omega)).trans (fm25 k i (by omega))
  have qae : qA A N1 Me Se := qa.mono gSe ⟨fun F b u1 u2 => by omega, by omega⟩ ⟨xx _ _ (by omega) (by omega) (by omega), n5, fun a _ => ⟨xx _ _ (by omega) (by omega) (by omega), xx _ _ (by omega) (by omega) (by omega), xx _ _ (by omega) (by omega) (by omega)⟩⟩ ⟨fme _ _ (by omega), fme _ _ (by omega), fun k a u1 u2 u3 => fme _ _ (by omega)⟩
  have la1 : (l_ac N1 t).map (N1 14) = [] := by
    rw [l_ac_N (N := N) (N' := N1) (xx _ _ (by omega) (by omega) (by omega)) (fun a _ => ⟨xx _ _ (by omega) (by omega) (by omega), xx _ _ (by omega) (by omega) (by omega)⟩) t, qo0]; rfl
  have t3e : gs_t Se r3 = 16 := (w11.2.2 r3 (by rw [c8]; decide)).trans c8
  have t2e : gs_t Se r2 = 16 := (w11.2.2 r2 (by rw [c7]; decide)).trans c7
  have hlse : Se.2.1 (N 16 s) = S.2.1 (N 16 s) := (w12 _ n35s (by omega)).trans (lo25 _ (by omega) (by omega))
  have tse : gs_t Se (N 16 s) = 16 := (gSe.2.2 _ (by rw [us.1]; decide)).trans us.1
  rcases s_tend (st := N 10 s) (rs := N 16 s) (r3 := r3) (tr := tr) (t := t) w1 w2 w3 w5 w6 qae (by omega) (by omega) hix48 ((w11.2.2 tr (by rw [ttr25]; decide)).trans ttr25) (w11.gR h10 (by decide) (by unfold eT; omega)) (w11.gR h104 (by decide) (by unfold eT; omega)) t3e (by rw [w12 r3 (by omega) (by omega), l3, la1]) (gSe.gR h54 (by decide) (by omega)) tse (by rw [hlse]; exact hls) (by omega) (by omega) (by rw [n35]; exact n35s) (fu := fu) (by omega) with ⟨N2, M', S', p', tg, a1, a2, a3, a4, a5, a6, a7, a8, a9, a10, a11, a12, a13, a14, a15, a16, a17, a18, a19, a20⟩ | ⟨M', o, S', a1, a2, a3, a4, a5⟩
  · rw [n5] at a13 a14
    rw [n35] at a18 a19
    have fmt : ∀ k i, ¬ (k = 4 ∨ k = 5 ∨ k = 38 ∨ k = 39 ∨ ((k = 12 ∨ k = 13) ∧ i = N 9 5) ∨ ((k = 21 ∨ k = 22) ∧ i = ix) ∨ (23 ≤ k ∧ k ≤ 25 ∧ 64 * N 9 5 ≤ i ∧ i < 64 * N 9 5 + 64) ∨ (33 ≤ k ∧ k ≤ 37 ∧ 48 * N 9 5 ≤ i ∧ i < 48 * N 9 5 + 48)) → M' k i = Me k i := fun k i u => a20 k i (by rw [n5]; exact u)
    have gS' : ag (fun F a => ((F = 202 ∨ F = 206 ∨ F = 207) ∧ a = A 1 0) ∨ (1000 ≤ F ∧ F ≤ 1004 ∧ a = tr) ∨ ((F = 3 ∨ F = 4) ∧ (a = N 35 0 ∨ a = r2 ∨ a = r3 ∨ a = N 16 s))) (fun a => a = N 35 0 ∨ a = r2 ∨ a = r3 ∨ a = N 16 s) S S' := (gSe.trans a18).wk (fun F a w => by unfold eE at w; rw [n35] at w; omega) (fun a w => by omega)
    have nb35 := ql.2.2
    obtain ⟨Q1, Q2, Q3, Q4⟩ := QI_tr (A := A) (M0 := M0) (op := op) (M := M) (M' := M') (S' := S') (N2 := N2) (tr := tr) (r2 := r2) (r3 := r3) (tg := tg) hi ht hQ hs hna w9 a17 gS' (fun F b u1 u2 u3 u4 => by
        have : b ≠ tr := fun w => u1 (by rw [w]; exact zt)
        omega) (fun b u1 u2 => by
        have : b ≠ r2 := fun w => u1 (by rw [w]; exact z2)
        have : b ≠ r3 := fun w => u1 (by rw [w]; exact z3)
        omega) (fun k i u => (fmt k i (by omega)).trans (fme k i (by omega))) a9 a7 a8 z2 z3 zt (by omega) (by omega) (by omega) ((a18.2.2 r2 (by rw [t2e]; decide)).trans t2e) ((a18.2.2 r3 (by rw [t3e]; decide)).trans t3e)
      (a18.gI (w11.gI h206 (by decide) (by unfold eT; omega)) (by decide) (by unfold eE; omega)) (by unfold n_I; rw [fmt _ _ (by omega), w13 _ _ (by omega)]; exact hM10) (by rw [a19 r2 (by omega) (by omega) (by omega)]; exact w10) a11 (by rw [a12, hlse])
      (by rw [← hix]; unfold n_I; rw [fmt _ _ (by omega), w13 _ _ (by omega)]; exact hM18) (by rw [← hix]; unfold n_I; rw [fmt _ _ (by omega), w13 _ _ (by omega)]; exact hM20) (by rw [← hix]; exact a13) (by rw [← hix]; exact a14) a15
      (a18.gR (w11.gR h100 (by decide) (by unfold eT; omega)) (by decide) (by unfold eE; omega))
      (by
        rw [← hix, show n_I M' 19 ix = nI cc from by unfold n_I; rw [fmt _ _ (by omega), w13 _ _ (by omega)]; exact hM19]
        exact a18.gI (w11.gI h101 (by decide) (by unfold eT; omega)) (by decide) (by unfold eE; omega))
      (a18.gR (w11.gR h102 (by decide) (by unfold eT; omega)) (by decide) (by unfold eE; omega)) (a18.gR (w11.gR h10 (by decide) (by unfold eT; omega)) (by decide) (by unfold eE; omega)) a16
    have nsb := us.2.1
    refine Or.inl ⟨_, M', S', p', a1, a2, a3, a4, a5, by omega, Q1, by rw [Q3]; exact a10, by rw [Q4]; omega, Q2, gS'.fr (fun F a u1 u2 => ?_) (fun a u1 u2 => ?_), fun k i u => (fmt k i (by omega)).trans (fme k i (by omega))⟩
    · have : a ≠ tr := fun w => u1 (by rw [w]; exact zt)
      unfold eI; omega
    · omega
  · have nsb := us.2.1
    have nb35 := ql.2.2
    rw [n35] at a4
    refine Or.inr ⟨M', o, S', a1, a2, a3, (gSe.trans a4).fr (fun F a u1 u2 => ?_) (fun a u1 u2 => ?_), fun k i u => (a5 k i (by rw [n5]; omega)).trans (fme k i (by omega))⟩
    · have : a ≠ tr := fun w => u1 (by rw [w]; exact zt)
      unfold eE at u2
      rw [n35] at u2
      unfold eI; omega
    · omega
theorem s_trans {N : gA} {M : gM} {S : gm_S} {op : Nat → Bool} (h : PA A M S z tx p) (hi : g_inv M0 S) (hb : PB bc bk S p) (hQ : QI A N M S op) (h3 : 3 * N 9 4 ≤ p) (h4 : 3 * N 9 2 ≤ p) (hB : N 7 0 ≤ gs_n S) {s : Nat} (hs : s < N 9 0) (h54 : g_gR S (some (N 10 s)) 5 4 = some (some (N 16 s))) {fu : Nat} (hf : 300 ≤ fu) :
    (∃ N' M' S' p', F_X4_readTransition fu (nI s) M = some (.returned none, M') ∧ F_X2_transition fu (some (A 1 0)) (some (N 10 s)) S = some (.returned none, S') ∧ PA A M' S' z tx p' ∧ g_inv M0 S' ∧ PB bc bk S' p' ∧ p < p' ∧ QI A N' M' S' op ∧ 3 * N' 9 4 ≤ p' ∧ 3 * N' 9 2 ≤ p' ∧ exI N N' ∧ ag (eI A (N 7 0)) (fun a => N 7 0 ≤ a) S S' ∧ mI N M M') ∨
    (∃ M' o S', F_X4_readTransition fu (nI s) M = some (.returned none, M') ∧ F_X2_transition fu (some (A 1 0)) (some (N 10 s)) S = some (o, S') ∧ PF A M0 bc bk M' o S' ∧ ag (eI A (N 7 0)) (fun a => N 7 0 ≤ a) S S' ∧ mI N M M') := by
  have hpz := h.pz
  obtain ⟨qa, qn, qt, qr, ql, qo, n16⟩ := id hQ
  obtain ⟨q1, q2, -⟩ := id qn
  obtain ⟨b, hbb, e1, e2⟩ := s_tr0 h q1 q2 qr fu (nI s) (some (N 10 s))
  rw [e1, e2]
  rcases hbb with ⟨rfl, hok, hna⟩ | ⟨rfl, -⟩
  · obtain ⟨t, ht⟩ : ∃ t, N 9 1 = t := ⟨_, rfl⟩
    rw [ht] at hna
    obtain ⟨hp, hcc⟩ := ct_lo (z := z) (tx := tx) (p := p) (c := 1) (by omega) (by omega)
    have hct := ct_le h
    have htx : tx p ≤ 126 := by omega
    clear hok hcc hct
    obtain ⟨ix, hix⟩ : ∃ ix, ix = 24 * N 9 5 + t := ⟨_, rfl⟩
    have hix48 : ix < 48 := by omega
    obtain ⟨b1, b2, b3, b4⟩ := hb
    have hrd0 : gs_t S (A 1 0) ≠ 0 := by rw [h.1]; decide
    have qr1 := qr.1
    have qr2 := qr.2.1
    rw [ht] at qr1 qr2
    -- the model
    obtain ⟨M15, hM15⟩ : ∃ M15, M15 = n_up (n_up M 10 (N 9 5) (.int (nI (t + 1)))) 18 ix (.int (nI s)) := ⟨_, rfl⟩
    have f15 : ∀ k i, ¬ (k = 10 ∧ i = N 9 5) → ¬ (k = 18 ∧ i = ix) → M15 k i = M k i := fun k i w w' => by rw [hM15, n_upo w', n_upo w]
    -- the component
    obtain ⟨S3, hS3⟩ : ∃ S3, S3 = gs_put S 206 (A 1 0) 0 (.int (nI (t + 1))) := ⟨_, rfl⟩
    have g3 : ag (fun F a => F = 206 ∧ a = A 1 0) (fun _ => False) S S3 := by rw [hS3]; exact ag.put (by decide)
    have i3 : g_inv M0 S3 := by rw [hS3]; exact hi.put (by decide) hrd0
    have s32 : S3.2 = S.2 := by rw [hS3]; rfl
    have n3 : gs_n S3 = gs_n S := by rw [hS3]; rfl
    have cS3 : gs_c S3 = gs_c S := by rw [hS3]; rfl
    have kS3 : gs_k S3 = gs_k S := by rw [hS3]; rfl
    have P3 : PA A M15 S3 z tx p := h.mono g3 (by simp) (fun k i w => f15 k i (by omega) (by omega))
    have gm := ag.mk (S := S3) (t := 10) (w := 8) i3.2.2.2
    have Pa : PA A M15 (g_mk S3 10 8) z tx p := P3.mono gm ⟨fun w => w, fun w => w, fun w => w, fun w => w, fun w => w⟩ (fun _ _ _ => rfl)
    obtain ⟨x1, x2, x3⟩ := s_next Pa fu hp
    obtain ⟨tr, htr⟩ : ∃ tr, tr = gs_n S3 := ⟨_, rfl⟩
    have htrn : tr = gs_n S := htr.trans n3
    obtain ⟨Sb, hSb⟩ : ∃ Sb, Sb = sA A (g_mk S3 10 8) (p + 1) := ⟨_, rfl⟩
    have ts : tA A (g_mk S3 10 8) Sb := by rw [hSb]; exact tA.s
    have ib := ts.inv i3.mk Pa.1
    have tb : gs_t Sb tr = 10 := (ts.t _).trans (by rw [htr]; exact y_mkn)
    have nb : gs_n Sb = gs_n S + 1 := by rw [hSb]; show gs_n S3 + 1 = _; omega
    have cb : gs_c Sb = gs_c S + 1 := by rw [hSb]; show gs_c S3 + 1 = _; rw [hS3]; rfl
    have kb : gs_k Sb = gs_k S + 8 := by rw [hSb]; show gs_k S3 + 8 = _; rw [hS3]; rfl
    have lb : Sb.2.1 = S.2.1 := by rw [hSb]; show S3.2.1 = _; rw [s32]
    have v4b : Sb.1 1004 tr 0 = .null := by
      rw [htr, ts.1 1004 (gs_n S3) 0 (by omega)]
      exact gm_fresh_n (by omega)
    obtain ⟨Sc, c1, c2, c3, c4, c5, c6, c7, c8, c9, c10, c11, c12, c13, c14, c15, c16⟩ := x_tran ib tb (c := tx p) (by omega) (some (N 10 s)) (by omega) (by omega) fu
    rw [nb] at c4 c5 c7 c8 c9 c10 c11 c16
    obtain ⟨M24, hM24⟩ : ∃ M24, M24 = n_up (n_up (n_p M15 4 (nI (p + 1))) 19 ix (.int (nI (tx p)))) 20 ix (.int (nI (64 * N 9 5 + N 9 2))) := ⟨_, rfl⟩
    have f24 : ∀ k i, ¬ (k = 4 ∨ (k = 10 ∧ i = N 9 5) ∨ ((k = 18 ∨ k = 19 ∨ k = 20) ∧ i = ix)) → M24 k i = M k i := fun k i w => by
      rw [hM24, n_upo (by omega), n_upo (by omega)]
      exact (y_uk (by omega)).trans (f15 k i (by omega) (by omega))
    have x3' : PA A (n_p M15 4 (nI (p + 1))) Sb z tx (p + 1) := by rw [hSb]; exact x3
    have tro : tr ≠ A 1 0 := fun w => by have := hi.2.2.2 _ hrd0; omega
    have P24 : PA A M24 Sc z tx (p + 1) := x3'.mono c12 ⟨by omega, by omega, by omega, by omega, by omega⟩ (fun k i w => by rw [hM24, y_uk (by omega), y_uk (by omega)])
    have w8 : n_I (n_up (n_p M15 4 (nI (p + 1))) 19 ix (.int (nI (tx p)))) 8 0 = nI (N 9 5) := by unfold n_I; rw [y_uk (by decide)]; exact (n_po (by decide)).trans (by unfold n_I; rw [f15 _ _ (by omega) (by omega)]; exact q1)
    have w11 : n_I (n_up (n_p M15 4 (nI (p + 1))) 19 ix (.int (nI (tx p)))) 11 (N 9 5) = nI (N 9 2) := by unfold n_I; rw [y_uk (by decide)]; exact (n_po (by decide)).trans (by unfold n_I; rw [f15 _ _ (by omega) (by omega)]; exact qt.1)
    obtain ⟨v, M25, S25, p25, hv, e3, e4, P25, t25, f25⟩ := s_opt P24 fu (c := 63) (by omega) (by omega)
    have hv2 : ∃ _ : Unit, (v = 0 ∧ p25 = p + 1 ∧ M25 = M24 ∧ S25 = Sc ∧ ct z tx (p + 1) ≠ 63 ∨ v = 1 ∧ p25 = p + 1 + 1 ∧ ct z tx (p + 1) = 63) := ⟨(), hv⟩
    have hp25' : p < p25 := by rcases hv with w | w <;> omega
    clear hv
    have hmod : F_X4_readTransition_40 fu (nI s) 1 M = (if v = 0 then F_X4_readTransition_154 fu (nI ix) (nI t) M25 else F_X4_readTransition_141 fu fu (nI ix) (nI t) M25) := by
      unfold F_X4_readTransition_40
      rw [m_want1, y_cV, q1, y_aI (by omega) (by omega), y_b, qr2, h.m5, if_pos rfl, y_b, y_b, nI_1, y_sI (by omega) (by omega), y_b, y_m24, nI_add, ← hix, y_sI hix48 (by omega), y_b, ← hM15, x1, y_cI, y_sI hix48 (by omega), y_b, w8, y_aI (by omega) (by omega), y_b, w11, y_m64, nI_add, y_sI hix48 (by omega), y_b, ← hM24, show F_X4_takes fu 63 M24 = _ from e3, y_cI]
    have hcomp : F_X2_transition_35 fu (some (A 1 0)) (some (N 10 s)) 1 (some (A 1 0)) S = (if v = 0 then F_X2_transition_91 fu (some (A 1 0)) (some (N 10 s)) (some tr) S25 else F_X2_transition_70 fu fu (some (A 1 0)) (some (N 10 s)) (some tr) S25) := by
      unfold F_X2_transition_35
      rw [y_q h.1, c_want1, y_cV, qr1, y_b, nI_1, y_pI h.1, y_b]
      rw [show gs_put S (100 * 2 + 6) (A 1 0) 0 (.int (nI (t + 1))) = S3 from hS3.symm, y_new (by omega) (by omega), y_b]
      dsimp only
      rw [y_q Pa.1, x2, y_cI, ← hSb, ← htr, y_q tb, c1, y_cV, y_q P24.1, show F_X2_takes fu (some (A 1 0)) 63 Sc = _ from e4, y_cI]
    -- frames up to here
    have g25 : ag (fun F a => ((F = 202 ∨ F = 206) ∧ a = A 1 0) ∨ (1000 ≤ F ∧ F ≤ 1003 ∧ a = tr)) (fun _ => False) S S25 := ((((g3.trans gm).trans ts.ag).trans c12).trans t25.ag).wk (fun F a w => by unfold eA at w; rcases w with (((w | w) | w) | w) | w; omega; exact w.elim; omega; omega; omega) (fun a w => by rcases w with (((w | w) | w) | w) | w <;> exact w)
    have l25 : S25.2.1 = Sc.2.1 := by rw [t25.2]
    have lo25 : ∀ b, b ≠ gs_n S + 1 → b ≠ gs_n S + 2 → S25.2.1 b = S.2.1 b := fun b w1 w2 => by rw [l25, c11 b w1 (by omega), lb]
    have i25 := t25.inv c13 P24.1
    have hc25 : gs_c S25 = gs_c S + 3 := by show S25.2.2.2.1 = _; rw [t25.2]; show gs_c Sc = _; omega
    have hk25 : gs_k S25 = gs_k S + 14 := by show S25.2.2.2.2 = _; rw [t25.2]; show gs_k Sc = _; omega
    have hn25 : gs_n S25 = gs_n S + 3 := by show S25.2.2.1 = _; rw [t25.2]; show gs_n Sc = _; omega
    have fm25 : ∀ k i, ¬ (k = 4 ∨ (k = 10 ∧ i = N 9 5) ∨ ((k = 18 ∨ k = 19 ∨ k = 20) ∧ i = ix)) → M25 k i = M k i := fun k i w => (f25 k i (by omega)).trans (f24 k i w)
    obtain ⟨r2, hr2⟩ : ∃ r2, r2 = gs_n S + 1 := ⟨_, rfl⟩
    obtain ⟨r3, hr3⟩ : ∃ r3, r3 = gs_n S + 2 := ⟨_, rfl⟩
    rw [show gs_n S + 1 + 1 = r3 by omega] at c5 c8 c10 c11
    rw [← hr2] at c4 c7 c9 c11 lo25
    rw [← hr3] at lo25
    have z2 : gs_t S r2 = 0 := fresh0 hi (by omega)
    have z3 : gs_t S r3 = 0 := fresh0 hi (by omega)
    have zt : gs_t S tr = 0 := fresh0 hi (by omega)
    have t35 : gs_t S (N 35 0) = 16 := qn.2.2.2.2.1
    have rls : rl N (N 16 s) (2000 + s) := Or.inr (Or.inl ⟨s, hs, Or.inr (Or.inl ⟨rfl, rfl⟩)⟩)
    obtain ⟨u40, us⟩ := ql.1 _ _ rls
    have n35s : N 16 s ≠ N 35 0 := fun w => by rw [w, ql.2.1] at u40; omega
    have n35a : N 35 0 < gs_n S := hi.2.2.2 _ (by rw [t35]; decide)
    have nsa : N 16 s < gs_n S := hi.2.2.2 _ (by rw [us.1]; decide)
    have ttr25 : gs_t S25 tr = 10 := (t25.t tr).trans ((c12.2.2 tr (by rw [tb]; decide)).trans tb)
    have h10 : g_gR S25 (some tr) 10 3 = some (some r3) := t25.ag.gR c5 (by decide) (by unfold eA; omega)
    have h102 : g_gR S25 (some tr) 10 2 = some (some r2) := t25.ag.gR c4 (by decide) (by unfold eA; omega)
    have h100 : g_gR S25 (some tr) 10 0 = some (some (N 10 s)) := t25.ag.gR c2 (by decide) (by unfold eA; omega)
    have h101 : g_gI S25 (some tr) 10 1 = some (nI (tx p)) := t25.ag.gI c3 (by decide) (by unfold eA; omega)
    have h104 : g_gR S25 (some tr) 10 4 = some none := by
      rw [y_gR ttr25, t25.1 _ _ _ (by omega)]
      show some (gm_R (Sc.1 1004 tr 0)) = _
      rw [c6, v4b]; rfl
    have qn25 : qN A N M25 S25 := qn.mono g25 ⟨fun F b w1 w2 => by omega, by omega⟩ (fun w => w) ⟨rfl, rfl, rfl, fun _ _ => rfl⟩ ⟨fm25 _ _ (by omega), fm25 _ _ (by omega), fun k a w1 w2 w3 => fm25 _ _ (by omega)⟩
    have qt25 : qT N M25 S25 := qt.mono g25 (fun F b w1 w2 w3 => by omega) ⟨rfl, rfl, Nat.le_refl _, fun _ _ => rfl, fun _ _ => ⟨rfl, rfl, rfl, rfl⟩⟩ ⟨fm25 _ _ (by omega), fun k a w1 w2 w3 => fm25 _ _ (by omega)⟩
    have qo0 : l_ac N t = [] := qo t (by omega)
    have hls : (S.2.1 (N 16 s)).length < 100 := by
      rw [us.2.2, cont_tr (by omega), List.length_map]
      unfold l_tr
      exact Nat.lt_of_le_of_lt (List.length_filter_le _ _) (by rw [List.length_range]; omega)
    have hM18 : n_I M25 18 ix = nI s := by unfold n_I; rw [f25 _ _ (by omega), hM24, y_uk (by decide), y_uk (by decide)]; show gm_I (n_up M15 4 0 _ 18 ix) = _; rw [y_uk (by decide), hM15, y_us]; rfl
    have hM19 : n_I M25 19 ix = nI (tx p) := by unfold n_I; rw [f25 _ _ (by omega), hM24, y_uk (by decide), y_us]; rfl
    have hM20 : n_I M25 20 ix = nI (64 * N 9 5 + N 9 2) := by unfold n_I; rw [f25 _ _ (by omega), hM24, y_us]; rfl
    have hM10 : n_I M25 10 (N 9 5) = nI (t + 1) := by unfold n_I; rw [f25 _ _ (by omega), hM24, y_uk (by decide), y_uk (by decide)]; show gm_I (n_up M15 4 0 _ 10 _) = _; rw [y_uk (by decide), hM15, y_uk (by decide), y_us]; rfl
    have h206 : g_gI S25 (some (A 1 0)) 2 6 = some (nI (t + 1)) := by
      have a1 : g_gI S3 (some (A 1 0)) 2 6 = some (nI (t + 1)) := by rw [y_gI P3.1, hS3, y_pE]; rfl
      exact t25.ag.gI (c12.gI (ts.ag.gI (gm.gI a1 (by decide) (fun w => w)) (by decide) (by unfold eA; omega)) (by decide) (by omega)) (by decide) (by unfold eA; omega)
    rw [hmod, hcomp]
    obtain ⟨-, hv⟩ := hv2
    rcases hv with ⟨hv0, hp25, hM25, hS25, -⟩ | ⟨hv1, hp25, -⟩
    · rw [if_pos hv0, if_pos hv0]
      refine s_trfin (cc := tx p) hf hi hQ ht hna hix hs h54 hB htrn hr2 hr3 g25 lo25 (by rw [l25]; exact c10) fm25 ttr25 ((t25.t r2).trans c7) ((t25.t r3).trans c8) h10 h102 h100 h101 h104 hM18 hM19 hM20 hM10 h206 N M25 S25 p25 P25 i25 ⟨by omega, by omega, b3, b4⟩ (by omega) qn25 qt25 (by omega) (by omega) exT.refl ?_ (g_none.wk (fun F a w => w.elim) (fun a w => w.elim)) (fun _ _ _ => rfl) (fun _ _ _ => rfl)
      rw [l25, c9, Nat.sub_self]; rfl
    · rw [if_neg (by rw [hv1]; decide), if_neg (by rw [hv1]; decide)]
      have hpz25 := P25.pz
      rcases s_tests (A := A) (M0 := M0) (z := z) (bc := bc) (bk := bk) (tx := tx) (fu := fu) (r := r2) (tr := tr) (f := N 9 2) (by omega) (some (N 10 s)) (nI ix) (nI t) (z - p25) p25 N M25 S25 fu fu rfl (by omega) (by omega) P25 i25 ⟨by omega, by omega, b3, b4⟩ qn25 qt25 (by omega) (by omega) h102 ((t25.t r2).trans c7) (by omega) (Nat.le_refl _) (by rw [l25, c9, Nat.sub_self]; rfl) with ⟨N1, Me, Se, pe, w1, w2, w3, w4, w5, w6, w7, w8, w9, w10, w11, w12, w13, w14, w15, w16⟩ | ⟨Me, o, Se, w1, w2, w3, w4, w5⟩
      · rw [w1, w2]
        exact s_trfin (cc := tx p) hf hi hQ ht hna hix hs h54 hB htrn hr2 hr3 g25 lo25 (by rw [l25]; exact c10) fm25 ttr25 ((t25.t r2).trans c7) ((t25.t r3).trans c8) h10 h102 h100 h101 h104 hM18 hM19 hM20 hM10 h206 N1 Me Se pe w3 w4 w5 (by omega) w7 w8 w9 w10 w11 w13 w14 w15 w16
      · have h5 : n_I Me 5 0 = 1 := by obtain ⟨a, pp, -, -, -, -, g5, -⟩ := w3; exact g5
        have h8e : n_I Me 8 0 = nI (N 9 5) := by unfold n_I; rw [w5 _ _ (by omega), fm25 _ _ (by omega)]; exact q1
        obtain ⟨M', u1, u2, u3⟩ := i_tr154 h5 h8e q2 hix48 fu (nI t)
        rw [w1, w2]
        have nb35 := ql.2.2
        refine Or.inr ⟨M', o, Se, u1, rfl, w3.m (by unfold n_I; rw [u3 _ _ (by omega)]) u2, (g25.trans w4).fr (fun F a u1 u2 => ?_) (fun a u1 u2 => ?_), fun k i u => (u3 k i (by omega)).trans ((w5 k i (by omega)).trans (fm25 k i (by omega)))⟩
        · have : a ≠ tr := fun w => u1 (by rw [w]; exact zt)
          unfold eT at u2
          unfold eI; omega
        · rcases u2 with u2 | u2 | u2
          · exact u2.elim
          · omega
          · omega
  · obtain ⟨f1, f2⟩ := s_fail (bc := bc) (bk := bk) h hi hb fu (some (A 1 0))
    unfold F_X4_readTransition_40 F_X2_transition_35
    have q8' : n_I (n_p M 5 1) 8 0 = nI (N 9 5) := (n_po (by decide)).trans q1
    rw [m_want0, y_cV, q8', y_aI (by omega) (by omega), y_b, n_ps, if_neg (by decide), y_q h.1, f1, y_cVt]
    exact Or.inr ⟨_, _, _, rfl, rfl, f2, (ag.mk hi.2.2.2).wk (fun F a w => w.elim) (fun a w => w.elim), fun k i w => y_uk (by omega)⟩
end RDZa
