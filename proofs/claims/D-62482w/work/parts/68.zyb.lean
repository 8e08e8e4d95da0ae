/-! LAYER 2, reading: the names are looked up -/
set_option maxRecDepth 100000
section RDZq
variable {A : gA} {M0 : gM} {z p bc bk : Nat} {tx : Nat → Nat}
def nmS (N : gA) (Mb : gM) (k : Nat) : Nat := (n_I Mb 17 (16 * N 9 5 + (n_I Mb 23 (64 * N 9 5 + k)).toNatClampNeg)).toNatClampNeg
def eJ (A : gA) : Nat → Nat → Prop := fun F a => (F = 202 ∧ a = A 1 0) ∨ (F = 1103 ∧ A 36 0 ≤ a)
def nJ (A N : gA) (Mb : gM) (Sb : gm_S) (j : Nat) (M : gM) (S : gm_S) : Prop := (∀ k i, ¬ (k = 23 ∧ 64 * N 9 5 ≤ i ∧ i < 64 * N 9 5 + j) → M k i = Mb k i) ∧ (∀ F a i, ¬ eJ A F a → S.1 F a i = Sb.1 F a i) ∧ S.2 = Sb.2 ∧ ∀ k, k < j → n_I M 23 (64 * N 9 5 + k) = nI (nmS N Mb k) ∧ nmS N Mb k < N 9 0 ∧ g_gI S (some (N 12 k)) 11 3 = some (nI (nmS N Mb k))
theorem s_names {N : gA} {op ob : Nat → Bool} {Mb : gM} {Sb : gm_S} {fu : Nat} (h : QS A N M0 z tx bc bk op ob Mb Sb p) (hnn : N 9 4 ≤ 63) (x1 : Option Nat) : ∀ (e j : Nat) (M : gM) (S : gm_S) (n m : Nat), N 9 4 - j = e → j ≤ N 9 4 → e + 1 < n → e < m → g_inv M0 S → nJ A N Mb Sb j M S →
    (∃ M' S', F_X4_findNames_8 fu n (nI (64 * N 9 5 + j)) M = some (.returned none, M') ∧ F_X2_chart_87 fu m (some (A 1 0)) x1 (nI j) S = some (.returned (some (va_rf x1)), S') ∧ g_inv M0 S' ∧ nJ A N Mb Sb (N 9 4) M' S') ∨
    (∃ M' o S', F_X4_findNames_8 fu n (nI (64 * N 9 5 + j)) M = some (.returned none, M') ∧ F_X2_chart_87 fu m (some (A 1 0)) x1 (nI j) S = some (o, S') ∧ PF A M0 bc bk M' o S' ∧ (∀ k i, ¬ (k = 4 ∨ k = 5 ∨ (k = 23 ∧ 64 * N 9 5 ≤ i ∧ i < 64 * N 9 5 + 64)) → M' k i = Mb k i) ∧ ag (eJ A) (fun _ => False) Sb S') := by
  obtain ⟨⟨hP, hi, hb, hQ, h3, h4⟩, hS, hj, ho, hg⟩ := h
  obtain ⟨qa, qn, qt, qr, ql, qo, n16⟩ := id hQ
  obtain ⟨w8, ww, w13, r4, t35, c35, qq, B35, B12⟩ := id qn
  obtain ⟨q1, q2, ⟨l1, l2, l3, l4, l5⟩, q4, q5⟩ := id hS
  obtain ⟨b1, b2, b3, b4⟩ := hb
  obtain ⟨u81, u82⟩ := ql.1 _ _ (Or.inl ⟨rfl, rfl⟩ : rl N (N 8 0) 1)
  intro e
  induction e with
  | zero =>
    intro j M S n m he hj' hn hm iS hJ
    obtain ⟨n, rfl⟩ : ∃ n', n = n' + 1 := ⟨n - 1, by omega⟩
    obtain ⟨m, rfl⟩ : ∃ m', m = m' + 1 := ⟨m - 1, by omega⟩
    obtain ⟨J1, J2, J3, J4⟩ := id hJ
    have ej : j = N 9 4 := by omega
    have tt : ∀ b, gs_t S b = gs_t Sb b := fun b => by unfold gs_t; rw [J2 _ _ _ (by unfold eJ; omega)]
    have g : ag (eJ A) (fun _ => False) Sb S := ⟨fun F a i _ q => J2 F a i q, fun a _ _ => by rw [J3], fun a _ => tt a⟩
    have m8 : n_I M 8 0 = nI (N 9 5) := by unfold n_I; rw [J1 _ _ (by omega)]; exact w8
    have m13 : n_I M 13 (N 9 5) = nI (N 9 4) := by unfold n_I; rw [J1 _ _ (by omega)]; exact w13
    refine Or.inl ⟨M, S, ?_, ?_, iS, by rw [← ej]; exact hJ⟩
    · rw [F_X4_findNames_8, m8, y_aI (by omega) (by omega), y_b, m13, y_m64, nI_add, ej, if_pos (Int32.le_refl _)]
    · rw [F_X2_chart_87, g.gR r4 (by decide) (by unfold eJ; omega), y_b, y_lsz ((tt _).trans t35), y_b, J3, c35, List.length_map, List.length_range, ej, if_pos (Int32.le_refl _)]
  | succ e ih =>
    intro j M S n m he hj' hn hm iS hJ
    obtain ⟨n, rfl⟩ : ∃ n', n = n' + 2 := ⟨n - 2, by omega⟩
    obtain ⟨m, rfl⟩ : ∃ m', m = m' + 1 := ⟨m - 1, by omega⟩
    obtain ⟨J1, J2, J3, J4⟩ := id hJ
    have hlt : j < N 9 4 := by omega
    have tt : ∀ b, gs_t S b = gs_t Sb b := fun b => by unfold gs_t; rw [J2 _ _ _ (by unfold eJ; omega)]
    have g : ag (eJ A) (fun _ => False) Sb S := ⟨fun F a i _ q => J2 F a i q, fun a _ _ => by rw [J3], fun a _ => tt a⟩
    have mI' : ∀ k i, ¬ (k = 23 ∧ 64 * N 9 5 ≤ i ∧ i < 64 * N 9 5 + j) → n_I M k i = n_I Mb k i := fun k i q => by unfold n_I; rw [J1 k i q]
    obtain ⟨l, pl, st, hl, hst, hpl, v1, v2, v3, v4, v5, v6⟩ := qq j hlt
    obtain ⟨ix, hix⟩ : ∃ ix, ix = 64 * N 9 5 + j := ⟨_, rfl⟩
    have hix2 : ix < 128 := by omega
    have m8 : n_I M 8 0 = nI (N 9 5) := (mI' _ _ (by omega)).trans w8
    have m13 : n_I M 13 (N 9 5) = nI (N 9 4) := (mI' _ _ (by omega)).trans w13
    have m23 : n_I M 23 ix = nI l := by rw [hix, mI' _ _ (by omega)]; exact v1
    have m24 : n_I M 24 ix = nI pl := by rw [hix, mI' _ _ (by omega)]; exact v2
    have m25 : n_I M 25 ix = nI st := by rw [hix, mI' _ _ (by omega)]; exact v3
    have m5 : n_I M 5 0 = 0 := (mI' _ _ (by omega)).trans hP.m5
    obtain ⟨v, hv⟩ : ∃ v, v = n_I Mb 17 (16 * N 9 5 + l) := ⟨_, rfl⟩
    have m17 : n_I M 17 (16 * N 9 5 + l) = v := by rw [hv, mI' _ _ (by omega)]
    have hnm : nmS N Mb j = v.toNatClampNeg := by unfold nmS; rw [v1, nI_clamp (by omega), ← hv]
    -- the component's step
    have t12 : gs_t S (N 12 j) = 11 := by obtain ⟨a, ea, ta, -⟩ := y_gIt v4; cases ea; exact (tt _).trans ta
    have t1 : gs_t S (A 1 0) = 2 := (tt _).trans hP.1
    have n12 : N 12 j ≠ A 1 0 := fun q => by rw [q, t1] at t12; cases t12
    obtain ⟨S7, hS7⟩ : ∃ S7, S7 = gs_put S (100 * 2 + 2) (A 1 0) 0 (.int (nI pl)) := ⟨_, rfl⟩
    have g7 : ag (fun F a => F = 202 ∧ a = A 1 0) (fun _ => False) S S7 := by rw [hS7]; exact ag.put (by decide)
    have t127 : gs_t S7 (N 12 j) = 11 := (g7.2.2 _ (by rw [t12]; decide)).trans t12
    obtain ⟨S11, hS11⟩ : ∃ S11, S11 = gs_put S7 (100 * 11 + 3) (N 12 j) 0 (.int v) := ⟨_, rfl⟩
    have g11 : ag (fun F a => F = 1103 ∧ a = N 12 j) (fun _ => False) S7 S11 := by rw [hS11]; exact ag.put (by decide)
    have i7 : g_inv M0 S7 := by rw [hS7]; exact iS.put (by decide) (by rw [t1]; decide)
    have i11 : g_inv M0 S11 := by rw [hS11]; exact i7.put (by decide) (by rw [t127]; decide)
    have gS11 : ag (eJ A) (fun _ => False) Sb S11 := ((g.trans g7).trans g11).wk (fun F a q => by
      have := B12 j hlt
      unfold eJ at q ⊢; omega) (fun a q => by rcases q with (q | q) | q <;> exact q)
    have a34b : gs_t S7 (A 34 1) = 100 := (g7.2.2 _ (by rw [tt, l2]; decide)).trans ((tt _).trans l2)
    have n34b : gm_N (S7.1 1 (A 34 1) 0) = 16 := by rw [g7.1 _ _ _ (by rw [tt, l2]; decide) (by omega), J2 _ _ _ (by unfold eJ; omega)]; exact l3
    have e97 : nI (97 + l) - 97 = nI l := by
      have := pk_sub (a := 97 + l) (b := 97) (by omega)
      rw [show 97 + l - 97 = l by omega] at this
      exact this
    have eaI : g_aI S7 (some (A 34 1)) 0 (nI l) = some v := by
      unfold g_aI
      rw [y_el (t := 0) a34b n34b hl (by omega)]
      show some (gm_I (S7.1 2 (A 34 1) l)) = _
      rw [g7.1 _ _ _ (by rw [tt, l2]; decide) (by omega), J2 _ _ _ (by unfold eJ; omega), (l4 l hl).1, hv]
    have hget : g_lget S (some (N 35 0)) (nI j) = some (N 12 j) := y_lget ((tt _).trans t35) (by omega) (by rw [J3, c35, List.getElem?_map, List.getElem?_range hlt]; rfl)
    have c3 : g_gI S11 (some (N 12 j)) 11 3 = some v := by rw [y_gI ((g11.2.2 _ (by rw [t127]; decide)).trans t127), hS11, y_pE]; rfl
    have t111 : gs_t S11 (A 1 0) = 2 := (gS11.2.2 _ (by rw [hP.1]; decide)).trans hP.1
    have hcomp : F_X2_chart_87 fu (m + 1) (some (A 1 0)) x1 (nI j) S = (if v < 0 then (F_X2_chart_174 fu (F_X2_chart_87 fu m) (some (A 1 0)) x1 (nI j) (0 : Int32) (some (A 1 0)) S11)
        else (if nI st = 0 then (F_X2_chart_174 fu (F_X2_chart_87 fu m) (some (A 1 0)) x1 (nI j) (1 : Int32) (some (A 1 0)) S11)
        else (Option.bind (g_lget S11 (some (N 8 0)) v) fun v16 =>
        gz_q (g_at S11 (some v16) 5) (
        Option.bind (g_gI S11 (some v16) 5 2) fun v18 =>
        if v18 = 0 then (F_X2_chart_174 fu (F_X2_chart_87 fu m) (some (A 1 0)) x1 (nI j) (0 : Int32) (some (A 1 0)) S11)
        else (F_X2_chart_174 fu (F_X2_chart_87 fu m) (some (A 1 0)) x1 (nI j) (1 : Int32) (some (A 1 0)) S11))))) := by
      rw [F_X2_chart_87, g.gR r4 (by decide) (by unfold eJ; omega), y_b, y_lsz ((tt _).trans t35), y_b, J3, c35, List.length_map, List.length_range, if_neg (nI_ge hlt (by omega)), y_b, hget, y_b, y_q t12, g.gI v5 (by decide) (by unfold eJ; omega), y_b, y_pI t1, y_b, ← hS7, g7.gR (g.gR l1 (by decide) (by unfold eJ; omega)) (by decide) (by omega), y_b, g7.gI (g.gI v4 (by decide) (by unfold eJ; omega)) (by decide) (by omega), y_b, e97, eaI, y_b, y_pI t127, y_b, ← hS11, c3, y_b, gS11.gI v6 (by decide) (by unfold eJ; omega), y_b, gS11.gR q1 (by decide) (by unfold eJ; omega), y_b, y_b]
    have hmod : F_X4_findNames_8 fu (n + 2) (nI ix) M = (if v < 0 then (F_X4_findNames_86 fu (F_X4_findNames_8 fu (n + 1)) (nI ix) v M)
        else (if nI st ≤ 0 then (F_X4_findNames_101 fu (F_X4_findNames_8 fu (n + 1)) (nI ix) v M)
        else (Option.bind (n_aI M 14 32 (((16 : Int32) * (nI (N 9 5))) + v)) fun v15 =>
        if v15 = 0 then (F_X4_findNames_86 fu (F_X4_findNames_8 fu (n + 1)) (nI ix) v M)
        else (F_X4_findNames_101 fu (F_X4_findNames_8 fu (n + 1)) (nI ix) v M)))) := by
      rw [F_X4_findNames_8, m8, y_aI (by omega) (by omega), y_b, m13, y_m64, nI_add, if_neg (nI_ge (a := ix) (b := 64 * N 9 5 + N 9 4) (by omega) (by omega)), m5, if_pos rfl, y_aI hix2 (by omega), y_b, m23, y_m16, nI_add, y_aI (by omega) (by omega), y_b, m17, y_aI hix2 (by omega), y_b, m25]
    -- it fails
    have bad : ∃ M' o S', F_X4_findNames_86 fu (F_X4_findNames_8 fu (n + 1)) (nI ix) v M = some (.returned none, M') ∧ F_X2_chart_174 fu (F_X2_chart_87 fu m) (some (A 1 0)) x1 (nI j) (0 : Int32) (some (A 1 0)) S11 = some (o, S') ∧ PF A M0 bc bk M' o S' ∧ (∀ k i, ¬ (k = 4 ∨ k = 5 ∨ (k = 23 ∧ 64 * N 9 5 ≤ i ∧ i < 64 * N 9 5 + 64)) → M' k i = Mb k i) ∧ ag (eJ A) (fun _ => False) Sb S' := by
      have cS : gs_c S11 = gs_c Sb := by rw [hS11, hS7]; show S.2.2.2.1 = _; rw [J3]
      have kS : gs_k S11 = gs_k Sb := by rw [hS11, hS7]; show S.2.2.2.2 = _; rw [J3]
      obtain ⟨M2, hM2⟩ : ∃ M2, M2 = n_up (n_p (n_p M 5 1) 4 (nI pl)) 23 ix (.int v) := ⟨_, rfl⟩
      have f2 : ∀ k i, ¬ (k = 4 ∨ k = 5 ∨ (k = 23 ∧ i = ix)) → M2 k i = M k i := fun k i q => by rw [hM2, n_upo (by omega)]; exact (y_uk (by omega)).trans (y_uk (by omega))
      have e5 : n_I M2 5 0 = 1 := by unfold n_I; rw [hM2, y_uk (by decide)]; exact (n_po (by decide)).trans n_ps
      have gmk := ag.mk (S := S11) (t := 17) (w := 6) i11.2.2.2
      refine ⟨M2, .threw (gs_n S11), g_mk S11 17 6, ?_, ?_, ⟨gs_n S11, pl, rfl, y_mkn, gmk.gI (g11.gI (by rw [y_gI ((g7.2.2 _ (by rw [t1]; decide)).trans t1), hS7, y_pE]; rfl : g_gI S7 (some (A 1 0)) 2 2 = some (nI pl)) (by decide) (by omega)) (by decide) (fun q => q), by unfold n_I; rw [hM2, y_uk (by decide)]; exact n_ps, e5, i11.mk, ?_, ?_, hpl⟩, fun k i q => (f2 k i (by omega)).trans (J1 k i (by omega)), (gS11.trans gmk).wk (fun F a q => q.elim id (fun q => q.elim)) (fun a q => q.elim id id)⟩
      · unfold F_X4_findNames_86 F_X4_findNames_101
        rw [show n_pZO M 5 1 = some (n_p M 5 1) from rfl, y_b, y_aI hix2 (by omega), y_b, show n_I (n_p M 5 1) 24 ix = nI pl from (n_po (by decide)).trans m24, show n_pIO (n_p M 5 1) 4 (nI pl) = some (n_p (n_p M 5 1) 4 (nI pl)) from rfl, y_b, y_sI hix2 (by omega), y_b, ← hM2, F_X4_findNames_8]
        have z8 : n_I M2 8 0 = nI (N 9 5) := by unfold n_I; rw [f2 _ _ (by omega)]; exact m8
        rw [z8, y_aI (by omega) (by omega), y_b, e5]
        by_cases q : (64 : Int32) * nI (N 9 5) + n_I M2 13 (N 9 5) ≤ nI ix + 1
        · rw [if_pos q]
        · rw [if_neg q, if_neg (by decide)]
      · unfold F_X2_chart_174 F_X2_want
        rw [y_q t111, if_pos rfl, y_new (by omega) (by omega), y_b, y_cVt]
      · show gs_c S11 + 1 ≤ _; omega
      · show gs_k S11 + 6 ≤ _; omega
    -- it goes on
    have good : ∀ k, v = nI k → k < N 9 0 → (∃ M' S', F_X4_findNames_101 fu (F_X4_findNames_8 fu (n + 1)) (nI ix) v M = some (.returned none, M') ∧ F_X2_chart_174 fu (F_X2_chart_87 fu m) (some (A 1 0)) x1 (nI j) (1 : Int32) (some (A 1 0)) S11 = some (.returned (some (va_rf x1)), S') ∧ g_inv M0 S' ∧ nJ A N Mb Sb (N 9 4) M' S') ∨
        (∃ M' o S', F_X4_findNames_101 fu (F_X4_findNames_8 fu (n + 1)) (nI ix) v M = some (.returned none, M') ∧ F_X2_chart_174 fu (F_X2_chart_87 fu m) (some (A 1 0)) x1 (nI j) (1 : Int32) (some (A 1 0)) S11 = some (o, S') ∧ PF A M0 bc bk M' o S' ∧ (∀ k i, ¬ (k = 4 ∨ k = 5 ∨ (k = 23 ∧ 64 * N 9 5 ≤ i ∧ i < 64 * N 9 5 + 64)) → M' k i = Mb k i) ∧ ag (eJ A) (fun _ => False) Sb S') := by
      intro k hk1 hk2
      have hnk : nmS N Mb j = k := by rw [hnm, hk1, nI_clamp (by omega)]
      unfold F_X4_findNames_101 F_X2_chart_174
      rw [y_sI hix2 (by omega), y_b, nI_1, y_q t111, c_want1, y_cV, nI_1, show ix + 1 = 64 * N 9 5 + (j + 1) by omega]
      refine ih (j + 1) _ S11 (n + 1) m (by omega) (by omega) (by omega) (by omega) i11 ⟨fun a i q => ?_, fun F a i q => ?_, ?_, fun a ha => ?_⟩
      · rw [n_upo (by omega)]; exact J1 a i (by omega)
      · have := B12 j hlt
        rw [hS11, y_pM (by unfold eJ at q; omega), hS7, y_pM (by unfold eJ at q; omega)]
        exact J2 F a i q
      · rw [hS11, hS7]; exact J3
      · by_cases ea : a = j
        · rw [ea, hnk, ← hix]
          refine ⟨by unfold n_I; rw [y_us, hk1]; rfl, hk2, by rw [c3, hk1]⟩
        · obtain ⟨z1, z2, z3⟩ := J4 a (by omega)
          refine ⟨by unfold n_I; rw [n_upo (by omega)]; exact z1, z2, ?_⟩
          by_cases e12 : N 12 a = N 12 j
          · obtain ⟨l', -, -, hl', -, -, v1', -, -, v4', -⟩ := qq a (by omega)
            rw [e12, v4] at v4'
            have := (nI_eq (a := 97 + l) (b := 97 + l') (by omega) (by omega)).mp (Option.some.inj v4')
            have : nmS N Mb a = nmS N Mb j := by unfold nmS; rw [v1, v1', show l' = l by omega]
            rw [e12, this, hnk, c3, hk1]
          · exact g11.gI (g7.gI z3 (by decide) (by omega)) (by decide) (by omega)
    rw [← hix, hmod, hcomp]
    rcases (l4 l hl).2 with ev | ⟨k, hk, ev⟩
    · rw [← hv] at ev
      have n0 : v < (0 : Int32) := by rw [ev]; decide
      rw [if_pos n0, if_pos n0]
      exact Or.inr bad
    · rw [← hv] at ev
      have n0 : ¬ v < (0 : Int32) := by rw [ev]; exact fun q => by have := (nI_ltI (a := k) (b := 0) (by omega) (by omega)).mp q; omega
      rw [if_neg n0, if_neg n0]
      by_cases es : st = 0
      · have s1 : nI st ≤ (0 : Int32) := (nI_leI (a := st) (b := 0) (by omega) (by omega)).mpr (by omega)
        have s2 : nI st = (0 : Int32) := by rw [es]; rfl
        rw [if_pos s1, if_pos s2]
        exact good k ev hk
      · have s1 : ¬ nI st ≤ (0 : Int32) := fun q => by have := (nI_leI (a := st) (b := 0) (by omega) (by omega)).mp q; omega
        have s2 : ¬ nI st = (0 : Int32) := fun q => by have := (nI_eq (a := st) (b := 0) (by omega) (by omega)).mp q; omega
        have hgk : g_lget S11 (some (N 8 0)) (nI k) = some (N 10 k) := y_lget ((gS11.2.2 _ (by rw [u82.1]; decide)).trans u82.1) (by omega) (by
          rw [show S11.2.1 = Sb.2.1 from by rw [hS11, hS7]; show S.2.1 = _; rw [J3], u82.2.2, cont_1, List.getElem?_map, List.getElem?_range hk]; rfl)
        have f2 := (q4 k hk).2.2.2.1
        have tk : gs_t S11 (N 10 k) = 5 := by obtain ⟨a, ea, ta, -⟩ := y_gIt f2; cases ea; exact (gS11.2.2 _ (by rw [ta]; decide)).trans ta
        have m14 : n_I M 14 (16 * N 9 5 + k) = c_kind N Mb k := mI' _ _ (by omega)
        rw [if_neg s1, if_neg s2, ev, hgk, y_b, y_q tk, gS11.gI f2 (by decide) (by unfold eJ; omega), y_b, y_m16, nI_add, y_aI (by omega) (by omega), y_b, m14]
        rw [ev] at bad good
        by_cases ek : c_kind N Mb k = 0
        · rw [if_pos ek, if_pos ek]
          exact Or.inr bad
        · rw [if_neg ek, if_neg ek]
          exact good k rfl hk
end RDZq
