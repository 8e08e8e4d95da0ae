/-! LAYER 2: build, a new chart, both sides -/
set_option maxRecDepth 100000
section RDZz
variable {A : gA} {M0 : gM}
theorem L_buildS {N : gA} {op : Nat → Bool} {M M1 M' Mb : gM} {S S1 S3 Sb : gm_S} {w fu z bc bk p x : Nat} {tx : Nat → Nat} (hf : 400 ≤ fu) (hB : A 36 0 = gs_n S) (h : RL A M0 M S) (hw : w < 2) (hb : A 33 0 + 1300 ≤ 599900) (hb' : A 33 1 + 64200 ≤ 7300000) (hS1 : S1 = gs_put S (100 * 1 + 3) (A 0 0) 0 (.int (-1))) (f1 : F_X2_chart fu (some (A 1 0)) S1 = some (.returned (some (va_rf (some x))), S3)) (hQ : QS A N M0 z tx bc bk op (fun _ => false) Mb Sb p) (hbc : bc ≤ gs_c S + 1282) (hbk : bk ≤ gs_k S + 64006) (hop : ∀ j, op j = true → j = 0) (h0 : 0 < N 9 0) (hw' : N 9 5 = w) (h7' : N 7 0 = gs_n S) (i3 : g_inv M0 S3) (hJ : nJ A N Mb Sb (N 9 4) M' S3) (f3 : xS A w (gs_n S) M1 S1 Mb Sb) (hM : ∀ k i, 40 ≤ k → M1 k i = M k i) :
    ∃ v M'' o S', F_X4_build_126 fu M' = some (.returned (some (.int v)), M'') ∧ F_X1_build fu (some (A 0 0)) S = some (o, S') ∧ rW (aNew A N Mb) M0 (A 33 0 + 1300) (A 33 1 + 64200) 16 v M'' o S' ∧ ∀ a, o = .threw a → gs_t S' a = 17 := by
  obtain ⟨c1, c2, b⟩ := h.b
  obtain ⟨i1, b2, b3, b4, b5, b6, b7, b8, b9⟩ := b
  obtain ⟨r1, r2, r3, r4, r5, r6, r7, r8, r9, r10, r11, r12, r13, d1, d2, d3, d4, -, -⟩ := id b9
  obtain ⟨J1, J2, J3, J4⟩ := id hJ
  have nt : gs_t S (A 0 0) = 1 := h.nt
  have rt : gs_t S (A 1 0) = 2 := by obtain ⟨q, eq, tq, -⟩ := y_gRt r8; cases eq; exact tq
  have ut : gs_t S (A 2 0) = 3 := by obtain ⟨q, eq, tq, -⟩ := y_gRt b2.1; cases eq; exact tq
  have hp160 : p ≤ 160 := by have := hQ.1.1.pz; omega
  have g1 : ag (fun F a => F = 103 ∧ a = A 0 0) (fun _ => False) S S1 := by rw [hS1]; exact ag.put (by decide)
  have i1' : g_inv M0 S1 := by rw [hS1]; exact i1.put (by decide) (by rw [nt]; decide)
  have n1' : gs_n S1 = gs_n S := by rw [hS1]; rfl
  have ttJ : ∀ b, gs_t S3 b = gs_t Sb b := fun b => by unfold gs_t; rw [J2 _ _ _ (by unfold eJ; omega)]
  have gJ : ag (eJ A) (fun _ => False) Sb S3 := ⟨fun F a i _ q => J2 F a i q, fun a _ _ => by rw [J3], fun a _ => ttJ a⟩
  have gS3 : ag (fun F a => ((F = 202 ∨ F = 203 ∨ F = 204 ∨ F = 206 ∨ F = 207) ∧ a = A 1 0) ∨ (F = 2 ∧ a = A 34 1)) (fun _ => False) S1 S3 := (f3.1.trans gJ).fr (fun F a u1 u2 => by
    have := i1'.2.2.2 a u1
    unfold eS eJ at u2
    omega) (fun a u1 u2 => by
    have := i1'.2.2.2 a u1
    rcases u2 with u2 | u2
    · omega
    · exact u2)
  have gA3' : ag (fun F a => (F = 103 ∧ a = A 0 0) ∨ ((F = 202 ∨ F = 203 ∨ F = 204 ∨ F = 206 ∨ F = 207) ∧ a = A 1 0) ∨ (F = 2 ∧ a = A 34 1)) (fun _ => False) S S3 := (g1.trans gS3).wk (fun F a q => q) (fun a q => q.elim id id)
  have gA3 : ag (fun F _ => F = 103 ∨ F = 202 ∨ F = 203 ∨ F = 204 ∨ F = 206 ∨ F = 207 ∨ F = 2) (fun _ => False) S S3 := gA3'.wk (fun F a q => by omega) (fun a q => q)
  have tag : ∀ a t, t ≠ 0 → gs_t S a = t → gs_t S3 a = t := fun a t u1 u2 => (gA3.2.2 _ (by rw [u2]; exact u1)).trans u2
  have nil1 : ∀ a, gs_t S a ≠ 0 → gm_N (S3.1 1 a 0) = gm_N (S.1 1 a 0) := fun a u => by rw [gA3.1 _ _ _ u (by omega)]
  have v11 : g_gI S1 (some (A 0 0)) 1 3 = some (-1) := by rw [y_gI ((g1.2.2 _ (by rw [nt]; decide)).trans nt), hS1, y_pE]; rfl
  have v13 : g_gI S3 (some (A 0 0)) 1 3 = some (-1) := gS3.gI v11 (by decide) (by omega)
  have lt : ∀ a, gs_t S a ≠ 0 → a < gs_n S := i1.2.2.2
  have l60 : A 6 0 < gs_n S := lt _ (by rw [b5.2.1]; decide)
  have lc1 : c1 < gs_n S := lt _ (by rw [b7.2.2.1]; decide)
  have lc2 : c2 < gs_n S := lt _ (by rw [b7.2.2.2.1]; decide)
  obtain ⟨Sf, y1, g3f, y2, y3, y4, y5, y6, y7, y8, y10, y11, v2, v3, x5⟩ := x_fin (A := A) (M0 := M0) (S3 := S3) (fu := fu) (l8 := N 8 0) (by omega) i3 (tag _ _ (by decide) nt) (tag _ _ (by decide) rt) (tag _ _ (by decide) ut) (gA3.gR r1 (by decide) (by decide)) (gA3.gR r2 (by decide) (by decide)) (gA3.gR r3 (by decide) (by decide)) v13 (gA3.gR r11 (by decide) (by decide)) (gJ.gR hQ.2.1.1 (by decide) (by unfold eJ; omega)) (tag _ _ (by decide) r12) (by rw [nil1 _ (by rw [r12]; decide)]; exact r13) (tag _ _ (by decide) r6) (by rw [nil1 _ (by rw [r6]; decide)]; exact r7) d4 (gA3.gR b5.1 (by decide) (by decide)) (tag _ _ (by decide) b5.2.1) (gA3.gR b3.1 (by decide) (by decide)) (tag _ _ (by decide) b3.2.1) (by rw [nil1 _ (by rw [b3.2.1]; decide)]; exact b3.2.2.1)
  have gT : ag (eG A) (fun a => a = A 6 0) S Sf := (gA3'.trans g3f).wk (fun F a q => by unfold eK at q; unfold eG; omega) (fun a q => q.elim (fun q => q.elim) id)
  have gK : ag (fun F _ => F = 201 ∨ F = 104 ∨ F = 2 ∨ F = 300 ∨ F = 301 ∨ F = 302 ∨ F = 306 ∨ F = 310) (fun a => a = A 6 0) S3 Sf := g3f.wk (fun F a q => by unfold eK at q; omega) (fun a q => q)
  have m5 : n_I M' 5 0 = 0 := by unfold n_I; rw [J1 _ _ (by omega)]; exact hQ.1.1.m5
  have m8 : n_I M' 8 0 = nI w := by unfold n_I; rw [J1 _ _ (by omega)]; rw [← hw']; exact hQ.1.2.2.2.1.2.1.1
  have m9 : n_I M' 9 w = nI (N 9 0) := by unfold n_I; rw [J1 _ _ (by omega)]; rw [← hw']; exact hQ.2.1.2.1
  obtain ⟨Mf, o1, o2, o3, o4, o5, o6, o7, o8, o9, o10, o11, o12, o13, o14⟩ := m_126w (fu := fu) (by omega) hw m5 m8 m9
  have mfM : Mf 51 0 = M 51 0 := by rw [o14 51 0 (by omega), J1 51 0 (by omega), f3.2 51 0 (by omega), hM 51 0 (by omega)]
  obtain ⟨W, H⟩ := new_chart (Mf := Mf) (Sf := Sf) hQ hp160 hop h0 hw' hJ g3f (fun F b q => by unfold eK at q; omega) (fun b => ⟨by unfold eK; omega, by unfold eK; omega⟩) (fun b q => by rw [q, h7']; exact l60) (fun k i q => o14 k i (by omega)) o6
  have cf : gs_c Sf ≤ gs_c S + 1282 := by
    have e1 : gs_c Sf = gs_c Sb := by show Sf.2.2.2.1 = _; rw [y11, J3]
    have := hQ.1.2.2.1.1
    omega
  have kf : gs_k Sf ≤ gs_k S + 64006 := by
    have e1 : gs_k Sf = gs_k Sb := by show Sf.2.2.2.2 = _; rw [y11, J3]
    have := hQ.1.2.2.1.2.1
    omega
  have hl4 := hQ.2.1.2.2.1.2.2.2.1
  have hst : ∀ i, i < N 9 0 → g_gI Sf (some (N 10 i)) 5 8 = some 0 ∧ g_gI Sf (some (N 10 i)) 5 9 = some 0 := fun i hi => by
    obtain ⟨-, -, -, -, -, -, -, -, s8, s9⟩ := (hQ.2.1.2.2.2.1 i hi).2
    exact ⟨gK.gI (gJ.gI s8 (by decide) (by unfold eJ; omega)) (by decide) (by decide), gK.gI (gJ.gI s9 (by decide) (by unfold eJ; omega)) (by decide) (by decide)⟩
  have v1 : g_gI Sf (some (A 0 0)) 1 3 = some (-1) := gK.gI v13 (by decide) (by decide)
  have el : ∀ j, j < 16 → gm_I (Sf.1 2 (A 34 2) j) = n_I Mf 17 (16 * w + j) ∧ (n_I Mf 17 (16 * w + j) = -1 ∨ ∃ k : Nat, k < N 9 0 ∧ n_I Mf 17 (16 * w + j) = nI k) := fun j hj => by
    have m17 : n_I Mf 17 (16 * w + j) = n_I Mb 17 (16 * N 9 5 + j) := by unfold n_I; rw [o14 _ _ (by omega), J1 _ _ (by omega), hw']
    rw [m17, x5 j hj, J2 _ _ _ (by unfold eJ; omega)]
    exact ⟨(hl4 j hj).1, (hl4 j hj).2⟩
  have R := RL_new (Mb := Mb) (M := M) hw hb hb' b2 b3 b4 b5 b6 b7 b8 b9 gT W H h7' l60 lc1 lc2 y2 y3 y4 y5 y6 y7 y8 y10 cf kf o3 o4 o5 o6 o7 o8 o9 o10 o11 o12 o13 mfM hQ.1.2.2.2.1.2.2.2.2.2.2 hst v1 v2 v3 el
  refine ⟨nI (N 9 0), Mf, .returned (some (.int (nI (N 9 0)))), Sf, o1, ?_, ⟨R, Or.inl ⟨rfl, o2⟩⟩, fun a q => by cases q⟩
  have hls : h_L Sf (N 7 0) (N 8 0) ((List.range (N 9 0)).map (N 10)) := H.1
  unfold F_X1_build
  rw [y_pI nt, y_b, ← hS1, g1.gR r1 (by decide) (by omega), y_b, y_q ((g1.2.2 _ (by rw [rt]; decide)).trans rt), f1, gz_tR_rf, y1, y_lsz hls.1, y_b, hls.2.2, List.length_map, List.length_range]
end RDZz
