/-! LAYER 2: one step -/
set_option maxRecDepth 100000
section RCP
variable {A : gA} {M0 C : gM} {c1 c2 : Nat}
theorem n_ps {M : gM} {k : Nat} {v : Int32} : n_I (n_p M k v) k 0 = v := by show gm_I (n_up M k 0 (.int v) k 0) = _; rw [y_us]; rfl
theorem n_po {M : gM} {k k' i : Nat} {v : Int32} (h : k' ≠ k) : n_I (n_p M k v) k' i = n_I M k' i := by show gm_I (n_up M k 0 (.int v) k' i) = _; rw [y_uk h]
/-- the run's plain numbers -/
theorem RC.wA {M M' : gM} {S : gm_S} (h : RC A M0 C M S c1 c2) {F : Nat} {v : Value} (hF : F = 301 ∨ F = 302 ∨ F = 308 ∨ F = 311) (hM : ∀ k i, ¬ (k = 40 ∨ k = 41 ∨ k = 50 ∨ k = 51 ∨ k = 52) → M' k i = M k i) (pa : rDa A M' (gs_put S F (A 2 0) 0 v)) : RC A M0 C M' (gs_put S F (A 2 0) 0 v) c1 c2 := by
  have ht := h.rt
  have ha : gs_t S (A 2 0) ≠ 0 := by rw [ht]; decide
  have g := ag.put (S := S) (F := F) (a := A 2 0) (i := 0) (v := v) (by omega)
  have hd : k_dyn F = true := by rcases hF with z | z | z | z <;> rw [z] <;> decide
  have hn : ∀ (F' b : Nat), ¬ (F' = 301 ∨ F' = 302 ∨ F' = 308 ∨ F' = 311) → ¬ (F' = F ∧ b = A 2 0) := fun F' b z w => z (by rw [w.1]; exact hF)
  exact h.put hd (by omega) ha (Mc_ag h.mc (fun k i z => hM k i (by omega))) (Or.inl (by omega)) (fun k i hk => hM k i (by omega)) pa
    (h.v.mono g ⟨hn _ _ (by decide), hn _ _ (by decide), hn _ _ (by decide)⟩ (fun i => hM _ i (by decide))) (h.q.mono g ⟨hn _ _ (by decide), hn _ _ (by decide), hn _ _ (by decide), hn _ _ (by decide), hn _ _ (by decide)⟩ (fun k i hk => hM k i (by omega)))
    (h.s.mono g ⟨hn _ _ (by decide), fun x => ⟨hn _ _ (by decide), hn _ _ (by decide)⟩⟩ (fun z => z) (fun k i hk => hM k i (by omega))) (h.t.mono g ⟨hn _ _ (by decide), hn _ _ (by decide), hn _ _ (by decide), hn _ _ (by decide)⟩ (fun k i hk => hM k i (by omega)))
    (h.c.mono g ⟨hn _ _ (by decide), hn _ _ (by decide)⟩) (h.h.mono g (fun i hi => ⟨hn _ _ (by decide), hn _ _ (by decide)⟩) (fun k i hk => hM k i (by omega)))
theorem RC.wRuns {M : gM} {S : gm_S} (h : RC A M0 C M S c1 c2) (v : Int32) (hv : v = 0 ∨ v = 1) (hck : v = 1 → g_gI S (some (A 2 0)) 3 8 = some (n_I M 50 0)) : g_pZ S (some (A 2 0)) 3 1 v = some (gs_put S 301 (A 2 0) 0 (.int v)) ∧ RC A M0 C (n_p M 40 v) (gs_put S 301 (A 2 0) 0 (.int v)) c1 c2 := by
  have ht := h.rt
  have hz : g_okZ v = true := by rcases hv with z | z <;> rw [z] <;> decide
  have g := ag.put (S := S) (F := 301) (a := A 2 0) (i := 0) (v := .int v) (by decide)
  obtain ⟨h1, h2, h3, h4, ⟨q, h5, h6, h7⟩, ck, h8, h9⟩ := h.a
  refine ⟨y_pZ ht hz, h.wA (Or.inl rfl) (fun k i z => y_uk (by omega)) ⟨g.gR h1 (by decide) (n1 (by decide)), ?_, ?_, ?_, ⟨q, h5, g.gI h6 (by decide) (n1 (by decide)), ?_⟩, ck, g.gI h8 (by decide) (n1 (by decide)), ?_⟩⟩
  · rw [n_ps, y_gI ((y_pt (by decide)).trans ht), y_pE]; rfl
  · rw [n_ps]; exact hv
  · rw [n_po (by decide)]; exact g.gI h4 (by decide) (n1 (by decide))
  · rw [n_po (by decide)]; exact h7
  · rw [n_ps, n_po (by decide)]
    intro z
    have := hck z
    rw [h8] at this
    exact Option.some.inj this
theorem RC.wSteps {M : gM} {S : gm_S} (h : RC A M0 C M S c1 c2) {q : Nat} (hq : q ≤ 30) : g_pI S (some (A 2 0)) 3 11 (nI q) = some (gs_put S 311 (A 2 0) 0 (.int (nI q))) ∧ RC A M0 C (n_p M 51 (nI q)) (gs_put S 311 (A 2 0) 0 (.int (nI q))) c1 c2 := by
  have ht := h.rt
  have g := ag.put (S := S) (F := 311) (a := A 2 0) (i := 0) (v := .int (nI q)) (by decide)
  obtain ⟨h1, h2, h3, h4, ⟨q', h5, h6, h7⟩, ck, h8, h9⟩ := h.a
  refine ⟨y_pI ht, h.wA (Or.inr (Or.inr (Or.inr rfl))) (fun k i z => y_uk (by omega)) ⟨g.gR h1 (by decide) (n1 (by decide)), ?_, ?_, ?_, ⟨q, hq, ?_, n_ps⟩, ck, g.gI h8 (by decide) (n1 (by decide)), ?_⟩⟩
  · rw [n_po (by decide)]; exact g.gI h2 (by decide) (n1 (by decide))
  · rw [n_po (by decide)]; exact h3
  · rw [n_po (by decide)]; exact g.gI h4 (by decide) (n1 (by decide))
  · rw [y_gI ((y_pt (by decide)).trans ht), y_pE]; rfl
  · rw [n_po (by decide), n_po (by decide)]; exact h9
/-- another budget -/
def aB (A : gA) (b0 b1 : Nat) : gA := fun k i => if k = 33 then (if i = 0 then b0 else b1) else A k i
/-- a fresh cell that nobody keeps -/
theorem RC.mkx {M : gM} {S : gm_S} (h : RC A M0 C M S c1 c2) {t w : Nat} (hb : A 33 0 + 1 ≤ 600000) (hb' : A 33 1 + w ≤ 7301000) : g_new S t w = some (gs_n S, g_mk S t w) ∧ gs_t (g_mk S t w) (gs_n S) = t ∧ RC (aB A (A 33 0 + 1) (A 33 1 + w)) M0 C M (g_mk S t w) c1 c2 := by
  obtain ⟨b1, b2, b3, b4, b5, b6, b7⟩ := h.b
  have g := ag.mk (S := S) (t := t) (w := w) h.inv.2.2.2
  have hcap : ∀ a, gs_t S a ≠ 0 → g_cap (g_mk S t w) a = g_cap S a := fun a ha => by unfold g_cap; rw [g.1 _ _ _ ha (fun z => z)]
  have cs : g_cap (g_mk S t w) (A 6 0) = g_cap S (A 6 0) := hcap _ (by rw [h.s.2.1]; decide)
  have cc1 : g_cap (g_mk S t w) c1 = g_cap S c1 := hcap _ (by rw [h.c.2.2.1]; decide)
  have cc2 : g_cap (g_mk S t w) c2 = g_cap S c2 := hcap _ (by rw [h.c.2.2.2.1]; decide)
  have hr := h.r.mono g (M' := M) ⟨fun _ _ _ z => z, fun _ _ _ z => z, fun _ z => z, fun z => z, fun z => z⟩ (fun _ _ _ => rfl)
  have hH := h.H.kp (g.kp (fun _ _ z => z.elim) (fun _ z => z.elim))
  have hpc : gs_c S ≤ 600000 := by unfold p_c at b1; omega
  have hpk : gs_k S + w ≤ 7301000 := by unfold p_k at b2; omega
  refine ⟨y_new (by omega) (by omega), y_mkn, h.inv.mk, h.W, hH, h.mc, h.a.mono g (by simp) (fun _ _ _ => rfl), h.v.mono g (by simp) (fun _ => rfl), h.q.mono g (by simp) (fun _ _ _ => rfl), h.s.mono g (by simp) (fun z => z) (fun _ _ _ => rfl), h.t.mono g (by simp) (fun _ _ _ => rfl), h.c.mono g (by simp), h.h.mono g (by simp) (fun _ _ _ => rfl), ?_, hr⟩
  have k1 : p_c A (g_mk S t w) c1 c2 ≤ A 33 0 + 1 := by
    unfold p_c at b1 ⊢
    rw [cs, cc1, cc2]
    show gs_c S + 1 + (8 - (S.2.1 (A 6 0)).length) + _ + _ + _ ≤ _
    omega
  have k2 : p_k A (g_mk S t w) c1 c2 ≤ A 33 1 + w := by
    unfold p_k at b2 ⊢
    rw [cs, cc1, cc2]
    show gs_k S + w + 2 * (8 - (S.2.1 (A 6 0)).length) + _ + _ + _ ≤ _
    omega
  exact ⟨k1, k2, hb, hb', by rw [← cs] at b5; exact b5, by rw [← cc1] at b6; exact b6, by rw [← cc2] at b7; exact b7⟩
theorem rX.fX {M M' : gM} {S S' : gm_S} {l : List Nat} {V : Nat → Nat → Int32} (h : RC A M0 C M S c1 c2) (hx : rX A M S c1 l V) (g : fX S S' M M' c1) : rX A M' S' c1 l V := by
  obtain ⟨x1, x2, x3, x4, x5⟩ := hx
  obtain ⟨g1, g2, g3, g4, -⟩ := g
  refine ⟨g1.trans x1, x2, fun t ht => ?_, ?_, fun j t hj K k1 k2 => ?_⟩
  · obtain ⟨t1, t2, t3, t4⟩ := x3 t ht
    have tt := h.tt t1
    have t0 : gs_t S (A 11 t) ≠ 0 := by rw [tt]; decide
    have tt' : gs_t S' (A 11 t) = 10 := (g3 _ t0).trans tt
    refine ⟨t1, t2, ⟨?_, ?_, ?_⟩, t4⟩
    · have := t3.1
      rw [y_gI tt] at this
      rw [y_gI tt', g2 _ _ _ t0 (by decide) (by decide)]; exact this
    · have := t3.2.1
      rw [y_gI tt] at this
      rw [y_gI tt', g2 _ _ _ t0 (by decide) (by decide)]; exact this
    · have := t3.2.2
      rw [y_gI tt] at this
      rw [y_gI tt', g2 _ _ _ t0 (by decide) (by decide)]; exact this
  · unfold n_I; rw [g4 _ _ (by omega)]; exact x4
  · unfold n_I; rw [g4 _ _ (by omega)]; exact x5 j t hj K k1 k2
theorem fX.g {S S' : gm_S} {M M' : gM} (h : fX S S' M M' c1) {k i : Nat} (hk : k = 40 ∨ k = 51 ∨ k = 52 ∨ (55 ≤ k ∧ k ≤ 59)) : n_I M' k i = n_I M k i := by unfold n_I; rw [h.2.2.2.1 k i hk]
/-- all that is left -/
theorem s_exits {fu : Nat} {M : gM} {S : gm_S} (h : RC A M0 C M S c1 c2) {l : List Nat} {V : Nat → Nat → Int32} (hx : rX A M S c1 l V) : ∀ (d j : Nat) (x : Int32) (n m : Nat), l.length - j = d → j ≤ l.length → d < n → d < m →
    ∃ y, F_X4_step_39 fu n x (nI j) M = (gz_cV (F_X4_leave fu y M) fun M2 => F_X4_step_69 fu fu (0 : Int32) M2) ∧ F_X3_step_41 fu m (some (A 2 0)) x (nI j) S = (gz_q (g_at S (some (A 2 0)) 3) (gz_cV (F_X3_leave fu (some (A 2 0)) y S) fun S3 => F_X3_step_82 fu fu (some (A 2 0)) (0 : Int32) S3)) := by
  obtain ⟨x1, x2, x3, x4, x5⟩ := hx
  intro d
  induction d with
  | zero =>
    intro j x n m hd hj hn hm
    obtain ⟨n, rfl⟩ : ∃ n', n = n' + 1 := ⟨n - 1, by omega⟩
    obtain ⟨m, rfl⟩ : ∃ m', m = m' + 1 := ⟨m - 1, by omega⟩
    have ej : j = l.length := by omega
    refine ⟨x, ?_, ?_⟩
    · rw [F_X4_step_39, x4, ej, if_pos (Int32.le_refl _)]
    · rw [F_X3_step_41, h.c.1, y_b, y_lsz h.c.2.2.1, y_b, x1, List.length_map, ej, if_pos (Int32.le_refl _)]
  | succ d ih =>
    intro j x n m hd hj hn hm
    obtain ⟨n, rfl⟩ : ∃ n', n = n' + 1 := ⟨n - 1, by omega⟩
    obtain ⟨m, rfl⟩ : ∃ m', m = m' + 1 := ⟨m - 1, by omega⟩
    have hlt : j < l.length := by omega
    have hgt : l[j]? = some l[j] := List.getElem?_eq_getElem hlt
    obtain ⟨t1, t2, t3, -⟩ := x3 l[j] (List.getElem_mem hlt)
    have hget : (S.2.1 c1)[j]? = some (A 11 l[j]) := by rw [x1, List.getElem?_map, hgt]; rfl
    obtain ⟨y, w1, w2⟩ := ih (j + 1) (x ||| V 59 l[j]) n m (by omega) (by omega) (by omega) (by omega)
    refine ⟨y, ?_, ?_⟩
    · rw [F_X4_step_39, x4, if_neg (nI_ge hlt (by omega)), y_aI (by omega) (by omega), y_b, x5 j _ hgt 59 (by omega) (by omega), nI_1, w1]
    · rw [F_X3_step_41, h.c.1, y_b, y_lsz h.c.2.2.1, y_b, x1, List.length_map, if_neg (nI_ge hlt (by omega)), y_b, y_lget h.c.2.2.1 (by omega) hget, y_b, y_q (h.tt t1), t3.2.2, y_b, nI_1, w2]
/-- the actions of the chosen; then all that is entered -/
theorem s_acts2 {fu : Nat} (hf : 7000000000 ≤ fu) {l : List Nat} {V : Nat → Nat → Int32} : ∀ (d j : Nat) (M : gM) (S : gm_S) (n m : Nat), l.length - j = d → j ≤ l.length → d < n → d < m → RC A M0 C M S c1 c2 → n_I M 40 0 = 1 → rX A M S c1 l V →
    ∃ M' S', F_X4_step_69 fu n (nI j) M = some (.returned none, M') ∧ F_X3_step_82 fu m (some (A 2 0)) (nI j) S = some (.returned none, S') ∧ RC A M0 C M' S' c1 c2 ∧ n_I M' 40 0 = 1 ∧ n_I M' 51 0 = n_I M 51 0 ∧ n_I M' 52 0 = n_I M 52 0 ∧ n_I M 47 0 ≤ n_I M' 47 0 := by
  intro d
  induction d with
  | zero =>
    intro j M S n m hd hj hn hm h hr hx
    obtain ⟨n, rfl⟩ : ∃ n', n = n' + 1 := ⟨n - 1, by omega⟩
    obtain ⟨m, rfl⟩ : ∃ m', m = m' + 1 := ⟨m - 1, by omega⟩
    have ej : j = l.length := by omega
    have h0 : mD M (n_p M 60 0) := fun k i z => y_uk (by omega)
    have r0 : RC A M0 C (n_p M 60 0) S c1 c2 := h.mD h0
    have x0 : rX A (n_p M 60 0) S c1 l V := rX.fX h hx ⟨rfl, fun _ _ _ _ _ _ => rfl, fun _ _ => rfl, fun k i z => h0 k i (by omega), by unfold n_I; rw [h0 _ _ (by omega)]; exact Int32.le_refl _⟩
    obtain ⟨x1, x2, x3, x4, x5⟩ := hx
    obtain ⟨M1, z1, z2, z3⟩ := s_entries hf (V := V) l.length 0 (n_p M 60 0) fu fu (by omega) (by omega) (by omega) (by omega) r0 x0
    have z3' := h0.trans z3
    have g : ∀ k, ¬ (k = 60 ∨ k = 61) → n_I M1 k 0 = n_I M k 0 := fun k z => by unfold n_I; rw [z3' _ _ z]
    obtain ⟨M', S', w1, w2, w3, w4⟩ := s_enter (M := M1) (S := S) (fu := fu) (by omega) (n_I M1 60 0) (r0.mD z3) ((g 40 (by omega)).trans hr)
    refine ⟨M', S', ?_, ?_, w3, (w4.g (by omega)).trans ((g 40 (by omega)).trans hr), (w4.g (by omega)).trans (g 51 (by omega)), (w4.g (by omega)).trans (g 52 (by omega)), by have := w4.2.2.2.2; rw [g 47 (by omega)] at this; exact this⟩
    · rw [F_X4_step_69, x4, ej, if_pos (Int32.le_refl _), show n_pIO M 60 0 = some (n_p M 60 0) from rfl, y_b, show F_X4_step_108 fu fu 0 (n_p M 60 0) = _ from z1, w1, y_cV]
    · rw [n_ps] at z2
      rw [F_X3_step_82, h.c.1, y_b, y_lsz h.c.2.2.1, y_b, x1, List.length_map, ej, if_pos (Int32.le_refl _), y_q h.rt]
      unfold F_X3_entries
      rw [show F_X3_entries_4 fu fu (some (A 2 0)) 0 0 S = _ from z2, y_cI, y_q h.rt, w2, y_cV]
  | succ d ih =>
    intro j M S n m hd hj hn hm h hr hx
    obtain ⟨n, rfl⟩ : ∃ n', n = n' + 1 := ⟨n - 1, by omega⟩
    obtain ⟨m, rfl⟩ : ∃ m', m = m' + 1 := ⟨m - 1, by omega⟩
    have hx0 := hx
    obtain ⟨x1, x2, x3, x4, x5⟩ := hx
    have hw := h.w2
    have hnt := h.nt
    have hlt : j < l.length := by omega
    have hgt : l[j]? = some l[j] := List.getElem?_eq_getElem hlt
    obtain ⟨t1, t2, t3, -⟩ := x3 l[j] (List.getElem_mem hlt)
    have hget : (S.2.1 c1)[j]? = some (A 11 l[j]) := by rw [x1, List.getElem?_map, hgt]; rfl
    obtain ⟨M1, S1, a1, a2, a3, a4⟩ := s_acts h hr (fu := fu) (by omega) (o := l[j]) (x := A 20 l[j]) (by omega) (fun T hT => (hT.2.2.1 _ t1).2.2.2.1.2)
    obtain ⟨M', S', w1, w2, w3, w4, w5, w6, w7⟩ := ih (j + 1) M1 S1 n m (by omega) (by omega) (by omega) (by omega) a3 (a4.run hr) (rX.fX h hx0 a4)
    have e24 : nI (24 * A 9 5 + l[j]) - nI (24 * A 9 5) = nI l[j] := by
      rw [pk_sub (by omega), show 24 * A 9 5 + l[j] - 24 * A 9 5 = l[j] by omega]
    refine ⟨M', S', ?_, ?_, w3, w4, w5.trans (a4.g (by omega)), w6.trans (a4.g (by omega)), Int32.le_trans a4.2.2.2.2 w7⟩
    · rw [F_X4_step_69, x4, if_neg (nI_ge hlt (by omega)), y_aI (by omega) (by omega), y_b, x5 j _ hgt 56 (by omega) (by omega), t2, h.lv, y_m24, e24, a1, y_cV, nI_1, w1]
    · rw [F_X3_step_82, h.c.1, y_b, y_lsz h.c.2.2.1, y_b, x1, List.length_map, if_neg (nI_ge hlt (by omega)), y_b, y_lget h.c.2.2.1 (by omega) hget, y_b, y_q (h.tt t1), (h.H.2.2.1 _ t1).2.2.2.1.1, y_b, y_q h.rt, a2, y_cV, nI_1, w2]
theorem s_step {M : gM} {S : gm_S} (h : RC A M0 C M S c1 c2) (hr : n_I M 40 0 = 1) {l : List Nat} {V : Nat → Nat → Int32} (hx : rX A M S c1 l V) {fu : Nat} (hf : 7000000000 ≤ fu) (hb : A 33 0 + 1 ≤ 600000) (hb' : A 33 1 + 6 ≤ 7301000) {q : Nat} (hq : n_I M 51 0 = nI q) (hq30 : q ≤ 30) :
    (q = 30 ∧ ∃ M' S' a, F_X4_step fu M = some (.returned none, M') ∧ F_X3_step fu (some (A 2 0)) S = some (.threw a, S') ∧ gs_t S' a = 19 ∧ RC (aB A (A 33 0 + 1) (A 33 1 + 6)) M0 C M' S' c1 c2 ∧ n_I M' 40 0 = 0 ∧ n_I M' 52 0 = 1) ∨
    (q < 30 ∧ ∃ M' S', F_X4_step fu M = some (.returned none, M') ∧ F_X3_step fu (some (A 2 0)) S = some (.returned none, S') ∧ RC A M0 C M' S' c1 c2 ∧ n_I M' 40 0 = 1 ∧ n_I M' 51 0 = nI (q + 1) ∧ n_I M' 52 0 = n_I M 52 0 ∧ n_I M 47 0 ≤ n_I M' 47 0) := by
  obtain ⟨q', h5, h6, h7⟩ := h.a.2.2.2.2.1
  have eq : q' = q := (nI_eq (by omega) (by omega)).mp (h7.symm.trans hq)
  rw [eq] at h6
  by_cases e : q = 30
  · subst e
    refine Or.inl ⟨rfl, ?_⟩
    have r1 : RC A M0 C (n_p M 52 1) S c1 c2 := h.mup (by omega)
    obtain ⟨p1, p2⟩ := r1.wRuns 0 (Or.inl rfl) (fun z => absurd z (by decide))
    obtain ⟨p3, p4, p5⟩ := p2.wActive 0
    obtain ⟨m1, m2, m3⟩ := p4.mkx (t := 19) (w := 6) hb hb'
    refine ⟨n_p (n_p (n_p M 52 1) 40 0) 41 0, _, _, ?_, ?_, m2, m3, by rw [n_po (by decide), n_ps], by rw [n_po (by decide), n_po (by decide), n_ps]⟩
    · unfold F_X4_step
      rw [hq, if_pos (show nI 30 = (30 : Int32) from rfl)]
      rfl
    · unfold F_X3_step
      rw [h6, y_b, if_pos (show nI 30 = (30 : Int32) from rfl), p1, y_b, p3, y_b, m1, y_b]
  · refine Or.inr ⟨by omega, ?_⟩
    have ne : ¬ nI q = (30 : Int32) := fun z => e ((nI_eq (a := q) (b := 30) (by omega) (by omega)).mp z)
    obtain ⟨p1, p2⟩ := h.wSteps (q := q + 1) (by omega)
    have hrt := h.rt
    have hx' : rX A (n_p M 51 (nI (q + 1))) (gs_put S 311 (A 2 0) 0 (.int (nI (q + 1)))) c1 l V := by
      obtain ⟨x1, x2, x3, x4, x5⟩ := hx
      refine ⟨x1, x2, fun t ht => ?_, by rw [n_po (by decide)]; exact x4, fun j t hj K k1 k2 => by rw [n_po (by omega)]; exact x5 j t hj K k1 k2⟩
      exact (show kT A S V t from x3 t ht).of (ag.put (F := 311) (a := A 2 0) (i := 0) (v := .int (nI (q + 1))) (by decide)) (fun F a f1 f2 z => by have := z.1; omega)
    obtain ⟨y, y1, y2⟩ := s_exits (fu := fu) p2 hx' l.length 0 0 fu fu (by omega) (by omega) (by have := hx.2.1; omega) (by have := hx.2.1; omega)
    obtain ⟨M1, S1, a1, a2, a3, a4⟩ := s_leave (fu := fu) (by omega) y p2 (by rw [n_po (by decide)]; exact hr)
    obtain ⟨M', S', w1, w2, w3, w4, w5, w6, w7⟩ := s_acts2 hf (V := V) l.length 0 M1 S1 fu fu (by omega) (by omega) (by have := hx.2.1; omega) (by have := hx.2.1; omega) a3 ((a4.g (by omega)).trans (by rw [n_po (by decide)]; exact hr)) (rX.fX p2 hx' a4)
    refine ⟨M', S', ?_, ?_, w3, w4, (w5.trans (a4.g (by omega))).trans n_ps, (w6.trans (a4.g (by omega))).trans (n_po (by decide)), by have := Int32.le_trans a4.2.2.2.2 w7; rw [n_po (by decide)] at this; exact this⟩
    · unfold F_X4_step
      rw [hq, if_neg ne, nI_1, show n_pIO M 51 (nI (q + 1)) = some (n_p M 51 (nI (q + 1))) from rfl, y_b, show F_X4_step_39 fu fu 0 0 (n_p M 51 (nI (q + 1))) = _ from y1, a1, y_cV]
      exact w1
    · unfold F_X3_step
      rw [h6, y_b, if_neg ne, y_b, nI_1, p1, y_b, show F_X3_step_41 fu fu (some (A 2 0)) 0 0 (gs_put S 311 (A 2 0) 0 (.int (nI (q + 1)))) = _ from y2, y_q p2.rt, a2, y_cV]
      exact w2
end RCP
