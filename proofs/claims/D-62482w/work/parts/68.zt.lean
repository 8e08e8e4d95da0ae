/-! LAYER 2, reading: one transition more in the tables -/
set_option maxRecDepth 100000
section RDZ
variable {A : gA} {M0 : gM} {z p bc bk : Nat} {tx : Nat → Nat}
def QI (A N : gA) (M : gM) (S : gm_S) (op : Nat → Bool) : Prop := qA A N M S ∧ qN A N M S ∧ qT N M S ∧ qR A N M S ∧ qL N op S ∧ qO N ∧ N 9 0 ≤ 16
def exI (N N' : gA) : Prop := ∀ k i, (k = 7 ∨ k = 8 ∨ k = 35 ∨ (k = 9 ∧ (i = 0 ∨ i = 5)) ∨ k = 10 ∨ k = 15 ∨ k = 16 ∨ k = 17 ∨ k = 18 ∨ k = 24 ∨ k = 25) → N' k i = N k i
def eI (A : gA) (B : Nat) : Nat → Nat → Prop := fun F a => ((F = 202 ∨ F = 206 ∨ F = 207) ∧ a = A 1 0) ∨ ((F = 3 ∨ F = 4) ∧ B ≤ a)
def mI (N : gA) (M M' : gM) : Prop := ∀ k i, ¬ (k = 4 ∨ k = 5 ∨ k = 38 ∨ k = 39 ∨ (10 ≤ k ∧ k ≤ 13 ∧ i = N 9 5) ∨ (18 ≤ k ∧ k ≤ 22 ∧ 24 * N 9 5 ≤ i ∧ i < 24 * N 9 5 + 24) ∨ (23 ≤ k ∧ k ≤ 32 ∧ 64 * N 9 5 ≤ i ∧ i < 64 * N 9 5 + 64) ∨ (33 ≤ k ∧ k ≤ 37 ∧ 48 * N 9 5 ≤ i ∧ i < 48 * N 9 5 + 48)) → M' k i = M k i
theorem exI.refl {N : gA} : exI N N := fun _ _ _ => rfl
theorem exI.trans {N N' N'' : gA} (h : exI N N') (h' : exI N' N'') : exI N N'' := fun k i w => (h' k i w).trans (h k i w)
def aTra (N : gA) (t tr r2 r3 s f e tg : Nat) : gA := fun k i => if k = 9 ∧ i = 1 then t + 1 else if k = 40 then (if i = r2 then 5000 + t else if i = r3 then 6000 + t else N 40 i) else if i = t then (if k = 11 then tr else if k = 19 then r2 else if k = 20 then r3 else if k = 26 then s else if k = 27 then f else if k = 28 then e else if k = 29 then tg else N k i) else N k i
theorem aTra_o {N : gA} {t tr r2 r3 s f e tg k i : Nat} (h1 : ¬ (k = 9 ∧ i = 1)) (h2 : k ≠ 40) (h3 : ¬ (i = t ∧ (k = 11 ∨ k = 19 ∨ k = 20 ∨ k = 26 ∨ k = 27 ∨ k = 28 ∨ k = 29))) : aTra N t tr r2 r3 s f e tg k i = N k i := by
  unfold aTra
  rw [if_neg h1, if_neg h2]
  by_cases ei : i = t
  · rw [if_pos ei, if_neg (by omega), if_neg (by omega), if_neg (by omega), if_neg (by omega), if_neg (by omega), if_neg (by omega), if_neg (by omega)]
  · rw [if_neg ei]
theorem aTra_40 {N : gA} {t tr r2 r3 s f e tg i : Nat} (h2 : i ≠ r2) (h3 : i ≠ r3) : aTra N t tr r2 r3 s f e tg 40 i = N 40 i := by
  unfold aTra
  rw [if_neg (by omega), if_pos rfl, if_neg h2, if_neg h3]
/-- the tables with one transition more -/
theorem QI_tr {N N1 N2 : gA} {M M' : gM} {S S' : gm_S} {op : Nat → Bool} {E : Nat → Nat → Prop} {L : Nat → Prop} {s tr r2 r3 tg t : Nat} (hi : g_inv M0 S) (ht : N 9 1 = t)
    (hQ : QI A N M S op) (hs : s < N 9 0) (hnt : t < 24) (x1 : exT N N1) (x2 : exE N1 N2 (t))
    (g : ag E L S S') (hE : ∀ F b, gs_t S b ≠ 0 → 1000 ≤ F → F ≤ 1004 → ¬ E F b) (hL : ∀ b, gs_t S b ≠ 0 → L b → b = N 35 0 ∨ b = N 16 s)
    (fM : ∀ k i, ¬ (k = 4 ∨ k = 5 ∨ k = 38 ∨ k = 39 ∨ (10 ≤ k ∧ k ≤ 13 ∧ i = N 9 5) ∨ (18 ≤ k ∧ k ≤ 22 ∧ i = 24 * N 9 5 + t) ∨ (23 ≤ k ∧ k ≤ 32 ∧ 64 * N 9 5 ≤ i ∧ i < 64 * N 9 5 + 64) ∨ (33 ≤ k ∧ k ≤ 37 ∧ 48 * N 9 5 ≤ i ∧ i < 48 * N 9 5 + 48)) → M' k i = M k i)
    (qa : qA A N2 M' S') (qn : qN A N2 M' S') (qt : qT N2 M' S')
    (f2 : gs_t S r2 = 0) (f3 : gs_t S r3 = 0) (ft : gs_t S tr = 0) (n23 : r2 ≠ r3) (B2 : N 7 0 ≤ r2) (B3 : N 7 0 ≤ r3) (t2 : gs_t S' r2 = 16) (t3 : gs_t S' r3 = 16)
    (h6 : g_gI S' (some (A 1 0)) 2 6 = some (nI (t + 1))) (m10 : n_I M' 10 (N 9 5) = nI (t + 1))
    (l2 : S'.2.1 r2 = (List.range (N1 9 2 - N 9 2)).map (fun j => N1 13 (N 9 2 + j))) (l3 : S'.2.1 r3 = (l_ac N2 (t)).map (N2 14)) (ls : S'.2.1 (N 16 s) = S.2.1 (N 16 s) ++ [tr])
    (m18 : n_I M' 18 (24 * N 9 5 + t) = nI s) (m20 : n_I M' 20 (24 * N 9 5 + t) = nI (64 * N 9 5 + N 9 2)) (m21 : n_I M' 21 (24 * N 9 5 + t) = nI (64 * N 9 5 + N1 9 2)) (m22 : n_I M' 22 (24 * N 9 5 + t) = (if tg = 0 then -1 else nI (64 * N 9 5 + (tg - 1)))) (htg : tg ≤ N2 9 4)
    (g0 : g_gR S' (some tr) 10 0 = some (some (N 10 s))) (g1 : g_gI S' (some tr) 10 1 = some (n_I M' 19 (24 * N 9 5 + t))) (g2 : g_gR S' (some tr) 10 2 = some (some r2)) (g3 : g_gR S' (some tr) 10 3 = some (some r3)) (g4 : g_gR S' (some tr) 10 4 = some (if tg = 0 then none else some (N2 12 (tg - 1)))) :
    QI A (aTra N2 (t) tr r2 r3 s (N 9 2) (N1 9 2) tg) M' S' op ∧ exI N (aTra N2 (t) tr r2 r3 s (N 9 2) (N1 9 2) tg) ∧ aTra N2 (t) tr r2 r3 s (N 9 2) (N1 9 2) tg 9 4 = N2 9 4 ∧ aTra N2 (t) tr r2 r3 s (N 9 2) (N1 9 2) tg 9 2 = N1 9 2 := by
  obtain ⟨qa0, qn0, qt0, qr0, ql0, qo0, n16⟩ := hQ
  obtain ⟨N3, hN3⟩ : ∃ N3, N3 = aTra N2 t tr r2 r3 s (N 9 2) (N1 9 2) tg := ⟨_, rfl⟩
  rw [← hN3]
  have e31 : ∀ k i, ¬ (k = 9 ∧ i = 1) → k ≠ 40 → ¬ (i = t ∧ (k = 11 ∨ k = 19 ∨ k = 20 ∨ k = 26 ∨ k = 27 ∨ k = 28 ∨ k = 29)) → N3 k i = N2 k i := fun k i u1 u2 u3 => by rw [hN3]; exact aTra_o u1 u2 u3
  obtain ⟨x11, x12, x13⟩ := x1
  obtain ⟨x21, x22, x23, x24⟩ := x2
  have e13 : N1 9 3 = N 9 3 := x13 9 3 (by omega) (by omega) (by omega)
  have e20 : ∀ k i, ¬ (k = 9 ∧ (i = 2 ∨ i = 3 ∨ i = 4)) → ¬ (k = 12 ∧ N 9 4 ≤ i) → ¬ ((k = 13 ∨ k = 21 ∨ k = 22 ∨ k = 32) ∧ N 9 2 ≤ i) → ¬ ((k = 14 ∨ k = 31 ∨ k = 23) ∧ N 9 3 ≤ i) → N2 k i = N k i := fun k i u1 u2 u3 u4 => (x23 k i (by omega) (by omega) (by rw [e13]; omega)).trans (x13 k i (by omega) (by omega) (by omega))
  have e30 : ∀ k i, k ≠ 40 → ¬ (k = 9 ∧ (i = 1 ∨ i = 2 ∨ i = 3 ∨ i = 4)) → ¬ (k = 12 ∧ N 9 4 ≤ i) → ¬ ((k = 13 ∨ k = 21 ∨ k = 22 ∨ k = 32) ∧ N 9 2 ≤ i) → ¬ ((k = 14 ∨ k = 31 ∨ k = 23) ∧ N 9 3 ≤ i) → ¬ (i = t ∧ (k = 11 ∨ k = 19 ∨ k = 20 ∨ k = 26 ∨ k = 27 ∨ k = 28 ∨ k = 29)) → N3 k i = N k i := fun k i u0 u1 u2 u3 u4 u5 => (e31 k i (by omega) u0 u5).trans (e20 k i (by omega) u2 u3 u4)
  have n2 : N2 9 2 = N1 9 2 := x23 9 2 (by omega) (by omega) (by omega)
  have n31 : N3 9 1 = t + 1 := by rw [hN3]; rfl
  have n30 : N3 9 0 = N 9 0 := e30 9 0 (by omega) (by omega) (by omega) (by omega) (by omega) (by omega)
  have n35 : N3 9 5 = N 9 5 := e30 9 5 (by omega) (by omega) (by omega) (by omega) (by omega) (by omega)
  have n32 : N3 9 2 = N1 9 2 := (e31 9 2 (by omega) (by omega) (by omega)).trans n2
  have n34 : N3 9 4 = N2 9 4 := e31 9 4 (by omega) (by omega) (by omega)
  have n7 : N3 7 0 = N 7 0 := e30 7 0 (by omega) (by omega) (by omega) (by omega) (by omega) (by omega)
  have n40 : ∀ i, i ≠ r2 → i ≠ r3 → N3 40 i = N 40 i := fun i u1 u2 => by rw [hN3, aTra_40 u1 u2, e20 40 i (by omega) (by omega) (by omega) (by omega)]
  have v11 : N3 11 t = tr := by rw [hN3]; simp [aTra]
  have v19 : N3 19 t = r2 := by rw [hN3]; simp [aTra]
  have v20 : N3 20 t = r3 := by rw [hN3]; simp [aTra]
  have v26 : N3 26 t = s := by rw [hN3]; simp [aTra]
  have v27 : N3 27 t = N 9 2 := by rw [hN3]; simp [aTra]
  have v28 : N3 28 t = N1 9 2 := by rw [hN3]; simp [aTra]
  have v29 : N3 29 t = tg := by rw [hN3]; simp [aTra]
  have la : ∀ o, o ≠ t → (l_ac N3 o).map (N3 14) = (l_ac N o).map (N 14) := fun o u => by
    rw [l_ac_N (N := N2) (N' := N3) (e31 9 3 (by omega) (by omega) (by omega)) (fun a _ => ⟨e31 31 a (by omega) (by omega) (by omega), e31 14 a (by omega) (by omega) (by omega)⟩) o, x24 o u]
    exact l_ac_N e13 (fun a _ => ⟨x13 31 a (by omega) (by omega) (by omega), x13 14 a (by omega) (by omega) (by omega)⟩) o
  have lat : (l_ac N3 t).map (N3 14) = (l_ac N2 t).map (N2 14) := l_ac_N (N := N2) (N' := N3) (e31 9 3 (by omega) (by omega) (by omega)) (fun a _ => ⟨e31 31 a (by omega) (by omega) (by omega), e31 14 a (by omega) (by omega) (by omega)⟩) t
  obtain ⟨r01, r02, r03, r04, r05⟩ := qr0
  rw [ht] at r01 r02 r03 r04 r05
  have ltr : ∀ i, l_tr N3 i = l_tr N i ++ (if s = i then [t] else []) := fun i => by
    unfold l_tr
    rw [n31, ht, List.range_succ, List.filter_append]
    congr 1
    · refine List.filter_congr (fun a ha => ?_)
      have := List.mem_range.mp ha
      rw [e30 26 a (by omega) (by omega) (by omega) (by omega) (by omega) (by omega)]
    · rw [List.filter_cons, v26]
      by_cases e : s = i
      · rw [if_pos e, if_pos (by simp [e])]; rfl
      · rw [if_neg e, if_neg (by simp [e])]; rfl
  have ltm : ∀ i, (l_tr N3 i).map (N3 11) = (l_tr N i).map (N 11) ++ (if s = i then [tr] else []) := fun i => by
    rw [ltr, List.map_append]
    congr 1
    · refine List.map_congr_left (fun a ha => ?_)
      have : a < t := by unfold l_tr at ha; rw [ht] at ha; exact List.mem_range.mp (List.mem_filter.mp ha).1
      exact e30 11 a (by omega) (by omega) (by omega) (by omega) (by omega) (by omega)
    · by_cases e : s = i
      · rw [if_pos e, if_pos e]; show [N3 11 t] = _; rw [v11]
      · rw [if_neg e, if_neg e]; rfl
  have lch : ∀ i, l_ch N3 i = l_ch N i := fun i => by
    unfold l_ch
    rw [n30]
    exact List.filter_congr (fun a _ => by rw [e30 24 a (by omega) (by omega) (by omega) (by omega) (by omega) (by omega)])
  have e10 : N3 10 = N 10 := by funext i; exact e30 10 i (by omega) (by omega) (by omega) (by omega) (by omega) (by omega)
  have lts : ∀ t', t' < t → (l_ts N3 t').map (N3 13) = (l_ts N t').map (N 13) := fun t' u => by
    unfold l_ts
    rw [e30 27 t' (by omega) (by omega) (by omega) (by omega) (by omega) (by omega), e30 28 t' (by omega) (by omega) (by omega) (by omega) (by omega) (by omega)]
    refine List.map_congr_left (fun a ha => ?_)
    obtain ⟨b, hb, hab⟩ := List.mem_map.mp ha
    have := List.mem_range.mp hb
    have c3 := (r04 t' u).1
    have := c3.2.2.2.2.2.1
    exact e30 13 a (by omega) (by omega) (by omega) (by omega) (by omega) (by omega)
  have g' : ag (fun F b => gs_t S b ≠ 0 ∧ E F b) (fun b => b = N 35 0 ∨ b = N 16 s) S S' := g.fr (fun F b u1 u2 => ⟨u1, u2⟩) hL
  -- lists
  have o35 := ql0.2.1
  have hso : ∀ a r, rl N a r → gs_t S a = 16 ∧ a ≠ r2 ∧ a ≠ r3 ∧ a ≠ N 35 0 ∧ N3 40 a = r ∧ N 7 0 ≤ a := fun a r u => by
    obtain ⟨u1, u2⟩ := ql0.1 a r u
    have ua : a ≠ r2 := fun w => by have := u2.1; rw [w, f2] at this; cases this
    have ub : a ≠ r3 := fun w => by have := u2.1; rw [w, f3] at this; cases this
    exact ⟨u2.1, ua, ub, fun w => by rw [w, o35] at u1; exact rl_pos u u1.symm, by rw [n40 a ua ub]; exact u1, u2.2.1⟩
  have n24 : N 9 1 ≤ 24 := by omega
  have rs : rl N (N 16 s) (2000 + s) := Or.inr (Or.inl ⟨s, hs, Or.inr (Or.inl ⟨rfl, rfl⟩)⟩)
  have old : ∀ a r, rl N a r → r ≠ 2000 + s → cont N3 op r = cont N op r → N3 40 a = r ∧ h_L S' (N3 7 0) a (cont N3 op r) := fun a r u1 u2 u3 => by
    obtain ⟨w1, w2, w3, w4, w5, w6⟩ := hso a r u1
    have as : a ≠ N 16 s := fun w => u2 (by have h1 := (ql0.1 a r u1).1; rw [w, (ql0.1 _ _ rs).1] at h1; exact h1.symm)
    rw [n7, u3]
    exact ⟨w5, (ql0.1 a r u1).2.ag g' (fun w => w.elim w4 as)⟩
  have QL : qL N3 op S' := by
    refine ⟨fun a r hr => ?_, ?_, ?_⟩
    · rcases hr with ⟨h1, h2⟩ | ⟨i, hi', hc⟩ | ⟨t', ht', hc⟩
      · rw [e30 8 0 (by omega) (by omega) (by omega) (by omega) (by omega) (by omega)] at h2
        refine old a r (Or.inl ⟨h1, h2⟩) (by omega) ?_
        rw [h1, cont_1, cont_1, n30, e10]
      · rw [n30] at hi'
        rcases hc with ⟨h1, h2⟩ | ⟨h1, h2⟩ | ⟨h1, h2⟩ | ⟨h1, h2⟩
        · rw [e30 15 i (by omega) (by omega) (by omega) (by omega) (by omega) (by omega)] at h2
          refine old a r (Or.inr (Or.inl ⟨i, hi', Or.inl ⟨h1, h2⟩⟩)) (by omega) ?_
          rw [h1, cont_ch (by omega), cont_ch (by omega), lch, e10]
        · rw [e30 16 i (by omega) (by omega) (by omega) (by omega) (by omega) (by omega)] at h2
          by_cases e : i = s
          · obtain ⟨w1, w2, w3, w4, w5, w6⟩ := hso _ _ rs
            subst e
            rw [h2, h1]
            refine ⟨w5, (g.2.2 _ (by rw [w1]; decide)).trans w1, by rw [n7]; exact w6, ?_⟩
            rw [ls, (ql0.1 _ _ rs).2.2.2, cont_tr (by omega), cont_tr (by omega), ltm, if_pos rfl]
          · refine old a r (Or.inr (Or.inl ⟨i, hi', Or.inr (Or.inl ⟨h1, h2⟩)⟩)) (by omega) ?_
            rw [h1, cont_tr (by omega), cont_tr (by omega), ltm, if_neg (fun w => e w.symm), List.append_nil]
        · rw [e30 17 i (by omega) (by omega) (by omega) (by omega) (by omega) (by omega)] at h2
          refine old a r (Or.inr (Or.inl ⟨i, hi', Or.inr (Or.inr (Or.inl ⟨h1, h2⟩))⟩)) (by omega) ?_
          rw [h1, cont_en (by omega), cont_en (by omega), la _ (by omega)]
        · rw [e30 18 i (by omega) (by omega) (by omega) (by omega) (by omega) (by omega)] at h2
          refine old a r (Or.inr (Or.inl ⟨i, hi', Or.inr (Or.inr (Or.inr ⟨h1, h2⟩))⟩)) (by omega) ?_
          rw [h1, cont_ex (by omega), cont_ex (by omega), la _ (by omega)]
      · rw [n31] at ht'
        by_cases e : t' = t
        · rcases hc with ⟨h1, h2⟩ | ⟨h1, h2⟩
          · rw [e, v19] at h2
            rw [h2, h1, e]
            refine ⟨by rw [hN3]; simp [aTra], t2, by rw [n7]; exact B2, ?_⟩
            rw [l2, cont_ts (by omega)]
            unfold l_ts
            rw [v27, v28, List.map_map]
            refine List.map_congr_left (fun j hj => ?_)
            have := List.mem_range.mp hj
            show N1 13 (N 9 2 + j) = N3 13 (N 9 2 + j)
            rw [e31 13 _ (by omega) (by omega) (by omega), x23 13 _ (by omega) (by omega) (by omega)]
          · rw [e, v20] at h2
            rw [h2, h1, e]
            refine ⟨by rw [hN3]; simp [aTra, n23.symm], t3, by rw [n7]; exact B3, ?_⟩
            rw [l3, cont_ac, lat]
        · rcases hc with ⟨h1, h2⟩ | ⟨h1, h2⟩
          · rw [e30 19 t' (by omega) (by omega) (by omega) (by omega) (by omega) (by omega)] at h2
            refine old a r (Or.inr (Or.inr ⟨t', by omega, Or.inl ⟨h1, h2⟩⟩)) (by omega) ?_
            rw [h1, cont_ts (by omega), cont_ts (by omega), lts t' (by omega)]
          · rw [e30 20 t' (by omega) (by omega) (by omega) (by omega) (by omega) (by omega)] at h2
            refine old a r (Or.inr (Or.inr ⟨t', by omega, Or.inr ⟨h1, h2⟩⟩)) (by omega) ?_
            rw [h1, cont_ac, cont_ac, la _ e]
    · have w35 : gs_t S (N 35 0) = 16 := qn0.2.2.2.2.1
      rw [e30 35 0 (by omega) (by omega) (by omega) (by omega) (by omega) (by omega), n40 _ (fun w => by rw [w, f2] at w35; cases w35) (fun w => by rw [w, f3] at w35; cases w35)]
      exact o35
    · rw [n7, e30 35 0 (by omega) (by omega) (by omega) (by omega) (by omega) (by omega)]
      exact ql0.2.2
  have hE' : ∀ F b, 1000 ≤ F → F ≤ 1004 → ¬ (gs_t S b ≠ 0 ∧ E F b) := fun F b u1 u2 u3 => hE F b u3.1 u1 u2 u3.2
  refine ⟨⟨qa.mono g_none ⟨fun _ _ _ _ w => w, fun w => w⟩ ⟨e31 9 3 (by omega) (by omega) (by omega), e31 9 5 (by omega) (by omega) (by omega), fun a _ => ⟨e31 14 a (by omega) (by omega) (by omega), e31 31 a (by omega) (by omega) (by omega), e31 23 a (by omega) (by omega) (by omega)⟩⟩ ⟨rfl, rfl, fun _ _ _ _ _ => rfl⟩, qn.mono g_none ⟨fun _ _ _ _ w => w, fun w => w⟩ (fun w => w) ⟨n34, e31 9 5 (by omega) (by omega) (by omega), e31 35 0 (by omega) (by omega) (by omega), fun k _ => e31 12 k (by omega) (by omega) (by omega)⟩ ⟨rfl, rfl, fun _ _ _ _ _ => rfl⟩, qt.mono g_none (fun _ _ _ _ _ w => w) ⟨e31 9 2 (by omega) (by omega) (by omega), e31 9 5 (by omega) (by omega) (by omega), Nat.le_of_eq n34.symm, fun k _ => e31 12 k (by omega) (by omega) (by omega), fun j _ => ⟨e31 32 j (by omega) (by omega) (by omega), e31 13 j (by omega) (by omega) (by omega), e31 21 j (by omega) (by omega) (by omega), e31 22 j (by omega) (by omega) (by omega)⟩⟩ ⟨rfl, fun _ _ _ _ _ => rfl⟩, ⟨by rw [n31]; exact h6, by rw [n31, n35]; exact m10, by rw [n31]; omega, fun t' ht' => ?_, fun a b ha hb hab => ?_⟩, QL, fun o ho => ?_, by rw [n30]; exact n16⟩, fun k i u => ?_, n34, n32⟩
  · rw [n31] at ht'
    by_cases e : t' = t
    · rw [e]
      constructor
      · unfold cW3
        rw [n35, v26, v27, v28, v29, n30, n32, n34]
        exact ⟨m18, hs, m20, m21, x11, Nat.le_refl _, m22, htg⟩
      · unfold tF
        rw [n35, v11, v26, v19, v20, v29, e10]
        refine ⟨g0, g1, g2, g3, ?_⟩
        rw [e31 12 _ (by omega) (by omega) (by omega)]
        exact g4
    · refine tF_mono (r04 t' (by omega)) g' hE' n35 (fun k u => e30 k t' (by omega) (by omega) (by omega) (by omega) (by omega) (by omega)) (Nat.le_of_eq n30.symm) (fun i _ => congrFun e10 i) (by rw [n32]; exact x11) (by rw [n34]; omega) (fun k u => e30 12 k (by omega) (by omega) (by omega) (by omega) (by omega) (by omega)) (fun k u1 u2 => fM _ _ (by omega))
  · rw [n31] at ha hb
    have old11 : ∀ c, c < t → N3 11 c = N 11 c ∧ gs_t S (N 11 c) = 10 := fun c u => ⟨e30 11 c (by omega) (by omega) (by omega) (by omega) (by omega) (by omega), by obtain ⟨q, eq, tq, -⟩ := y_gRt (r04 c u).2.1; cases eq; exact tq⟩
    by_cases ea : a = t <;> by_cases eb : b = t
    · rw [ea, eb]
    · obtain ⟨w1, w2⟩ := old11 b (by omega)
      rw [ea, v11, w1] at hab
      rw [← hab, ft] at w2; cases w2
    · obtain ⟨w1, w2⟩ := old11 a (by omega)
      rw [eb, v11, w1] at hab
      rw [hab, ft] at w2; cases w2
    · obtain ⟨w1, w2⟩ := old11 a (by omega)
      obtain ⟨w3, w4⟩ := old11 b (by omega)
      rw [w1, w3] at hab
      exact r05 a b (by omega) (by omega) hab
  · rw [n31, n30] at ho
    have := la o (by omega)
    rw [qo0 o (by omega)] at this
    exact List.map_eq_nil_iff.mp this
  · exact e30 k i (by omega) (by omega) (by omega) (by omega) (by omega) (by omega)
end RDZ
