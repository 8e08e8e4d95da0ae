/-! LAYER 2, reading: the tables with one state more -/
set_option maxRecDepth 100000
section RDZg
variable {A : gA} {M0 : gM} {z p bc bk : Nat} {tx : Nat → Nat}
def aSta (N : gA) (s st r pc d : Nat) : gA := fun k i => if k = 9 ∧ i = 0 then s + 1 else if k = 40 then (if i = r then 1000 + s else if i = r + 1 then 2000 + s else if i = r + 2 then 3000 + s else if i = r + 3 then 4000 + s else N 40 i) else if i = s then (if k = 10 then st else if k = 15 then r else if k = 16 then r + 1 else if k = 17 then r + 2 else if k = 18 then r + 3 else if k = 24 then pc else if k = 25 then d else N k i) else N k i
theorem aSta_o {N : gA} {s st r pc d k i : Nat} (h1 : ¬ (k = 9 ∧ i = 0)) (h2 : k ≠ 40) (h3 : ¬ (i = s ∧ (k = 10 ∨ k = 15 ∨ k = 16 ∨ k = 17 ∨ k = 18 ∨ k = 24 ∨ k = 25))) : aSta N s st r pc d k i = N k i := by
  unfold aSta
  rw [if_neg h1, if_neg h2]
  by_cases ei : i = s
  · rw [if_pos ei, if_neg (by omega), if_neg (by omega), if_neg (by omega), if_neg (by omega), if_neg (by omega), if_neg (by omega), if_neg (by omega)]
  · rw [if_neg ei]
theorem aSta_40 {N : gA} {s st r pc d i : Nat} (h : i < r) : aSta N s st r pc d 40 i = N 40 i := by
  unfold aSta
  rw [if_neg (by omega), if_pos rfl, if_neg (by omega), if_neg (by omega), if_neg (by omega), if_neg (by omega)]
theorem aSta_ch {N : gA} {s st r pc d : Nat} (hs : N 9 0 = s) (i : Nat) : l_ch (aSta N s st r pc d) i = l_ch N i ++ (if pc = i + 1 then [s] else []) := by
  unfold l_ch
  rw [show aSta N s st r pc d 9 0 = s + 1 from rfl, hs, List.range_succ, List.filter_append]
  congr 1
  · refine List.filter_congr (fun a ha => ?_)
    have := List.mem_range.mp ha
    rw [aSta_o (by omega) (by omega) (by omega)]
  · rw [List.filter_cons, show aSta N s st r pc d 24 s = pc by simp [aSta]]
    by_cases e : pc = i + 1
    · rw [if_pos e, if_pos (by simp [e])]; rfl
    · rw [if_neg e, if_neg (by simp [e])]; rfl
theorem l_ch_lt {N : gA} {i j : Nat} (h : j ∈ l_ch N i) : j < N 9 0 := by
  unfold l_ch at h
  exact List.mem_range.mp (List.mem_filter.mp h).1
theorem l_ch_nil {N : gA} {s : Nat} (hN : ∀ i, i < N 9 0 → N 24 i ≤ i) (h : N 9 0 ≤ s + 1) : l_ch N s = [] := by
  unfold l_ch
  refine List.filter_eq_nil_iff.mpr (fun a ha => ?_)
  have h1 := List.mem_range.mp ha
  have h2 := hN a h1
  simp
  omega
theorem QI_st {N : gA} {M M' : gM} {S S' : gm_S} {op op1 : Nat → Bool} {E : Nat → Nat → Prop} {L : Nat → Prop} {s st r pc d : Nat} (hi : g_inv M0 S) (hs : N 9 0 = s) (hs16 : s < 16) (hQ : QI A N M S op) (hN : ∀ i, i < s → N 24 i ≤ i) (hpc : pc ≤ s) (g : ag E L S S') (hE : ∀ F b, gs_t S b ≠ 0 → E F b → F < 204 ∨ F = 205) (hL : ∀ b, gs_t S b ≠ 0 → L b → b = N 8 0) (fM : ∀ k i, k = 8 ∨ (10 ≤ k ∧ k ≤ 13) ∨ (18 ≤ k ∧ k ≤ 37) → M' k i = M k i) (hr : gs_n S ≤ r) (tl : ∀ j, j < 4 → gs_t S' (r + j) = 16 ∧ S'.2.1 (r + j) = []) (l8 : S'.2.1 (N 8 0) = S.2.1 (N 8 0) ++ [st]) (o1 : op1 s = true) (o2 : ∀ j, j ≠ s → op1 j = op j) : QI A (aSta N s st r pc d) M' S' op1 := by
  obtain ⟨qa, qn, qt, qr, ql, qo, n16⟩ := id hQ
  obtain ⟨N1, hN1⟩ : ∃ N1, N1 = aSta N s st r pc d := ⟨_, rfl⟩
  rw [← hN1]
  have e : ∀ k i, ¬ (k = 9 ∧ i = 0) → k ≠ 40 → ¬ (i = s ∧ (k = 10 ∨ k = 15 ∨ k = 16 ∨ k = 17 ∨ k = 18 ∨ k = 24 ∨ k = 25)) → N1 k i = N k i := fun k i u1 u2 u3 => by rw [hN1]; exact aSta_o u1 u2 u3
  have hB := hQ.B hi
  have n0 : N1 9 0 = s + 1 := by rw [hN1]; rfl
  have n1 : N1 9 1 = N 9 1 := e _ _ (by omega) (by omega) (by omega)
  have n7 : N1 7 0 = N 7 0 := e _ _ (by omega) (by omega) (by omega)
  have n8 : N1 8 0 = N 8 0 := e _ _ (by omega) (by omega) (by omega)
  have n35 : N1 35 0 = N 35 0 := e _ _ (by omega) (by omega) (by omega)
  have n24 := qr.2.2.1
  have r8 : rl N (N 8 0) 1 := Or.inl ⟨rfl, rfl⟩
  obtain ⟨u81, u82⟩ := ql.1 _ _ r8
  have n835 : N 35 0 ≠ N 8 0 := fun w => by rw [← w, ql.2.1] at u81; cases u81
  have g' : ag (fun F b => F < 204 ∨ F = 205) (fun b => b = N 8 0) S S' := g.fr (fun F b u1 u2 => hE F b u1 u2) hL
  have t35 : gs_t S (N 35 0) = 16 := qn.2.2.2.2.1
  have n35a : N 35 0 < gs_n S := hi.2.2.2 _ (by rw [t35]; decide)
  obtain ⟨j1, j2, j3, j4⟩ := qJ_mono (N' := N1) (M' := M') qa qn qt qr g' (fun F b w => by omega) n835 (fun c u1 u2 => e _ _ (by omega) (by omega) (by omega)) n35 (by omega) (fun i u => e _ _ (by omega) (by omega) (by omega)) (fun k i u => e _ _ (by omega) (by omega) (by omega)) fM
  have lac : ∀ o, (l_ac N1 o).map (N1 14) = (l_ac N o).map (N 14) := l_ac_N (e _ _ (by omega) (by omega) (by omega)) (fun a _ => ⟨e _ _ (by omega) (by omega) (by omega), e _ _ (by omega) (by omega) (by omega)⟩)
  have k11 : N1 11 = N 11 := by funext i; exact e _ _ (by omega) (by omega) (by omega)
  have k13 : N1 13 = N 13 := by funext i; exact e _ _ (by omega) (by omega) (by omega)
  have k26 : N1 26 = N 26 := by funext i; exact e _ _ (by omega) (by omega) (by omega)
  have k27 : N1 27 = N 27 := by funext i; exact e _ _ (by omega) (by omega) (by omega)
  have k28 : N1 28 = N 28 := by funext i; exact e _ _ (by omega) (by omega) (by omega)
  have ltr : ∀ i, l_tr N1 i = l_tr N i := fun i => by unfold l_tr; rw [n1, k26]
  have lts : ∀ i, l_ts N1 i = l_ts N i := fun i => by unfold l_ts; rw [k27, k28]
  have lch : ∀ i, ((l_ch N1 i).filter (fun j => !op1 j)).map (N1 10) = ((l_ch N i).filter (fun j => !op j)).map (N 10) := fun i => by
    rw [hN1, aSta_ch hs, ← hN1, List.filter_append]
    have e2 : (if pc = i + 1 then [s] else []).filter (fun j => !op1 j) = [] := by
      by_cases w : pc = i + 1
      · rw [if_pos w, List.filter_cons, if_neg (by simp [o1])]; rfl
      · rw [if_neg w]; rfl
    rw [e2, List.append_nil]
    have e3 : (l_ch N i).filter (fun j => !op1 j) = (l_ch N i).filter (fun j => !op j) := List.filter_congr (fun a ha => by have := l_ch_lt ha; rw [o2 a (by omega)])
    rw [e3]
    refine List.map_congr_left (fun a ha => ?_)
    have := l_ch_lt (List.mem_filter.mp ha).1
    exact e _ _ (by omega) (by omega) (by omega)
  have old : ∀ a x, rl N a x → x ≠ 1 → cont N1 op1 x = cont N op x → N1 40 a = x ∧ h_L S' (N1 7 0) a (cont N1 op1 x) := fun a x u1 u2 u3 => by
    obtain ⟨w1, w2⟩ := ql.1 a x u1
    have ha := hi.2.2.2 a (by rw [w2.1]; decide)
    rw [n7, u3]
    refine ⟨by rw [hN1, aSta_40 (by omega)]; exact w1, w2.ag g' (fun w => u2 ?_)⟩
    rw [w, u81] at w1
    exact w1.symm
  refine ⟨j1, j2, j3, j4, ⟨fun a x u => ?_, ?_, by rw [n7, n35]; exact ql.2.2⟩, fun o u => ?_, by omega⟩
  · rcases u with ⟨h1, h2⟩ | ⟨i, hi', hc⟩ | ⟨t', ht', hc⟩
    · rw [n8] at h2
      have ha := hi.2.2.2 (N 8 0) (by rw [u82.1]; decide)
      rw [h2, h1, n7]
      refine ⟨by rw [hN1, aSta_40 (by omega)]; exact u81, (g.2.2 _ (by rw [u82.1]; decide)).trans u82.1, u82.2.1, ?_⟩
      rw [l8, u82.2.2, cont_1, cont_1, n0, hs, List.range_succ, List.map_append]
      congr 1
      · refine List.map_congr_left (fun b hb => ?_)
        have := List.mem_range.mp hb
        exact (e _ _ (by omega) (by omega) (by omega)).symm
      · show _ = [N1 10 s]
        rw [hN1]; simp [aSta]
    · rw [n0] at hi'
      by_cases ei : i = s
      · have hn : ∀ j, j < 4 → N 7 0 ≤ r + j := fun j _ => by omega
        rcases hc with ⟨h1, h2⟩ | ⟨h1, h2⟩ | ⟨h1, h2⟩ | ⟨h1, h2⟩
        · have v : N1 15 s = r := by rw [hN1]; simp [aSta]
          rw [h2, h1, ei, v, n7]
          refine ⟨by rw [hN1]; simp [aSta], (tl 0 (by omega)).1, by omega, ?_⟩
          rw [cont_ch (by omega), lch, l_ch_nil (by rw [hs]; exact hN) (by omega)]
          exact (tl 0 (by omega)).2
        · have v : N1 16 s = r + 1 := by rw [hN1]; simp [aSta]
          rw [h2, h1, ei, v, n7]
          refine ⟨by rw [hN1]; simp [aSta], (tl 1 (by omega)).1, by omega, ?_⟩
          rw [cont_tr (by omega), ltr, (tl 1 (by omega)).2]
          have : l_tr N s = [] := by
            unfold l_tr
            refine List.filter_eq_nil_iff.mpr (fun b hb => ?_)
            have c3 := (qr.2.2.2.1 b (List.mem_range.mp hb)).1.2.1
            simp
            omega
          rw [this]; rfl
        · have v : N1 17 s = r + 2 := by rw [hN1]; simp [aSta]
          rw [h2, h1, ei, v, n7]
          refine ⟨by rw [hN1]; simp [aSta], (tl 2 (by omega)).1, by omega, ?_⟩
          rw [cont_en (by omega), lac, qo (100 + s) (by omega)]
          exact (tl 2 (by omega)).2
        · have v : N1 18 s = r + 3 := by rw [hN1]; simp [aSta]
          rw [h2, h1, ei, v, n7]
          refine ⟨by rw [hN1]; simp [aSta], (tl 3 (by omega)).1, by omega, ?_⟩
          rw [cont_ex (by omega), lac, qo (200 + s) (by omega)]
          exact (tl 3 (by omega)).2
      · rcases hc with ⟨h1, h2⟩ | ⟨h1, h2⟩ | ⟨h1, h2⟩ | ⟨h1, h2⟩
        · rw [e _ _ (by omega) (by omega) (by omega)] at h2
          refine old a x (Or.inr (Or.inl ⟨i, by omega, Or.inl ⟨h1, h2⟩⟩)) (by omega) ?_
          rw [h1, cont_ch (by omega), cont_ch (by omega), lch]
        · rw [e _ _ (by omega) (by omega) (by omega)] at h2
          refine old a x (Or.inr (Or.inl ⟨i, by omega, Or.inr (Or.inl ⟨h1, h2⟩)⟩)) (by omega) ?_
          rw [h1, cont_tr (by omega), cont_tr (by omega), ltr, k11]
        · rw [e _ _ (by omega) (by omega) (by omega)] at h2
          refine old a x (Or.inr (Or.inl ⟨i, by omega, Or.inr (Or.inr (Or.inl ⟨h1, h2⟩))⟩)) (by omega) ?_
          rw [h1, cont_en (by omega), cont_en (by omega), lac]
        · rw [e _ _ (by omega) (by omega) (by omega)] at h2
          refine old a x (Or.inr (Or.inl ⟨i, by omega, Or.inr (Or.inr (Or.inr ⟨h1, h2⟩))⟩)) (by omega) ?_
          rw [h1, cont_ex (by omega), cont_ex (by omega), lac]
    · rw [n1] at ht'
      rcases hc with ⟨h1, h2⟩ | ⟨h1, h2⟩
      · rw [e _ _ (by omega) (by omega) (by omega)] at h2
        refine old a x (Or.inr (Or.inr ⟨t', ht', Or.inl ⟨h1, h2⟩⟩)) (by omega) ?_
        rw [h1, cont_ts (by omega), cont_ts (by omega), lts, k13]
      · rw [e _ _ (by omega) (by omega) (by omega)] at h2
        refine old a x (Or.inr (Or.inr ⟨t', ht', Or.inr ⟨h1, h2⟩⟩)) (by omega) ?_
        rw [h1, cont_ac, cont_ac, lac]
  · rw [n35, hN1, aSta_40 (by omega)]
    exact ql.2.1
  · rw [n0, n1] at u
    have := lac o
    rw [qo o (by omega)] at this
    exact List.map_eq_nil_iff.mp this
end RDZg
