/-! LAYER 2, reading: a state, whole -/
set_option maxRecDepth 100000
section RDZn
variable {A : gA} {M0 : gM} {z p bc bk : Nat} {tx : Nat → Nat}
theorem s_end {N : gA} {M : gM} {S : gm_S} {op ob ob1 : Nat → Bool} {s fu : Nat} (hf : 400 ≤ fu) (rc : Option Nat → Option Nat → Int32 → gm_S → gR) (h : QS A N M0 z tx bc bk op ob1 M S p) (hs : s < N 9 0) (hk : c_kind N M s ≠ 0 → l_ch N s ≠ []) (o1 : ob1 s = true) (o2 : ob s = false) (o3 : ∀ j, j ≠ s → ob1 j = ob j) (hch : ∀ j, j < N 9 0 → N 24 j = s + 1 → op j = false ∧ ob1 j = false) :
    (∃ N' M' S' p', F_X4_readItems fu (nI s) M = some (.returned none, M') ∧ F_X2_state_193 fu rc fu (some (A 1 0)) (some (N 10 s)) 0 S = some (.returned (some (va_rf (some (N 10 s)))), S') ∧ QS A N' M0 z tx bc bk op ob M' S' p' ∧ p ≤ p' ∧ exI N N' ∧ (∀ i, c_kind N' M' i = c_kind N M i) ∧ xS A (N 9 5) (N 7 0) M S M' S') ∨
    (∃ M' o S', F_X4_readItems fu (nI s) M = some (.returned none, M') ∧ F_X2_state_193 fu rc fu (some (A 1 0)) (some (N 10 s)) 0 S = some (o, S') ∧ PF A M0 bc bk M' o S' ∧ xS A (N 9 5) (N 7 0) M S M' S') := by
  have hQ := h.1.2.2.2.1
  have n16 : N 9 0 ≤ 16 := hQ.2.2.2.2.2.2
  have hS := h.2.1
  obtain ⟨f1, f2, f3, f4, f5, f6, f7, f8, f9, f10⟩ := (hS.2.2.2.1 s hs).2
  rw [if_pos o1] at f8
  have rs : rl N (N 15 s) (1000 + s) := Or.inr (Or.inl ⟨s, hs, Or.inl ⟨rfl, rfl⟩⟩)
  obtain ⟨u1, u2⟩ := hQ.2.2.2.2.1.1 _ _ rs
  have h24 : ∀ a, a ∈ l_ch N s → N 24 a = s + 1 := fun a ha => by unfold l_ch at ha; simpa using (List.mem_filter.mp ha).2
  have hne : ∀ a, a ∈ l_ch N s → a ≠ s := fun a ha w => by
    have := h24 a ha
    have := (hS.2.2.2.1 a (l_ch_lt ha)).1.2.1
    omega
  have row : S.2.1 (N 15 s) = (l_ch N s).map (N 10) := by
    rw [u2.2.2, cont_ch (by omega)]
    congr 1
    exact List.filter_eq_self.mpr (fun a ha => by simp [(hch a (l_ch_lt ha) (h24 a ha)).1])
  have hN : ∀ i, i < N 9 0 → N 24 i ≤ i := fun i u => (hS.2.2.2.1 i u).1.2.1
  obtain ⟨S1, c1, c2, c3, c4⟩ := c_193 (N := N) (M := M) (s := s) (o := N 10 s) (fu := fu) rc (some (A 1 0)) (l_ch N s) (by unfold l_ch; exact Nat.le_trans (List.length_filter_le _ _) (by rw [List.length_range]; exact n16)) fu 0 S 0 (Nat.zero_le _) (by
      have : (l_ch N s).length ≤ 16 := by unfold l_ch; exact Nat.le_trans (List.length_filter_le _ _) (by rw [List.length_range]; exact n16)
      omega) f4 u2.1 row f8 (fun c hc => by
      have hl := l_ch_lt hc
      obtain ⟨e1, -, -, -, -, -, -, e8, -⟩ := (hS.2.2.2.1 c hl).2
      rw [if_neg (by rw [(hch c hl (h24 c hc)).2]; decide)] at e8
      exact ⟨fun w => hne c hc (QS.inj hS n16 hl hs w), e1, e8⟩)
  rw [List.drop_zero, bel_eq hN n16 hS.2.2.2.2 hs] at c2
  obtain ⟨h1, x1⟩ := QS_bel (ob := ob) h hs hk o1 o2 o3 (fun j u1 u2 => by
    have w := (hch j u1 u2).2
    have : j ≠ s := fun q => by rw [q, o1] at w; cases w
    rw [← o3 j this]; exact w) c2 c3 c4
  rw [show F_X2_state_193 fu rc fu (some (A 1 0)) (some (N 10 s)) 0 S = _ from c1]
  rcases s_fin hf rc h1 hs with ⟨N', M', S', p', w1, w2, w3, w4, w5, w6, w7⟩ | ⟨M', o, S', w1, w2, w3, w4⟩
  · exact Or.inl ⟨N', M', S', p', w1, w2, w3, w4, w5, w6, x1.trans w7⟩
  · exact Or.inr ⟨M', o, S', w1, w2, w3, x1.trans w4⟩
theorem nI_m1 (d : Nat) : nI (d + 1) + (-1) = nI d := by
  have : nI (d + 1) + (-1 : Int32) = nI (d + 1) - 1 := (Int32.sub_eq_add_neg _ _).symm
  rw [this, nI_sub1]
/-- the bracket that ends a state, its items, and back to its outer state -/
theorem s_close {N : gA} {M : gM} {S : gm_S} {op ob ob1 : Nat → Bool} {s d fu n f : Nat} {K : Int32} (hf : 400 ≤ fu) (hn : 1 ≤ n) (hff : 1 ≤ f) (rc : Option Nat → Option Nat → Int32 → gm_S → gR) (h : QS A N M0 z tx bc bk op ob1 M S p) (hs : s < N 9 0) (hk : l_ch N s ≠ []) (o1 : ob1 s = true) (o2 : ob s = false) (o3 : ∀ j, j ≠ s → ob1 j = ob j) (hch : ∀ j, j < N 9 0 → N 24 j = s + 1 → op j = false ∧ ob1 j = false) (hK : K = 1 ∨ K = 2) :
    (∃ N' M' S' p', F_X4_readChart_162 fu (F_X4_readChart_6 fu n) (F_X4_readChart_87 fu (F_X4_readChart_6 fu n) f) (nI s) (nI (d + 1)) (cK K) M = F_X4_readChart_87 fu (F_X4_readChart_6 fu n) f (pcv (N 24 s)) (nI d) M' ∧ cCl fu rc (some (A 1 0)) (some (N 10 s)) (cK K) S = some (.returned (some (va_rf (some (N 10 s)))), S') ∧ QS A N' M0 z tx bc bk op ob M' S' p' ∧ p < p' ∧ exI N N' ∧ (∀ i, c_kind N' M' i = c_kind N M i) ∧ xS A (N 9 5) (N 7 0) M S M' S') ∨
    (∃ M' o S', F_X4_readChart_162 fu (F_X4_readChart_6 fu n) (F_X4_readChart_87 fu (F_X4_readChart_6 fu n) f) (nI s) (nI (d + 1)) (cK K) M = some (.returned none, M') ∧ cCl fu rc (some (A 1 0)) (some (N 10 s)) (cK K) S = some (o, S') ∧ PF A M0 bc bk M' o S' ∧ xS A (N 9 5) (N 7 0) M S M' S') := by
  have hP := h.1.1
  have hQ := h.1.2.2.2.1
  have n16 : N 9 0 ≤ 16 := hQ.2.2.2.2.2.2
  have h8 := hQ.2.1.1
  have hw := hQ.2.1.2.1
  obtain ⟨n, rfl⟩ : ∃ n', n = n' + 1 := ⟨n - 1, by omega⟩
  obtain ⟨f, rfl⟩ : ∃ f', f = f' + 1 := ⟨f - 1, by omega⟩
  obtain ⟨c, hc1, hc2, hc3⟩ : ∃ c, 0 < c ∧ c ≤ 126 ∧ cK K = nI c := by
    unfold cK
    rcases hK with rfl | rfl
    · exact ⟨41, by omega, by omega, if_pos rfl⟩
    · exact ⟨62, by omega, by omega, if_neg (by decide)⟩
  rw [hc3]
  unfold F_X4_readChart_162 cCl
  rw [y_q hP.1]
  -- when the model is ill it ends here
  have ill : ∀ (M2 : gM), n_I M2 5 0 = 1 → n_I M2 8 0 = nI (N 9 5) → ∃ M', (Option.bind (n_aI M2 15 32 ((16 : Int32) * (n_I M2 8 0) + nI s)) fun v5 => F_X4_readChart_87 fu (F_X4_readChart_6 fu (n + 1)) (f + 1) v5 (nI (d + 1) + (-1 : Int32)) M2) = some (.returned none, M') ∧ n_I M' 5 0 = 1 ∧ ∀ k i, k ≠ 5 → M' k i = M2 k i := fun M2 u1 u2 => by
    rw [u2, y_m16, nI_add, y_aI (by omega) (by omega), y_b]
    exact i_87 u1 fu n f _ _
  rcases s_tak hP h.1.2.1 h.1.2.2.1 fu (c := c) hc1 hc2 with ⟨M2, S2, e1, e2, e3, e4, -, e6⟩ | ⟨M2, o, S2, e1, e2, e3, e4, e5, e6⟩
  · rw [e1, y_cV, e2, y_cV]
    have h2 := h.to e3 (by omega) e4 e6
    have k2 : ∀ i, c_kind N M2 i = c_kind N M i := fun i => by unfold c_kind n_I; rw [e6 _ _ (by omega)]
    rcases s_end (ob := ob) hf rc h2 hs (fun _ => hk) o1 o2 o3 hch with ⟨N', M', S', p', w1, w2, w3, w4, w5, w6, w7⟩ | ⟨M', o, S', w1, w2, w3, w4⟩
    · have hQ' := w3.1.2.2.2.1
      have n0 := w5 9 0 (by omega)
      have e24 := w5 24 s (by omega)
      have h8' := hQ'.2.1.1
      have hw' := hQ'.2.1.2.1
      have v15 := (w3.2.1.2.2.2.1 s (by omega)).1.1
      rw [w1, y_cV, w2, h8', y_m16, nI_add, y_aI (by omega) (by omega), y_b, v15, e24, nI_m1]
      exact Or.inl ⟨N', M', S', p', rfl, rfl, w3, by omega, w5, fun i => (w6 i).trans (k2 i), (xS.t e4 e6).trans w7⟩
    · have h5 : n_I M' 5 0 = 1 := by obtain ⟨a, pp, -, -, -, -, g5, -⟩ := w3; exact g5
      have h8' : n_I M' 8 0 = nI (N 9 5) := by unfold n_I; rw [w4.2 _ _ (by omega), e6 _ _ (by omega)]; exact h8
      obtain ⟨M3, z1, z2, z3⟩ := ill M' h5 h8'
      rw [w1, y_cV, z1, w2]
      exact Or.inr ⟨M3, o, S', rfl, rfl, w3.m (by unfold n_I; rw [z3 _ _ (by omega)]) z2, (xS.t e4 e6).trans ⟨w4.1, fun k i u => (z3 k i (by omega)).trans (w4.2 k i u)⟩⟩
  · have h5 : n_I M2 5 0 = 1 := by obtain ⟨a, pp, -, -, -, -, g5, -⟩ := e3; exact g5
    have h8' : n_I M2 8 0 = nI (N 9 5) := by unfold n_I; rw [e6 _ _ (by omega)]; exact h8
    obtain ⟨M3, z1, z2, z3⟩ := ill M2 h5 h8'
    obtain ⟨a, pp, g1, g2⟩ := id e3
    rw [e1, y_cV, i_items h5, y_cV, z1, e2]
    exact Or.inr ⟨M3, o, S2, rfl, by rw [g1]; rfl, e3.m (by unfold n_I; rw [z3 _ _ (by omega)]) z2, e4.wk (fun F a w => w.elim) (fun a w => w.elim), fun k i u => (z3 k i (by omega)).trans (e6 k i (by omega))⟩
theorem s_state {fu : Nat} (hf : 400 ≤ fu) : ∀ e p, z - p = e → ST A M0 z tx fu p := by
  intro e
  induction e using Nat.strongRecOn with
  | _ e ih =>
    intro p he bc bk N M S op ob pc d n k h hpc hpd hd1 hd7 hn hk
    obtain ⟨n, rfl⟩ : ∃ n', n = n' + 1 := ⟨n - 1, by omega⟩
    obtain ⟨k, rfl⟩ : ∃ k', k = k' + 1 := ⟨k - 1, by omega⟩
    have hP := h.1.1
    have hpz := hP.pz
    have hQ := h.1.2.2.2.1
    have n16 : N 9 0 ≤ 16 := hQ.2.2.2.2.2.2
    have h8 := hQ.2.1.1
    have hw := hQ.2.1.2.1
    have hj := h.2.2.1
    obtain ⟨s, hs⟩ : ∃ s, N 9 0 = s := ⟨_, rfl⟩
    rw [F_X4_readChart_6, F_X2_state, if_neg (by decide), hP.m5, if_pos rfl, hs]
    obtain ⟨b, hb, e1, e2⟩ := s_st0 hP h8 hw n16 h.2.1.2.2.1 fu (pcv pc) (d := d) (by omega) (if pc = 0 then none else some (N 10 (pc - 1))) (F_X2_state fu k)
    rw [e1, e2]
    rcases hb with ⟨rfl, l, hl, hp, hlt, hfree, hd6⟩ | rfl
    · have hST : ∀ p', p < p' → ST A M0 z tx fu p' := fun p' w => ih (z - p') (by omega) p' rfl
      obtain ⟨N1, M1, S1, a1, a2, a3, a4, a5, a6, a7, a8, a9, a10, a11⟩ := s_newst hf hs h hl hp hlt hfree hd1 hd6 (by omega) (fun w => (hpd w).1) (fun w => (hpd w).2) (F_X2_state fu k)
      rw [a1, y_cI, a2]
      obtain ⟨op1, hop1⟩ : ∃ op1 : Nat → Bool, op1 = fun j => if j = s then true else op j := ⟨_, rfl⟩
      obtain ⟨ob1, hob1⟩ : ∃ ob1 : Nat → Bool, ob1 = fun j => if j = s then true else ob j := ⟨_, rfl⟩
      rw [← hop1, ← hob1] at a3
      rw [← hop1]
      have obs : ob1 s = true := by rw [hob1]; simp
      have obo : ∀ j, j ≠ s → ob1 j = ob j := fun j w => by rw [hob1]; simp [w]
      have ob0 : ob s = false := (hj s (by omega)).2
      have P1 := a3.1.1
      have n5 : N1 9 5 = N 9 5 := a10.2.1 9 5 (by omega)
      have n7 : N1 7 0 = N 7 0 := a10.2.1 7 0 (by omega)
      have hN1 : ∀ i, i < N1 9 0 → N1 24 i ≤ i := fun i u => (a3.2.1.2.2.2.1 i u).1.2.1
      have hch1 : ∀ j, j < N1 9 0 → N1 24 j = s + 1 → op1 j = false ∧ ob1 j = false := fun j u1 u2 => by
        have := hN1 j u1
        omega
      have hall1 : ∀ j, s < j → j < N1 9 0 → s + 1 ≤ N1 24 j := fun j u1 u2 => by omega
      have hw1 : N1 9 5 < 2 := by rw [n5]; exact hw
      have n161 : N1 9 0 ≤ 16 := a3.1.2.2.2.1.2.2.2.2.2.2
      -- a state with an inside
      have inside : ∀ (K : Int32) (M3 : gM) (S3 : gm_S) (p3 : Nat), (K = 1 ∨ K = 2) → QS A N1 M0 z tx (bc - 2) (bk - 200) op1 ob1 M3 S3 p3 → p < p3 → (∀ i, c_kind N1 M3 i = c_kind N1 M1 i) → xS A (N 9 5) (N 7 0) M S M3 S3 →
          (∃ N' M' S' p' n' f', F_X4_readChart_6 fu n (nI s) (nI (d + 1)) 1 (n_up M3 14 (16 * N1 9 5 + s) (.int K)) = F_X4_readChart_87 fu (F_X4_readChart_6 fu n') f' (pcv pc) (nI d) M' ∧ cLp fu (F_X2_state fu k) fu K (some (A 1 0)) (nI d) (some (N1 10 s)) (gs_put S3 502 (N1 10 s) 0 (.int K)) = some (.returned (some (va_rf (some (N' 10 s)))), S') ∧ QS A N' M0 z tx (bc - 2) (bk - 200) op1 ob M' S' p' ∧ p < p' ∧ n + 1 ≤ n' + (p' - p) ∧ fu + d ≤ f' + 7 ∧ s < N' 9 0 ∧ N' 24 s = pc ∧ (∀ j, s < j → j < N' 9 0 → s + 1 ≤ N' 24 j) ∧ exS N N' ∧ (∀ i, i < s → c_kind N' M' i = c_kind N M i) ∧ xS A (N 9 5) (N 7 0) M S M' S') ∨
          (∃ M' o S', F_X4_readChart_6 fu n (nI s) (nI (d + 1)) 1 (n_up M3 14 (16 * N1 9 5 + s) (.int K)) = some (.returned none, M') ∧ cLp fu (F_X2_state fu k) fu K (some (A 1 0)) (nI d) (some (N1 10 s)) (gs_put S3 502 (N1 10 s) 0 (.int K)) = some (o, S') ∧ PF A M0 bc bk M' o S' ∧ xS A (N 9 5) (N 7 0) M S M' S') := by
        intro K M3 S3 p3 hK q3 hp3 hk3 hx3
        obtain ⟨k1, k2, k3, k4⟩ := QS_kind (K := K) q3 (show s < N1 9 0 by omega) obs hK
        rw [n5, n7] at k4
        have hx4 := hx3.trans k4
        have hpz3 := q3.1.1.pz
        rcases s_kids (A := A) (M0 := M0) (bc := bc - 2) (bk := bk - 200) (op := op1) (ob := ob1) (s := s) (d := d) (k := k) (fu := fu) (p0 := p) hf hK hST (by omega) hd1 hd6 (z - p3) p3 N1 _ _ n fu rfl hp3 (by omega) (by omega) k1 (by omega) obs k2 a6 hch1 hall1 with ⟨N2, M4, S4, p4, n4, f4, w1, w2, w3, w4, w5, w6, w7, w8, w9, w10, w11, w12⟩ | ⟨M4, o, S4, w1, w2, w3, w4⟩
        · rw [n5, n7] at w12
          have e10 : N2 10 s = N1 10 s := w10.2.2 10 s (by omega) (by omega)
          have e24 : N2 24 s = pc := (w10.2.2 24 s (by omega) (by omega)).trans a5
          have m5 : N2 9 5 = N 9 5 := (w10.2.1 9 5 (by omega)).trans n5
          have m7 : N2 7 0 = N 7 0 := (w10.2.1 7 0 (by omega)).trans n7
          have hpz4 := w3.1.1.pz
          have sN2 : s < N2 9 0 := by have := w10.1; omega
          rcases s_close (ob := ob) (d := d) (n := n4) (f := f4) hf (by omega) (by omega) (F_X2_state fu k) w3 sN2 w7 obs ob0 obo w8 hK with ⟨N3, M5, S5, p5, y1, y2, y3, y4, y5, y6, y7⟩ | ⟨M5, o, S5, y1, y2, y3, y4⟩
          · rw [e24] at y1
            rw [e10] at y2
            rw [m5, m7] at y7
            have n30 := y5 9 0 (by omega)
            rw [w1, y1, w2, y2]
            refine Or.inl ⟨N3, M5, S5, p5, n4, f4, rfl, by rw [y5 10 s (by omega), e10], y3, by omega, by omega, w6, by omega, (y5 24 s (by omega)).trans e24, fun j u1 u2 => ?_, (a10.trans w10).trans y5.s, fun i u => ?_, (hx4.trans w12).trans y7⟩
            · rw [y5 24 j (by omega)]; exact w9 j u1 (by omega)
            · rw [y6 i, w11 i (by omega), k3 i (by omega), hk3 i]
              exact a9 i u
          · rw [e10] at y2
            rw [m5, m7] at y4
            rw [w1, y1, w2, y2]
            exact Or.inr ⟨M5, o, S5, rfl, rfl, y3.b (by omega) (by omega), (hx4.trans w12).trans y4⟩
        · rw [n5, n7] at w4
          rw [w1, w2]
          exact Or.inr ⟨M4, o, S4, rfl, rfl, w3.b (by omega) (by omega), hx4.trans w4⟩
      have t10 : ∀ (S3 : gm_S), tA A S1 S3 → gs_t S3 (N1 10 s) = 5 := fun S3 w => (w.t _).trans (by obtain ⟨a, ea, ta, -⟩ := y_gIt (a3.2.1.2.2.2.1 s (by omega)).2.1; cases ea; exact ta)
      unfold cAft
      rw [y_q P1.1]
      obtain ⟨v, M3, S3, p3, hv, b1, b2, P3, t3, f3⟩ := s_opt P1 fu (c := 40) (by omega) (by omega)
      have p3' : p + 1 ≤ p3 := by rcases hv with w | w <;> omega
      have Q3 := a3.to P3 p3' t3 f3
      have x3 : xS A (N 9 5) (N 7 0) M S M3 S3 := a11.trans (xS.t t3 f3)
      have kk3 : ∀ i, c_kind N1 M3 i = c_kind N1 M1 i := fun i => by unfold c_kind n_I; rw [f3 _ _ (by omega)]
      have h83 : n_I M3 8 0 = nI (N1 9 5) := Q3.1.2.2.2.1.2.1.1
      rw [show F_X4_takes fu 40 M1 = _ from b1, y_cI, show F_X2_takes fu (some (A 1 0)) 40 S1 = _ from b2, y_cI]
      rcases hv with ⟨hv0, -⟩ | ⟨hv1, -⟩
      · rw [if_pos hv0, if_pos hv0, y_q P3.1]
        obtain ⟨v', M4, S4, p4, hv', b3, b4, P4, t4, f4⟩ := s_opt P3 fu (c := 60) (by omega) (by omega)
        have p4' : p3 ≤ p4 := by rcases hv' with w | w <;> omega
        have Q4 := Q3.to P4 p4' t4 f4
        have x4 : xS A (N 9 5) (N 7 0) M S M4 S4 := x3.trans (xS.t t4 f4)
        have kk4 : ∀ i, c_kind N1 M4 i = c_kind N1 M1 i := fun i => (by unfold c_kind n_I; rw [f4 _ _ (by omega)] : c_kind N1 M4 i = c_kind N1 M3 i).trans (kk3 i)
        have h84 : n_I M4 8 0 = nI (N1 9 5) := Q4.1.2.2.2.1.2.1.1
        rw [show F_X4_takes fu 60 M3 = _ from b3, y_cI, show F_X2_takes fu (some (A 1 0)) 60 S3 = _ from b4, y_cI]
        rcases hv' with ⟨hv0', -⟩ | ⟨hv1', -⟩
        · rw [if_pos hv0', if_pos hv0']
          have hpz4 := P4.pz
          rcases s_end (ob := ob) hf (F_X2_state fu k) Q4 (show s < N1 9 0 by omega) (fun w => absurd ((kk4 s).trans a7) w) obs ob0 obo hch1 with ⟨N', M', S', p', w1, w2, w3, w4, w5, w6, w7⟩ | ⟨M', o, S', w1, w2, w3, w4⟩
          · rw [n5, n7] at w7
            have n0' := w5 9 0 (by omega)
            rw [w1, y_cV, w2]
            refine Or.inl ⟨N', M', S', p', n, fu, rfl, by rw [w5 10 s (by omega)], w3, by omega, by omega, by omega, by omega, (w5 24 s (by omega)).trans a5, fun j u1 u2 => by omega, a10.trans w5.s, fun i u => ?_, x4.trans w7⟩
            rw [w6 i, kk4 i]
            exact a9 i u
          · rw [n5, n7] at w4
            have h5 : n_I M' 5 0 = 1 := by obtain ⟨a, pp, -, -, -, -, g5, -⟩ := w3; exact g5
            obtain ⟨n', rfl⟩ : ∃ n', n = n' + 1 := ⟨n - 1, by omega⟩
            obtain ⟨fv, hfv⟩ : ∃ fv, fu = fv + 1 := ⟨fu - 1, by omega⟩
            obtain ⟨M5, z1, z2, z3⟩ := i_87 h5 fu n' fv (pcv pc) (nI d)
            rw [← hfv] at z1
            rw [w1, y_cV, z1, w2]
            exact Or.inr ⟨M5, o, S', rfl, rfl, (w3.m (by unfold n_I; rw [z3 _ _ (by omega)]) z2).b (by omega) (by omega), x4.trans ⟨w4.1, fun k i u => (z3 k i (by omega)).trans (w4.2 k i u)⟩⟩
        · have ek : F_X4_readChart_47 fu (F_X4_readChart_6 fu n) (nI d) 1 (nI s) v M4 = F_X4_readChart_6 fu n (nI s) (nI (d + 1)) 1 (n_up M4 14 (16 * N1 9 5 + s) (.int 2)) := by
            unfold F_X4_readChart_47
            rw [if_pos hv0, h84, y_m16, nI_add, y_sI (by omega) (by omega), y_b, nI_1]
          rw [if_neg (by rw [hv1']; decide), if_neg (by rw [hv1']; decide), y_pI (t10 S4 (t3.trans t4)), y_b, ek]
          have := inside 2 M4 S4 p4 (Or.inr rfl) Q4 (by omega) kk4 x4
          unfold cLp at this
          rw [if_neg (by decide)] at this
          exact this
      · have ek : F_X4_readChart_47 fu (F_X4_readChart_6 fu n) (nI d) 1 (nI s) v M3 = F_X4_readChart_6 fu n (nI s) (nI (d + 1)) 1 (n_up M3 14 (16 * N1 9 5 + s) (.int 1)) := by
          unfold F_X4_readChart_47
          rw [if_neg (by rw [hv1]; decide), h83, y_m16, nI_add, y_sI (by omega) (by omega), y_b, nI_1]
        rw [if_neg (by rw [hv1]; decide), if_neg (by rw [hv1]; decide), y_pI (t10 S3 t3), y_b, ek]
        have := inside 1 M3 S3 p3 (Or.inl rfl) Q3 (by omega) kk3 x3
        unfold cLp at this
        rw [if_pos rfl] at this
        exact this
    · obtain ⟨f1, f2⟩ := s_fail (bc := bc) (bk := bk) hP h.1.2.1 h.1.2.2.1 fu (some (A 1 0))
      have i5 : n_I (n_p M 5 1) 5 0 = 1 := n_ps
      obtain ⟨n', rfl⟩ : ∃ n', n = n' + 1 := ⟨n - 1, by omega⟩
      obtain ⟨fv, hfv⟩ : ∃ fv, fu = fv + 1 := ⟨fu - 1, by omega⟩
      obtain ⟨M5, z1, z2, z3⟩ := i_87 i5 fu n' fv (pcv pc) (nI d)
      rw [← hfv] at z1
      unfold F_X4_readState_46 F_X2_state_38
      rw [m_want0, y_cV, i5, if_neg (by decide), y_cI, show F_X4_takes fu 40 (n_p M 5 1) = _ from i_takes i5 fu (c := 40) (by omega) (by omega), y_cI, if_pos rfl, show F_X4_takes fu 60 (n_p M 5 1) = _ from i_takes i5 fu (c := 60) (by omega) (by omega), y_cI, if_pos rfl, i_items i5, y_cV, z1, y_q hP.1, f1, y_cVt]
      exact Or.inr ⟨M5, _, _, rfl, rfl, f2.m (by unfold n_I; rw [z3 _ _ (by omega)]) z2, (ag.mk h.1.2.1.2.2.2).wk (fun F a w => w.elim) (fun a w => w.elim), fun k i u => (z3 k i (by omega)).trans (y_uk (by omega))⟩
end RDZn
