/-! LAYER 2, reading: the children of a state -/
set_option maxRecDepth 100000
section RDZm
variable {A : gA} {M0 : gM} {z bc bk : Nat} {tx : Nat → Nat}
/-- what reading a state gives, at a place -/
def ST (A : gA) (M0 : gM) (z : Nat) (tx : Nat → Nat) (fu p : Nat) : Prop := ∀ (bc bk : Nat) (N : gA) (M : gM) (S : gm_S) (op ob : Nat → Bool) (pc d n k : Nat), QS A N M0 z tx bc bk op ob M S p → pc ≤ N 9 0 → (pc ≠ 0 → d = N 25 (pc - 1) + 1 ∧ ob (pc - 1) = true) → 1 ≤ d → d ≤ 7 → z - p + 2 ≤ n → k + d = 9 →
    (∃ N' M' S' p' n' f', F_X4_readChart_6 fu n (pcv pc) (nI d) 1 M = F_X4_readChart_87 fu (F_X4_readChart_6 fu n') f' (pcv pc) (nI d) M' ∧ F_X2_state fu k (some (A 1 0)) (if pc = 0 then none else some (N 10 (pc - 1))) (nI d) S = some (.returned (some (va_rf (some (N' 10 (N 9 0))))), S') ∧ QS A N' M0 z tx (bc - 2) (bk - 200) (fun j => if j = N 9 0 then true else op j) ob M' S' p' ∧ p < p' ∧ n ≤ n' + (p' - p) ∧ fu + d ≤ f' + 7 ∧ N 9 0 < N' 9 0 ∧ N' 24 (N 9 0) = pc ∧ (∀ j, N 9 0 < j → j < N' 9 0 → N 9 0 + 1 ≤ N' 24 j) ∧ exS N N' ∧ (∀ i, i < N 9 0 → c_kind N' M' i = c_kind N M i) ∧ xS A (N 9 5) (N 7 0) M S M' S') ∨
    (∃ M' o S', F_X4_readChart_6 fu n (pcv pc) (nI d) 1 M = some (.returned none, M') ∧ F_X2_state fu k (some (A 1 0)) (if pc = 0 then none else some (N 10 (pc - 1))) (nI d) S = some (o, S') ∧ PF A M0 bc bk M' o S' ∧ xS A (N 9 5) (N 7 0) M S M' S')
def cCl (fu : Nat) (rc : Option Nat → Option Nat → Int32 → gm_S → gR) (x0 x3 : Option Nat) (c : Int32) (S : gm_S) : gR := gz_q (g_at S x0 2) (gz_cV (F_X2_take fu x0 c S) fun S5 => F_X2_state_193 fu rc fu x0 x3 (0 : Int32) S5)
def cLp (fu : Nat) (rc : Option Nat → Option Nat → Int32 → gm_S → gR) (m : Nat) (K : Int32) (x0 : Option Nat) (x2 : Int32) (x3 : Option Nat) (S : gm_S) : gR := if K = 1 then F_X2_state_96 fu rc m x0 x2 x3 S else F_X2_state_146 fu rc m x0 x2 x3 S
def cK (K : Int32) : Int32 := if K = 1 then 41 else 62
theorem s_kids {op ob : Nat → Bool} {s d k fu p0 : Nat} {K : Int32} (hf : 400 ≤ fu) (hK : K = 1 ∨ K = 2) (hST : ∀ p', p0 < p' → ST A M0 z tx fu p') (hkd : k + (d + 1) = 9) (hd1 : 1 ≤ d) (hd : d ≤ 6) : ∀ (e p : Nat) (N : gA) (M : gM) (S : gm_S) (n m : Nat), z - p = e → p0 < p → e < m → z - p + 2 ≤ n → QS A N M0 z tx bc bk op ob M S p → s < N 9 0 → ob s = true → c_kind N M s = K → N 25 s = d → (∀ j, j < N 9 0 → N 24 j = s + 1 → op j = false ∧ ob j = false) → (∀ j, s < j → j < N 9 0 → s + 1 ≤ N 24 j) →
    (∃ N' M' S' p' n' f', F_X4_readChart_6 fu n (nI s) (nI (d + 1)) 1 M = F_X4_readChart_162 fu (F_X4_readChart_6 fu n') (F_X4_readChart_87 fu (F_X4_readChart_6 fu n') f') (nI s) (nI (d + 1)) (cK K) M' ∧ cLp fu (F_X2_state fu k) m K (some (A 1 0)) (nI d) (some (N 10 s)) S = cCl fu (F_X2_state fu k) (some (A 1 0)) (some (N 10 s)) (cK K) S' ∧ QS A N' M0 z tx bc bk op ob M' S' p' ∧ p < p' ∧ n ≤ n' + (p' - p) ∧ fu + d ≤ f' + 7 ∧ l_ch N' s ≠ [] ∧ (∀ j, j < N' 9 0 → N' 24 j = s + 1 → op j = false ∧ ob j = false) ∧ (∀ j, s < j → j < N' 9 0 → s + 1 ≤ N' 24 j) ∧ exS N N' ∧ (∀ i, i < N 9 0 → c_kind N' M' i = c_kind N M i) ∧ xS A (N 9 5) (N 7 0) M S M' S') ∨
    (∃ M' o S', F_X4_readChart_6 fu n (nI s) (nI (d + 1)) 1 M = some (.returned none, M') ∧ cLp fu (F_X2_state fu k) m K (some (A 1 0)) (nI d) (some (N 10 s)) S = some (o, S') ∧ PF A M0 bc bk M' o S' ∧ xS A (N 9 5) (N 7 0) M S M' S') := by
  intro e
  induction e using Nat.strongRecOn with
  | _ e ih =>
    intro p N M S n m he hp0 hm hn h hs hob hkind h25 hch hall
    obtain ⟨m, rfl⟩ : ∃ m', m = m' + 1 := ⟨m - 1, by omega⟩
    have hP := h.1.1
    have hj := h.2.2.1
    have n16 : N 9 0 ≤ 16 := h.1.2.2.2.1.2.2.2.2.2.2
    obtain ⟨-, -, -, f4, -⟩ := (h.2.1.2.2.2.1 s hs).2
    have hx3 : (if s + 1 = 0 then none else some (N 10 (s + 1 - 1))) = some (N 10 s) := by rw [if_neg (by omega), Nat.add_sub_cancel]
    have hfail : ∀ (o : Outcome) (S' : gm_S), (∃ a, o = .threw a) → F_X2_state fu k (some (A 1 0)) (some (N 10 s)) (nI (d + 1)) S = some (o, S') → cLp fu (F_X2_state fu k) (m + 1) K (some (A 1 0)) (nI d) (some (N 10 s)) S = some (o, S') := by
      rintro o S' ⟨a, ea⟩ w
      unfold cLp
      rcases hK with rfl | rfl
      · rw [if_pos rfl, F_X2_state_96, f4, y_b, nI_1, w, ea]; rfl
      · rw [if_neg (by decide), F_X2_state_146, f4, y_b, nI_1, w, ea]; rfl
    have hst := hST p hp0 bc bk N M S op ob (s + 1) (d + 1) n k h (by omega) (fun _ => ⟨by rw [Nat.add_sub_cancel, h25], by rw [Nat.add_sub_cancel]; exact hob⟩) (by omega) (by omega) hn hkd
    rw [hx3, pcv_s] at hst
    rcases hst with ⟨N1, M1, S1, p1, n1, f1, a1, a2, a3, a4, a5, a6, a7, a8, a9, a10, a11, a12⟩ | ⟨M1, o, S1, a1, a2, a3, a4⟩
    · obtain ⟨c, hc⟩ : ∃ c, c = N 9 0 := ⟨_, rfl⟩
      rw [← hc] at a2 a3 a7 a8 a9
      obtain ⟨x1, x2, x3⟩ := id a10
      have n5 : N1 9 5 = N 9 5 := x2 9 5 (by omega)
      have n7 : N1 7 0 = N 7 0 := x2 7 0 (by omega)
      have v10 : N1 10 s = N 10 s := x3 10 s (by omega) hs
      have v15 : N1 15 s = N 15 s := x3 15 s (by omega) hs
      have v25 : N1 25 s = d := (x3 25 s (by omega) hs).trans h25
      have hpz1 := a3.1.1.pz
      obtain ⟨b1, b2, b3, b4⟩ := h.1.2.2.1
      have last : ∀ j, j < N1 9 0 → N1 24 j = s + 1 → j ≤ c := fun j u1 u2 => by
        rcases Nat.lt_or_ge c j with w | w
        · have := a9 j w u1; omega
        · exact w
      obtain ⟨S2, d1, d2, d3, d4⟩ := QS_add (op := op) (op1 := fun j => if j = c then true else op j) (s := s) (c := c) ⟨by omega, by omega, b3, b4⟩ a3 (by omega) (by omega) a8 (by simp) (hj c (by omega)).1 (fun j w => by simp [w]) last
      have hch1 : ∀ j, j < N1 9 0 → N1 24 j = s + 1 → op j = false ∧ ob j = false := fun j u1 u2 => by
        have := last j u1 u2
        by_cases ej : j = c
        · exact hj j (by omega)
        · rw [x3 24 j (by omega) (by omega)] at u2
          exact hch j (by omega) u2
      have hall1 : ∀ j, s < j → j < N1 9 0 → s + 1 ≤ N1 24 j := fun j u1 u2 => by
        rcases Nat.lt_or_ge c j with w | w
        · have := a9 j w u2; omega
        · by_cases ej : j = c
          · rw [ej, a8]; omega
          · rw [x3 24 j (by omega) (by omega)]
            exact hall j u1 (by omega)
      have hne1 : l_ch N1 s ≠ [] := fun w => by
        have : c ∈ l_ch N1 s := by
          unfold l_ch
          exact List.mem_filter.mpr ⟨List.mem_range.mpr a7, by simp [a8]⟩
        rw [w] at this
        cases this
      have hk1 : c_kind N1 M1 s = K := (a11 s hs).trans hkind
      have P2 := d2.1.1
      have hS2 := d2.2.1
      have hQ2 := d2.1.2.2.2.1
      have n161 : N1 9 0 ≤ 16 := hQ2.2.2.2.2.2.2
      have h8 := hQ2.2.1.1
      have hw := hQ2.2.1.2.1
      have hx2 : xS A (N 9 5) (N 7 0) M S M1 S2 := by
        have := d4
        rw [n5, n7] at this
        exact a12.trans this
      have g53 : g_gR S (some (N 10 s)) 5 3 = some (some (N 15 s)) := f4
      obtain ⟨-, -, -, f42, -⟩ := (hS2.2.2.2.1 s (by omega)).2
      rw [v10, v15] at f42
      have r15 : rl N1 (N 15 s) (1000 + s) := Or.inr (Or.inl ⟨s, by omega, Or.inl ⟨rfl, v15.symm⟩⟩)
      obtain ⟨u1, u2⟩ := hQ2.2.2.2.2.1.1 _ _ r15
      have len : (S2.2.1 (N 15 s)).length = (l_ch N1 s).length := by
        rw [u2.2.2, cont_ch (by omega), List.length_map]
        have : (l_ch N1 s).filter (fun j => !op j) = l_ch N1 s := List.filter_eq_self.mpr (fun a ha => by
          have h24 : N1 24 a = s + 1 := by unfold l_ch at ha; simpa using (List.mem_filter.mp ha).2
          simp [(hch1 a (l_ch_lt ha) h24).1])
        rw [this]
      have llen : (l_ch N1 s).length ≤ 16 := by
        unfold l_ch
        exact Nat.le_trans (List.length_filter_le _ _) (by rw [List.length_range]; exact n161)
      rw [v15] at d1
      have ns0 : ¬ nI s < (0 : Int32) := fun w => by have := (nI_ltI (a := s) (b := 0) (by omega) (by omega)).mp w; omega
      have hma := m_among P2 fu (lo := 97) (hi := 112) (by omega) (by omega)
      have hca := c_among P2 fu (lo := 97) (hi := 112) (by omega) (by omega)
      obtain ⟨f1', hf1'⟩ : ∃ f1', f1 = f1' + 1 := ⟨f1 - 1, by omega⟩
      have hmin := m_inner (N := N1) (s := s) (fu := fu) (M := M1) (by omega) hw h8 hS2.2.1 n161 (by omega) (fun i u => ⟨(hS2.2.2.2.1 i u).1.1, (hS2.2.2.2.1 i u).1.2.1⟩)
      have a14 : n_aI M1 14 32 ((16 : Int32) * n_I M1 8 0 + nI s) = some K := by
        rw [h8, y_m16, nI_add, y_aI (by omega) (by omega)]
        exact congrArg some hk1
      -- both go on, or both close
      have both : (F_X4_readChart_87 fu (F_X4_readChart_6 fu n1) f1 (nI s) (nI (d + 1)) M1 = F_X4_readChart_6 fu n1 (nI s) (nI (d + 1)) 1 M1 ∧ cLp fu (F_X2_state fu k) (m + 1) K (some (A 1 0)) (nI d) (some (N 10 s)) S = cLp fu (F_X2_state fu k) m K (some (A 1 0)) (nI d) (some (N 10 s)) S2) ∨
          (F_X4_readChart_87 fu (F_X4_readChart_6 fu n1) f1 (nI s) (nI (d + 1)) M1 = F_X4_readChart_162 fu (F_X4_readChart_6 fu n1) (F_X4_readChart_87 fu (F_X4_readChart_6 fu n1) f1') (nI s) (nI (d + 1)) (cK K) M1 ∧ cLp fu (F_X2_state fu k) (m + 1) K (some (A 1 0)) (nI d) (some (N 10 s)) S = cCl fu (F_X2_state fu k) (some (A 1 0)) (some (N 10 s)) (cK K) S2) := by
        rw [hf1', F_X4_readChart_87, P2.m5, if_pos rfl, if_neg ns0, show F_X4_among fu 97 112 M1 = _ from hma, y_cI]
        by_cases ea : am 97 112 (ct z tx p1) = 0
        · rw [if_pos ea, a14, y_b]
          rcases hK with rfl | rfl
          · rw [if_pos rfl]
            unfold F_X4_readChart_136
            rw [a14, y_b, if_pos rfl]
            refine Or.inr ⟨rfl, ?_⟩
            unfold cLp cCl cK
            rw [if_pos rfl, if_pos rfl, F_X2_state_96, f4, y_b, nI_1, a2, gz_cR_rf, d1, y_b, y_q P2.1, show F_X2_isAmong fu (some (A 1 0)) 97 112 S2 = _ from hca, y_cI, if_pos ea]
          · rw [if_neg (by decide), hmin, y_cI]
            have comp0 : cLp fu (F_X2_state fu k) (m + 1) 2 (some (A 1 0)) (nI d) (some (N 10 s)) S = (if nI (l_ch N1 s).length < (2 : Int32) then F_X2_state_146 fu (F_X2_state fu k) m (some (A 1 0)) (nI d) (some (N 10 s)) S2 else cCl fu (F_X2_state fu k) (some (A 1 0)) (some (N 10 s)) 62 S2) := by
              unfold cLp cCl
              rw [if_neg (by decide), F_X2_state_146, f4, y_b, nI_1, a2, gz_cR_rf, d1, y_b, f42, y_b, y_lsz u2.1, y_b, len, y_q P2.1, show F_X2_isAmong fu (some (A 1 0)) 97 112 S2 = _ from hca, y_cI, if_pos ea]
            rw [comp0]
            by_cases el : (l_ch N1 s).length ≤ 1
            · have q1 : nI (l_ch N1 s).length ≤ (1 : Int32) := (nI_leI (a := (l_ch N1 s).length) (b := 1) (by omega) (by omega)).mpr el
              have q2 : nI (l_ch N1 s).length < (2 : Int32) := (nI_ltI (a := (l_ch N1 s).length) (b := 2) (by omega) (by omega)).mpr (by omega)
              rw [if_pos q1, if_pos q2]
              unfold F_X4_readChart_191 cLp
              rw [if_neg ns0, if_neg (by decide)]
              exact Or.inl ⟨rfl, rfl⟩
            · have q1 : ¬ nI (l_ch N1 s).length ≤ (1 : Int32) := fun w => el ((nI_leI (a := (l_ch N1 s).length) (b := 1) (by omega) (by omega)).mp w)
              have q2 : ¬ nI (l_ch N1 s).length < (2 : Int32) := fun w => by have := (nI_ltI (a := (l_ch N1 s).length) (b := 2) (by omega) (by omega)).mp w; omega
              rw [if_neg q1, if_neg q2]
              unfold F_X4_readChart_136 cK
              rw [a14, y_b, if_neg (by decide)]
              exact Or.inr ⟨rfl, rfl⟩
        · rw [if_neg ea]
          unfold F_X4_readChart_191
          rw [if_neg ns0]
          refine Or.inl ⟨rfl, ?_⟩
          unfold cLp
          rcases hK with rfl | rfl
          · rw [if_pos rfl, if_pos rfl, F_X2_state_96, f4, y_b, nI_1, a2, gz_cR_rf, d1, y_b, y_q P2.1, show F_X2_isAmong fu (some (A 1 0)) 97 112 S2 = _ from hca, y_cI, if_neg ea]
          · rw [if_neg (by decide), if_neg (by decide), F_X2_state_146, f4, y_b, nI_1, a2, gz_cR_rf, d1, y_b, f42, y_b, y_lsz u2.1, y_b, len, y_q P2.1, show F_X2_isAmong fu (some (A 1 0)) 97 112 S2 = _ from hca, y_cI, if_neg ea]
            by_cases el : nI (l_ch N1 s).length < (2 : Int32)
            · rw [if_pos el]
            · rw [if_neg el]
      rcases both with ⟨y1, y2⟩ | ⟨y1, y2⟩
      · rw [a1, y1, y2]
        rcases ih (z - p1) (by omega) p1 N1 M1 S2 n1 m rfl (by omega) (by omega) (by omega) d2 (by omega) hob hk1 v25 hch1 hall1 with ⟨N', M', S', p', n', f', w1, w2, w3, w4, w5, w6, w7, w8, w9, w10, w11, w12⟩ | ⟨M', o, S', w1, w2, w3, w4⟩
        · rw [v10] at w2
          rw [n5, n7] at w12
          exact Or.inl ⟨N', M', S', p', n', f', w1, w2, w3, by omega, by omega, w6, w7, w8, w9, a10.trans w10, fun i u => (w11 i (by omega)).trans (a11 i u), hx2.trans w12⟩
        · rw [v10] at w2
          rw [n5, n7] at w4
          exact Or.inr ⟨M', o, S', w1, w2, w3, hx2.trans w4⟩
      · rw [a1, y1, y2]
        exact Or.inl ⟨N1, M1, S2, p1, n1, f1', rfl, rfl, d2, by omega, a5, by omega, hne1, hch1, hall1, a10, a11, hx2⟩
    · obtain ⟨a, pp, g1, g2⟩ := id a3
      rw [a1, hfail o S1 ⟨a, g1⟩ a2]
      exact Or.inr ⟨M1, o, S1, rfl, rfl, a3, a4⟩
end RDZm
