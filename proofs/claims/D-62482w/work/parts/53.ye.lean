/-! LAYER 2: where a transition leads -/
set_option maxRecDepth 100000
section RCI
variable {A : gA} {M0 C M : gM} {S : gm_S} {c1 c2 : Nat}
/-- the model's own scratch -/
theorem RC.mup (h : RC A M0 C M S c1 c2) {k i : Nat} {v : Value} (hk : k = 52 ∨ (55 ≤ k ∧ k ≤ 61)) : RC A M0 C (n_up M k i v) S c1 c2 := by
  have g : ag (fun _ _ => False) (fun _ => False) S S := ⟨fun _ _ _ _ _ => rfl, fun _ _ _ => rfl, fun _ _ => rfl⟩
  have hu : ∀ k' i', k' ≠ k → n_up M k i v k' i' = M k' i' := fun k' i' z => y_uk z
  exact h.upd g h.inv (fun _ _ z => z.elim) (fun _ z => z.elim) (Mc_up h.mc (by omega)) (fun k' i' z => hu k' i' (by omega)) (h.a.mono g (by simp) (fun k' i' z => hu k' i' (by omega))) (h.v.mono g (by simp) (fun i' => hu _ i' (by omega))) (h.q.mono g (by simp) (fun k' i' z => hu k' i' (by omega)))
    (h.s.mono g (by simp) (by simp) (fun k' i' z => hu k' i' (by omega))) (h.t.mono g (by simp) (fun k' i' z => hu k' i' (by omega))) h.c (h.h.mono g (by simp) (fun k' i' z => hu k' i' (by omega))) h.b
/-- a transition's own scratch -/
theorem RC.putT (h : RC A M0 C M S c1 c2) {t F : Nat} (ht : t < A 9 1) (hF : 1005 ≤ F ∧ F ≤ 1007) (v : Value) : RC A M0 C M (gs_put S F (A 11 t) 0 v) c1 c2 := by
  have ha : gs_t S (A 11 t) ≠ 0 := by rw [h.tt ht]; decide
  have g := ag.put (S := S) (F := F) (a := A 11 t) (i := 0) (v := v) (by omega)
  have hne : ∀ F' : Nat, F' < 1005 → F' ≠ F := fun F' z => by omega
  refine h.upd g (h.inv.put (by omega) ha) (fun F' a z => ?_) (fun a z => z.elim) h.mc (fun _ _ _ => rfl) (h.a.mono g (fun k hk => n1 (by omega)) (fun _ _ _ => rfl)) (h.v.mono g ⟨n1 (by omega), n1 (by omega), n1 (by omega)⟩ (fun _ => rfl)) (h.q.mono g ⟨n1 (by omega), n1 (by omega), n1 (by omega), n1 (by omega), n1 (by omega)⟩ (fun _ _ _ => rfl))
    (h.s.mono g ⟨n1 (by omega), fun x => ⟨n1 (by omega), n1 (by omega)⟩⟩ (fun z => z) (fun _ _ _ => rfl)) (h.t.mono g ⟨n1 (by omega), n1 (by omega), n1 (by omega), n1 (by omega)⟩ (fun _ _ _ => rfl)) (h.c.mono g ⟨n1 (by omega), n1 (by omega)⟩) (h.h.mono g (fun i hi => ⟨n1 (by omega), n1 (by omega)⟩) (fun _ _ _ => rfl)) (h.b.same rfl rfl rfl (fun b => y_cap (by omega)))
  have e : F' = F := z.1
  subst e
  refine ⟨?_, fun w => by omega⟩
  simp only [k_dyn, Bool.or_eq_true, Bool.and_eq_true, decide_eq_true_eq, beq_iff_eq]
  omega
theorem y_sn {a : Nat} : ¬ (some a = (none : Option Nat)) := fun z => by cases z
/-- states by codes: 0 none, i + 1 the state i -/
def e_r (A : gA) (p : Nat) : Option Nat := if p = 0 then none else some (A 10 (p - 1))
def e_i (p : Nat) : Int32 := if p = 0 then -1 else nI (p - 1)
theorem e_r0 (A : gA) : e_r A 0 = none := rfl
theorem e_i0 : e_i 0 = -1 := rfl
theorem e_r1 (A : gA) (i : Nat) : e_r A (i + 1) = some (A 10 i) := rfl
theorem e_i1 (i : Nat) : e_i (i + 1) = nI i := rfl
theorem RC.out (h : RC A M0 C M S c1 c2) {i : Nat} (hi : i < A 9 0) : g_gR S (some (A 10 i)) 5 1 = some (e_r A (A 24 i)) := (h.H.2.1 i hi).2.1
theorem c_oute (i : Nat) : c_out A i = e_i (A 24 i) := rfl
theorem RC.up1 (h : RC A M0 C M S c1 c2) {i : Nat} (hi : i < A 9 0) : A 24 i ≤ i := (h.W.2.1 i hi).2.1
/-- the least state around: both loops come to the same one -/
theorem s_dom (h : RC A M0 C M S c1 c2) (fu : Nat) (tr : Option Nat) (jj all : Int32) : ∀ (p n m : Nat), p ≤ A 9 0 → p < n → p < m → ∃ q, q ≤ A 9 0 ∧ F_X4_aim_147 fu n jj all (e_i p) M = F_X4_aim_187 fu jj (e_i q) M ∧ F_X3_aim_119 fu m (some (A 2 0)) tr all (e_r A p) S = F_X3_aim_156 fu (some (A 2 0)) tr (e_r A q) S := by
  intro p
  induction p using Nat.strongRecOn with
  | _ p ih =>
    intro n m hp hn hm
    obtain ⟨n, rfl⟩ : ∃ n', n = n' + 1 := ⟨n - 1, by omega⟩
    obtain ⟨m, rfl⟩ : ∃ m', m = m' + 1 := ⟨m - 1, by omega⟩
    have hn16 := h.n16
    cases p with
    | zero =>
      refine ⟨0, by omega, ?_, ?_⟩
      · rw [F_X4_aim_147, e_i0, if_pos (by decide)]
      · rw [F_X3_aim_119, e_r0, if_pos rfl]
    | succ i =>
      have hi : i < A 9 0 := by omega
      have hu := h.up1 hi
      obtain ⟨-, -, k1, -, -, -, -, k2⟩ := h.H.2.1 i hi
      rw [F_X4_aim_147, e_i1, if_neg (nI_pos (by omega)), m_kind h fu hi, y_cI, F_X3_aim_119, e_r1, if_neg y_sn, k1, y_b]
      obtain ⟨q, z1, z2, z3⟩ := ih (A 24 i) (by omega) n m (by omega) (by omega) (by omega)
      by_cases hk : c_kind A C i = 1
      · rw [if_pos hk, if_pos hk, m_bel h fu hi, y_cI, k2, y_b]
        by_cases ha : (c_bel A C i &&& all) = all
        · rw [if_pos ha, if_pos ha]
          exact ⟨i + 1, by omega, rfl, rfl⟩
        · rw [if_neg ha, if_neg ha, h.out hi, y_b]
          unfold F_X4_aim_176
          rw [m_out h fu hi, y_cI, c_oute]
          exact ⟨q, z1, z2, z3⟩
      · rw [if_neg hk, if_neg hk, h.out hi, y_b]
        unfold F_X4_aim_176
        rw [m_out h fu hi, y_cI, c_oute]
        exact ⟨q, z1, z2, z3⟩
/-- what a transition keeps while it is chosen -/
def tG (A : gA) (S : gm_S) (t : Nat) (g d e : Int32) : Prop := g_gI S (some (A 11 t)) 10 5 = some g ∧ g_gI S (some (A 11 t)) 10 6 = some d ∧ g_gI S (some (A 11 t)) 10 7 = some e
/-- only the scratch of t changes -/
def tS (A : gA) (t : Nat) (S S' : gm_S) : Prop := ag (fun F a => (1005 ≤ F ∧ F ≤ 1007) ∧ a = A 11 t) (fun _ => False) S S'
theorem tS.put (h : RC A M0 C M S c1 c2) {t F : Nat} {v : Value} (hF : 1005 ≤ F ∧ F ≤ 1007) : tS A t S (gs_put S F (A 11 t) 0 v) := (ag.put (by omega)).wk (fun F' a z => ⟨by have := z.1; omega, z.2⟩) (fun _ z => z)
theorem tS.trans {t : Nat} {S' S'' : gm_S} (h : tS A t S S') (h' : tS A t S' S'') : tS A t S S'' := (ag.trans h h').wk (fun F a z => z.elim id id) (fun a z => z.elim id id)
theorem y_aim {j : Nat} {a b c g d e : Value} : n_up (n_up (n_up (n_up (n_up (n_up M 57 j a) 58 j b) 59 j c) 57 j g) 58 j d) 59 j e = n_up (n_up (n_up M 57 j g) 58 j d) 59 j e := by
  funext k i
  simp only [n_up]
  by_cases h1 : k = 59 ∧ i = j
  · simp only [if_pos h1]
  · simp only [if_neg h1]
    by_cases h2 : k = 58 ∧ i = j
    · simp only [if_pos h2]
    · simp only [if_neg h2]
      by_cases h3 : k = 57 ∧ i = j
      · simp only [if_pos h3]
      · simp only [if_neg h3]
theorem v_bit0 {s : Nat} (hs : s < 32) : ¬ v_bit s = 0 := by
  intro z
  have := v_zero.mp z s hs
  rw [v_bt hs] at this
  simp at this
/-- aim, on both sides: place jj, transition t -/
theorem s_aim (h : RC A M0 C M S c1 c2) {fu : Nat} (hf : 100 ≤ fu) {j t : Nat} (hj : j < 24) (ht : t < A 9 1) (hm : n_I M 56 j = nI (24 * A 9 5 + t)) : ∃ (g d e : Int32) (S' : gm_S), F_X4_aim fu (nI j) M = some (.returned none, n_up (n_up (n_up M 57 j (.int g)) 58 j (.int d)) 59 j (.int e)) ∧ F_X3_aim fu (some (A 2 0)) (some (A 11 t)) S = some (.returned none, S') ∧ RC A M0 C M S' c1 c2 ∧ tG A S' t g d e ∧ tS A t S S' ∧ (∃ q, q ≤ A 9 0 ∧ d = e_i q) := by
  have hw := h.w2
  have hnt := h.nt
  have hnn := h.W.1.2.2.2.2.2.2.2.1
  have hn16 := h.n16
  have tt := h.tt ht
  obtain ⟨w1, w2, w3, w4, w5, w6, w7, w8⟩ := h.W.2.2.2.1 t ht
  have p1 := h.putT ht (F := 1005) (by omega) (.int 0)
  have p2 := p1.putT ht (F := 1007) (by omega) (.int 0)
  have p3 := p2.putT ht (F := 1006) (by omega) (.int (-1))
  have s3 : tS A t S (gs_put (gs_put (gs_put S 1005 (A 11 t) 0 (.int 0)) 1007 (A 11 t) 0 (.int 0)) 1006 (A 11 t) 0 (.int (-1))) := ((tS.put h (by omega)).trans (tS.put p1 (by omega))).trans (tS.put p2 (by omega))
  obtain ⟨S3, hS3⟩ : ∃ S3, S3 = gs_put (gs_put (gs_put S 1005 (A 11 t) 0 (.int 0)) 1007 (A 11 t) 0 (.int 0)) 1006 (A 11 t) 0 (.int (-1)) := ⟨_, rfl⟩
  rw [← hS3] at p3 s3
  obtain ⟨M8, hM8⟩ : ∃ M8, M8 = n_up (n_up (n_up M 57 j (.int 0)) 58 j (.int (-1))) 59 j (.int 0) := ⟨_, rfl⟩
  have m8 : RC A M0 C M8 S3 c1 c2 := by rw [hM8]; exact ((p3.mup (by omega)).mup (by omega)).mup (by omega)
  have hu8 : ∀ k i, ¬ (57 ≤ k ∧ k ≤ 59) → M8 k i = M k i := fun k i z => by rw [hM8, y_uk (by omega), y_uk (by omega), y_uk (by omega)]
  have r22 : n_I M8 22 (24 * A 9 5 + t) = (if A 29 t = 0 then -1 else nI (64 * A 9 5 + (A 29 t - 1))) := (m8.rd (by omega)).trans w7
  have e4 := (p3.H.2.2.1 t ht).2.2.2.2
  unfold F_X4_aim F_X3_aim
  rw [y_aI (by omega) (by omega), y_b, hm, y_sI hj (by omega), y_b, y_sI hj (by omega), y_b, y_sI hj (by omega), y_b, ← hM8, y_aI (by omega) (by omega), r22]
  simp only [y_b]
  rw [y_pI tt]
  simp only [y_b]
  rw [y_pI (p1.tt ht)]
  simp only [y_b]
  rw [y_pI (p2.tt ht)]
  simp only [y_b]
  rw [← hS3, e4]
  simp only [y_b]
  by_cases h0 : A 29 t = 0
  · rw [if_pos h0, if_neg (by decide), if_pos h0, if_pos rfl]
    refine ⟨0, -1, 0, S3, by rw [hM8], rfl, p3, ⟨?_, ?_, ?_⟩, s3, 0, by omega, rfl⟩
    · rw [y_gI (p3.tt ht), hS3, y_pM (by simp), y_pM (by simp), y_pE]; rfl
    · rw [y_gI (p3.tt ht), hS3, y_pE]; rfl
    · rw [y_gI (p3.tt ht), hS3, y_pM (by simp), y_pE]; rfl
  · obtain ⟨k, hk⟩ : ∃ k, A 29 t = k + 1 := ⟨A 29 t - 1, by omega⟩
    have hkn : k < A 9 4 := by omega
    obtain ⟨n1, n2⟩ := p3.H.2.2.2.1 k hkn
    obtain ⟨m1, m2⟩ := h.W.2.2.2.2.1 k hkn
    have ek : A 29 t - 1 = k := by omega
    rw [if_neg h0, if_neg h0, ek, if_pos (nI_pos' (by omega)), y_aI (by omega) (by omega), y_aI (by omega) (by omega), m8.rd (k := 23) (by omega), m1, m8.rd (k := 25) (by omega), if_neg y_sn, p3.a.1]
    simp only [y_b]
    rw [n1]
    simp only [y_b]
    rw [p3.get m2]
    simp only [y_b]
    rw [y_q (p3.st m2), n2]
    simp only [y_b]
    obtain ⟨s, hs⟩ : ∃ s, s = A 30 k := ⟨_, rfl⟩
    rw [← hs] at m1 m2 n1 ⊢
    obtain ⟨x, hx⟩ : ∃ x, x = n_I C 25 (64 * A 9 5 + k) := ⟨_, rfl⟩
    rw [← hx]
    -- the goals
    have key : ∀ gv : Int32, ∃ (d e : Int32) (S' : gm_S), F_X4_aim_118 fu (nI j) (nI (24 * A 9 5 + t)) (n_up M8 57 j (.int gv)) = some (.returned none, n_up (n_up (n_up M 57 j (.int gv)) 58 j (.int d)) 59 j (.int e)) ∧ F_X3_aim_96 fu (some (A 2 0)) (some (A 11 t)) (gs_put S3 1005 (A 11 t) 0 (.int gv)) = some (.returned none, S') ∧ RC A M0 C M S' c1 c2 ∧ tG A S' t gv d e ∧ tS A t S S' ∧ (∃ q, q ≤ A 9 0 ∧ d = e_i q) := by
      intro gv
      have p4 := p3.putT ht (F := 1005) (by omega) (.int gv)
      have s4 := s3.trans (tS.put p3 (v := .int gv) (F := 1005) (by omega))
      have m4 : RC A M0 C (n_up M8 57 j (.int gv)) (gs_put S3 1005 (A 11 t) 0 (.int gv)) c1 c2 := (m8.putT ht (by omega) _).mup (by omega)
      have r18 : n_I (n_up M8 57 j (.int gv)) 18 (24 * A 9 5 + t) = nI (A 26 t) := (m4.rd (by omega)).trans w1
      have ract : n_I (n_up M8 57 j (.int gv)) 41 0 = n_I M 41 0 := by unfold n_I; rw [y_uk (by decide), hu8 _ _ (by omega)]
      have hgo : g_gI (gs_put S3 1005 (A 11 t) 0 (.int gv)) (some (A 11 t)) 10 5 = some gv := by rw [y_gI (p4.tt ht), y_pE]; rfl
      have hup := h.up1 w2
      obtain ⟨q, z1, z2, z3⟩ := s_dom m4 fu (some (A 11 t)) (nI j) (gv ||| v_bit (A 26 t)) (A 24 (A 26 t)) fu fu (by omega) (by omega) (by omega)
      have h57 : n_I (n_up M8 57 j (.int gv)) 57 j = gv := by unfold n_I; rw [y_us]; rfl
      unfold F_X4_aim_118 F_X3_aim_96
      rw [y_aI hj (by omega), y_b, h57, y_aI (by omega) (by omega), y_b, r18, y_b, m_out m4 fu w2, y_cI, c_oute, z2, hgo, y_b, (p4.H.2.2.1 t ht).1, y_b, y_q (p4.st w2), s_bit p4 fu w2, y_cI, (p4.H.2.2.1 t ht).1, y_b, p4.out w2, y_b, z3]
      unfold F_X4_aim_187 F_X3_aim_156
      rw [y_sI hj (by omega), y_b]
      have ract2 : ∀ dv : Int32, n_I (n_up (n_up M8 57 j (.int gv)) 58 j (.int dv)) 41 0 = n_I M 41 0 := fun dv => by unfold n_I; rw [y_uk (by decide)]; exact ract
      have m5 : ∀ dv : Int32, RC A M0 C (n_up (n_up M8 57 j (.int gv)) 58 j (.int dv)) (gs_put S3 1005 (A 11 t) 0 (.int gv)) c1 c2 := fun dv => m4.mup (by omega)
      have fin : ∀ dv ev : Int32, (∃ q, q ≤ A 9 0 ∧ dv = e_i q) → (g_pI (gs_put (gs_put S3 1005 (A 11 t) 0 (.int gv)) 1006 (A 11 t) 0 (.int dv)) (some (A 11 t)) 10 7 ev = some (gs_put (gs_put (gs_put S3 1005 (A 11 t) 0 (.int gv)) 1006 (A 11 t) 0 (.int dv)) 1007 (A 11 t) 0 (.int ev))) ∧ RC A M0 C M (gs_put (gs_put (gs_put S3 1005 (A 11 t) 0 (.int gv)) 1006 (A 11 t) 0 (.int dv)) 1007 (A 11 t) 0 (.int ev)) c1 c2 ∧ tG A (gs_put (gs_put (gs_put S3 1005 (A 11 t) 0 (.int gv)) 1006 (A 11 t) 0 (.int dv)) 1007 (A 11 t) 0 (.int ev)) t gv dv ev ∧ tS A t S (gs_put (gs_put (gs_put S3 1005 (A 11 t) 0 (.int gv)) 1006 (A 11 t) 0 (.int dv)) 1007 (A 11 t) 0 (.int ev)) := by
        intro dv ev _
        have p5 := p4.putT ht (F := 1006) (by omega) (.int dv)
        have p6 := p5.putT ht (F := 1007) (by omega) (.int ev)
        refine ⟨y_pI (p5.tt ht), p6, ⟨?_, ?_, ?_⟩, (s4.trans (tS.put p4 (by omega))).trans (tS.put p5 (by omega))⟩
        · rw [y_gI (p6.tt ht), y_pM (by simp), y_pM (by simp), y_pE]; rfl
        · rw [y_gI (p6.tt ht), y_pM (by simp), y_pE]; rfl
        · rw [y_gI (p6.tt ht), y_pE]; rfl
      have act6 : ∀ dv : Int32, g_gI (gs_put (gs_put S3 1005 (A 11 t) 0 (.int gv)) 1006 (A 11 t) 0 (.int dv)) (some (A 2 0)) 3 2 = some (n_I M 41 0) := fun dv => (p4.putT ht (F := 1006) (by omega) (.int dv)).a.2.2.2.1
      cases q with
      | zero =>
        obtain ⟨f1, f2, f3, f4⟩ := fin (e_i 0) (n_I M 41 0) ⟨0, by omega, rfl⟩
        refine ⟨e_i 0, n_I M 41 0, _, ?_, ?_, f2, f3, f4, 0, by omega, rfl⟩
        · rw [if_neg (by decide), ract2, y_sI hj (by omega), y_b, hM8, y_aim]
        · rw [e_r0, if_pos rfl]
          unfold F_X3_aim_171
          rw [y_pI (p4.tt ht), y_b, if_pos rfl, act6, y_b]
          rw [show g_pI (gs_put (gs_put S3 1005 (A 11 t) 0 (.int gv)) 1006 (A 11 t) 0 (.int (-1))) (some (A 11 t)) 10 7 (n_I M 41 0) = _ from f1, y_b]
      | succ i =>
        have hi : i < A 9 0 := by omega
        obtain ⟨f1, f2, f3, f4⟩ := fin (e_i (i + 1)) (n_I M 41 0 &&& c_bel A C i) ⟨i + 1, by omega, rfl⟩
        refine ⟨e_i (i + 1), n_I M 41 0 &&& c_bel A C i, _, ?_, ?_, f2, f3, f4, i + 1, by omega, rfl⟩
        · rw [e_i1, if_pos (nI_pos' (by omega)), m_bel (m5 (nI i)) fu hi, y_cI, ract2, y_sI hj (by omega), y_b, hM8, y_aim]
        · rw [e_r1, if_neg y_sn, (p4.H.2.1 i hi).1, y_b]
          unfold F_X3_aim_171
          rw [y_pI (p4.tt ht), y_b, if_neg y_sn, act6, y_b, ((p4.putT ht (F := 1006) (by omega) (.int (nI i))).H.2.1 i hi).2.2.2.2.2.2.2, y_b]
          rw [show g_pI (gs_put (gs_put S3 1005 (A 11 t) 0 (.int gv)) 1006 (A 11 t) 0 (.int (nI i))) (some (A 11 t)) 10 7 (n_I M 41 0 &&& c_bel A C i) = _ from f1, y_b]
    have c78 : ∀ x0 : Int32, F_X3_aim_78 fu (some (A 2 0)) (some (A 11 t)) (some (A 10 s)) x0 (some (A 11 t)) S3 = F_X3_aim_96 fu (some (A 2 0)) (some (A 11 t)) (gs_put S3 1005 (A 11 t) 0 (.int (if x0 = 0 then v_bit s else x0))) := by
      intro x0
      have p4 := p3.putT ht (F := 1005) (by omega) (.int x0)
      unfold F_X3_aim_78
      rw [y_pI (p3.tt ht), y_b, show g_gI (gs_put S3 1005 (A 11 t) 0 (.int x0)) (some (A 11 t)) 10 5 = some x0 by rw [y_gI (p4.tt ht), y_pE]; rfl, y_b]
      by_cases z : x0 = 0
      · rw [if_pos z, if_pos z, y_q (p4.st m2), s_bit p4 fu m2, y_cI, y_pI (p4.tt ht), y_b, y_pp]
      · rw [if_neg z, if_neg z]
    have c99 : ∀ x0 : Int32, F_X4_aim_99 fu (nI j) (nI (24 * A 9 5 + t)) (nI s) x0 (nI j) M8 = F_X4_aim_118 fu (nI j) (nI (24 * A 9 5 + t)) (n_up M8 57 j (.int (if x0 = 0 then v_bit s else x0))) := by
      intro x0
      unfold F_X4_aim_99
      rw [y_sI hj (by omega), y_b, y_aI hj (by omega), y_b]
      have : n_I (n_up M8 57 j (.int x0)) 57 j = x0 := by unfold n_I; rw [y_us]; rfl
      rw [this]
      by_cases z : x0 = 0
      · rw [if_pos z, if_pos z, y_sI hj (by omega), y_b, y_uu]
      · rw [if_neg z, if_neg z]
    have r43 : n_I M8 43 s = n_I M 43 s := by unfold n_I; rw [hu8 _ _ (by omega)]
    have r44 : n_I M8 44 s = n_I M 44 s := by unfold n_I; rw [hu8 _ _ (by omega)]
    by_cases hx1 : x = 1
    · obtain ⟨d, e, S', z⟩ := key (if n_I M 43 s = 0 then v_bit s else n_I M 43 s)
      rw [if_pos hx1, if_pos hx1, y_aI (by omega) (by omega), y_b, r43, c99, (p3.h s m2).1, y_b, c78]
      exact ⟨_, d, e, S', z⟩
    · rw [if_neg hx1, if_neg hx1]
      by_cases hx2 : x = 2
      · obtain ⟨d, e, S', z⟩ := key (if n_I M 44 s = 0 then v_bit s else n_I M 44 s)
        rw [if_pos hx2, if_pos hx2, y_aI (by omega) (by omega), y_b, r44, c99, (p3.h s m2).2, y_b, c78]
        exact ⟨_, d, e, S', z⟩
      · obtain ⟨d, e, S', z⟩ := key (v_bit s)
        rw [if_neg hx2, if_neg hx2, c99, if_pos rfl, y_q (p3.st m2), s_bit p3 fu m2, y_cI, c78, if_neg (v_bit0 (by omega))]
        exact ⟨_, d, e, S', z⟩
end RCI
