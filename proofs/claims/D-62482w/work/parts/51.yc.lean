/-! LAYER 2: states are left, on both sides -/
set_option maxRecDepth 100000
section RCF
variable {A : gA} {M0 C : gM} {c1 c2 : Nat}
theorem RC.ch {M : gM} {S : gm_S} (h : RC A M0 C M S c1 c2) {s : Nat} (hs : s < A 9 0) : g_gR S (some (A 10 s)) 5 3 = some (some (A 15 s)) ∧ g_lsz S (some (A 15 s)) = some (nI (l_ch A s).length) ∧ (l_ch A s).length ≤ A 9 0 ∧ ∀ j k, (l_ch A s)[j]? = some k → g_lget S (some (A 15 s)) (nI j) = some (A 10 k) := by
  obtain ⟨e1, e2, e3, e4⟩ := (h.H.2.1 s hs).2.2.2.1
  have hl : (l_ch A s).length ≤ A 9 0 := by
    unfold l_ch
    exact Nat.le_trans (List.length_filter_le _ _) (by rw [List.length_range]; omega)
  refine ⟨e1, by rw [y_lsz e2, e4, List.length_map], hl, fun j k hk => ?_⟩
  have hj := (List.getElem?_eq_some_iff.mp hk).1
  have := h.n16
  exact y_lget e2 (by omega) (by rw [e4, List.getElem?_map, hk]; rfl)
theorem c_rec4 {M : gM} {S : gm_S} (h : RC A M0 C M S c1 c2) (fu : Nat) {s : Nat} (hs : s < A 9 0) : ∀ (d j m : Nat) (x : Int32), (l_ch A s).length - j = d → j ≤ (l_ch A s).length → d < m →
    F_X3_record_4 fu m (some (A 2 0)) (some (A 10 s)) x (nI j) S = (Option.bind (g_gI S (some (A 2 0)) 3 2) fun v3 => Option.bind (g_pI S (some (A 10 s)) 5 8 (v3 &&& ((l_ch A s).drop j).foldl (fun x i => x ||| v_bit i) x)) fun S4 => Option.bind (g_pI S4 (some (A 10 s)) 5 9 (0 : Int32)) fun S5 => F_X3_record_55 fu fu (some (A 2 0)) (some (A 10 s)) (0 : Int32) S5) := by
  obtain ⟨e1, e2, e3, e4⟩ := h.ch hs
  have hn := h.n16
  intro d
  induction d with
  | zero =>
    intro j m x hd hj hm
    obtain ⟨m, rfl⟩ : ∃ m', m = m' + 1 := ⟨m - 1, by omega⟩
    have e : j = (l_ch A s).length := by omega
    rw [F_X3_record_4, e1, y_b, e2, y_b, e, if_pos (Int32.le_refl _), List.drop_length]
    rfl
  | succ d ih =>
    intro j m x hd hj hm
    obtain ⟨m, rfl⟩ : ∃ m', m = m' + 1 := ⟨m - 1, by omega⟩
    have hlt : j < (l_ch A s).length := by omega
    obtain ⟨k, hk⟩ : ∃ k, (l_ch A s)[j]? = some k := ⟨_, List.getElem?_eq_getElem hlt⟩
    have hmem := mem_ch.mp (List.mem_of_getElem? hk)
    rw [F_X3_record_4, e1, y_b, e2, y_b, if_neg (nI_ge hlt (by omega)), y_b, e4 j k hk, y_b, y_q (h.st hmem.1), y_q (h.st hmem.1), s_bit h fu hmem.1, y_cI, nI_1, ih (j + 1) m _ (by omega) (by omega) (by omega)]
    have : (l_ch A s).drop j = k :: (l_ch A s).drop (j + 1) := by
      rw [List.drop_eq_getElem_cons hlt]
      rw [List.getElem?_eq_getElem hlt] at hk
      rw [Option.some.inj hk]
    rw [this, List.foldl_cons]
theorem c_rec55 (fu : Nat) {s : Nat} (hs : s < A 9 0) : ∀ (d i : Nat) (M : gM) (S : gm_S) (m : Nat), A 9 0 - i = d → i ≤ A 9 0 → d < m → RC A M0 C M S c1 c2 → M 44 s = .int (vm (p_d A C (n_I M 41 0) s) i) →
    ∃ S', F_X3_record_55 fu m (some (A 2 0)) (some (A 10 s)) (nI i) S = some (.returned none, S') ∧ RC A M0 C (n_up M 44 s (.int (vm (p_d A C (n_I M 41 0) s) (A 9 0)))) S' c1 c2 ∧ fX S S' M (n_up M 44 s (.int (vm (p_d A C (n_I M 41 0) s) (A 9 0)))) c1 := by
  intro d
  induction d with
  | zero =>
    intro i M S m hd hi hm h h44
    obtain ⟨m, rfl⟩ : ∃ m', m = m' + 1 := ⟨m - 1, by omega⟩
    have e : i = A 9 0 := by omega
    rw [e] at h44
    rw [y_self h44]
    refine ⟨S, ?_, h, fX.rfl⟩
    rw [F_X3_record_55, h.a.1, y_b, h.len, y_b, e, if_pos (Int32.le_refl _)]
  | succ d ih =>
    intro i M S m hd hi hm h h44
    obtain ⟨m, rfl⟩ : ∃ m', m = m' + 1 := ⟨m - 1, by omega⟩
    have hn := h.n16
    have hlt : i < A 9 0 := by omega
    rw [F_X3_record_55, h.a.1, y_b, h.len, y_b, if_neg (nI_ge hlt (by omega)), y_b, h.get hlt, y_b, y_q (h.st hlt), (h.H.2.1 i hlt).2.2.1, y_b, nI_1]
    by_cases hk : c_kind A C i = 0
    · rw [if_pos hk, (h.H.2.1 s hs).2.2.2.2.2.2.2, y_b, h.a.2.2.2.1, y_b, y_q (h.st hlt), s_bit h fu hlt, y_cI]
      by_cases hb : bt (c_bel A C s &&& n_I M 41 0) i = true
      · have hb2 : bt (c_bel A C s) i = true ∧ bt (n_I M 41 0) i = true := by rw [b_and] at hb; simpa using hb
        rw [if_neg (fun z => by rw [(v_and0 (by omega)).mp z] at hb; cases hb)]
        have r9 : g_gI S (some (A 10 s)) 5 9 = some (vm (p_d A C (n_I M 41 0) s) i) := by rw [(h.h s hs).2]; unfold n_I; rw [h44]; rfl
        have hv : vm (p_d A C (n_I M 41 0) s) (i + 1) = vm (p_d A C (n_I M 41 0) s) i ||| v_bit i := by
          rw [vm, if_pos (by unfold p_d; simp [hb2.1, hb2.2, hk])]
        obtain ⟨p1, p2, p3⟩ := h.wDeep hs (vm (p_d A C (n_I M 41 0) s) (i + 1))
        rw [r9, y_b, y_q (h.st hlt), s_bit h fu hlt, y_cI, ← hv, p1, y_b]
        have hact : n_I (n_up M 44 s (.int (vm (p_d A C (n_I M 41 0) s) (i + 1)))) 41 0 = n_I M 41 0 := by unfold n_I; rw [y_uk (by decide)]
        obtain ⟨S', z1, z2, z3⟩ := ih (i + 1) _ _ m (by omega) (by omega) (by omega) p2 (by rw [hact]; exact y_us)
        rw [hact, y_uu] at z2 z3
        exact ⟨S', z1, z2, p3.trans z3⟩
      · have hv : vm (p_d A C (n_I M 41 0) s) (i + 1) = vm (p_d A C (n_I M 41 0) s) i := by
          rw [vm, if_neg]
          unfold p_d
          intro z
          simp only [Bool.and_eq_true, decide_eq_true_eq] at z
          rw [b_and, z.1.1, z.1.2] at hb
          exact hb rfl
        rw [if_pos ((v_and0 (by omega)).mpr (by simpa using hb))]
        exact ih (i + 1) M S m (by omega) (by omega) (by omega) h (by rw [hv]; exact h44)
    · rw [if_neg hk]
      have hv : vm (p_d A C (n_I M 41 0) s) (i + 1) = vm (p_d A C (n_I M 41 0) s) i := by
        rw [vm, if_neg (by unfold p_d; simp [hk])]
      exact ih (i + 1) M S m (by omega) (by omega) (by omega) h (by rw [hv]; exact h44)
theorem c_record {M : gM} {S : gm_S} (h : RC A M0 C M S c1 c2) {fu : Nat} (hf : 100 ≤ fu) {s : Nat} (hs : s < A 9 0) : ∃ S', F_X3_record fu (some (A 2 0)) (some (A 10 s)) S = some (.returned none, S') ∧ RC A M0 C (n_up (n_up M 43 s (.int (vm (p_h A (n_I M 41 0) s) (A 9 0)))) 44 s (.int (vm (p_d A C (n_I M 41 0) s) (A 9 0)))) S' c1 c2 ∧ fX S S' M (n_up (n_up M 43 s (.int (vm (p_h A (n_I M 41 0) s) (A 9 0)))) 44 s (.int (vm (p_d A C (n_I M 41 0) s) (A 9 0)))) c1 := by
  have hn := h.n16
  have hl := (h.ch hs).2.2.1
  unfold F_X3_record
  have e0 : (0 : Int32) = nI 0 := rfl
  rw [show F_X3_record_4 fu fu (some (A 2 0)) (some (A 10 s)) 0 0 S = _ from c_rec4 h fu hs (l_ch A s).length 0 fu 0 (by omega) (by omega) (by omega), h.a.2.2.2.1, y_b, List.drop_zero]
  have hm : n_I M 41 0 &&& (l_ch A s).foldl (fun x i => x ||| v_bit i) 0 = vm (p_h A (n_I M 41 0) s) (A 9 0) := by
    apply b_ext
    intro k hk
    rw [b_and, bt_fold _ (fun i hi => by have := (mem_ch.mp hi).1; omega), vm_bt _ _ (by omega), b_0]
    unfold p_h
    by_cases z : k < A 9 0
    · by_cases w : A 24 k = s + 1
      · rw [decide_eq_true (mem_ch.mpr ⟨z, w⟩)]; simp [z, w]
      · rw [decide_eq_false (fun q => w (mem_ch.mp q).2)]; simp [w]
    · rw [decide_eq_false (fun q => z (mem_ch.mp q).1)]; simp [z]
  obtain ⟨p1, p2, p3⟩ := h.wHist hs (vm (p_h A (n_I M 41 0) s) (A 9 0))
  rw [hm, p1, y_b]
  obtain ⟨q1, q2, q3⟩ := p2.wDeep hs 0
  rw [q1, y_b]
  have hact : n_I (n_up (n_up M 43 s (.int (vm (p_h A (n_I M 41 0) s) (A 9 0)))) 44 s (.int 0)) 41 0 = n_I M 41 0 := by unfold n_I; rw [y_uk (by decide), y_uk (by decide)]
  obtain ⟨S', z1, z2, z3⟩ := c_rec55 fu hs (A 9 0) 0 _ _ fu (by omega) (by omega) (by omega) q2 y_us
  rw [hact, y_uu] at z2 z3
  exact ⟨S', z1, z2, (p3.trans q3).trans z3⟩
/-- the second half: exit actions, innermost first -/
theorem s_leave2 {fu : Nat} (hf : 100 ≤ fu) (bits : Int32) : ∀ (j : Nat) (M : gM) (S : gm_S) (n m : Nat), j ≤ A 9 0 → j < n → j < m → RC A M0 C M S c1 c2 → n_I M 40 0 = 1 →
    ∃ M' S', F_X4_leave_152 fu n bits (nI j + (-1)) M = some (.returned none, M') ∧ F_X3_leave_62 fu m (some (A 2 0)) bits (nI j + (-1)) S = some (.returned none, S') ∧ RC A M0 C M' S' c1 c2 ∧ fX S S' M M' c1 := by
  intro j
  induction j with
  | zero =>
    intro M S n m hj hn hm h hr
    obtain ⟨n, rfl⟩ : ∃ n', n = n' + 1 := ⟨n - 1, by omega⟩
    obtain ⟨m, rfl⟩ : ∃ m', m = m' + 1 := ⟨m - 1, by omega⟩
    refine ⟨M, S, ?_, ?_, h, fX.rfl⟩
    · rw [F_X4_leave_152, if_pos (by decide)]
    · rw [F_X3_leave_62, if_pos (by decide)]
  | succ i ih =>
    intro M S n m hj hn hm h hr
    obtain ⟨n, rfl⟩ : ∃ n', n = n' + 1 := ⟨n - 1, by omega⟩
    obtain ⟨m, rfl⟩ : ∃ m', m = m' + 1 := ⟨m - 1, by omega⟩
    have hn16 := h.n16
    have hlt : i < A 9 0 := by omega
    rw [pk_m1, F_X4_leave_152, if_neg (nI_pos (by omega)), m_in fu (by omega), y_cI, F_X3_leave_62, if_neg (nI_pos (by omega)), h.a.1, y_b, h.get hlt, y_b, y_q (h.st hlt), y_q (h.st hlt), s_bit h fu hlt, y_cI]
    by_cases hb : bt bits i = true
    · rw [if_pos hb, if_neg (show ¬ (1 : Int32) = 0 by decide), if_neg (fun z => by rw [(v_and0 (by omega)).mp z] at hb; cases hb), (h.H.2.1 i hlt).2.2.2.2.2.2.1.1, y_b, y_q h.rt]
      have e200 : (200 : Int32) + nI i = nI (200 + i) := nI_add 200 i
      obtain ⟨M1, S1, a1, a2, a3, a4⟩ := s_acts h hr hf (o := 200 + i) (x := A 18 i) (by omega) (fun T hT => (hT.2.1 i hlt).2.2.2.2.2.2.1.2)
      rw [e200, a1, a2, y_cV, y_cV, a3.a.2.2.2.1, y_b, y_q (a3.st hlt), s_bit a3 fu hlt, y_cI]
      obtain ⟨p1, p2, p3⟩ := a3.wActive (n_I M1 41 0 &&& (v_bit i ^^^ (-1)))
      rw [p1, y_b, show n_pIO M1 41 (n_I M1 41 0 &&& (v_bit i ^^^ (-1))) = some (n_p M1 41 (n_I M1 41 0 &&& (v_bit i ^^^ (-1)))) from rfl, y_b, y_q p2.rt]
      obtain ⟨M2, S2, q1, q2, q3, q4⟩ := s_note p2 fu ((-1 : Int32) - nI i)
      rw [q1, q2, y_cV, y_cV]
      obtain ⟨M', S', z1, z2, z3, z4⟩ := ih M2 S2 n m (by omega) (by omega) (by omega) q3 (q4.run (p3.run (a4.run hr)))
      exact ⟨M', S', z1, z2, z3, ((a4.trans p3).trans q4).trans z4⟩
    · rw [if_neg hb, if_pos rfl, if_pos ((v_and0 (by omega)).mpr (by simpa using hb))]
      exact ih M S n m (by omega) (by omega) (by omega) h hr
theorem s_leave1 {fu : Nat} (hf : 100 ≤ fu) (bits : Int32) : ∀ (d i : Nat) (M : gM) (S : gm_S) (n m : Nat), A 9 0 - i = d → i ≤ A 9 0 → d < n → d < m → RC A M0 C M S c1 c2 → n_I M 40 0 = 1 →
    ∃ M' S', F_X4_leave_2 fu n bits (nI i) M = some (.returned none, M') ∧ F_X3_leave_2 fu m (some (A 2 0)) bits (nI i) S = some (.returned none, S') ∧ RC A M0 C M' S' c1 c2 ∧ fX S S' M M' c1 := by
  intro d
  induction d with
  | zero =>
    intro i M S n m hd hi hn hm h hr
    obtain ⟨n, rfl⟩ : ∃ n', n = n' + 1 := ⟨n - 1, by omega⟩
    obtain ⟨m, rfl⟩ : ∃ m', m = m' + 1 := ⟨m - 1, by omega⟩
    have hn16 := h.n16
    have e : i = A 9 0 := by omega
    rw [F_X4_leave_2, m_n h, y_b, e, if_pos (Int32.le_refl _), y_b, F_X3_leave_2, h.a.1, y_b, h.len, y_b, if_pos (Int32.le_refl _), y_b, h.len, y_b, Int32.sub_eq_add_neg]
    exact s_leave2 hf bits (A 9 0) M S fu fu (by omega) (by omega) (by omega) h hr
  | succ d ih =>
    intro i M S n m hd hi hn hm h hr
    obtain ⟨n, rfl⟩ : ∃ n', n = n' + 1 := ⟨n - 1, by omega⟩
    obtain ⟨m, rfl⟩ : ∃ m', m = m' + 1 := ⟨m - 1, by omega⟩
    have hn16 := h.n16
    have hlt : i < A 9 0 := by omega
    have e1 : ¬ nI (A 9 0) ≤ nI i := nI_ge hlt (by omega)
    rw [F_X4_leave_2, m_n h, y_b, if_neg e1, m_in fu (by omega), y_cI, F_X3_leave_2, h.a.1, y_b, h.len, y_b, if_neg e1, y_b, h.get hlt, y_b, y_q (h.st hlt), y_q (h.st hlt), s_bit h fu hlt, y_cI, nI_1]
    by_cases hb : bt bits i = true
    · rw [if_pos hb, if_neg (show ¬ (1 : Int32) = 0 by decide), if_neg (fun z => by rw [(v_and0 (by omega)).mp z] at hb; cases hb), m_kind h fu hlt, y_cI, (h.H.2.1 i hlt).2.2.1, y_b]
      by_cases hk : c_kind A C i = 0
      · rw [if_pos hk, if_pos hk]
        exact ih (i + 1) M S n m (by omega) (by omega) (by omega) (by omega) h hr
      · rw [if_neg hk, if_neg hk, y_sI (by omega) (by omega), y_b, y_sI (by omega) (by omega), y_b, y_q h.rt]
        obtain ⟨S1, r1, r2, r3⟩ := c_record h hf hlt
        rw [r1, y_cV]
        have hact : n_I (n_up (n_up M 43 i (.int 0)) 44 i (.int 0)) 41 0 = n_I M 41 0 := by unfold n_I; rw [y_uk (by decide), y_uk (by decide)]
        have z1 : vm (p_h A (n_I M 41 0) i) (i + 1) = 0 := vm_lo _ (fun k hk => by
          unfold p_h
          have := (h.W.2.1 k (by omega)).2.1
          rw [decide_eq_false (show ¬ A 24 k = i + 1 by omega), Bool.and_false])
        have z2 : vm (p_d A C (n_I M 41 0) i) (i + 1) = 0 := vm_lo _ (fun k hk => by
          unfold p_d
          have : bt (c_bel A C i) k = false := by
            cases e : bt (c_bel A C i) k with
            | false => rfl
            | true => have := ((h.W.2.2.1 i hlt).1 k e).1; omega
          rw [this, Bool.and_false, Bool.false_and])
        have := m_rec (fu := fu) (k2 := F_X4_leave_2 fu n) bits h.W hlt (n_I M 41 0) (A 9 0 - (i + 1)) (i + 1) (n_up (n_up M 43 i (.int 0)) 44 i (.int 0)) fu rfl (by omega) (by omega) (by omega) (Mc_up (Mc_up h.mc (by omega)) (by omega)) hact (by rw [y_uk (by decide), y_us, z1]) (by rw [y_us, z2])
        rw [this, y_uc (k := 44) (k' := 43) (by decide), y_uu, y_uu]
        obtain ⟨M', S', w1, w2, w3, w4⟩ := ih (i + 1) _ S1 n m (by omega) (by omega) (by omega) (by omega) r2 (r3.run hr)
        exact ⟨M', S', w1, w2, w3, r3.trans w4⟩
    · rw [if_neg hb, if_pos rfl, if_pos ((v_and0 (by omega)).mpr (by simpa using hb))]
      exact ih (i + 1) M S n m (by omega) (by omega) (by omega) (by omega) h hr
theorem s_leave {M : gM} {S : gm_S} {fu : Nat} (hf : 100 ≤ fu) (bits : Int32) (h : RC A M0 C M S c1 c2) (hr : n_I M 40 0 = 1) : ∃ M' S', F_X4_leave fu bits M = some (.returned none, M') ∧ F_X3_leave fu (some (A 2 0)) bits S = some (.returned none, S') ∧ RC A M0 C M' S' c1 c2 ∧ fX S S' M M' c1 := by
  have := h.n16
  exact s_leave1 hf bits (A 9 0) 0 M S fu fu (by omega) (by omega) (by omega) (by omega) h hr
end RCF
