/-! LAYER 2: tests, enabled transitions -/
set_option maxRecDepth 100000
section RCG
variable {A : gA} {M0 C M : gM} {S : gm_S} {c1 c2 : Nat}
theorem y_nI0 : (0 : Int32) = nI 0 := rfl
theorem m_h158 (h : RC A M0 C M S c1 c2) (fu : Nat) {j : Nat} (hj : j < A 9 2) (x : Int32) : F_X4_holds_158 fu (nI (64 * A 9 5 + j)) x M = some (.returned (some (.int (if x = n_I C 26 (64 * A 9 5 + j) then 0 else 1))), M) := by
  have hw := h.w2
  have hs := h.W.1.2.2.2.2.2.1
  unfold F_X4_holds_158
  rw [y_aI (by omega) (by omega), y_b, h.rd (by omega)]
  split
  · rw [if_pos y_z0]
  · rw [if_pos y_z1]
/-- a comparison's value -/
def o_cmp (g : Int32) (x y : UInt64) : Int32 := if g = 60 then (if 0 ≤ (Op.cmpValue (FP.dcmp x y) .g) then 0 else 1) else if g = 61 then (if (Op.cmpValue (FP.dcmp x y) .l) = 0 then 1 else 0) else (if (Op.cmpValue (FP.dcmp x y) .l) ≤ 0 then 0 else 1)
theorem o_cmpZ (g : Int32) (x y : UInt64) : g_okZ (o_cmp g x y) = true := by
  unfold o_cmp
  split
  · split <;> decide
  · split
    · split <;> decide
    · split <;> decide
theorem s_holds (h : RC A M0 C M S c1 c2) (fu : Nat) {j : Nat} (hj : j < A 9 2) : ∃ b : Int32, (b = 0 ∨ b = 1) ∧ F_X4_holds fu (nI (64 * A 9 5 + j)) M = some (.returned (some (.int b)), M) ∧ F_holds fu (some (A 13 j)) (some (A 2 0)) S = some (.returned (some (.int b)), S) ∧ ((g_at S (some (A 13 j)) 13).isSome = true ∨ (g_at S (some (A 13 j)) 14).isSome = true) := by
  have hw := h.w2
  have hs := h.W.1.2.2.2.2.2.1
  have hnn := h.W.1.2.2.2.2.2.2.2.1
  have hix : 64 * A 9 5 + j < 128 := by omega
  obtain ⟨w1, w2⟩ := h.W.2.2.2.2.2.1 j hj
  have bz : ∀ x : Int32, (if x = n_I C 26 (64 * A 9 5 + j) then (0 : Int32) else 1) = 0 ∨ (if x = n_I C 26 (64 * A 9 5 + j) then (0 : Int32) else 1) = 1 := fun x => by split <;> simp
  have r27 : n_I M 27 (64 * A 9 5 + j) = n_I C 27 (64 * A 9 5 + j) := h.rd (by omega)
  rcases w2 with ⟨e0, e1, e2, e3⟩ | ⟨e0, e1, e2⟩
  · obtain ⟨a1, a2, a3, a4, a5, a6⟩ := (h.H.2.2.2.2.1 j hj).1 e0
    obtain ⟨ta, te, tt, -⟩ := y_gIt a1
    cases te
    obtain ⟨tb, te, t1, -⟩ := y_gIt a3.1
    cases te
    obtain ⟨tc, te, t2, -⟩ := y_gIt a5.1
    cases te
    refine ⟨_, bz (o_cmp (n_I C 28 (64 * A 9 5 + j)) (o_val M (n_I C 29 (64 * A 9 5 + j)) (n_D C 31 (64 * A 9 5 + j))) (o_val M (n_I C 30 (64 * A 9 5 + j)) (n_D C 32 (64 * A 9 5 + j)))), ?_, ?_, Or.inr (by rw [y_at tt]; rfl)⟩
    · unfold F_X4_holds
      rw [y_aI hix (by omega), y_b, r27, e1, if_pos (by decide), y_aI hix (by omega), y_b, h.rd (by omega)]
      have k1 := m_oval (M := M) e2 (kd := 31) (n := 128) (i := 64 * A 9 5 + j) (f := fun v6 => F_X4_holds_61 fu (nI (64 * A 9 5 + j)) v6 M) hix (by omega)
      rw [h.rdD (by omega)] at k1
      refine k1.trans ?_
      unfold F_X4_holds_61
      rw [y_aI hix (by omega), y_b, h.rd (by omega)]
      have k2 := m_oval (M := M) e3 (kd := 32) (n := 128) (i := 64 * A 9 5 + j) (f := fun v4 => F_X4_holds_91 fu (nI (64 * A 9 5 + j)) (o_val M (n_I C 29 (64 * A 9 5 + j)) (n_D C 31 (64 * A 9 5 + j))) v4 M) hix (by omega)
      rw [h.rdD (by omega)] at k2
      refine k2.trans ?_
      unfold F_X4_holds_91
      rw [y_aI hix (by omega), y_b, h.rd (by omega), y_b]
      unfold o_cmp
      split
      · split
        · rw [m_h158 h fu hj]
        · rw [m_h158 h fu hj]
      · split
        · split
          · rw [m_h158 h fu hj]
          · rw [m_h158 h fu hj]
        · split
          · rw [m_h158 h fu hj]
          · rw [m_h158 h fu hj]
    · unfold F_holds
      rw [if_neg (by rw [y_na (by rw [tt]; decide)]; decide), if_pos (by rw [y_at tt]; rfl)]
      unfold F_X12_holds_14
      have hi : F_X14_is fu (some (A 13 j)) (some (A 2 0)) S = some (.returned (some (.int (o_cmp (n_I C 28 (64 * A 9 5 + j)) (o_val M (n_I C 29 (64 * A 9 5 + j)) (n_D C 31 (64 * A 9 5 + j))) (o_val M (n_I C 30 (64 * A 9 5 + j)) (n_D C 32 (64 * A 9 5 + j)))))), S) := by
        unfold F_X14_is
        rw [a2, y_b, y_q t1, s_of h fu a3 e2, y_cD, a4, y_b, y_q t2, s_of h fu a5 e3, y_cD, a6, y_b, y_b]
        unfold o_cmp
        split
        · split
          · rw [if_pos y_z0]
          · rw [if_pos y_z1]
        · split
          · split
            · rw [if_pos y_z1]
            · rw [if_pos y_z0]
          · split
            · rw [if_pos y_z0]
            · rw [if_pos y_z1]
      rw [y_q tt, hi, y_cI, a1, y_b]
      split
      · rw [if_pos y_z0]
      · rw [if_pos y_z1]
  · obtain ⟨a1, a2⟩ := (h.H.2.2.2.2.1 j hj).2 e0
    obtain ⟨ta, te, tt, -⟩ := y_gIt a1
    cases te
    have hk : A 32 j - 1 < A 9 4 := by omega
    obtain ⟨n1, n2⟩ := h.H.2.2.2.1 (A 32 j - 1) hk
    obtain ⟨m1, m2⟩ := h.W.2.2.2.2.1 (A 32 j - 1) hk
    have hn16 := h.n16
    refine ⟨_, bz (if bt (n_I M 41 0) (A 30 (A 32 j - 1)) = true then 1 else 0), ?_, ?_, Or.inl (by rw [y_at tt]; rfl)⟩
    · unfold F_X4_holds
      rw [y_aI hix (by omega), y_b, r27, e1, if_neg (nI_pos (by omega)), y_b, y_aI (by omega) (by omega), y_b, h.rd (k := 23) (by omega), m1, m_in fu (by omega), y_cI, m_h158 h fu hj]
    · unfold F_holds
      rw [if_pos (by rw [y_at tt]; rfl)]
      unfold F_X12_holds_13 F_X13_is
      rw [y_q tt, a2, y_b, n1, y_b, y_q h.rt, s_isActive h fu (by omega), y_cI, if_pos (by split <;> decide), y_cI, a1, y_b]
      generalize (if bt (n_I M 41 0) (A 30 (A 32 j - 1)) = true then (1 : Int32) else 0) = x
      split
      · rw [if_pos y_z0]
      · rw [if_pos y_z1]
theorem s_en0 (h : RC A M0 C M S c1 c2) (fu : Nat) {t : Nat} (ht : t < A 9 1) : ∀ (d i n m : Nat), A 28 t - A 27 t - i = d → i ≤ A 28 t - A 27 t → d < n → d < m →
    ∃ b : Int32, (b = 0 ∨ b = 1) ∧ F_X4_enabled_19 fu n (nI (24 * A 9 5 + t)) (nI (64 * A 9 5 + (A 27 t + i))) M = some (.returned (some (.int b)), M) ∧ F_X10_isEnabled_12 fu m (some (A 11 t)) (some (A 2 0)) (nI i) S = some (.returned (some (.int b)), S) := by
  have hw := h.w2
  have hs := h.W.1.2.2.2.2.2.1
  have hnt := h.nt
  obtain ⟨w1, w2, w3, w4, w5, w6, w7, w8⟩ := h.W.2.2.2.1 t ht
  obtain ⟨-, -, ⟨b1, b2, b3, b4⟩, -⟩ := h.H.2.2.1 t ht
  have r21 : n_I M 21 (24 * A 9 5 + t) = nI (64 * A 9 5 + A 28 t) := (h.rd (by omega)).trans w4
  have hlen : (S.2.1 (A 19 t)).length = A 28 t - A 27 t := by rw [b4, List.length_map]; unfold l_ts; rw [List.length_map, List.length_range]
  intro d
  induction d with
  | zero =>
    intro i n m hd hi hn hm
    obtain ⟨n, rfl⟩ : ∃ n', n = n' + 1 := ⟨n - 1, by omega⟩
    obtain ⟨m, rfl⟩ : ∃ m', m = m' + 1 := ⟨m - 1, by omega⟩
    refine ⟨1, Or.inr rfl, ?_, ?_⟩
    · rw [F_X4_enabled_19, y_aI (by omega) (by omega), y_b, r21, if_pos (nI_le (by omega) (by omega)), if_pos y_z1]
    · rw [F_X10_isEnabled_12, b1, y_b, y_lsz b2, y_b, hlen, if_pos (nI_le (by omega) (by omega)), if_pos y_z1]
  | succ d ih =>
    intro i n m hd hi hn hm
    obtain ⟨n, rfl⟩ : ∃ n', n = n' + 1 := ⟨n - 1, by omega⟩
    obtain ⟨m, rfl⟩ : ∃ m', m = m' + 1 := ⟨m - 1, by omega⟩
    obtain ⟨b, z1, z2, z3, z4⟩ := s_holds h fu (j := A 27 t + i) (by omega)
    have hget : (S.2.1 (A 19 t))[i]? = some (A 13 (A 27 t + i)) := by
      rw [b4]
      unfold l_ts
      rw [List.getElem?_map, List.getElem?_map, List.getElem?_range (by omega)]
      rfl
    rw [F_X4_enabled_19, y_aI (by omega) (by omega), y_b, r21, if_neg (nI_ge (by omega) (by omega)), z2, y_cI, F_X10_isEnabled_12, b1, y_b, y_lsz b2, y_b, hlen, if_neg (nI_ge (by omega) (by omega)), y_b, y_lget b2 (by omega) hget, y_b, if_pos z4, z3, y_cI, nI_1, nI_1]
    rcases z1 with rfl | rfl
    · exact ⟨0, Or.inl rfl, by rw [if_pos rfl, if_pos y_z0], by rw [if_pos rfl, if_pos y_z0]⟩
    · rw [if_neg (by decide), if_neg (by decide)]
      have := ih (i + 1) n m (by omega) (by omega) (by omega) (by omega)
      rw [show 64 * A 9 5 + (A 27 t + (i + 1)) = 64 * A 9 5 + (A 27 t + i) + 1 by omega] at this
      exact this
theorem s_enab (h : RC A M0 C M S c1 c2) {fu : Nat} (hf : 100 ≤ fu) {t : Nat} (ht : t < A 9 1) (e : Int32) : ∃ b : Int32, (b = 0 ∨ b = 1) ∧ F_X4_enabled fu (nI (24 * A 9 5 + t)) e M = some (.returned (some (.int b)), M) ∧ F_X10_isEnabled fu (some (A 11 t)) (some (A 2 0)) e S = some (.returned (some (.int b)), S) := by
  have hw := h.w2
  have hs := h.W.1.2.2.2.2.2.1
  have hnt := h.nt
  obtain ⟨w1, w2, w3, w4, w5, w6, w7, w8⟩ := h.W.2.2.2.1 t ht
  have e19 := (h.H.2.2.1 t ht).2.1
  unfold F_X4_enabled F_X10_isEnabled
  rw [y_aI (by omega) (by omega), y_b, h.rd (by omega), e19, y_b]
  by_cases he : n_I C 19 (24 * A 9 5 + t) = e
  · rw [if_pos he, if_pos he, y_aI (by omega) (by omega), y_b, h.rd (by omega), w3]
    exact s_en0 h fu ht (A 28 t - A 27 t) 0 fu fu (by omega) (by omega) (by omega) (by omega)
  · rw [if_neg he, if_neg he]
    exact ⟨0, Or.inl rfl, by rw [if_pos y_z0], by rw [if_pos y_z0]⟩
/-- a state's transitions from a place on -/
def l_sg (A : gA) (s t : Nat) : List Nat := (List.range' t (A 9 1 - t)).filter (fun b => A 26 b == s)
theorem l_sg0 (A : gA) (s : Nat) : l_sg A s 0 = l_tr A s := by
  unfold l_sg l_tr
  rw [List.range_eq_range', Nat.sub_zero]
theorem l_sg1 {s t : Nat} (h : t < A 9 1) : l_sg A s t = if A 26 t = s then t :: l_sg A s (t + 1) else l_sg A s (t + 1) := by
  unfold l_sg
  have e : A 9 1 - t = (A 9 1 - (t + 1)) + 1 := by omega
  rw [e, List.range'_succ, List.filter_cons]
  by_cases z : A 26 t = s
  · rw [if_pos z, if_pos (by simp [z])]
  · rw [if_neg z, if_neg (by simp [z])]
theorem l_sge {s t : Nat} (h : A 9 1 ≤ t) : l_sg A s t = [] := by
  unfold l_sg
  rw [show A 9 1 - t = 0 by omega]
  rfl
def o_tr (A : gA) (o : Option Nat) : Int32 := match o with
  | none => -1
  | some t => nI (24 * A 9 5 + t)
theorem RC.tt (h : RC A M0 C M S c1 c2) {t : Nat} (ht : t < A 9 1) : gs_t S (A 11 t) = 10 := by
  obtain ⟨a, e, z, -⟩ := y_gIt (h.H.2.2.1 t ht).2.1
  cases e
  exact z
theorem s_first0 (h : RC A M0 C M S c1 c2) {fu : Nat} (hf : 100 ≤ fu) {s : Nat} (hs : s < A 9 0) (e : Int32) : ∀ (d t n m j : Nat) (pre : List Nat), A 9 1 - t = d → t ≤ A 9 1 → d < n → d < m → l_tr A s = pre ++ l_sg A s t → pre.length = j →
    ∃ o : Option Nat, (∀ t, o = some t → t < A 9 1) ∧ F_X4_firstOf_8 fu n (nI s) e (nI (24 * A 9 5 + t)) M = some (.returned (some (.int (o_tr A o))), M) ∧ F_X3_enabled_2 fu m (some (A 2 0)) (some (A 10 s)) e (nI j) S = some (.returned (some (va_rf (o.map (A 11)))), S) := by
  have hw := h.w2
  have hnt := h.nt
  have hn16 := h.n16
  obtain ⟨b1, b2, b3, b4⟩ := (h.H.2.1 s hs).2.2.2.2.1
  have r10 : n_I M 10 (A 9 5) = nI (A 9 1) := (h.rd (by omega)).trans h.W.1.2.2.2.2.2.2.2.2.2.1
  intro d
  induction d with
  | zero =>
    intro t n m j pre hd ht hn hm hl hp
    obtain ⟨n, rfl⟩ : ∃ n', n = n' + 1 := ⟨n - 1, by omega⟩
    obtain ⟨m, rfl⟩ : ∃ m', m = m' + 1 := ⟨m - 1, by omega⟩
    refine ⟨none, (fun _ z => by cases z), ?_, ?_⟩
    · rw [F_X4_firstOf_8, h.lv, y_aI hw (by omega), y_b, r10, y_m24, nI_add, if_pos (nI_le (by omega) (by omega))]
      rfl
    · rw [F_X3_enabled_2, b1, y_b, y_lsz b2, y_b, b4, List.length_map, hl, l_sge (by omega), List.append_nil, hp, if_pos (Int32.le_refl _)]
      rfl
  | succ d ih =>
    intro t n m j pre hd ht hn hm hl hp
    obtain ⟨n, rfl⟩ : ∃ n', n = n' + 1 := ⟨n - 1, by omega⟩
    obtain ⟨m, rfl⟩ : ∃ m', m = m' + 1 := ⟨m - 1, by omega⟩
    have hlt : t < A 9 1 := by omega
    have w1 : n_I M 18 (24 * A 9 5 + t) = nI (A 26 t) := (h.rd (by omega)).trans (h.W.2.2.2.1 t hlt).1
    have w2 := (h.W.2.2.2.1 t hlt).2.1
    rw [F_X4_firstOf_8, h.lv, y_aI hw (by omega), y_b, r10, y_m24, nI_add, if_neg (nI_ge (by omega) (by omega)), y_aI (by omega) (by omega), y_b, w1, nI_1]
    have hsg := l_sg1 (A := A) (s := s) hlt
    by_cases hz : A 26 t = s
    · rw [if_pos hz] at hsg
      rw [if_pos (by rw [hz])]
      obtain ⟨b, z1, z2, z3⟩ := s_enab h hf hlt e
      have hll : (l_sg A s (t + 1)).length ≤ 24 := by
        unfold l_sg
        exact Nat.le_trans (List.length_filter_le _ _) (by rw [List.length_range']; omega)
      have hlen : (S.2.1 (A 16 s)).length = j + 1 + (l_sg A s (t + 1)).length := by
        rw [b4, List.length_map, hl, hsg, List.length_append, hp]
        simp only [List.length_cons]
        omega
      have hj : j < 100 := by
        have : (l_tr A s).length ≤ A 9 1 := by
          unfold l_tr
          exact Nat.le_trans (List.length_filter_le _ _) (by rw [List.length_range]; omega)
        rw [hl, List.length_append, hp] at this
        omega
      have hget : (S.2.1 (A 16 s))[j]? = some (A 11 t) := by
        rw [b4, hl, hsg, List.map_append, List.getElem?_append_right (by rw [List.length_map, hp]; omega), List.length_map, hp, Nat.sub_self]
        rfl
      rw [z2, y_cI, F_X3_enabled_2, b1, y_b, y_lsz b2, y_b, hlen, if_neg (nI_ge (by omega) (by omega)), y_b, y_lget b2 (by omega) hget, y_b, y_q (h.tt hlt), y_q (h.tt hlt), z3, y_cI, nI_1]
      rcases z1 with rfl | rfl
      · rw [if_pos rfl, if_pos rfl]
        exact ih (t + 1) n m (j + 1) (pre ++ [t]) (by omega) (by omega) (by omega) (by omega) (by rw [hl, hsg, List.append_assoc]; rfl) (by rw [List.length_append, hp]; rfl)
      · rw [if_neg (by decide), if_neg (by decide)]
        exact ⟨some t, (fun _ z => by cases z; exact hlt), rfl, rfl⟩
    · rw [if_neg hz] at hsg
      rw [if_neg (fun z => hz ((nI_eq (by omega) (by omega)).mp z))]
      exact ih (t + 1) n (m + 1) j pre (by omega) (by omega) (by omega) (by omega) (by rw [hl, hsg]) hp
theorem s_first (h : RC A M0 C M S c1 c2) {fu : Nat} (hf : 100 ≤ fu) {s : Nat} (hs : s < A 9 0) (e : Int32) : ∃ o : Option Nat, (∀ t, o = some t → t < A 9 1) ∧ F_X4_firstOf fu (nI s) e M = some (.returned (some (.int (o_tr A o))), M) ∧ F_X3_enabled fu (some (A 2 0)) (some (A 10 s)) e S = some (.returned (some (va_rf (o.map (A 11)))), S) := by
  have hnt := h.nt
  obtain ⟨o, z0, z1, z2⟩ := s_first0 h hf hs e (A 9 1) 0 fu fu 0 [] (by omega) (by omega) (by omega) (by omega) (by rw [l_sg0]; rfl) rfl
  refine ⟨o, z0, ?_, z2⟩
  unfold F_X4_firstOf
  rw [h.lv, y_m24]
  exact z1
end RCG
