/-! LAYER 2: rows of actions -/
set_option maxRecDepth 100000
section RCD
variable {A : gA} {M0 C : gM} {c1 c2 : Nat}
theorem y_mul (k w : Nat) : nI k * nI w = nI (k * w) := pk_mul k w
theorem y_m48 (w : Nat) : (48 : Int32) * nI w = nI (48 * w) := pk_mul 48 w
theorem y_m24 (w : Nat) : (24 : Int32) * nI w = nI (24 * w) := pk_mul 24 w
theorem y_m16 (w : Nat) : (16 : Int32) * nI w = nI (16 * w) := pk_mul 16 w
theorem y_m64 (w : Nat) : (64 : Int32) * nI w = nI (64 * w) := pk_mul 64 w
theorem fX.run {S S' : gm_S} {M M' : gM} (h : fX S S' M M' c1) (hr : n_I M 40 0 = 1) : n_I M' 40 0 = 1 := by
  unfold n_I
  rw [h.2.2.2.1 40 0 (Or.inl (Eq.refl _))]
  exact hr
/-- the owners' actions from a place on -/
def l_sf (A : gA) (o a : Nat) : List Nat := (List.range' a (A 9 3 - a)).filter (fun b => A 31 b == o)
theorem l_sf0 (A : gA) (o : Nat) : l_sf A o 0 = l_ac A o := by
  unfold l_sf l_ac
  rw [List.range_eq_range', Nat.sub_zero]
theorem l_sf1 {o a : Nat} (h : a < A 9 3) : l_sf A o a = if A 31 a = o then a :: l_sf A o (a + 1) else l_sf A o (a + 1) := by
  unfold l_sf
  have e : A 9 3 - a = (A 9 3 - (a + 1)) + 1 := by omega
  rw [e, List.range'_succ, List.filter_cons]
  by_cases z : A 31 a = o
  · rw [if_pos z, if_pos (by simp [z])]
  · rw [if_neg z, if_neg (by simp [z])]
theorem l_sfe {o a : Nat} (h : A 9 3 ≤ a) : l_sf A o a = [] := by
  unfold l_sf
  rw [show A 9 3 - a = 0 by omega]
  rfl
theorem s_acts0 (fu : Nat) {o x : Nat} (ho : o < 300) (hx : ∀ T, cH A C T → h_L T (A 7 0) x ((l_ac A o).map (A 14))) : ∀ (d a : Nat) (M : gM) (S : gm_S) (n m j : Nat) (pre : List Nat), A 9 3 - a = d → a ≤ A 9 3 → d < n → d < m → l_ac A o = pre ++ l_sf A o a → pre.length = j → RC A M0 C M S c1 c2 → n_I M 40 0 = 1 →
    ∃ M' S', F_X4_act_8 fu n (nI o) (nI (48 * A 9 5 + a)) M = some (.returned none, M') ∧ F_X3_actAll_2 fu m (some (A 2 0)) (some x) (nI j) S = some (.returned none, S') ∧ RC A M0 C M' S' c1 c2 ∧ fX S S' M M' c1 := by
  intro d
  induction d with
  | zero =>
    intro a M S n m j pre hd ha hn hm hl hp h hr
    obtain ⟨n, rfl⟩ : ∃ n', n = n' + 1 := ⟨n - 1, by omega⟩
    obtain ⟨m, rfl⟩ : ∃ m', m = m' + 1 := ⟨m - 1, by omega⟩
    obtain ⟨x1, x2, x3⟩ := hx S h.H
    have hw := h.w2
    have hna := h.na
    have r12 : n_I M 12 (A 9 5) = nI (A 9 3) := (h.rd (by omega)).trans h.W.1.2.2.2.2.2.2.2.2.2.2
    refine ⟨M, S, ?_, ?_, h, fX.rfl⟩
    · rw [F_X4_act_8, h.lv, y_aI hw (by omega), y_b, r12, y_m48, nI_add, if_pos (nI_le (by omega) (by omega))]
    · rw [F_X3_actAll_2, y_lsz x1, y_b, x3, List.length_map, hl, l_sfe (by omega), List.append_nil, hp, if_pos (Int32.le_refl _)]
  | succ d ih =>
    intro a M S n m j pre hd ha hn hm hl hp h hr
    obtain ⟨n, rfl⟩ : ∃ n', n = n' + 1 := ⟨n - 1, by omega⟩
    obtain ⟨m, rfl⟩ : ∃ m', m = m' + 1 := ⟨m - 1, by omega⟩
    obtain ⟨x1, x2, x3⟩ := hx S h.H
    have hw := h.w2
    have hna := h.na
    have hlt : a < A 9 3 := by omega
    have r12 : n_I M 12 (A 9 5) = nI (A 9 3) := (h.rd (by omega)).trans h.W.1.2.2.2.2.2.2.2.2.2.2
    have r33 : n_I M 33 (48 * A 9 5 + a) = nI (A 31 a) := (h.rd (by omega)).trans (h.W.2.2.2.2.2.2 a hlt).1
    have h300 := (h.W.2.2.2.2.2.2 a hlt).2.1
    have e1 : ¬ nI (48 * A 9 5 + A 9 3) ≤ nI (48 * A 9 5 + a) := nI_ge (by omega) (by omega)
    rw [F_X4_act_8, h.lv, y_aI hw (by omega), y_b, r12, y_m48, nI_add, if_neg e1, y_aI (by omega) (by omega), y_b, r33, nI_1]
    by_cases ho2 : A 31 a = o
    · rw [if_pos (by rw [ho2])]
      have hsf := l_sf1 (A := A) (o := o) hlt
      rw [if_pos ho2] at hsf
      obtain ⟨M1, S1, m1, m2, m3, m4⟩ := s_act1 h hr fu hlt
      obtain ⟨M', S', p1, p2, p3, p4⟩ := ih (a + 1) M1 S1 n m (j + 1) (pre ++ [a]) (by omega) (by omega) (by omega) (by omega) (by rw [hl, hsf, List.append_assoc]; rfl) (by rw [List.length_append, hp]; rfl) m3 (m4.run hr)
      refine ⟨M', S', ?_, ?_, p3, m4.trans p4⟩
      · rw [m1, y_cV]
        exact p1
      · have hlen : (S.2.1 x).length = j + 1 + (l_sf A o (a + 1)).length := by
          rw [x3, List.length_map, hl, hsf, List.length_append, hp]
          simp only [List.length_cons]
          omega
        have hj : j < 300 := by
          have : (l_ac A o).length ≤ A 9 3 := by
            unfold l_ac
            exact Nat.le_trans (List.length_filter_le _ _) (by rw [List.length_range]; omega)
          rw [hl, List.length_append, hp] at this
          omega
        have hget : (S.2.1 x)[j]? = some (A 14 a) := by
          rw [x3, hl, hsf, List.map_append, List.getElem?_append_right (by rw [List.length_map, hp]; omega), List.length_map, hp, Nat.sub_self]
          rfl
        have hlen2 : (l_sf A o (a + 1)).length ≤ 40 := by
          unfold l_sf
          exact Nat.le_trans (List.length_filter_le _ _) (by rw [List.length_range']; omega)
        rw [F_X3_actAll_2, y_lsz x1, y_b, hlen, if_neg (nI_ge (by omega) (by omega)), y_lget x1 (by omega) hget, y_b]
        have htag : (g_at S (some (A 14 a)) 7).isSome = true ∨ (g_at S (some (A 14 a)) 8).isSome = true := by
          by_cases hk : n_I C 34 (48 * A 9 5 + a) ≤ 72
          · obtain ⟨ta, te, tt, -⟩ := y_gIt ((h.H.2.2.2.2.2.1 a hlt).1 hk).1
            cases te
            exact Or.inl (by rw [y_at tt]; rfl)
          · obtain ⟨ta, te, tt, -⟩ := y_gIt ((h.H.2.2.2.2.2.1 a hlt).2 hk).1
            cases te
            exact Or.inr (by rw [y_at tt]; rfl)
        rw [if_pos htag, m2, y_cV, nI_1]
        exact p2
    · rw [if_neg (fun z => ho2 ((nI_eq (by omega) (by omega)).mp z))]
      have hsf := l_sf1 (A := A) (o := o) hlt
      rw [if_neg ho2] at hsf
      exact ih (a + 1) M S n (m + 1) j pre (by omega) (by omega) (by omega) (by omega) (by rw [hl, hsf]) hp h hr
/-- an owner's row of actions, on both sides -/
theorem s_acts {M : gM} {S : gm_S} (h : RC A M0 C M S c1 c2) (hr : n_I M 40 0 = 1) {fu : Nat} (hf : 100 ≤ fu) {o x : Nat} (ho : o < 300) (hx : ∀ T, cH A C T → h_L T (A 7 0) x ((l_ac A o).map (A 14))) :
    ∃ M' S', F_X4_act fu (nI o) M = some (.returned none, M') ∧ F_X3_actAll fu (some (A 2 0)) (some x) S = some (.returned none, S') ∧ RC A M0 C M' S' c1 c2 ∧ fX S S' M M' c1 := by
  have hna := h.na
  obtain ⟨M', S', p1, p2, p3, p4⟩ := s_acts0 (M0 := M0) (c1 := c1) (c2 := c2) fu ho hx (A 9 3) 0 M S fu fu 0 [] (by omega) (by omega) (by omega) (by omega) (by rw [l_sf0]; rfl) rfl h hr
  refine ⟨M', S', ?_, ?_, p3, p4⟩
  · unfold F_X4_act
    rw [h.lv, y_m48]
    exact p1
  · exact p2
/-! the model's small readers -/
theorem m_kind {M : gM} {S : gm_S} (h : RC A M0 C M S c1 c2) (fu : Nat) {i : Nat} (hi : i < A 9 0) : F_X4_kindOf fu (nI i) M = some (.returned (some (.int (c_kind A C i))), M) := by
  have hw := h.w2
  have hn := h.n16
  unfold F_X4_kindOf
  rw [h.lv, y_m16, nI_add, y_aI (by omega) (by omega), y_b, h.rd (by omega)]
theorem m_bel {M : gM} {S : gm_S} (h : RC A M0 C M S c1 c2) (fu : Nat) {i : Nat} (hi : i < A 9 0) : F_X4_belowOf fu (nI i) M = some (.returned (some (.int (c_bel A C i))), M) := by
  have hw := h.w2
  have hn := h.n16
  unfold F_X4_belowOf
  rw [h.lv, y_m16, nI_add, y_aI (by omega) (by omega), y_b, h.rd (by omega)]
/-- the outer state as the model has it -/
def c_out (A : gA) (i : Nat) : Int32 := if A 24 i = 0 then -1 else nI (A 24 i - 1)
theorem m_out {M : gM} {S : gm_S} (h : RC A M0 C M S c1 c2) (fu : Nat) {i : Nat} (hi : i < A 9 0) : F_X4_outerOf fu (nI i) M = some (.returned (some (.int (c_out A i))), M) := by
  have hw := h.w2
  have hn := h.n16
  unfold F_X4_outerOf
  rw [h.lv, y_m16, nI_add, y_aI (by omega) (by omega), y_b, h.rd (by omega), (h.W.2.1 i hi).1]
  rfl
theorem m_in {M : gM} (fu : Nat) {i : Nat} (hi : i < 32) (x : Int32) : F_X4_isIn fu x (nI i) M = some (.returned (some (.int (if bt x i = true then 1 else 0))), M) := by
  unfold F_X4_isIn
  by_cases z : bt x i = true
  · rw [if_pos ((v_in hi).mpr z), if_pos y_z1, if_pos z]
  · rw [if_neg (fun w => z ((v_in hi).mp w)), if_pos y_z0, if_neg z]
theorem m_n {M : gM} {S : gm_S} (h : RC A M0 C M S c1 c2) : n_aI M 9 2 (n_I M 7 0) = some (nI (A 9 0)) := by
  have hw := h.w2
  rw [h.lv, y_aI hw (by omega), h.rd (by omega), h.W.1.2.2.2.2.2.2.2.2.1]
/-! the component's small readers -/
theorem RC.st {M : gM} {S : gm_S} (h : RC A M0 C M S c1 c2) {i : Nat} (hi : i < A 9 0) : gs_t S (A 10 i) = 5 := by
  obtain ⟨a, e, t, -⟩ := y_gIt (h.H.2.1 i hi).1
  cases e
  exact t
theorem s_bit {M : gM} {S : gm_S} (h : RC A M0 C M S c1 c2) (fu : Nat) {i : Nat} (hi : i < A 9 0) : F_X5_bit fu (some (A 10 i)) S = some (.returned (some (.int (v_bit i))), S) := by
  unfold F_X5_bit
  rw [(h.H.2.1 i hi).1, y_b]
theorem s_isActive {M : gM} {S : gm_S} (h : RC A M0 C M S c1 c2) (fu : Nat) {i : Nat} (hi : i < 32) : F_X3_isActive fu (some (A 2 0)) (nI i) S = some (.returned (some (.int (if bt (n_I M 41 0) i = true then 1 else 0))), S) := by
  unfold F_X3_isActive
  rw [h.a.2.2.2.1, y_b]
  by_cases z : bt (n_I M 41 0) i = true
  · rw [if_pos ((v_in hi).mpr z), if_pos y_z1, if_pos z]
  · rw [if_neg (fun w => z ((v_in hi).mp w)), if_pos y_z0, if_neg z]
theorem RC.len {M : gM} {S : gm_S} (h : RC A M0 C M S c1 c2) : g_lsz S (some (A 8 0)) = some (nI (A 9 0)) := by
  rw [y_lsz h.H.1.1, h.H.1.2.2, List.length_map, List.length_range]
theorem RC.get {M : gM} {S : gm_S} (h : RC A M0 C M S c1 c2) {i : Nat} (hi : i < A 9 0) : g_lget S (some (A 8 0)) (nI i) = some (A 10 i) := by
  have := h.n16
  refine y_lget h.H.1.1 (by omega) ?_
  rw [h.H.1.2.2, List.getElem?_map, List.getElem?_range hi]
  rfl
/-- states are entered, on both sides -/
theorem s_enter0 {fu : Nat} (hf : 100 ≤ fu) (bits : Int32) : ∀ (d i : Nat) (M : gM) (S : gm_S) (n m : Nat), A 9 0 - i = d → i ≤ A 9 0 → d < n → d < m → RC A M0 C M S c1 c2 → n_I M 40 0 = 1 →
    ∃ M' S', F_X4_enter_2 fu n bits (nI i) M = some (.returned none, M') ∧ F_X3_enter_2 fu m (some (A 2 0)) bits (nI i) S = some (.returned none, S') ∧ RC A M0 C M' S' c1 c2 ∧ fX S S' M M' c1 := by
  intro d
  induction d with
  | zero =>
    intro i M S n m hd hi hn hm h hr
    obtain ⟨n, rfl⟩ : ∃ n', n = n' + 1 := ⟨n - 1, by omega⟩
    obtain ⟨m, rfl⟩ : ∃ m', m = m' + 1 := ⟨m - 1, by omega⟩
    have hn16 := h.n16
    have e : i = A 9 0 := by omega
    refine ⟨M, S, ?_, ?_, h, fX.rfl⟩
    · rw [F_X4_enter_2, m_n h, y_b, e, if_pos (Int32.le_refl _)]
    · rw [F_X3_enter_2, h.a.1, y_b, h.len, y_b, e, if_pos (Int32.le_refl _)]
  | succ d ih =>
    intro i M S n m hd hi hn hm h hr
    obtain ⟨n, rfl⟩ : ∃ n', n = n' + 1 := ⟨n - 1, by omega⟩
    obtain ⟨m, rfl⟩ : ∃ m', m = m' + 1 := ⟨m - 1, by omega⟩
    have hn16 := h.n16
    have hlt : i < A 9 0 := by omega
    have e1 : ¬ nI (A 9 0) ≤ nI i := nI_ge hlt (by omega)
    rw [F_X4_enter_2, m_n h, y_b, if_neg e1, m_in fu (by omega), y_cI, F_X3_enter_2, h.a.1, y_b, h.len, y_b, if_neg e1, y_b, h.get hlt, y_b, y_q (h.st hlt), y_q (h.st hlt), s_bit h fu hlt, y_cI, nI_1]
    by_cases hb : bt bits i = true
    · rw [if_pos hb, if_neg (show ¬ (1 : Int32) = 0 by decide), if_neg (fun z => by rw [(v_and0 (by omega)).mp z] at hb; cases hb), h.a.2.2.2.1, y_b, y_q (h.st hlt), s_bit h fu hlt, y_cI]
      obtain ⟨p1, p2, p3⟩ := h.wActive (n_I M 41 0 ||| v_bit i)
      rw [p1, y_b]
      rw [show n_pIO M 41 ((n_I M 41 0) ||| v_bit i) = some (n_p M 41 (n_I M 41 0 ||| v_bit i)) from rfl, y_b, (p2.H.2.1 i hlt).1, y_b, y_q p2.rt]
      obtain ⟨M2, S2, q1, q2, q3, q4⟩ := s_note p2 fu ((1 : Int32) + nI i)
      rw [q1, q2, y_cV, y_cV, (q3.H.2.1 i hlt).2.2.2.2.2.1.1, y_b, y_q q3.rt]
      have e100 : (100 : Int32) + nI i = nI (100 + i) := nI_add 100 i
      have r3 := q4.run (p3.run hr)
      obtain ⟨M3, S3, a1, a2, a3, a4⟩ := s_acts q3 r3 hf (o := 100 + i) (x := A 17 i) (by omega) (fun T hT => (hT.2.1 i hlt).2.2.2.2.2.1.2)
      rw [e100, a1, a2, y_cV, y_cV]
      obtain ⟨M', S', z1, z2, z3, z4⟩ := ih (i + 1) M3 S3 n m (by omega) (by omega) (by omega) (by omega) a3 (a4.run r3)
      exact ⟨M', S', z1, z2, z3, ((p3.trans q4).trans a4).trans z4⟩
    · rw [if_neg hb, if_pos rfl, if_pos ((v_and0 (by omega)).mpr (by simpa using hb))]
      exact ih (i + 1) M S n m (by omega) (by omega) (by omega) (by omega) h hr
theorem s_enter {M : gM} {S : gm_S} {fu : Nat} (hf : 100 ≤ fu) (bits : Int32) (h : RC A M0 C M S c1 c2) (hr : n_I M 40 0 = 1) : ∃ M' S', F_X4_enter fu bits M = some (.returned none, M') ∧ F_X3_enter fu (some (A 2 0)) bits S = some (.returned none, S') ∧ RC A M0 C M' S' c1 c2 ∧ fX S S' M M' c1 := by
  have := h.n16
  exact s_enter0 hf bits (A 9 0) 0 M S fu fu (by omega) (by omega) (by omega) (by omega) h hr
end RCD
