/-! LAYER 2: one action, on both sides -/
set_option maxRecDepth 100000
section RCA
variable {A : gA} {M0 C M : gM} {S : gm_S} {c1 c2 : Nat}
theorem RC.rd (h : RC A M0 C M S c1 c2) {k i : Nat} (hk : 9 ≤ k ∧ k ≤ 37) : n_I M k i = n_I C k i := by unfold n_I; rw [Mc_r h.mc (Or.inr hk)]
theorem RC.rdD (h : RC A M0 C M S c1 c2) {k i : Nat} (hk : 9 ≤ k ∧ k ≤ 37) : n_D M k i = n_D C k i := by unfold n_D; rw [Mc_r h.mc (Or.inr hk)]
theorem RC.lv (h : RC A M0 C M S c1 c2) : n_I M 7 0 = nI (A 9 5) := by unfold n_I; rw [Mc_r h.mc (Or.inl rfl)]; exact h.W.1.1
theorem RC.w2 (h : RC A M0 C M S c1 c2) : A 9 5 < 2 := h.W.1.2.1
theorem RC.n16 (h : RC A M0 C M S c1 c2) : 0 < A 9 0 ∧ A 9 0 ≤ 16 := ⟨h.W.1.2.2.1, h.W.1.2.2.2.1⟩
theorem RC.na (h : RC A M0 C M S c1 c2) : A 9 3 ≤ 40 := h.W.1.2.2.2.2.2.2.1
theorem RC.nt (h : RC A M0 C M S c1 c2) : A 9 1 ≤ 24 := h.W.1.2.2.2.2.1
theorem ag.mkt {E : Nat → Nat → Prop} {L : Nat → Prop} {S' : gm_S} {t w : Nat} (hn : ∀ a, gs_t S a ≠ 0 → a < gs_n S) (g : ag E L (g_mk S t w) S') : ag (fun F a => E F a ∧ a ≠ gs_n S) (fun a => L a ∧ a ≠ gs_n S) S S' := by
  have hne : ∀ a, gs_t S a ≠ 0 → a ≠ gs_n S := fun a ha => by have := hn a ha; omega
  have ht : ∀ a, gs_t S a ≠ 0 → gs_t (g_mk S t w) a = gs_t S a := fun a ha => y_mkt (hne a ha)
  refine ⟨fun F a i ha hE => ?_, fun a ha hL => ?_, fun a ha => ?_⟩
  · rw [g.1 F a i (by rw [ht a ha]; exact ha) (fun z => hE ⟨z, hne a ha⟩), y_mkM (hne a ha)]
  · rw [g.2.1 a (by rw [ht a ha]; exact ha) (fun z => hL ⟨z, hne a ha⟩)]; rfl
  · rw [g.2.2 a (by rw [ht a ha]; exact ha), ht a ha]
/-- a variable is set -/
theorem RC.wVar (h : RC A M0 C M S c1 c2) {m : Nat} (hm : m < 6) {d : UInt64} (hd : d_ok d) : g_sD S (some (A 3 0)) (nI m) d = some (gs_put S 2 (A 3 0) m (.double d)) ∧ RC A M0 C (n_up M 42 m (.double d)) (gs_put S 2 (A 3 0) m (.double d)) c1 c2 ∧ fX S (gs_put S 2 (A 3 0) m (.double d)) M (n_up M 42 m (.double d)) c1 := by
  obtain ⟨v1, v2, v3, v4⟩ := h.v
  have ha : gs_t S (A 3 0) ≠ 0 := by rw [v2]; decide
  have g := ag.put (S := S) (F := 2) (a := A 3 0) (i := m) (v := .double d) (by decide)
  have hu : ∀ k i, k ≠ 42 → n_up M 42 m (.double d) k i = M k i := fun k i h1 => y_uk h1
  refine ⟨y_as (t := 2) v2 v3 hm (by omega), h.upd g (h.inv.put (by decide) ha) (fun F a z => ?_) (fun a z => z.elim) (Mc_up h.mc (by omega)) (fun k i hk => hu k i (by omega))
    (h.a.mono g (by simp) (fun k i hk => hu k i (by omega))) ?_ (h.q.mono g (by simp [Ne.symm h.d34]) (fun k i hk => hu k i (by omega)))
    (h.s.mono g (by simp) (by simp) (fun k i hk => hu k i (by omega))) (h.t.mono g (by simp [Ne.symm h.d35]) (fun k i hk => hu k i (by omega))) (h.c.mono g (by simp)) (h.h.mono g (by simp) (fun k i hk => hu k i (by omega))) (h.b.same rfl rfl rfl (fun b => y_cap (by decide))), fX.of g (by rw [h.c.2.2.1]; decide) (by simp) (fun F a z => by have := z.1; omega) (fun k i hk => hu k i (by omega))⟩
  · rw [z.1, z.2]; exact ⟨by decide, fun _ => h.t3⟩
  · refine ⟨g.gR v1 (by decide) (by simp), (g.2.2 _ ha).trans v2, by rw [g.1 _ _ _ ha (by simp)]; exact v3, fun i hi => ?_⟩
    by_cases e : i = m
    · subst e
      unfold n_D
      rw [y_us, y_pE]
      exact ⟨rfl, hd⟩
    · unfold n_D
      rw [y_ui e, y_pM (by simp [e])]
      exact v4 i hi
/-- what an operand stands for -/
def o_val (M : gM) (v : Int32) (d : UInt64) : UInt64 := if v < 0 then d else n_D M 42 v.toNatClampNeg
theorem RC.oval (h : RC A M0 C M S c1 c2) {v : Int32} {d : UInt64} (hv : o_ok v) (hd : d_ok d) : d_ok (o_val M v d) := by
  unfold o_val
  rcases hv with rfl | ⟨m, hm, rfl⟩
  · rw [if_pos (by decide)]; exact hd
  · rw [if_neg (nI_pos (by omega)), nI_clamp (by omega)]
    exact (h.v.2.2.2 m hm).2
theorem s_get (h : RC A M0 C M S c1 c2) (fu : Nat) {m : Nat} (hm : m < 6) : F_X3_get fu (some (A 2 0)) (nI m) S = some (.returned (some (.double (n_D M 42 m))), S) := by
  obtain ⟨v1, v2, v3, v4⟩ := h.v
  unfold F_X3_get
  rw [v1, y_b]
  unfold g_aD
  rw [y_el (t := 2) v2 v3 hm (by omega)]
  show some (Outcome.returned (some (.double (gm_D (S.1 2 (A 3 0) m)))), S) = _
  rw [(v4 m hm).1]
theorem s_of (h : RC A M0 C M S c1 c2) (fu : Nat) {o : Nat} {v : Int32} {d : UInt64} (ho : h_op S o v d) (hv : o_ok v) : F_X9_of fu (some o) (some (A 2 0)) S = some (.returned (some (.double (o_val M v d))), S) := by
  unfold F_X9_of o_val
  rw [ho.1, y_b]
  rcases hv with rfl | ⟨m, hm, rfl⟩
  · rw [if_pos (by decide), if_pos (by decide), ho.2, y_b]
  · rw [if_neg (nI_pos (by omega)), if_neg (nI_pos (by omega)), y_b, y_q h.rt, s_get h fu hm, nI_clamp (by omega)]
    rfl
theorem m_oval {v : Int32} (hv : o_ok v) {β : Type} {kd n i : Nat} {f : UInt64 → Option β} (hi : i < n) (hn : n < 2 ^ 31) :
    (if v < 0 then Option.bind (n_aD M kd n (nI i)) f else Option.bind (some v) fun x => Option.bind (n_aD M 42 6 x) f) = f (o_val M v (n_D M kd i)) := by
  unfold o_val
  rcases hv with rfl | ⟨m, hm, rfl⟩
  · rw [if_pos (by decide), if_pos (by decide), y_aD hi hn, y_b]
  · rw [if_neg (nI_pos (by omega)), if_neg (nI_pos (by omega)), y_b, y_aD hm (by omega), y_b, nI_clamp (by omega)]
/-- what an assignment makes -/
def o_mk (g : Int32) (x y : UInt64) : UInt64 := if g = 43 then FP.dadd x y else if g = 45 then FP.dsub x y else if g = 42 then FP.dmul x y else y
theorem o_mkfi {g : Int32} {x y : UInt64} (hx : d_ok x) (hy : d_ok y) : d_fi (o_mk g x y) := by
  unfold o_mk
  split
  · exact (d_add hx hy).2
  · split
    · exact (d_sub hx hy).2
    · split
      · exact (d_mul hx hy).2
      · exact Or.inl hy
/-- the assignment, on both sides -/
theorem s_assign (h : RC A M0 C M S c1 c2) (fu : Nat) {a : Nat} (ha : a < A 9 3) (hk : ¬ n_I C 34 (48 * A 9 5 + a) ≤ 72) : ∃ M' S', F_X4_doAction fu (nI (48 * A 9 5 + a)) M = some (.returned none, M') ∧ F_X8_act fu (some (A 14 a)) (some (A 2 0)) S = some (.returned none, S') ∧ RC A M0 C M' S' c1 c2 ∧ fX S S' M M' c1 := by
  obtain ⟨w1, -, w2⟩ := h.W.2.2.2.2.2.2 a ha
  rcases w2 with ⟨e, q, e1, e2, -, e3, -⟩ | ⟨m, g, hm, e1, hg, e2, hv, hd⟩
  · exact absurd (by rw [e3]; exact (nI_leI (b := 72) (by omega) (by omega)).mpr e2) hk
  obtain ⟨a1, a2, a3, a4⟩ := (h.H.2.2.2.2.2.1 a ha).2 hk
  have hw := h.w2
  have hna := h.na
  have hix : 48 * A 9 5 + a < 96 := by omega
  have r34 : n_I M 34 (48 * A 9 5 + a) = nI (117 + m) := (h.rd (by omega)).trans e1
  have r35 : n_I M 35 (48 * A 9 5 + a) = nI g := (h.rd (by omega)).trans e2
  have r36 : n_I M 36 (48 * A 9 5 + a) = n_I C 36 (48 * A 9 5 + a) := h.rd (by omega)
  have r37 : n_D M 37 (48 * A 9 5 + a) = n_D C 37 (48 * A 9 5 + a) := h.rdD (by omega)
  have hs : nI (117 + m) - (117 : Int32) = nI m := by
    have := pk_sub (a := 117 + m) (b := 117) (by omega)
    rw [show 117 + m - 117 = m by omega] at this
    exact this
  have hx : d_ok (n_D M 42 m) := (h.v.2.2.2 m hm).2
  have hy := h.oval (M := M) hv hd
  have hfi := o_mkfi (g := nI g) hx hy
  obtain ⟨p1, p2, p3⟩ := h.wVar hm (d_clok hfi)
  obtain ⟨ta, te, tt, -⟩ := y_gIt a1
  cases te
  rw [e1, hs] at a1
  rw [e2] at a2
  refine ⟨_, _, ?_, ?_, p2, p3⟩
  · unfold F_X4_doAction
    rw [y_aI hix (by omega), y_b, r34, if_pos (by exact nI_lt (a := 72) (by omega) (by omega)), hs, y_aD hm (by omega), y_b, y_aI hix (by omega), y_b, r36]
    have key := m_oval (M := M) (v := n_I C 36 (48 * A 9 5 + a)) hv (kd := 37) (n := 96) (i := 48 * A 9 5 + a) (f := fun v8 => F_X4_doAction_149 fu (nI (48 * A 9 5 + a)) (nI (117 + m)) (n_D M 42 m) v8 M) hix (by omega)
    rw [r37] at key
    refine key.trans ?_
    unfold F_X4_doAction_149
    rw [y_aI hix (by omega), y_b, r35]
    have fin : ∀ v : UInt64, F_X4_doAction_207 fu (nI (117 + m)) v M = some (.returned none, n_up M 42 m (.double (d_cl v))) := by
      intro v
      unfold F_X4_doAction_207 d_cl
      rw [hs]
      split
      · split
        · rw [y_sD hm (by omega), y_b]
        · rw [y_sD hm (by omega), y_b]
      · rw [y_sD hm (by omega), y_b]
    unfold o_mk
    split
    · rw [(d_add hx hy).1, y_b, fin]
    · rw [y_b]
      split
      · rw [(d_sub hx hy).1, y_b, fin]
      · rw [y_b]
        split
        · rw [(d_mul hx hy).1, y_b, fin]
        · rw [fin]
  · unfold F_X8_act
    rw [a1, y_b, y_q h.rt, s_get h fu hm, y_cD, a3, y_b]
    obtain ⟨tb, te, tt2, -⟩ := y_gIt a4.1
    cases te
    rw [y_q tt2, s_of h fu a4 hv, y_cD, y_q tt]
    have hmade : F_X8_made fu (some (A 14 a)) (n_D M 42 m) (o_val M (n_I C 36 (48 * A 9 5 + a)) (n_D C 37 (48 * A 9 5 + a))) S = some (.returned (some (.double (o_mk (nI g) (n_D M 42 m) (o_val M (n_I C 36 (48 * A 9 5 + a)) (n_D C 37 (48 * A 9 5 + a)))))), S) := by
      unfold F_X8_made o_mk
      rw [a2, y_b]
      rcases hg with rfl | rfl | rfl | rfl
      · rw [if_neg (by decide), if_pos (by decide), (d_mul hx hy).1, y_b, if_neg (by decide), if_neg (by decide), if_pos (by decide)]
      · rw [if_neg (by decide), if_neg (by decide), if_pos (by decide), (d_add hx hy).1, y_b, if_pos (by decide)]
      · rw [if_neg (by decide), if_neg (by decide), if_neg (by decide), if_neg (by decide), if_pos (by decide), (d_sub hx hy).1, y_b, if_neg (by decide), if_pos (by decide)]
      · rw [if_pos (by decide), if_neg (by decide), if_neg (by decide), if_neg (by decide)]
    rw [hmade, y_cD, a1, y_b]
    have fin : ∀ v : UInt64, F_X8_act_67 fu v (nI m) (some (A 2 0)) S = some (.returned none, gs_put S 2 (A 3 0) m (.double v)) := by
      intro v
      unfold F_X8_act_67 F_X3_set
      rw [y_q h.rt, h.v.1, y_b]
      have : g_sD S (some (A 3 0)) (nI m) v = some (gs_put S 2 (A 3 0) m (.double v)) := y_as (t := 2) h.v.2.1 h.v.2.2.1 hm (by omega)
      rw [this, y_b, y_cV]
    unfold d_cl
    split
    · split
      · rw [fin]
      · rw [fin]
    · rw [fin]
end RCA
