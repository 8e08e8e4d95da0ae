/-! LAYER 2: masks; histories; what is left -/
set_option maxRecDepth 100000
/-- the bits below n that p asks for -/
def vm (p : Nat → Bool) : Nat → Int32
  | 0 => 0
  | n + 1 => if p n = true then vm p n ||| v_bit n else vm p n
theorem vm_bt (p : Nat → Bool) : ∀ n, n ≤ 32 → ∀ k, bt (vm p n) k = (decide (k < n) && p k) := by
  intro n
  induction n with
  | zero => intro _ k; rw [vm, b_0]; simp
  | succ n ih =>
    intro hn k
    have h := ih (by omega) k
    rw [vm]
    by_cases hp : p n = true
    · rw [if_pos hp, b_or, h, v_bt (by omega)]
      by_cases e : k = n
      · subst e; simp [hp]
      · by_cases g : k < n
        · simp [g, e, show k < n + 1 by omega]
        · simp [g, e, show ¬ k < n + 1 by omega]
    · rw [if_neg hp, h]
      by_cases e : k = n
      · subst e; simp [hp]
      · by_cases g : k < n
        · simp [g, show k < n + 1 by omega]
        · simp [g, show ¬ k < n + 1 by omega]
theorem vm_lo {p : Nat → Bool} : ∀ n, (∀ k, k < n → p k = false) → vm p n = 0 := by
  intro n
  induction n with
  | zero => intro _; rfl
  | succ n ih =>
    intro h
    rw [vm, if_neg (by rw [h n (by omega)]; decide)]
    exact ih (fun k hk => h k (by omega))
theorem bt_fold (l : List Nat) (hl : ∀ i ∈ l, i < 32) : ∀ (x : Int32) (k : Nat), bt (l.foldl (fun x i => x ||| v_bit i) x) k = (bt x k || decide (k ∈ l)) := by
  induction l with
  | nil => intro x k; simp
  | cons a t ih =>
    intro x k
    rw [List.foldl_cons, ih (fun i hi => hl i (List.mem_cons_of_mem _ hi)), b_or, v_bt (hl a List.mem_cons_self)]
    by_cases e : k = a
    · subst e; simp
    · simp [e]
theorem y_pp {S : gm_S} {F a i : Nat} {v w : Value} : gs_put (gs_put S F a i v) F a i w = gs_put S F a i w := by
  simp only [gs_put, Prod.mk.injEq, and_true]
  funext F' b j
  simp only [gm_st]
  split <;> rfl
theorem y_uu {M : gM} {k i : Nat} {v w : Value} : n_up (n_up M k i v) k i w = n_up M k i w := by
  funext k' i'
  simp only [n_up]
  split <;> rfl
theorem y_uc {M : gM} {k i k' i' : Nat} {v w : Value} (h : k ≠ k') : n_up (n_up M k i v) k' i' w = n_up (n_up M k' i' w) k i v := by
  funext a b
  simp only [n_up]
  by_cases h1 : a = k ∧ b = i
  · have h2 : ¬ (a = k' ∧ b = i') := fun z => h (h1.1.symm.trans z.1)
    simp only [if_neg h2, if_pos h1]
  · simp only [if_neg h1]
theorem y_self {M : gM} {k i : Nat} {x : Int32} (h : M k i = .int x) : n_up M k i (.int x) = M := by
  funext a b
  simp only [n_up]
  by_cases h1 : a = k ∧ b = i
  · rw [if_pos h1, h1.1, h1.2, h]
  · rw [if_neg h1]
section RCE
variable {A : gA} {M0 C : gM} {c1 c2 : Nat}
/-! the model's readers, again, by the chart alone -/
theorem q_lv {M : gM} (hW : cW A C) (hc : Mc M = C) : n_I M 7 0 = nI (A 9 5) := by unfold n_I; rw [Mc_r hc (Or.inl rfl)]; exact hW.1.1
theorem q_rd {M : gM} (hc : Mc M = C) {k i : Nat} (hk : 9 ≤ k ∧ k ≤ 37) : n_I M k i = n_I C k i := by unfold n_I; rw [Mc_r hc (Or.inr hk)]
theorem q_n {M : gM} (hW : cW A C) (hc : Mc M = C) : n_aI M 9 2 (n_I M 7 0) = some (nI (A 9 0)) := by
  rw [q_lv hW hc, y_aI hW.1.2.1 (by omega), q_rd hc (by omega), hW.1.2.2.2.2.2.2.2.2.1]
theorem q_kind {M : gM} (hW : cW A C) (hc : Mc M = C) (fu : Nat) {i : Nat} (hi : i < A 9 0) : F_X4_kindOf fu (nI i) M = some (.returned (some (.int (c_kind A C i))), M) := by
  have hw := hW.1.2.1
  have hn := hW.1.2.2.2.1
  unfold F_X4_kindOf
  rw [q_lv hW hc, y_m16, nI_add, y_aI (by omega) (by omega), y_b, q_rd hc (by omega)]
theorem q_bel {M : gM} (hW : cW A C) (hc : Mc M = C) (fu : Nat) {i : Nat} (hi : i < A 9 0) : F_X4_belowOf fu (nI i) M = some (.returned (some (.int (c_bel A C i))), M) := by
  have hw := hW.1.2.1
  have hn := hW.1.2.2.2.1
  unfold F_X4_belowOf
  rw [q_lv hW hc, y_m16, nI_add, y_aI (by omega) (by omega), y_b, q_rd hc (by omega)]
theorem q_out {M : gM} (hW : cW A C) (hc : Mc M = C) (fu : Nat) {i : Nat} (hi : i < A 9 0) : F_X4_outerOf fu (nI i) M = some (.returned (some (.int (c_out A i))), M) := by
  have hw := hW.1.2.1
  have hn := hW.1.2.2.2.1
  unfold F_X4_outerOf
  rw [q_lv hW hc, y_m16, nI_add, y_aI (by omega) (by omega), y_b, q_rd hc (by omega), (hW.2.1 i hi).1]
  rfl
theorem c_out_eq (hW : cW A C) {i s : Nat} (hi : i < A 9 0) (hs : s < A 9 0) : c_out A i = nI s ↔ A 24 i = s + 1 := by
  have hn := hW.1.2.2.2.1
  have := (hW.2.1 i hi).2.1
  unfold c_out
  by_cases z : A 24 i = 0
  · rw [if_pos z]
    constructor
    · intro w
      have : nI s < 0 := by rw [← w]; decide
      exact absurd this (nI_pos (by omega))
    · intro w; omega
  · rw [if_neg z, nI_eq (by omega) (by omega)]
    omega
theorem mem_ch {i k : Nat} : k ∈ l_ch A i ↔ k < A 9 0 ∧ A 24 k = i + 1 := by
  unfold l_ch
  rw [List.mem_filter, List.mem_range, beq_iff_eq]
/-- a child's bit lies below -/
theorem ch_below (hW : cW A C) {s k : Nat} (hs : s < A 9 0) (hk : k < A 9 0) (h : A 24 k = s + 1) : bt (c_bel A C s) k = true := by
  have hn := hW.1.2.2.2.1
  have := (v_sub.mp ((hW.2.2.1 s hs).2.1 k hk h)) k (by omega)
  refine this ?_
  unfold c_sub
  rw [b_or, v_bt (by omega)]
  simp
theorem RC.inj {M : gM} {S : gm_S} (h : RC A M0 C M S c1 c2) {i j : Nat} (hi : i < A 9 0) (hj : j < A 9 0) (e : A 10 i = A 10 j) : i = j := by
  have h1 := (h.H.2.1 i hi).1
  rw [e, (h.H.2.1 j hj).1] at h1
  have := h.n16
  exact ((nI_eq (by omega) (by omega)).mp (Option.some.inj h1)).symm
theorem RC.wHist {M : gM} {S : gm_S} (h : RC A M0 C M S c1 c2) {s : Nat} (hs : s < A 9 0) (v : Int32) : g_pI S (some (A 10 s)) 5 8 v = some (gs_put S 508 (A 10 s) 0 (.int v)) ∧ RC A M0 C (n_up M 43 s (.int v)) (gs_put S 508 (A 10 s) 0 (.int v)) c1 c2 ∧ fX S (gs_put S 508 (A 10 s) 0 (.int v)) M (n_up M 43 s (.int v)) c1 := by
  have ht := h.st hs
  have ha : gs_t S (A 10 s) ≠ 0 := by rw [ht]; decide
  have g := ag.put (S := S) (F := 508) (a := A 10 s) (i := 0) (v := .int v) (by decide)
  have hu : ∀ k i, k ≠ 43 → n_up M 43 s (.int v) k i = M k i := fun k i h1 => y_uk h1
  refine ⟨y_pI ht, h.upd g (h.inv.put (by decide) ha) (fun F a z => by rw [z.1]; exact ⟨by decide, fun w => absurd w (by decide)⟩) (fun a z => z.elim) (Mc_up h.mc (by omega)) (fun k i hk => hu k i (by omega))
    (h.a.mono g (by simp) (fun k i hk => hu k i (by omega))) (h.v.mono g (by simp) (fun i => hu _ i (by omega))) (h.q.mono g (by simp) (fun k i hk => hu k i (by omega)))
    (h.s.mono g (by simp) (by simp) (fun k i hk => hu k i (by omega))) (h.t.mono g (by simp) (fun k i hk => hu k i (by omega))) (h.c.mono g (by simp)) ?_ (h.b.same rfl rfl rfl (fun b => y_cap (by decide))), fX.of g (by rw [h.c.2.2.1]; decide) (by simp) (fun F a z => by have := z.1; omega) (fun k i hk => hu k i (by omega))⟩
  intro i hi
  refine ⟨?_, ?_⟩
  · by_cases e : i = s
    · subst e
      unfold n_I
      rw [y_us, y_gI ((y_pt (by decide)).trans ht), y_pE]
    · unfold n_I
      rw [y_ui e]
      exact g.gI (h.h i hi).1 (by decide) (n2 (fun z => e (h.inj hi hs z)))
  · unfold n_I
    rw [y_uk (by decide)]
    exact g.gI (h.h i hi).2 (by decide) (n1 (by decide))
theorem RC.wDeep {M : gM} {S : gm_S} (h : RC A M0 C M S c1 c2) {s : Nat} (hs : s < A 9 0) (v : Int32) : g_pI S (some (A 10 s)) 5 9 v = some (gs_put S 509 (A 10 s) 0 (.int v)) ∧ RC A M0 C (n_up M 44 s (.int v)) (gs_put S 509 (A 10 s) 0 (.int v)) c1 c2 ∧ fX S (gs_put S 509 (A 10 s) 0 (.int v)) M (n_up M 44 s (.int v)) c1 := by
  have ht := h.st hs
  have ha : gs_t S (A 10 s) ≠ 0 := by rw [ht]; decide
  have g := ag.put (S := S) (F := 509) (a := A 10 s) (i := 0) (v := .int v) (by decide)
  have hu : ∀ k i, k ≠ 44 → n_up M 44 s (.int v) k i = M k i := fun k i h1 => y_uk h1
  refine ⟨y_pI ht, h.upd g (h.inv.put (by decide) ha) (fun F a z => by rw [z.1]; exact ⟨by decide, fun w => absurd w (by decide)⟩) (fun a z => z.elim) (Mc_up h.mc (by omega)) (fun k i hk => hu k i (by omega))
    (h.a.mono g (by simp) (fun k i hk => hu k i (by omega))) (h.v.mono g (by simp) (fun i => hu _ i (by omega))) (h.q.mono g (by simp) (fun k i hk => hu k i (by omega)))
    (h.s.mono g (by simp) (by simp) (fun k i hk => hu k i (by omega))) (h.t.mono g (by simp) (fun k i hk => hu k i (by omega))) (h.c.mono g (by simp)) ?_ (h.b.same rfl rfl rfl (fun b => y_cap (by decide))), fX.of g (by rw [h.c.2.2.1]; decide) (by simp) (fun F a z => by have := z.1; omega) (fun k i hk => hu k i (by omega))⟩
  intro i hi
  refine ⟨?_, ?_⟩
  · unfold n_I
    rw [y_uk (by decide)]
    exact g.gI (h.h i hi).1 (by decide) (n1 (by decide))
  · by_cases e : i = s
    · subst e
      unfold n_I
      rw [y_us, y_gI ((y_pt (by decide)).trans ht), y_pE]
    · unfold n_I
      rw [y_ui e]
      exact g.gI (h.h i hi).2 (by decide) (n2 (fun z => e (h.inj hi hs z)))
/-- the two histories of s, by what is active -/
def p_h (A : gA) (act : Int32) (s k : Nat) : Bool := bt act k && decide (A 24 k = s + 1)
def p_d (A : gA) (C : gM) (act : Int32) (s k : Nat) : Bool := bt act k && bt (c_bel A C s) k && decide (c_kind A C k = 0)
/-- the model's side -/
theorem m_rec {fu : Nat} {k2 : Int32 → Int32 → gM → gQ} (bits : Int32) (hW : cW A C) {s : Nat} (hs : s < A 9 0) (act : Int32) : ∀ (d i : Nat) (M : gM) (n : Nat), A 9 0 - i = d → s < i → i ≤ A 9 0 → d < n → Mc M = C → n_I M 41 0 = act → M 43 s = .int (vm (p_h A act s) i) → M 44 s = .int (vm (p_d A C act s) i) →
    F_X4_leave_53 fu k2 n bits (nI s) (nI i) M = k2 bits (nI (s + 1)) (n_up (n_up M 43 s (.int (vm (p_h A act s) (A 9 0)))) 44 s (.int (vm (p_d A C act s) (A 9 0)))) := by
  have hn16 := hW.1.2.2.2.1
  intro d
  induction d with
  | zero =>
    intro i M n hd hsi hi hn hc hact h43 h44
    obtain ⟨n, rfl⟩ : ∃ n', n = n' + 1 := ⟨n - 1, by omega⟩
    have e : i = A 9 0 := by omega
    rw [F_X4_leave_53, q_n hW hc, y_b, e, if_pos (Int32.le_refl _), nI_1, ← e, y_self h43, y_self h44]
  | succ d ih =>
    intro i M n hd hsi hi hn hc hact h43 h44
    obtain ⟨n, rfl⟩ : ∃ n', n = n' + 1 := ⟨n - 1, by omega⟩
    have hlt : i < A 9 0 := by omega
    rw [F_X4_leave_53, q_n hW hc, y_b, if_neg (nI_ge hlt (by omega)), q_bel hW hc fu hs, y_cI, hact, m_in fu (by omega), y_cI, nI_1]
    by_cases hb : bt (act &&& c_bel A C s) i = true
    · have hb2 : bt act i = true ∧ bt (c_bel A C s) i = true := by rw [b_and] at hb; simpa using hb
      rw [if_pos hb, if_neg (show ¬ (1 : Int32) = 0 by decide), q_out hW hc fu hlt, y_cI]
      have r43 : n_aI M 43 16 (nI s) = some (vm (p_h A act s) i) := by rw [y_aI (by omega) (by omega)]; unfold n_I; rw [h43]; rfl
      have step : ∀ M1 : gM, Mc M1 = C → n_I M1 41 0 = act → M1 43 s = .int (vm (p_h A act s) (i + 1)) → M1 44 s = .int (vm (p_d A C act s) i) → F_X4_leave_108 fu k2 (F_X4_leave_53 fu k2 n) bits (nI s) (nI i) M1 = k2 bits (nI (s + 1)) (n_up (n_up M1 43 s (.int (vm (p_h A act s) (A 9 0)))) 44 s (.int (vm (p_d A C act s) (A 9 0)))) := by
        intro M1 hc1 ha1 g43 g44
        unfold F_X4_leave_108
        rw [q_kind hW hc1 fu hlt, y_cI, nI_1]
        by_cases hk : c_kind A C i = 0
        · rw [if_pos hk]
          have r44 : n_aI M1 44 16 (nI s) = some (vm (p_d A C act s) i) := by rw [y_aI (by omega) (by omega)]; unfold n_I; rw [g44]; rfl
          rw [r44, y_b, y_sI (by omega) (by omega), y_b]
          have hv : vm (p_d A C act s) (i + 1) = vm (p_d A C act s) i ||| v_bit i := by
            rw [vm, if_pos (by unfold p_d; simp [hb2.1, hb2.2, hk])]
          rw [← hv, ih (i + 1) _ n (by omega) (by omega) (by omega) (by omega) (Mc_up hc1 (by omega)) (by unfold n_I; rw [y_uk (by decide)]; exact ha1) (by rw [y_uk (by decide)]; exact g43) y_us, y_uc (k := 44) (k' := 43) (by decide), y_uu]
        · rw [if_neg hk]
          have hv : vm (p_d A C act s) (i + 1) = vm (p_d A C act s) i := by
            rw [vm, if_neg (by unfold p_d; simp [hk])]
          rw [ih (i + 1) M1 n (by omega) (by omega) (by omega) (by omega) hc1 ha1 g43 (by rw [hv]; exact g44)]
      by_cases ho : A 24 i = s + 1
      · rw [if_pos ((c_out_eq hW hlt hs).mpr ho), r43, y_b, y_sI (by omega) (by omega), y_b]
        have hv : vm (p_h A act s) (i + 1) = vm (p_h A act s) i ||| v_bit i := by
          rw [vm, if_pos (by unfold p_h; simp [hb2.1, ho])]
        rw [← hv, step _ (Mc_up hc (by omega)) (by unfold n_I; rw [y_uk (by decide)]; exact hact) y_us (by rw [y_uk (by decide)]; exact h44), y_uu]
      · rw [if_neg (fun z => ho ((c_out_eq hW hlt hs).mp z))]
        have hv : vm (p_h A act s) (i + 1) = vm (p_h A act s) i := by
          rw [vm, if_neg (by unfold p_h; simp [ho])]
        rw [step M hc hact (by rw [hv]; exact h43) h44]
    · rw [if_neg hb, if_pos rfl]
      have hb2 : ¬ (bt act i = true ∧ bt (c_bel A C s) i = true) := by rw [b_and] at hb; simpa using hb
      have hv1 : vm (p_h A act s) (i + 1) = vm (p_h A act s) i := by
        rw [vm, if_neg]
        unfold p_h
        intro z
        simp only [Bool.and_eq_true, decide_eq_true_eq] at z
        exact hb2 ⟨z.1, ch_below hW hs hlt z.2⟩
      have hv2 : vm (p_d A C act s) (i + 1) = vm (p_d A C act s) i := by
        rw [vm, if_neg]
        unfold p_d
        intro z
        simp only [Bool.and_eq_true, decide_eq_true_eq] at z
        exact hb2 z.1
      rw [ih (i + 1) M n (by omega) (by omega) (by omega) (by omega) hc hact (by rw [hv1]; exact h43) (by rw [hv2]; exact h44)]
end RCE
