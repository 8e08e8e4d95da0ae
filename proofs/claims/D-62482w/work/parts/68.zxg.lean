/-! LAYER 2, reading: what lies below a state -/
set_option maxRecDepth 100000
section RDZk
variable {A : gA} {M0 : gM} {z p bc bk : Nat} {tx : Nat → Nat}
/-- the component's items -/
def cIt (fu : Nat) (rc : Option Nat → Option Nat → Int32 → gm_S → gR) (x0 x3 : Option Nat) (S : gm_S) : gR := gz_q (g_at S x0 2) (gz_cI (F_X2_takes fu x0 (123 : Int32) S) fun v3 S3 =>
  if v3 = 0 then (some (.returned (some (va_rf x3)), S3))
  else (F_X2_state_254 fu rc fu x0 x3 S3))
def bel (N : gA) (M : gM) (l : List Nat) (b : Int32) : Int32 := l.foldl (fun b c => b ||| (c_bel N M c ||| v_bit c)) b
theorem bel_b {N : gA} {M : gM} : ∀ (l : List Nat) (b : Int32) (k : Nat), (∀ c, c ∈ l → c < 16) → (bt (bel N M l b) k = true ↔ bt b k = true ∨ ∃ c, c ∈ l ∧ bt (c_sub N M c) k = true)
  | [], b, k, _ => by simp [bel]
  | c :: l, b, k, h => by
    show bt (bel N M l (b ||| (c_bel N M c ||| v_bit c))) k = true ↔ _
    rw [bel_b l _ k (fun c' w => h c' (List.mem_cons_of_mem _ w)), b_or, Bool.or_eq_true]
    constructor
    · rintro ((w | w) | ⟨c', w1, w2⟩)
      · exact Or.inl w
      · exact Or.inr ⟨c, List.mem_cons_self, w⟩
      · exact Or.inr ⟨c', List.mem_cons_of_mem _ w1, w2⟩
    · rintro (w | ⟨c', w1, w2⟩)
      · exact Or.inl (Or.inl w)
      · rcases List.mem_cons.mp w1 with w | w
        · rw [w] at w2; exact Or.inl (Or.inr w2)
        · exact Or.inr ⟨c', w, w2⟩
theorem sB_sub {N : gA} {M : gM} (hN : ∀ i, i < N 9 0 → N 24 i ≤ i) (h16 : N 9 0 ≤ 16) (h : sB N M) {s c : Nat} (hs : s < N 9 0) (hc : c < N 9 0) (h24 : N 24 c = s + 1) : ∀ k, bt (c_sub N M c) k = true → bt (c_bel N M s) k = true := by
  intro k
  induction k using Nat.strongRecOn with
  | _ k ih =>
    intro w
    unfold c_sub at w
    rw [b_or, Bool.or_eq_true, v_bt (by omega), decide_eq_true_eq] at w
    rcases w with w | w
    · obtain ⟨w1, w2, w3⟩ := (h c k hc).mp w
      have := hN k w1
      refine (h s k hs).mpr ⟨w1, w2, Or.inr ?_⟩
      refine ih (N 24 k - 1) (by omega) ?_
      unfold c_sub
      rw [b_or, Bool.or_eq_true, v_bt (by omega), decide_eq_true_eq]
      rcases w3 with w3 | w3
      · exact Or.inr (by omega)
      · exact Or.inl w3
    · rw [w]
      exact (h s c hs).mpr ⟨hc, by omega, Or.inl h24⟩
theorem sB_all {N : gA} {M : gM} (hN : ∀ i, i < N 9 0 → N 24 i ≤ i) (h16 : N 9 0 ≤ 16) (h : sB N M) {s : Nat} (hs : s < N 9 0) : ∀ k, bt (c_bel N M s) k = true → ∃ c, c ∈ l_ch N s ∧ bt (c_sub N M c) k = true := by
  intro k
  induction k using Nat.strongRecOn with
  | _ k ih =>
    intro w
    obtain ⟨w1, w2, w3⟩ := (h s k hs).mp w
    have := hN k w1
    rcases w3 with w3 | w3
    · refine ⟨k, ?_, ?_⟩
      · unfold l_ch
        exact List.mem_filter.mpr ⟨List.mem_range.mpr w1, by simp [w3]⟩
      · unfold c_sub
        rw [b_or, Bool.or_eq_true, v_bt (by omega), decide_eq_true_eq]
        exact Or.inr rfl
    · obtain ⟨c, c1, c2⟩ := ih (N 24 k - 1) (by omega) w3
      have hc := l_ch_lt c1
      refine ⟨c, c1, ?_⟩
      unfold c_sub at c2 ⊢
      rw [b_or, Bool.or_eq_true, v_bt (by omega), decide_eq_true_eq] at c2 ⊢
      refine Or.inl ((h c k hc).mpr ⟨w1, w2, ?_⟩)
      rcases c2 with c2 | c2
      · exact Or.inr c2
      · exact Or.inl (by omega)
theorem bel_eq {N : gA} {M : gM} (hN : ∀ i, i < N 9 0 → N 24 i ≤ i) (h16 : N 9 0 ≤ 16) (h : sB N M) {s : Nat} (hs : s < N 9 0) : bel N M (l_ch N s) 0 = c_bel N M s := by
  refine b_ext (fun k _ => ?_)
  have e : bt (bel N M (l_ch N s) 0) k = true ↔ bt (c_bel N M s) k = true := by
    rw [bel_b _ _ _ (fun c w => Nat.lt_of_lt_of_le (l_ch_lt w) h16), b_0]
    constructor
    · rintro (w | ⟨c, w1, w2⟩)
      · cases w
      · refine sB_sub hN h16 h hs (l_ch_lt w1) ?_ k w2
        unfold l_ch at w1
        simpa using (List.mem_filter.mp w1).2
    · intro w
      exact Or.inr (sB_all hN h16 h hs k w)
  cases e1 : bt (bel N M (l_ch N s) 0) k <;> cases e2 : bt (c_bel N M s) k
  · rfl
  · rw [e1, e2] at e; exact absurd (e.mpr rfl) (by decide)
  · rw [e1, e2] at e; exact absurd (e.mp rfl) (by decide)
  · rfl
/-- the loop over the children -/
theorem c_193 {N : gA} {M : gM} {s o fu : Nat} (rc : Option Nat → Option Nat → Int32 → gm_S → gR) (x0 : Option Nat) (l : List Nat) (hl : l.length ≤ 16) : ∀ (n j : Nat) (S : gm_S) (acc : Int32), j ≤ l.length → l.length - j < n → g_gR S (some o) 5 3 = some (some (N 15 s)) → gs_t S (N 15 s) = 16 → S.2.1 (N 15 s) = l.map (N 10) → g_gI S (some o) 5 7 = some acc → (∀ c, c ∈ l → N 10 c ≠ o ∧ g_gI S (some (N 10 c)) 5 0 = some (nI c) ∧ g_gI S (some (N 10 c)) 5 7 = some (c_bel N M c)) →
    ∃ S', F_X2_state_193 fu rc n x0 (some o) (nI j) S = cIt fu rc x0 (some o) S' ∧ g_gI S' (some o) 5 7 = some (bel N M (l.drop j) acc) ∧ (∀ F a i, ¬ (F = 507 ∧ a = o) → S'.1 F a i = S.1 F a i) ∧ S'.2 = S.2 := by
  intro n
  induction n with
  | zero => intro j S acc _ h; omega
  | succ n ih =>
    intro j S acc h1 h2 h3 h4 h5 h6 h7
    rw [F_X2_state_193, h3, y_b, y_lsz h4, y_b, h5, List.length_map]
    by_cases e : j = l.length
    · rw [if_pos ((nI_leI (by omega) (by omega)).mpr (by omega))]
      refine ⟨S, rfl, ?_, fun _ _ _ _ => rfl, rfl⟩
      rw [e, List.drop_length]
      exact h6
    · have hj : j < l.length := by omega
      have hm : l[j] ∈ l := List.getElem_mem hj
      obtain ⟨c, hc⟩ : ∃ c, c = l[j] := ⟨_, rfl⟩
      rw [← hc] at hm
      obtain ⟨k1, k2, k3⟩ := h7 c hm
      have tc : gs_t S (N 10 c) = 5 := by obtain ⟨a, ea, ta, -⟩ := y_gIt k2; cases ea; exact ta
      have to : gs_t S o = 5 := by obtain ⟨a, ea, ta, -⟩ := y_gIt h6; cases ea; exact ta
      have hget : g_lget S (some (N 15 s)) (nI j) = some (N 10 c) := y_lget h4 (by omega) (by rw [h5, List.getElem?_map, List.getElem?_eq_getElem hj, ← hc]; rfl)
      obtain ⟨S1, hS1⟩ : ∃ S1, S1 = gs_put S (100 * 5 + 7) o 0 (.int (acc ||| (c_bel N M c ||| v_bit c))) := ⟨_, rfl⟩
      have g : ag (fun F a => F = 507 ∧ a = o) (fun _ => False) S S1 := by rw [hS1]; exact ag.put (by decide)
      have n15 : N 15 s ≠ o := fun w => by rw [w, to] at h4; cases h4
      obtain ⟨S', w1, w2, w3, w4⟩ := ih (j + 1) S1 (acc ||| (c_bel N M c ||| v_bit c)) (by omega) (by omega) (g.gR h3 (by decide) (by omega)) ((g.2.2 _ (by rw [h4]; decide)).trans h4) (by rw [hS1]; exact h5) (by rw [y_gI ((g.2.2 _ (by rw [to]; decide)).trans to), hS1, y_pE]; rfl) (fun c' w => by
        obtain ⟨z1, z2, z3⟩ := h7 c' w
        exact ⟨z1, g.gI z2 (by decide) (by omega), g.gI z3 (by decide) (by omega)⟩)
      refine ⟨S', ?_, ?_, fun F a i w => ?_, ?_⟩
      · rw [if_neg (nI_ge hj (by omega)), y_b, hget, y_b, y_q tc, h6, y_b, k3, y_b, y_q tc]
        unfold F_X5_bit
        rw [k2, y_b, y_cI, y_pI to, y_b, ← hS1, nI_1, w1]
      · rw [w2]
        have : l.drop j = c :: l.drop (j + 1) := by rw [hc]; exact List.drop_eq_getElem_cons hj
        rw [this]; rfl
      · rw [w3 F a i w, hS1, y_pM (fun q => w ⟨q.1, q.2.1⟩)]
      · rw [w4, hS1]; rfl
theorem QS_bel {N : gA} {M : gM} {S S' : gm_S} {op ob ob1 : Nat → Bool} {s : Nat} (h : QS A N M0 z tx bc bk op ob1 M S p) (hs : s < N 9 0) (hk : c_kind N M s ≠ 0 → l_ch N s ≠ []) (o1 : ob1 s = true) (o2 : ob s = false) (o3 : ∀ j, j ≠ s → ob1 j = ob j) (och : ∀ j, j < N 9 0 → N 24 j = s + 1 → ob j = false) (hv : g_gI S' (some (N 10 s)) 5 7 = some (c_bel N M s)) (h1 : ∀ F a i, ¬ (F = 507 ∧ a = N 10 s) → S'.1 F a i = S.1 F a i) (h2 : S'.2 = S.2) : QS A N M0 z tx bc bk op ob M S' p ∧ xS A (N 9 5) (N 7 0) M S M S' := by
  obtain ⟨⟨hP, hi, hb, hQ, h3', h4'⟩, hS, hj, ho, hg⟩ := h
  obtain ⟨qa, qn, qt, qr, ql, qo, n16⟩ := id hQ
  obtain ⟨q1, q2, ⟨l1, l2, l3, l4, l5⟩, q4, q5⟩ := id hS
  have tt : ∀ b, gs_t S' b = gs_t S b := fun b => by unfold gs_t; rw [h1 _ _ _ (by omega)]
  have g : ag (fun F a => F = 507 ∧ a = N 10 s) (fun _ => False) S S' := ⟨fun F a i _ w => h1 F a i w, fun a _ _ => by rw [h2], fun a _ => tt a⟩
  have ts : gs_t S (N 10 s) = 5 := by obtain ⟨a, ea, ta, -⟩ := y_gIt (q4 s hs).2.1; cases ea; exact ta
  have hN : ∀ i, i < N 9 0 → N 24 i ≤ i := fun i u => (q4 i u).1.2.1
  obtain ⟨j1, j2, j3, j4⟩ := qJ_mono (N' := N) (M' := M) qa qn qt qr g (fun F b w => by omega) (fun w => w) (fun _ _ _ => rfl) rfl (Nat.le_refl _) (fun _ _ => rfl) (fun _ _ _ => rfl) (fun _ _ _ => rfl)
  obtain ⟨i1, i2, i3, i4⟩ := hi
  have n0 : N 10 s ≠ 0 := fun w => by rw [w, i2] at ts; cases ts
  have nn : gs_n S' = gs_n S := by show S'.2.2.1 = _; rw [h2]
  have i' : g_inv M0 S' := by
    refine ⟨?_, (tt 0).trans i2, by rw [nn]; exact i3, fun a ha => by rw [nn]; exact i4 a (by rw [← tt a]; exact ha)⟩
    rw [← i1]
    funext k j
    exact h1 _ _ _ (by omega)
  refine ⟨⟨⟨hP.mono g ⟨by omega, by omega, by omega, by omega, by omega⟩ (fun _ _ _ => rfl), i', by unfold PB gs_c gs_k at hb ⊢; rw [h2]; exact hb, ⟨j1, j2, j3, j4, ⟨fun a r u => ⟨(ql.1 a r u).1, (ql.1 a r u).2.ag g (fun w => w)⟩, ql.2⟩, qo, n16⟩, h3', h4'⟩, ⟨g.gR q1 (by decide) (by omega), q2, ⟨g.gR l1 (by decide) (by omega), (g.2.2 _ (by rw [l2]; decide)).trans l2, by rw [g.1 _ _ _ (by rw [l2]; decide) (by omega)]; exact l3, fun j u => ?_, l5⟩, fun i u => ?_, q5⟩, fun j u => ?_, fun k u1 u2 u3 => ?_, hg⟩, g.wk (fun F a w => Or.inr (Or.inr (by rw [w.2]; exact hg s hs))) (fun a w => w.elim), fun _ _ _ => rfl⟩
  · rw [g.1 _ _ _ (by rw [l2]; decide) (by omega)]
    exact l4 j u
  · obtain ⟨w1, w2⟩ := q4 i u
    by_cases ei : i = s
    · rw [ei] at w1 w2 ⊢
      obtain ⟨z1, z2, z3, z4, z5, z6, z7⟩ := w1
      obtain ⟨f1, f2, f3, f4, f5, f6, f7, f8, f9, f10⟩ := w2
      refine ⟨⟨z1, z2, z3, fun _ => hk, z5, z6, z7⟩, g.gI f1 (by decide) (by omega), g.gR f2 (by decide) (by omega), g.gI f3 (by decide) (by omega), g.gR f4 (by decide) (by omega), g.gR f5 (by decide) (by omega), g.gR f6 (by decide) (by omega), g.gR f7 (by decide) (by omega), ?_, g.gI f9 (by decide) (by omega), g.gI f10 (by decide) (by omega)⟩
      rw [if_neg (by rw [o2]; decide)]
      exact hv
    · have ne : N 10 i ≠ N 10 s := fun w => ei (QS.inj hS n16 u hs w)
      refine ⟨?_, sF_mono w2 g (fun F u1 u2 w => ne w.2) (fun _ _ => rfl) (fun _ => rfl) rfl (o3 i ei).symm rfl (fun _ => rfl)⟩
      unfold sW at w1 ⊢
      rw [← o3 i ei]
      exact w1
  · have := hj j u
    rw [o3 j (by omega)] at this
    exact this
  · have hk1 : k ≠ s := fun w => by rw [w, o2] at u2; cases u2
    rw [← o3 k hk1] at u2
    have w := ho k u1 u2 u3
    have ne : N 24 k - 1 ≠ s := fun q => by
      have := och k u1 (by omega)
      rw [o3 k hk1, this] at u2
      cases u2
    rw [← o3 _ ne]
    exact w
end RDZk
