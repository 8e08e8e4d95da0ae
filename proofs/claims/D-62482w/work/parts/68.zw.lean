/-! LAYER 2, reading: items of a state -/
set_option maxRecDepth 100000
section RDZc
variable {A : gA} {M0 : gM} {z bc bk : Nat} {tx : Nat → Nat}
def QP (A N : gA) (M0 : gM) (z : Nat) (tx : Nat → Nat) (bc bk : Nat) (op : Nat → Bool) (M : gM) (S : gm_S) (p : Nat) : Prop := PA A M S z tx p ∧ g_inv M0 S ∧ PB bc bk S p ∧ QI A N M S op ∧ 3 * N 9 4 ≤ p ∧ 3 * N 9 2 ≤ p
theorem QI.B {N : gA} {M : gM} {S : gm_S} {op : Nat → Bool} (h : QI A N M S op) (hi : g_inv M0 S) : N 7 0 ≤ gs_n S := by
  obtain ⟨-, qn, -, -, ql, -⟩ := h
  have h1 := ql.2.2
  have h2 := hi.2.2.2 (N 35 0) (by rw [qn.2.2.2.2.1]; decide)
  omega
theorem QP.to {N : gA} {op : Nat → Bool} {M M' : gM} {S S' : gm_S} {p p' : Nat} (h : QP A N M0 z tx bc bk op M S p) (hP : PA A M' S' z tx p') (hp : p ≤ p') (g : tA A S S') (hM : ∀ k i, k ≠ 4 → M' k i = M k i) : QP A N M0 z tx bc bk op M' S' p' := by
  obtain ⟨h1, h2, h3, h4, h5, h6⟩ := h
  exact ⟨hP, g.inv h2 h1.1, g.b h3 hp, h4.at' g hM, by omega, by omega⟩
def xI (A N : gA) (B : Nat) (M : gM) (S : gm_S) (M' : gM) (S' : gm_S) : Prop := ag (eI A B) (fun a => B ≤ a) S S' ∧ mI N M M'
theorem xI.trans {N : gA} {B : Nat} {M M' M'' : gM} {S S' S'' : gm_S} (h : xI A N B M S M' S') (h' : xI A N B M' S' M'' S'') : xI A N B M S M'' S'' := ⟨(h.1.trans h'.1).wk (fun F a w => w.elim id id) (fun a w => w.elim id id), fun k i w => (h'.2 k i w).trans (h.2 k i w)⟩
theorem xI.t {N : gA} {B : Nat} {M M' : gM} {S S' : gm_S} (g : tA A S S') (hM : ∀ k i, k ≠ 4 → M' k i = M k i) : xI A N B M S M' S' := ⟨g.ag.wk (fun F a w => Or.inl ⟨Or.inl w.1, w.2⟩) (fun a w => w.elim), fun k i w => hM k i (by omega)⟩
theorem xI.n {N N' : gA} {B : Nat} {M M' : gM} {S S' : gm_S} (h : xI A N' B M S M' S') (e : N' 9 5 = N 9 5) : xI A N B M S M' S' := ⟨h.1, fun k i w => h.2 k i (by rw [e]; exact w)⟩
theorem i_72 {M : gM} (h : n_I M 5 0 = 1) (fu n : Nat) (x1 : Int32) : F_X4_readItems_72 fu (F_X4_readItems_10 fu (n + 1)) x1 M = some (.returned none, n_p M 5 1) := by
  unfold F_X4_readItems_72
  rw [show F_X4_take fu 59 M = _ from i_take h fu (c := 59) (by omega) (by omega), y_cV, F_X4_readItems_10, n_ps, if_neg (by decide)]
/-- the semicolon -/
theorem s_semi {N : gA} {op : Nat → Bool} {M : gM} {S : gm_S} {p : Nat} (h : QP A N M0 z tx bc bk op M S p) (fu : Nat) (k : Int32 → gM → gQ) (x1 : Int32) (B : Nat) :
    (∃ M' S', F_X4_readItems_72 fu k x1 M = k x1 M' ∧ F_X2_item_45 fu (some (A 1 0)) S = some (.returned none, S') ∧ QP A N M0 z tx bc bk op M' S' (p + 1) ∧ xI A N B M S M' S') ∨
    (∃ M' o S', F_X4_readItems_72 fu k x1 M = k x1 M' ∧ F_X2_item_45 fu (some (A 1 0)) S = some (o, S') ∧ PF A M0 bc bk M' o S' ∧ xI A N B M S M' S') := by
  have hP := h.1
  unfold F_X4_readItems_72 F_X2_item_45
  rw [y_q hP.1]
  rcases s_tak hP h.2.1 h.2.2.1 fu (c := 59) (by omega) (by omega) with ⟨M', S', e1, e2, e3, e4, -, e6⟩ | ⟨M', o, S', e1, e2, e3, e4, e5, e6⟩
  · rw [show F_X4_take fu 59 M = _ from e1, y_cV, show F_X2_take fu (some (A 1 0)) 59 S = _ from e2, y_cV]
    exact Or.inl ⟨M', S', rfl, rfl, h.to e3 (by omega) e4 e6, xI.t e4 e6⟩
  · obtain ⟨a, pp, g1, g2⟩ := e3
    rw [show F_X4_take fu 59 M = _ from e1, y_cV, show F_X2_take fu (some (A 1 0)) 59 S = _ from e2]
    exact Or.inr ⟨M', o, S', rfl, by rw [g1]; rfl, ⟨a, pp, g1, g2⟩, e4.wk (fun F a w => w.elim) (fun a w => w.elim), fun k i w => e6 k i (by omega)⟩
def mItem (fu n : Nat) (x1 : Int32) (M2 : gM) : gQ := gz_cI (F_X4_takes fu (43 : Int32) M2) fun v3 M3 =>
  if v3 = 0 then (gz_cI (F_X4_takes fu (45 : Int32) M3) fun v4 M4 =>
  if v4 = 0 then (gz_cV (F_X4_readTransition fu x1 M4) fun M5 =>
  F_X4_readItems_72 fu (F_X4_readItems_10 fu n) x1 M5)
  else (gz_cV (F_X4_readActions fu ((200 : Int32) + x1) M4) fun M6 =>
  F_X4_readItems_72 fu (F_X4_readItems_10 fu n) x1 M6))
  else (gz_cV (F_X4_readActions fu ((100 : Int32) + x1) M3) fun M7 =>
  F_X4_readItems_72 fu (F_X4_readItems_10 fu n) x1 M7)
/-- a row of actions of a state, and the semicolon -/
theorem s_itac {N : gA} {op : Nat → Bool} {M : gM} {S : gm_S} {p s r0 o a0 fu n : Nat} (hf : 400 ≤ fu) (h : QP A N M0 z tx bc bk op M S p) (hs : s < N 9 0) (ho : (r0 = 3000 + s ∧ o = 100 + s) ∨ (r0 = 4000 + s ∧ o = 200 + s)) (ha : rl N a0 r0) :
    (∃ N' M' S' p', (gz_cV (F_X4_readActions fu (nI o) M) fun M6 => F_X4_readItems_72 fu (F_X4_readItems_10 fu (n + 1)) (nI s) M6) = F_X4_readItems_10 fu (n + 1) (nI s) M' ∧ (gz_cV (F_X2_actions fu (some (A 1 0)) (some a0) S) fun S5 => F_X2_item_45 fu (some (A 1 0)) S5) = some (.returned none, S') ∧ QP A N' M0 z tx bc bk op M' S' p' ∧ p < p' ∧ exI N N' ∧ xI A N (N 7 0) M S M' S') ∨
    (∃ M' o' S', (gz_cV (F_X4_readActions fu (nI o) M) fun M6 => F_X4_readItems_72 fu (F_X4_readItems_10 fu (n + 1)) (nI s) M6) = some (.returned none, M') ∧ (gz_cV (F_X2_actions fu (some (A 1 0)) (some a0) S) fun S5 => F_X2_item_45 fu (some (A 1 0)) S5) = some (o', S') ∧ PF A M0 bc bk M' o' S' ∧ xI A N (N 7 0) M S M' S') := by
  obtain ⟨hP, hi, hb, hQ, h3, h4⟩ := id h
  obtain ⟨qa, qn, qt, qr, ql, qo, n16⟩ := id hQ
  have hpz := hP.pz
  obtain ⟨u1, u2⟩ := ql.1 _ _ ha
  have hcont : S.2.1 a0 = (l_ac N o).map (N 14) := by
    rw [u2.2.2]
    rcases ho with ⟨h1, h2⟩ | ⟨h1, h2⟩
    · rw [h1, h2, cont_en (by omega)]
    · rw [h1, h2, cont_ex (by omega)]
  have gw : ∀ (F a : Nat), eR A a0 F a → eI A (N 7 0) F a := fun F a w => by have := u2.2.1; unfold eR at w; unfold eI; omega
  have mw : ∀ M', mAcs N M M' → mI N M M' := fun M' w k i q => w k i (by omega)
  unfold F_X4_readActions F_X2_actions
  rcases s_actions (z := z) (tx := tx) (bc := bc) (bk := bk) (M0 := M0) (r := a0) (fu := fu) (o := o) (by omega) (by omega) (z - p) p N M S fu fu rfl (by omega) (by omega) hP hi hb qa u2.1 hcont with ⟨N', M2, S2, p2, a1, a2, a3, a4, a5, a6, a7, a8, a9, a10, a11, a12⟩ | ⟨M2, oo, S2, a1, a2, a3, a4, a5, a6⟩
  · obtain ⟨Q1, Q2, Q3, Q4⟩ := QI_ac hQ hs ho ha a9 a7 a10 a8 a12
    have n7 := Q2 7 0 (by omega)
    have n5 := Q2 9 5 (by omega)
    have h2 : QP A N' M0 z tx bc bk op M2 S2 p2 := ⟨a3, a4, a5, Q1, by omega, by omega⟩
    have x2 : xI A N (N 7 0) M S M2 S2 := ⟨a10.wk gw (fun a w => by rw [w]; exact u2.2.1), mw _ a12⟩
    rw [a1, y_cV, a2, y_cV]
    rcases s_semi h2 fu (F_X4_readItems_10 fu (n + 1)) (nI s) (N 7 0) with ⟨M', S', e1, e2, e3, e4⟩ | ⟨M', o', S', e1, e2, e3, e4⟩
    · exact Or.inl ⟨N', M', S', p2 + 1, e1, e2, e3, by omega, Q2, x2.trans (e4.n n5)⟩
    · have h5 : n_I M' 5 0 = 1 := by obtain ⟨a, pp, -, -, -, -, g5, -⟩ := e3; exact g5
      rw [e1, F_X4_readItems_10, h5, if_neg (by decide)]
      exact Or.inr ⟨M', o', S', rfl, e2, e3, x2.trans (e4.n n5)⟩
  · have h5 : n_I M2 5 0 = 1 := by obtain ⟨a, pp, -, -, -, -, g5, -⟩ := a3; exact g5
    obtain ⟨a, pp, g1, g2⟩ := a3
    rw [a1, y_cV, i_72 h5, a2]
    refine Or.inr ⟨_, oo, S2, rfl, by rw [g1]; rfl, PF.m ⟨a, pp, g1, g2⟩ (n_po (by decide)) n_ps, a4.wk gw (fun a w => by rw [w]; exact u2.2.1), fun k i w => ?_⟩
    exact (y_uk (by omega)).trans (mw _ a6 k i w)
theorem s_item {N : gA} {op : Nat → Bool} {M : gM} {S : gm_S} {p s fu n : Nat} (hf : 400 ≤ fu) (h : QP A N M0 z tx bc bk op M S p) (hs : s < N 9 0) (h4 : g_gR S (some (N 10 s)) 5 4 = some (some (N 16 s))) (h5 : g_gR S (some (N 10 s)) 5 5 = some (some (N 17 s))) (h6 : g_gR S (some (N 10 s)) 5 6 = some (some (N 18 s))) :
    (∃ N' M' S' p', mItem fu (n + 1) (nI s) M = F_X4_readItems_10 fu (n + 1) (nI s) M' ∧ F_X2_item fu (some (A 1 0)) (some (N 10 s)) S = some (.returned none, S') ∧ QP A N' M0 z tx bc bk op M' S' p' ∧ p < p' ∧ exI N N' ∧ xI A N (N 7 0) M S M' S') ∨
    (∃ M' o' S', mItem fu (n + 1) (nI s) M = some (.returned none, M') ∧ F_X2_item fu (some (A 1 0)) (some (N 10 s)) S = some (o', S') ∧ PF A M0 bc bk M' o' S' ∧ xI A N (N 7 0) M S M' S') := by
  have hP := h.1
  have n16 := h.2.2.2.1.2.2.2.2.2.2
  have e100 : (100 : Int32) + nI s = nI (100 + s) := nI_add 100 s
  have e200 : (200 : Int32) + nI s = nI (200 + s) := nI_add 200 s
  unfold mItem F_X2_item
  rw [y_q hP.1, e100, e200]
  obtain ⟨v, M3, S3, p3, hv, e1, e2, P3, t3, f3⟩ := s_opt hP fu (c := 43) (by omega) (by omega)
  rw [show F_X4_takes fu 43 M = _ from e1, y_cI, show F_X2_takes fu (some (A 1 0)) 43 S = _ from e2, y_cI]
  have p3' : p ≤ p3 := by rcases hv with w | w <;> omega
  have Q3 := h.to P3 p3' t3 f3
  have x3 : xI A N (N 7 0) M S M3 S3 := xI.t t3 f3
  rcases hv with ⟨hv0, -⟩ | ⟨hv1, -⟩
  · rw [if_pos hv0, if_pos hv0, y_q P3.1]
    obtain ⟨v', M4, S4, p4, hv', e3, e4, P4, t4, f4⟩ := s_opt P3 fu (c := 45) (by omega) (by omega)
    rw [show F_X4_takes fu 45 M3 = _ from e3, y_cI, show F_X2_takes fu (some (A 1 0)) 45 S3 = _ from e4, y_cI]
    have p4' : p3 ≤ p4 := by rcases hv' with w | w <;> omega
    have Q4 := Q3.to P4 p4' t4 f4
    have x4 : xI A N (N 7 0) M S M4 S4 := x3.trans (xI.t t4 f4)
    rcases hv' with ⟨hv0', -⟩ | ⟨hv1', -⟩
    · rw [if_pos hv0', if_pos hv0', y_q P4.1]
      obtain ⟨R1, R2, R3, R4, R5, R6⟩ := id Q4
      have h44 : g_gR S4 (some (N 10 s)) 5 4 = some (some (N 16 s)) := x4.1.gR h4 (by decide) (by unfold eI; omega)
      rcases s_trans R1 R2 R3 R4 R5 R6 (R4.B R2) hs h44 (fu := fu) (by omega) with ⟨N', M5, S5, p5, a1, a2, a3, a4, a5, a6, a7, a8, a9, a10, a11, a12⟩ | ⟨M5, oo, S5, a1, a2, a3, a4, a5⟩
      · have n5 := a10 9 5 (by omega)
        have x5 : xI A N (N 7 0) M S M5 S5 := x4.trans ⟨a11, a12⟩
        rw [a1, y_cV, a2, y_cV]
        rcases s_semi (N := N') ⟨a3, a4, a5, a7, a8, a9⟩ fu (F_X4_readItems_10 fu (n + 1)) (nI s) (N 7 0) with ⟨M', S', w1, w2, w3, w4⟩ | ⟨M', o', S', w1, w2, w3, w4⟩
        · exact Or.inl ⟨N', M', S', p5 + 1, w1, w2, w3, by omega, a10, x5.trans (w4.n n5)⟩
        · have h5' : n_I M' 5 0 = 1 := by obtain ⟨a, pp, -, -, -, -, g5, -⟩ := w3; exact g5
          rw [w1, F_X4_readItems_10, h5', if_neg (by decide)]
          exact Or.inr ⟨M', o', S', rfl, w2, w3, x5.trans (w4.n n5)⟩
      · have h5' : n_I M5 5 0 = 1 := by obtain ⟨a, pp, -, -, -, -, g5, -⟩ := a3; exact g5
        obtain ⟨a, pp, g1, g2⟩ := a3
        rw [a1, y_cV, i_72 h5', a2]
        refine Or.inr ⟨_, oo, S5, rfl, by rw [g1]; rfl, PF.m ⟨a, pp, g1, g2⟩ (n_po (by decide)) n_ps, x4.trans ⟨a4, fun k i w => (y_uk (by omega)).trans (a5 k i w)⟩⟩
    · have h64 : g_gR S4 (some (N 10 s)) 5 6 = some (some (N 18 s)) := x4.1.gR h6 (by decide) (by unfold eI; omega)
      rw [if_neg (by rw [hv1']; decide), if_neg (by rw [hv1']; decide), h64, y_b, y_q P4.1]
      rcases s_itac (n := n) hf Q4 hs (Or.inr ⟨rfl, rfl⟩) (Or.inr (Or.inl ⟨s, hs, Or.inr (Or.inr (Or.inr ⟨rfl, rfl⟩))⟩)) with ⟨N', M', S', p', w1, w2, w3, w4, w5, w6⟩ | ⟨M', o', S', w1, w2, w3, w4⟩
      · exact Or.inl ⟨N', M', S', p', w1, w2, w3, by omega, w5, x4.trans w6⟩
      · exact Or.inr ⟨M', o', S', w1, w2, w3, x4.trans w4⟩
  · have h53 : g_gR S3 (some (N 10 s)) 5 5 = some (some (N 17 s)) := x3.1.gR h5 (by decide) (by unfold eI; omega)
    rw [if_neg (by rw [hv1]; decide), if_neg (by rw [hv1]; decide), h53, y_b, y_q P3.1]
    rcases s_itac (n := n) hf Q3 hs (Or.inl ⟨rfl, rfl⟩) (Or.inr (Or.inl ⟨s, hs, Or.inr (Or.inr (Or.inl ⟨rfl, rfl⟩))⟩)) with ⟨N', M', S', p', w1, w2, w3, w4, w5, w6⟩ | ⟨M', o', S', w1, w2, w3, w4⟩
    · exact Or.inl ⟨N', M', S', p', w1, w2, w3, by omega, w5, x3.trans w6⟩
    · exact Or.inr ⟨M', o', S', w1, w2, w3, x3.trans w4⟩
theorem s_items {op : Nat → Bool} {s fu : Nat} (hf : 400 ≤ fu) (rc : Option Nat → Option Nat → Int32 → gm_S → gR) : ∀ (d p : Nat) (N : gA) (M : gM) (S : gm_S) (n m : Nat), z - p = d → d + 1 < n → d < m → QP A N M0 z tx bc bk op M S p → s < N 9 0 → g_gR S (some (N 10 s)) 5 4 = some (some (N 16 s)) → g_gR S (some (N 10 s)) 5 5 = some (some (N 17 s)) → g_gR S (some (N 10 s)) 5 6 = some (some (N 18 s)) →
    (∃ N' M' S' p', F_X4_readItems_10 fu n (nI s) M = some (.returned none, M') ∧ F_X2_state_254 fu rc m (some (A 1 0)) (some (N 10 s)) S = some (.returned (some (va_rf (some (N 10 s)))), S') ∧ QP A N' M0 z tx bc bk op M' S' p' ∧ p < p' ∧ exI N N' ∧ xI A N (N 7 0) M S M' S') ∨
    (∃ M' o' S', F_X4_readItems_10 fu n (nI s) M = some (.returned none, M') ∧ F_X2_state_254 fu rc m (some (A 1 0)) (some (N 10 s)) S = some (o', S') ∧ PF A M0 bc bk M' o' S' ∧ xI A N (N 7 0) M S M' S') := by
  intro d
  induction d using Nat.strongRecOn with
  | _ d ih =>
    intro p N M S n m hd hn hm h hs h4 h5 h6
    obtain ⟨n, rfl⟩ : ∃ n', n = n' + 2 := ⟨n - 2, by omega⟩
    obtain ⟨m, rfl⟩ : ∃ m', m = m' + 1 := ⟨m - 1, by omega⟩
    have hP := h.1
    rw [F_X4_readItems_10, F_X2_state_254, hP.m5, if_pos rfl, y_q hP.1]
    rcases s_takes hP fu (c := 125) (by omega) (by omega) with ⟨t1, t2, t3, t4⟩ | ⟨t1, t2, t3⟩
    · have ts : tA A S (sA A S (p + 1)) := tA.s
      have fr : ∀ k i, k ≠ 4 → n_p M 4 (nI (p + 1)) k i = M k i := fun k i w => y_uk w
      rw [show F_X4_takes fu 125 M = _ from t2, y_cI, if_neg (by decide), show F_X2_takes fu (some (A 1 0)) 125 S = _ from t3, y_cI, if_neg (by decide)]
      exact Or.inl ⟨N, _, _, p + 1, rfl, rfl, h.to t4 (by omega) ts fr, by omega, exI.refl, xI.t ts fr⟩
    · rw [show F_X4_takes fu 125 M = _ from t2, y_cI, if_pos rfl, show F_X2_takes fu (some (A 1 0)) 125 S = _ from t3, y_cI, if_pos rfl, y_q hP.1]
      rcases s_item (n := n) hf h hs h4 h5 h6 with ⟨N1, M1, S1, p1, a1, a2, a3, a4, a5, a6⟩ | ⟨M1, o, S1, a1, a2, a3, a4⟩
      · have hpz := a3.1.pz
        have e10 : N1 10 s = N 10 s := a5 10 s (by omega)
        have n5 := a5 9 5 (by omega)
        have n7 := a5 7 0 (by omega)
        have n0 := a5 9 0 (by omega)
        rcases ih (z - p1) (by omega) p1 N1 M1 S1 (n + 1) m rfl (by omega) (by omega) a3 (by omega) (by rw [e10, a5 16 s (by omega)]; exact a6.1.gR h4 (by decide) (by unfold eI; omega)) (by rw [e10, a5 17 s (by omega)]; exact a6.1.gR h5 (by decide) (by unfold eI; omega)) (by rw [e10, a5 18 s (by omega)]; exact a6.1.gR h6 (by decide) (by unfold eI; omega)) with ⟨N', M', S', p', w1, w2, w3, w4, w5, w6⟩ | ⟨M', o', S', w1, w2, w3, w4⟩
        · rw [e10] at w2
          rw [n7] at w6
          rw [a2, y_cV, w2]
          exact Or.inl ⟨N', M', S', p', a1.trans w1, rfl, w3, by omega, a5.trans w5, a6.trans (w6.n n5)⟩
        · rw [e10] at w2
          rw [n7] at w4
          rw [a2, y_cV, w2]
          exact Or.inr ⟨M', o', S', a1.trans w1, rfl, w3, a6.trans (w4.n n5)⟩
      · obtain ⟨a, pp, g1, g2⟩ := a3
        rw [a2]
        exact Or.inr ⟨M1, o, S1, a1, by rw [g1]; rfl, ⟨a, pp, g1, g2⟩, a4⟩
end RDZc
