/-! LAYER 2, reading: a state begins, both sides -/
set_option maxRecDepth 100000
section RDZi
variable {A : gA} {M0 : gM} {z p bc bk : Nat} {tx : Nat → Nat}
/-- the component after its object is made -/
def cAft (fu : Nat) (rc : Option Nat → Option Nat → Int32 → gm_S → gR) (x0 : Option Nat) (x2 : Int32) (q : Option Nat) (S11 : gm_S) : gR := gz_q (g_at S11 x0 2) (gz_cI (F_X2_takes fu x0 (40 : Int32) S11) fun v12 S12 =>
  if v12 = 0 then (gz_q (g_at S12 x0 2) (gz_cI (F_X2_takes fu x0 (60 : Int32) S12) fun v13 S13 =>
  if v13 = 0 then (F_X2_state_193 fu rc fu x0 q (0 : Int32) S13)
  else (Option.bind (g_pI S13 q 5 2 (2 : Int32)) fun S14 =>
  F_X2_state_146 fu rc fu x0 x2 q S14)))
  else (Option.bind (g_pI S12 q 5 2 (1 : Int32)) fun S15 =>
  F_X2_state_96 fu rc fu x0 x2 q S15))
def QS (A N : gA) (M0 : gM) (z : Nat) (tx : Nat → Nat) (bc bk : Nat) (op ob : Nat → Bool) (M : gM) (S : gm_S) (p : Nat) : Prop := QP A N M0 z tx bc bk op M S p ∧ qS A N M S ob ∧ (∀ j, N 9 0 ≤ j → op j = false ∧ ob j = false) ∧ (∀ k, k < N 9 0 → ob k = true → N 24 k ≠ 0 → ob (N 24 k - 1) = true) ∧ ∀ i, i < N 9 0 → N 7 0 ≤ N 10 i
def exS (N N' : gA) : Prop := N 9 0 ≤ N' 9 0 ∧ (∀ k i, (k = 7 ∨ k = 8 ∨ k = 35 ∨ (k = 9 ∧ i = 5)) → N' k i = N k i) ∧ ∀ k i, (k = 10 ∨ k = 15 ∨ k = 16 ∨ k = 17 ∨ k = 18 ∨ k = 24 ∨ k = 25) → i < N 9 0 → N' k i = N k i
theorem exS.refl {N : gA} : exS N N := ⟨Nat.le_refl _, fun _ _ _ => rfl, fun _ _ _ _ => rfl⟩
theorem exS.trans {N N' N'' : gA} (h : exS N N') (h' : exS N' N'') : exS N N'' := ⟨Nat.le_trans h.1 h'.1, fun k i w => (h'.2.1 k i w).trans (h.2.1 k i w), fun k i w u => (h'.2.2 k i w (Nat.lt_of_lt_of_le u h.1)).trans (h.2.2 k i w u)⟩
theorem exI.s {N N' : gA} (h : exI N N') : exS N N' := ⟨Nat.le_of_eq (h 9 0 (by omega)).symm, fun k i w => h k i (by omega), fun k i w _ => h k i (by omega)⟩
def eS (A : gA) (B : Nat) : Nat → Nat → Prop := fun F a => ((F = 202 ∨ F = 203 ∨ F = 204 ∨ F = 206 ∨ F = 207) ∧ a = A 1 0) ∨ (F = 2 ∧ a = A 34 1) ∨ B ≤ a
def mSt (w : Nat) (M M' : gM) : Prop := ∀ k i, ¬ (k = 4 ∨ k = 5 ∨ k = 38 ∨ k = 39 ∨ (9 ≤ k ∧ k ≤ 13 ∧ i = w) ∨ (14 ≤ k ∧ k ≤ 17 ∧ 16 * w ≤ i ∧ i < 16 * w + 16) ∨ (18 ≤ k ∧ k ≤ 22 ∧ 24 * w ≤ i ∧ i < 24 * w + 24) ∨ (23 ≤ k ∧ k ≤ 32 ∧ 64 * w ≤ i ∧ i < 64 * w + 64) ∨ (33 ≤ k ∧ k ≤ 37 ∧ 48 * w ≤ i ∧ i < 48 * w + 48)) → M' k i = M k i
def xS (A : gA) (w B : Nat) (M : gM) (S : gm_S) (M' : gM) (S' : gm_S) : Prop := ag (eS A B) (fun a => B ≤ a) S S' ∧ mSt w M M'
theorem xS.trans {w B : Nat} {M M' M'' : gM} {S S' S'' : gm_S} (h : xS A w B M S M' S') (h' : xS A w B M' S' M'' S'') : xS A w B M S M'' S'' := ⟨(h.1.trans h'.1).wk (fun F a w => w.elim id id) (fun a w => w.elim id id), fun k i w => (h'.2 k i w).trans (h.2 k i w)⟩
theorem xI.s {N : gA} {B : Nat} {M M' : gM} {S S' : gm_S} (h : xI A N B M S M' S') : xS A (N 9 5) B M S M' S' := ⟨h.1.wk (fun F a w => by unfold eI at w; unfold eS; omega) (fun a w => w), fun k i w => h.2 k i (by omega)⟩
theorem xS.t {w B : Nat} {M M' : gM} {S S' : gm_S} (g : tA A S S') (hM : ∀ k i, k ≠ 4 → M' k i = M k i) : xS A w B M S M' S' := ⟨g.ag.wk (fun F a w => Or.inl ⟨Or.inl w.1, w.2⟩) (fun a w => w.elim), fun k i w => hM k i (by omega)⟩
theorem s_newst {N : gA} {M : gM} {S : gm_S} {op ob : Nat → Bool} {s l pc d fu : Nat} (hf : 400 ≤ fu) (hs : N 9 0 = s) (h : QS A N M0 z tx bc bk op ob M S p) (hl : l < 16) (hp : p < z) (hlt : tx p = 97 + l) (hfree : n_I M 17 (16 * N 9 5 + l) = -1) (hd1 : 1 ≤ d) (hd2 : d ≤ 6) (hpc : pc ≤ s) (hd : pc ≠ 0 → d = N 25 (pc - 1) + 1) (hpo : pc ≠ 0 → ob (pc - 1) = true) (rc : Option Nat → Option Nat → Int32 → gm_S → gR) :
    ∃ N1 M1 S1, F_X4_readState_46 fu (pcv pc) 1 M = some (.returned (some (.int (nI s))), M1) ∧ F_X2_state_38 fu rc (some (A 1 0)) (if pc = 0 then none else some (N 10 (pc - 1))) (nI d) 1 (some (A 1 0)) S = cAft fu rc (some (A 1 0)) (nI d) (some (N1 10 s)) S1 ∧ QS A N1 M0 z tx (bc - 2) (bk - 200) (fun j => if j = s then true else op j) (fun j => if j = s then true else ob j) M1 S1 (p + 1) ∧ N1 9 0 = s + 1 ∧ N1 24 s = pc ∧ N1 25 s = d ∧ c_kind N1 M1 s = 0 ∧ c_bel N1 M1 s = 0 ∧ (∀ i, i < s → c_kind N1 M1 i = c_kind N M i) ∧ exS N N1 ∧ xS A (N 9 5) (N 7 0) M S M1 S1 := by
  obtain ⟨⟨hP, hi, hb, hQ, h3, h4⟩, hS, hj, ho, hg⟩ := h
  obtain ⟨qa, qn, qt, qr, ql, qo, n16⟩ := id hQ
  obtain ⟨q1, q2, ⟨l1, l2, l3, l4, l5⟩, q4, q5⟩ := id hS
  have w8 := qn.1
  have ww := qn.2.1
  have hpz := hP.pz
  rw [hs] at ho q2 q4 l5
  have hs16 : s < 16 := by
    have := frc_pos (f := fun j => decide (n_I M 17 (16 * N 9 5 + j) = -1)) (j0 := l) (by simp [hfree]) 16 hl
    omega
  have hN : ∀ i, i < s → N 24 i ≤ i := fun i u => (q4 i u).1.2.1
  obtain ⟨M1, m1, m9, m17, m14, m15, mb, mf, m4⟩ := m_state hP w8 ww hs16 q2 hp hlt hl hN (fun i u => (q4 i u).1.1) hpc (fu := fu) (by omega)
  obtain ⟨b1, b2, b3, b4⟩ := hb
  -- the component
  obtain ⟨st, hst⟩ : ∃ st, st = gs_n S := ⟨_, rfl⟩
  have gm := ag.mk (S := S) (t := 5) (w := 10) hi.2.2.2
  have tst : gs_t (g_mk S 5 10) st = 5 := by rw [hst]; exact y_mkn
  obtain ⟨S5, c1, c2, c3, c4, c5, c6, c7, c8, c9, c10, c11, c12, c13, c14, c15, c16⟩ := x_state hi.mk tst (nI s) (if pc = 0 then none else some (N 10 (pc - 1))) (by show gs_c S + 1 + 4 < _; omega) (by show gs_k S + 10 + 12 ≤ _; omega) fu
  have nmk : gs_n (g_mk S 5 10) = gs_n S + 1 := rfl
  rw [nmk] at c4 c5 c6 c7 c9 c10 c13
  have c14' : gs_c S5 = gs_c S + 5 := by rw [c14]; show gs_c S + 1 + 4 = _; omega
  have c15' : gs_k S5 = gs_k S + 22 := by rw [c15]; show gs_k S + 10 + 12 = _; omega
  obtain ⟨r, hr⟩ : ∃ r, r = gs_n S + 1 := ⟨_, rfl⟩
  rw [← hr] at c4 c5 c6 c7 c9 c10 c13
  have r8 : rl N (N 8 0) 1 := Or.inl ⟨rfl, rfl⟩
  obtain ⟨u81, u82⟩ := ql.1 _ _ r8
  have a8 := hi.2.2.2 (N 8 0) (by rw [u82.1]; decide)
  have a1 := hi.2.2.2 (A 1 0) (by rw [hP.1]; decide)
  have a34 := hi.2.2.2 (A 34 1) (by rw [l2]; decide)
  have a340 := hi.2.2.2 (A 34 0) (by rw [hP.2.2.1]; decide)
  have g5 : ag (fun F a => 500 ≤ F ∧ F ≤ 506 ∧ a = st) (fun _ => False) S S5 := (gm.trans c11).wk (fun F a w => w.elim (fun w => w.elim) (fun w => ⟨w.1, w.2.1, w.2.2.2⟩)) (fun a w => w.elim id id)
  have t85 : gs_t S5 (N 8 0) = 16 := (g5.2.2 _ (by rw [u82.1]; decide)).trans u82.1
  have l85 : S5.2.1 (N 8 0) = S.2.1 (N 8 0) := (c10 _ (by omega)).trans rfl
  have len8 : (S.2.1 (N 8 0)).length = s := by rw [u82.2.2, cont_1, List.length_map, List.length_range, hs]
  obtain ⟨S7, d1, d2, d3, d4, d5, d6, d7⟩ := c_ladd c12 t85 (x := st) (by rw [c16]; decide) (by rw [l85, len8]; omega) (by omega) (by omega)
  have g7 : ag (fun F a => (500 ≤ F ∧ F ≤ 506 ∧ a = st) ∨ ((F = 3 ∨ F = 4) ∧ a = N 8 0)) (fun a => a = N 8 0) S S7 := (g5.trans d2).wk (fun F a w => w) (fun a w => w.elim (fun w => w.elim) id)
  have P7 : PA A M S7 z tx p := hP.mono g7 ⟨by omega, by omega, by omega, by omega, by omega⟩ (fun _ _ _ => rfl)
  obtain ⟨-, x2, x3⟩ := s_next P7 fu hp
  obtain ⟨S9, hS9⟩ : ∃ S9, S9 = sA A S7 (p + 1) := ⟨_, rfl⟩
  rw [← hS9] at x2 x3
  have ts : tA A S7 S9 := by rw [hS9]; exact tA.s
  have i9 := ts.inv d4 P7.1
  have g9 : ag (fun F a => (500 ≤ F ∧ F ≤ 506 ∧ a = st) ∨ ((F = 3 ∨ F = 4) ∧ a = N 8 0) ∨ (F = 202 ∧ a = A 1 0)) (fun a => a = N 8 0) S S9 := (g7.trans ts.ag).wk (fun F a w => by unfold eA at w; omega) (fun a w => w.elim id (fun w => w.elim))
  have t349 : gs_t S9 (A 34 1) = 100 := (g9.2.2 _ (by rw [l2]; decide)).trans l2
  have n349 : gm_N (S9.1 1 (A 34 1) 0) = 16 := by rw [g9.1 _ _ _ (by rw [l2]; decide) (by omega)]; exact l3
  have e97 : nI (tx p) - 97 = nI l := by
    have := pk_sub (a := tx p) (b := 97) (by omega)
    rw [show tx p - 97 = l by omega] at this
    exact this
  obtain ⟨S11, hS11⟩ : ∃ S11, S11 = gs_put S9 2 (A 34 1) l (.int (nI s)) := ⟨_, rfl⟩
  have esI : g_sI S9 (some (A 34 1)) 0 (nI l) (nI s) = some S11 := by
    rw [hS11]
    exact y_as (t := 0) t349 n349 hl (by omega)
  have gp : ag (fun F a => F = 2 ∧ a = A 34 1) (fun _ => False) S9 S11 := by rw [hS11]; exact ag.put (by decide)
  have g11 : ag (fun F a => (500 ≤ F ∧ F ≤ 506 ∧ a = st) ∨ ((F = 3 ∨ F = 4) ∧ a = N 8 0) ∨ (F = 202 ∧ a = A 1 0) ∨ (F = 2 ∧ a = A 34 1)) (fun a => a = N 8 0) S S11 := (g9.trans gp).wk (fun F a w => by omega) (fun a w => w.elim id (fun w => w.elim))
  have ne34 : A 34 1 ≠ A 34 0 := fun w => by rw [w, hP.2.2.1] at l2; cases l2
  have P11 : PA A M1 S11 z tx (p + 1) := (x3.cm (M' := M1) (fun k i w => (mf k i (by omega)).trans (y_uk (by omega)).symm) m4).mono gp ⟨by omega, by omega, by omega, by omega, by omega⟩ (fun _ _ _ => rfl)
  have i11 : g_inv M0 S11 := by rw [hS11]; exact i9.put (by decide) (by rw [t349]; decide)
  have gst : ag (fun F a => ((F = 3 ∨ F = 4) ∧ a = N 8 0) ∨ (F = 202 ∧ a = A 1 0) ∨ (F = 2 ∧ a = A 34 1)) (fun a => a = N 8 0) S5 S11 := ((d2.trans ts.ag).trans gp).wk (fun F a w => by unfold eA at w; omega) (fun a w => by rcases w with (w | w) | w; exact w; exact w.elim; exact w.elim)
  have tst11 : gs_t S11 st = 5 := (gst.2.2 _ (by rw [c16]; decide)).trans c16
  have nul : ∀ F, F = 502 ∨ F = 507 ∨ F = 508 ∨ F = 509 → S11.1 F st 0 = .null := fun F w => by
    rw [gst.1 F st 0 (by rw [c16]; decide) (by omega), c8 F w, hst]
    exact gm_fresh_n (by omega)
  have lst : ∀ b, b ≠ N 8 0 → S11.2.1 b = S5.2.1 b := fun b w => by rw [hS11]; show S9.2.1 b = _; rw [ts.2]; exact d7 b w
  have l811 : S11.2.1 (N 8 0) = S.2.1 (N 8 0) ++ [st] := by rw [hS11]; show S9.2.1 _ = _; rw [ts.2, d3, l85]
  have z0 : gs_t S st = 0 := fresh0 hi (by omega)
  have nst : ∀ b, gs_t S b ≠ 0 → b ≠ st := fun b w q => w (by rw [q]; exact z0)
  have Q1 := QI_st (op1 := fun j => if j = s then true else op j) (st := st) (r := r) (pc := pc) (d := d) (M' := M1) hi hs hs16 hQ hN hpc g11 (fun F b u1 u2 => by have := nst b u1; omega) (fun b _ u => u) (fun k i w => mf k i (by omega)) (by omega) (fun j hj' => ⟨(gst.2.2 _ (by rw [(c9 j hj').1]; decide)).trans (c9 j hj').1, (lst _ (by omega)).trans (c9 j hj').2⟩) l811 (by simp) (fun j w => by simp [w])
  obtain ⟨Q2, Q3, Q4, Q5, Q6, Q7⟩ := qS_st (ob1 := fun j => if j = s then true else ob j) (st := st) (r := r) (pc := pc) (d := d) (M' := M1) (fu := fu) hi (by omega) hs hs16 ww hS hpc hd1 hd2 hd ho hpo hl hfree m9 m17 m14 m15 mb mf g11 (fun F b u1 u2 => by have := nst b u1; omega)
    (by rw [hS11, y_pE]; rfl) (fun j w => by rw [hS11, y_pM (by omega), g9.1 _ _ _ (by rw [l2]; decide) (by omega)])
    (gst.gI c2 (by decide) (by omega)) (gst.gR c3 (by decide) (by omega)) (by rw [y_gI tst11]; exact congrArg (fun v => some (gm_I v)) (nul 502 (by omega))) (gst.gR c4 (by decide) (by omega)) (gst.gR c5 (by decide) (by omega)) (gst.gR c6 (by decide) (by omega)) (gst.gR c7 (by decide) (by omega)) (by rw [y_gI tst11]; exact congrArg (fun v => some (gm_I v)) (nul 507 (by omega))) (by rw [y_gI tst11]; exact congrArg (fun v => some (gm_I v)) (nul 508 (by omega))) (by rw [y_gI tst11]; exact congrArg (fun v => some (gm_I v)) (nul 509 (by omega))) (by simp) (fun j w => by simp [w])
  have hB := hQ.B hi
  have u8B := u82.2.1
  have cS : gs_c S11 ≤ gs_c S + 6 := by rw [hS11]; show gs_c S9 ≤ _; rw [show gs_c S9 = gs_c S7 from by show S9.2.2.2.1 = _; rw [ts.2]]; omega
  have kS : gs_k S11 ≤ gs_k S + 172 := by rw [hS11]; show gs_k S9 ≤ _; rw [show gs_k S9 = gs_k S7 from by show S9.2.2.2.2 = _; rw [ts.2]]; omega
  refine ⟨aSta N s st r pc d, M1, S11, m1, ?_, ⟨⟨P11, i11, ⟨by omega, by omega, by omega, by omega⟩, Q1, ?_, ?_⟩, Q2, fun j u => ?_, Q5, fun i u => ?_⟩, rfl, by simp [aSta], by simp [aSta], Q4, Q7, Q3, ⟨?_, fun k i w => aSta_o (by omega) (by omega) (by omega), fun k i w u => aSta_o (by omega) (by omega) (by omega)⟩, ⟨g11.fr (fun F a u1 u2 => ?_) (fun a _ u => by rw [u]; exact u8B), fun k i w => mf k i (by omega)⟩⟩
  · unfold F_X2_state_38
    rw [show aSta N s st r pc d 10 s = st by simp [aSta], y_q hP.1, c_want1, y_cV, y_new (by omega) (by omega), y_b]
    dsimp only
    rw [gm.gR q1 (by decide) (fun w => w), y_b, y_lsz ((gm.2.2 _ (by rw [u82.1]; decide)).trans u82.1), y_b]
    show gz_q (g_at (g_mk S 5 10) (some (gs_n S)) 5) (gz_cV (F_X5_init fu (some (gs_n S)) (nI (S.2.1 (N 8 0)).length) _ (g_mk S 5 10)) _) = _
    rw [len8, ← hst, y_q tst, c1, y_cV, g5.gR q1 (by decide) (by omega), y_b, d1, y_b, g7.gR l1 (by decide) (by omega), y_b, y_q P7.1, x2, y_cI, ts.ag.gI (d2.gI c2 (by decide) (by omega)) (by decide) (by unfold eA; omega), y_b, e97, esI, y_b]
    rfl
  · rw [aSta_o (by omega) (by omega) (by omega)]; omega
  · rw [aSta_o (by omega) (by omega) (by omega)]; omega
  · rw [show aSta N s st r pc d 9 0 = s + 1 from rfl] at u
    have := hj j (by omega)
    dsimp only
    rw [if_neg (by omega), if_neg (by omega)]
    exact this
  · rw [show aSta N s st r pc d 9 0 = s + 1 from rfl] at u
    rw [show aSta N s st r pc d 7 0 = N 7 0 from aSta_o (by omega) (by omega) (by omega)]
    by_cases ei : i = s
    · rw [ei, show aSta N s st r pc d 10 s = st by simp [aSta]]; omega
    · rw [aSta_o (by omega) (by omega) (by omega)]; exact hg i (by omega)
  · rw [show aSta N s st r pc d 9 0 = s + 1 from rfl]; omega
  · have := nst a u1
    unfold eS; omega
end RDZi
