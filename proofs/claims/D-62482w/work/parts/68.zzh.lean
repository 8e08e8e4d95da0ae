/-! LAYER 2: the law answers 1 (printed by wip/gen/gen7.py) -/
set_option maxRecDepth 100000
section LAW
variable {A : gA} {M0 : gM}
theorem w_t (S : gm_S) (M : gM) (a : Nat) : gs_t (gm_w S M) a = gs_t S a := by
  unfold gs_t
  rw [show (gm_w S M).1 0 a 0 = S.1 0 a 0 from if_neg (fun z => by omega)]
theorem w_k (S : gm_S) (M : gM) {F a i : Nat} (h : F < 400) : (gm_w S M).1 F a i = S.1 F a i := if_neg (fun z => by omega)
/-- the model's memory is put in place -/
theorem RL.mw {M : gM} {S : gm_S} (h : RL A M0 M S) : RL A M M (gm_w S M) := by
  obtain ⟨c1, c2, b⟩ := h.b
  obtain ⟨b1, b2, b3, b4, b5, b6, b7, b8, b9⟩ := b
  have g : ag (fun _ _ => False) (fun _ => False) S (gm_w S M) := ⟨fun F a i ha _ => if_neg (fun z => ha (by rw [z.1]; exact b1.2.1)), fun _ _ _ => rfl, fun a _ => w_t S M a⟩
  have hi : g_inv M (gm_w S M) := ⟨gm_g_w S M, (w_t S M 0).trans b1.2.1, b1.2.2.1, fun a ha => b1.2.2.2 a (by rw [← w_t S M a]; exact ha)⟩
  have cap : ∀ b, g_cap (gm_w S M) b = g_cap S b := fun b => by unfold g_cap; rw [w_k S M (by decide)]
  have pb : ∀ d1 d2, rDb A S d1 d2 → rDb A (gm_w S M) d1 d2 := fun d1 d2 z => z.same rfl rfl rfl cap
  have pr : rR A M (gm_w S M) := b9.mono g ⟨fun _ _ _ z => z, fun _ _ _ z => z, fun _ z => z, fun z => z, fun z => z⟩ (fun _ _ _ => rfl)
  obtain ⟨c1, c2, ⟨C, h⟩ | h⟩ := h
  · exact ⟨c1, c2, Or.inl ⟨C, hi, h.W, h.H.kp (ag_kp2 g (fun F a z => z.elim) (fun _ z => z.elim)), h.mc, h.a.mono g (by simp) (fun _ _ _ => rfl), h.v.mono g (by simp) (fun _ => rfl), h.q.mono g (by simp) (fun _ _ _ => rfl), h.s.mono g (by simp) (by simp) (fun _ _ _ => rfl), h.t.mono g (by simp) (fun _ _ _ => rfl), h.c.mono g (by simp), h.h.mono g (by simp) (fun _ _ _ => rfl), pb _ _ h.b, pr⟩⟩
  · obtain ⟨⟨e1, e2, e3, e4, e5, e6, e7, e8, e9⟩, m1, m2, m3, m4⟩ := h
    exact ⟨c1, c2, Or.inr ⟨⟨hi, e2.mono g (by simp) (fun _ _ _ => rfl), e3.mono g (by simp) (fun _ => rfl), e4.mono g (by simp) (fun _ _ _ => rfl), e5.mono g (by simp) (by simp) (fun _ _ _ => rfl), e6.mono g (by simp) (fun _ _ _ => rfl), e7.mono g (by simp), pb _ _ e8, pr⟩, (g.2.2 (A 8 0) (by rw [m1]; decide)).trans m1, m2, m3, m4⟩⟩
theorem RO.mw {M : gM} {S : gm_S} {out : Nat} (h : RO A M0 M S out) : RO A M M (gm_w S M) out := ⟨h.1.mw, (w_t S M out).trans h.2.1, by rw [w_k S M (by decide)]; exact h.2.2⟩
theorem RO.g0 {M : gM} {S : gm_S} {out : Nat} (h : RO A M0 M S out) : gm_g S = M0 := by
  obtain ⟨c1, c2, b⟩ := h.1.b
  exact b.1.1
/-- between two calls -/
def RF (A : gA) (S : gm_S) (out : Nat) : Prop := RO A (gm_g S) (gm_g S) S out
theorem RO.rf {M : gM} {S : gm_S} {out : Nat} (h : RO A M0 M S out) : RF A (gm_w S M) out := by
  unfold RF
  rw [gm_g_w]
  exact h.mw
theorem RF.bud {S : gm_S} {out a0 a1 b0 b1 : Nat} (h : RF (aB A a0 a1) S out) (h0 : a0 ≤ b0) (h1 : a1 ≤ b1) (h2 : b0 ≤ 600000) (h3 : b1 ≤ 7301000) : RF (aB A b0 b1) S out := ⟨h.1.bud h0 h1 h2 h3, h.2⟩
theorem lg_self (x : Int64) : lg_cmp x x = 0 := by
  unfold lg_cmp
  rw [if_neg (show ¬ x > x from Int64.lt_irrefl), if_pos rfl]
theorem d_self {v : UInt64} (h : d_ok v) : Op.cmpValue (FP.dcmp v v) .l = 0 := by
  obtain ⟨s, c, q, e⟩ := h
  have : FP.dcmp v v = some .eq := by
    show FP.Core.order (FP.Core.decode FP.Core.b64 v.toNat) (FP.Core.decode FP.Core.b64 v.toNat) = _
    rw [e]
    show some (compareOfLessAndEq _ _) = some .eq
    unfold compareOfLessAndEq
    rw [if_neg (Int.lt_irrefl _), if_pos rfl]
  rw [this]
  rfl
/-- a call without a row -/
theorem w_rd {S : gm_S} {out : Nat} (h : RF A S out) {F1 : gm_S → gR} {F4 : gM → gQ} {v : Int32} {M' : gM} {S1 : gm_S} (e4 : F4 (gm_g S) = some (.returned (some (.int v)), M')) (e1 : F1 S = some (.returned (some (.int v)), S1)) (h1 : RO A (gm_g S) M' S1 out) (K bad : gm_S → gR) : ∃ S', (gz_q (g_at S (some (A 0 0)) 1) (gz_cI (F1 S) fun v4 S4 => gz_cI (gz_x S4 (F4 (gm_g S4))) fun v6 S6 => if v4 = v6 then K S6 else bad S6)) = K S' ∧ RF A S' out := by
  refine ⟨gm_w S1 M', ?_, h1.rf⟩
  rw [y_q h.1.nt, e1, y_cI, h1.g0, e4]
  show (if v = v then K (gm_w S1 M') else bad (gm_w S1 M')) = _
  rw [if_pos rfl]
theorem w_rdD {S : gm_S} {out : Nat} (h : RF A S out) {F1 : gm_S → gR} {F4 : gM → gQ} {v : UInt64} {M' : gM} {S1 : gm_S} (e4 : F4 (gm_g S) = some (.returned (some (.double v)), M')) (e1 : F1 S = some (.returned (some (.double v)), S1)) (h1 : RO A (gm_g S) M' S1 out) (hv : d_ok v) (K bad : gm_S → gR) : ∃ S', (gz_q (g_at S (some (A 0 0)) 1) (gz_cD (F1 S) fun v4 S4 => gz_cD (gz_x S4 (F4 (gm_g S4))) fun v6 S6 => if (Op.cmpValue (FP.dcmp v4 v6) .l) = 0 then K S6 else (if (Op.cmpValue (FP.dcmp v4 v4) .l) = 0 then bad S6 else (if (Op.cmpValue (FP.dcmp v6 v6) .l) = 0 then bad S6 else K S6)))) = K S' ∧ RF A S' out := by
  refine ⟨gm_w S1 M', ?_, h1.rf⟩
  rw [y_q h.1.nt, e1, y_cD, h1.g0, e4]
  show (if (Op.cmpValue (FP.dcmp v v) .l) = 0 then K (gm_w S1 M') else _) = _
  rw [if_pos (d_self hv)]
/-- a call with the law's row -/
theorem w_out {fu : Nat} {b0 b1 out : Nat} {F4 : gM → gQ} {v k : Int32} {M' : gM} {S1 : gm_S} (e4 : F4 M0 = some (.returned (some (.int v)), M')) (h : rXo A M0 b0 b1 out v M' k S1) (K bad : gm_S → gR) : ∃ S', (gz_cI (gz_x S1 (F4 (gm_g S1))) fun v8 S8 => gz_cI (gz_x S8 (F_X4_thrown fu (gm_g S8))) fun v9 S9 => if v9 = k then (if k = 0 then (Option.bind (g_aJ S9 (some out) 4 (0 : Int32)) fun v10 => if (lg_cmp v10 (v8).toInt64) = 0 then K S9 else bad S9) else K S9) else bad S9) = K S' ∧ RF (aB A b0 b1) S' out := by
  obtain ⟨h1, hk, hv⟩ := h
  refine ⟨gm_w S1 M', ?_, h1.rf⟩
  have e9 : gz_x (gm_w S1 M') (F_X4_thrown fu (gm_g (gm_w S1 M'))) = some (.returned (some (.int k)), gm_w S1 M') := by
    unfold F_X4_thrown gz_x
    rw [gm_g_w, hk]
    show some (_, gm_w (gm_w S1 M') M') = _
    rw [gm_w_w]
  rw [h1.g0, e4]
  show (gz_cI (gz_x (gm_w S1 M') (F_X4_thrown fu (gm_g (gm_w S1 M')))) fun v9 S9 => if v9 = k then (if k = 0 then (Option.bind (g_aJ S9 (some out) 4 (0 : Int32)) fun v10 => if (lg_cmp v10 v.toInt64) = 0 then K S9 else bad S9) else K S9) else bad S9) = _
  rw [e9, y_cI, if_pos rfl]
  by_cases k0 : k = 0
  · have ea : g_aJ (gm_w S1 M') (some out) 4 (0 : Int32) = some v.toInt64 := by
      unfold g_aJ g_el
      rw [show g_at (gm_w S1 M') (some out) (100 + 4) = some out from if_pos ((w_t S1 M' out).trans h1.2.1), y_b, if_pos (by rw [w_k S1 M' (by decide), h1.2.2]; decide), w_k S1 M' (by decide), show ((0 : Int32).toNatClampNeg) = 0 by decide, hv k0]
      rfl
    rw [if_pos k0, ea, y_b, if_pos (lg_self _)]
  · rw [if_neg k0]
theorem L_ro {M : gM} {S : gm_S} {out : Nat} {v : Int32} (h : RO A M0 M S out) (h1 : RL A M0 (n_p M 0 v) S) : RO A M0 (n_p M 0 v) S out := ⟨h1, h.2⟩
theorem i_end {xn i : Nat} (hx : xn ≤ 144) (hi : i ≤ 200) : (nI xn - (3 : Int32)) < nI i ↔ xn < i + 3 := by
  rw [Int32.lt_iff_toInt_lt, show (3 : Int32) = nI 3 from rfl, pk_sub_toInt (by omega) (by omega), nI_toInt (by omega)]
  omega
theorem i_scr {xs : Nat → Int32} {xn i : Nat} (hx : xn ≤ 144) (h : i < xn) : g_scr xs xn (nI i) = some (xs i) := by
  unfold g_scr
  have hc : (nI i).toNatClampNeg = i := nI_clamp (by omega)
  rw [if_pos (by unfold g_ix; rw [hc, decide_eq_true (nI_pos' (by omega)), decide_eq_true h]; rfl), hc]
end LAW
section LAWL
theorem law_go {fu : Nat} (hf : 7000000000 ≤ fu) {xs : Nat → Int32} {xn : Nat} (hx : xn ≤ 144) {x1 out : Nat} : ∀ (r n i : Nat) (A : gA) (b0 b1 : Nat) (S : gm_S), xn < i + 3 * r + 3 → i ≤ 147 → r + 1 ≤ n → A 0 0 = x1 → b0 + 1300 * r ≤ 599900 → b1 + 64200 * r ≤ 7300000 → RF (aB A b0 b1) S out → ∃ S', F_L_law_23 fu xs xn n (some x1) (some out) (nI i) S = some (.returned (some (.int 1)), S') := by
  intro r
  induction r with
  | zero =>
    intro n i A b0 b1 S hi hi2 hn hA hb hb' h
    obtain ⟨n, rfl⟩ : ∃ k, n = k + 1 := ⟨n - 1, by omega⟩
    rw [F_L_law_23, if_pos ((i_end hx (by omega)).mpr (by omega)), if_pos (by decide)]
    exact ⟨S, rfl⟩
  | succ r ih =>
    intro n i A b0 b1 S hi hi2 hn hA hb hb' h
    obtain ⟨n, rfl⟩ : ∃ k, n = k + 1 := ⟨n - 1, by omega⟩
    by_cases hend : xn < i + 3
    · rw [F_L_law_23, if_pos ((i_end hx (by omega)).mpr hend), if_pos (by decide)]
      exact ⟨S, rfl⟩
    have s0 := i_scr (xs := xs) hx (show i < xn by omega)
    have s1 : g_scr xs xn (nI i + 1) = some (xs (i + 1)) := by rw [nI_1]; exact i_scr hx (by omega)
    have s2 : g_scr xs xn (nI i + 2) = some (xs (i + 2)) := by rw [show nI i + 2 = nI (i + 2) from nI_add i 2]; exact i_scr hx (by omega)
    have e3 : nI i + 3 = nI (i + 3) := nI_add i 3
    obtain ⟨j, hj, ej⟩ := pk_andE (xs i) (m := 15) 4 (by decide)
    have hA2 : (some x1 : Option Nat) = some ((aB A b0 b1) 0 0) := congrArg some hA.symm
    have go : ∀ (A' : gA) (c0 c1 : Nat) (S' : gm_S), A' 0 0 = x1 → c0 ≤ b0 + 1300 → c1 ≤ b1 + 64200 → RF (aB A' c0 c1) S' out → ∃ S'', F_L_law_23 fu xs xn n (some x1) (some out) (nI i + 3) S' = some (.returned (some (.int 1)), S'') := fun A' c0 c1 S' hA' h0 h1 h' => by
      rw [e3]
      exact ih n (i + 3) A' (b0 + 1300) (b1 + 64200) S' (by omega) (by omega) (by omega) hA' (by omega) (by omega) (h'.bud h0 h1 (by omega) (Nat.le_trans (Nat.le_trans (Nat.add_le_add_left (Nat.le_mul_of_pos_right 64200 (Nat.succ_pos r)) b1) hb') (by decide)))
    rw [F_L_law_23, if_neg (fun z => hend ((i_end hx (by omega)).mp z)), s0, y_b, ej]
    have hjI : (nI j).toInt = (j : Int) := nI_toInt (by omega)
    by_cases hd : 12 ≤ j
    · rw [if_pos (Or.inr (by rw [hjI]; omega))]
      exact go A b0 b1 S hA (by omega) (by omega) h
    rw [if_neg (by rw [hjI]; omega)]
    have hj12 : j = 0 ∨ j = 1 ∨ j = 2 ∨ j = 3 ∨ j = 4 ∨ j = 5 ∨ j = 6 ∨ j = 7 ∨ j = 8 ∨ j = 9 ∨ j = 10 ∨ j = 11 := by omega
    clear hjI hd ej hj
    rcases hj12 with rfl | rfl | rfl | rfl | rfl | rfl | rfl | rfl | rfl | rfl | rfl | rfl
    · rw [if_pos (show nI 0 = (0 : Int32) by decide)]
      rw [s1, y_b]
      obtain ⟨v, M', S1, -, e4, e1, h1⟩ := L0_type h fu ((xs (i + 1)).toUInt32 % 65536).toInt32
      obtain ⟨S', w1, w2⟩ := w_rd (F1 := F_X1_type fu (some ((aB A b0 b1) 0 0)) ((xs (i + 1)).toUInt32 % 65536).toInt32) (F4 := F_X4_type fu ((xs (i + 1)).toUInt32 % 65536).toInt32) h e4 e1 h1 (fun S => F_L_law_23 fu xs xn n (some x1) (some out) (nI i + 3) S) (fun S => if g_okZ (0 : Int32) = true then some (.returned (some (.int (0 : Int32))), S) else none)
      obtain ⟨S'', e⟩ := go A b0 b1 S' hA (by omega) (by omega) w2
      rw [hA2] at e ⊢
      rw [hA2] at w1
      exact ⟨S'', w1.trans e⟩
    · rw [if_neg (show ¬ nI 1 = (0 : Int32) by decide), if_pos (show nI 1 = (1 : Int32) by decide)]
      obtain ⟨A', v, M', k, S1, e4, e1, ea, h1⟩ := L0_build (fu := fu) (by omega) (by omega) (Nat.le_trans (Nat.add_le_add_left (Nat.le_mul_of_pos_right 64200 (Nat.succ_pos r)) b1) hb') h
      rw [← hA] at go ⊢
      rw [e1, y_cI]
      obtain ⟨S', w1, w2⟩ := w_out (fu := fu) (F4 := F_X4_build fu) e4 h1 (fun S => F_L_law_23 fu xs xn n (some (A 0 0)) (some out) (nI i + 3) S) (fun S => if g_okZ (0 : Int32) = true then some (.returned (some (.int (0 : Int32))), S) else none)
      obtain ⟨S'', e⟩ := go A' (b0 + 1300) (b1 + 64200) S' ea (by omega) (Nat.le_refl _) w2
      exact ⟨S'', w1.trans e⟩
    · rw [if_neg (show ¬ nI 2 = (0 : Int32) by decide), if_neg (show ¬ nI 2 = (1 : Int32) by decide), if_pos (show nI 2 = (2 : Int32) by decide)]
      obtain ⟨v, e4, e1, hl⟩ := L_place h.1 fu
      have h1 := L_ro h hl
      obtain ⟨S', w1, w2⟩ := w_rd (F1 := F_X1_place fu (some ((aB A b0 b1) 0 0))) (F4 := F_X4_place fu) h e4 e1 h1 (fun S => F_L_law_23 fu xs xn n (some x1) (some out) (nI i + 3) S) (fun S => if g_okZ (0 : Int32) = true then some (.returned (some (.int (0 : Int32))), S) else none)
      obtain ⟨S'', e⟩ := go A b0 b1 S' hA (by omega) (by omega) w2
      rw [hA2] at e ⊢
      rw [hA2] at w1
      exact ⟨S'', w1.trans e⟩
    · rw [if_neg (show ¬ nI 3 = (0 : Int32) by decide), if_neg (show ¬ nI 3 = (1 : Int32) by decide), if_neg (show ¬ nI 3 = (2 : Int32) by decide), if_pos (show nI 3 = (3 : Int32) by decide)]
      obtain ⟨v, M', k, S1, e4, e1, h1⟩ := L0_start hf (by omega) (by omega) h
      rw [← hA] at go ⊢
      rw [e1, y_cI]
      obtain ⟨S', w1, w2⟩ := w_out (fu := fu) (F4 := F_X4_start fu) e4 h1 (fun S => F_L_law_23 fu xs xn n (some (A 0 0)) (some out) (nI i + 3) S) (fun S => if g_okZ (0 : Int32) = true then some (.returned (some (.int (0 : Int32))), S) else none)
      obtain ⟨S'', e⟩ := go A (b0 + 9) (b1 + 22) S' rfl (by omega) (by omega) w2
      exact ⟨S'', w1.trans e⟩
    · rw [if_neg (show ¬ nI 4 = (0 : Int32) by decide), if_neg (show ¬ nI 4 = (1 : Int32) by decide), if_neg (show ¬ nI 4 = (2 : Int32) by decide), if_neg (show ¬ nI 4 = (3 : Int32) by decide), if_pos (show nI 4 = (4 : Int32) by decide)]
      rw [s1, y_b]
      obtain ⟨v, M', k, S1, e4, e1, h1⟩ := L0_event hf (by omega) (by omega) h ((xs (i + 1)).toUInt32 % 65536).toInt32
      rw [← hA] at go ⊢
      rw [e1, y_cI]
      rw [y_b]
      obtain ⟨S', w1, w2⟩ := w_out (fu := fu) (F4 := F_X4_event fu ((xs (i + 1)).toUInt32 % 65536).toInt32) e4 h1 (fun S => F_L_law_23 fu xs xn n (some (A 0 0)) (some out) (nI i + 3) S) (fun S => if g_okZ (0 : Int32) = true then some (.returned (some (.int (0 : Int32))), S) else none)
      obtain ⟨S'', e⟩ := go A (b0 + 1) (b1 + 6) S' rfl (by omega) (by omega) w2
      exact ⟨S'', w1.trans e⟩
    · rw [if_neg (show ¬ nI 5 = (0 : Int32) by decide), if_neg (show ¬ nI 5 = (1 : Int32) by decide), if_neg (show ¬ nI 5 = (2 : Int32) by decide), if_neg (show ¬ nI 5 = (3 : Int32) by decide), if_neg (show ¬ nI 5 = (4 : Int32) by decide), if_pos (show nI 5 = (5 : Int32) by decide)]
      rw [s1, y_b]
      obtain ⟨v, M', k, S1, e4, e1, h1⟩ := L0_tick hf (by omega) (by omega) h (xs (i + 1))
      rw [← hA] at go ⊢
      rw [e1, y_cI]
      rw [y_b]
      obtain ⟨S', w1, w2⟩ := w_out (fu := fu) (F4 := F_X4_tick fu (xs (i + 1))) e4 h1 (fun S => F_L_law_23 fu xs xn n (some (A 0 0)) (some out) (nI i + 3) S) (fun S => if g_okZ (0 : Int32) = true then some (.returned (some (.int (0 : Int32))), S) else none)
      obtain ⟨S'', e⟩ := go A (b0 + 161) (b1 + 326) S' rfl (by omega) (by omega) w2
      exact ⟨S'', w1.trans e⟩
    · rw [if_neg (show ¬ nI 6 = (0 : Int32) by decide), if_neg (show ¬ nI 6 = (1 : Int32) by decide), if_neg (show ¬ nI 6 = (2 : Int32) by decide), if_neg (show ¬ nI 6 = (3 : Int32) by decide), if_neg (show ¬ nI 6 = (4 : Int32) by decide), if_neg (show ¬ nI 6 = (5 : Int32) by decide), if_pos (show nI 6 = (6 : Int32) by decide)]
      obtain ⟨v, -, e4, e1, hl⟩ := L_runs h.1 fu
      have h1 := L_ro h hl
      obtain ⟨S', w1, w2⟩ := w_rd (F1 := F_X1_runs fu (some ((aB A b0 b1) 0 0))) (F4 := F_X4_runs fu) h e4 e1 h1 (fun S => F_L_law_23 fu xs xn n (some x1) (some out) (nI i + 3) S) (fun S => if g_okZ (0 : Int32) = true then some (.returned (some (.int (0 : Int32))), S) else none)
      obtain ⟨S'', e⟩ := go A b0 b1 S' hA (by omega) (by omega) w2
      rw [hA2] at e ⊢
      rw [hA2] at w1
      exact ⟨S'', w1.trans e⟩
    · rw [if_neg (show ¬ nI 7 = (0 : Int32) by decide), if_neg (show ¬ nI 7 = (1 : Int32) by decide), if_neg (show ¬ nI 7 = (2 : Int32) by decide), if_neg (show ¬ nI 7 = (3 : Int32) by decide), if_neg (show ¬ nI 7 = (4 : Int32) by decide), if_neg (show ¬ nI 7 = (5 : Int32) by decide), if_neg (show ¬ nI 7 = (6 : Int32) by decide), if_pos (show nI 7 = (7 : Int32) by decide)]
      rw [s1, y_b]
      obtain ⟨v, -, e4, e1, hl⟩ := L_active h.1 fu ((xs (i + 1)).toUInt32 % 65536).toInt32
      have h1 := L_ro h hl
      obtain ⟨S', w1, w2⟩ := w_rd (F1 := F_X1_active fu (some ((aB A b0 b1) 0 0)) ((xs (i + 1)).toUInt32 % 65536).toInt32) (F4 := F_X4_active fu ((xs (i + 1)).toUInt32 % 65536).toInt32) h e4 e1 h1 (fun S => F_L_law_23 fu xs xn n (some x1) (some out) (nI i + 3) S) (fun S => if g_okZ (0 : Int32) = true then some (.returned (some (.int (0 : Int32))), S) else none)
      obtain ⟨S'', e⟩ := go A b0 b1 S' hA (by omega) (by omega) w2
      rw [hA2] at e ⊢
      rw [hA2] at w1
      exact ⟨S'', w1.trans e⟩
    · rw [if_neg (show ¬ nI 8 = (0 : Int32) by decide), if_neg (show ¬ nI 8 = (1 : Int32) by decide), if_neg (show ¬ nI 8 = (2 : Int32) by decide), if_neg (show ¬ nI 8 = (3 : Int32) by decide), if_neg (show ¬ nI 8 = (4 : Int32) by decide), if_neg (show ¬ nI 8 = (5 : Int32) by decide), if_neg (show ¬ nI 8 = (6 : Int32) by decide), if_neg (show ¬ nI 8 = (7 : Int32) by decide), if_pos (show nI 8 = (8 : Int32) by decide)]
      rw [s1, y_b]
      obtain ⟨v, e4, e1, hl, hv⟩ := L_variable h.1 fu ((xs (i + 1)).toUInt32 % 65536).toInt32
      have h1 := L_ro h hl
      obtain ⟨S', w1, w2⟩ := w_rdD (F1 := F_X1_variable fu (some ((aB A b0 b1) 0 0)) ((xs (i + 1)).toUInt32 % 65536).toInt32) (F4 := F_X4_variable fu ((xs (i + 1)).toUInt32 % 65536).toInt32) h e4 e1 h1 hv (fun S => F_L_law_23 fu xs xn n (some x1) (some out) (nI i + 3) S) (fun S => if g_okZ (0 : Int32) = true then some (.returned (some (.int (0 : Int32))), S) else none)
      obtain ⟨S'', e⟩ := go A b0 b1 S' hA (by omega) (by omega) w2
      rw [hA2] at e ⊢
      rw [hA2] at w1
      exact ⟨S'', w1.trans e⟩
    · rw [if_neg (show ¬ nI 9 = (0 : Int32) by decide), if_neg (show ¬ nI 9 = (1 : Int32) by decide), if_neg (show ¬ nI 9 = (2 : Int32) by decide), if_neg (show ¬ nI 9 = (3 : Int32) by decide), if_neg (show ¬ nI 9 = (4 : Int32) by decide), if_neg (show ¬ nI 9 = (5 : Int32) by decide), if_neg (show ¬ nI 9 = (6 : Int32) by decide), if_neg (show ¬ nI 9 = (7 : Int32) by decide), if_neg (show ¬ nI 9 = (8 : Int32) by decide), if_pos (show nI 9 = (9 : Int32) by decide)]
      obtain ⟨v, e4, e1, hl⟩ := L_sent h.1 fu
      have h1 := L_ro h hl
      obtain ⟨S', w1, w2⟩ := w_rd (F1 := F_X1_sent fu (some ((aB A b0 b1) 0 0))) (F4 := F_X4_sent fu) h e4 e1 h1 (fun S => F_L_law_23 fu xs xn n (some x1) (some out) (nI i + 3) S) (fun S => if g_okZ (0 : Int32) = true then some (.returned (some (.int (0 : Int32))), S) else none)
      obtain ⟨S'', e⟩ := go A b0 b1 S' hA (by omega) (by omega) w2
      rw [hA2] at e ⊢
      rw [hA2] at w1
      exact ⟨S'', w1.trans e⟩
    · rw [if_neg (show ¬ nI 10 = (0 : Int32) by decide), if_neg (show ¬ nI 10 = (1 : Int32) by decide), if_neg (show ¬ nI 10 = (2 : Int32) by decide), if_neg (show ¬ nI 10 = (3 : Int32) by decide), if_neg (show ¬ nI 10 = (4 : Int32) by decide), if_neg (show ¬ nI 10 = (5 : Int32) by decide), if_neg (show ¬ nI 10 = (6 : Int32) by decide), if_neg (show ¬ nI 10 = (7 : Int32) by decide), if_neg (show ¬ nI 10 = (8 : Int32) by decide), if_neg (show ¬ nI 10 = (9 : Int32) by decide), if_pos (show nI 10 = (10 : Int32) by decide)]
      rw [s1, y_b]
      obtain ⟨v, e4, e1, hl⟩ := L_trace h.1 fu (xs (i + 1))
      have h1 := L_ro h hl
      obtain ⟨S', w1, w2⟩ := w_rd (F1 := F_X1_trace fu (some ((aB A b0 b1) 0 0)) (xs (i + 1))) (F4 := F_X4_trace fu (xs (i + 1))) h e4 e1 h1 (fun S => F_L_law_23 fu xs xn n (some x1) (some out) (nI i + 3) S) (fun S => if g_okZ (0 : Int32) = true then some (.returned (some (.int (0 : Int32))), S) else none)
      obtain ⟨S'', e⟩ := go A b0 b1 S' hA (by omega) (by omega) w2
      rw [hA2] at e ⊢
      rw [hA2] at w1
      exact ⟨S'', w1.trans e⟩
    · rw [if_neg (show ¬ nI 11 = (0 : Int32) by decide), if_neg (show ¬ nI 11 = (1 : Int32) by decide), if_neg (show ¬ nI 11 = (2 : Int32) by decide), if_neg (show ¬ nI 11 = (3 : Int32) by decide), if_neg (show ¬ nI 11 = (4 : Int32) by decide), if_neg (show ¬ nI 11 = (5 : Int32) by decide), if_neg (show ¬ nI 11 = (6 : Int32) by decide), if_neg (show ¬ nI 11 = (7 : Int32) by decide), if_neg (show ¬ nI 11 = (8 : Int32) by decide), if_neg (show ¬ nI 11 = (9 : Int32) by decide), if_neg (show ¬ nI 11 = (10 : Int32) by decide), if_pos (show nI 11 = (11 : Int32) by decide)]
      rw [s1, y_b, s2, y_b]
      have fin : ∀ y, (y = 0 ∨ y = 1) → (∀ k : Int32 → gR, (if xs (i + 2) = 0 then k (0 : Int32) else k 1) = k y) → ∃ S'', F_L_law_497 fu xs xn (F_L_law_23 fu xs xn n) (some x1) (some out) (nI i) y ((xs (i + 1)).toUInt32 % 65536).toInt32 (some x1) S = some (.returned (some (.int 1)), S'') := by
        intro y hy hk
        obtain ⟨v, e4, e1, hl⟩ := L_history h.1 fu ((xs (i + 1)).toUInt32 % 65536).toInt32 y
        have h1 := L_ro h hl
        rw [← hA] at go ⊢
        unfold F_L_law_497
        rw [y_q (show gs_t S (A 0 0) = 1 from h.1.nt), show F_X1_history fu (some (A 0 0)) ((xs (i + 1)).toUInt32 % 65536).toInt32 y S = _ from e1, y_cI, s1, y_b, s2, y_b]
        have hk2 := hk (fun y => F_L_law_522 fu xs xn (F_L_law_23 fu xs xn n) (some (A 0 0)) (some out) (nI i) y ((xs (i + 1)).toUInt32 % 65536).toInt32 v S)
        refine (show ∃ S'', (if xs (i + 2) = 0 then F_L_law_522 fu xs xn (F_L_law_23 fu xs xn n) (some (A 0 0)) (some out) (nI i) 0 ((xs (i + 1)).toUInt32 % 65536).toInt32 v S else F_L_law_522 fu xs xn (F_L_law_23 fu xs xn n) (some (A 0 0)) (some out) (nI i) 1 ((xs (i + 1)).toUInt32 % 65536).toInt32 v S) = some (.returned (some (.int 1)), S'') from ?_)
        rw [show (if xs (i + 2) = 0 then F_L_law_522 fu xs xn (F_L_law_23 fu xs xn n) (some (A 0 0)) (some out) (nI i) 0 ((xs (i + 1)).toUInt32 % 65536).toInt32 v S else F_L_law_522 fu xs xn (F_L_law_23 fu xs xn n) (some (A 0 0)) (some out) (nI i) 1 ((xs (i + 1)).toUInt32 % 65536).toInt32 v S) = _ from hk2]
        obtain ⟨S'', e⟩ := go A b0 b1 (gm_w S (n_p (gm_g S) 0 0)) rfl (by omega) (by omega) h1.rf
        refine ⟨S'', ?_⟩
        show (gz_cI (gz_x S (F_X4_history fu ((xs (i + 1)).toUInt32 % 65536).toInt32 y (gm_g S))) fun v1 S1 => if v = v1 then _ else _) = _
        rw [e4]
        show (if v = v then F_L_law_23 fu xs xn n (some (A 0 0)) (some out) (nI i + 3) (gm_w S (n_p (gm_g S) 0 0)) else _) = _
        rw [if_pos rfl]
        exact e
      by_cases hz : xs (i + 2) = 0
      · rw [if_pos hz]
        exact fin 0 (Or.inl rfl) (fun k => if_pos hz)
      · rw [if_neg hz]
        exact fin 1 (Or.inr rfl) (fun k => if_neg hz)
end LAWL
