/-! LAYER 2: the beginning: the run -/
set_option maxRecDepth 100000
section INB
variable {M0 : gM}
theorem x_run {S : gm_S} (hi : g_inv M0 S) {o : Nat} (h : gs_t S o = 3) (h1 : gs_c S + 7 < 600096) (h2 : gs_k S + 128 ≤ 7301386) (fu : Nat) : ∃ S', F_X3_init fu (some o) S = some (.returned none, S') ∧ g_gR S' (some o) 3 0 = some (some (gs_n S)) ∧ g_gR S' (some o) 3 3 = some (some (gs_n S + 1)) ∧ g_gR S' (some o) 3 4 = some (some (gs_n S + 2)) ∧ g_gR S' (some o) 3 7 = some (some (gs_n S + 3)) ∧ g_gR S' (some o) 3 9 = some (some (gs_n S + 4)) ∧ g_gR S' (some o) 3 12 = some (some (gs_n S + 5)) ∧ g_gR S' (some o) 3 13 = some (some (gs_n S + 6)) ∧
    (gs_t S' (gs_n S) = 16 ∧ S'.2.1 (gs_n S) = []) ∧ (gs_t S' (gs_n S + 1) = 102 ∧ gm_N (S'.1 1 (gs_n S + 1) 0) = 6 ∧ ∀ i, S'.1 2 (gs_n S + 1) i = .null) ∧ (gs_t S' (gs_n S + 2) = 101 ∧ gm_N (S'.1 1 (gs_n S + 2) 0) = 10) ∧ (gs_t S' (gs_n S + 3) = 16 ∧ S'.2.1 (gs_n S + 3) = [] ∧ g_cap S' (gs_n S + 3) = 0) ∧ (gs_t S' (gs_n S + 4) = 100 ∧ gm_N (S'.1 1 (gs_n S + 4) 0) = 100) ∧ (gs_t S' (gs_n S + 5) = 16 ∧ g_cap S' (gs_n S + 5) = 0) ∧ (gs_t S' (gs_n S + 6) = 16 ∧ g_cap S' (gs_n S + 6) = 0) ∧
    ag (fun F a => (F = 300 ∨ F = 303 ∨ F = 304 ∨ F = 307 ∨ F = 309 ∨ F = 312 ∨ F = 313) ∧ a = o) (fun _ => False) S S' ∧ g_inv M0 S' ∧ gs_n S' = gs_n S + 7 ∧ gs_c S' = gs_c S + 7 ∧ gs_k S' = gs_k S + 128 ∧ gs_t S' o = 3 := by
  have h0 : gs_t S o ≠ 0 := by rw [h]; decide
  have ho : o < gs_n S := hi.2.2.2 o h0
  obtain ⟨Sa, a1, a2, a3, a4, a5, a6, a7, a8, a9, a10, a11, a12⟩ := x_lf2 (k := 0) hi h (by decide) (by omega) (by omega)
  obtain ⟨Sb, b1, b2, b3, b4, b5, b6, b7, b8, b9, b10, b11, b12⟩ := x_af (t := 2) (n := 6) (k := 3) a7 a11 (by decide) (by omega) (by omega) (by omega)
  obtain ⟨Sc, c1, c2, c3, c4, c5, c6, c7, c8, c9, c10, c11, c12⟩ := x_af (t := 1) (n := 10) (k := 4) b8 b12 (by decide) (by omega) (by omega) (by omega)
  obtain ⟨Sd, d1, d2, d3, d4, d5, d6, d7, d8, d9, d10, d11, d12⟩ := x_lf2 (k := 7) c8 c12 (by decide) (by omega) (by omega)
  obtain ⟨Se, e1, e2, e3, e4, e5, e6, e7, e8, e9, e10, e11, e12⟩ := x_af (t := 0) (n := 100) (k := 9) d7 d11 (by decide) (by omega) (by omega) (by omega)
  obtain ⟨Sf, f1, f2, f3, f4, f5, f6, f7, f8, f9, f10, f11, f12⟩ := x_lf2 (k := 12) e8 e12 (by decide) (by omega) (by omega)
  obtain ⟨Sg, g1, g2, g3, g4, g5, g6, g7, g8, g9, g10, g11, g12⟩ := x_lf2 (k := 13) f7 f11 (by decide) (by omega) (by omega)
  rw [a8] at b2 b3 b4 b5
  rw [b9, a8] at c2 c3 c4 c5
  rw [show gs_n Sc = gs_n S + 3 by omega] at d2 d3 d4 d5 d12
  rw [show gs_n Sd = gs_n S + 4 by omega] at e2 e3 e4 e5
  rw [show gs_n Se = gs_n S + 5 by omega] at f2 f3 f4 f5 f12
  rw [show gs_n Sf = gs_n S + 6 by omega] at g2 g3 g4 g5 g12
  -- frames to the end
  have kf : ag (fun F a => F = 313 ∧ a = o) (fun _ => False) Sf Sg := g6
  have ke : ag (fun F a => (F = 312 ∨ F = 313) ∧ a = o) (fun _ => False) Se Sg := (f6.trans kf).wk (fun F a w => by omega) (fun a w => w.elim id id)
  have kd : ag (fun F a => (F = 309 ∨ F = 312 ∨ F = 313) ∧ a = o) (fun _ => False) Sd Sg := (e7.trans ke).wk (fun F a w => by omega) (fun a w => w.elim id id)
  have kc : ag (fun F a => (F = 307 ∨ F = 309 ∨ F = 312 ∨ F = 313) ∧ a = o) (fun _ => False) Sc Sg := (d6.trans kd).wk (fun F a w => by omega) (fun a w => w.elim id id)
  have kb : ag (fun F a => (F = 304 ∨ F = 307 ∨ F = 309 ∨ F = 312 ∨ F = 313) ∧ a = o) (fun _ => False) Sb Sg := (c7.trans kc).wk (fun F a w => by omega) (fun a w => w.elim id id)
  have ka : ag (fun F a => (F = 303 ∨ F = 304 ∨ F = 307 ∨ F = 309 ∨ F = 312 ∨ F = 313) ∧ a = o) (fun _ => False) Sa Sg := (b7.trans kb).wk (fun F a w => by omega) (fun a w => w.elim id id)
  have capk : ∀ {T : gm_S} {E : Nat → Nat → Prop} {a : Nat}, ag E (fun _ => False) T Sg → gs_t T a ≠ 0 → ¬ E 3 a → g_cap Sg a = g_cap T a := fun g t q => by unfold g_cap; rw [g.1 _ _ _ t q]
  refine ⟨Sg, ?_, ka.gR a2 (by decide) (by omega), kb.gR b2 (by decide) (by omega), kc.gR c2 (by decide) (by omega), kd.gR d2 (by decide) (by omega), ke.gR e2 (by decide) (by omega), kf.gR f2 (by decide) (by omega), g2, ⟨(ka.2.2 _ (by rw [a3]; decide)).trans a3, (ka.2.1 _ (by rw [a3]; decide) (fun q => q)).trans a4⟩, ⟨(kb.2.2 _ (by rw [b3]; decide)).trans b3, by rw [kb.1 _ _ _ (by rw [b3]; decide) (by omega)]; exact b4, fun i => by rw [kb.1 _ _ _ (by rw [b3]; decide) (by omega)]; exact b5 i⟩, ⟨(kc.2.2 _ (by rw [c3]; decide)).trans c3, by rw [kc.1 _ _ _ (by rw [c3]; decide) (by omega)]; exact c4⟩, ⟨(kd.2.2 _ (by rw [d3]; decide)).trans d3, (kd.2.1 _ (by rw [d3]; decide) (fun q => q)).trans d4, (capk kd (by rw [d3]; decide) (by omega)).trans d12⟩, ⟨(ke.2.2 _ (by rw [e3]; decide)).trans e3, by rw [ke.1 _ _ _ (by rw [e3]; decide) (by omega)]; exact e4⟩, ⟨(kf.2.2 _ (by rw [f3]; decide)).trans f3, (capk kf (by rw [f3]; decide) (by omega)).trans f12⟩, ⟨g3, g12⟩, (a6.trans ka).wk (fun F a w => by omega) (fun a w => w.elim id id), g7, by omega, by omega, by omega, g11⟩
  unfold F_X3_init
  rw [y_q h]
  exact (a1 _).trans ((b1 _).trans ((c1 _).trans ((d1 _).trans ((e1 _).trans ((f1 _).trans (g1 _))))))
end INB
