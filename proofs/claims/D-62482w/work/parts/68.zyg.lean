/-! LAYER 2: build -/
set_option maxRecDepth 100000
section RDZv
variable {A : gA} {M0 : gM}
theorem y_tRt {σ : Type} {S : σ} {a : Nat} {k : Option Nat → σ → Option (Outcome × σ)} {t : Nat → σ → Option (Outcome × σ)} : gz_tR (some (.threw a, S)) k t = t a S := rfl
/-- the model's end of a build, ill -/
theorem m_126i {M' : gM} {p' fu : Nat} (h5 : n_I M' 5 0 = 1) (h4 : n_I M' 4 0 = nI p') : F_X4_build_126 fu M' = some (.returned (some (.int 0)), n_p (n_p (n_p (n_p M' 6 (nI p')) 2 0) 1 0) 0 1) := by
  unfold F_X4_build_126 F_X4_build_142 F_X4_build_168
  have e5 : n_I (n_p (n_p (n_p M' 6 (nI p')) 2 0) 1 0) 5 0 = 1 := (n_po (by decide)).trans ((n_po (by decide)).trans ((n_po (by decide)).trans h5))
  have e50 : n_I (n_p (n_p (n_p (n_p M' 6 (nI p')) 2 0) 1 0) 0 1) 5 0 = 1 := (n_po (by decide)).trans e5
  rw [h5, if_neg (by decide), h4, show n_pIO M' 6 (nI p') = some (n_p M' 6 (nI p')) from rfl, y_b, show n_pIO (n_p M' 6 (nI p')) 2 0 = some (n_p (n_p M' 6 (nI p')) 2 0) from rfl, y_b, show n_pIO (n_p (n_p M' 6 (nI p')) 2 0) 1 0 = some (n_p (n_p (n_p M' 6 (nI p')) 2 0) 1 0) from rfl, y_b, e5, if_neg (by decide), show n_pIO (n_p (n_p (n_p M' 6 (nI p')) 2 0) 1 0) 0 1 = some (n_p (n_p (n_p (n_p M' 6 (nI p')) 2 0) 1 0) 0 1) from rfl, y_b, e50, if_neg (by decide)]
/-- and when it is well -/
theorem m_126w {M' : gM} {w fu n : Nat} (hf : 100 ≤ fu) (hw : w < 2) (h5 : n_I M' 5 0 = 0) (h8 : n_I M' 8 0 = nI w) (h9 : n_I M' 9 w = nI n) : ∃ Mf, F_X4_build_126 fu M' = some (.returned (some (.int (nI n))), Mf) ∧ n_I Mf 0 0 = 0 ∧ n_I Mf 1 0 = 0 ∧ n_I Mf 2 0 = 0 ∧ n_I Mf 6 0 = -1 ∧ n_I Mf 7 0 = nI w ∧ n_I Mf 40 0 = 0 ∧ n_I Mf 41 0 = 0 ∧ n_I Mf 53 0 = 0 ∧ (∀ j, j < 6 → n_D Mf 42 j = FP.dconst0) ∧ (∀ j, j < 16 → n_I Mf 43 j = 0 ∧ n_I Mf 44 j = 0) ∧ n_I Mf 45 0 = 0 ∧ n_I Mf 47 0 = 0 ∧ ∀ k i, ¬ (k = 0 ∨ k = 1 ∨ k = 2 ∨ k = 6 ∨ k = 7 ∨ k = 40 ∨ k = 41 ∨ (42 ≤ k ∧ k ≤ 45) ∨ k = 47 ∨ k = 50 ∨ k = 53) → Mf k i = M' k i := by
  obtain ⟨M3, hM3⟩ : ∃ M3, M3 = n_p (n_p (n_p (n_p M' 6 (-1)) 2 0) 1 0) 0 0 := ⟨_, rfl⟩
  have f3 : ∀ k i, ¬ (k = 0 ∨ k = 1 ∨ k = 2 ∨ k = 6) → M3 k i = M' k i := fun k i q => by rw [hM3]; exact (y_uk (by omega)).trans ((y_uk (by omega)).trans ((y_uk (by omega)).trans (y_uk (by omega))))
  obtain ⟨M7, hM7⟩ : ∃ M7, M7 = n_p (n_p (n_p (n_p M3 7 (nI w)) 40 0) 41 0) 53 0 := ⟨_, rfl⟩
  have f7 : ∀ k i, ¬ (k = 7 ∨ k = 40 ∨ k = 41 ∨ k = 53) → M7 k i = M3 k i := fun k i q => by rw [hM7]; exact (y_uk (by omega)).trans ((y_uk (by omega)).trans ((y_uk (by omega)).trans (y_uk (by omega))))
  obtain ⟨Mf, z1, z2, z3, z4, z5, z6, z7⟩ := m_forget (fu := fu) hf M7
  have ff : ∀ k i, ¬ (k = 42 ∨ k = 43 ∨ k = 44 ∨ k = 45 ∨ k = 47 ∨ k = 50) → n_I Mf k i = n_I M7 k i := fun k i q => by unfold n_I; rw [z7 k i q]
  have e8 : n_I Mf 8 0 = nI w := by rw [ff _ _ (by omega)]; unfold n_I; rw [f7 _ _ (by omega), f3 _ _ (by omega)]; exact h8
  have e9 : n_I Mf 9 w = nI n := by rw [ff _ _ (by omega)]; unfold n_I; rw [f7 _ _ (by omega), f3 _ _ (by omega)]; exact h9
  have e83 : n_I M3 8 0 = nI w := by unfold n_I; rw [f3 _ _ (by omega)]; exact h8
  have e53 : n_I M3 5 0 = 0 := by unfold n_I; rw [f3 _ _ (by omega)]; exact h5
  refine ⟨Mf, ?_, ?_, ?_, ?_, ?_, ?_, ?_, ?_, ?_, z2, z3, z4, z5, fun k i q => ?_⟩
  · unfold F_X4_build_126 F_X4_build_142 F_X4_build_168
    have e5 : n_I (n_p (n_p (n_p M' 6 (-1)) 2 0) 1 0) 5 0 = 0 := (n_po (by decide)).trans ((n_po (by decide)).trans ((n_po (by decide)).trans h5))
    rw [h5, if_pos rfl, show n_pIO M' 6 (-1) = some (n_p M' 6 (-1)) from rfl, y_b, show n_pIO (n_p M' 6 (-1)) 2 0 = some (n_p (n_p M' 6 (-1)) 2 0) from rfl, y_b, show n_pIO (n_p (n_p M' 6 (-1)) 2 0) 1 0 = some (n_p (n_p (n_p M' 6 (-1)) 2 0) 1 0) from rfl, y_b, e5, if_pos rfl, show n_pIO (n_p (n_p (n_p M' 6 (-1)) 2 0) 1 0) 0 0 = some M3 from by rw [hM3]; rfl, y_b, e53, if_pos rfl, e83, show n_pIO M3 7 (nI w) = some (n_p M3 7 (nI w)) from rfl, y_b, show n_pZO (n_p M3 7 (nI w)) 40 0 = some (n_p (n_p M3 7 (nI w)) 40 0) from rfl, y_b, show n_pIO (n_p (n_p M3 7 (nI w)) 40 0) 41 0 = some (n_p (n_p (n_p M3 7 (nI w)) 40 0) 41 0) from rfl, y_b, show n_pIO (n_p (n_p (n_p M3 7 (nI w)) 40 0) 41 0) 53 0 = some M7 from by rw [hM7]; rfl, y_b, z1, y_cV, e8, y_aI hw (by omega), y_b, e9]
  · rw [ff _ _ (by omega)]; unfold n_I; rw [f7 _ _ (by omega), hM3]; exact n_ps
  · rw [ff _ _ (by omega)]; unfold n_I; rw [f7 _ _ (by omega), hM3]; exact (n_po (by decide)).trans n_ps
  · rw [ff _ _ (by omega)]; unfold n_I; rw [f7 _ _ (by omega), hM3]; exact (n_po (by decide)).trans ((n_po (by decide)).trans n_ps)
  · rw [ff _ _ (by omega)]; unfold n_I; rw [f7 _ _ (by omega), hM3]; exact (n_po (by decide)).trans ((n_po (by decide)).trans ((n_po (by decide)).trans n_ps))
  · rw [ff _ _ (by omega), hM7]; exact (n_po (by decide)).trans ((n_po (by decide)).trans ((n_po (by decide)).trans n_ps))
  · rw [ff _ _ (by omega), hM7]; exact (n_po (by decide)).trans ((n_po (by decide)).trans n_ps)
  · rw [ff _ _ (by omega), hM7]; exact (n_po (by decide)).trans n_ps
  · rw [ff _ _ (by omega), hM7]; exact n_ps
  · rw [z7 k i (by omega), f7 k i (by omega), f3 k i (by omega)]
def aC (A : gA) (B : Nat) : gA := fun k i => if k = 36 then B else A k i
theorem RL.c36 {M : gM} {S : gm_S} (h : RL A M0 M S) (B : Nat) : RL (aC A B) M0 M S := by
  obtain ⟨c1, c2, ⟨C, h⟩ | h⟩ := h
  · exact ⟨c1, c2, Or.inl ⟨C, h.inv, h.W, h.H, h.mc, h.a, h.v, h.q, h.s, h.t, h.c, h.h, h.b, h.r⟩⟩
  · obtain ⟨⟨e1, e2, e3, e4, e5, e6, e7, e8, e9⟩, n1, n2, n3, n4⟩ := h
    exact ⟨c1, c2, Or.inr ⟨⟨e1, e2, e3, e4, e5, e6, e7, e8, e9⟩, n1, n2, n3, n4⟩⟩
end RDZv
