/-! LAYER 2, reading: the model when it is ill: names, ends of transitions -/
set_option maxRecDepth 100000
section RDP
theorem i_name {M : gM} (h : n_I M 5 0 = 1) {w : Nat} (hw : n_I M 8 0 = nI w) (hw2 : w < 2) (fu : Nat) (x : Int32) : F_X4_readName fu x M = some (.returned (some (.int 0)), n_p M 5 1) := by
  unfold F_X4_readName
  rw [show F_X4_among fu 97 112 M = _ from i_among h fu (lo := 97) (by omega) (by omega) 112, y_cI, m_want0, y_cV, show n_I (n_p M 5 1) 8 0 = nI w from (n_po (by decide)).trans hw, y_aI (by omega) (by omega), y_b, n_ps, if_neg (by decide)]
theorem i_tr210 {M : gM} (h : n_I M 5 0 = 1) (fu : Nat) (x : Int32) : F_X4_readTransition_210 fu x M = some (.returned none, M) := by
  unfold F_X4_readTransition_210
  rw [show F_X4_takes fu 47 M = _ from i_takes h fu (c := 47) (by omega) (by omega), y_cI, if_pos rfl]
end RDP
