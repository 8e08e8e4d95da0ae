/-! LAYER 2, reading: tenths as doubles (by cases, in rows of 250) -/
set_option maxRecDepth 100000
def k_dq (m : Nat) : Bool := match g_nn (FP.ddiv (FP.i2d (nI m)) (4621819117588971520 : UInt64)) with | none => false | some v => (match FP.Core.decode FP.Core.b64 v.toNat with | .fin _ _ _ => (match FP.Core.decode FP.Core.b64 (FP.i2d (nI m)).toNat with | .fin _ _ _ => true | _ => false) | _ => false)
theorem k_ten0 : ∀ n, n < 250 → k_dq (0 + n) = true := by decide +kernel
theorem k_ten1 : ∀ n, n < 250 → k_dq (250 + n) = true := by decide +kernel
theorem k_ten2 : ∀ n, n < 250 → k_dq (500 + n) = true := by decide +kernel
theorem k_ten3 : ∀ n, n < 250 → k_dq (750 + n) = true := by decide +kernel
theorem k_ten4 : ∀ n, n < 250 → k_dq (1000 + n) = true := by decide +kernel
theorem k_ten5 : ∀ n, n < 250 → k_dq (1250 + n) = true := by decide +kernel
theorem k_ten6 : ∀ n, n < 250 → k_dq (1500 + n) = true := by decide +kernel
theorem k_ten7 : ∀ n, n < 250 → k_dq (1750 + n) = true := by decide +kernel
theorem k_ten8 : ∀ n, n < 250 → k_dq (2000 + n) = true := by decide +kernel
theorem k_ten9 : ∀ n, n < 250 → k_dq (2250 + n) = true := by decide +kernel
theorem k_ten10 : ∀ n, n < 250 → k_dq (2500 + n) = true := by decide +kernel
theorem k_ten11 : ∀ n, n < 250 → k_dq (2750 + n) = true := by decide +kernel
theorem k_ten12 : ∀ n, n < 250 → k_dq (3000 + n) = true := by decide +kernel
theorem k_ten13 : ∀ n, n < 250 → k_dq (3250 + n) = true := by decide +kernel
theorem k_ten14 : ∀ n, n < 250 → k_dq (3500 + n) = true := by decide +kernel
theorem k_ten15 : ∀ n, n < 250 → k_dq (3750 + n) = true := by decide +kernel
theorem k_ten16 : ∀ n, n < 250 → k_dq (4000 + n) = true := by decide +kernel
theorem k_ten17 : ∀ n, n < 250 → k_dq (4250 + n) = true := by decide +kernel
theorem k_ten18 : ∀ n, n < 250 → k_dq (4500 + n) = true := by decide +kernel
theorem k_ten19 : ∀ n, n < 250 → k_dq (4750 + n) = true := by decide +kernel
theorem k_ten20 : ∀ n, n < 250 → k_dq (5000 + n) = true := by decide +kernel
theorem k_ten21 : ∀ n, n < 250 → k_dq (5250 + n) = true := by decide +kernel
theorem k_ten22 : ∀ n, n < 250 → k_dq (5500 + n) = true := by decide +kernel
theorem k_ten23 : ∀ n, n < 250 → k_dq (5750 + n) = true := by decide +kernel
theorem k_ten24 : ∀ n, n < 250 → k_dq (6000 + n) = true := by decide +kernel
theorem k_ten25 : ∀ n, n < 250 → k_dq (6250 + n) = true := by decide +kernel
theorem k_ten26 : ∀ n, n < 250 → k_dq (6500 + n) = true := by decide +kernel
theorem k_ten27 : ∀ n, n < 250 → k_dq (6750 + n) = true := by decide +kernel
theorem k_ten28 : ∀ n, n < 250 → k_dq (7000 + n) = true := by decide +kernel
theorem k_ten29 : ∀ n, n < 250 → k_dq (7250 + n) = true := by decide +kernel
theorem k_ten30 : ∀ n, n < 250 → k_dq (7500 + n) = true := by decide +kernel
theorem k_ten31 : ∀ n, n < 250 → k_dq (7750 + n) = true := by decide +kernel
theorem k_ten32 : ∀ n, n < 250 → k_dq (8000 + n) = true := by decide +kernel
theorem k_ten33 : ∀ n, n < 250 → k_dq (8250 + n) = true := by decide +kernel
theorem k_ten34 : ∀ n, n < 250 → k_dq (8500 + n) = true := by decide +kernel
theorem k_ten35 : ∀ n, n < 250 → k_dq (8750 + n) = true := by decide +kernel
theorem k_ten36 : ∀ n, n < 250 → k_dq (9000 + n) = true := by decide +kernel
theorem k_ten37 : ∀ n, n < 250 → k_dq (9250 + n) = true := by decide +kernel
theorem k_ten38 : ∀ n, n < 250 → k_dq (9500 + n) = true := by decide +kernel
theorem k_ten39 : ∀ n, n < 250 → k_dq (9750 + n) = true := by decide +kernel
theorem k_tenq {n : Nat} (hn : n < 10000) : k_dq n = true := by
  have h1 : n = 250 * (n / 250) + n % 250 := (Nat.div_add_mod n 250).symm
  have h2 : n / 250 < 40 := by omega
  have h3 : n % 250 < 250 := Nat.mod_lt _ (by omega)
  obtain ⟨q, hq⟩ : ∃ q, q = n / 250 := ⟨_, rfl⟩
  obtain ⟨r, hr⟩ : ∃ r, r = n % 250 := ⟨_, rfl⟩
  rw [← hq, ← hr] at h1
  rw [← hq] at h2
  rw [← hr] at h3
  rw [h1]
  clear h1 hq hr hn
  match q, h2 with
  | 0, _ => exact k_ten0 r h3
  | 1, _ => exact k_ten1 r h3
  | 2, _ => exact k_ten2 r h3
  | 3, _ => exact k_ten3 r h3
  | 4, _ => exact k_ten4 r h3
  | 5, _ => exact k_ten5 r h3
  | 6, _ => exact k_ten6 r h3
  | 7, _ => exact k_ten7 r h3
  | 8, _ => exact k_ten8 r h3
  | 9, _ => exact k_ten9 r h3
  | 10, _ => exact k_ten10 r h3
  | 11, _ => exact k_ten11 r h3
  | 12, _ => exact k_ten12 r h3
  | 13, _ => exact k_ten13 r h3
  | 14, _ => exact k_ten14 r h3
  | 15, _ => exact k_ten15 r h3
  | 16, _ => exact k_ten16 r h3
  | 17, _ => exact k_ten17 r h3
  | 18, _ => exact k_ten18 r h3
  | 19, _ => exact k_ten19 r h3
  | 20, _ => exact k_ten20 r h3
  | 21, _ => exact k_ten21 r h3
  | 22, _ => exact k_ten22 r h3
  | 23, _ => exact k_ten23 r h3
  | 24, _ => exact k_ten24 r h3
  | 25, _ => exact k_ten25 r h3
  | 26, _ => exact k_ten26 r h3
  | 27, _ => exact k_ten27 r h3
  | 28, _ => exact k_ten28 r h3
  | 29, _ => exact k_ten29 r h3
  | 30, _ => exact k_ten30 r h3
  | 31, _ => exact k_ten31 r h3
  | 32, _ => exact k_ten32 r h3
  | 33, _ => exact k_ten33 r h3
  | 34, _ => exact k_ten34 r h3
  | 35, _ => exact k_ten35 r h3
  | 36, _ => exact k_ten36 r h3
  | 37, _ => exact k_ten37 r h3
  | 38, _ => exact k_ten38 r h3
  | 39, _ => exact k_ten39 r h3
  | q + 40, h => exact absurd h (by omega)
theorem k_ten {m : Nat} (h : m < 10000) : ∃ v, g_nn (FP.ddiv (FP.i2d (nI m)) (4621819117588971520 : UInt64)) = some v ∧ d_ok v ∧ d_ok (FP.i2d (nI m)) := by
  have := k_tenq h
  unfold k_dq at this
  split at this
  · cases this
  · rename_i v hv
    split at this
    · rename_i s c q hd
      split at this
      · rename_i s' c' q' hd'
        exact ⟨v, hv, ⟨s, c, q, hd⟩, ⟨s', c', q', hd'⟩⟩
      · cases this
    · cases this
theorem k_num' {n d : Nat} (hn : n < 1000) (hd : d < 10) : ∃ v, g_nn (FP.dmul (4621819117588971520 : UInt64) (FP.i2d (nI n))) = some v ∧ g_nn (FP.dadd v (FP.i2d (nI d))) = some (FP.i2d (nI (10 * n + d))) := g_bind (k_num hn hd)
theorem k_zero : FP.i2d (nI 0) = FP.dconst0 := by decide +kernel
