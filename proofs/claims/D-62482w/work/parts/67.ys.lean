/-! LAYER 2, reading: small numbers as doubles (by cases, in rows of 25) -/
set_option maxRecDepth 100000
def k_nq (n d : Nat) : Bool := decide ((Option.bind (g_nn (FP.dmul (4621819117588971520 : UInt64) (FP.i2d (nI n)))) fun v => g_nn (FP.dadd v (FP.i2d (nI d)))) = some (FP.i2d (nI (10 * n + d))))
theorem k_num0 : ∀ n, n < 25 → ∀ d, d < 10 → k_nq (0 + n) d = true := by decide +kernel
theorem k_num1 : ∀ n, n < 25 → ∀ d, d < 10 → k_nq (25 + n) d = true := by decide +kernel
theorem k_num2 : ∀ n, n < 25 → ∀ d, d < 10 → k_nq (50 + n) d = true := by decide +kernel
theorem k_num3 : ∀ n, n < 25 → ∀ d, d < 10 → k_nq (75 + n) d = true := by decide +kernel
theorem k_num4 : ∀ n, n < 25 → ∀ d, d < 10 → k_nq (100 + n) d = true := by decide +kernel
theorem k_num5 : ∀ n, n < 25 → ∀ d, d < 10 → k_nq (125 + n) d = true := by decide +kernel
theorem k_num6 : ∀ n, n < 25 → ∀ d, d < 10 → k_nq (150 + n) d = true := by decide +kernel
theorem k_num7 : ∀ n, n < 25 → ∀ d, d < 10 → k_nq (175 + n) d = true := by decide +kernel
theorem k_num8 : ∀ n, n < 25 → ∀ d, d < 10 → k_nq (200 + n) d = true := by decide +kernel
theorem k_num9 : ∀ n, n < 25 → ∀ d, d < 10 → k_nq (225 + n) d = true := by decide +kernel
theorem k_num10 : ∀ n, n < 25 → ∀ d, d < 10 → k_nq (250 + n) d = true := by decide +kernel
theorem k_num11 : ∀ n, n < 25 → ∀ d, d < 10 → k_nq (275 + n) d = true := by decide +kernel
theorem k_num12 : ∀ n, n < 25 → ∀ d, d < 10 → k_nq (300 + n) d = true := by decide +kernel
theorem k_num13 : ∀ n, n < 25 → ∀ d, d < 10 → k_nq (325 + n) d = true := by decide +kernel
theorem k_num14 : ∀ n, n < 25 → ∀ d, d < 10 → k_nq (350 + n) d = true := by decide +kernel
theorem k_num15 : ∀ n, n < 25 → ∀ d, d < 10 → k_nq (375 + n) d = true := by decide +kernel
theorem k_num16 : ∀ n, n < 25 → ∀ d, d < 10 → k_nq (400 + n) d = true := by decide +kernel
theorem k_num17 : ∀ n, n < 25 → ∀ d, d < 10 → k_nq (425 + n) d = true := by decide +kernel
theorem k_num18 : ∀ n, n < 25 → ∀ d, d < 10 → k_nq (450 + n) d = true := by decide +kernel
theorem k_num19 : ∀ n, n < 25 → ∀ d, d < 10 → k_nq (475 + n) d = true := by decide +kernel
theorem k_num20 : ∀ n, n < 25 → ∀ d, d < 10 → k_nq (500 + n) d = true := by decide +kernel
theorem k_num21 : ∀ n, n < 25 → ∀ d, d < 10 → k_nq (525 + n) d = true := by decide +kernel
theorem k_num22 : ∀ n, n < 25 → ∀ d, d < 10 → k_nq (550 + n) d = true := by decide +kernel
theorem k_num23 : ∀ n, n < 25 → ∀ d, d < 10 → k_nq (575 + n) d = true := by decide +kernel
theorem k_num24 : ∀ n, n < 25 → ∀ d, d < 10 → k_nq (600 + n) d = true := by decide +kernel
theorem k_num25 : ∀ n, n < 25 → ∀ d, d < 10 → k_nq (625 + n) d = true := by decide +kernel
theorem k_num26 : ∀ n, n < 25 → ∀ d, d < 10 → k_nq (650 + n) d = true := by decide +kernel
theorem k_num27 : ∀ n, n < 25 → ∀ d, d < 10 → k_nq (675 + n) d = true := by decide +kernel
theorem k_num28 : ∀ n, n < 25 → ∀ d, d < 10 → k_nq (700 + n) d = true := by decide +kernel
theorem k_num29 : ∀ n, n < 25 → ∀ d, d < 10 → k_nq (725 + n) d = true := by decide +kernel
theorem k_num30 : ∀ n, n < 25 → ∀ d, d < 10 → k_nq (750 + n) d = true := by decide +kernel
theorem k_num31 : ∀ n, n < 25 → ∀ d, d < 10 → k_nq (775 + n) d = true := by decide +kernel
theorem k_num32 : ∀ n, n < 25 → ∀ d, d < 10 → k_nq (800 + n) d = true := by decide +kernel
theorem k_num33 : ∀ n, n < 25 → ∀ d, d < 10 → k_nq (825 + n) d = true := by decide +kernel
theorem k_num34 : ∀ n, n < 25 → ∀ d, d < 10 → k_nq (850 + n) d = true := by decide +kernel
theorem k_num35 : ∀ n, n < 25 → ∀ d, d < 10 → k_nq (875 + n) d = true := by decide +kernel
theorem k_num36 : ∀ n, n < 25 → ∀ d, d < 10 → k_nq (900 + n) d = true := by decide +kernel
theorem k_num37 : ∀ n, n < 25 → ∀ d, d < 10 → k_nq (925 + n) d = true := by decide +kernel
theorem k_num38 : ∀ n, n < 25 → ∀ d, d < 10 → k_nq (950 + n) d = true := by decide +kernel
theorem k_num39 : ∀ n, n < 25 → ∀ d, d < 10 → k_nq (975 + n) d = true := by decide +kernel
theorem k_num {n d : Nat} (hn : n < 1000) (hd : d < 10) : (Option.bind (g_nn (FP.dmul (4621819117588971520 : UInt64) (FP.i2d (nI n)))) fun v => g_nn (FP.dadd v (FP.i2d (nI d)))) = some (FP.i2d (nI (10 * n + d))) := by
  have key : k_nq n d = true := by
    have h1 : n = 25 * (n / 25) + n % 25 := (Nat.div_add_mod n 25).symm
    have h2 : n / 25 < 40 := by omega
    have h3 : n % 25 < 25 := Nat.mod_lt _ (by omega)
    obtain ⟨q, hq⟩ : ∃ q, q = n / 25 := ⟨_, rfl⟩
    obtain ⟨r, hr⟩ : ∃ r, r = n % 25 := ⟨_, rfl⟩
    rw [← hq, ← hr] at h1
    rw [← hq] at h2
    rw [← hr] at h3
    rw [h1]
    clear h1 hq hr hn
    match q, h2 with
    | 0, _ => exact k_num0 r h3 d hd
    | 1, _ => exact k_num1 r h3 d hd
    | 2, _ => exact k_num2 r h3 d hd
    | 3, _ => exact k_num3 r h3 d hd
    | 4, _ => exact k_num4 r h3 d hd
    | 5, _ => exact k_num5 r h3 d hd
    | 6, _ => exact k_num6 r h3 d hd
    | 7, _ => exact k_num7 r h3 d hd
    | 8, _ => exact k_num8 r h3 d hd
    | 9, _ => exact k_num9 r h3 d hd
    | 10, _ => exact k_num10 r h3 d hd
    | 11, _ => exact k_num11 r h3 d hd
    | 12, _ => exact k_num12 r h3 d hd
    | 13, _ => exact k_num13 r h3 d hd
    | 14, _ => exact k_num14 r h3 d hd
    | 15, _ => exact k_num15 r h3 d hd
    | 16, _ => exact k_num16 r h3 d hd
    | 17, _ => exact k_num17 r h3 d hd
    | 18, _ => exact k_num18 r h3 d hd
    | 19, _ => exact k_num19 r h3 d hd
    | 20, _ => exact k_num20 r h3 d hd
    | 21, _ => exact k_num21 r h3 d hd
    | 22, _ => exact k_num22 r h3 d hd
    | 23, _ => exact k_num23 r h3 d hd
    | 24, _ => exact k_num24 r h3 d hd
    | 25, _ => exact k_num25 r h3 d hd
    | 26, _ => exact k_num26 r h3 d hd
    | 27, _ => exact k_num27 r h3 d hd
    | 28, _ => exact k_num28 r h3 d hd
    | 29, _ => exact k_num29 r h3 d hd
    | 30, _ => exact k_num30 r h3 d hd
    | 31, _ => exact k_num31 r h3 d hd
    | 32, _ => exact k_num32 r h3 d hd
    | 33, _ => exact k_num33 r h3 d hd
    | 34, _ => exact k_num34 r h3 d hd
    | 35, _ => exact k_num35 r h3 d hd
    | 36, _ => exact k_num36 r h3 d hd
    | 37, _ => exact k_num37 r h3 d hd
    | 38, _ => exact k_num38 r h3 d hd
    | 39, _ => exact k_num39 r h3 d hd
    | q + 40, h => exact absurd h (by omega)
  exact of_decide_eq_true key
