/-! the law: the model's object is sealed -/
set_option maxRecDepth 100000
theorem jqk_at : ∀ j, j < 42 → jqk j < 62 ∧ gx_arr (jqk j) = true ∧ jqm (jqk j) = j := by decide +kernel
theorem gw_seal {Cc : Nat → ClassId} {Ii : Nat → Nat → Nat} {Aa : Nat → ClassId} {Hh : Heap} {ee o : Nat} {S : gm_S} {H : Heap} (ht : gs_t S o = 4) (hn : gs_n S = o + 1) (hnul : ∀ F, F ≠ 0 → S.1 F o 0 = .null)
    (hw : gw_W (Cc, Ii, Aa, Hh, ee, 0, (fun _ => 0), false) (jqF o S) H) : gw_W (Cc, Ii, Aa, Hh, ee, o, (fun k => o + 1 + jqm k), true) (jqZ (o + 1) o (jqF o S)) H := by
  obtain ⟨w1, w2, w3, w4, w5, w6, w7, w8, w9, w10⟩ := hw
  have ho : o < gs_n S := by omega
  have t4 : gs_t (jqF o S) o = 4 := by unfold gs_t; rw [jqF_old ho (Or.inr (by omega))]; exact ht
  have hzo := w7 o (by rw [t4]; decide)
  have w5 : 0 < Hh.size := w5
  have hzo : Hh.size ≤ o ∧ o < gs_n (jqF o S) := hzo
  have arr : ∀ j, j < 42 → gx_ak (jqk j) < 5 ∧ gs_t (jqF o S) (o + 1 + j) = 100 + gx_ak (jqk j) := fun j hj => by
    obtain ⟨a1, a2, a3⟩ := jqk_at j hj
    refine ⟨by unfold gx_ak; split <;> omega, ?_⟩
    have := (jqF_arr ho a1 a2).2 0 0
    rw [a3, hn] at this
    unfold gs_t
    rw [this]
    rfl
  -- the region
  have reg : ∀ b, b = o ∨ (o + 1 ≤ b ∧ b < o + 1 + 42) → gs_t (jqF o S) b = 4 ∨ ∃ t, t < 5 ∧ gs_t (jqF o S) b = 100 + t := fun b hb => by
    rcases hb with rfl | hb
    · exact Or.inl t4
    · have := arr (b - (o + 1)) (by omega)
      rw [show o + 1 + (b - (o + 1)) = b by omega] at this
      exact Or.inr ⟨_, this.1, this.2⟩
  have t31 : ∀ b, b = o ∨ (o + 1 ≤ b ∧ b < o + 1 + 42) → gs_t (jqZ (o + 1) o (jqF o S)) b = 31 := fun b hb => by
    unfold gs_t jqZ
    dsimp only
    rw [if_neg (by omega)]
    by_cases e : b = o
    · rw [if_pos e, if_pos ⟨rfl, rfl⟩]; rfl
    · rw [if_neg e, if_pos (by omega), if_pos ⟨rfl, rfl⟩]; rfl
  have out : ∀ F b i, b ≠ 0 → ¬ (b = o ∨ (o + 1 ≤ b ∧ b < o + 1 + 42)) → (jqZ (o + 1) o (jqF o S)).1 F b i = (jqF o S).1 F b i := fun F b i h0 h => jqZ_old h0 (fun z => h (Or.inl z)) (fun z => h (Or.inr z))
  have t0 : gs_t (jqF o S) 0 = 0 := by
    rcases Nat.eq_zero_or_pos (gs_t (jqF o S) 0) with z | z
    · exact z
    · have := w7 0 (by omega)
      have : Hh.size ≤ 0 := this.1
      omega
  have t0' : gs_t (jqZ (o + 1) o (jqF o S)) 0 = 0 := by
    unfold gs_t jqZ
    dsimp only
    rw [if_pos rfl, if_neg (by omega)]
    exact t0
  have okE : ∀ x, g_okE (gs_t (jqF o S) x) = true → g_okE (gs_t (jqZ (o + 1) o (jqF o S)) x) = true := fun x hx => by
    by_cases e0 : x = 0
    · rw [e0, t0] at hx; exact absurd hx (by decide)
    · by_cases e : x = o ∨ (o + 1 ≤ x ∧ x < o + 1 + 42)
      · rcases reg x e with z | ⟨t, h5, z⟩
        · rw [z] at hx; exact absurd hx (by decide)
        · rw [z] at hx
          have : t = 0 ∨ t = 1 ∨ t = 2 ∨ t = 3 ∨ t = 4 := by omega
          rcases this with rfl | rfl | rfl | rfl | rfl <;> exact absurd hx (by decide)
      · unfold gs_t at hx ⊢; rw [out _ _ _ e0 e]; exact hx
  have vac : ∀ b t0, gs_t (jqZ (o + 1) o (jqF o S)) b = t0 → (t0 = 0 ∨ t0 = 31) → gw_at (Cc, Ii, Aa, Hh, ee, o, (fun k => o + 1 + jqm k), true) (jqZ (o + 1) o (jqF o S)) H b := fun b t0 hb h0 => by
    refine ⟨fun t e h => ?_, fun t e h => ?_, fun e => ?_, fun e => ?_, fun t e h1 h2 => ?_⟩
    · rw [hb] at e
      rw [← e] at h
      rcases h0 with rfl | rfl <;> exact absurd h (by decide)
    · omega
    · omega
    · omega
    · omega
  refine ⟨w1, w2, w3, w4, w5, w6, fun b hb => ?_, w8, fun b => ?_, fun _ => ?_⟩
  · by_cases e : b = o ∨ (o + 1 ≤ b ∧ b < o + 1 + 42)
    · refine w7 b ?_
      rcases reg b e with z | ⟨t, h5, z⟩
      · rw [z]; decide
      · rw [z]; omega
    · by_cases e0 : b = 0
      · rw [e0] at hb; exact absurd t0' hb
      · refine w7 b (fun z => hb ?_)
        unfold gs_t at z ⊢
        rw [out _ _ _ e0 e]; exact z
  · by_cases e : b = o ∨ (o + 1 ≤ b ∧ b < o + 1 + 42)
    · exact vac b 31 (t31 b e) (Or.inr rfl)
    · by_cases e0 : b = 0
      · rw [e0]; exact vac 0 0 t0' (Or.inl rfl)
      · refine (w9 b).kept (fun F i => out F b i e0 e) rfl (fun _ => rfl) (fun _ _ e30 => ?_) okE
        have r0 : g_bk (jqF o S) b ≠ 0 := fun z => by rw [z, t0] at e30; cases e30
        have r1 : ¬ (g_bk (jqF o S) b = o ∨ (o + 1 ≤ g_bk (jqF o S) b ∧ g_bk (jqF o S) b < o + 1 + 42)) := fun z => by
          rcases reg _ z with y | ⟨t, h5, y⟩ <;> omega
        refine ⟨?_, ?_, rfl⟩
        · unfold gs_t; rw [out _ _ _ r0 r1]
        · rw [out _ _ _ r0 r1]
  · refine ⟨t31 o (Or.inl rfl), ?_, fun k hk ha => ⟨t31 _ ?_, ?_⟩, ?_, fun k hk ha => ?_⟩
    · show gm_N ((jqZ (o + 1) o (jqF o S)).1 6 o 0) = 100
      unfold jqZ
      dsimp only
      rw [if_neg (by omega), if_pos rfl, if_neg (by omega), if_pos ⟨rfl, rfl⟩]; rfl
    · have := (jql_at k hk ha).2.2
      show o + 1 + jqm k = o ∨ (o + 1 ≤ o + 1 + jqm k ∧ o + 1 + jqm k < o + 1 + 42)
      omega
    · have hq := (jql_at k hk ha).2
      show gm_N ((jqZ (o + 1) o (jqF o S)).1 6 (o + 1 + jqm k) 0) = k
      unfold jqZ
      dsimp only
      rw [if_neg (by omega), if_neg (by omega), if_pos (by omega), if_neg (by omega), if_pos ⟨rfl, rfl⟩, show o + 1 + jqm k - (o + 1) = jqm k by omega, hq.1]; rfl
    · refine ((w9 o).1 4 t4 rfl).to (fun k hk => ?_)
      have hk : k < 62 := hk
      show gm_V (tyX4 k) ((jqF o S).1 (400 + k) o 0) = if gx_arr k = true then .ref (o + 1 + jqm k) else gm_V (tyX4 k) ((jqZ (o + 1) o (jqF o S)).1 (400 + k) 0 0)
      by_cases ha : gx_arr k = true
      · rw [if_pos ha, (jqF_arr ho hk ha).1, hn]
        unfold gx_arr at ha
        split at ha
        · rename_i h; rw [h]; rfl
        · cases ha
      · have ha' : gx_arr k = false := by cases h : gx_arr k with
          | true => exact absurd h ha
          | false => rfl
        have e5 : (jqZ (o + 1) o (jqF o S)).1 (400 + k) 0 0 = jqM k 0 := congrFun (congrFun (jqZ_g (o + 1) o (jqF o S)) k) 0
        rw [if_neg ha, jqF_fld ho hk ha' hnul, e5]
        congr 1
        unfold jqM
        by_cases h67 : k = 6 ∨ k = 7
        · rw [if_pos h67, if_pos (by omega)]
        · rw [if_neg h67, if_neg (by omega)]
    · have hA := (jqF_arr ho hk ha).2
      rw [hn] at hA
      have ht' : gs_t (jqF o S) (o + 1 + jqm k) = 100 + gx_ak k := by unfold gs_t; rw [hA]; rfl
      have h9 := (w9 (o + 1 + jqm k)).2.1 (gx_ak k) ht' (by unfold gx_ak; split <;> omega)
      have h9 : H[o + 1 + jqm k]? = some (arrV (Aa (gx_ak k)) (gm_N ((jqF o S).1 1 (o + 1 + jqm k) 0)) (fun j => gm_V (ga_ty (gx_ak k)) ((jqF o S).1 2 (o + 1 + jqm k) j))) := h9
      show H[o + 1 + jqm k]? = some (arrV (Aa (gx_ak k)) (gx_al k) (fun j => gm_V (ga_ty (gx_ak k)) ((jqZ (o + 1) o (jqF o S)).1 (400 + k) 0 j)))
      rw [h9, hA]
      congr 2
      funext j
      rw [hA]
      congr 1
      have h6 : k ≠ 6 := fun z => by rw [z, jql_67.1] at ha; cases ha
      have h7 : k ≠ 7 := fun z => by rw [z, jql_67.2.1] at ha; cases ha
      have e5 : (jqZ (o + 1) o (jqF o S)).1 (400 + k) 0 j = jqM k j := congrFun (congrFun (jqZ_g (o + 1) o (jqF o S)) k) j
      rw [e5, if_neg (by omega), if_neg (by omega)]
      unfold jqM
      rw [if_neg (by omega)]
