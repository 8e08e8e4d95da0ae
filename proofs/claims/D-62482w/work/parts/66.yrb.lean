/-! LAYER 2: rows of longs stay (the law's own row 'out') -/
set_option maxRecDepth 100000
section HPA
def sI (S : gm_S) : Prop := ∀ a, gs_t S a ≠ 0 → a < gs_n S
def sP (S S' : gm_S) : Prop := sI S' ∧ ∀ a, gs_t S a = 104 → gs_t S' a = 104 ∧ S'.1 1 a 0 = S.1 1 a 0
def hp (f : gm_S → gR) : Prop := ∀ S o S', sI S → f S = some (o, S') → sP S S'
def ho (e : gm_S → Option gm_S) : Prop := ∀ S S', sI S → e S = some S' → sP S S'
theorem sP.refl {S : gm_S} (h : sI S) : sP S S := ⟨h, fun _ q => ⟨q, rfl⟩⟩
theorem sP.trans {S S' S'' : gm_S} (h : sP S S') (h' : sP S' S'') : sP S S'' := ⟨h'.1, fun a q => ⟨(h'.2 a (h.2 a q).1).1, ((h'.2 a (h.2 a q).1).2).trans (h.2 a q).2⟩⟩
theorem hp_ret {o : gm_S → Outcome} : hp (fun S => some (o S, S)) := fun S o' S' hi h => by
  cases h; exact sP.refl hi
theorem hp_none : hp (fun _ => none) := fun S o S' _ h => by cases h
theorem hp_q {e : gm_S → Option Nat} {f : gm_S → gR} (h : hp f) : hp (fun S => gz_q (e S) (f S)) := fun S o S' hi w => by
  obtain ⟨a, -, w2⟩ := gz_q_s w
  exact h S o S' hi w2
theorem hp_cV {f : gm_S → gR} {k : gm_S → gm_S → gR} (h : hp f) (hk : ∀ S0, hp (k S0)) : hp (fun S => gz_cV (f S) (k S)) := fun S o S' hi w => by
  rcases gz_cV_s w with ⟨S1, w1, w2⟩ | ⟨a, S1, w1, w2⟩
  · have p1 := h S _ S1 hi w1
    exact p1.trans (hk S S1 o S' p1.1 w2)
  · cases w2; exact h S _ _ hi w1
theorem hp_cI {f : gm_S → gR} {k : gm_S → Int32 → gm_S → gR} (h : hp f) (hk : ∀ S0 v, hp (k S0 v)) : hp (fun S => gz_cI (f S) (k S)) := fun S o S' hi w => by
  rcases gz_cI_s w with ⟨v, S1, w1, w2⟩ | ⟨a, S1, w1, w2⟩
  · have p1 := h S _ S1 hi w1
    exact p1.trans (hk S v S1 o S' p1.1 w2)
  · cases w2; exact h S _ _ hi w1
theorem hp_cD {f : gm_S → gR} {k : gm_S → UInt64 → gm_S → gR} (h : hp f) (hk : ∀ S0 v, hp (k S0 v)) : hp (fun S => gz_cD (f S) (k S)) := fun S o S' hi w => by
  rcases gz_cD_s w with ⟨v, S1, w1, w2⟩ | ⟨a, S1, w1, w2⟩
  · have p1 := h S _ S1 hi w1
    exact p1.trans (hk S v S1 o S' p1.1 w2)
  · cases w2; exact h S _ _ hi w1
theorem hp_cR {f : gm_S → gR} {k : gm_S → Option Nat → gm_S → gR} (h : hp f) (hk : ∀ S0 v, hp (k S0 v)) : hp (fun S => gz_cR (f S) (k S)) := fun S o S' hi w => by
  rcases gz_cR_s w with ⟨v, S1, w1, w2⟩ | ⟨a, S1, w1, w2⟩
  · have p1 := h S _ S1 hi w1
    exact p1.trans (hk S v S1 o S' p1.1 w2)
  · cases w2; exact h S _ _ hi w1
theorem hp_tI {f : gm_S → gR} {k : gm_S → Int32 → gm_S → gR} {t : gm_S → Nat → gm_S → gR} (h : hp f) (hk : ∀ S0 v, hp (k S0 v)) (ht : ∀ S0 v, hp (t S0 v)) : hp (fun S => gz_tI (f S) (k S) (t S)) := fun S o S' hi w => by
  rcases gz_tI_s w with ⟨v, S1, w1, w2⟩ | ⟨a, S1, w1, w2⟩
  · have p1 := h S _ S1 hi w1
    exact p1.trans (hk S v S1 o S' p1.1 w2)
  · have p1 := h S _ S1 hi w1
    exact p1.trans (ht S a S1 o S' p1.1 w2)
theorem hp_tR {f : gm_S → gR} {k : gm_S → Option Nat → gm_S → gR} {t : gm_S → Nat → gm_S → gR} (h : hp f) (hk : ∀ S0 v, hp (k S0 v)) (ht : ∀ S0 v, hp (t S0 v)) : hp (fun S => gz_tR (f S) (k S) (t S)) := fun S o S' hi w => by
  rcases gz_tR_s w with ⟨v, S1, w1, w2⟩ | ⟨a, S1, w1, w2⟩
  · have p1 := h S _ S1 hi w1
    exact p1.trans (hk S v S1 o S' p1.1 w2)
  · have p1 := h S _ S1 hi w1
    exact p1.trans (ht S a S1 o S' p1.1 w2)
theorem hp_ite {c : gm_S → Prop} {d : ∀ S, Decidable (c S)} {f g : gm_S → gR} (hf : hp f) (hg : hp g) : hp (fun S => @ite gR (c S) (d S) (f S) (g S)) := fun S o S' hi w => by
  by_cases q : c S
  · dsimp only at w; rw [if_pos q] at w; exact hf S o S' hi w
  · dsimp only at w; rw [if_neg q] at w; exact hg S o S' hi w
theorem hp_bind {α : Type} {e : gm_S → Option α} {k : α → gm_S → gR} (h : ∀ v, hp (k v)) : hp (fun S => Option.bind (e S) fun v => k v S) := fun S o S' hi w => by
  obtain ⟨v, -, w2⟩ := g_bind w
  exact h v S o S' hi w2
theorem hp_bput {e : gm_S → Option gm_S} {k : gm_S → gm_S → gR} (he : ho e) (h : ∀ S0, hp (k S0)) : hp (fun S => Option.bind (e S) (k S)) := fun S o S' hi w => by
  obtain ⟨S1, w1, w2⟩ := g_bind w
  have p1 := he S S1 hi w1
  exact p1.trans (h S S1 o S' p1.1 w2)
theorem hp_bpair {e : gm_S → Option (Nat × gm_S)} {k : gm_S → Nat × gm_S → gR} (he : ∀ S q, sI S → e S = some q → sP S q.2) (h : ∀ S0 a, hp (fun S => k S0 (a, S))) : hp (fun S => Option.bind (e S) (k S)) := fun S o S' hi w => by
  obtain ⟨q, w1, w2⟩ := g_bind w
  have p1 := he S q hi w1
  exact p1.trans (h S q.1 q.2 o S' p1.1 w2)
/-! stores -/
theorem sP_put {S : gm_S} (hi : sI S) {F a i : Nat} {v : Value} (h0 : F ≠ 0) (h1 : F ≠ 1) : sP S (gs_put S F a i v) := ⟨fun b q => hi b (by rw [y_pt h0] at q; exact q), fun b q => ⟨(y_pt h0).trans q, y_pM (by omega)⟩⟩
theorem sP_lst {S : gm_S} (hi : sI S) {a : Nat} {l : List Nat} : sP S (gs_L S a l) := ⟨hi, fun _ q => ⟨q, rfl⟩⟩
theorem sP_mk {S : gm_S} (hi : sI S) {t w : Nat} : sP S (g_mk S t w) := by
  refine ⟨fun b q => ?_, fun b q => ?_⟩
  · show b < gs_n S + 1
    by_cases e : b = gs_n S
    · omega
    · have := hi b (by rw [y_mkt e] at q; exact q)
      omega
  · have := hi b (by rw [q]; decide)
    exact ⟨(y_mkt (by omega)).trans q, y_mkM (by omega)⟩
theorem ho_of {e : gm_S → Option gm_S} (h : ∀ S S', sI S → e S = some S' → ∃ F a i v, F ≠ 0 ∧ F ≠ 1 ∧ S' = gs_put S F a i v) : ho e := fun S S' hi w => by
  obtain ⟨F, a, i, v, h0, h1, e'⟩ := h S S' hi w
  rw [e']; exact sP_put hi h0 h1
theorem hq_pI {r : gm_S → Option Nat} {t k : Nat} {v : gm_S → Int32} (ht : t ≠ 0) : ho (fun S => g_pI S (r S) t k (v S)) := ho_of (fun S S' _ w => by
  obtain ⟨a, -, w2⟩ := g_map w
  exact ⟨_, a, 0, _, by omega, by omega, w2.symm⟩)
theorem hq_pZ {r : gm_S → Option Nat} {t k : Nat} {v : gm_S → Int32} (ht : t ≠ 0) : ho (fun S => g_pZ S (r S) t k (v S)) := fun S S' hi w => hq_pI (r := r) (v := v) ht S S' hi (g_ifs w).2
theorem hq_pC {r : gm_S → Option Nat} {t k : Nat} {v : gm_S → Int32} (ht : t ≠ 0) : ho (fun S => g_pC S (r S) t k (v S)) := fun S S' hi w => hq_pI (r := r) (v := v) ht S S' hi (g_ifs w).2
theorem hq_pR {r v : gm_S → Option Nat} {t k : Nat} (ht : t ≠ 0) : ho (fun S => g_pR S (r S) t k (v S)) := ho_of (fun S S' _ w => by
  obtain ⟨a, -, w2⟩ := g_map w
  exact ⟨_, a, 0, _, by omega, by omega, w2.symm⟩)
theorem hq_pD {r : gm_S → Option Nat} {t k : Nat} {v : gm_S → UInt64} (ht : t ≠ 0) : ho (fun S => g_pD S (r S) t k (v S)) := ho_of (fun S S' _ w => by
  obtain ⟨a, -, w2⟩ := g_map w
  exact ⟨_, a, 0, _, by omega, by omega, w2.symm⟩)
theorem hq_as {r : gm_S → Option Nat} {t : Nat} {i : gm_S → Int32} {v : gm_S → Value} : ho (fun S => g_as S (r S) t (i S) (v S)) := ho_of (fun S S' _ w => by
  obtain ⟨a, -, w2⟩ := g_bind w
  obtain ⟨-, w3⟩ := g_ifs w2
  exact ⟨2, a, _, _, by omega, by omega, (Option.some.inj w3).symm⟩)
theorem hq_sI {r : gm_S → Option Nat} {t : Nat} {i v : gm_S → Int32} : ho (fun S => g_sI S (r S) t (i S) (v S)) := hq_as (v := fun S => .int (v S))
theorem hq_sC {r : gm_S → Option Nat} {i v : gm_S → Int32} : ho (fun S => g_sC S (r S) (i S) (v S)) := fun S S' hi w => hq_as (r := r) (t := 1) (i := i) (v := fun S => .int (v S)) S S' hi (g_ifs w).2
theorem hq_sD {r : gm_S → Option Nat} {i : gm_S → Int32} {v : gm_S → UInt64} : ho (fun S => g_sD S (r S) (i S) (v S)) := hq_as (t := 2) (v := fun S => .double (v S))
theorem hq_lclr {r : gm_S → Option Nat} : ho (fun S => g_lclr S (r S)) := fun S S' hi w => by
  obtain ⟨a, -, w2⟩ := g_map w
  rw [← w2]; exact sP_lst hi
theorem hq_lnew {r : gm_S → Option Nat} : ho (fun S => g_lnew S (r S)) := fun S S' hi w => by
  obtain ⟨a, w1, w2⟩ := g_map w
  obtain ⟨-, ta⟩ := g_at_s w1
  rw [← w2]
  refine ⟨fun b q => ?_, fun b q => ?_⟩
  · show b < gs_n S
    by_cases e : b = a
    · exact hi b (by rw [e, ta]; decide)
    · refine hi b (fun z => q ?_)
      show gm_N (gm_st S.1 0 a 0 (.ref 16) 0 b 0) = 0
      rw [gm_st_a e]; exact z
  · have e : b ≠ a := fun z => by rw [z, ta] at q; cases q
    refine ⟨?_, ?_⟩
    · show gm_N (gm_st S.1 0 a 0 (.ref 16) 0 b 0) = 104
      rw [gm_st_a e]; exact q
    · show gm_st S.1 0 a 0 (.ref 16) 1 b 0 = _
      rw [gm_st_a e]
theorem hq_ladd {r v : gm_S → Option Nat} : ho (fun S => g_ladd S (r S) (v S)) := fun S S' hi w => by
  obtain ⟨a, w1, w2⟩ := g_bind w
  obtain ⟨x, -, w3⟩ := g_bind w2
  obtain ⟨-, w4⟩ := g_ifs w3
  obtain ⟨-, w5⟩ := g_ifs w4
  by_cases q : (S.2.1 a).length = g_cap S a
  · rw [if_pos q] at w5
    obtain ⟨S1, w6, w7⟩ := g_map w5
    unfold g_grow at w6
    obtain ⟨-, w8⟩ := g_ifs w6
    have e := Option.some.inj w8
    rw [← w7, ← e]
    have p1 := sP_mk hi (t := 30) (w := if g_cap S a = 0 then 10 else g_cap S a + g_cap S a / 2)
    have p2 := p1.trans (sP_put p1.1 (F := 5) (a := gs_n S) (i := 0) (v := .ref a) (by decide) (by decide))
    have p3 := p2.trans (sP_put p2.1 (F := 3) (a := a) (i := 0) (v := .ref (if g_cap S a = 0 then 10 else g_cap S a + g_cap S a / 2)) (by decide) (by decide))
    have p4 := p3.trans (sP_put p3.1 (F := 4) (a := a) (i := 0) (v := .ref (gs_n S)) (by decide) (by decide))
    exact p4.trans (sP_lst p4.1)
  · rw [if_neg q] at w5
    rw [← Option.some.inj w5]; exact sP_lst hi
theorem hq_new {t w : Nat} : ∀ S q, sI S → g_new S t w = some q → sP S q.2 := fun S q hi h => by
  unfold g_new at h
  obtain ⟨-, h2⟩ := g_ifs h
  rw [← Option.some.inj h2]; exact sP_mk hi
theorem hq_lrem {r : gm_S → Option Nat} {i : gm_S → Int32} : ∀ S q, sI S → g_lrem S (r S) (i S) = some q → sP S q.2 := fun S q hi h => by
  obtain ⟨a, -, w2⟩ := g_bind h
  obtain ⟨-, w3⟩ := g_ifs w2
  obtain ⟨x, -, w4⟩ := g_map w3
  rw [← w4]; exact sP_lst hi
end HPA
