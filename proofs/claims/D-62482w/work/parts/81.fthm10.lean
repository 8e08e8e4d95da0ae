/-! LAYER 1 (printed): contracts -/
set_option maxRecDepth 100000
abbrev B_X4_readTransition (l : Launch) (d0 : Nat) (G : gG) (S0 : gm_S) : Nat → List (Nat × Value) → List Value → gm_S → Outcome → gm_S → Prop := gz_B l RX4 "readTransition" cX4_readTransition 4 (Option.none : Option Jvm.ClassFile.FieldType) [] d0 G S0
theorem T_X4_readTransition_210 {l : Launch} {G : gG} {S0 S : gm_S} {d0 fu : Nat} {r : Outcome × gM} (hf : gg_f G = true) (hD : 7 ≤ d0) {x3 : Int32} {M : gM} (h : F_X4_readTransition_210 fu x3 M = some r) : B_X4_readTransition l d0 G S0 210 [(0, va_rf (some (gg_o G))), (3, .int x3)] [] (gm_w S M) r.1 (gm_w S r.2) := by
  unfold F_X4_readTransition_210 at h
  intro p e s m args below meth c H locs cells slots ls cx hnm hex hI hl
  have hx := cx.1
  have hb := cx.2.1
  have hown := cx.2.2.2.1
  have hts := cx.2.2.2.2.1
  have hK := cx.2.2.2.2.2.1
  refine gr_aload_n hx hb (some (gg_o G)) dX4_readTransition_210 rfl (lv_at hl 0 rfl) ?_
  refine lv_bipush hx hb dX4_readTransition_211 gz_bp_47 ?_
  refine C_X4_takes hf cx (gz_nh hex) hI (Or.inl (hts _ q1216)) hl.1 (gz_cs (Nat.le_of_ble_eq_true rfl)) (by omega) dX4_readTransition_213 h (fun v1 M1 h H locs cells slots hI => ?_)
  refine lv_if_eq (tgt := 224) hx hb dX4_readTransition_216 rfl (fun hc => ?_) (fun hc => ?_)
  · have h := gz_t h hc
    cases h
    exact gr_vret cx hI dX4_readTransition_224
  · have h := gz_f h hc
    refine gr_aload_n hx hb (some (gg_o G)) dX4_readTransition_219 rfl (lv_at hl 0 rfl) ?_
    refine lv_iload_n hx hb dX4_readTransition_220 rfl (lv_at hl 1 rfl) ?_
    refine C_X4_readActions hf cx (gz_nh hex) hI (Or.inl (hts _ q1224)) hl.1 (gz_cs (Nat.le_of_ble_eq_true rfl)) (by omega) dX4_readTransition_221 h (fun M2 h H locs cells slots hI => ?_)
    cases h
    exact gr_vret cx hI dX4_readTransition_224
theorem T_X4_readTransition_154 {l : Launch} {G : gG} {S0 S : gm_S} {d0 fu : Nat} {r : Outcome × gM} (hf : gg_f G = true) (hD : 7 ≤ d0) {x2 : Int32} {x3 : Int32} {M : gM} (h : F_X4_readTransition_154 fu x2 x3 M = some r) : B_X4_readTransition l d0 G S0 154 [(0, va_rf (some (gg_o G))), (2, .int x2), (3, .int x3)] [] (gm_w S M) r.1 (gm_w S r.2) := by
  unfold F_X4_readTransition_154 at h
  intro p e s m args below meth c H locs cells slots ls cx hnm hex hI hl
  have hx := cx.1
  have hb := cx.2.1
  have hown := cx.2.2.2.1
  have hts := cx.2.2.2.2.1
  have hK := cx.2.2.2.2.2.1
  refine gr_aload_n hx hb (some (gg_o G)) dX4_readTransition_154 rfl (lv_at hl 0 rfl) ?_
  refine gr_mgA cx hf hI 21 rfl rfl (Or.inl (hts _ q1013)) dX4_readTransition_155 ?_
  refine lv_iload_n hx hb dX4_readTransition_158 rfl (lv_at hl 1 rfl) ?_
  refine lv_bipush hx hb dX4_readTransition_159 gz_bp_64 ?_
  refine gr_aload_n hx hb (some (gg_o G)) dX4_readTransition_161 rfl (lv_at hl 0 rfl) ?_
  refine nr_gI cx hf hI 8 rfl (fun _ => rfl) rfl (Or.inl (hts _ q1000)) dX4_readTransition_162 ?_
  refine lv_imul hx hb dX4_readTransition_165 ?_
  refine gr_aload_n hx hb (some (gg_o G)) dX4_readTransition_166 rfl (lv_at hl 0 rfl) ?_
  refine gr_mgA cx hf hI 11 rfl rfl (Or.inl (hts _ q1003)) dX4_readTransition_167 ?_
  refine gr_aload_n hx hb (some (gg_o G)) dX4_readTransition_170 rfl (lv_at hl 0 rfl) ?_
  refine nr_gI cx hf hI 8 rfl (fun _ => rfl) rfl (Or.inl (hts _ q1000)) dX4_readTransition_171 ?_
  obtain ⟨v5, e5, h⟩ := g_bind h
  refine gr_miald cx hf hI 11 rfl rfl rfl (nr_aI e5) dX4_readTransition_174 ?_
  refine lv_iadd hx hb dX4_readTransition_175 ?_
  obtain ⟨M6, e6, h⟩ := g_bind h
  refine gr_miast cx hf hI 21 rfl rfl rfl (nr_sI e6) dX4_readTransition_176 (fun H locs hI => ?_)
  refine gr_aload_n hx hb (some (gg_o G)) dX4_readTransition_177 rfl (lv_at hl 0 rfl) ?_
  refine lv_bipush hx hb dX4_readTransition_178 gz_bp_62 ?_
  refine C_X4_take hf cx (gz_nh hex) hI (Or.inl (hts _ q1249)) hl.1 (gz_cs (Nat.le_of_ble_eq_true rfl)) (by omega) dX4_readTransition_180 h (fun M7 h H locs cells slots hI => ?_)
  refine gr_aload_n hx hb (some (gg_o G)) dX4_readTransition_183 rfl (lv_at hl 0 rfl) ?_
  refine gr_mgA cx hf hI 22 rfl rfl (Or.inl (hts _ q1014)) dX4_readTransition_184 ?_
  refine lv_iload_n hx hb dX4_readTransition_187 rfl (lv_at hl 1 rfl) ?_
  refine lv_iconst hx hb dX4_readTransition_188 gz_ic_m1 ?_
  obtain ⟨M9, e9, h⟩ := g_bind h
  refine gr_miast cx hf hI 22 rfl rfl rfl (nr_sI e9) dX4_readTransition_189 (fun H locs hI => ?_)
  refine gr_aload_n hx hb (some (gg_o G)) dX4_readTransition_190 rfl (lv_at hl 0 rfl) ?_
  refine lv_bipush hx hb dX4_readTransition_191 gz_bp_33 ?_
  refine C_X4_takes hf cx (gz_nh hex) hI (Or.inl (hts _ q1216)) hl.1 (gz_cs (Nat.le_of_ble_eq_true rfl)) (by omega) dX4_readTransition_193 h (fun v10 M10 h H locs cells slots hI => ?_)
  refine lv_if_ne (tgt := 210) hx hb dX4_readTransition_196 rfl (fun hc => ?_) (fun hc => ?_)
  · have h := gz_f h hc
    exact T_X4_readTransition_210 hf hD h p e s m args below meth c H locs cells slots ls cx hnm hex hI (lv_sub hl [0, 2] rfl)
  · have h := gz_t h hc
    refine gr_aload_n hx hb (some (gg_o G)) dX4_readTransition_199 rfl (lv_at hl 0 rfl) ?_
    refine gr_mgA cx hf hI 22 rfl rfl (Or.inl (hts _ q1014)) dX4_readTransition_200 ?_
    refine lv_iload_n hx hb dX4_readTransition_203 rfl (lv_at hl 1 rfl) ?_
    refine gr_aload_n hx hb (some (gg_o G)) dX4_readTransition_204 rfl (lv_at hl 0 rfl) ?_
    refine lv_iconst hx hb dX4_readTransition_205 gz_ic_1 ?_
    refine C_X4_readName hf cx (gz_nh hex) hI (Or.inl (hts _ q1245)) hl.1 (gz_cs (Nat.le_of_ble_eq_true rfl)) (by omega) dX4_readTransition_206 h (fun v12 M12 h H locs cells slots hI => ?_)
    obtain ⟨M13, e13, h⟩ := g_bind h
    refine gr_miast cx hf hI 22 rfl rfl rfl (nr_sI e13) dX4_readTransition_209 (fun H locs hI => ?_)
    exact T_X4_readTransition_210 hf hD h p e s m args below meth c H locs cells slots ls cx hnm hex hI (lv_sub hl [0, 2] rfl)
theorem T_X4_readTransition_141 {l : Launch} {G : gG} {S0 S : gm_S} {d0 fu : Nat} {r : Outcome × gM} (hf : gg_f G = true) (hD : 7 ≤ d0) : ∀ (n : Nat) (x2 : Int32) (x3 : Int32) (M : gM), F_X4_readTransition_141 fu n x2 x3 M = some r → B_X4_readTransition l d0 G S0 141 [(0, va_rf (some (gg_o G))), (2, .int x2), (3, .int x3)] [] (gm_w S M) r.1 (gm_w S r.2) := by
  intro n
  induction n with
  | zero => intro x2 x3 M h; exact nomatch (show (none : gQ) = some r from h)
  | succ n ih =>
    intro x2 x3 M h
    rw [F_X4_readTransition_141] at h
    intro p e s m args below meth c H locs cells slots ls cx hnm hex hI hl
    have hx := cx.1
    have hb := cx.2.1
    have hown := cx.2.2.2.1
    have hts := cx.2.2.2.2.1
    have hK := cx.2.2.2.2.2.1
    refine gr_aload_n hx hb (some (gg_o G)) dX4_readTransition_141 rfl (lv_at hl 0 rfl) ?_
    refine C_X4_readTest hf cx (gz_nh hex) hI (Or.inl (hts _ q1241)) hl.1 (gz_cs (Nat.le_of_ble_eq_true rfl)) (by omega) dX4_readTransition_142 h (fun M1 h H locs cells slots hI => ?_)
    refine gr_aload_n hx hb (some (gg_o G)) dX4_readTransition_145 rfl (lv_at hl 0 rfl) ?_
    refine lv_bipush hx hb dX4_readTransition_146 gz_bp_38 ?_
    refine C_X4_takes hf cx (gz_nh hex) hI (Or.inl (hts _ q1216)) hl.1 (gz_cs (Nat.le_of_ble_eq_true rfl)) (by omega) dX4_readTransition_148 h (fun v2 M2 h H locs cells slots hI => ?_)
    refine lv_if_ne (tgt := 141) hx hb dX4_readTransition_151 rfl (fun hc => ?_) (fun hc => ?_)
    · have h := gz_f h hc
      exact ih _ _ _ h p e s m args below meth c H locs cells slots ls cx hnm hex hI hl
    · have h := gz_t h hc
      exact T_X4_readTransition_154 hf hD h p e s m args below meth c H locs cells slots ls cx hnm hex hI hl
theorem T_X4_readTransition_40 {l : Launch} {G : gG} {S0 S : gm_S} {d0 fu : Nat} {r : Outcome × gM} (hf : gg_f G = true) (hD : 7 ≤ d0) {x1 : Int32} {s0 : Int32} {M : gM} (h : F_X4_readTransition_40 fu x1 s0 M = some r) : B_X4_readTransition l d0 G S0 40 [(0, va_rf (some (gg_o G))), (1, .int x1)] [.int s0, va_rf (some (gg_o G))] (gm_w S M) r.1 (gm_w S r.2) := by
  unfold F_X4_readTransition_40 at h
  intro p e s m args below meth c H locs cells slots ls cx hnm hex hI hl
  have hx := cx.1
  have hb := cx.2.1
  have hown := cx.2.2.2.1
  have hts := cx.2.2.2.2.1
  have hK := cx.2.2.2.2.2.1
  refine C_X4_want hf cx (gz_nh hex) hI (Or.inl (hts _ q1208)) hl.1 (gz_cs (Nat.le_of_ble_eq_true rfl)) (by omega) dX4_readTransition_40 h (fun M1 h H locs cells slots hI => ?_)
  refine lv_bipush hx hb dX4_readTransition_43 gz_bp_24 ?_
  refine gr_aload_n hx hb (some (gg_o G)) dX4_readTransition_45 rfl (lv_at hl 0 rfl) ?_
  refine nr_gI cx hf hI 8 rfl (fun _ => rfl) rfl (Or.inl (hts _ q1000)) dX4_readTransition_46 ?_
  refine lv_imul hx hb dX4_readTransition_49 ?_
  refine gr_aload_n hx hb (some (gg_o G)) dX4_readTransition_50 rfl (lv_at hl 0 rfl) ?_
  refine gr_mgA cx hf hI 10 rfl rfl (Or.inl (hts _ q1002)) dX4_readTransition_51 ?_
  refine gr_aload_n hx hb (some (gg_o G)) dX4_readTransition_54 rfl (lv_at hl 0 rfl) ?_
  refine nr_gI cx hf hI 8 rfl (fun _ => rfl) rfl (Or.inl (hts _ q1000)) dX4_readTransition_55 ?_
  obtain ⟨v5, e5, h⟩ := g_bind h
  refine gr_miald cx hf hI 10 rfl rfl rfl (nr_aI e5) dX4_readTransition_58 ?_
  refine lv_iadd hx hb dX4_readTransition_59 ?_
  refine gz_istore_n hx hb dX4_readTransition_60 rfl hl (by decide) [0, 1] rfl (gz_con ⟨gz_ne rfl, Or.inl (gz_ne rfl)⟩ (gz_con ⟨gz_ne rfl, Or.inr rfl⟩ gz_nil)) (fun ls hl => ?_)
  refine gr_aload_n hx hb (some (gg_o G)) dX4_readTransition_61 rfl (lv_at hl 1 rfl) ?_
  refine nr_gI cx hf hI 5 rfl (fun _ => rfl) rfl (Or.inl (hts _ q997)) dX4_readTransition_62 ?_
  refine lv_if_eq (tgt := 69) hx hb dX4_readTransition_65 rfl (fun hc => ?_) (fun hc => ?_)
  · have h := gz_t h hc
    refine gr_aload_n hx hb (some (gg_o G)) dX4_readTransition_69 rfl (lv_at hl 1 rfl) ?_
    refine gr_mgA cx hf hI 10 rfl rfl (Or.inl (hts _ q1002)) dX4_readTransition_70 ?_
    refine gr_aload_n hx hb (some (gg_o G)) dX4_readTransition_73 rfl (lv_at hl 1 rfl) ?_
    refine nr_gI cx hf hI 8 rfl (fun _ => rfl) rfl (Or.inl (hts _ q1000)) dX4_readTransition_74 ?_
    obtain ⟨v9, e9, h⟩ := g_bind h
    refine gr_miald cx hf hI 10 rfl rfl rfl (nr_aI e9) dX4_readTransition_77 ?_
    refine gz_istore_n hx hb dX4_readTransition_78 rfl hl (by decide) [0, 1, 2] rfl (gz_con ⟨gz_ne rfl, Or.inr rfl⟩ (gz_con ⟨gz_ne rfl, Or.inl (gz_ne rfl)⟩ (gz_con ⟨gz_ne rfl, Or.inl (gz_ne rfl)⟩ gz_nil))) (fun ls hl => ?_)
    refine gr_aload_n hx hb (some (gg_o G)) dX4_readTransition_79 rfl (lv_at hl 2 rfl) ?_
    refine gr_mgA cx hf hI 10 rfl rfl (Or.inl (hts _ q1002)) dX4_readTransition_80 ?_
    refine gr_aload_n hx hb (some (gg_o G)) dX4_readTransition_83 rfl (lv_at hl 2 rfl) ?_
    refine nr_gI cx hf hI 8 rfl (fun _ => rfl) rfl (Or.inl (hts _ q1000)) dX4_readTransition_84 ?_
    refine lv_dup2_11 hx hb dX4_readTransition_87 rfl (gl_cat (some (gg_m G 10))) ?_
    obtain ⟨v12, e12, h⟩ := g_bind h
    refine gr_miald cx hf hI 10 rfl rfl rfl (nr_aI e12) dX4_readTransition_88 ?_
    refine lv_iconst hx hb dX4_readTransition_89 gz_ic_1 ?_
    refine lv_iadd hx hb dX4_readTransition_90 ?_
    obtain ⟨M13, e13, h⟩ := g_bind h
    refine gr_miast cx hf hI 10 rfl rfl rfl (nr_sI e13) dX4_readTransition_91 (fun H locs hI => ?_)
    refine gr_aload_n hx hb (some (gg_o G)) dX4_readTransition_92 rfl (lv_at hl 2 rfl) ?_
    refine gr_mgA cx hf hI 18 rfl rfl (Or.inl (hts _ q1010)) dX4_readTransition_93 ?_
    refine lv_iload_n hx hb dX4_readTransition_96 rfl (lv_at hl 1 rfl) ?_
    refine lv_iload_n hx hb dX4_readTransition_97 rfl (lv_at hl 3 rfl) ?_
    obtain ⟨M15, e15, h⟩ := g_bind h
    refine gr_miast cx hf hI 18 rfl rfl rfl (nr_sI e15) dX4_readTransition_98 (fun H locs hI => ?_)
    refine gr_aload_n hx hb (some (gg_o G)) dX4_readTransition_99 rfl (lv_at hl 2 rfl) ?_
    refine gr_mgA cx hf hI 19 rfl rfl (Or.inl (hts _ q1011)) dX4_readTransition_100 ?_
    refine lv_iload_n hx hb dX4_readTransition_103 rfl (lv_at hl 1 rfl) ?_
    refine gr_aload_n hx hb (some (gg_o G)) dX4_readTransition_104 rfl (lv_at hl 2 rfl) ?_
    refine C_X4_next hf cx (gz_nh hex) hI (Or.inl (hts _ q1212)) hl.1 (gz_cs (Nat.le_of_ble_eq_true rfl)) (by omega) dX4_readTransition_105 h (fun v17 M17 h H locs cells slots hI => ?_)
    obtain ⟨M18, e18, h⟩ := g_bind h
    refine gr_miast cx hf hI 19 rfl rfl rfl (nr_sI e18) dX4_readTransition_108 (fun H locs hI => ?_)
    refine gr_aload_n hx hb (some (gg_o G)) dX4_readTransition_109 rfl (lv_at hl 2 rfl) ?_
    refine gr_mgA cx hf hI 20 rfl rfl (Or.inl (hts _ q1012)) dX4_readTransition_110 ?_
    refine lv_iload_n hx hb dX4_readTransition_113 rfl (lv_at hl 1 rfl) ?_
    refine lv_bipush hx hb dX4_readTransition_114 gz_bp_64 ?_
    refine gr_aload_n hx hb (some (gg_o G)) dX4_readTransition_116 rfl (lv_at hl 2 rfl) ?_
    refine nr_gI cx hf hI 8 rfl (fun _ => rfl) rfl (Or.inl (hts _ q1000)) dX4_readTransition_117 ?_
    refine lv_imul hx hb dX4_readTransition_120 ?_
    refine gr_aload_n hx hb (some (gg_o G)) dX4_readTransition_121 rfl (lv_at hl 2 rfl) ?_
    refine gr_mgA cx hf hI 11 rfl rfl (Or.inl (hts _ q1003)) dX4_readTransition_122 ?_
    refine gr_aload_n hx hb (some (gg_o G)) dX4_readTransition_125 rfl (lv_at hl 2 rfl) ?_
    refine nr_gI cx hf hI 8 rfl (fun _ => rfl) rfl (Or.inl (hts _ q1000)) dX4_readTransition_126 ?_
    obtain ⟨v23, e23, h⟩ := g_bind h
    refine gr_miald cx hf hI 11 rfl rfl rfl (nr_aI e23) dX4_readTransition_129 ?_
    refine lv_iadd hx hb dX4_readTransition_130 ?_
    obtain ⟨M24, e24, h⟩ := g_bind h
    refine gr_miast cx hf hI 20 rfl rfl rfl (nr_sI e24) dX4_readTransition_131 (fun H locs hI => ?_)
    refine gr_aload_n hx hb (some (gg_o G)) dX4_readTransition_132 rfl (lv_at hl 2 rfl) ?_
    refine lv_bipush hx hb dX4_readTransition_133 gz_bp_63 ?_
    refine C_X4_takes hf cx (gz_nh hex) hI (Or.inl (hts _ q1216)) hl.1 (gz_cs (Nat.le_of_ble_eq_true rfl)) (by omega) dX4_readTransition_135 h (fun v25 M25 h H locs cells slots hI => ?_)
    refine lv_if_eq (tgt := 154) hx hb dX4_readTransition_138 rfl (fun hc => ?_) (fun hc => ?_)
    · have h := gz_t h hc
      exact T_X4_readTransition_154 hf hD h p e s m args below meth c H locs cells slots ls cx hnm hex hI (lv_sub hl [2, 1, 0] rfl)
    · have h := gz_f h hc
      exact T_X4_readTransition_141 hf hD fu _ _ _ h p e s m args below meth c H locs cells slots ls cx hnm hex hI (lv_sub hl [2, 1, 0] rfl)
  · have h := gz_f h hc
    cases h
    exact gr_vret cx hI dX4_readTransition_68
theorem T_X4_readTransition_21 {l : Launch} {G : gG} {S0 S : gm_S} {d0 fu : Nat} {r : Outcome × gM} (hf : gg_f G = true) (hD : 7 ≤ d0) {x1 : Int32} {M : gM} (h : F_X4_readTransition_21 fu x1 M = some r) : B_X4_readTransition l d0 G S0 21 [(0, va_rf (some (gg_o G))), (1, .int x1)] [va_rf (some (gg_o G))] (gm_w S M) r.1 (gm_w S r.2) := by
  unfold F_X4_readTransition_21 at h
  intro p e s m args below meth c H locs cells slots ls cx hnm hex hI hl
  have hx := cx.1
  have hb := cx.2.1
  have hown := cx.2.2.2.1
  have hts := cx.2.2.2.2.1
  have hK := cx.2.2.2.2.2.1
  refine gr_aload_n hx hb (some (gg_o G)) dX4_readTransition_21 rfl (lv_at hl 0 rfl) ?_
  refine gr_mgA cx hf hI 10 rfl rfl (Or.inl (hts _ q1002)) dX4_readTransition_22 ?_
  refine gr_aload_n hx hb (some (gg_o G)) dX4_readTransition_25 rfl (lv_at hl 0 rfl) ?_
  refine nr_gI cx hf hI 8 rfl (fun _ => rfl) rfl (Or.inl (hts _ q1000)) dX4_readTransition_26 ?_
  obtain ⟨v3, e3, h⟩ := g_bind h
  refine gr_miald cx hf hI 10 rfl rfl rfl (nr_aI e3) dX4_readTransition_29 ?_
  refine lv_bipush hx hb dX4_readTransition_30 gz_bp_24 ?_
  refine lv_icmp_ge (tgt := 39) hx hb dX4_readTransition_32 rfl (fun hc => ?_) (fun hc => ?_)
  · have h := gz_t h hc
    refine lv_iconst hx hb dX4_readTransition_39 gz_ic_0 ?_
    exact T_X4_readTransition_40 hf hD h p e s m args below meth c H locs cells slots ls cx hnm hex hI hl
  · have h := gz_f h hc
    refine lv_iconst hx hb dX4_readTransition_35 gz_ic_1 ?_
    refine lv_goto (tgt := 40) hx hb dX4_readTransition_36 rfl ?_
    exact T_X4_readTransition_40 hf hD h p e s m args below meth c H locs cells slots ls cx hnm hex hI hl
theorem T_X4_readTransition {l : Launch} {G : gG} {S0 S : gm_S} {d0 fu : Nat} {r : Outcome × gM} (hf : gg_f G = true) (hD : 7 ≤ d0) {x1 : Int32} {M : gM} (h : F_X4_readTransition fu x1 M = some r) : B_X4_readTransition l d0 G S0 0 [(0, va_rf (some (gg_o G))), (1, .int x1)] [] (gm_w S M) r.1 (gm_w S r.2) := by
  unfold F_X4_readTransition at h
  intro p e s m args below meth c H locs cells slots ls cx hnm hex hI hl
  have hx := cx.1
  have hb := cx.2.1
  have hown := cx.2.2.2.1
  have hts := cx.2.2.2.2.1
  have hK := cx.2.2.2.2.2.1
  refine gr_aload_n hx hb (some (gg_o G)) dX4_readTransition_0 rfl (lv_at hl 0 rfl) ?_
  refine gr_aload_n hx hb (some (gg_o G)) dX4_readTransition_1 rfl (lv_at hl 0 rfl) ?_
  refine C_X4_look hf cx (gz_nh hex) hI (Or.inl (hts _ q1204)) hl.1 (gz_cs (Nat.le_of_ble_eq_true rfl)) (by omega) dX4_readTransition_2 h (fun v1 M1 h H locs cells slots hI => ?_)
  refine lv_bipush hx hb dX4_readTransition_5 gz_bp_46 ?_
  refine lv_icmp_eq (tgt := 21) hx hb dX4_readTransition_7 rfl (fun hc => ?_) (fun hc => ?_)
  · have h := gz_t h hc
    exact T_X4_readTransition_21 hf hD h p e s m args below meth c H locs cells slots ls cx hnm hex hI hl
  · have h := gz_f h hc
    refine gr_aload_n hx hb (some (gg_o G)) dX4_readTransition_10 rfl (lv_at hl 0 rfl) ?_
    refine lv_bipush hx hb dX4_readTransition_11 gz_bp_65 ?_
    refine lv_bipush hx hb dX4_readTransition_13 gz_bp_72 ?_
    refine C_X4_among hf cx (gz_nh hex) hI (Or.inl (hts _ q1200)) hl.1 (gz_cs (Nat.le_of_ble_eq_true rfl)) (by omega) dX4_readTransition_15 h (fun v2 M2 h H locs cells slots hI => ?_)
    refine lv_if_eq (tgt := 39) hx hb dX4_readTransition_18 rfl (fun hc => ?_) (fun hc => ?_)
    · have h := gz_t h hc
      refine lv_iconst hx hb dX4_readTransition_39 gz_ic_0 ?_
      exact T_X4_readTransition_40 hf hD h p e s m args below meth c H locs cells slots ls cx hnm hex hI hl
    · have h := gz_f h hc
      exact T_X4_readTransition_21 hf hD h p e s m args below meth c H locs cells slots ls cx hnm hex hI hl
theorem M_X4_readTransition {l : Launch} {G : gG} {fu d0 : Nat} (hf : gg_f G = true) (hfl : l.flags = flags0) (hD : 7 ≤ d0) {x1 : Int32} {S : gm_S} {M : gM} {o : Outcome} {M2 : gM} (h : F_X4_readTransition fu x1 M = some (o, M2)) : gx_Met l yX4_readTransition (ws_ yX4_readTransition cX4_readTransition 4 (Option.none : Option Jvm.ClassFile.FieldType)) d0 G (gm_w S M) [va_rf (some (gg_o G)), .int x1] o (gm_w S M2) := by
  refine gx_of hfl (by decide) (fun p e s m below meth c cx hnm hex hI => ?_)
  rw [lg_entry_eq]
  exact T_X4_readTransition (r := (o, M2)) hf hD h p e s m _ below meth c _ _ _ _ _ cx hnm (gz_nh0 hex) hI (lv_entry _ (Nat.le_of_ble_eq_true rfl))
theorem C_X4_readTransition {p : Program} {l : Launch} {e : Env} {s : State} {m : MethodId} {args : Array Value} {below : List Frame} {meth : Method} {c : Code} {H : Heap} {locs : List Loc} {cells slots : Nat} {cc : ByteArray} {pc nL : Nat} {ls : Array Slot} {rest : List Value} {G : gG} {S0 S : gm_S} {own : String} {ret : Option FieldType} {d0 index fu : Nat} {M : gM} {x1 : Int32} {k : gM → gQ} {r : Outcome × gM} (hf : gg_f G = true) (cx : gx_cx p l s m args meth c G own cc nL ret) (hex : ∀ x ∈ c.exceptionTable.toList, covers x pc = false) (hI : gw_I G S0 (gm_w S M) H locs cells slots) (hl : gl_M own index yX4_readTransition args s) (hlv : ls.size = nL) (hrest : (rest.map fun v => v.category).sum ≤ 8) (hD : 8 ≤ d0) (hdg : decode cc pc = .ok (.invokevirtual index, 3)) (h : gz_cV (F_X4_readTransition fu x1 M) k = some r)
    (kk : ∀ (z : gM), k z = some r → ∀ (H : Heap) (locs : List Loc) (cells slots : Nat), gw_I G S0 (gm_w S z) H locs cells slots → W p l e (gx_rm d0 S0) s m args below meth c H locs cells slots (gx_MQ below G S0 (gm_w S r.2) r.1 s) (F0 m (pc + 3) ls rest)) : W p l e (gx_rm d0 S0) s m args below meth c H locs cells slots (gx_MQ below G S0 (gm_w S r.2) r.1 s) (F0 m pc ls (.int x1 :: va_rf (some (gg_o G)) :: rest)) := by
  have hts := cx.2.2.2.2.1
  have hK := cx.2.2.2.2.2.1
  exact gz_goV (d := d0 - 1) (gm_w S) cx hex hI hlv hrest (by omega) (Nat.le_of_ble_eq_true rfl) (gz_ws (lw_meth q1240) hts) (hts _ q78) (gb_rawV (As := [.int x1]) cx hl (hts _ q1239) (hts _ qs39) (gl_C.code (hts _ q1240)) hy_X4_readTransition (gr_recvM hK hI.1 hf) rfl rfl hdg) (fun o S2 e => M_X4_readTransition hf cx.2.2.2.2.2.2.2.2 (by omega) e) h kk
abbrev B_X4_readItems (l : Launch) (d0 : Nat) (G : gG) (S0 : gm_S) : Nat → List (Nat × Value) → List Value → gm_S → Outcome → gm_S → Prop := gz_B l RX4 "readItems" cX4_readItems 2 (Option.none : Option Jvm.ClassFile.FieldType) [] d0 G S0
theorem T_X4_readItems_72 {l : Launch} {G : gG} {S0 S : gm_S} {d0 fu : Nat} {k10 : Int32 → gM → gQ} {r : Outcome × gM} (hf : gg_f G = true) (hD : 8 ≤ d0)
    (hk10 : ∀ (x1 : Int32) (M : gM), k10 x1 M = some r → B_X4_readItems l d0 G S0 10 [(0, va_rf (some (gg_o G))), (1, .int x1)] [] (gm_w S M) r.1 (gm_w S r.2)) {x1 : Int32} {M : gM} (h : F_X4_readItems_72 fu k10 x1 M = some r) : B_X4_readItems l d0 G S0 72 [(0, va_rf (some (gg_o G))), (1, .int x1)] [] (gm_w S M) r.1 (gm_w S r.2) := by
  unfold F_X4_readItems_72 at h
  intro p e s m args below meth c H locs cells slots ls cx hnm hex hI hl
  have hx := cx.1
  have hb := cx.2.1
  have hown := cx.2.2.2.1
  have hts := cx.2.2.2.2.1
  have hK := cx.2.2.2.2.2.1
  refine gr_aload_n hx hb (some (gg_o G)) dX4_readItems_72 rfl (lv_at hl 0 rfl) ?_
  refine lv_bipush hx hb dX4_readItems_73 gz_bp_59 ?_
  refine C_X4_take hf cx (gz_nh hex) hI (Or.inl (hts _ q1249)) hl.1 (gz_cs (Nat.le_of_ble_eq_true rfl)) (by omega) dX4_readItems_75 h (fun M1 h H locs cells slots hI => ?_)
  refine lv_goto (tgt := 10) hx hb dX4_readItems_78 rfl ?_
  exact hk10 _ _ h p e s m args below meth c H locs cells slots ls cx hnm hex hI hl
theorem T_X4_readItems_10 {l : Launch} {G : gG} {S0 S : gm_S} {d0 fu : Nat} {r : Outcome × gM} (hf : gg_f G = true) (hD : 8 ≤ d0) : ∀ (n : Nat) (x1 : Int32) (M : gM), F_X4_readItems_10 fu n x1 M = some r → B_X4_readItems l d0 G S0 10 [(0, va_rf (some (gg_o G))), (1, .int x1)] [] (gm_w S M) r.1 (gm_w S r.2) := by
  intro n
  induction n with
  | zero => intro x1 M h; exact nomatch (show (none : gQ) = some r from h)
  | succ n ih =>
    intro x1 M h
    rw [F_X4_readItems_10] at h
    intro p e s m args below meth c H locs cells slots ls cx hnm hex hI hl
    have hx := cx.1
    have hb := cx.2.1
    have hown := cx.2.2.2.1
    have hts := cx.2.2.2.2.1
    have hK := cx.2.2.2.2.2.1
    refine gr_aload_n hx hb (some (gg_o G)) dX4_readItems_10 rfl (lv_at hl 0 rfl) ?_
    refine nr_gI cx hf hI 5 rfl (fun _ => rfl) rfl (Or.inl (hts _ q997)) dX4_readItems_11 ?_
    refine lv_if_ne (tgt := 81) hx hb dX4_readItems_14 rfl (fun hc => ?_) (fun hc => ?_)
    · have h := gz_f h hc
      cases h
      exact gr_vret cx hI dX4_readItems_81
    · have h := gz_t h hc
      refine gr_aload_n hx hb (some (gg_o G)) dX4_readItems_17 rfl (lv_at hl 0 rfl) ?_
      refine lv_bipush hx hb dX4_readItems_18 gz_bp_125 ?_
      refine C_X4_takes hf cx (gz_nh hex) hI (Or.inl (hts _ q1216)) hl.1 (gz_cs (Nat.le_of_ble_eq_true rfl)) (by omega) dX4_readItems_20 h (fun v2 M2 h H locs cells slots hI => ?_)
      refine lv_if_ne (tgt := 81) hx hb dX4_readItems_23 rfl (fun hc => ?_) (fun hc => ?_)
      · have h := gz_f h hc
        cases h
        exact gr_vret cx hI dX4_readItems_81
      · have h := gz_t h hc
        refine gr_aload_n hx hb (some (gg_o G)) dX4_readItems_26 rfl (lv_at hl 0 rfl) ?_
        refine lv_bipush hx hb dX4_readItems_27 gz_bp_43 ?_
        refine C_X4_takes hf cx (gz_nh hex) hI (Or.inl (hts _ q1216)) hl.1 (gz_cs (Nat.le_of_ble_eq_true rfl)) (by omega) dX4_readItems_29 h (fun v3 M3 h H locs cells slots hI => ?_)
        refine lv_if_eq (tgt := 46) hx hb dX4_readItems_32 rfl (fun hc => ?_) (fun hc => ?_)
        · have h := gz_t h hc
          refine gr_aload_n hx hb (some (gg_o G)) dX4_readItems_46 rfl (lv_at hl 0 rfl) ?_
          refine lv_bipush hx hb dX4_readItems_47 gz_bp_45 ?_
          refine C_X4_takes hf cx (gz_nh hex) hI (Or.inl (hts _ q1216)) hl.1 (gz_cs (Nat.le_of_ble_eq_true rfl)) (by omega) dX4_readItems_49 h (fun v4 M4 h H locs cells slots hI => ?_)
          refine lv_if_eq (tgt := 67) hx hb dX4_readItems_52 rfl (fun hc => ?_) (fun hc => ?_)
          · have h := gz_t h hc
            refine gr_aload_n hx hb (some (gg_o G)) dX4_readItems_67 rfl (lv_at hl 0 rfl) ?_
            refine lv_iload_n hx hb dX4_readItems_68 rfl (lv_at hl 1 rfl) ?_
            refine C_X4_readTransition hf cx (gz_nh hex) hI (Or.inl (hts _ q1237)) hl.1 (gz_cs (Nat.le_of_ble_eq_true rfl)) (by omega) dX4_readItems_69 h (fun M5 h H locs cells slots hI => ?_)
            exact T_X4_readItems_72 hf hD ih h p e s m args below meth c H locs cells slots ls cx hnm hex hI hl
          · have h := gz_f h hc
            refine gr_aload_n hx hb (some (gg_o G)) dX4_readItems_55 rfl (lv_at hl 0 rfl) ?_
            refine lv_sipush hx hb dX4_readItems_56 gz_sp_200 ?_
            refine lv_iload_n hx hb dX4_readItems_59 rfl (lv_at hl 1 rfl) ?_
            refine lv_iadd hx hb dX4_readItems_60 ?_
            refine C_X4_readActions hf cx (gz_nh hex) hI (Or.inl (hts _ q1224)) hl.1 (gz_cs (Nat.le_of_ble_eq_true rfl)) (by omega) dX4_readItems_61 h (fun M6 h H locs cells slots hI => ?_)
            refine lv_goto (tgt := 72) hx hb dX4_readItems_64 rfl ?_
            exact T_X4_readItems_72 hf hD ih h p e s m args below meth c H locs cells slots ls cx hnm hex hI hl
        · have h := gz_f h hc
          refine gr_aload_n hx hb (some (gg_o G)) dX4_readItems_35 rfl (lv_at hl 0 rfl) ?_
          refine lv_bipush hx hb dX4_readItems_36 gz_bp_100 ?_
          refine lv_iload_n hx hb dX4_readItems_38 rfl (lv_at hl 1 rfl) ?_
          refine lv_iadd hx hb dX4_readItems_39 ?_
          refine C_X4_readActions hf cx (gz_nh hex) hI (Or.inl (hts _ q1224)) hl.1 (gz_cs (Nat.le_of_ble_eq_true rfl)) (by omega) dX4_readItems_40 h (fun M7 h H locs cells slots hI => ?_)
          refine lv_goto (tgt := 72) hx hb dX4_readItems_43 rfl ?_
          exact T_X4_readItems_72 hf hD ih h p e s m args below meth c H locs cells slots ls cx hnm hex hI hl
theorem T_X4_readItems {l : Launch} {G : gG} {S0 S : gm_S} {d0 fu : Nat} {r : Outcome × gM} (hf : gg_f G = true) (hD : 8 ≤ d0) {x1 : Int32} {M : gM} (h : F_X4_readItems fu x1 M = some r) : B_X4_readItems l d0 G S0 0 [(0, va_rf (some (gg_o G))), (1, .int x1)] [] (gm_w S M) r.1 (gm_w S r.2) := by
  unfold F_X4_readItems at h
  intro p e s m args below meth c H locs cells slots ls cx hnm hex hI hl
  have hx := cx.1
  have hb := cx.2.1
  have hown := cx.2.2.2.1
  have hts := cx.2.2.2.2.1
  have hK := cx.2.2.2.2.2.1
  refine gr_aload_n hx hb (some (gg_o G)) dX4_readItems_0 rfl (lv_at hl 0 rfl) ?_
  refine lv_bipush hx hb dX4_readItems_1 gz_bp_123 ?_
  refine C_X4_takes hf cx (gz_nh hex) hI (Or.inl (hts _ q1216)) hl.1 (gz_cs (Nat.le_of_ble_eq_true rfl)) (by omega) dX4_readItems_3 h (fun v1 M1 h H locs cells slots hI => ?_)
  refine lv_if_ne (tgt := 10) hx hb dX4_readItems_6 rfl (fun hc => ?_) (fun hc => ?_)
  · have h := gz_f h hc
    exact T_X4_readItems_10 hf hD fu _ _ h p e s m args below meth c H locs cells slots ls cx hnm hex hI hl
  · have h := gz_t h hc
    cases h
    exact gr_vret cx hI dX4_readItems_9
theorem M_X4_readItems {l : Launch} {G : gG} {fu d0 : Nat} (hf : gg_f G = true) (hfl : l.flags = flags0) (hD : 8 ≤ d0) {x1 : Int32} {S : gm_S} {M : gM} {o : Outcome} {M2 : gM} (h : F_X4_readItems fu x1 M = some (o, M2)) : gx_Met l yX4_readItems (ws_ yX4_readItems cX4_readItems 2 (Option.none : Option Jvm.ClassFile.FieldType)) d0 G (gm_w S M) [va_rf (some (gg_o G)), .int x1] o (gm_w S M2) := by
  refine gx_of hfl (by decide) (fun p e s m below meth c cx hnm hex hI => ?_)
  rw [lg_entry_eq]
  exact T_X4_readItems (r := (o, M2)) hf hD h p e s m _ below meth c _ _ _ _ _ cx hnm (gz_nh0 hex) hI (lv_entry _ (Nat.le_of_ble_eq_true rfl))
theorem C_X4_readItems {p : Program} {l : Launch} {e : Env} {s : State} {m : MethodId} {args : Array Value} {below : List Frame} {meth : Method} {c : Code} {H : Heap} {locs : List Loc} {cells slots : Nat} {cc : ByteArray} {pc nL : Nat} {ls : Array Slot} {rest : List Value} {G : gG} {S0 S : gm_S} {own : String} {ret : Option FieldType} {d0 index fu : Nat} {M : gM} {x1 : Int32} {k : gM → gQ} {r : Outcome × gM} (hf : gg_f G = true) (cx : gx_cx p l s m args meth c G own cc nL ret) (hex : ∀ x ∈ c.exceptionTable.toList, covers x pc = false) (hI : gw_I G S0 (gm_w S M) H locs cells slots) (hl : gl_M own index yX4_readItems args s) (hlv : ls.size = nL) (hrest : (rest.map fun v => v.category).sum ≤ 8) (hD : 9 ≤ d0) (hdg : decode cc pc = .ok (.invokevirtual index, 3)) (h : gz_cV (F_X4_readItems fu x1 M) k = some r)
    (kk : ∀ (z : gM), k z = some r → ∀ (H : Heap) (locs : List Loc) (cells slots : Nat), gw_I G S0 (gm_w S z) H locs cells slots → W p l e (gx_rm d0 S0) s m args below meth c H locs cells slots (gx_MQ below G S0 (gm_w S r.2) r.1 s) (F0 m (pc + 3) ls rest)) : W p l e (gx_rm d0 S0) s m args below meth c H locs cells slots (gx_MQ below G S0 (gm_w S r.2) r.1 s) (F0 m pc ls (.int x1 :: va_rf (some (gg_o G)) :: rest)) := by
  have hts := cx.2.2.2.2.1
  have hK := cx.2.2.2.2.2.1
  exact gz_goV (d := d0 - 1) (gm_w S) cx hex hI hlv hrest (by omega) (Nat.le_of_ble_eq_true rfl) (gz_ws (lw_meth q1223) hts) (hts _ q78) (gb_rawV (As := [.int x1]) cx hl (hts _ q1222) (hts _ qs35) (gl_C.code (hts _ q1223)) hy_X4_readItems (gr_recvM hK hI.1 hf) rfl rfl hdg) (fun o S2 e => M_X4_readItems hf cx.2.2.2.2.2.2.2.2 (by omega) e) h kk
abbrev B_X4_readState (l : Launch) (d0 : Nat) (G : gG) (S0 : gm_S) : Nat → List (Nat × Value) → List Value → gm_S → Outcome → gm_S → Prop := gz_B l RX4 "readState" cX4_readState 5 (Option.some Jvm.ClassFile.FieldType.int) [] d0 G S0
theorem T_X4_readState_150 {l : Launch} {G : gG} {S0 S : gm_S} {d0 fu : Nat} {r : Outcome × gM} (hf : gg_f G = true) (hD : 4 ≤ d0) : ∀ (n : Nat) (x3 : Int32) (x4 : Int32) (M : gM), F_X4_readState_150 fu n x3 x4 M = some r → B_X4_readState l d0 G S0 150 [(0, va_rf (some (gg_o G))), (3, .int x3), (4, .int x4)] [] (gm_w S M) r.1 (gm_w S r.2) := by
  intro n
  induction n with
  | zero => intro x3 x4 M h; exact nomatch (show (none : gQ) = some r from h)
  | succ n ih =>
    intro x3 x4 M h
    rw [F_X4_readState_150] at h
    intro p e s m args below meth c H locs cells slots ls cx hnm hex hI hl
    have hx := cx.1
    have hb := cx.2.1
    have hown := cx.2.2.2.1
    have hts := cx.2.2.2.2.1
    have hK := cx.2.2.2.2.2.1
    refine lv_iload hx hb dX4_readState_150 (lv_at hl 2 rfl) ?_
    refine lv_if_lt (tgt := 196) hx hb dX4_readState_152 rfl (fun hc => ?_) (fun hc => ?_)
    · have h := gz_t h hc
      refine lv_iload_n hx hb dX4_readState_196 rfl (lv_at hl 1 rfl) ?_
      cases h
      exact gr_iret cx hI dX4_readState_197
    · have h := gz_f h hc
      refine gr_aload_n hx hb (some (gg_o G)) dX4_readState_155 rfl (lv_at hl 0 rfl) ?_
      refine gr_mgA cx hf hI 16 rfl rfl (Or.inl (hts _ q1008)) dX4_readState_156 ?_
      refine lv_bipush hx hb dX4_readState_159 gz_bp_16 ?_
      refine gr_aload_n hx hb (some (gg_o G)) dX4_readState_161 rfl (lv_at hl 0 rfl) ?_
      refine nr_gI cx hf hI 8 rfl (fun _ => rfl) rfl (Or.inl (hts _ q1000)) dX4_readState_162 ?_
      refine lv_imul hx hb dX4_readState_165 ?_
      refine lv_iload hx hb dX4_readState_166 (lv_at hl 2 rfl) ?_
      refine lv_iadd hx hb dX4_readState_168 ?_
      refine lv_dup2_11 hx hb dX4_readState_169 rfl (gl_cat (some (gg_m G 16))) ?_
      obtain ⟨v3, e3, h⟩ := g_bind h
      refine gr_miald cx hf hI 16 rfl rfl rfl (nr_aI e3) dX4_readState_170 ?_
      refine lv_iconst hx hb dX4_readState_171 gz_ic_1 ?_
      refine lv_iload_n hx hb dX4_readState_172 rfl (lv_at hl 1 rfl) ?_
      refine lv_ishl hx hb dX4_readState_173 ?_
      refine lv_ior hx hb dX4_readState_174 ?_
      obtain ⟨M4, e4, h⟩ := g_bind h
      refine gr_miast cx hf hI 16 rfl rfl rfl (nr_sI e4) dX4_readState_175 (fun H locs hI => ?_)
      refine gr_aload_n hx hb (some (gg_o G)) dX4_readState_176 rfl (lv_at hl 0 rfl) ?_
      refine gr_mgA cx hf hI 15 rfl rfl (Or.inl (hts _ q1007)) dX4_readState_177 ?_
      refine lv_bipush hx hb dX4_readState_180 gz_bp_16 ?_
      refine gr_aload_n hx hb (some (gg_o G)) dX4_readState_182 rfl (lv_at hl 0 rfl) ?_
      refine nr_gI cx hf hI 8 rfl (fun _ => rfl) rfl (Or.inl (hts _ q1000)) dX4_readState_183 ?_
      refine lv_imul hx hb dX4_readState_186 ?_
      refine lv_iload hx hb dX4_readState_187 (lv_at hl 2 rfl) ?_
      refine lv_iadd hx hb dX4_readState_189 ?_
      obtain ⟨v7, e7, h⟩ := g_bind h
      refine gr_miald cx hf hI 15 rfl rfl rfl (nr_aI e7) dX4_readState_190 ?_
      refine gz_istore hx hb dX4_readState_191 hl (by decide) [0, 1] rfl (gz_con ⟨gz_ne rfl, Or.inl (gz_ne rfl)⟩ (gz_con ⟨gz_ne rfl, Or.inr rfl⟩ gz_nil)) (fun ls hl => ?_)
      refine lv_goto (tgt := 150) hx hb dX4_readState_193 rfl ?_
      exact ih _ _ _ h p e s m args below meth c H locs cells slots ls cx hnm hex hI (lv_sub hl [1, 2, 0] rfl)
theorem T_X4_readState_46 {l : Launch} {G : gG} {S0 S : gm_S} {d0 fu : Nat} {r : Outcome × gM} (hf : gg_f G = true) (hD : 4 ≤ d0) {x1 : Int32} {s0 : Int32} {M : gM} (h : F_X4_readState_46 fu x1 s0 M = some r) : B_X4_readState l d0 G S0 46 [(0, va_rf (some (gg_o G))), (1, .int x1)] [.int s0, va_rf (some (gg_o G))] (gm_w S M) r.1 (gm_w S r.2) := by
  unfold F_X4_readState_46 at h
  intro p e s m args below meth c H locs cells slots ls cx hnm hex hI hl
  have hx := cx.1
  have hb := cx.2.1
  have hown := cx.2.2.2.1
  have hts := cx.2.2.2.2.1
  have hK := cx.2.2.2.2.2.1
  refine C_X4_want hf cx (gz_nh hex) hI (Or.inl (hts _ q1208)) hl.1 (gz_cs (Nat.le_of_ble_eq_true rfl)) (by omega) dX4_readState_46 h (fun M1 h H locs cells slots hI => ?_)
  refine gr_aload_n hx hb (some (gg_o G)) dX4_readState_49 rfl (lv_at hl 0 rfl) ?_
  refine nr_gI cx hf hI 5 rfl (fun _ => rfl) rfl (Or.inl (hts _ q997)) dX4_readState_50 ?_
  refine lv_if_eq (tgt := 58) hx hb dX4_readState_53 rfl (fun hc => ?_) (fun hc => ?_)
  · have h := gz_t h hc
    refine gr_aload_n hx hb (some (gg_o G)) dX4_readState_58 rfl (lv_at hl 0 rfl) ?_
    refine gr_mgA cx hf hI 9 rfl rfl (Or.inl (hts _ q1001)) dX4_readState_59 ?_
    refine gr_aload_n hx hb (some (gg_o G)) dX4_readState_62 rfl (lv_at hl 0 rfl) ?_
    refine nr_gI cx hf hI 8 rfl (fun _ => rfl) rfl (Or.inl (hts _ q1000)) dX4_readState_63 ?_
    obtain ⟨v5, e5, h⟩ := g_bind h
    refine gr_miald cx hf hI 9 rfl rfl rfl (nr_aI e5) dX4_readState_66 ?_
    refine gz_istore_n hx hb dX4_readState_67 rfl hl (by decide) [0, 1] rfl (gz_con ⟨gz_ne rfl, Or.inl (gz_ne rfl)⟩ (gz_con ⟨gz_ne rfl, Or.inl (gz_ne rfl)⟩ gz_nil)) (fun ls hl => ?_)
    refine gr_aload_n hx hb (some (gg_o G)) dX4_readState_68 rfl (lv_at hl 1 rfl) ?_
    refine gr_mgA cx hf hI 9 rfl rfl (Or.inl (hts _ q1001)) dX4_readState_69 ?_
    refine gr_aload_n hx hb (some (gg_o G)) dX4_readState_72 rfl (lv_at hl 1 rfl) ?_
    refine nr_gI cx hf hI 8 rfl (fun _ => rfl) rfl (Or.inl (hts _ q1000)) dX4_readState_73 ?_
    refine lv_dup2_11 hx hb dX4_readState_76 rfl (gl_cat (some (gg_m G 9))) ?_
    obtain ⟨v8, e8, h⟩ := g_bind h
    refine gr_miald cx hf hI 9 rfl rfl rfl (nr_aI e8) dX4_readState_77 ?_
    refine lv_iconst hx hb dX4_readState_78 gz_ic_1 ?_
    refine lv_iadd hx hb dX4_readState_79 ?_
    obtain ⟨M9, e9, h⟩ := g_bind h
    refine gr_miast cx hf hI 9 rfl rfl rfl (nr_sI e9) dX4_readState_80 (fun H locs hI => ?_)
    refine gr_aload_n hx hb (some (gg_o G)) dX4_readState_81 rfl (lv_at hl 1 rfl) ?_
    refine gr_mgA cx hf hI 17 rfl rfl (Or.inl (hts _ q1009)) dX4_readState_82 ?_
    refine lv_bipush hx hb dX4_readState_85 gz_bp_16 ?_
    refine gr_aload_n hx hb (some (gg_o G)) dX4_readState_87 rfl (lv_at hl 1 rfl) ?_
    refine nr_gI cx hf hI 8 rfl (fun _ => rfl) rfl (Or.inl (hts _ q1000)) dX4_readState_88 ?_
    refine lv_imul hx hb dX4_readState_91 ?_
    refine gr_aload_n hx hb (some (gg_o G)) dX4_readState_92 rfl (lv_at hl 1 rfl) ?_
    refine C_X4_next hf cx (gz_nh hex) hI (Or.inl (hts _ q1212)) hl.1 (gz_cs (Nat.le_of_ble_eq_true rfl)) (by omega) dX4_readState_93 h (fun v12 M12 h H locs cells slots hI => ?_)
    refine lv_iadd hx hb dX4_readState_96 ?_
    refine lv_bipush hx hb dX4_readState_97 gz_bp_97 ?_
    refine lv_isub hx hb dX4_readState_99 ?_
    refine lv_iload_n hx hb dX4_readState_100 rfl (lv_at hl 0 rfl) ?_
    obtain ⟨M13, e13, h⟩ := g_bind h
    refine gr_miast cx hf hI 17 rfl rfl rfl (nr_sI e13) dX4_readState_101 (fun H locs hI => ?_)
    refine gr_aload_n hx hb (some (gg_o G)) dX4_readState_102 rfl (lv_at hl 1 rfl) ?_
    refine gr_mgA cx hf hI 14 rfl rfl (Or.inl (hts _ q1006)) dX4_readState_103 ?_
    refine lv_bipush hx hb dX4_readState_106 gz_bp_16 ?_
    refine gr_aload_n hx hb (some (gg_o G)) dX4_readState_108 rfl (lv_at hl 1 rfl) ?_
    refine nr_gI cx hf hI 8 rfl (fun _ => rfl) rfl (Or.inl (hts _ q1000)) dX4_readState_109 ?_
    refine lv_imul hx hb dX4_readState_112 ?_
    refine lv_iload_n hx hb dX4_readState_113 rfl (lv_at hl 0 rfl) ?_
    refine lv_iadd hx hb dX4_readState_114 ?_
    refine lv_iconst hx hb dX4_readState_115 gz_ic_0 ?_
    obtain ⟨M16, e16, h⟩ := g_bind h
    refine gr_miast cx hf hI 14 rfl rfl rfl (nr_sI e16) dX4_readState_116 (fun H locs hI => ?_)
    refine gr_aload_n hx hb (some (gg_o G)) dX4_readState_117 rfl (lv_at hl 1 rfl) ?_
    refine gr_mgA cx hf hI 15 rfl rfl (Or.inl (hts _ q1007)) dX4_readState_118 ?_
    refine lv_bipush hx hb dX4_readState_121 gz_bp_16 ?_
    refine gr_aload_n hx hb (some (gg_o G)) dX4_readState_123 rfl (lv_at hl 1 rfl) ?_
    refine nr_gI cx hf hI 8 rfl (fun _ => rfl) rfl (Or.inl (hts _ q1000)) dX4_readState_124 ?_
    refine lv_imul hx hb dX4_readState_127 ?_
    refine lv_iload_n hx hb dX4_readState_128 rfl (lv_at hl 0 rfl) ?_
    refine lv_iadd hx hb dX4_readState_129 ?_
    refine lv_iload_n hx hb dX4_readState_130 rfl (lv_at hl 2 rfl) ?_
    obtain ⟨M19, e19, h⟩ := g_bind h
    refine gr_miast cx hf hI 15 rfl rfl rfl (nr_sI e19) dX4_readState_131 (fun H locs hI => ?_)
    refine gr_aload_n hx hb (some (gg_o G)) dX4_readState_132 rfl (lv_at hl 1 rfl) ?_
    refine gr_mgA cx hf hI 16 rfl rfl (Or.inl (hts _ q1008)) dX4_readState_133 ?_
    refine lv_bipush hx hb dX4_readState_136 gz_bp_16 ?_
    refine gr_aload_n hx hb (some (gg_o G)) dX4_readState_138 rfl (lv_at hl 1 rfl) ?_
    refine nr_gI cx hf hI 8 rfl (fun _ => rfl) rfl (Or.inl (hts _ q1000)) dX4_readState_139 ?_
    refine lv_imul hx hb dX4_readState_142 ?_
    refine lv_iload_n hx hb dX4_readState_143 rfl (lv_at hl 0 rfl) ?_
    refine lv_iadd hx hb dX4_readState_144 ?_
    refine lv_iconst hx hb dX4_readState_145 gz_ic_0 ?_
    obtain ⟨M22, e22, h⟩ := g_bind h
    refine gr_miast cx hf hI 16 rfl rfl rfl (nr_sI e22) dX4_readState_146 (fun H locs hI => ?_)
    refine lv_iload_n hx hb dX4_readState_147 rfl (lv_at hl 2 rfl) ?_
    refine gz_istore hx hb dX4_readState_148 hl (by decide) [0, 1] rfl (gz_con ⟨gz_ne rfl, Or.inr rfl⟩ (gz_con ⟨gz_ne rfl, Or.inl (gz_ne rfl)⟩ gz_nil)) (fun ls hl => ?_)
    exact T_X4_readState_150 hf hD fu _ _ _ h p e s m args below meth c H locs cells slots ls cx hnm hex hI (lv_sub hl [2, 1, 0] rfl)
  · have h := gz_f h hc
    refine lv_iconst hx hb dX4_readState_56 gz_ic_0 ?_
    cases h
    exact gr_iret cx hI dX4_readState_57
theorem T_X4_readState {l : Launch} {G : gG} {S0 S : gm_S} {d0 fu : Nat} {r : Outcome × gM} (hf : gg_f G = true) (hD : 4 ≤ d0) {x1 : Int32} {x2 : Int32} {M : gM} (h : F_X4_readState fu x1 x2 M = some r) : B_X4_readState l d0 G S0 0 [(0, va_rf (some (gg_o G))), (1, .int x1), (2, .int x2)] [] (gm_w S M) r.1 (gm_w S r.2) := by
  unfold F_X4_readState at h
  intro p e s m args below meth c H locs cells slots ls cx hnm hex hI hl
  have hx := cx.1
  have hb := cx.2.1
  have hown := cx.2.2.2.1
  have hts := cx.2.2.2.2.1
  have hK := cx.2.2.2.2.2.1
  refine gr_aload_n hx hb (some (gg_o G)) dX4_readState_0 rfl (lv_at hl 0 rfl) ?_
  refine gr_aload_n hx hb (some (gg_o G)) dX4_readState_1 rfl (lv_at hl 0 rfl) ?_
  refine lv_bipush hx hb dX4_readState_2 gz_bp_97 ?_
  refine lv_bipush hx hb dX4_readState_4 gz_bp_112 ?_
  refine C_X4_among hf cx (gz_nh hex) hI (Or.inl (hts _ q1200)) hl.1 (gz_cs (Nat.le_of_ble_eq_true rfl)) (by omega) dX4_readState_6 h (fun v1 M1 h H locs cells slots hI => ?_)
  refine lv_if_eq (tgt := 45) hx hb dX4_readState_9 rfl (fun hc => ?_) (fun hc => ?_)
  · have h := gz_t h hc
    refine lv_iconst hx hb dX4_readState_45 gz_ic_0 ?_
    exact T_X4_readState_46 hf hD h p e s m args below meth c H locs cells slots ls cx hnm hex hI (lv_sub hl [0, 1] rfl)
  · have h := gz_f h hc
    refine gr_aload_n hx hb (some (gg_o G)) dX4_readState_12 rfl (lv_at hl 0 rfl) ?_
    refine gr_mgA cx hf hI 17 rfl rfl (Or.inl (hts _ q1009)) dX4_readState_13 ?_
    refine lv_bipush hx hb dX4_readState_16 gz_bp_16 ?_
    refine gr_aload_n hx hb (some (gg_o G)) dX4_readState_18 rfl (lv_at hl 0 rfl) ?_
    refine nr_gI cx hf hI 8 rfl (fun _ => rfl) rfl (Or.inl (hts _ q1000)) dX4_readState_19 ?_
    refine lv_imul hx hb dX4_readState_22 ?_
    refine gr_aload_n hx hb (some (gg_o G)) dX4_readState_23 rfl (lv_at hl 0 rfl) ?_
    refine C_X4_look hf cx (gz_nh hex) hI (Or.inl (hts _ q1204)) hl.1 (gz_cs (Nat.le_of_ble_eq_true rfl)) (by omega) dX4_readState_24 h (fun v4 M4 h H locs cells slots hI => ?_)
    refine lv_iadd hx hb dX4_readState_27 ?_
    refine lv_bipush hx hb dX4_readState_28 gz_bp_97 ?_
    refine lv_isub hx hb dX4_readState_30 ?_
    obtain ⟨v5, e5, h⟩ := g_bind h
    refine gr_miald cx hf hI 17 rfl rfl rfl (nr_aI e5) dX4_readState_31 ?_
    refine lv_if_ge (tgt := 45) hx hb dX4_readState_32 rfl (fun hc => ?_) (fun hc => ?_)
    · have h := gz_t h hc
      refine lv_iconst hx hb dX4_readState_45 gz_ic_0 ?_
      exact T_X4_readState_46 hf hD h p e s m args below meth c H locs cells slots ls cx hnm hex hI (lv_sub hl [0, 1] rfl)
    · have h := gz_f h hc
      refine lv_iload_n hx hb dX4_readState_35 rfl (lv_at hl 2 rfl) ?_
      refine lv_bipush hx hb dX4_readState_36 gz_bp_7 ?_
      refine lv_icmp_ge (tgt := 45) hx hb dX4_readState_38 rfl (fun hc => ?_) (fun hc => ?_)
      · have h := gz_t h hc
        refine lv_iconst hx hb dX4_readState_45 gz_ic_0 ?_
        exact T_X4_readState_46 hf hD h p e s m args below meth c H locs cells slots ls cx hnm hex hI (lv_sub hl [0, 1] rfl)
      · have h := gz_f h hc
        refine lv_iconst hx hb dX4_readState_41 gz_ic_1 ?_
        refine lv_goto (tgt := 46) hx hb dX4_readState_42 rfl ?_
        exact T_X4_readState_46 hf hD h p e s m args below meth c H locs cells slots ls cx hnm hex hI (lv_sub hl [0, 1] rfl)
theorem M_X4_readState {l : Launch} {G : gG} {fu d0 : Nat} (hf : gg_f G = true) (hfl : l.flags = flags0) (hD : 4 ≤ d0) {x1 : Int32} {x2 : Int32} {S : gm_S} {M : gM} {o : Outcome} {M2 : gM} (h : F_X4_readState fu x1 x2 M = some (o, M2)) : gx_Met l yX4_readState (ws_ yX4_readState cX4_readState 5 (Option.some Jvm.ClassFile.FieldType.int)) d0 G (gm_w S M) [va_rf (some (gg_o G)), .int x1, .int x2] o (gm_w S M2) := by
  refine gx_of hfl (by decide) (fun p e s m below meth c cx hnm hex hI => ?_)
  rw [lg_entry_eq]
  exact T_X4_readState (r := (o, M2)) hf hD h p e s m _ below meth c _ _ _ _ _ cx hnm (gz_nh0 hex) hI (lv_entry _ (Nat.le_of_ble_eq_true rfl))
theorem C_X4_readState {p : Program} {l : Launch} {e : Env} {s : State} {m : MethodId} {args : Array Value} {below : List Frame} {meth : Method} {c : Code} {H : Heap} {locs : List Loc} {cells slots : Nat} {cc : ByteArray} {pc nL : Nat} {ls : Array Slot} {rest : List Value} {G : gG} {S0 S : gm_S} {own : String} {ret : Option FieldType} {d0 index fu : Nat} {M : gM} {x1 : Int32} {x2 : Int32} {k : Int32 → gM → gQ} {r : Outcome × gM} (hf : gg_f G = true) (cx : gx_cx p l s m args meth c G own cc nL ret) (hex : ∀ x ∈ c.exceptionTable.toList, covers x pc = false) (hI : gw_I G S0 (gm_w S M) H locs cells slots) (hl : gl_M own index yX4_readState args s) (hlv : ls.size = nL) (hrest : (rest.map fun v => v.category).sum ≤ 8) (hD : 5 ≤ d0) (hdg : decode cc pc = .ok (.invokevirtual index, 3)) (h : gz_cI (F_X4_readState fu x1 x2 M) k = some r)
    (kk : ∀ (v : Int32) (z : gM), k v z = some r → ∀ (H : Heap) (locs : List Loc) (cells slots : Nat), gw_I G S0 (gm_w S z) H locs cells slots → W p l e (gx_rm d0 S0) s m args below meth c H locs cells slots (gx_MQ below G S0 (gm_w S r.2) r.1 s) (F0 m (pc + 3) ls (.int v :: rest))) : W p l e (gx_rm d0 S0) s m args below meth c H locs cells slots (gx_MQ below G S0 (gm_w S r.2) r.1 s) (F0 m pc ls (.int x2 :: .int x1 :: va_rf (some (gg_o G)) :: rest)) := by
  have hts := cx.2.2.2.2.1
  have hK := cx.2.2.2.2.2.1
  exact gz_goI (d := d0 - 1) (gm_w S) cx hex hI hlv hrest (by omega) (Nat.le_of_ble_eq_true rfl) (gz_ws (lw_meth q1199) hts) (hts _ q78) (gb_rawV (As := [.int x1, .int x2]) cx hl (hts _ q1198) (hts _ qs29) (gl_C.code (hts _ q1199)) hy_X4_readState (gr_recvM hK hI.1 hf) rfl rfl hdg) (fun o S2 e => M_X4_readState hf cx.2.2.2.2.2.2.2.2 (by omega) e) h kk
abbrev B_X4_readChart (l : Launch) (d0 : Nat) (G : gG) (S0 : gm_S) : Nat → List (Nat × Value) → List Value → gm_S → Outcome → gm_S → Prop := gz_B l RX4 "readChart" cX4_readChart 6 (Option.none : Option Jvm.ClassFile.FieldType) [] d0 G S0
theorem T_X4_readChart_221 {l : Launch} {G : gG} {S0 S : gm_S} {d0 fu : Nat} {r : Outcome × gM} (hf : gg_f G = true) (hD : 9 ≤ d0) {s0 : Int32} {M : gM} (h : F_X4_readChart_221 fu s0 M = some r) : B_X4_readChart l d0 G S0 221 [] [.int s0, va_rf (some (gg_o G))] (gm_w S M) r.1 (gm_w S r.2) := by
  unfold F_X4_readChart_221 at h
  intro p e s m args below meth c H locs cells slots ls cx hnm hex hI hl
  have hx := cx.1
  have hb := cx.2.1
  have hown := cx.2.2.2.1
  have hts := cx.2.2.2.2.1
  have hK := cx.2.2.2.2.2.1
  refine C_X4_want hf cx (gz_nh hex) hI (Or.inl (hts _ q1208)) hl.1 (gz_cs (Nat.le_of_ble_eq_true rfl)) (by omega) dX4_readChart_221 h (fun M1 h H locs cells slots hI => ?_)
  cases h
  exact gr_vret cx hI dX4_readChart_224
theorem T_X4_readChart_204 {l : Launch} {G : gG} {S0 S : gm_S} {d0 fu : Nat} {r : Outcome × gM} (hf : gg_f G = true) (hD : 9 ≤ d0)  {M : gM} (h : F_X4_readChart_204 fu  M = some r) : B_X4_readChart l d0 G S0 204 [(0, va_rf (some (gg_o G)))] [] (gm_w S M) r.1 (gm_w S r.2) := by
  unfold F_X4_readChart_204 at h
  intro p e s m args below meth c H locs cells slots ls cx hnm hex hI hl
  have hx := cx.1
  have hb := cx.2.1
  have hown := cx.2.2.2.1
  have hts := cx.2.2.2.2.1
  have hK := cx.2.2.2.2.2.1
  refine gr_aload_n hx hb (some (gg_o G)) dX4_readChart_204 rfl (lv_at hl 0 rfl) ?_
  refine gr_aload_n hx hb (some (gg_o G)) dX4_readChart_205 rfl (lv_at hl 0 rfl) ?_
  refine nr_gI cx hf hI 4 rfl (fun _ => rfl) rfl (Or.inl (hts _ q996)) dX4_readChart_206 ?_
  refine gr_aload_n hx hb (some (gg_o G)) dX4_readChart_209 rfl (lv_at hl 0 rfl) ?_
  refine nr_gI cx hf hI 2 rfl (fun _ => rfl) rfl (Or.inl (hts _ q994)) dX4_readChart_210 ?_
  refine lv_icmp_ne (tgt := 220) hx hb dX4_readChart_213 rfl (fun hc => ?_) (fun hc => ?_)
  · have h := gz_f h hc
    refine lv_iconst hx hb dX4_readChart_220 gz_ic_0 ?_
    exact T_X4_readChart_221 hf hD h p e s m args below meth c H locs cells slots ls cx hnm hex hI (lv_sub hl [] rfl)
  · have h := gz_t h hc
    refine lv_iconst hx hb dX4_readChart_216 gz_ic_1 ?_
    refine lv_goto (tgt := 221) hx hb dX4_readChart_217 rfl ?_
    exact T_X4_readChart_221 hf hD h p e s m args below meth c H locs cells slots ls cx hnm hex hI (lv_sub hl [] rfl)
theorem T_X4_readChart_191 {l : Launch} {G : gG} {S0 S : gm_S} {d0 fu : Nat} {k6 : Int32 → Int32 → Int32 → gM → gQ} {r : Outcome × gM} (hf : gg_f G = true) (hD : 9 ≤ d0)
    (hk6 : ∀ (x1 : Int32) (x2 : Int32) (x3 : Int32) (M : gM), k6 x1 x2 x3 M = some r → B_X4_readChart l d0 G S0 6 [(0, va_rf (some (gg_o G))), (1, .int x1), (2, .int x2), (3, .int x3)] [] (gm_w S M) r.1 (gm_w S r.2)) {x1 : Int32} {x2 : Int32} {M : gM} (h : F_X4_readChart_191 fu k6 x1 x2 M = some r) : B_X4_readChart l d0 G S0 191 [(0, va_rf (some (gg_o G))), (1, .int x1), (2, .int x2)] [] (gm_w S M) r.1 (gm_w S r.2) := by
  unfold F_X4_readChart_191 at h
  intro p e s m args below meth c H locs cells slots ls cx hnm hex hI hl
  have hx := cx.1
  have hb := cx.2.1
  have hown := cx.2.2.2.1
  have hts := cx.2.2.2.2.1
  have hK := cx.2.2.2.2.2.1
  refine lv_iload_n hx hb dX4_readChart_191 rfl (lv_at hl 1 rfl) ?_
  refine lv_if_lt (tgt := 199) hx hb dX4_readChart_192 rfl (fun hc => ?_) (fun hc => ?_)
  · have h := gz_t h hc
    refine lv_iconst hx hb dX4_readChart_199 gz_ic_0 ?_
    refine gz_istore_n hx hb dX4_readChart_200 rfl hl (by decide) [0, 1, 2] rfl (gz_con ⟨gz_ne rfl, Or.inl (gz_ne rfl)⟩ (gz_con ⟨gz_ne rfl, Or.inl (gz_ne rfl)⟩ (gz_con ⟨gz_ne rfl, Or.inr rfl⟩ gz_nil))) (fun ls hl => ?_)
    refine lv_goto (tgt := 6) hx hb dX4_readChart_201 rfl ?_
    exact hk6 _ _ _ _ h p e s m args below meth c H locs cells slots ls cx hnm hex hI (lv_sub hl [1, 2, 3, 0] rfl)
  · have h := gz_f h hc
    refine lv_iconst hx hb dX4_readChart_195 gz_ic_1 ?_
    refine lv_goto (tgt := 200) hx hb dX4_readChart_196 rfl ?_
    refine gz_istore_n hx hb dX4_readChart_200 rfl hl (by decide) [0, 1, 2] rfl (gz_con ⟨gz_ne rfl, Or.inl (gz_ne rfl)⟩ (gz_con ⟨gz_ne rfl, Or.inl (gz_ne rfl)⟩ (gz_con ⟨gz_ne rfl, Or.inr rfl⟩ gz_nil))) (fun ls hl => ?_)
    refine lv_goto (tgt := 6) hx hb dX4_readChart_201 rfl ?_
    exact hk6 _ _ _ _ h p e s m args below meth c H locs cells slots ls cx hnm hex hI (lv_sub hl [1, 2, 3, 0] rfl)
theorem T_X4_readChart_162 {l : Launch} {G : gG} {S0 S : gm_S} {d0 fu : Nat} {k6 : Int32 → Int32 → Int32 → gM → gQ} {k87 : Int32 → Int32 → gM → gQ} {r : Outcome × gM} (hf : gg_f G = true) (hD : 9 ≤ d0)
    (hk6 : ∀ (x1 : Int32) (x2 : Int32) (x3 : Int32) (M : gM), k6 x1 x2 x3 M = some r → B_X4_readChart l d0 G S0 6 [(0, va_rf (some (gg_o G))), (1, .int x1), (2, .int x2), (3, .int x3)] [] (gm_w S M) r.1 (gm_w S r.2))
    (hk87 : ∀ (x1 : Int32) (x2 : Int32) (M : gM), k87 x1 x2 M = some r → B_X4_readChart l d0 G S0 87 [(0, va_rf (some (gg_o G))), (1, .int x1), (2, .int x2)] [] (gm_w S M) r.1 (gm_w S r.2)) {x1 : Int32} {x2 : Int32} {s0 : Int32} {M : gM} (h : F_X4_readChart_162 fu k6 k87 x1 x2 s0 M = some r) : B_X4_readChart l d0 G S0 162 [(0, va_rf (some (gg_o G))), (1, .int x1), (2, .int x2)] [.int s0, va_rf (some (gg_o G))] (gm_w S M) r.1 (gm_w S r.2) := by
  unfold F_X4_readChart_162 at h
  intro p e s m args below meth c H locs cells slots ls cx hnm hex hI hl
  have hx := cx.1
  have hb := cx.2.1
  have hown := cx.2.2.2.1
  have hts := cx.2.2.2.2.1
  have hK := cx.2.2.2.2.2.1
  refine C_X4_take hf cx (gz_nh hex) hI (Or.inl (hts _ q1249)) hl.1 (gz_cs (Nat.le_of_ble_eq_true rfl)) (by omega) dX4_readChart_162 h (fun M1 h H locs cells slots hI => ?_)
  refine gr_aload_n hx hb (some (gg_o G)) dX4_readChart_165 rfl (lv_at hl 0 rfl) ?_
  refine lv_iload_n hx hb dX4_readChart_166 rfl (lv_at hl 1 rfl) ?_
  refine C_X4_readItems hf cx (gz_nh hex) hI (Or.inl (hts _ q1220)) hl.1 (gz_cs (Nat.le_of_ble_eq_true rfl)) (by omega) dX4_readChart_167 h (fun M2 h H locs cells slots hI => ?_)
  refine gr_aload_n hx hb (some (gg_o G)) dX4_readChart_170 rfl (lv_at hl 0 rfl) ?_
  refine gr_mgA cx hf hI 15 rfl rfl (Or.inl (hts _ q1007)) dX4_readChart_171 ?_
  refine lv_bipush hx hb dX4_readChart_174 gz_bp_16 ?_
  refine gr_aload_n hx hb (some (gg_o G)) dX4_readChart_176 rfl (lv_at hl 0 rfl) ?_
  refine nr_gI cx hf hI 8 rfl (fun _ => rfl) rfl (Or.inl (hts _ q1000)) dX4_readChart_177 ?_
  refine lv_imul hx hb dX4_readChart_180 ?_
  refine lv_iload_n hx hb dX4_readChart_181 rfl (lv_at hl 1 rfl) ?_
  refine lv_iadd hx hb dX4_readChart_182 ?_
  obtain ⟨v5, e5, h⟩ := g_bind h
  refine gr_miald cx hf hI 15 rfl rfl rfl (nr_aI e5) dX4_readChart_183 ?_
  refine gz_istore_n hx hb dX4_readChart_184 rfl hl (by decide) [0, 2] rfl (gz_con ⟨gz_ne rfl, Or.inr (gl_cat (some (gg_o G)))⟩ (gz_con ⟨gz_ne rfl, Or.inl (gz_ne rfl)⟩ gz_nil)) (fun ls hl => ?_)
  refine gz_iinc (k := 2) (v := (x2 + (-1 : Int32))) hx hb dX4_readChart_185 hl rfl (congrArg (fun z => x2 + z) gz_ic_m1) (by decide) [0, 1] rfl (gz_con ⟨gz_ne rfl, Or.inr rfl⟩ (gz_con ⟨gz_ne rfl, Or.inl (gz_ne rfl)⟩ gz_nil)) (fun ls hl => ?_)
  refine lv_goto (tgt := 87) hx hb dX4_readChart_188 rfl ?_
  exact hk87 _ _ _ h p e s m args below meth c H locs cells slots ls cx hnm hex hI (lv_sub hl [2, 1, 0] rfl)
theorem T_X4_readChart_136 {l : Launch} {G : gG} {S0 S : gm_S} {d0 fu : Nat} {k6 : Int32 → Int32 → Int32 → gM → gQ} {k87 : Int32 → Int32 → gM → gQ} {r : Outcome × gM} (hf : gg_f G = true) (hD : 9 ≤ d0)
    (hk6 : ∀ (x1 : Int32) (x2 : Int32) (x3 : Int32) (M : gM), k6 x1 x2 x3 M = some r → B_X4_readChart l d0 G S0 6 [(0, va_rf (some (gg_o G))), (1, .int x1), (2, .int x2), (3, .int x3)] [] (gm_w S M) r.1 (gm_w S r.2))
    (hk87 : ∀ (x1 : Int32) (x2 : Int32) (M : gM), k87 x1 x2 M = some r → B_X4_readChart l d0 G S0 87 [(0, va_rf (some (gg_o G))), (1, .int x1), (2, .int x2)] [] (gm_w S M) r.1 (gm_w S r.2)) {x1 : Int32} {x2 : Int32} {M : gM} (h : F_X4_readChart_136 fu k6 k87 x1 x2 M = some r) : B_X4_readChart l d0 G S0 136 [(0, va_rf (some (gg_o G))), (1, .int x1), (2, .int x2)] [] (gm_w S M) r.1 (gm_w S r.2) := by
  unfold F_X4_readChart_136 at h
  intro p e s m args below meth c H locs cells slots ls cx hnm hex hI hl
  have hx := cx.1
  have hb := cx.2.1
  have hown := cx.2.2.2.1
  have hts := cx.2.2.2.2.1
  have hK := cx.2.2.2.2.2.1
  refine gr_aload_n hx hb (some (gg_o G)) dX4_readChart_136 rfl (lv_at hl 0 rfl) ?_
  refine gr_aload_n hx hb (some (gg_o G)) dX4_readChart_137 rfl (lv_at hl 0 rfl) ?_
  refine gr_mgA cx hf hI 14 rfl rfl (Or.inl (hts _ q1006)) dX4_readChart_138 ?_
  refine lv_bipush hx hb dX4_readChart_141 gz_bp_16 ?_
  refine gr_aload_n hx hb (some (gg_o G)) dX4_readChart_143 rfl (lv_at hl 0 rfl) ?_
  refine nr_gI cx hf hI 8 rfl (fun _ => rfl) rfl (Or.inl (hts _ q1000)) dX4_readChart_144 ?_
  refine lv_imul hx hb dX4_readChart_147 ?_
  refine lv_iload_n hx hb dX4_readChart_148 rfl (lv_at hl 1 rfl) ?_
  refine lv_iadd hx hb dX4_readChart_149 ?_
  obtain ⟨v3, e3, h⟩ := g_bind h
  refine gr_miald cx hf hI 14 rfl rfl rfl (nr_aI e3) dX4_readChart_150 ?_
  refine lv_iconst hx hb dX4_readChart_151 gz_ic_1 ?_
  refine lv_icmp_ne (tgt := 160) hx hb dX4_readChart_152 rfl (fun hc => ?_) (fun hc => ?_)
  · have h := gz_f h hc
    refine lv_bipush hx hb dX4_readChart_160 gz_bp_62 ?_
    exact T_X4_readChart_162 hf hD hk6 hk87 h p e s m args below meth c H locs cells slots ls cx hnm hex hI hl
  · have h := gz_t h hc
    refine lv_bipush hx hb dX4_readChart_155 gz_bp_41 ?_
    refine lv_goto (tgt := 162) hx hb dX4_readChart_157 rfl ?_
    exact T_X4_readChart_162 hf hD hk6 hk87 h p e s m args below meth c H locs cells slots ls cx hnm hex hI hl
theorem T_X4_readChart_87 {l : Launch} {G : gG} {S0 S : gm_S} {d0 fu : Nat} {k6 : Int32 → Int32 → Int32 → gM → gQ} {r : Outcome × gM} (hf : gg_f G = true) (hD : 9 ≤ d0)
    (hk6 : ∀ (x1 : Int32) (x2 : Int32) (x3 : Int32) (M : gM), k6 x1 x2 x3 M = some r → B_X4_readChart l d0 G S0 6 [(0, va_rf (some (gg_o G))), (1, .int x1), (2, .int x2), (3, .int x3)] [] (gm_w S M) r.1 (gm_w S r.2)) : ∀ (n : Nat) (x1 : Int32) (x2 : Int32) (M : gM), F_X4_readChart_87 fu k6 n x1 x2 M = some r → B_X4_readChart l d0 G S0 87 [(0, va_rf (some (gg_o G))), (1, .int x1), (2, .int x2)] [] (gm_w S M) r.1 (gm_w S r.2) := by
  intro n
  induction n with
  | zero => intro x1 x2 M h; exact nomatch (show (none : gQ) = some r from h)
  | succ n ih =>
    intro x1 x2 M h
    rw [F_X4_readChart_87] at h
    intro p e s m args below meth c H locs cells slots ls cx hnm hex hI hl
    have hx := cx.1
    have hb := cx.2.1
    have hown := cx.2.2.2.1
    have hts := cx.2.2.2.2.1
    have hK := cx.2.2.2.2.2.1
    refine gr_aload_n hx hb (some (gg_o G)) dX4_readChart_87 rfl (lv_at hl 0 rfl) ?_
    refine nr_gI cx hf hI 5 rfl (fun _ => rfl) rfl (Or.inl (hts _ q997)) dX4_readChart_88 ?_
    refine lv_if_ne (tgt := 191) hx hb dX4_readChart_91 rfl (fun hc => ?_) (fun hc => ?_)
    · have h := gz_f h hc
      exact T_X4_readChart_191 hf hD hk6 h p e s m args below meth c H locs cells slots ls cx hnm hex hI hl
    · have h := gz_t h hc
      refine lv_iload_n hx hb dX4_readChart_94 rfl (lv_at hl 1 rfl) ?_
      refine lv_if_lt (tgt := 191) hx hb dX4_readChart_95 rfl (fun hc => ?_) (fun hc => ?_)
      · have h := gz_t h hc
        exact T_X4_readChart_191 hf hD hk6 h p e s m args below meth c H locs cells slots ls cx hnm hex hI hl
      · have h := gz_f h hc
        refine gr_aload_n hx hb (some (gg_o G)) dX4_readChart_98 rfl (lv_at hl 0 rfl) ?_
        refine lv_bipush hx hb dX4_readChart_99 gz_bp_97 ?_
        refine lv_bipush hx hb dX4_readChart_101 gz_bp_112 ?_
        refine C_X4_among hf cx (gz_nh hex) hI (Or.inl (hts _ q1200)) hl.1 (gz_cs (Nat.le_of_ble_eq_true rfl)) (by omega) dX4_readChart_103 h (fun v2 M2 h H locs cells slots hI => ?_)
        refine lv_if_ne (tgt := 191) hx hb dX4_readChart_106 rfl (fun hc => ?_) (fun hc => ?_)
        · have h := gz_f h hc
          exact T_X4_readChart_191 hf hD hk6 h p e s m args below meth c H locs cells slots ls cx hnm hex hI hl
        · have h := gz_t h hc
          refine gr_aload_n hx hb (some (gg_o G)) dX4_readChart_109 rfl (lv_at hl 0 rfl) ?_
          refine gr_mgA cx hf hI 14 rfl rfl (Or.inl (hts _ q1006)) dX4_readChart_110 ?_
          refine lv_bipush hx hb dX4_readChart_113 gz_bp_16 ?_
          refine gr_aload_n hx hb (some (gg_o G)) dX4_readChart_115 rfl (lv_at hl 0 rfl) ?_
          refine nr_gI cx hf hI 8 rfl (fun _ => rfl) rfl (Or.inl (hts _ q1000)) dX4_readChart_116 ?_
          refine lv_imul hx hb dX4_readChart_119 ?_
          refine lv_iload_n hx hb dX4_readChart_120 rfl (lv_at hl 1 rfl) ?_
          refine lv_iadd hx hb dX4_readChart_121 ?_
          obtain ⟨v5, e5, h⟩ := g_bind h
          refine gr_miald cx hf hI 14 rfl rfl rfl (nr_aI e5) dX4_readChart_122 ?_
          refine lv_iconst hx hb dX4_readChart_123 gz_ic_1 ?_
          refine lv_icmp_eq (tgt := 136) hx hb dX4_readChart_124 rfl (fun hc => ?_) (fun hc => ?_)
          · have h := gz_t h hc
            exact T_X4_readChart_136 hf hD hk6 ih h p e s m args below meth c H locs cells slots ls cx hnm hex hI hl
          · have h := gz_f h hc
            refine gr_aload_n hx hb (some (gg_o G)) dX4_readChart_127 rfl (lv_at hl 0 rfl) ?_
            refine lv_iload_n hx hb dX4_readChart_128 rfl (lv_at hl 1 rfl) ?_
            refine C_X4_innerOf hf cx (gz_nh hex) hI (Or.inl (hts _ q1253)) hl.1 (gz_cs (Nat.le_of_ble_eq_true rfl)) (by omega) dX4_readChart_129 h (fun v6 M6 h H locs cells slots hI => ?_)
            refine lv_iconst hx hb dX4_readChart_132 gz_ic_1 ?_
            refine lv_icmp_le (tgt := 191) hx hb dX4_readChart_133 rfl (fun hc => ?_) (fun hc => ?_)
            · have h := gz_t h hc
              exact T_X4_readChart_191 hf hD hk6 h p e s m args below meth c H locs cells slots ls cx hnm hex hI hl
            · have h := gz_f h hc
              exact T_X4_readChart_136 hf hD hk6 ih h p e s m args below meth c H locs cells slots ls cx hnm hex hI hl
theorem T_X4_readChart_47 {l : Launch} {G : gG} {S0 S : gm_S} {d0 fu : Nat} {k6 : Int32 → Int32 → Int32 → gM → gQ} {r : Outcome × gM} (hf : gg_f G = true) (hD : 9 ≤ d0)
    (hk6 : ∀ (x1 : Int32) (x2 : Int32) (x3 : Int32) (M : gM), k6 x1 x2 x3 M = some r → B_X4_readChart l d0 G S0 6 [(0, va_rf (some (gg_o G))), (1, .int x1), (2, .int x2), (3, .int x3)] [] (gm_w S M) r.1 (gm_w S r.2)) {x2 : Int32} {x3 : Int32} {x4 : Int32} {x5 : Int32} {M : gM} (h : F_X4_readChart_47 fu k6 x2 x3 x4 x5 M = some r) : B_X4_readChart l d0 G S0 47 [(0, va_rf (some (gg_o G))), (2, .int x2), (3, .int x3), (4, .int x4), (5, .int x5)] [] (gm_w S M) r.1 (gm_w S r.2) := by
  unfold F_X4_readChart_47 at h
  intro p e s m args below meth c H locs cells slots ls cx hnm hex hI hl
  have hx := cx.1
  have hb := cx.2.1
  have hown := cx.2.2.2.1
  have hts := cx.2.2.2.2.1
  have hK := cx.2.2.2.2.2.1
  refine gr_aload_n hx hb (some (gg_o G)) dX4_readChart_47 rfl (lv_at hl 0 rfl) ?_
  refine gr_mgA cx hf hI 14 rfl rfl (Or.inl (hts _ q1006)) dX4_readChart_48 ?_
  refine lv_bipush hx hb dX4_readChart_51 gz_bp_16 ?_
  refine gr_aload_n hx hb (some (gg_o G)) dX4_readChart_53 rfl (lv_at hl 0 rfl) ?_
  refine nr_gI cx hf hI 8 rfl (fun _ => rfl) rfl (Or.inl (hts _ q1000)) dX4_readChart_54 ?_
  refine lv_imul hx hb dX4_readChart_57 ?_
  refine lv_iload hx hb dX4_readChart_58 (lv_at hl 3 rfl) ?_
  refine lv_iadd hx hb dX4_readChart_60 ?_
  refine lv_iload hx hb dX4_readChart_61 (lv_at hl 4 rfl) ?_
  refine lv_if_eq (tgt := 70) hx hb dX4_readChart_63 rfl (fun hc => ?_) (fun hc => ?_)
  · have h := gz_t h hc
    refine lv_iconst hx hb dX4_readChart_70 gz_ic_2 ?_
    obtain ⟨M3, e3, h⟩ := g_bind h
    refine gr_miast cx hf hI 14 rfl rfl rfl (nr_sI e3) dX4_readChart_71 (fun H locs hI => ?_)
    refine lv_iload hx hb dX4_readChart_72 (lv_at hl 3 rfl) ?_
    refine gz_istore_n hx hb dX4_readChart_74 rfl hl (by decide) [0, 1, 2] rfl (gz_con ⟨gz_ne rfl, Or.inr (gl_cat (some (gg_o G)))⟩ (gz_con ⟨gz_ne rfl, Or.inl (gz_ne rfl)⟩ (gz_con ⟨gz_ne rfl, Or.inl (gz_ne rfl)⟩ gz_nil))) (fun ls hl => ?_)
    refine gz_iinc (k := 2) (v := (x2 + (1 : Int32))) hx hb dX4_readChart_75 hl rfl (congrArg (fun z => x2 + z) gz_ic_1) (by decide) [0, 1, 3] rfl (gz_con ⟨gz_ne rfl, Or.inr rfl⟩ (gz_con ⟨gz_ne rfl, Or.inl (gz_ne rfl)⟩ (gz_con ⟨gz_ne rfl, Or.inl (gz_ne rfl)⟩ gz_nil))) (fun ls hl => ?_)
    refine lv_goto (tgt := 6) hx hb dX4_readChart_78 rfl ?_
    exact hk6 _ _ _ _ h p e s m args below meth c H locs cells slots ls cx hnm hex hI (lv_sub hl [2, 1, 0, 3] rfl)
  · have h := gz_f h hc
    refine lv_iconst hx hb dX4_readChart_66 gz_ic_1 ?_
    refine lv_goto (tgt := 71) hx hb dX4_readChart_67 rfl ?_
    obtain ⟨M4, e4, h⟩ := g_bind h
    refine gr_miast cx hf hI 14 rfl rfl rfl (nr_sI e4) dX4_readChart_71 (fun H locs hI => ?_)
    refine lv_iload hx hb dX4_readChart_72 (lv_at hl 3 rfl) ?_
    refine gz_istore_n hx hb dX4_readChart_74 rfl hl (by decide) [0, 1, 2] rfl (gz_con ⟨gz_ne rfl, Or.inr (gl_cat (some (gg_o G)))⟩ (gz_con ⟨gz_ne rfl, Or.inl (gz_ne rfl)⟩ (gz_con ⟨gz_ne rfl, Or.inl (gz_ne rfl)⟩ gz_nil))) (fun ls hl => ?_)
    refine gz_iinc (k := 2) (v := (x2 + (1 : Int32))) hx hb dX4_readChart_75 hl rfl (congrArg (fun z => x2 + z) gz_ic_1) (by decide) [0, 1, 3] rfl (gz_con ⟨gz_ne rfl, Or.inr rfl⟩ (gz_con ⟨gz_ne rfl, Or.inl (gz_ne rfl)⟩ (gz_con ⟨gz_ne rfl, Or.inl (gz_ne rfl)⟩ gz_nil))) (fun ls hl => ?_)
    refine lv_goto (tgt := 6) hx hb dX4_readChart_78 rfl ?_
    exact hk6 _ _ _ _ h p e s m args below meth c H locs cells slots ls cx hnm hex hI (lv_sub hl [2, 1, 0, 3] rfl)
theorem T_X4_readChart_6 {l : Launch} {G : gG} {S0 S : gm_S} {d0 fu : Nat} {r : Outcome × gM} (hf : gg_f G = true) (hD : 9 ≤ d0) : ∀ (n : Nat) (x1 : Int32) (x2 : Int32) (x3 : Int32) (M : gM), F_X4_readChart_6 fu n x1 x2 x3 M = some r → B_X4_readChart l d0 G S0 6 [(0, va_rf (some (gg_o G))), (1, .int x1), (2, .int x2), (3, .int x3)] [] (gm_w S M) r.1 (gm_w S r.2) := by
  intro n
  induction n with
  | zero => intro x1 x2 x3 M h; exact nomatch (show (none : gQ) = some r from h)
  | succ n ih =>
    intro x1 x2 x3 M h
    rw [F_X4_readChart_6] at h
    intro p e s m args below meth c H locs cells slots ls cx hnm hex hI hl
    have hx := cx.1
    have hb := cx.2.1
    have hown := cx.2.2.2.1
    have hts := cx.2.2.2.2.1
    have hK := cx.2.2.2.2.2.1
    refine lv_iload_n hx hb dX4_readChart_6 rfl (lv_at hl 3 rfl) ?_
    refine lv_if_eq (tgt := 204) hx hb dX4_readChart_7 rfl (fun hc => ?_) (fun hc => ?_)
    · have h := gz_t h hc
      exact T_X4_readChart_204 hf hD h p e s m args below meth c H locs cells slots ls cx hnm hex hI (lv_sub hl [0] rfl)
    · have h := gz_f h hc
      refine gr_aload_n hx hb (some (gg_o G)) dX4_readChart_10 rfl (lv_at hl 0 rfl) ?_
      refine nr_gI cx hf hI 5 rfl (fun _ => rfl) rfl (Or.inl (hts _ q997)) dX4_readChart_11 ?_
      refine lv_if_ne (tgt := 204) hx hb dX4_readChart_14 rfl (fun hc => ?_) (fun hc => ?_)
      · have h := gz_f h hc
        exact T_X4_readChart_204 hf hD h p e s m args below meth c H locs cells slots ls cx hnm hex hI (lv_sub hl [0] rfl)
      · have h := gz_t h hc
        refine gr_aload_n hx hb (some (gg_o G)) dX4_readChart_17 rfl (lv_at hl 0 rfl) ?_
        refine lv_iload_n hx hb dX4_readChart_18 rfl (lv_at hl 1 rfl) ?_
        refine lv_iload_n hx hb dX4_readChart_19 rfl (lv_at hl 2 rfl) ?_
        refine C_X4_readState hf cx (gz_nh hex) hI (Or.inl (hts _ q1196)) hl.1 (gz_cs (Nat.le_of_ble_eq_true rfl)) (by omega) dX4_readChart_20 h (fun v2 M2 h H locs cells slots hI => ?_)
        refine gz_istore hx hb dX4_readChart_23 hl (by decide) [0, 1, 2, 3] rfl (gz_con ⟨gz_ne rfl, Or.inl (gz_ne rfl)⟩ (gz_con ⟨gz_ne rfl, Or.inl (gz_ne rfl)⟩ (gz_con ⟨gz_ne rfl, Or.inl (gz_ne rfl)⟩ (gz_con ⟨gz_ne rfl, Or.inr rfl⟩ gz_nil)))) (fun ls hl => ?_)
        refine gr_aload_n hx hb (some (gg_o G)) dX4_readChart_25 rfl (lv_at hl 1 rfl) ?_
        refine lv_bipush hx hb dX4_readChart_26 gz_bp_40 ?_
        refine C_X4_takes hf cx (gz_nh hex) hI (Or.inl (hts _ q1216)) hl.1 (gz_cs (Nat.le_of_ble_eq_true rfl)) (by omega) dX4_readChart_28 h (fun v3 M3 h H locs cells slots hI => ?_)
        refine gz_istore hx hb dX4_readChart_31 hl (by decide) [0, 1, 2, 3, 4] rfl (gz_con ⟨gz_ne rfl, Or.inr rfl⟩ (gz_con ⟨gz_ne rfl, Or.inl (gz_ne rfl)⟩ (gz_con ⟨gz_ne rfl, Or.inl (gz_ne rfl)⟩ (gz_con ⟨gz_ne rfl, Or.inl (gz_ne rfl)⟩ (gz_con ⟨gz_ne rfl, Or.inl (gz_ne rfl)⟩ gz_nil))))) (fun ls hl => ?_)
        refine lv_iload hx hb dX4_readChart_33 (lv_at hl 0 rfl) ?_
        refine lv_if_ne (tgt := 47) hx hb dX4_readChart_35 rfl (fun hc => ?_) (fun hc => ?_)
        · have h := gz_f h hc
          exact T_X4_readChart_47 hf hD ih h p e s m args below meth c H locs cells slots ls cx hnm hex hI (lv_sub hl [2, 4, 5, 1, 0] rfl)
        · have h := gz_t h hc
          refine gr_aload_n hx hb (some (gg_o G)) dX4_readChart_38 rfl (lv_at hl 2 rfl) ?_
          refine lv_bipush hx hb dX4_readChart_39 gz_bp_60 ?_
          refine C_X4_takes hf cx (gz_nh hex) hI (Or.inl (hts _ q1216)) hl.1 (gz_cs (Nat.le_of_ble_eq_true rfl)) (by omega) dX4_readChart_41 h (fun v4 M4 h H locs cells slots hI => ?_)
          refine lv_if_eq (tgt := 81) hx hb dX4_readChart_44 rfl (fun hc => ?_) (fun hc => ?_)
          · have h := gz_t h hc
            refine gr_aload_n hx hb (some (gg_o G)) dX4_readChart_81 rfl (lv_at hl 2 rfl) ?_
            refine lv_iload hx hb dX4_readChart_82 (lv_at hl 1 rfl) ?_
            refine C_X4_readItems hf cx (gz_nh hex) hI (Or.inl (hts _ q1220)) hl.1 (gz_cs (Nat.le_of_ble_eq_true rfl)) (by omega) dX4_readChart_84 h (fun M5 h H locs cells slots hI => ?_)
            exact T_X4_readChart_87 hf hD ih fu _ _ _ h p e s m args below meth c H locs cells slots ls cx hnm hex hI (lv_sub hl [2, 3, 4] rfl)
          · have h := gz_f h hc
            exact T_X4_readChart_47 hf hD ih h p e s m args below meth c H locs cells slots ls cx hnm hex hI (lv_sub hl [2, 4, 5, 1, 0] rfl)
theorem T_X4_readChart {l : Launch} {G : gG} {S0 S : gm_S} {d0 fu : Nat} {r : Outcome × gM} (hf : gg_f G = true) (hD : 9 ≤ d0)  {M : gM} (h : F_X4_readChart fu  M = some r) : B_X4_readChart l d0 G S0 0 [(0, va_rf (some (gg_o G)))] [] (gm_w S M) r.1 (gm_w S r.2) := by
  unfold F_X4_readChart at h
  intro p e s m args below meth c H locs cells slots ls cx hnm hex hI hl
  have hx := cx.1
  have hb := cx.2.1
  have hown := cx.2.2.2.1
  have hts := cx.2.2.2.2.1
  have hK := cx.2.2.2.2.2.1
  refine lv_iconst hx hb dX4_readChart_0 gz_ic_m1 ?_
  refine gz_istore_n hx hb dX4_readChart_1 rfl hl (by decide) [0] rfl (gz_con ⟨gz_ne rfl, Or.inr (gl_cat (some (gg_o G)))⟩ gz_nil) (fun ls hl => ?_)
  refine lv_iconst hx hb dX4_readChart_2 gz_ic_1 ?_
  refine gz_istore_n hx hb dX4_readChart_3 rfl hl (by decide) [0, 1] rfl (gz_con ⟨gz_ne rfl, Or.inr rfl⟩ (gz_con ⟨gz_ne rfl, Or.inl (gz_ne rfl)⟩ gz_nil)) (fun ls hl => ?_)
  refine lv_iconst hx hb dX4_readChart_4 gz_ic_1 ?_
  refine gz_istore_n hx hb dX4_readChart_5 rfl hl (by decide) [0, 1, 2] rfl (gz_con ⟨gz_ne rfl, Or.inr rfl⟩ (gz_con ⟨gz_ne rfl, Or.inl (gz_ne rfl)⟩ (gz_con ⟨gz_ne rfl, Or.inl (gz_ne rfl)⟩ gz_nil))) (fun ls hl => ?_)
  exact T_X4_readChart_6 hf hD fu _ _ _ _ h p e s m args below meth c H locs cells slots ls cx hnm hex hI (lv_sub hl [3, 2, 1, 0] rfl)
theorem M_X4_readChart {l : Launch} {G : gG} {fu d0 : Nat} (hf : gg_f G = true) (hfl : l.flags = flags0) (hD : 9 ≤ d0)  {S : gm_S} {M : gM} {o : Outcome} {M2 : gM} (h : F_X4_readChart fu  M = some (o, M2)) : gx_Met l yX4_readChart (ws_ yX4_readChart cX4_readChart 6 (Option.none : Option Jvm.ClassFile.FieldType)) d0 G (gm_w S M) [va_rf (some (gg_o G))] o (gm_w S M2) := by
  refine gx_of hfl (by decide) (fun p e s m below meth c cx hnm hex hI => ?_)
  rw [lg_entry_eq]
  exact T_X4_readChart (r := (o, M2)) hf hD h p e s m _ below meth c _ _ _ _ _ cx hnm (gz_nh0 hex) hI (lv_entry _ (Nat.le_of_ble_eq_true rfl))
theorem C_X4_readChart {p : Program} {l : Launch} {e : Env} {s : State} {m : MethodId} {args : Array Value} {below : List Frame} {meth : Method} {c : Code} {H : Heap} {locs : List Loc} {cells slots : Nat} {cc : ByteArray} {pc nL : Nat} {ls : Array Slot} {rest : List Value} {G : gG} {S0 S : gm_S} {own : String} {ret : Option FieldType} {d0 index fu : Nat} {M : gM}  {k : gM → gQ} {r : Outcome × gM} (hf : gg_f G = true) (cx : gx_cx p l s m args meth c G own cc nL ret) (hex : ∀ x ∈ c.exceptionTable.toList, covers x pc = false) (hI : gw_I G S0 (gm_w S M) H locs cells slots) (hl : gl_M own index yX4_readChart args s) (hlv : ls.size = nL) (hrest : (rest.map fun v => v.category).sum ≤ 8) (hD : 10 ≤ d0) (hdg : decode cc pc = .ok (.invokevirtual index, 3)) (h : gz_cV (F_X4_readChart fu  M) k = some r)
    (kk : ∀ (z : gM), k z = some r → ∀ (H : Heap) (locs : List Loc) (cells slots : Nat), gw_I G S0 (gm_w S z) H locs cells slots → W p l e (gx_rm d0 S0) s m args below meth c H locs cells slots (gx_MQ below G S0 (gm_w S r.2) r.1 s) (F0 m (pc + 3) ls rest)) : W p l e (gx_rm d0 S0) s m args below meth c H locs cells slots (gx_MQ below G S0 (gm_w S r.2) r.1 s) (F0 m pc ls (va_rf (some (gg_o G)) :: rest)) := by
  have hts := cx.2.2.2.2.1
  have hK := cx.2.2.2.2.2.1
  exact gz_goV (d := d0 - 1) (gm_w S) cx hex hI hlv hrest (by omega) (Nat.le_of_ble_eq_true rfl) (gz_ws (lw_meth q1195) hts) (hts _ q78) (gb_rawV (As := []) cx hl (hts _ q1194) (hts _ qs28) (gl_C.code (hts _ q1195)) hy_X4_readChart (gr_recvM hK hI.1 hf) rfl rfl hdg) (fun o S2 e => M_X4_readChart hf cx.2.2.2.2.2.2.2.2 (by omega) e) h kk
abbrev B_X4_build (l : Launch) (d0 : Nat) (G : gG) (S0 : gm_S) : Nat → List (Nat × Value) → List Value → gm_S → Outcome → gm_S → Prop := gz_B l RX4 "build" cX4_build 2 (Option.some Jvm.ClassFile.FieldType.int) [] d0 G S0
theorem T_X4_build_168 {l : Launch} {G : gG} {S0 S : gm_S} {d0 fu : Nat} {r : Outcome × gM} (hf : gg_f G = true) (hD : 10 ≤ d0) {s0 : Int32} {M : gM} (h : F_X4_build_168 fu s0 M = some r) : B_X4_build l d0 G S0 168 [(0, va_rf (some (gg_o G)))] [.int s0, va_rf (some (gg_o G))] (gm_w S M) r.1 (gm_w S r.2) := by
  unfold F_X4_build_168 at h
  intro p e s m args below meth c H locs cells slots ls cx hnm hex hI hl
  have hx := cx.1
  have hb := cx.2.1
  have hown := cx.2.2.2.1
  have hts := cx.2.2.2.2.1
  have hK := cx.2.2.2.2.2.1
  obtain ⟨M1, e1, h⟩ := g_bind h
  refine nr_pI cx hf hI 0 rfl rfl rfl (Or.inl (hts _ q992)) e1 dX4_build_168 (fun H locs hI => ?_)
  refine gr_aload_n hx hb (some (gg_o G)) dX4_build_171 rfl (lv_at hl 0 rfl) ?_
  refine nr_gI cx hf hI 5 rfl (fun _ => rfl) rfl (Or.inl (hts _ q997)) dX4_build_172 ?_
  refine lv_if_eq (tgt := 180) hx hb dX4_build_175 rfl (fun hc => ?_) (fun hc => ?_)
  · have h := gz_t h hc
    refine gr_aload_n hx hb (some (gg_o G)) dX4_build_180 rfl (lv_at hl 0 rfl) ?_
    refine gr_aload_n hx hb (some (gg_o G)) dX4_build_181 rfl (lv_at hl 0 rfl) ?_
    refine nr_gI cx hf hI 8 rfl (fun _ => rfl) rfl (Or.inl (hts _ q1000)) dX4_build_182 ?_
    obtain ⟨M4, e4, h⟩ := g_bind h
    refine nr_pI cx hf hI 7 rfl rfl rfl (Or.inl (hts _ q999)) e4 dX4_build_185 (fun H locs hI => ?_)
    refine gr_aload_n hx hb (some (gg_o G)) dX4_build_188 rfl (lv_at hl 0 rfl) ?_
    refine lv_iconst hx hb dX4_build_189 gz_ic_0 ?_
    obtain ⟨M5, e5, h⟩ := g_bind h
    refine nr_pZ cx hf hI 40 rfl rfl rfl (Or.inl (hts _ q1032)) e5 dX4_build_190 (fun H locs hI => ?_)
    refine gr_aload_n hx hb (some (gg_o G)) dX4_build_193 rfl (lv_at hl 0 rfl) ?_
    refine lv_iconst hx hb dX4_build_194 gz_ic_0 ?_
    obtain ⟨M6, e6, h⟩ := g_bind h
    refine nr_pI cx hf hI 41 rfl rfl rfl (Or.inl (hts _ q1033)) e6 dX4_build_195 (fun H locs hI => ?_)
    refine gr_aload_n hx hb (some (gg_o G)) dX4_build_198 rfl (lv_at hl 0 rfl) ?_
    refine lv_iconst hx hb dX4_build_199 gz_ic_0 ?_
    obtain ⟨M7, e7, h⟩ := g_bind h
    refine nr_pI cx hf hI 53 rfl rfl rfl (Or.inl (hts _ q1045)) e7 dX4_build_200 (fun H locs hI => ?_)
    refine gr_aload_n hx hb (some (gg_o G)) dX4_build_203 rfl (lv_at hl 0 rfl) ?_
    refine C_X4_forget hf cx (gz_nh hex) hI (Or.inl (hts _ q1261)) hl.1 (gz_cs (Nat.le_of_ble_eq_true rfl)) (by omega) dX4_build_204 h (fun M8 h H locs cells slots hI => ?_)
    refine gr_aload_n hx hb (some (gg_o G)) dX4_build_207 rfl (lv_at hl 0 rfl) ?_
    refine gr_mgA cx hf hI 9 rfl rfl (Or.inl (hts _ q1001)) dX4_build_208 ?_
    refine gr_aload_n hx hb (some (gg_o G)) dX4_build_211 rfl (lv_at hl 0 rfl) ?_
    refine nr_gI cx hf hI 8 rfl (fun _ => rfl) rfl (Or.inl (hts _ q1000)) dX4_build_212 ?_
    obtain ⟨v11, e11, h⟩ := g_bind h
    refine gr_miald cx hf hI 9 rfl rfl rfl (nr_aI e11) dX4_build_215 ?_
    cases h
    exact gr_iret cx hI dX4_build_216
  · have h := gz_f h hc
    refine lv_iconst hx hb dX4_build_178 gz_ic_0 ?_
    cases h
    exact gr_iret cx hI dX4_build_179
theorem T_X4_build_142 {l : Launch} {G : gG} {S0 S : gm_S} {d0 fu : Nat} {r : Outcome × gM} (hf : gg_f G = true) (hD : 10 ≤ d0) {s0 : Int32} {M : gM} (h : F_X4_build_142 fu s0 M = some r) : B_X4_build l d0 G S0 142 [(0, va_rf (some (gg_o G)))] [.int s0, va_rf (some (gg_o G))] (gm_w S M) r.1 (gm_w S r.2) := by
  unfold F_X4_build_142 at h
  intro p e s m args below meth c H locs cells slots ls cx hnm hex hI hl
  have hx := cx.1
  have hb := cx.2.1
  have hown := cx.2.2.2.1
  have hts := cx.2.2.2.2.1
  have hK := cx.2.2.2.2.2.1
  obtain ⟨M1, e1, h⟩ := g_bind h
  refine nr_pI cx hf hI 6 rfl rfl rfl (Or.inl (hts _ q998)) e1 dX4_build_142 (fun H locs hI => ?_)
  refine gr_aload_n hx hb (some (gg_o G)) dX4_build_145 rfl (lv_at hl 0 rfl) ?_
  refine lv_iconst hx hb dX4_build_146 gz_ic_0 ?_
  obtain ⟨M2, e2, h⟩ := g_bind h
  refine nr_pI cx hf hI 2 rfl rfl rfl (Or.inl (hts _ q994)) e2 dX4_build_147 (fun H locs hI => ?_)
  refine gr_aload_n hx hb (some (gg_o G)) dX4_build_150 rfl (lv_at hl 0 rfl) ?_
  refine lv_iconst hx hb dX4_build_151 gz_ic_0 ?_
  obtain ⟨M3, e3, h⟩ := g_bind h
  refine nr_pI cx hf hI 1 rfl rfl rfl (Or.inl (hts _ q993)) e3 dX4_build_152 (fun H locs hI => ?_)
  refine gr_aload_n hx hb (some (gg_o G)) dX4_build_155 rfl (lv_at hl 0 rfl) ?_
  refine gr_aload_n hx hb (some (gg_o G)) dX4_build_156 rfl (lv_at hl 0 rfl) ?_
  refine nr_gI cx hf hI 5 rfl (fun _ => rfl) rfl (Or.inl (hts _ q997)) dX4_build_157 ?_
  refine lv_if_eq (tgt := 167) hx hb dX4_build_160 rfl (fun hc => ?_) (fun hc => ?_)
  · have h := gz_t h hc
    refine lv_iconst hx hb dX4_build_167 gz_ic_0 ?_
    exact T_X4_build_168 hf hD h p e s m args below meth c H locs cells slots ls cx hnm hex hI hl
  · have h := gz_f h hc
    refine lv_iconst hx hb dX4_build_163 gz_ic_1 ?_
    refine lv_goto (tgt := 168) hx hb dX4_build_164 rfl ?_
    exact T_X4_build_168 hf hD h p e s m args below meth c H locs cells slots ls cx hnm hex hI hl
theorem T_X4_build_126 {l : Launch} {G : gG} {S0 S : gm_S} {d0 fu : Nat} {r : Outcome × gM} (hf : gg_f G = true) (hD : 10 ≤ d0)  {M : gM} (h : F_X4_build_126 fu  M = some r) : B_X4_build l d0 G S0 126 [(0, va_rf (some (gg_o G)))] [] (gm_w S M) r.1 (gm_w S r.2) := by
  unfold F_X4_build_126 at h
  intro p e s m args below meth c H locs cells slots ls cx hnm hex hI hl
  have hx := cx.1
  have hb := cx.2.1
  have hown := cx.2.2.2.1
  have hts := cx.2.2.2.2.1
  have hK := cx.2.2.2.2.2.1
  refine gr_aload_n hx hb (some (gg_o G)) dX4_build_126 rfl (lv_at hl 0 rfl) ?_
  refine gr_aload_n hx hb (some (gg_o G)) dX4_build_127 rfl (lv_at hl 0 rfl) ?_
  refine nr_gI cx hf hI 5 rfl (fun _ => rfl) rfl (Or.inl (hts _ q997)) dX4_build_128 ?_
  refine lv_if_eq (tgt := 141) hx hb dX4_build_131 rfl (fun hc => ?_) (fun hc => ?_)
  · have h := gz_t h hc
    refine lv_iconst hx hb dX4_build_141 gz_ic_m1 ?_
    exact T_X4_build_142 hf hD h p e s m args below meth c H locs cells slots ls cx hnm hex hI hl
  · have h := gz_f h hc
    refine gr_aload_n hx hb (some (gg_o G)) dX4_build_134 rfl (lv_at hl 0 rfl) ?_
    refine nr_gI cx hf hI 4 rfl (fun _ => rfl) rfl (Or.inl (hts _ q996)) dX4_build_135 ?_
    refine lv_goto (tgt := 142) hx hb dX4_build_138 rfl ?_
    exact T_X4_build_142 hf hD h p e s m args below meth c H locs cells slots ls cx hnm hex hI hl
theorem T_X4_build_84 {l : Launch} {G : gG} {S0 S : gm_S} {d0 fu : Nat} {r : Outcome × gM} (hf : gg_f G = true) (hD : 10 ≤ d0) : ∀ (n : Nat) (x1 : Int32) (M : gM), F_X4_build_84 fu n x1 M = some r → B_X4_build l d0 G S0 84 [(0, va_rf (some (gg_o G))), (1, .int x1)] [] (gm_w S M) r.1 (gm_w S r.2) := by
  intro n
  induction n with
  | zero => intro x1 M h; exact nomatch (show (none : gQ) = some r from h)
  | succ n ih =>
    intro x1 M h
    rw [F_X4_build_84] at h
    intro p e s m args below meth c H locs cells slots ls cx hnm hex hI hl
    have hx := cx.1
    have hb := cx.2.1
    have hown := cx.2.2.2.1
    have hts := cx.2.2.2.2.1
    have hK := cx.2.2.2.2.2.1
    refine lv_iload_n hx hb dX4_build_84 rfl (lv_at hl 1 rfl) ?_
    refine lv_bipush hx hb dX4_build_85 gz_bp_16 ?_
    refine gr_aload_n hx hb (some (gg_o G)) dX4_build_87 rfl (lv_at hl 0 rfl) ?_
    refine nr_gI cx hf hI 8 rfl (fun _ => rfl) rfl (Or.inl (hts _ q1000)) dX4_build_88 ?_
    refine lv_imul hx hb dX4_build_91 ?_
    refine lv_bipush hx hb dX4_build_92 gz_bp_16 ?_
    refine lv_iadd hx hb dX4_build_94 ?_
    refine lv_icmp_ge (tgt := 111) hx hb dX4_build_95 rfl (fun hc => ?_) (fun hc => ?_)
    · have h := gz_t h hc
      refine gr_aload_n hx hb (some (gg_o G)) dX4_build_111 rfl (lv_at hl 0 rfl) ?_
      refine C_X4_readChart hf cx (gz_nh hex) hI (Or.inl (hts _ q1192)) hl.1 (gz_cs (Nat.le_of_ble_eq_true rfl)) (by omega) dX4_build_112 h (fun M2 h H locs cells slots hI => ?_)
      refine gr_aload_n hx hb (some (gg_o G)) dX4_build_115 rfl (lv_at hl 0 rfl) ?_
      refine nr_gI cx hf hI 5 rfl (fun _ => rfl) rfl (Or.inl (hts _ q997)) dX4_build_116 ?_
      refine lv_if_ne (tgt := 126) hx hb dX4_build_119 rfl (fun hc => ?_) (fun hc => ?_)
      · have h := gz_f h hc
        exact T_X4_build_126 hf hD h p e s m args below meth c H locs cells slots ls cx hnm hex hI (lv_sub hl [0] rfl)
      · have h := gz_t h hc
        refine gr_aload_n hx hb (some (gg_o G)) dX4_build_122 rfl (lv_at hl 0 rfl) ?_
        refine C_X4_findNames hf cx (gz_nh hex) hI (Or.inl (hts _ q1257)) hl.1 (gz_cs (Nat.le_of_ble_eq_true rfl)) (by omega) dX4_build_123 h (fun M4 h H locs cells slots hI => ?_)
        exact T_X4_build_126 hf hD h p e s m args below meth c H locs cells slots ls cx hnm hex hI (lv_sub hl [0] rfl)
    · have h := gz_f h hc
      refine gr_aload_n hx hb (some (gg_o G)) dX4_build_98 rfl (lv_at hl 0 rfl) ?_
      refine gr_mgA cx hf hI 17 rfl rfl (Or.inl (hts _ q1009)) dX4_build_99 ?_
      refine lv_iload_n hx hb dX4_build_102 rfl (lv_at hl 1 rfl) ?_
      refine lv_iconst hx hb dX4_build_103 gz_ic_m1 ?_
      obtain ⟨M6, e6, h⟩ := g_bind h
      refine gr_miast cx hf hI 17 rfl rfl rfl (nr_sI e6) dX4_build_104 (fun H locs hI => ?_)
      refine gz_iinc (k := 1) (v := (x1 + (1 : Int32))) hx hb dX4_build_105 hl rfl (congrArg (fun z => x1 + z) gz_ic_1) (by decide) [0] rfl (gz_con ⟨gz_ne rfl, Or.inr (gl_cat (some (gg_o G)))⟩ gz_nil) (fun ls hl => ?_)
      refine lv_goto (tgt := 84) hx hb dX4_build_108 rfl ?_
      exact ih _ _ h p e s m args below meth c H locs cells slots ls cx hnm hex hI (lv_sub hl [1, 0] rfl)
theorem T_X4_build_13 {l : Launch} {G : gG} {S0 S : gm_S} {d0 fu : Nat} {r : Outcome × gM} (hf : gg_f G = true) (hD : 10 ≤ d0) {s0 : Int32} {M : gM} (h : F_X4_build_13 fu s0 M = some r) : B_X4_build l d0 G S0 13 [(0, va_rf (some (gg_o G)))] [.int s0, va_rf (some (gg_o G))] (gm_w S M) r.1 (gm_w S r.2) := by
  unfold F_X4_build_13 at h
  intro p e s m args below meth c H locs cells slots ls cx hnm hex hI hl
  have hx := cx.1
  have hb := cx.2.1
  have hown := cx.2.2.2.1
  have hts := cx.2.2.2.2.1
  have hK := cx.2.2.2.2.2.1
  obtain ⟨M1, e1, h⟩ := g_bind h
  refine nr_pI cx hf hI 8 rfl rfl rfl (Or.inl (hts _ q1000)) e1 dX4_build_13 (fun H locs hI => ?_)
  refine gr_aload_n hx hb (some (gg_o G)) dX4_build_16 rfl (lv_at hl 0 rfl) ?_
  refine lv_iconst hx hb dX4_build_17 gz_ic_0 ?_
  obtain ⟨M2, e2, h⟩ := g_bind h
  refine nr_pI cx hf hI 4 rfl rfl rfl (Or.inl (hts _ q996)) e2 dX4_build_18 (fun H locs hI => ?_)
  refine gr_aload_n hx hb (some (gg_o G)) dX4_build_21 rfl (lv_at hl 0 rfl) ?_
  refine lv_iconst hx hb dX4_build_22 gz_ic_0 ?_
  obtain ⟨M3, e3, h⟩ := g_bind h
  refine nr_pZ cx hf hI 5 rfl rfl rfl (Or.inl (hts _ q997)) e3 dX4_build_23 (fun H locs hI => ?_)
  refine gr_aload_n hx hb (some (gg_o G)) dX4_build_26 rfl (lv_at hl 0 rfl) ?_
  refine gr_mgA cx hf hI 9 rfl rfl (Or.inl (hts _ q1001)) dX4_build_27 ?_
  refine gr_aload_n hx hb (some (gg_o G)) dX4_build_30 rfl (lv_at hl 0 rfl) ?_
  refine nr_gI cx hf hI 8 rfl (fun _ => rfl) rfl (Or.inl (hts _ q1000)) dX4_build_31 ?_
  refine lv_iconst hx hb dX4_build_34 gz_ic_0 ?_
  obtain ⟨M6, e6, h⟩ := g_bind h
  refine gr_miast cx hf hI 9 rfl rfl rfl (nr_sI e6) dX4_build_35 (fun H locs hI => ?_)
  refine gr_aload_n hx hb (some (gg_o G)) dX4_build_36 rfl (lv_at hl 0 rfl) ?_
  refine gr_mgA cx hf hI 10 rfl rfl (Or.inl (hts _ q1002)) dX4_build_37 ?_
  refine gr_aload_n hx hb (some (gg_o G)) dX4_build_40 rfl (lv_at hl 0 rfl) ?_
  refine nr_gI cx hf hI 8 rfl (fun _ => rfl) rfl (Or.inl (hts _ q1000)) dX4_build_41 ?_
  refine lv_iconst hx hb dX4_build_44 gz_ic_0 ?_
  obtain ⟨M9, e9, h⟩ := g_bind h
  refine gr_miast cx hf hI 10 rfl rfl rfl (nr_sI e9) dX4_build_45 (fun H locs hI => ?_)
  refine gr_aload_n hx hb (some (gg_o G)) dX4_build_46 rfl (lv_at hl 0 rfl) ?_
  refine gr_mgA cx hf hI 11 rfl rfl (Or.inl (hts _ q1003)) dX4_build_47 ?_
  refine gr_aload_n hx hb (some (gg_o G)) dX4_build_50 rfl (lv_at hl 0 rfl) ?_
  refine nr_gI cx hf hI 8 rfl (fun _ => rfl) rfl (Or.inl (hts _ q1000)) dX4_build_51 ?_
  refine lv_iconst hx hb dX4_build_54 gz_ic_0 ?_
  obtain ⟨M12, e12, h⟩ := g_bind h
  refine gr_miast cx hf hI 11 rfl rfl rfl (nr_sI e12) dX4_build_55 (fun H locs hI => ?_)
  refine gr_aload_n hx hb (some (gg_o G)) dX4_build_56 rfl (lv_at hl 0 rfl) ?_
  refine gr_mgA cx hf hI 12 rfl rfl (Or.inl (hts _ q1004)) dX4_build_57 ?_
  refine gr_aload_n hx hb (some (gg_o G)) dX4_build_60 rfl (lv_at hl 0 rfl) ?_
  refine nr_gI cx hf hI 8 rfl (fun _ => rfl) rfl (Or.inl (hts _ q1000)) dX4_build_61 ?_
  refine lv_iconst hx hb dX4_build_64 gz_ic_0 ?_
  obtain ⟨M15, e15, h⟩ := g_bind h
  refine gr_miast cx hf hI 12 rfl rfl rfl (nr_sI e15) dX4_build_65 (fun H locs hI => ?_)
  refine gr_aload_n hx hb (some (gg_o G)) dX4_build_66 rfl (lv_at hl 0 rfl) ?_
  refine gr_mgA cx hf hI 13 rfl rfl (Or.inl (hts _ q1005)) dX4_build_67 ?_
  refine gr_aload_n hx hb (some (gg_o G)) dX4_build_70 rfl (lv_at hl 0 rfl) ?_
  refine nr_gI cx hf hI 8 rfl (fun _ => rfl) rfl (Or.inl (hts _ q1000)) dX4_build_71 ?_
  refine lv_iconst hx hb dX4_build_74 gz_ic_0 ?_
  obtain ⟨M18, e18, h⟩ := g_bind h
  refine gr_miast cx hf hI 13 rfl rfl rfl (nr_sI e18) dX4_build_75 (fun H locs hI => ?_)
  refine lv_bipush hx hb dX4_build_76 gz_bp_16 ?_
  refine gr_aload_n hx hb (some (gg_o G)) dX4_build_78 rfl (lv_at hl 0 rfl) ?_
  refine nr_gI cx hf hI 8 rfl (fun _ => rfl) rfl (Or.inl (hts _ q1000)) dX4_build_79 ?_
  refine lv_imul hx hb dX4_build_82 ?_
  refine gz_istore_n hx hb dX4_build_83 rfl hl (by decide) [0] rfl (gz_con ⟨gz_ne rfl, Or.inr (gl_cat (some (gg_o G)))⟩ gz_nil) (fun ls hl => ?_)
  exact T_X4_build_84 hf hD fu _ _ h p e s m args below meth c H locs cells slots ls cx hnm hex hI (lv_sub hl [1, 0] rfl)
theorem T_X4_build {l : Launch} {G : gG} {S0 S : gm_S} {d0 fu : Nat} {r : Outcome × gM} (hf : gg_f G = true) (hD : 10 ≤ d0)  {M : gM} (h : F_X4_build fu  M = some r) : B_X4_build l d0 G S0 0 [(0, va_rf (some (gg_o G)))] [] (gm_w S M) r.1 (gm_w S r.2) := by
  unfold F_X4_build at h
  intro p e s m args below meth c H locs cells slots ls cx hnm hex hI hl
  have hx := cx.1
  have hb := cx.2.1
  have hown := cx.2.2.2.1
  have hts := cx.2.2.2.2.1
  have hK := cx.2.2.2.2.2.1
  refine gr_aload_n hx hb (some (gg_o G)) dX4_build_0 rfl (lv_at hl 0 rfl) ?_
  refine gr_aload_n hx hb (some (gg_o G)) dX4_build_1 rfl (lv_at hl 0 rfl) ?_
  refine nr_gI cx hf hI 7 rfl (fun _ => rfl) rfl (Or.inl (hts _ q999)) dX4_build_2 ?_
  refine lv_if_ne (tgt := 12) hx hb dX4_build_5 rfl (fun hc => ?_) (fun hc => ?_)
  · have h := gz_f h hc
    refine lv_iconst hx hb dX4_build_12 gz_ic_0 ?_
    exact T_X4_build_13 hf hD h p e s m args below meth c H locs cells slots ls cx hnm hex hI hl
  · have h := gz_t h hc
    refine lv_iconst hx hb dX4_build_8 gz_ic_1 ?_
    refine lv_goto (tgt := 13) hx hb dX4_build_9 rfl ?_
    exact T_X4_build_13 hf hD h p e s m args below meth c H locs cells slots ls cx hnm hex hI hl
theorem M_X4_build {l : Launch} {G : gG} {fu d0 : Nat} (hf : gg_f G = true) (hfl : l.flags = flags0) (hD : 10 ≤ d0)  {S : gm_S} {M : gM} {o : Outcome} {M2 : gM} (h : F_X4_build fu  M = some (o, M2)) : gx_Met l yX4_build (ws_ yX4_build cX4_build 2 (Option.some Jvm.ClassFile.FieldType.int)) d0 G (gm_w S M) [va_rf (some (gg_o G))] o (gm_w S M2) := by
  refine gx_of hfl (by decide) (fun p e s m below meth c cx hnm hex hI => ?_)
  rw [lg_entry_eq]
  exact T_X4_build (r := (o, M2)) hf hD h p e s m _ below meth c _ _ _ _ _ cx hnm (gz_nh0 hex) hI (lv_entry _ (Nat.le_of_ble_eq_true rfl))
