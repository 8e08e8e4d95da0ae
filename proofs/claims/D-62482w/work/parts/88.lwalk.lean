/-! the law: its loop walked (printed by wip/gen/gen6.py) -/
set_option maxRecDepth 100000
theorem T_L_law_522 {l : Launch} {G : gG} {S0 : gm_S} {d0 fu : Nat} {xs : Nat → Int32} {xn xb : Nat} {k23 : Option Nat → Option Nat → Int32 → gm_S → gR} {r : Outcome × gm_S} (hf : gg_f G = true) (hD : 28 ≤ d0)
    (hk23 : ∀ (x1 : Option Nat) (x3 : Option Nat) (x4 : Int32) (S : gm_S), k23 x1 x3 x4 S = some r → gz_BL l d0 G S0 xs xn xb 23 [(0, va_rf (some xb)), (1, va_rf x1), (2, va_rf (some (gg_o G))), (3, va_rf x3), (4, .int x4)] [] S r.1 r.2) {x1 : Option Nat} {x3 : Option Nat} {x4 : Int32} {s0 : Int32} {s1 : Int32} {s3 : Int32} {S : gm_S} (h : F_L_law_522 fu xs xn k23 x1 x3 x4 s0 s1 s3 S = some r) : gz_BL l d0 G S0 xs xn xb 522 [(0, va_rf (some xb)), (1, va_rf x1), (2, va_rf (some (gg_o G))), (3, va_rf x3), (4, .int x4)] [.int s0, .int s1, va_rf (some (gg_o G)), .int s3] S r.1 r.2 := by
  unfold F_L_law_522 at h
  intro p e s m args below meth c H locs cells slots ls cx hnm hex hI hl
  have hx := cx.1
  have hb := cx.2.1
  have hown := cx.2.2.2.1
  have hts := cx.2.2.2.2.1
  have hK := cx.2.2.2.2.2.1
  have hX := hnm
  refine D_X4_history hf cx (gz_nh hex) hI (Or.inl (hts _ q1403)) hl.1 (gz_cs (Nat.le_of_ble_eq_true rfl)) (by omega) dL_law_522 h (fun v1 S1 h H locs cells slots hI => ?_)
  refine lv_icmp_eq (tgt := 530) hx hb dL_law_525 rfl (fun hc => ?_) (fun hc => ?_)
  · have h := gz_t h hc
    refine gz_iinc (k := 4) (v := (x4 + (3 : Int32))) hx hb dL_law_530 hl rfl (congrArg (fun z => x4 + z) gz_ic_3) (by decide) [0, 1, 2, 3] rfl (gz_con ⟨gz_ne rfl, Or.inl (gz_ne rfl)⟩ (gz_con ⟨gz_ne rfl, Or.inl (gz_ne rfl)⟩ (gz_con ⟨gz_ne rfl, Or.inl (gz_ne rfl)⟩ (gz_con ⟨gz_ne rfl, Or.inr (gl_cat x3)⟩ gz_nil)))) (fun ls hl => ?_)
    refine lv_goto (tgt := 23) hx hb dL_law_533 rfl ?_
    exact hk23 _ _ _ _ h p e s m args below meth c H locs cells slots ls cx hnm hex hI (lv_sub hl [1, 2, 3, 4, 0] rfl)
  · have h := gz_f h hc
    refine lv_iconst hx hb dL_law_528 gz_ic_0 ?_
    obtain ⟨hz, h⟩ := g_ifs h
    cases h
    exact gr_zret cx hz hI dL_law_529
theorem T_L_law_497 {l : Launch} {G : gG} {S0 : gm_S} {d0 fu : Nat} {xs : Nat → Int32} {xn xb : Nat} {k23 : Option Nat → Option Nat → Int32 → gm_S → gR} {r : Outcome × gm_S} (hf : gg_f G = true) (hD : 28 ≤ d0)
    (hk23 : ∀ (x1 : Option Nat) (x3 : Option Nat) (x4 : Int32) (S : gm_S), k23 x1 x3 x4 S = some r → gz_BL l d0 G S0 xs xn xb 23 [(0, va_rf (some xb)), (1, va_rf x1), (2, va_rf (some (gg_o G))), (3, va_rf x3), (4, .int x4)] [] S r.1 r.2) {x1 : Option Nat} {x3 : Option Nat} {x4 : Int32} {s0 : Int32} {s1 : Int32} {s2 : Option Nat} {S : gm_S} (h : F_L_law_497 fu xs xn k23 x1 x3 x4 s0 s1 s2 S = some r) : gz_BL l d0 G S0 xs xn xb 497 [(0, va_rf (some xb)), (1, va_rf x1), (2, va_rf (some (gg_o G))), (3, va_rf x3), (4, .int x4)] [.int s0, .int s1, va_rf s2] S r.1 r.2 := by
  unfold F_L_law_497 at h
  intro p e s m args below meth c H locs cells slots ls cx hnm hex hI hl
  have hx := cx.1
  have hb := cx.2.1
  have hown := cx.2.2.2.1
  have hts := cx.2.2.2.2.1
  have hK := cx.2.2.2.2.2.1
  have hX := hnm
  obtain ⟨a1, t1, h⟩ := gz_q_s h
  refine C_X1_history cx (gz_nh hex) hI (Or.inl (hts _ q306)) hl.1 (gz_cs (Nat.le_of_ble_eq_true rfl)) (by omega) dL_law_497 t1 h (fun v1 S1 h H locs cells slots hI => ?_)
  refine gr_aload_n hx hb (some (gg_o G)) dL_law_500 rfl (lv_at hl 2 rfl) ?_
  refine gr_aload_n hx hb (some xb) dL_law_501 rfl (lv_at hl 0 rfl) ?_
  refine lv_iload hx hb dL_law_502 (lv_at hl 4 rfl) ?_
  refine lv_iconst hx hb dL_law_504 gz_ic_1 ?_
  refine lv_iadd hx hb dL_law_505 ?_
  obtain ⟨v2, e2, h⟩ := g_bind h
  refine gl_sld cx hX hI e2 dL_law_506 ?_
  refine lv_i2c hx hb dL_law_507 rfl ?_
  refine gr_aload_n hx hb (some xb) dL_law_508 rfl (lv_at hl 0 rfl) ?_
  refine lv_iload hx hb dL_law_509 (lv_at hl 4 rfl) ?_
  refine lv_iconst hx hb dL_law_511 gz_ic_2 ?_
  refine lv_iadd hx hb dL_law_512 ?_
  obtain ⟨v3, e3, h⟩ := g_bind h
  refine gl_sld cx hX hI e3 dL_law_513 ?_
  refine lv_if_eq (tgt := 521) hx hb dL_law_514 rfl (fun hc => ?_) (fun hc => ?_)
  · have h := gz_t h hc
    refine lv_iconst hx hb dL_law_521 gz_ic_0 ?_
    exact T_L_law_522 hf hD hk23 h p e s m args below meth c H locs cells slots ls cx hnm hex hI hl
  · have h := gz_f h hc
    refine lv_iconst hx hb dL_law_517 gz_ic_1 ?_
    refine lv_goto (tgt := 522) hx hb dL_law_518 rfl ?_
    exact T_L_law_522 hf hD hk23 h p e s m args below meth c H locs cells slots ls cx hnm hex hI hl
theorem T_L_law_23 {l : Launch} {G : gG} {S0 : gm_S} {d0 fu : Nat} {xs : Nat → Int32} {xn xb : Nat} {r : Outcome × gm_S} (hf : gg_f G = true) (hD : 28 ≤ d0) : ∀ (n : Nat) (x1 : Option Nat) (x3 : Option Nat) (x4 : Int32) (S : gm_S), F_L_law_23 fu xs xn n x1 x3 x4 S = some r → gz_BL l d0 G S0 xs xn xb 23 [(0, va_rf (some xb)), (1, va_rf x1), (2, va_rf (some (gg_o G))), (3, va_rf x3), (4, .int x4)] [] S r.1 r.2 := by
  intro n
  induction n with
  | zero => intro x1 x3 x4 S h; exact nomatch (show (none : gR) = some r from h)
  | succ n ih =>
    intro x1 x3 x4 S h
    rw [F_L_law_23] at h
    intro p e s m args below meth c H locs cells slots ls cx hnm hex hI hl
    have hx := cx.1
    have hb := cx.2.1
    have hown := cx.2.2.2.1
    have hts := cx.2.2.2.2.1
    have hK := cx.2.2.2.2.2.1
    have hX := hnm
    refine lv_iload hx hb dL_law_23 (lv_at hl 4 rfl) ?_
    refine gr_aload_n hx hb (some xb) dL_law_25 rfl (lv_at hl 0 rfl) ?_
    refine gl_slen cx hX hI dL_law_26 ?_
    refine lv_iconst hx hb dL_law_27 gz_ic_3 ?_
    refine lv_isub hx hb dL_law_28 ?_
    refine lv_icmp_gt (tgt := 536) hx hb dL_law_29 rfl (fun hc => ?_) (fun hc => ?_)
    · have h := gz_t h hc
      refine lv_iconst hx hb dL_law_536 gz_ic_1 ?_
      obtain ⟨hz, h⟩ := g_ifs h
      cases h
      exact gr_zret cx hz hI dL_law_537
    · have h := gz_f h hc
      refine gr_aload_n hx hb (some xb) dL_law_32 rfl (lv_at hl 0 rfl) ?_
      refine lv_iload hx hb dL_law_33 (lv_at hl 4 rfl) ?_
      obtain ⟨v2, e2, h⟩ := g_bind h
      refine gl_sld cx hX hI e2 dL_law_35 ?_
      refine lv_bipush hx hb dL_law_36 gz_bp_15 ?_
      refine lv_iand hx hb dL_law_38 ?_
      by_cases hc : ((v2 &&& (15 : Int32))).toInt < 0 ∨ 11 < ((v2 &&& (15 : Int32))).toInt
      · have h := gz_t h hc
        refine lv_tableOut (tgt := 530) hx hb dL_law_39 hc rfl ?_
        refine gz_iinc (k := 4) (v := (x4 + (3 : Int32))) hx hb dL_law_530 hl rfl (congrArg (fun z => x4 + z) gz_ic_3) (by decide) [0, 1, 2, 3] rfl (gz_con ⟨gz_ne rfl, Or.inl (gz_ne rfl)⟩ (gz_con ⟨gz_ne rfl, Or.inl (gz_ne rfl)⟩ (gz_con ⟨gz_ne rfl, Or.inl (gz_ne rfl)⟩ (gz_con ⟨gz_ne rfl, Or.inr (gl_cat x3)⟩ gz_nil)))) (fun ls hl => ?_)
        refine lv_goto (tgt := 23) hx hb dL_law_533 rfl ?_
        exact ih _ _ _ _ h p e s m args below meth c H locs cells slots ls cx hnm hex hI (lv_sub hl [1, 2, 3, 4, 0] rfl)
      have h := gz_f h hc
      by_cases hc : (v2 &&& (15 : Int32)) = 0
      · have h := gz_t h hc
        refine lv_tableIn (tgt := 100) (off := (61)) hx hb dL_law_39 (by rw [hc]; decide) (by rw [hc]; decide) (by rw [hc]; rfl) rfl ?_
        refine gr_aload_n hx hb x1 dL_law_100 rfl (lv_at hl 1 rfl) ?_
        refine gr_aload_n hx hb (some xb) dL_law_101 rfl (lv_at hl 0 rfl) ?_
        refine lv_iload hx hb dL_law_102 (lv_at hl 4 rfl) ?_
        refine lv_iconst hx hb dL_law_104 gz_ic_1 ?_
        refine lv_iadd hx hb dL_law_105 ?_
        obtain ⟨v3, e3, h⟩ := g_bind h
        refine gl_sld cx hX hI e3 dL_law_106 ?_
        refine lv_i2c hx hb dL_law_107 rfl ?_
        obtain ⟨a4, t4, h⟩ := gz_q_s h
        refine C_X1_type cx (gz_nh hex) hI (Or.inl (hts _ q247)) hl.1 (gz_cs (Nat.le_of_ble_eq_true rfl)) (by omega) dL_law_108 t4 h (fun v4 S4 h H locs cells slots hI => ?_)
        refine gr_aload_n hx hb (some (gg_o G)) dL_law_111 rfl (lv_at hl 2 rfl) ?_
        refine gr_aload_n hx hb (some xb) dL_law_112 rfl (lv_at hl 0 rfl) ?_
        refine lv_iload hx hb dL_law_113 (lv_at hl 4 rfl) ?_
        refine lv_iconst hx hb dL_law_115 gz_ic_1 ?_
        refine lv_iadd hx hb dL_law_116 ?_
        obtain ⟨v5, e5, h⟩ := g_bind h
        refine gl_sld cx hX hI e5 dL_law_117 ?_
        refine lv_i2c hx hb dL_law_118 rfl ?_
        refine D_X4_type hf cx (gz_nh hex) hI (Or.inl (hts _ q1184)) hl.1 (gz_cs (Nat.le_of_ble_eq_true rfl)) (by omega) dL_law_119 h (fun v6 S6 h H locs cells slots hI => ?_)
        refine lv_icmp_eq (tgt := 530) hx hb dL_law_122 rfl (fun hc => ?_) (fun hc => ?_)
        · have h := gz_t h hc
          refine gz_iinc (k := 4) (v := (x4 + (3 : Int32))) hx hb dL_law_530 hl rfl (congrArg (fun z => x4 + z) gz_ic_3) (by decide) [0, 1, 2, 3] rfl (gz_con ⟨gz_ne rfl, Or.inl (gz_ne rfl)⟩ (gz_con ⟨gz_ne rfl, Or.inl (gz_ne rfl)⟩ (gz_con ⟨gz_ne rfl, Or.inl (gz_ne rfl)⟩ (gz_con ⟨gz_ne rfl, Or.inr (gl_cat x3)⟩ gz_nil)))) (fun ls hl => ?_)
          refine lv_goto (tgt := 23) hx hb dL_law_533 rfl ?_
          exact ih _ _ _ _ h p e s m args below meth c H locs cells slots ls cx hnm hex hI (lv_sub hl [1, 2, 3, 4, 0] rfl)
        · have h := gz_f h hc
          refine lv_iconst hx hb dL_law_125 gz_ic_0 ?_
          obtain ⟨hz, h⟩ := g_ifs h
          cases h
          exact gr_zret cx hz hI dL_law_126
      have h := gz_f h hc
      by_cases hc : (v2 &&& (15 : Int32)) = 1
      · have h := gz_t h hc
        refine lv_tableIn (tgt := 127) (off := (88)) hx hb dL_law_39 (by rw [hc]; decide) (by rw [hc]; decide) (by rw [hc]; rfl) rfl ?_
        refine gr_aload_n hx hb x1 dL_law_127 rfl (lv_at hl 1 rfl) ?_
        refine gr_aload_n hx hb x3 dL_law_128 rfl (lv_at hl 3 rfl) ?_
        refine C_X0_build cx (gz_nh hex) hI (Or.inl (hts _ q310)) hl.1 (gz_cs (Nat.le_of_ble_eq_true rfl)) (by omega) dL_law_129 h (fun v7 S7 h H locs cells slots hI => ?_)
        refine gz_istore hx hb dL_law_132 hl (by decide) [0, 1, 2, 3, 4] rfl (gz_con ⟨gz_ne rfl, Or.inl (gz_ne rfl)⟩ (gz_con ⟨gz_ne rfl, Or.inl (gz_ne rfl)⟩ (gz_con ⟨gz_ne rfl, Or.inl (gz_ne rfl)⟩ (gz_con ⟨gz_ne rfl, Or.inl (gz_ne rfl)⟩ (gz_con ⟨gz_ne rfl, Or.inr rfl⟩ gz_nil))))) (fun ls hl => ?_)
        refine gr_aload_n hx hb (some (gg_o G)) dL_law_134 rfl (lv_at hl 3 rfl) ?_
        refine D_X4_build hf cx (gz_nh hex) hI (Or.inl (hts _ q1188)) hl.1 (gz_cs (Nat.le_of_ble_eq_true rfl)) (by omega) dL_law_135 h (fun v8 S8 h H locs cells slots hI => ?_)
        refine gz_istore hx hb dL_law_138 hl (by decide) [0, 1, 2, 3, 4, 5] rfl (gz_con ⟨gz_ne rfl, Or.inr rfl⟩ (gz_con ⟨gz_ne rfl, Or.inl (gz_ne rfl)⟩ (gz_con ⟨gz_ne rfl, Or.inl (gz_ne rfl)⟩ (gz_con ⟨gz_ne rfl, Or.inl (gz_ne rfl)⟩ (gz_con ⟨gz_ne rfl, Or.inl (gz_ne rfl)⟩ (gz_con ⟨gz_ne rfl, Or.inl (gz_ne rfl)⟩ gz_nil)))))) (fun ls hl => ?_)
        refine gr_aload_n hx hb (some (gg_o G)) dL_law_140 rfl (lv_at hl 4 rfl) ?_
        refine D_X4_thrown hf cx (gz_nh hex) hI (Or.inl (hts _ q1180)) hl.1 (gz_cs (Nat.le_of_ble_eq_true rfl)) (by omega) dL_law_141 h (fun v9 S9 h H locs cells slots hI => ?_)
        refine lv_iload hx hb dL_law_144 (lv_at hl 1 rfl) ?_
        refine lv_icmp_eq (tgt := 151) hx hb dL_law_146 rfl (fun hc => ?_) (fun hc => ?_)
        · have h := gz_t h hc
          refine lv_iload hx hb dL_law_151 (lv_at hl 1 rfl) ?_
          refine lv_if_ne (tgt := 168) hx hb dL_law_153 rfl (fun hc => ?_) (fun hc => ?_)
          · have h := gz_f h hc
            refine lv_goto (tgt := 530) hx hb dL_law_168 rfl ?_
            refine gz_iinc (k := 6) (v := (x4 + (3 : Int32))) hx hb dL_law_530 hl rfl (congrArg (fun z => x4 + z) gz_ic_3) (by decide) [2, 3, 4, 5] rfl (gz_con ⟨gz_ne rfl, Or.inl (gz_ne rfl)⟩ (gz_con ⟨gz_ne rfl, Or.inl (gz_ne rfl)⟩ (gz_con ⟨gz_ne rfl, Or.inl (gz_ne rfl)⟩ (gz_con ⟨gz_ne rfl, Or.inr (gl_cat x3)⟩ gz_nil)))) (fun ls hl => ?_)
            refine lv_goto (tgt := 23) hx hb dL_law_533 rfl ?_
            exact ih _ _ _ _ h p e s m args below meth c H locs cells slots ls cx hnm hex hI (lv_sub hl [1, 2, 3, 4, 0] rfl)
          · have h := gz_t h hc
            refine gr_aload_n hx hb x3 dL_law_156 rfl (lv_at hl 5 rfl) ?_
            refine lv_iconst hx hb dL_law_157 gz_ic_0 ?_
            obtain ⟨v10, e10, h⟩ := g_bind h
            refine gr_lald cx hI e10 dL_law_158 ?_
            refine lv_iload hx hb dL_law_159 (lv_at hl 0 rfl) ?_
            refine lv_i2l hx hb dL_law_161 rfl ?_
            refine W.lcmp hx hb dL_law_162 ?_
            refine lv_if_eq (tgt := 168) hx hb dL_law_163 rfl (fun hc => ?_) (fun hc => ?_)
            · have h := gz_t h hc
              refine lv_goto (tgt := 530) hx hb dL_law_168 rfl ?_
              refine gz_iinc (k := 6) (v := (x4 + (3 : Int32))) hx hb dL_law_530 hl rfl (congrArg (fun z => x4 + z) gz_ic_3) (by decide) [2, 3, 4, 5] rfl (gz_con ⟨gz_ne rfl, Or.inl (gz_ne rfl)⟩ (gz_con ⟨gz_ne rfl, Or.inl (gz_ne rfl)⟩ (gz_con ⟨gz_ne rfl, Or.inl (gz_ne rfl)⟩ (gz_con ⟨gz_ne rfl, Or.inr (gl_cat x3)⟩ gz_nil)))) (fun ls hl => ?_)
              refine lv_goto (tgt := 23) hx hb dL_law_533 rfl ?_
              exact ih _ _ _ _ h p e s m args below meth c H locs cells slots ls cx hnm hex hI (lv_sub hl [1, 2, 3, 4, 0] rfl)
            · have h := gz_f h hc
              refine lv_iconst hx hb dL_law_166 gz_ic_0 ?_
              obtain ⟨hz, h⟩ := g_ifs h
              cases h
              exact gr_zret cx hz hI dL_law_167
        · have h := gz_f h hc
          refine lv_iconst hx hb dL_law_149 gz_ic_0 ?_
          obtain ⟨hz, h⟩ := g_ifs h
          cases h
          exact gr_zret cx hz hI dL_law_150
      have h := gz_f h hc
      by_cases hc : (v2 &&& (15 : Int32)) = 2
      · have h := gz_t h hc
        refine lv_tableIn (tgt := 171) (off := (132)) hx hb dL_law_39 (by rw [hc]; decide) (by rw [hc]; decide) (by rw [hc]; rfl) rfl ?_
        refine gr_aload_n hx hb x1 dL_law_171 rfl (lv_at hl 1 rfl) ?_
        obtain ⟨a11, t11, h⟩ := gz_q_s h
        refine C_X1_place cx (gz_nh hex) hI (Or.inl (hts _ q251)) hl.1 (gz_cs (Nat.le_of_ble_eq_true rfl)) (by omega) dL_law_172 t11 h (fun v11 S11 h H locs cells slots hI => ?_)
        refine gr_aload_n hx hb (some (gg_o G)) dL_law_175 rfl (lv_at hl 2 rfl) ?_
        refine D_X4_place hf cx (gz_nh hex) hI (Or.inl (hts _ q1265)) hl.1 (gz_cs (Nat.le_of_ble_eq_true rfl)) (by omega) dL_law_176 h (fun v12 S12 h H locs cells slots hI => ?_)
        refine lv_icmp_eq (tgt := 530) hx hb dL_law_179 rfl (fun hc => ?_) (fun hc => ?_)
        · have h := gz_t h hc
          refine gz_iinc (k := 4) (v := (x4 + (3 : Int32))) hx hb dL_law_530 hl rfl (congrArg (fun z => x4 + z) gz_ic_3) (by decide) [0, 1, 2, 3] rfl (gz_con ⟨gz_ne rfl, Or.inl (gz_ne rfl)⟩ (gz_con ⟨gz_ne rfl, Or.inl (gz_ne rfl)⟩ (gz_con ⟨gz_ne rfl, Or.inl (gz_ne rfl)⟩ (gz_con ⟨gz_ne rfl, Or.inr (gl_cat x3)⟩ gz_nil)))) (fun ls hl => ?_)
          refine lv_goto (tgt := 23) hx hb dL_law_533 rfl ?_
          exact ih _ _ _ _ h p e s m args below meth c H locs cells slots ls cx hnm hex hI (lv_sub hl [1, 2, 3, 4, 0] rfl)
        · have h := gz_f h hc
          refine lv_iconst hx hb dL_law_182 gz_ic_0 ?_
          obtain ⟨hz, h⟩ := g_ifs h
          cases h
          exact gr_zret cx hz hI dL_law_183
      have h := gz_f h hc
      by_cases hc : (v2 &&& (15 : Int32)) = 3
      · have h := gz_t h hc
        refine lv_tableIn (tgt := 184) (off := (145)) hx hb dL_law_39 (by rw [hc]; decide) (by rw [hc]; decide) (by rw [hc]; rfl) rfl ?_
        refine gr_aload_n hx hb x1 dL_law_184 rfl (lv_at hl 1 rfl) ?_
        refine gr_aload_n hx hb x3 dL_law_185 rfl (lv_at hl 3 rfl) ?_
        refine C_X0_start cx (gz_nh hex) hI (Or.inl (hts _ q731)) hl.1 (gz_cs (Nat.le_of_ble_eq_true rfl)) (by omega) dL_law_186 h (fun v13 S13 h H locs cells slots hI => ?_)
        refine gz_istore hx hb dL_law_189 hl (by decide) [0, 1, 2, 3, 4] rfl (gz_con ⟨gz_ne rfl, Or.inl (gz_ne rfl)⟩ (gz_con ⟨gz_ne rfl, Or.inl (gz_ne rfl)⟩ (gz_con ⟨gz_ne rfl, Or.inl (gz_ne rfl)⟩ (gz_con ⟨gz_ne rfl, Or.inl (gz_ne rfl)⟩ (gz_con ⟨gz_ne rfl, Or.inr rfl⟩ gz_nil))))) (fun ls hl => ?_)
        refine gr_aload_n hx hb (some (gg_o G)) dL_law_191 rfl (lv_at hl 3 rfl) ?_
        refine D_X4_start hf cx (gz_nh hex) hI (Or.inl (hts _ q1269)) hl.1 (gz_cs (Nat.le_of_ble_eq_true rfl)) (by omega) dL_law_192 h (fun v14 S14 h H locs cells slots hI => ?_)
        refine gz_istore hx hb dL_law_195 hl (by decide) [0, 1, 2, 3, 4, 5] rfl (gz_con ⟨gz_ne rfl, Or.inr rfl⟩ (gz_con ⟨gz_ne rfl, Or.inl (gz_ne rfl)⟩ (gz_con ⟨gz_ne rfl, Or.inl (gz_ne rfl)⟩ (gz_con ⟨gz_ne rfl, Or.inl (gz_ne rfl)⟩ (gz_con ⟨gz_ne rfl, Or.inl (gz_ne rfl)⟩ (gz_con ⟨gz_ne rfl, Or.inl (gz_ne rfl)⟩ gz_nil)))))) (fun ls hl => ?_)
        refine gr_aload_n hx hb (some (gg_o G)) dL_law_197 rfl (lv_at hl 4 rfl) ?_
        refine D_X4_thrown hf cx (gz_nh hex) hI (Or.inl (hts _ q1180)) hl.1 (gz_cs (Nat.le_of_ble_eq_true rfl)) (by omega) dL_law_198 h (fun v15 S15 h H locs cells slots hI => ?_)
        refine lv_iload hx hb dL_law_201 (lv_at hl 1 rfl) ?_
        refine lv_icmp_eq (tgt := 208) hx hb dL_law_203 rfl (fun hc => ?_) (fun hc => ?_)
        · have h := gz_t h hc
          refine lv_iload hx hb dL_law_208 (lv_at hl 1 rfl) ?_
          refine lv_if_ne (tgt := 225) hx hb dL_law_210 rfl (fun hc => ?_) (fun hc => ?_)
          · have h := gz_f h hc
            refine lv_goto (tgt := 530) hx hb dL_law_225 rfl ?_
            refine gz_iinc (k := 6) (v := (x4 + (3 : Int32))) hx hb dL_law_530 hl rfl (congrArg (fun z => x4 + z) gz_ic_3) (by decide) [2, 3, 4, 5] rfl (gz_con ⟨gz_ne rfl, Or.inl (gz_ne rfl)⟩ (gz_con ⟨gz_ne rfl, Or.inl (gz_ne rfl)⟩ (gz_con ⟨gz_ne rfl, Or.inl (gz_ne rfl)⟩ (gz_con ⟨gz_ne rfl, Or.inr (gl_cat x3)⟩ gz_nil)))) (fun ls hl => ?_)
            refine lv_goto (tgt := 23) hx hb dL_law_533 rfl ?_
            exact ih _ _ _ _ h p e s m args below meth c H locs cells slots ls cx hnm hex hI (lv_sub hl [1, 2, 3, 4, 0] rfl)
          · have h := gz_t h hc
            refine gr_aload_n hx hb x3 dL_law_213 rfl (lv_at hl 5 rfl) ?_
            refine lv_iconst hx hb dL_law_214 gz_ic_0 ?_
            obtain ⟨v16, e16, h⟩ := g_bind h
            refine gr_lald cx hI e16 dL_law_215 ?_
            refine lv_iload hx hb dL_law_216 (lv_at hl 0 rfl) ?_
            refine lv_i2l hx hb dL_law_218 rfl ?_
            refine W.lcmp hx hb dL_law_219 ?_
            refine lv_if_eq (tgt := 225) hx hb dL_law_220 rfl (fun hc => ?_) (fun hc => ?_)
            · have h := gz_t h hc
              refine lv_goto (tgt := 530) hx hb dL_law_225 rfl ?_
              refine gz_iinc (k := 6) (v := (x4 + (3 : Int32))) hx hb dL_law_530 hl rfl (congrArg (fun z => x4 + z) gz_ic_3) (by decide) [2, 3, 4, 5] rfl (gz_con ⟨gz_ne rfl, Or.inl (gz_ne rfl)⟩ (gz_con ⟨gz_ne rfl, Or.inl (gz_ne rfl)⟩ (gz_con ⟨gz_ne rfl, Or.inl (gz_ne rfl)⟩ (gz_con ⟨gz_ne rfl, Or.inr (gl_cat x3)⟩ gz_nil)))) (fun ls hl => ?_)
              refine lv_goto (tgt := 23) hx hb dL_law_533 rfl ?_
              exact ih _ _ _ _ h p e s m args below meth c H locs cells slots ls cx hnm hex hI (lv_sub hl [1, 2, 3, 4, 0] rfl)
            · have h := gz_f h hc
              refine lv_iconst hx hb dL_law_223 gz_ic_0 ?_
              obtain ⟨hz, h⟩ := g_ifs h
              cases h
              exact gr_zret cx hz hI dL_law_224
        · have h := gz_f h hc
          refine lv_iconst hx hb dL_law_206 gz_ic_0 ?_
          obtain ⟨hz, h⟩ := g_ifs h
          cases h
          exact gr_zret cx hz hI dL_law_207
      have h := gz_f h hc
      by_cases hc : (v2 &&& (15 : Int32)) = 4
      · have h := gz_t h hc
        refine lv_tableIn (tgt := 228) (off := (189)) hx hb dL_law_39 (by rw [hc]; decide) (by rw [hc]; decide) (by rw [hc]; rfl) rfl ?_
        refine gr_aload_n hx hb x1 dL_law_228 rfl (lv_at hl 1 rfl) ?_
        refine gr_aload_n hx hb (some xb) dL_law_229 rfl (lv_at hl 0 rfl) ?_
        refine lv_iload hx hb dL_law_230 (lv_at hl 4 rfl) ?_
        refine lv_iconst hx hb dL_law_232 gz_ic_1 ?_
        refine lv_iadd hx hb dL_law_233 ?_
        obtain ⟨v17, e17, h⟩ := g_bind h
        refine gl_sld cx hX hI e17 dL_law_234 ?_
        refine lv_i2c hx hb dL_law_235 rfl ?_
        refine gr_aload_n hx hb x3 dL_law_236 rfl (lv_at hl 3 rfl) ?_
        refine C_X0_event cx (gz_nh hex) hI (Or.inl (hts _ q962)) hl.1 (gz_cs (Nat.le_of_ble_eq_true rfl)) (by omega) dL_law_237 h (fun v18 S18 h H locs cells slots hI => ?_)
        refine gz_istore hx hb dL_law_240 hl (by decide) [0, 1, 2, 3, 4] rfl (gz_con ⟨gz_ne rfl, Or.inl (gz_ne rfl)⟩ (gz_con ⟨gz_ne rfl, Or.inl (gz_ne rfl)⟩ (gz_con ⟨gz_ne rfl, Or.inl (gz_ne rfl)⟩ (gz_con ⟨gz_ne rfl, Or.inl (gz_ne rfl)⟩ (gz_con ⟨gz_ne rfl, Or.inr rfl⟩ gz_nil))))) (fun ls hl => ?_)
        refine gr_aload_n hx hb (some (gg_o G)) dL_law_242 rfl (lv_at hl 3 rfl) ?_
        refine gr_aload_n hx hb (some xb) dL_law_243 rfl (lv_at hl 1 rfl) ?_
        refine lv_iload hx hb dL_law_244 (lv_at hl 5 rfl) ?_
        refine lv_iconst hx hb dL_law_246 gz_ic_1 ?_
        refine lv_iadd hx hb dL_law_247 ?_
        obtain ⟨v19, e19, h⟩ := g_bind h
        refine gl_sld cx hX hI e19 dL_law_248 ?_
        refine lv_i2c hx hb dL_law_249 rfl ?_
        refine D_X4_event hf cx (gz_nh hex) hI (Or.inl (hts _ q1363)) hl.1 (gz_cs (Nat.le_of_ble_eq_true rfl)) (by omega) dL_law_250 h (fun v20 S20 h H locs cells slots hI => ?_)
        refine gz_istore hx hb dL_law_253 hl (by decide) [0, 1, 2, 3, 4, 5] rfl (gz_con ⟨gz_ne rfl, Or.inr rfl⟩ (gz_con ⟨gz_ne rfl, Or.inl (gz_ne rfl)⟩ (gz_con ⟨gz_ne rfl, Or.inl (gz_ne rfl)⟩ (gz_con ⟨gz_ne rfl, Or.inl (gz_ne rfl)⟩ (gz_con ⟨gz_ne rfl, Or.inl (gz_ne rfl)⟩ (gz_con ⟨gz_ne rfl, Or.inl (gz_ne rfl)⟩ gz_nil)))))) (fun ls hl => ?_)
        refine gr_aload_n hx hb (some (gg_o G)) dL_law_255 rfl (lv_at hl 4 rfl) ?_
        refine D_X4_thrown hf cx (gz_nh hex) hI (Or.inl (hts _ q1180)) hl.1 (gz_cs (Nat.le_of_ble_eq_true rfl)) (by omega) dL_law_256 h (fun v21 S21 h H locs cells slots hI => ?_)
        refine lv_iload hx hb dL_law_259 (lv_at hl 1 rfl) ?_
        refine lv_icmp_eq (tgt := 266) hx hb dL_law_261 rfl (fun hc => ?_) (fun hc => ?_)
        · have h := gz_t h hc
          refine lv_iload hx hb dL_law_266 (lv_at hl 1 rfl) ?_
          refine lv_if_ne (tgt := 283) hx hb dL_law_268 rfl (fun hc => ?_) (fun hc => ?_)
          · have h := gz_f h hc
            refine lv_goto (tgt := 530) hx hb dL_law_283 rfl ?_
            refine gz_iinc (k := 6) (v := (x4 + (3 : Int32))) hx hb dL_law_530 hl rfl (congrArg (fun z => x4 + z) gz_ic_3) (by decide) [2, 3, 4, 5] rfl (gz_con ⟨gz_ne rfl, Or.inl (gz_ne rfl)⟩ (gz_con ⟨gz_ne rfl, Or.inl (gz_ne rfl)⟩ (gz_con ⟨gz_ne rfl, Or.inl (gz_ne rfl)⟩ (gz_con ⟨gz_ne rfl, Or.inr (gl_cat x3)⟩ gz_nil)))) (fun ls hl => ?_)
            refine lv_goto (tgt := 23) hx hb dL_law_533 rfl ?_
            exact ih _ _ _ _ h p e s m args below meth c H locs cells slots ls cx hnm hex hI (lv_sub hl [1, 2, 3, 4, 0] rfl)
          · have h := gz_t h hc
            refine gr_aload_n hx hb x3 dL_law_271 rfl (lv_at hl 5 rfl) ?_
            refine lv_iconst hx hb dL_law_272 gz_ic_0 ?_
            obtain ⟨v22, e22, h⟩ := g_bind h
            refine gr_lald cx hI e22 dL_law_273 ?_
            refine lv_iload hx hb dL_law_274 (lv_at hl 0 rfl) ?_
            refine lv_i2l hx hb dL_law_276 rfl ?_
            refine W.lcmp hx hb dL_law_277 ?_
            refine lv_if_eq (tgt := 283) hx hb dL_law_278 rfl (fun hc => ?_) (fun hc => ?_)
            · have h := gz_t h hc
              refine lv_goto (tgt := 530) hx hb dL_law_283 rfl ?_
              refine gz_iinc (k := 6) (v := (x4 + (3 : Int32))) hx hb dL_law_530 hl rfl (congrArg (fun z => x4 + z) gz_ic_3) (by decide) [2, 3, 4, 5] rfl (gz_con ⟨gz_ne rfl, Or.inl (gz_ne rfl)⟩ (gz_con ⟨gz_ne rfl, Or.inl (gz_ne rfl)⟩ (gz_con ⟨gz_ne rfl, Or.inl (gz_ne rfl)⟩ (gz_con ⟨gz_ne rfl, Or.inr (gl_cat x3)⟩ gz_nil)))) (fun ls hl => ?_)
              refine lv_goto (tgt := 23) hx hb dL_law_533 rfl ?_
              exact ih _ _ _ _ h p e s m args below meth c H locs cells slots ls cx hnm hex hI (lv_sub hl [1, 2, 3, 4, 0] rfl)
            · have h := gz_f h hc
              refine lv_iconst hx hb dL_law_281 gz_ic_0 ?_
              obtain ⟨hz, h⟩ := g_ifs h
              cases h
              exact gr_zret cx hz hI dL_law_282
        · have h := gz_f h hc
          refine lv_iconst hx hb dL_law_264 gz_ic_0 ?_
          obtain ⟨hz, h⟩ := g_ifs h
          cases h
          exact gr_zret cx hz hI dL_law_265
      have h := gz_f h hc
      by_cases hc : (v2 &&& (15 : Int32)) = 5
      · have h := gz_t h hc
        refine lv_tableIn (tgt := 286) (off := (247)) hx hb dL_law_39 (by rw [hc]; decide) (by rw [hc]; decide) (by rw [hc]; rfl) rfl ?_
        refine gr_aload_n hx hb x1 dL_law_286 rfl (lv_at hl 1 rfl) ?_
        refine gr_aload_n hx hb (some xb) dL_law_287 rfl (lv_at hl 0 rfl) ?_
        refine lv_iload hx hb dL_law_288 (lv_at hl 4 rfl) ?_
        refine lv_iconst hx hb dL_law_290 gz_ic_1 ?_
        refine lv_iadd hx hb dL_law_291 ?_
        obtain ⟨v23, e23, h⟩ := g_bind h
        refine gl_sld cx hX hI e23 dL_law_292 ?_
        refine gr_aload_n hx hb x3 dL_law_293 rfl (lv_at hl 3 rfl) ?_
        refine C_X0_tick cx (gz_nh hex) hI (Or.inl (hts _ q974)) hl.1 (gz_cs (Nat.le_of_ble_eq_true rfl)) (by omega) dL_law_294 h (fun v24 S24 h H locs cells slots hI => ?_)
        refine gz_istore hx hb dL_law_297 hl (by decide) [0, 1, 2, 3, 4] rfl (gz_con ⟨gz_ne rfl, Or.inl (gz_ne rfl)⟩ (gz_con ⟨gz_ne rfl, Or.inl (gz_ne rfl)⟩ (gz_con ⟨gz_ne rfl, Or.inl (gz_ne rfl)⟩ (gz_con ⟨gz_ne rfl, Or.inl (gz_ne rfl)⟩ (gz_con ⟨gz_ne rfl, Or.inr rfl⟩ gz_nil))))) (fun ls hl => ?_)
        refine gr_aload_n hx hb (some (gg_o G)) dL_law_299 rfl (lv_at hl 3 rfl) ?_
        refine gr_aload_n hx hb (some xb) dL_law_300 rfl (lv_at hl 1 rfl) ?_
        refine lv_iload hx hb dL_law_301 (lv_at hl 5 rfl) ?_
        refine lv_iconst hx hb dL_law_303 gz_ic_1 ?_
        refine lv_iadd hx hb dL_law_304 ?_
        obtain ⟨v25, e25, h⟩ := g_bind h
        refine gl_sld cx hX hI e25 dL_law_305 ?_
        refine D_X4_tick hf cx (gz_nh hex) hI (Or.inl (hts _ q1371)) hl.1 (gz_cs (Nat.le_of_ble_eq_true rfl)) (by omega) dL_law_306 h (fun v26 S26 h H locs cells slots hI => ?_)
        refine gz_istore hx hb dL_law_309 hl (by decide) [0, 1, 2, 3, 4, 5] rfl (gz_con ⟨gz_ne rfl, Or.inr rfl⟩ (gz_con ⟨gz_ne rfl, Or.inl (gz_ne rfl)⟩ (gz_con ⟨gz_ne rfl, Or.inl (gz_ne rfl)⟩ (gz_con ⟨gz_ne rfl, Or.inl (gz_ne rfl)⟩ (gz_con ⟨gz_ne rfl, Or.inl (gz_ne rfl)⟩ (gz_con ⟨gz_ne rfl, Or.inl (gz_ne rfl)⟩ gz_nil)))))) (fun ls hl => ?_)
        refine gr_aload_n hx hb (some (gg_o G)) dL_law_311 rfl (lv_at hl 4 rfl) ?_
        refine D_X4_thrown hf cx (gz_nh hex) hI (Or.inl (hts _ q1180)) hl.1 (gz_cs (Nat.le_of_ble_eq_true rfl)) (by omega) dL_law_312 h (fun v27 S27 h H locs cells slots hI => ?_)
        refine lv_iload hx hb dL_law_315 (lv_at hl 1 rfl) ?_
        refine lv_icmp_eq (tgt := 322) hx hb dL_law_317 rfl (fun hc => ?_) (fun hc => ?_)
        · have h := gz_t h hc
          refine lv_iload hx hb dL_law_322 (lv_at hl 1 rfl) ?_
          refine lv_if_ne (tgt := 339) hx hb dL_law_324 rfl (fun hc => ?_) (fun hc => ?_)
          · have h := gz_f h hc
            refine lv_goto (tgt := 530) hx hb dL_law_339 rfl ?_
            refine gz_iinc (k := 6) (v := (x4 + (3 : Int32))) hx hb dL_law_530 hl rfl (congrArg (fun z => x4 + z) gz_ic_3) (by decide) [2, 3, 4, 5] rfl (gz_con ⟨gz_ne rfl, Or.inl (gz_ne rfl)⟩ (gz_con ⟨gz_ne rfl, Or.inl (gz_ne rfl)⟩ (gz_con ⟨gz_ne rfl, Or.inl (gz_ne rfl)⟩ (gz_con ⟨gz_ne rfl, Or.inr (gl_cat x3)⟩ gz_nil)))) (fun ls hl => ?_)
            refine lv_goto (tgt := 23) hx hb dL_law_533 rfl ?_
            exact ih _ _ _ _ h p e s m args below meth c H locs cells slots ls cx hnm hex hI (lv_sub hl [1, 2, 3, 4, 0] rfl)
          · have h := gz_t h hc
            refine gr_aload_n hx hb x3 dL_law_327 rfl (lv_at hl 5 rfl) ?_
            refine lv_iconst hx hb dL_law_328 gz_ic_0 ?_
            obtain ⟨v28, e28, h⟩ := g_bind h
            refine gr_lald cx hI e28 dL_law_329 ?_
            refine lv_iload hx hb dL_law_330 (lv_at hl 0 rfl) ?_
            refine lv_i2l hx hb dL_law_332 rfl ?_
            refine W.lcmp hx hb dL_law_333 ?_
            refine lv_if_eq (tgt := 339) hx hb dL_law_334 rfl (fun hc => ?_) (fun hc => ?_)
            · have h := gz_t h hc
              refine lv_goto (tgt := 530) hx hb dL_law_339 rfl ?_
              refine gz_iinc (k := 6) (v := (x4 + (3 : Int32))) hx hb dL_law_530 hl rfl (congrArg (fun z => x4 + z) gz_ic_3) (by decide) [2, 3, 4, 5] rfl (gz_con ⟨gz_ne rfl, Or.inl (gz_ne rfl)⟩ (gz_con ⟨gz_ne rfl, Or.inl (gz_ne rfl)⟩ (gz_con ⟨gz_ne rfl, Or.inl (gz_ne rfl)⟩ (gz_con ⟨gz_ne rfl, Or.inr (gl_cat x3)⟩ gz_nil)))) (fun ls hl => ?_)
              refine lv_goto (tgt := 23) hx hb dL_law_533 rfl ?_
              exact ih _ _ _ _ h p e s m args below meth c H locs cells slots ls cx hnm hex hI (lv_sub hl [1, 2, 3, 4, 0] rfl)
            · have h := gz_f h hc
              refine lv_iconst hx hb dL_law_337 gz_ic_0 ?_
              obtain ⟨hz, h⟩ := g_ifs h
              cases h
              exact gr_zret cx hz hI dL_law_338
        · have h := gz_f h hc
          refine lv_iconst hx hb dL_law_320 gz_ic_0 ?_
          obtain ⟨hz, h⟩ := g_ifs h
          cases h
          exact gr_zret cx hz hI dL_law_321
      have h := gz_f h hc
      by_cases hc : (v2 &&& (15 : Int32)) = 6
      · have h := gz_t h hc
        refine lv_tableIn (tgt := 342) (off := (303)) hx hb dL_law_39 (by rw [hc]; decide) (by rw [hc]; decide) (by rw [hc]; rfl) rfl ?_
        refine gr_aload_n hx hb x1 dL_law_342 rfl (lv_at hl 1 rfl) ?_
        obtain ⟨a29, t29, h⟩ := gz_q_s h
        refine C_X1_runs cx (gz_nh hex) hI (Or.inl (hts _ q255)) hl.1 (gz_cs (Nat.le_of_ble_eq_true rfl)) (by omega) dL_law_343 t29 h (fun v29 S29 h H locs cells slots hI => ?_)
        refine gr_aload_n hx hb (some (gg_o G)) dL_law_346 rfl (lv_at hl 2 rfl) ?_
        refine D_X4_runs hf cx (gz_nh hex) hI (Or.inl (hts _ q1379)) hl.1 (gz_cs (Nat.le_of_ble_eq_true rfl)) (by omega) dL_law_347 h (fun v30 S30 h H locs cells slots hI => ?_)
        refine lv_icmp_eq (tgt := 530) hx hb dL_law_350 rfl (fun hc => ?_) (fun hc => ?_)
        · have h := gz_t h hc
          refine gz_iinc (k := 4) (v := (x4 + (3 : Int32))) hx hb dL_law_530 hl rfl (congrArg (fun z => x4 + z) gz_ic_3) (by decide) [0, 1, 2, 3] rfl (gz_con ⟨gz_ne rfl, Or.inl (gz_ne rfl)⟩ (gz_con ⟨gz_ne rfl, Or.inl (gz_ne rfl)⟩ (gz_con ⟨gz_ne rfl, Or.inl (gz_ne rfl)⟩ (gz_con ⟨gz_ne rfl, Or.inr (gl_cat x3)⟩ gz_nil)))) (fun ls hl => ?_)
          refine lv_goto (tgt := 23) hx hb dL_law_533 rfl ?_
          exact ih _ _ _ _ h p e s m args below meth c H locs cells slots ls cx hnm hex hI (lv_sub hl [1, 2, 3, 4, 0] rfl)
        · have h := gz_f h hc
          refine lv_iconst hx hb dL_law_353 gz_ic_0 ?_
          obtain ⟨hz, h⟩ := g_ifs h
          cases h
          exact gr_zret cx hz hI dL_law_354
      have h := gz_f h hc
      by_cases hc : (v2 &&& (15 : Int32)) = 7
      · have h := gz_t h hc
        refine lv_tableIn (tgt := 355) (off := (316)) hx hb dL_law_39 (by rw [hc]; decide) (by rw [hc]; decide) (by rw [hc]; rfl) rfl ?_
        refine gr_aload_n hx hb x1 dL_law_355 rfl (lv_at hl 1 rfl) ?_
        refine gr_aload_n hx hb (some xb) dL_law_356 rfl (lv_at hl 0 rfl) ?_
        refine lv_iload hx hb dL_law_357 (lv_at hl 4 rfl) ?_
        refine lv_iconst hx hb dL_law_359 gz_ic_1 ?_
        refine lv_iadd hx hb dL_law_360 ?_
        obtain ⟨v31, e31, h⟩ := g_bind h
        refine gl_sld cx hX hI e31 dL_law_361 ?_
        refine lv_i2c hx hb dL_law_362 rfl ?_
        obtain ⟨a32, t32, h⟩ := gz_q_s h
        refine C_X1_active cx (gz_nh hex) hI (Or.inl (hts _ q259)) hl.1 (gz_cs (Nat.le_of_ble_eq_true rfl)) (by omega) dL_law_363 t32 h (fun v32 S32 h H locs cells slots hI => ?_)
        refine gr_aload_n hx hb (some (gg_o G)) dL_law_366 rfl (lv_at hl 2 rfl) ?_
        refine gr_aload_n hx hb (some xb) dL_law_367 rfl (lv_at hl 0 rfl) ?_
        refine lv_iload hx hb dL_law_368 (lv_at hl 4 rfl) ?_
        refine lv_iconst hx hb dL_law_370 gz_ic_1 ?_
        refine lv_iadd hx hb dL_law_371 ?_
        obtain ⟨v33, e33, h⟩ := g_bind h
        refine gl_sld cx hX hI e33 dL_law_372 ?_
        refine lv_i2c hx hb dL_law_373 rfl ?_
        refine D_X4_active hf cx (gz_nh hex) hI (Or.inl (hts _ q1383)) hl.1 (gz_cs (Nat.le_of_ble_eq_true rfl)) (by omega) dL_law_374 h (fun v34 S34 h H locs cells slots hI => ?_)
        refine lv_icmp_eq (tgt := 530) hx hb dL_law_377 rfl (fun hc => ?_) (fun hc => ?_)
        · have h := gz_t h hc
          refine gz_iinc (k := 4) (v := (x4 + (3 : Int32))) hx hb dL_law_530 hl rfl (congrArg (fun z => x4 + z) gz_ic_3) (by decide) [0, 1, 2, 3] rfl (gz_con ⟨gz_ne rfl, Or.inl (gz_ne rfl)⟩ (gz_con ⟨gz_ne rfl, Or.inl (gz_ne rfl)⟩ (gz_con ⟨gz_ne rfl, Or.inl (gz_ne rfl)⟩ (gz_con ⟨gz_ne rfl, Or.inr (gl_cat x3)⟩ gz_nil)))) (fun ls hl => ?_)
          refine lv_goto (tgt := 23) hx hb dL_law_533 rfl ?_
          exact ih _ _ _ _ h p e s m args below meth c H locs cells slots ls cx hnm hex hI (lv_sub hl [1, 2, 3, 4, 0] rfl)
        · have h := gz_f h hc
          refine lv_iconst hx hb dL_law_380 gz_ic_0 ?_
          obtain ⟨hz, h⟩ := g_ifs h
          cases h
          exact gr_zret cx hz hI dL_law_381
      have h := gz_f h hc
      by_cases hc : (v2 &&& (15 : Int32)) = 8
      · have h := gz_t h hc
        refine lv_tableIn (tgt := 382) (off := (343)) hx hb dL_law_39 (by rw [hc]; decide) (by rw [hc]; decide) (by rw [hc]; rfl) rfl ?_
        refine gr_aload_n hx hb x1 dL_law_382 rfl (lv_at hl 1 rfl) ?_
        refine gr_aload_n hx hb (some xb) dL_law_383 rfl (lv_at hl 0 rfl) ?_
        refine lv_iload hx hb dL_law_384 (lv_at hl 4 rfl) ?_
        refine lv_iconst hx hb dL_law_386 gz_ic_1 ?_
        refine lv_iadd hx hb dL_law_387 ?_
        obtain ⟨v35, e35, h⟩ := g_bind h
        refine gl_sld cx hX hI e35 dL_law_388 ?_
        refine lv_i2c hx hb dL_law_389 rfl ?_
        obtain ⟨a36, t36, h⟩ := gz_q_s h
        refine C_X1_variable cx (gz_nh hex) hI (Or.inl (hts _ q290)) hl.1 (gz_cs (Nat.le_of_ble_eq_true rfl)) (by omega) dL_law_390 t36 h (fun v36 S36 h H locs cells slots hI => ?_)
        refine gz_dstore hx hb dL_law_393 hl (by decide) [0, 1, 2, 3, 4] rfl (gz_con ⟨gz_ne rfl, gz_ne rfl, Or.inl (gz_ne rfl)⟩ (gz_con ⟨gz_ne rfl, gz_ne rfl, Or.inl (gz_ne rfl)⟩ (gz_con ⟨gz_ne rfl, gz_ne rfl, Or.inl (gz_ne rfl)⟩ (gz_con ⟨gz_ne rfl, gz_ne rfl, Or.inl (gz_ne rfl)⟩ (gz_con ⟨gz_ne rfl, gz_ne rfl, Or.inr rfl⟩ gz_nil))))) (fun ls hl => ?_)
        refine gr_aload_n hx hb (some (gg_o G)) dL_law_395 rfl (lv_at hl 3 rfl) ?_
        refine gr_aload_n hx hb (some xb) dL_law_396 rfl (lv_at hl 1 rfl) ?_
        refine lv_iload hx hb dL_law_397 (lv_at hl 5 rfl) ?_
        refine lv_iconst hx hb dL_law_399 gz_ic_1 ?_
        refine lv_iadd hx hb dL_law_400 ?_
        obtain ⟨v37, e37, h⟩ := g_bind h
        refine gl_sld cx hX hI e37 dL_law_401 ?_
        refine lv_i2c hx hb dL_law_402 rfl ?_
        refine D_X4_variable hf cx (gz_nh hex) hI (Or.inl (hts _ q1391)) hl.1 (gz_cs (Nat.le_of_ble_eq_true rfl)) (by omega) dL_law_403 h (fun v38 S38 h H locs cells slots hI => ?_)
        refine gz_dstore hx hb dL_law_406 hl (by decide) [0, 1, 2, 3, 4, 5] rfl (gz_con ⟨gz_ne rfl, gz_ne rfl, Or.inl (gz_ne rfl)⟩ (gz_con ⟨gz_ne rfl, gz_ne rfl, Or.inl (gz_ne rfl)⟩ (gz_con ⟨gz_ne rfl, gz_ne rfl, Or.inl (gz_ne rfl)⟩ (gz_con ⟨gz_ne rfl, gz_ne rfl, Or.inl (gz_ne rfl)⟩ (gz_con ⟨gz_ne rfl, gz_ne rfl, Or.inl (gz_ne rfl)⟩ (gz_con ⟨gz_ne rfl, gz_ne rfl, Or.inl (gz_ne rfl)⟩ gz_nil)))))) (fun ls hl => ?_)
        refine lv_dload hx hb dL_law_408 (lv_at hl 1 rfl) ?_
        refine lv_dload hx hb dL_law_410 (lv_at hl 0 rfl) ?_
        refine lv_dcmp hx hb dL_law_412 ?_
        refine lv_if_eq (tgt := 434) hx hb dL_law_413 rfl (fun hc => ?_) (fun hc => ?_)
        · have h := gz_t h hc
          refine lv_goto (tgt := 530) hx hb dL_law_434 rfl ?_
          refine gz_iinc (k := 6) (v := (x4 + (3 : Int32))) hx hb dL_law_530 hl rfl (congrArg (fun z => x4 + z) gz_ic_3) (by decide) [2, 3, 4, 5] rfl (gz_con ⟨gz_ne rfl, Or.inl (gz_ne rfl)⟩ (gz_con ⟨gz_ne rfl, Or.inl (gz_ne rfl)⟩ (gz_con ⟨gz_ne rfl, Or.inl (gz_ne rfl)⟩ (gz_con ⟨gz_ne rfl, Or.inr (gl_cat x3)⟩ gz_nil)))) (fun ls hl => ?_)
          refine lv_goto (tgt := 23) hx hb dL_law_533 rfl ?_
          exact ih _ _ _ _ h p e s m args below meth c H locs cells slots ls cx hnm hex hI (lv_sub hl [1, 2, 3, 4, 0] rfl)
        · have h := gz_f h hc
          refine lv_dload hx hb dL_law_416 (lv_at hl 1 rfl) ?_
          refine lv_dload hx hb dL_law_418 (lv_at hl 1 rfl) ?_
          refine lv_dcmp hx hb dL_law_420 ?_
          refine lv_if_eq (tgt := 432) hx hb dL_law_421 rfl (fun hc => ?_) (fun hc => ?_)
          · have h := gz_t h hc
            refine lv_iconst hx hb dL_law_432 gz_ic_0 ?_
            obtain ⟨hz, h⟩ := g_ifs h
            cases h
            exact gr_zret cx hz hI dL_law_433
          · have h := gz_f h hc
            refine lv_dload hx hb dL_law_424 (lv_at hl 0 rfl) ?_
            refine lv_dload hx hb dL_law_426 (lv_at hl 0 rfl) ?_
            refine lv_dcmp hx hb dL_law_428 ?_
            refine lv_if_ne (tgt := 434) hx hb dL_law_429 rfl (fun hc => ?_) (fun hc => ?_)
            · have h := gz_f h hc
              refine lv_goto (tgt := 530) hx hb dL_law_434 rfl ?_
              refine gz_iinc (k := 6) (v := (x4 + (3 : Int32))) hx hb dL_law_530 hl rfl (congrArg (fun z => x4 + z) gz_ic_3) (by decide) [2, 3, 4, 5] rfl (gz_con ⟨gz_ne rfl, Or.inl (gz_ne rfl)⟩ (gz_con ⟨gz_ne rfl, Or.inl (gz_ne rfl)⟩ (gz_con ⟨gz_ne rfl, Or.inl (gz_ne rfl)⟩ (gz_con ⟨gz_ne rfl, Or.inr (gl_cat x3)⟩ gz_nil)))) (fun ls hl => ?_)
              refine lv_goto (tgt := 23) hx hb dL_law_533 rfl ?_
              exact ih _ _ _ _ h p e s m args below meth c H locs cells slots ls cx hnm hex hI (lv_sub hl [1, 2, 3, 4, 0] rfl)
            · have h := gz_t h hc
              refine lv_iconst hx hb dL_law_432 gz_ic_0 ?_
              obtain ⟨hz, h⟩ := g_ifs h
              cases h
              exact gr_zret cx hz hI dL_law_433
      have h := gz_f h hc
      by_cases hc : (v2 &&& (15 : Int32)) = 9
      · have h := gz_t h hc
        refine lv_tableIn (tgt := 437) (off := (398)) hx hb dL_law_39 (by rw [hc]; decide) (by rw [hc]; decide) (by rw [hc]; rfl) rfl ?_
        refine gr_aload_n hx hb x1 dL_law_437 rfl (lv_at hl 1 rfl) ?_
        obtain ⟨a39, t39, h⟩ := gz_q_s h
        refine C_X1_sent cx (gz_nh hex) hI (Or.inl (hts _ q294)) hl.1 (gz_cs (Nat.le_of_ble_eq_true rfl)) (by omega) dL_law_438 t39 h (fun v39 S39 h H locs cells slots hI => ?_)
        refine gr_aload_n hx hb (some (gg_o G)) dL_law_441 rfl (lv_at hl 2 rfl) ?_
        refine D_X4_sent hf cx (gz_nh hex) hI (Or.inl (hts _ q1395)) hl.1 (gz_cs (Nat.le_of_ble_eq_true rfl)) (by omega) dL_law_442 h (fun v40 S40 h H locs cells slots hI => ?_)
        refine lv_icmp_eq (tgt := 530) hx hb dL_law_445 rfl (fun hc => ?_) (fun hc => ?_)
        · have h := gz_t h hc
          refine gz_iinc (k := 4) (v := (x4 + (3 : Int32))) hx hb dL_law_530 hl rfl (congrArg (fun z => x4 + z) gz_ic_3) (by decide) [0, 1, 2, 3] rfl (gz_con ⟨gz_ne rfl, Or.inl (gz_ne rfl)⟩ (gz_con ⟨gz_ne rfl, Or.inl (gz_ne rfl)⟩ (gz_con ⟨gz_ne rfl, Or.inl (gz_ne rfl)⟩ (gz_con ⟨gz_ne rfl, Or.inr (gl_cat x3)⟩ gz_nil)))) (fun ls hl => ?_)
          refine lv_goto (tgt := 23) hx hb dL_law_533 rfl ?_
          exact ih _ _ _ _ h p e s m args below meth c H locs cells slots ls cx hnm hex hI (lv_sub hl [1, 2, 3, 4, 0] rfl)
        · have h := gz_f h hc
          refine lv_iconst hx hb dL_law_448 gz_ic_0 ?_
          obtain ⟨hz, h⟩ := g_ifs h
          cases h
          exact gr_zret cx hz hI dL_law_449
      have h := gz_f h hc
      by_cases hc : (v2 &&& (15 : Int32)) = 10
      · have h := gz_t h hc
        refine lv_tableIn (tgt := 450) (off := (411)) hx hb dL_law_39 (by rw [hc]; decide) (by rw [hc]; decide) (by rw [hc]; rfl) rfl ?_
        refine gr_aload_n hx hb x1 dL_law_450 rfl (lv_at hl 1 rfl) ?_
        refine gr_aload_n hx hb (some xb) dL_law_451 rfl (lv_at hl 0 rfl) ?_
        refine lv_iload hx hb dL_law_452 (lv_at hl 4 rfl) ?_
        refine lv_iconst hx hb dL_law_454 gz_ic_1 ?_
        refine lv_iadd hx hb dL_law_455 ?_
        obtain ⟨v41, e41, h⟩ := g_bind h
        refine gl_sld cx hX hI e41 dL_law_456 ?_
        obtain ⟨a42, t42, h⟩ := gz_q_s h
        refine C_X1_trace cx (gz_nh hex) hI (Or.inl (hts _ q302)) hl.1 (gz_cs (Nat.le_of_ble_eq_true rfl)) (by omega) dL_law_457 t42 h (fun v42 S42 h H locs cells slots hI => ?_)
        refine gr_aload_n hx hb (some (gg_o G)) dL_law_460 rfl (lv_at hl 2 rfl) ?_
        refine gr_aload_n hx hb (some xb) dL_law_461 rfl (lv_at hl 0 rfl) ?_
        refine lv_iload hx hb dL_law_462 (lv_at hl 4 rfl) ?_
        refine lv_iconst hx hb dL_law_464 gz_ic_1 ?_
        refine lv_iadd hx hb dL_law_465 ?_
        obtain ⟨v43, e43, h⟩ := g_bind h
        refine gl_sld cx hX hI e43 dL_law_466 ?_
        refine D_X4_trace hf cx (gz_nh hex) hI (Or.inl (hts _ q1399)) hl.1 (gz_cs (Nat.le_of_ble_eq_true rfl)) (by omega) dL_law_467 h (fun v44 S44 h H locs cells slots hI => ?_)
        refine lv_icmp_eq (tgt := 530) hx hb dL_law_470 rfl (fun hc => ?_) (fun hc => ?_)
        · have h := gz_t h hc
          refine gz_iinc (k := 4) (v := (x4 + (3 : Int32))) hx hb dL_law_530 hl rfl (congrArg (fun z => x4 + z) gz_ic_3) (by decide) [0, 1, 2, 3] rfl (gz_con ⟨gz_ne rfl, Or.inl (gz_ne rfl)⟩ (gz_con ⟨gz_ne rfl, Or.inl (gz_ne rfl)⟩ (gz_con ⟨gz_ne rfl, Or.inl (gz_ne rfl)⟩ (gz_con ⟨gz_ne rfl, Or.inr (gl_cat x3)⟩ gz_nil)))) (fun ls hl => ?_)
          refine lv_goto (tgt := 23) hx hb dL_law_533 rfl ?_
          exact ih _ _ _ _ h p e s m args below meth c H locs cells slots ls cx hnm hex hI (lv_sub hl [1, 2, 3, 4, 0] rfl)
        · have h := gz_f h hc
          refine lv_iconst hx hb dL_law_473 gz_ic_0 ?_
          obtain ⟨hz, h⟩ := g_ifs h
          cases h
          exact gr_zret cx hz hI dL_law_474
      have h := gz_f h hc
      by_cases hc : (v2 &&& (15 : Int32)) = 11
      · have h := gz_t h hc
        refine lv_tableIn (tgt := 475) (off := (436)) hx hb dL_law_39 (by rw [hc]; decide) (by rw [hc]; decide) (by rw [hc]; rfl) rfl ?_
        refine gr_aload_n hx hb x1 dL_law_475 rfl (lv_at hl 1 rfl) ?_
        refine gr_aload_n hx hb (some xb) dL_law_476 rfl (lv_at hl 0 rfl) ?_
        refine lv_iload hx hb dL_law_477 (lv_at hl 4 rfl) ?_
        refine lv_iconst hx hb dL_law_479 gz_ic_1 ?_
        refine lv_iadd hx hb dL_law_480 ?_
        obtain ⟨v45, e45, h⟩ := g_bind h
        refine gl_sld cx hX hI e45 dL_law_481 ?_
        refine lv_i2c hx hb dL_law_482 rfl ?_
        refine gr_aload_n hx hb (some xb) dL_law_483 rfl (lv_at hl 0 rfl) ?_
        refine lv_iload hx hb dL_law_484 (lv_at hl 4 rfl) ?_
        refine lv_iconst hx hb dL_law_486 gz_ic_2 ?_
        refine lv_iadd hx hb dL_law_487 ?_
        obtain ⟨v46, e46, h⟩ := g_bind h
        refine gl_sld cx hX hI e46 dL_law_488 ?_
        refine lv_if_eq (tgt := 496) hx hb dL_law_489 rfl (fun hc => ?_) (fun hc => ?_)
        · have h := gz_t h hc
          refine lv_iconst hx hb dL_law_496 gz_ic_0 ?_
          exact T_L_law_497 hf hD ih h p e s m args below meth c H locs cells slots ls cx hnm hex hI hl
        · have h := gz_f h hc
          refine lv_iconst hx hb dL_law_492 gz_ic_1 ?_
          refine lv_goto (tgt := 497) hx hb dL_law_493 rfl ?_
          exact T_L_law_497 hf hD ih h p e s m args below meth c H locs cells slots ls cx hnm hex hI hl
      have h := gz_f h hc
      cases h
