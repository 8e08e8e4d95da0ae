/-! LAYER 1 (printed): contracts -/
set_option maxRecDepth 100000
abbrev B_X2_chart (l : Launch) (d0 : Nat) (G : gG) (S0 : gm_S) : Nat → List (Nat × Value) → List Value → gm_S → Outcome → gm_S → Prop := gz_B l RX2 "chart" cX2_chart 4 (Option.some (Jvm.ClassFile.FieldType.object "NestChart$State")) [] d0 G S0
theorem T_X2_chart_174 {l : Launch} {G : gG} {S0 : gm_S} {d0 fu : Nat} {k87 : Option Nat → Option Nat → Int32 → gm_S → gR} {r : Outcome × gm_S} (hD : 23 ≤ d0)
    (hk87 : ∀ (x0 : Option Nat) (x1 : Option Nat) (x2 : Int32) (S : gm_S), k87 x0 x1 x2 S = some r → B_X2_chart l d0 G S0 87 [(0, va_rf x0), (1, va_rf x1), (2, .int x2)] [] S r.1 r.2) {x0 : Option Nat} {x1 : Option Nat} {x2 : Int32} {s0 : Int32} {s1 : Option Nat} {S : gm_S} (h : F_X2_chart_174 fu k87 x0 x1 x2 s0 s1 S = some r) : B_X2_chart l d0 G S0 174 [(0, va_rf x0), (1, va_rf x1), (2, .int x2)] [.int s0, va_rf s1] S r.1 r.2 := by
  unfold F_X2_chart_174 at h
  intro p e s m args below meth c H locs cells slots ls cx hnm hex hI hl
  have hx := cx.1
  have hb := cx.2.1
  have hown := cx.2.2.2.1
  have hts := cx.2.2.2.2.1
  have hK := cx.2.2.2.2.2.1
  obtain ⟨a1, t1, h⟩ := gz_q_s h
  refine C_X2_want cx (gz_nh hex) hI (Or.inl (hts _ q336)) hl.1 (gz_cs (Nat.le_of_ble_eq_true rfl)) (by omega) dX2_chart_174 t1 h (fun S1 h H locs cells slots hI => ?_)
  refine gz_iinc (k := 2) (v := (x2 + (1 : Int32))) hx hb dX2_chart_177 hl rfl (congrArg (fun z => x2 + z) gz_ic_1) (by decide) [0, 1] rfl (gz_con ⟨gz_ne rfl, Or.inl (gz_ne rfl)⟩ (gz_con ⟨gz_ne rfl, Or.inr (gl_cat x1)⟩ gz_nil)) (fun ls hl => ?_)
  refine lv_goto (tgt := 87) hx hb dX2_chart_180 rfl ?_
  exact hk87 _ _ _ _ h p e s m args below meth c H locs cells slots ls cx hnm hex hI (lv_sub hl [1, 2, 0] rfl)
theorem T_X2_chart_87 {l : Launch} {G : gG} {S0 : gm_S} {d0 fu : Nat} {r : Outcome × gm_S} (hD : 23 ≤ d0) : ∀ (n : Nat) (x0 : Option Nat) (x1 : Option Nat) (x2 : Int32) (S : gm_S), F_X2_chart_87 fu n x0 x1 x2 S = some r → B_X2_chart l d0 G S0 87 [(0, va_rf x0), (1, va_rf x1), (2, .int x2)] [] S r.1 r.2 := by
  intro n
  induction n with
  | zero => intro x0 x1 x2 S h; exact nomatch (show (none : gR) = some r from h)
  | succ n ih =>
    intro x0 x1 x2 S h
    rw [F_X2_chart_87] at h
    intro p e s m args below meth c H locs cells slots ls cx hnm hex hI hl
    have hx := cx.1
    have hb := cx.2.1
    have hown := cx.2.2.2.1
    have hts := cx.2.2.2.2.1
    have hK := cx.2.2.2.2.2.1
    refine lv_iload_n hx hb dX2_chart_87 rfl (lv_at hl 2 rfl) ?_
    refine gr_aload_n hx hb x0 dX2_chart_88 rfl (lv_at hl 0 rfl) ?_
    obtain ⟨v1, e1, h⟩ := g_bind h
    refine gr_getR cx hI e1 rfl (fun _ => rfl) rfl (Or.inl (hts _ q124)) dX2_chart_89 ?_
    obtain ⟨v2, e2, h⟩ := g_bind h
    refine gr_lsize cx (gz_nh hex) hI (Or.inl (hts _ q405)) hl.1 (gz_cs (Nat.le_of_ble_eq_true rfl)) (by omega) dX2_chart_92 e2 (fun H locs cells slots hI => ?_)
    refine lv_icmp_ge (tgt := 183) hx hb dX2_chart_95 rfl (fun hc => ?_) (fun hc => ?_)
    · have h := gz_t h hc
      refine gr_aload_n hx hb x1 dX2_chart_183 rfl (lv_at hl 1 rfl) ?_
      cases h
      exact gr_aret cx (Or.inl ⟨_, rfl⟩) hI dX2_chart_184
    · have h := gz_f h hc
      refine gr_aload_n hx hb x0 dX2_chart_98 rfl (lv_at hl 0 rfl) ?_
      obtain ⟨v3, e3, h⟩ := g_bind h
      refine gr_getR cx hI e3 rfl (fun _ => rfl) rfl (Or.inl (hts _ q124)) dX2_chart_99 ?_
      refine lv_iload_n hx hb dX2_chart_102 rfl (lv_at hl 2 rfl) ?_
      obtain ⟨v4, e4, h⟩ := g_bind h
      refine gr_lgetr cx (gz_nh hex) hI (Or.inl (hts _ q539)) hl.1 (gz_cs (Nat.le_of_ble_eq_true rfl)) (by omega) dX2_chart_103 e4 (fun H locs cells slots hI => ?_)
      obtain ⟨a5, e5, h⟩ := gz_q_s h
      refine gr_ck1 cx hI e5 rfl (hts _ q656) dX2_chart_106 ?_
      refine gz_astore_n hx hb dX2_chart_109 rfl hl (by decide) [0, 1, 2] rfl (gz_con ⟨gz_ne rfl, Or.inl (gz_ne rfl)⟩ (gz_con ⟨gz_ne rfl, Or.inl (gz_ne rfl)⟩ (gz_con ⟨gz_ne rfl, Or.inr rfl⟩ gz_nil))) (fun ls hl => ?_)
      refine gr_aload_n hx hb x0 dX2_chart_110 rfl (lv_at hl 1 rfl) ?_
      refine gr_aload_n hx hb (some v4) dX2_chart_111 rfl (lv_at hl 0 rfl) ?_
      obtain ⟨v6, e6, h⟩ := g_bind h
      refine gr_getI cx hI e6 rfl (fun _ => rfl) rfl (Or.inr ⟨_, gk_w hK q665 rfl⟩) dX2_chart_112 ?_
      obtain ⟨S7, e7, h⟩ := g_bind h
      refine gr_putI cx hI e7 rfl rfl rfl (Or.inl (hts _ q120)) (Or.inl rfl) dX2_chart_115 (fun H locs hI => ?_)
      refine gr_aload_n hx hb (some v4) dX2_chart_118 rfl (lv_at hl 0 rfl) ?_
      refine gr_aload_n hx hb x0 dX2_chart_119 rfl (lv_at hl 1 rfl) ?_
      obtain ⟨v8, e8, h⟩ := g_bind h
      refine gr_getR cx hI e8 rfl (fun _ => rfl) rfl (Or.inl (hts _ q125)) dX2_chart_120 ?_
      refine gr_aload_n hx hb (some v4) dX2_chart_123 rfl (lv_at hl 0 rfl) ?_
      obtain ⟨v9, e9, h⟩ := g_bind h
      refine gr_getI cx hI e9 rfl (fun _ => rfl) rfl (Or.inr ⟨_, gk_w hK q663 rfl⟩) dX2_chart_124 ?_
      refine lv_bipush hx hb dX2_chart_127 gz_bp_97 ?_
      refine lv_isub hx hb dX2_chart_129 ?_
      obtain ⟨v10, e10, h⟩ := g_bind h
      refine gr_iald cx hI e10 dX2_chart_130 ?_
      obtain ⟨S11, e11, h⟩ := g_bind h
      refine gr_putI cx hI e11 rfl rfl rfl (Or.inr ⟨_, gk_w hK q670 rfl⟩) (Or.inl rfl) dX2_chart_131 (fun H locs hI => ?_)
      refine gr_aload_n hx hb x0 dX2_chart_134 rfl (lv_at hl 1 rfl) ?_
      refine gr_aload_n hx hb (some v4) dX2_chart_135 rfl (lv_at hl 0 rfl) ?_
      obtain ⟨v12, e12, h⟩ := g_bind h
      refine gr_getI cx hI e12 rfl (fun _ => rfl) rfl (Or.inr ⟨_, gk_w hK q670 rfl⟩) dX2_chart_136 ?_
      refine lv_if_lt (tgt := 173) hx hb dX2_chart_139 rfl (fun hc => ?_) (fun hc => ?_)
      · have h := gz_t h hc
        refine lv_iconst hx hb dX2_chart_173 gz_ic_0 ?_
        exact T_X2_chart_174 hD ih h p e s m args below meth c H locs cells slots ls cx hnm hex hI (lv_sub hl [1, 2, 3] rfl)
      · have h := gz_f h hc
        refine gr_aload_n hx hb (some v4) dX2_chart_142 rfl (lv_at hl 0 rfl) ?_
        obtain ⟨v13, e13, h⟩ := g_bind h
        refine gr_getI cx hI e13 rfl (fun _ => rfl) rfl (Or.inr ⟨_, gk_w hK q667 rfl⟩) dX2_chart_143 ?_
        refine lv_if_eq (tgt := 169) hx hb dX2_chart_146 rfl (fun hc => ?_) (fun hc => ?_)
        · have h := gz_t h hc
          refine lv_iconst hx hb dX2_chart_169 gz_ic_1 ?_
          refine lv_goto (tgt := 174) hx hb dX2_chart_170 rfl ?_
          exact T_X2_chart_174 hD ih h p e s m args below meth c H locs cells slots ls cx hnm hex hI (lv_sub hl [1, 2, 3] rfl)
        · have h := gz_f h hc
          refine gr_aload_n hx hb x0 dX2_chart_149 rfl (lv_at hl 1 rfl) ?_
          obtain ⟨v14, e14, h⟩ := g_bind h
          refine gr_getR cx hI e14 rfl (fun _ => rfl) rfl (Or.inl (hts _ q123)) dX2_chart_150 ?_
          refine gr_aload_n hx hb (some v4) dX2_chart_153 rfl (lv_at hl 0 rfl) ?_
          obtain ⟨v15, e15, h⟩ := g_bind h
          refine gr_getI cx hI e15 rfl (fun _ => rfl) rfl (Or.inr ⟨_, gk_w hK q670 rfl⟩) dX2_chart_154 ?_
          obtain ⟨v16, e16, h⟩ := g_bind h
          refine gr_lgetr cx (gz_nh hex) hI (Or.inl (hts _ q539)) hl.1 (gz_cs (Nat.le_of_ble_eq_true rfl)) (by omega) dX2_chart_157 e16 (fun H locs cells slots hI => ?_)
          obtain ⟨a17, e17, h⟩ := gz_q_s h
          refine gr_ck1 cx hI e17 rfl (hts _ q403) dX2_chart_160 ?_
          obtain ⟨v18, e18, h⟩ := g_bind h
          refine gr_getI cx hI e18 rfl (fun _ => rfl) rfl (Or.inr ⟨_, gk_w hK q420 rfl⟩) dX2_chart_163 ?_
          refine lv_if_eq (tgt := 173) hx hb dX2_chart_166 rfl (fun hc => ?_) (fun hc => ?_)
          · have h := gz_t h hc
            refine lv_iconst hx hb dX2_chart_173 gz_ic_0 ?_
            exact T_X2_chart_174 hD ih h p e s m args below meth c H locs cells slots ls cx hnm hex hI (lv_sub hl [1, 2, 3] rfl)
          · have h := gz_f h hc
            refine lv_iconst hx hb dX2_chart_169 gz_ic_1 ?_
            refine lv_goto (tgt := 174) hx hb dX2_chart_170 rfl ?_
            exact T_X2_chart_174 hD ih h p e s m args below meth c H locs cells slots ls cx hnm hex hI (lv_sub hl [1, 2, 3] rfl)
theorem T_X2_chart_82 {l : Launch} {G : gG} {S0 : gm_S} {d0 fu : Nat} {r : Outcome × gm_S} (hD : 23 ≤ d0) {x0 : Option Nat} {x1 : Option Nat} {s0 : Int32} {s1 : Option Nat} {S : gm_S} (h : F_X2_chart_82 fu x0 x1 s0 s1 S = some r) : B_X2_chart l d0 G S0 82 [(0, va_rf x0), (1, va_rf x1)] [.int s0, va_rf s1] S r.1 r.2 := by
  unfold F_X2_chart_82 at h
  intro p e s m args below meth c H locs cells slots ls cx hnm hex hI hl
  have hx := cx.1
  have hb := cx.2.1
  have hown := cx.2.2.2.1
  have hts := cx.2.2.2.2.1
  have hK := cx.2.2.2.2.2.1
  obtain ⟨a1, t1, h⟩ := gz_q_s h
  refine C_X2_want cx (gz_nh hex) hI (Or.inl (hts _ q336)) hl.1 (gz_cs (Nat.le_of_ble_eq_true rfl)) (by omega) dX2_chart_82 t1 h (fun S1 h H locs cells slots hI => ?_)
  refine lv_iconst hx hb dX2_chart_85 gz_ic_0 ?_
  refine gz_istore_n hx hb dX2_chart_86 rfl hl (by decide) [0, 1] rfl (gz_con ⟨gz_ne rfl, Or.inl (gz_ne rfl)⟩ (gz_con ⟨gz_ne rfl, Or.inr (gl_cat x1)⟩ gz_nil)) (fun ls hl => ?_)
  exact T_X2_chart_87 hD fu _ _ _ _ h p e s m args below meth c H locs cells slots ls cx hnm hex hI (lv_sub hl [1, 2, 0] rfl)
theorem T_X2_chart_39 {l : Launch} {G : gG} {S0 : gm_S} {d0 fu : Nat} {r : Outcome × gm_S} (hD : 23 ≤ d0) : ∀ (n : Nat) (x0 : Option Nat) (x1 : Int32) (S : gm_S), F_X2_chart_39 fu n x0 x1 S = some r → B_X2_chart l d0 G S0 39 [(0, va_rf x0), (1, .int x1)] [] S r.1 r.2 := by
  intro n
  induction n with
  | zero => intro x0 x1 S h; exact nomatch (show (none : gR) = some r from h)
  | succ n ih =>
    intro x0 x1 S h
    rw [F_X2_chart_39] at h
    intro p e s m args below meth c H locs cells slots ls cx hnm hex hI hl
    have hx := cx.1
    have hb := cx.2.1
    have hown := cx.2.2.2.1
    have hts := cx.2.2.2.2.1
    have hK := cx.2.2.2.2.2.1
    refine lv_iload_n hx hb dX2_chart_39 rfl (lv_at hl 1 rfl) ?_
    refine lv_bipush hx hb dX2_chart_40 gz_bp_16 ?_
    refine lv_icmp_ge (tgt := 58) hx hb dX2_chart_42 rfl (fun hc => ?_) (fun hc => ?_)
    · have h := gz_t h hc
      refine gr_aload_n hx hb x0 dX2_chart_58 rfl (lv_at hl 0 rfl) ?_
      refine gz_null hx hb dX2_chart_59 ?_
      refine lv_iconst hx hb dX2_chart_60 gz_ic_1 ?_
      refine C_X2_state cx (gz_nh hex) hI (Or.inl (hts _ q325)) hl.1 (gz_cs (Nat.le_of_ble_eq_true rfl)) (by omega) dX2_chart_61 h (fun v1 S1 h H locs cells slots hI => ?_)
      refine gz_astore_n hx hb dX2_chart_64 rfl hl (by decide) [0] rfl (gz_con ⟨gz_ne rfl, Or.inr (gl_cat x0)⟩ gz_nil) (fun ls hl => ?_)
      refine gr_aload_n hx hb x0 dX2_chart_65 rfl (lv_at hl 1 rfl) ?_
      refine gr_aload_n hx hb x0 dX2_chart_66 rfl (lv_at hl 1 rfl) ?_
      obtain ⟨v2, e2, h⟩ := g_bind h
      refine gr_getI cx hI e2 rfl (fun _ => rfl) rfl (Or.inl (hts _ q120)) dX2_chart_67 ?_
      refine gr_aload_n hx hb x0 dX2_chart_70 rfl (lv_at hl 1 rfl) ?_
      obtain ⟨v3, e3, h⟩ := g_bind h
      refine gr_getI cx hI e3 rfl (fun _ => rfl) rfl (Or.inl (hts _ q118)) dX2_chart_71 ?_
      refine lv_icmp_ne (tgt := 81) hx hb dX2_chart_74 rfl (fun hc => ?_) (fun hc => ?_)
      · have h := gz_f h hc
        refine lv_iconst hx hb dX2_chart_81 gz_ic_0 ?_
        exact T_X2_chart_82 hD h p e s m args below meth c H locs cells slots ls cx hnm hex hI (lv_sub hl [1, 0] rfl)
      · have h := gz_t h hc
        refine lv_iconst hx hb dX2_chart_77 gz_ic_1 ?_
        refine lv_goto (tgt := 82) hx hb dX2_chart_78 rfl ?_
        exact T_X2_chart_82 hD h p e s m args below meth c H locs cells slots ls cx hnm hex hI (lv_sub hl [1, 0] rfl)
    · have h := gz_f h hc
      refine gr_aload_n hx hb x0 dX2_chart_45 rfl (lv_at hl 0 rfl) ?_
      obtain ⟨v4, e4, h⟩ := g_bind h
      refine gr_getR cx hI e4 rfl (fun _ => rfl) rfl (Or.inl (hts _ q125)) dX2_chart_46 ?_
      refine lv_iload_n hx hb dX2_chart_49 rfl (lv_at hl 1 rfl) ?_
      refine lv_iconst hx hb dX2_chart_50 gz_ic_m1 ?_
      obtain ⟨S5, e5, h⟩ := g_bind h
      refine gr_iast cx hI e5 dX2_chart_51 (fun H locs hI => ?_)
      refine gz_iinc (k := 1) (v := (x1 + (1 : Int32))) hx hb dX2_chart_52 hl rfl (congrArg (fun z => x1 + z) gz_ic_1) (by decide) [0] rfl (gz_con ⟨gz_ne rfl, Or.inr (gl_cat x0)⟩ gz_nil) (fun ls hl => ?_)
      refine lv_goto (tgt := 39) hx hb dX2_chart_55 rfl ?_
      exact ih _ _ _ h p e s m args below meth c H locs cells slots ls cx hnm hex hI (lv_sub hl [1, 0] rfl)
theorem T_X2_chart {l : Launch} {G : gG} {S0 : gm_S} {d0 fu : Nat} {r : Outcome × gm_S} (hD : 23 ≤ d0) {x0 : Option Nat} {S : gm_S} (h : F_X2_chart fu x0 S = some r) : B_X2_chart l d0 G S0 0 [(0, va_rf x0)] [] S r.1 r.2 := by
  unfold F_X2_chart at h
  intro p e s m args below meth c H locs cells slots ls cx hnm hex hI hl
  have hx := cx.1
  have hb := cx.2.1
  have hown := cx.2.2.2.1
  have hts := cx.2.2.2.2.1
  have hK := cx.2.2.2.2.2.1
  refine gr_aload_n hx hb x0 dX2_chart_0 rfl (lv_at hl 0 rfl) ?_
  refine lv_iconst hx hb dX2_chart_1 gz_ic_0 ?_
  obtain ⟨S1, e1, h⟩ := g_bind h
  refine gr_putI cx hI e1 rfl rfl rfl (Or.inl (hts _ q120)) (Or.inl rfl) dX2_chart_2 (fun H locs hI => ?_)
  refine gr_aload_n hx hb x0 dX2_chart_5 rfl (lv_at hl 0 rfl) ?_
  obtain ⟨q2, e2, h⟩ := g_bind h
  refine gr_fnewL cx hI (a := q2.1) (S2 := q2.2) e2 (hts _ q323) (hts _ q155) (hts _ q77) dX2_chart_6 (fun H cells slots hI => ?_)
  refine lv_dup hx hb dX2_chart_9 (gl_cat (some q2.1)) ?_
  obtain ⟨S3, e3, h⟩ := g_bind h
  refine gr_linit cx (gz_nh hex) hI (Or.inl (hts _ q324)) hl.1 (gz_cs (Nat.le_of_ble_eq_true rfl)) (by omega) dX2_chart_10 e3 (fun H locs cells slots hI => ?_)
  obtain ⟨S4, e4, h⟩ := g_bind h
  refine gr_putR cx hI e4 rfl rfl rfl (Or.inl (hts _ q123)) (Or.inl rfl) dX2_chart_13 (fun H locs hI => ?_)
  refine gr_aload_n hx hb x0 dX2_chart_16 rfl (lv_at hl 0 rfl) ?_
  obtain ⟨q5, e5, h⟩ := g_bind h
  refine gr_fnewL cx hI (a := q5.1) (S2 := q5.2) e5 (hts _ q323) (hts _ q155) (hts _ q77) dX2_chart_17 (fun H cells slots hI => ?_)
  refine lv_dup hx hb dX2_chart_20 (gl_cat (some q5.1)) ?_
  obtain ⟨S6, e6, h⟩ := g_bind h
  refine gr_linit cx (gz_nh hex) hI (Or.inl (hts _ q324)) hl.1 (gz_cs (Nat.le_of_ble_eq_true rfl)) (by omega) dX2_chart_21 e6 (fun H locs cells slots hI => ?_)
  obtain ⟨S7, e7, h⟩ := g_bind h
  refine gr_putR cx hI e7 rfl rfl rfl (Or.inl (hts _ q124)) (Or.inl rfl) dX2_chart_24 (fun H locs hI => ?_)
  refine gr_aload_n hx hb x0 dX2_chart_27 rfl (lv_at hl 0 rfl) ?_
  refine lv_iconst hx hb dX2_chart_28 gz_ic_0 ?_
  obtain ⟨S8, e8, h⟩ := g_bind h
  refine gr_putI cx hI e8 rfl rfl rfl (Or.inl (hts _ q127)) (Or.inl rfl) dX2_chart_29 (fun H locs hI => ?_)
  refine gr_aload_n hx hb x0 dX2_chart_32 rfl (lv_at hl 0 rfl) ?_
  refine lv_iconst hx hb dX2_chart_33 gz_ic_0 ?_
  obtain ⟨S9, e9, h⟩ := g_bind h
  refine gr_putI cx hI e9 rfl rfl rfl (Or.inl (hts _ q128)) (Or.inl rfl) dX2_chart_34 (fun H locs hI => ?_)
  refine lv_iconst hx hb dX2_chart_37 gz_ic_0 ?_
  refine gz_istore_n hx hb dX2_chart_38 rfl hl (by decide) [0] rfl (gz_con ⟨gz_ne rfl, Or.inr (gl_cat x0)⟩ gz_nil) (fun ls hl => ?_)
  exact T_X2_chart_39 hD fu _ _ _ h p e s m args below meth c H locs cells slots ls cx hnm hex hI (lv_sub hl [1, 0] rfl)
theorem M_X2_chart {l : Launch} {G : gG} {fu d0 : Nat} (hfl : l.flags = flags0) (hD : 23 ≤ d0) {x0 : Option Nat} {S : gm_S} {o : Outcome} {S2 : gm_S} (h : F_X2_chart fu x0 S = some (o, S2)) : gx_Met l yX2_chart (ws_ yX2_chart cX2_chart 4 (Option.some (Jvm.ClassFile.FieldType.object "NestChart$State"))) d0 G S [va_rf x0] o S2 := by
  refine gx_of hfl (by decide) (fun p e s m below meth c cx hnm hex hI => ?_)
  rw [lg_entry_eq]
  cases x0 <;> exact T_X2_chart (r := (o, S2)) hD h p e s m _ below meth c _ _ _ _ _ cx hnm (gz_nh0 hex) hI (lv_entry _ (Nat.le_of_ble_eq_true rfl))
abbrev B_X3_clear (l : Launch) (d0 : Nat) (G : gG) (S0 : gm_S) : Nat → List (Nat × Value) → List Value → gm_S → Outcome → gm_S → Prop := gz_B l RX3 "clear" cX3_clear 2 (Option.none : Option Jvm.ClassFile.FieldType) [] d0 G S0
theorem T_X3_clear_2 {l : Launch} {G : gG} {S0 : gm_S} {d0 fu : Nat} {r : Outcome × gm_S} (hD : 2 ≤ d0) : ∀ (n : Nat) (x0 : Option Nat) (x1 : Int32) (S : gm_S), F_X3_clear_2 fu n x0 x1 S = some r → B_X3_clear l d0 G S0 2 [(0, va_rf x0), (1, .int x1)] [] S r.1 r.2 := by
  intro n
  induction n with
  | zero => intro x0 x1 S h; exact nomatch (show (none : gR) = some r from h)
  | succ n ih =>
    intro x0 x1 S h
    rw [F_X3_clear_2] at h
    intro p e s m args below meth c H locs cells slots ls cx hnm hex hI hl
    have hx := cx.1
    have hb := cx.2.1
    have hown := cx.2.2.2.1
    have hts := cx.2.2.2.2.1
    have hK := cx.2.2.2.2.2.1
    refine lv_iload_n hx hb dX3_clear_2 rfl (lv_at hl 1 rfl) ?_
    refine gr_aload_n hx hb x0 dX3_clear_3 rfl (lv_at hl 0 rfl) ?_
    obtain ⟨v1, e1, h⟩ := g_bind h
    refine gr_getR cx hI e1 rfl (fun _ => rfl) rfl (Or.inl (hts _ q185)) dX3_clear_4 ?_
    obtain ⟨v2, e2, h⟩ := g_bind h
    refine gr_alen cx hI e2 (by decide) dX3_clear_7 ?_
    refine lv_icmp_ge (tgt := 24) hx hb dX3_clear_8 rfl (fun hc => ?_) (fun hc => ?_)
    · have h := gz_t h hc
      cases h
      exact gr_vret cx hI dX3_clear_24
    · have h := gz_f h hc
      refine gr_aload_n hx hb x0 dX3_clear_11 rfl (lv_at hl 0 rfl) ?_
      obtain ⟨v3, e3, h⟩ := g_bind h
      refine gr_getR cx hI e3 rfl (fun _ => rfl) rfl (Or.inl (hts _ q185)) dX3_clear_12 ?_
      refine lv_iload_n hx hb dX3_clear_15 rfl (lv_at hl 1 rfl) ?_
      refine lv_dconst0 hx hb dX3_clear_16 ?_
      obtain ⟨S4, e4, h⟩ := g_bind h
      refine gr_dast cx hI e4 dX3_clear_17 (fun H locs hI => ?_)
      refine gz_iinc (k := 1) (v := (x1 + (1 : Int32))) hx hb dX3_clear_18 hl rfl (congrArg (fun z => x1 + z) gz_ic_1) (by decide) [0] rfl (gz_con ⟨gz_ne rfl, Or.inr (gl_cat x0)⟩ gz_nil) (fun ls hl => ?_)
      refine lv_goto (tgt := 2) hx hb dX3_clear_21 rfl ?_
      exact ih _ _ _ h p e s m args below meth c H locs cells slots ls cx hnm hex hI (lv_sub hl [1, 0] rfl)
theorem T_X3_clear {l : Launch} {G : gG} {S0 : gm_S} {d0 fu : Nat} {r : Outcome × gm_S} (hD : 2 ≤ d0) {x0 : Option Nat} {S : gm_S} (h : F_X3_clear fu x0 S = some r) : B_X3_clear l d0 G S0 0 [(0, va_rf x0)] [] S r.1 r.2 := by
  unfold F_X3_clear at h
  intro p e s m args below meth c H locs cells slots ls cx hnm hex hI hl
  have hx := cx.1
  have hb := cx.2.1
  have hown := cx.2.2.2.1
  have hts := cx.2.2.2.2.1
  have hK := cx.2.2.2.2.2.1
  refine lv_iconst hx hb dX3_clear_0 gz_ic_0 ?_
  refine gz_istore_n hx hb dX3_clear_1 rfl hl (by decide) [0] rfl (gz_con ⟨gz_ne rfl, Or.inr (gl_cat x0)⟩ gz_nil) (fun ls hl => ?_)
  exact T_X3_clear_2 hD fu _ _ _ h p e s m args below meth c H locs cells slots ls cx hnm hex hI (lv_sub hl [1, 0] rfl)
theorem M_X3_clear {l : Launch} {G : gG} {fu d0 : Nat} (hfl : l.flags = flags0) (hD : 2 ≤ d0) {x0 : Option Nat} {S : gm_S} {o : Outcome} {S2 : gm_S} (h : F_X3_clear fu x0 S = some (o, S2)) : gx_Met l yX3_clear (ws_ yX3_clear cX3_clear 2 (Option.none : Option Jvm.ClassFile.FieldType)) d0 G S [va_rf x0] o S2 := by
  refine gx_of hfl (by decide) (fun p e s m below meth c cx hnm hex hI => ?_)
  rw [lg_entry_eq]
  cases x0 <;> exact T_X3_clear (r := (o, S2)) hD h p e s m _ below meth c _ _ _ _ _ cx hnm (gz_nh0 hex) hI (lv_entry _ (Nat.le_of_ble_eq_true rfl))
theorem C_X3_clear {p : Program} {l : Launch} {e : Env} {s : State} {m : MethodId} {args : Array Value} {below : List Frame} {meth : Method} {c : Code} {H : Heap} {locs : List Loc} {cells slots : Nat} {cc : ByteArray} {pc nL : Nat} {ls : Array Slot} {rest : List Value} {G : gG} {S0 S : gm_S} {own : String} {ret : Option FieldType} {d0 index fu : Nat} {x0 : Option Nat} {k : gm_S → gR} {r : Outcome × gm_S} (cx : gx_cx p l s m args meth c G own cc nL ret) (hex : ∀ x ∈ c.exceptionTable.toList, covers x pc = false) (hI : gw_I G S0 S H locs cells slots) (hl : gl_M own index yX3_clear args s) (hlv : ls.size = nL) (hrest : (rest.map fun v => v.category).sum ≤ 8) (hD : 3 ≤ d0) (hdg : decode cc pc = .ok (.invokevirtual index, 3)) {b : Nat} (hat : g_at S x0 3 = some b) (h : gz_cV (F_X3_clear fu x0 S) k = some r)
    (kk : ∀ (z : gm_S), k z = some r → ∀ (H : Heap) (locs : List Loc) (cells slots : Nat), gw_I G S0 z H locs cells slots → W p l e (gx_rm d0 S0) s m args below meth c H locs cells slots (gx_MQ below G S0 r.2 r.1 s) (F0 m (pc + 3) ls rest)) : W p l e (gx_rm d0 S0) s m args below meth c H locs cells slots (gx_MQ below G S0 r.2 r.1 s) (F0 m pc ls (va_rf x0 :: rest)) := by
  obtain ⟨rfl, ht⟩ := g_at_s hat
  have hts := cx.2.2.2.2.1
  have hK := cx.2.2.2.2.2.1
  exact gz_goV (d := d0 - 1) (fun S => S) cx hex hI hlv hrest (by omega) (Nat.le_of_ble_eq_true rfl) (gz_ws (lw_meth q730) hts) (hts _ q74) (gb_rawV (As := []) cx hl (hts _ q729) (hts _ qs13) (gl_C.code (hts _ q730)) hy_X3_clear (gr_recv hK hI.1 ht rfl) rfl rfl hdg) (fun o S2 e => M_X3_clear (x0 := some b) cx.2.2.2.2.2.2.2.2 (by omega) e) h kk
abbrev B_X3_build (l : Launch) (d0 : Nat) (G : gG) (S0 : gm_S) : Nat → List (Nat × Value) → List Value → gm_S → Outcome → gm_S → Prop := gz_B l RX3 "build" cX3_build 2 (Option.none : Option Jvm.ClassFile.FieldType) [] d0 G S0
theorem T_X3_build {l : Launch} {G : gG} {S0 : gm_S} {d0 fu : Nat} {r : Outcome × gm_S} (hD : 11 ≤ d0) {x0 : Option Nat} {x1 : Option Nat} {S : gm_S} (h : F_X3_build fu x0 x1 S = some r) : B_X3_build l d0 G S0 0 [(0, va_rf x0), (1, va_rf x1)] [] S r.1 r.2 := by
  unfold F_X3_build at h
  intro p e s m args below meth c H locs cells slots ls cx hnm hex hI hl
  have hx := cx.1
  have hb := cx.2.1
  have hown := cx.2.2.2.1
  have hts := cx.2.2.2.2.1
  have hK := cx.2.2.2.2.2.1
  refine gr_aload_n hx hb x0 dX3_build_0 rfl (lv_at hl 0 rfl) ?_
  refine gr_aload_n hx hb x1 dX3_build_1 rfl (lv_at hl 1 rfl) ?_
  obtain ⟨S1, e1, h⟩ := g_bind h
  refine gr_putR cx hI e1 rfl rfl rfl (Or.inl (hts _ q180)) (Or.inl rfl) dX3_build_2 (fun H locs hI => ?_)
  refine gr_aload_n hx hb x0 dX3_build_5 rfl (lv_at hl 0 rfl) ?_
  refine lv_iconst hx hb dX3_build_6 gz_ic_0 ?_
  obtain ⟨S2, e2, h⟩ := g_bind h
  refine gr_putZ cx hI e2 rfl rfl rfl (Or.inl (hts _ q182)) (Or.inl rfl) dX3_build_7 (fun H locs hI => ?_)
  refine gr_aload_n hx hb x0 dX3_build_10 rfl (lv_at hl 0 rfl) ?_
  refine lv_iconst hx hb dX3_build_11 gz_ic_0 ?_
  obtain ⟨S3, e3, h⟩ := g_bind h
  refine gr_putI cx hI e3 rfl rfl rfl (Or.inl (hts _ q184)) (Or.inl rfl) dX3_build_12 (fun H locs hI => ?_)
  refine gr_aload_n hx hb x0 dX3_build_15 rfl (lv_at hl 0 rfl) ?_
  obtain ⟨v4, e4, h⟩ := g_bind h
  refine gr_getR cx hI e4 rfl (fun _ => rfl) rfl (Or.inl (hts _ q190)) dX3_build_16 ?_
  obtain ⟨S5, e5, h⟩ := g_bind h
  refine gr_lclear cx (gz_nh hex) hI (Or.inl (hts _ q723)) hl.1 (gz_cs (Nat.le_of_ble_eq_true rfl)) (by omega) dX3_build_19 e5 (fun H locs cells slots hI => ?_)
  refine gr_aload_n hx hb x0 dX3_build_22 rfl (lv_at hl 0 rfl) ?_
  refine lv_iconst hx hb dX3_build_23 gz_ic_0 ?_
  obtain ⟨S6, e6, h⟩ := g_bind h
  refine gr_putI cx hI e6 rfl rfl rfl (Or.inl (hts _ q189)) (Or.inl rfl) dX3_build_24 (fun H locs hI => ?_)
  refine gr_aload_n hx hb x0 dX3_build_27 rfl (lv_at hl 0 rfl) ?_
  refine lv_iconst hx hb dX3_build_28 gz_ic_0 ?_
  obtain ⟨S7, e7, h⟩ := g_bind h
  refine gr_putI cx hI e7 rfl rfl rfl (Or.inl (hts _ q195)) (Or.inl rfl) dX3_build_29 (fun H locs hI => ?_)
  refine gr_aload_n hx hb x0 dX3_build_32 rfl (lv_at hl 0 rfl) ?_
  obtain ⟨a8, t8, h⟩ := gz_q_s h
  refine C_X3_clear cx (gz_nh hex) hI (Or.inl (hts _ q727)) hl.1 (gz_cs (Nat.le_of_ble_eq_true rfl)) (by omega) dX3_build_33 t8 h (fun S8 h H locs cells slots hI => ?_)
  cases h
  exact gr_vret cx hI dX3_build_36
theorem M_X3_build {l : Launch} {G : gG} {fu d0 : Nat} (hfl : l.flags = flags0) (hD : 11 ≤ d0) {x0 : Option Nat} {x1 : Option Nat} {S : gm_S} {o : Outcome} {S2 : gm_S} (h : F_X3_build fu x0 x1 S = some (o, S2)) : gx_Met l yX3_build (ws_ yX3_build cX3_build 2 (Option.none : Option Jvm.ClassFile.FieldType)) d0 G S [va_rf x0, va_rf x1] o S2 := by
  refine gx_of hfl (by decide) (fun p e s m below meth c cx hnm hex hI => ?_)
  rw [lg_entry_eq]
  cases x0 <;> cases x1 <;> exact T_X3_build (r := (o, S2)) hD h p e s m _ below meth c _ _ _ _ _ cx hnm (gz_nh0 hex) hI (lv_entry _ (Nat.le_of_ble_eq_true rfl))
theorem C_X3_build {p : Program} {l : Launch} {e : Env} {s : State} {m : MethodId} {args : Array Value} {below : List Frame} {meth : Method} {c : Code} {H : Heap} {locs : List Loc} {cells slots : Nat} {cc : ByteArray} {pc nL : Nat} {ls : Array Slot} {rest : List Value} {G : gG} {S0 S : gm_S} {own : String} {ret : Option FieldType} {d0 index fu : Nat} {x0 : Option Nat} {x1 : Option Nat} {k : gm_S → gR} {r : Outcome × gm_S} (cx : gx_cx p l s m args meth c G own cc nL ret) (hex : ∀ x ∈ c.exceptionTable.toList, covers x pc = false) (hI : gw_I G S0 S H locs cells slots) (hl : gl_M own index yX3_build args s) (hlv : ls.size = nL) (hrest : (rest.map fun v => v.category).sum ≤ 8) (hD : 12 ≤ d0) (hdg : decode cc pc = .ok (.invokevirtual index, 3)) {b : Nat} (hat : g_at S x0 3 = some b) (h : gz_cV (F_X3_build fu x0 x1 S) k = some r)
    (kk : ∀ (z : gm_S), k z = some r → ∀ (H : Heap) (locs : List Loc) (cells slots : Nat), gw_I G S0 z H locs cells slots → W p l e (gx_rm d0 S0) s m args below meth c H locs cells slots (gx_MQ below G S0 r.2 r.1 s) (F0 m (pc + 3) ls rest)) : W p l e (gx_rm d0 S0) s m args below meth c H locs cells slots (gx_MQ below G S0 r.2 r.1 s) (F0 m pc ls (va_rf x1 :: va_rf x0 :: rest)) := by
  obtain ⟨rfl, ht⟩ := g_at_s hat
  have hts := cx.2.2.2.2.1
  have hK := cx.2.2.2.2.2.1
  exact gz_goV (d := d0 - 1) (fun S => S) cx hex hI hlv hrest (by omega) (Nat.le_of_ble_eq_true rfl) (gz_ws (lw_meth q722) hts) (hts _ q74) (gb_rawV (As := [va_rf x1]) cx hl (hts _ q720) (hts _ q721) (gl_C.code (hts _ q722)) hy_X3_build (gr_recv hK hI.1 ht rfl) rfl rfl hdg) (fun o S2 e => M_X3_build (x0 := some b) cx.2.2.2.2.2.2.2.2 (by omega) e) h kk
abbrev B_X1_build (l : Launch) (d0 : Nat) (G : gG) (S0 : gm_S) : Nat → List (Nat × Value) → List Value → gm_S → Outcome → gm_S → Prop := gz_B l RX1 "build" cX1_build 2 (Option.some Jvm.ClassFile.FieldType.int) [⟨5, 13, 16, 77⟩] d0 G S0
theorem T_X1_build_58 {l : Launch} {G : gG} {S0 : gm_S} {d0 fu : Nat} {r : Outcome × gm_S} (hD : 24 ≤ d0) : ∀ (n : Nat) (x0 : Option Nat) (x1 : Int32) (S : gm_S), F_X1_build_58 fu n x0 x1 S = some r → B_X1_build l d0 G S0 58 [(0, va_rf x0), (1, .int x1)] [] S r.1 r.2 := by
  intro n
  induction n with
  | zero => intro x0 x1 S h; exact nomatch (show (none : gR) = some r from h)
  | succ n ih =>
    intro x0 x1 S h
    rw [F_X1_build_58] at h
    intro p e s m args below meth c H locs cells slots ls cx hnm hex hI hl
    have hx := cx.1
    have hb := cx.2.1
    have hown := cx.2.2.2.1
    have hts := cx.2.2.2.2.1
    have hK := cx.2.2.2.2.2.1
    refine lv_iload_n hx hb dX1_build_58 rfl (lv_at hl 1 rfl) ?_
    refine lv_bipush hx hb dX1_build_59 gz_bp_16 ?_
    refine lv_icmp_ge (tgt := 85) hx hb dX1_build_61 rfl (fun hc => ?_) (fun hc => ?_)
    · have h := gz_t h hc
      refine gr_aload_n hx hb x0 dX1_build_85 rfl (lv_at hl 0 rfl) ?_
      obtain ⟨v1, e1, h⟩ := g_bind h
      refine gr_getR cx hI e1 rfl (fun _ => rfl) rfl (Or.inl (hts _ q232)) dX1_build_86 ?_
      refine gr_aload_n hx hb x0 dX1_build_89 rfl (lv_at hl 0 rfl) ?_
      obtain ⟨v2, e2, h⟩ := g_bind h
      refine gr_getR cx hI e2 rfl (fun _ => rfl) rfl (Or.inl (hts _ q231)) dX1_build_90 ?_
      obtain ⟨v3, e3, h⟩ := g_bind h
      refine gr_getR cx hI e3 rfl (fun _ => rfl) rfl (Or.inr ⟨_, gk_w hK q122 rfl⟩) dX1_build_93 ?_
      obtain ⟨a4, t4, h⟩ := gz_q_s h
      refine C_X3_build cx (by rw [hex]; decide) hI (Or.inl (hts _ q719)) hl.1 (gz_cs (Nat.le_of_ble_eq_true rfl)) (by omega) dX1_build_96 t4 h (fun S4 h H locs cells slots hI => ?_)
      refine gr_aload_n hx hb x0 dX1_build_99 rfl (lv_at hl 0 rfl) ?_
      obtain ⟨v5, e5, h⟩ := g_bind h
      refine gr_getR cx hI e5 rfl (fun _ => rfl) rfl (Or.inl (hts _ q232)) dX1_build_100 ?_
      obtain ⟨v6, e6, h⟩ := g_bind h
      refine gr_getR cx hI e6 rfl (fun _ => rfl) rfl (Or.inr ⟨_, gk_w hK q181 rfl⟩) dX1_build_103 ?_
      obtain ⟨v7, e7, h⟩ := g_bind h
      refine gr_lsize cx (by rw [hex]; decide) hI (Or.inl (hts _ q298)) hl.1 (gz_cs (Nat.le_of_ble_eq_true rfl)) (by omega) dX1_build_106 e7 (fun H locs cells slots hI => ?_)
      cases h
      exact gr_iret cx hI dX1_build_109
    · have h := gz_f h hc
      refine gr_aload_n hx hb x0 dX1_build_64 rfl (lv_at hl 0 rfl) ?_
      obtain ⟨v8, e8, h⟩ := g_bind h
      refine gr_getR cx hI e8 rfl (fun _ => rfl) rfl (Or.inl (hts _ q233)) dX1_build_65 ?_
      refine lv_iload_n hx hb dX1_build_68 rfl (lv_at hl 1 rfl) ?_
      refine gr_aload_n hx hb x0 dX1_build_69 rfl (lv_at hl 0 rfl) ?_
      obtain ⟨v9, e9, h⟩ := g_bind h
      refine gr_getR cx hI e9 rfl (fun _ => rfl) rfl (Or.inl (hts _ q231)) dX1_build_70 ?_
      obtain ⟨v10, e10, h⟩ := g_bind h
      refine gr_getR cx hI e10 rfl (fun _ => rfl) rfl (Or.inr ⟨_, gk_w hK q126 rfl⟩) dX1_build_73 ?_
      refine lv_iload_n hx hb dX1_build_76 rfl (lv_at hl 1 rfl) ?_
      obtain ⟨v11, e11, h⟩ := g_bind h
      refine gr_iald cx hI e11 dX1_build_77 ?_
      obtain ⟨S12, e12, h⟩ := g_bind h
      refine gr_iast cx hI e12 dX1_build_78 (fun H locs hI => ?_)
      refine gz_iinc (k := 1) (v := (x1 + (1 : Int32))) hx hb dX1_build_79 hl rfl (congrArg (fun z => x1 + z) gz_ic_1) (by decide) [0] rfl (gz_con ⟨gz_ne rfl, Or.inr (gl_cat x0)⟩ gz_nil) (fun ls hl => ?_)
      refine lv_goto (tgt := 58) hx hb dX1_build_82 rfl ?_
      exact ih _ _ _ h p e s m args below meth c H locs cells slots ls cx hnm hex hI (lv_sub hl [1, 0] rfl)
theorem T_X1_build_28 {l : Launch} {G : gG} {S0 : gm_S} {d0 fu : Nat} {r : Outcome × gm_S} (hD : 24 ≤ d0) {x0 : Option Nat} {S : gm_S} (h : F_X1_build_28 fu x0 S = some r) : B_X1_build l d0 G S0 28 [(0, va_rf x0)] [] S r.1 r.2 := by
  unfold F_X1_build_28 at h
  intro p e s m args below meth c H locs cells slots ls cx hnm hex hI hl
  have hx := cx.1
  have hb := cx.2.1
  have hown := cx.2.2.2.1
  have hts := cx.2.2.2.2.1
  have hK := cx.2.2.2.2.2.1
  refine gr_aload_n hx hb x0 dX1_build_28 rfl (lv_at hl 0 rfl) ?_
  obtain ⟨v1, e1, h⟩ := g_bind h
  refine gr_getR cx hI e1 rfl (fun _ => rfl) rfl (Or.inl (hts _ q231)) dX1_build_29 ?_
  refine lv_iconst hx hb dX1_build_32 gz_ic_0 ?_
  obtain ⟨S2, e2, h⟩ := g_bind h
  refine gr_putI cx hI e2 rfl rfl rfl (Or.inr ⟨_, gk_w hK q119 rfl⟩) (Or.inl rfl) dX1_build_33 (fun H locs hI => ?_)
  refine gr_aload_n hx hb x0 dX1_build_36 rfl (lv_at hl 0 rfl) ?_
  refine lv_iconst hx hb dX1_build_37 gz_ic_0 ?_
  obtain ⟨S3, e3, h⟩ := g_bind h
  refine gr_putI cx hI e3 rfl rfl rfl (Or.inl (hts _ q235)) (Or.inl rfl) dX1_build_38 (fun H locs hI => ?_)
  refine gr_aload_n hx hb x0 dX1_build_41 rfl (lv_at hl 0 rfl) ?_
  obtain ⟨v4, e4, h⟩ := g_bind h
  refine gr_getI cx hI e4 rfl (fun _ => rfl) rfl (Or.inl (hts _ q234)) dX1_build_42 ?_
  refine lv_if_lt (tgt := 56) hx hb dX1_build_45 rfl (fun hc => ?_) (fun hc => ?_)
  · have h := gz_t h hc
    refine lv_iconst hx hb dX1_build_56 gz_ic_0 ?_
    refine gz_istore_n hx hb dX1_build_57 rfl hl (by decide) [0] rfl (gz_con ⟨gz_ne rfl, Or.inr (gl_cat x0)⟩ gz_nil) (fun ls hl => ?_)
    exact T_X1_build_58 hD fu _ _ _ h p e s m args below meth c H locs cells slots ls cx hnm hex hI (lv_sub hl [1, 0] rfl)
  · have h := gz_f h hc
    obtain ⟨q5, e5, h⟩ := g_bind h
    cases h
    exact gr_throw cx hI (t := 17) (a := q5.1) (S2 := q5.2) (ic := 82) e5 (by decide) q318 q341 q82 gt_own_C_17_P (by decide) (by omega) (gz_cs (Nat.le_of_ble_eq_true rfl)) hl.1 (by rw [hex]; decide) dX1_build_48 dX1_build_51 dX1_build_52 dX1_build_55
theorem T_X1_build {l : Launch} {G : gG} {S0 : gm_S} {d0 fu : Nat} {r : Outcome × gm_S} (hD : 24 ≤ d0) {x0 : Option Nat} {S : gm_S} (h : F_X1_build fu x0 S = some r) : B_X1_build l d0 G S0 0 [(0, va_rf x0)] [] S r.1 r.2 := by
  unfold F_X1_build at h
  intro p e s m args below meth c H locs cells slots ls cx hnm hex hI hl
  have hx := cx.1
  have hb := cx.2.1
  have hown := cx.2.2.2.1
  have hts := cx.2.2.2.2.1
  have hK := cx.2.2.2.2.2.1
  refine gr_aload_n hx hb x0 dX1_build_0 rfl (lv_at hl 0 rfl) ?_
  refine lv_iconst hx hb dX1_build_1 gz_ic_m1 ?_
  obtain ⟨S1, e1, h⟩ := g_bind h
  refine gr_putI cx hI e1 rfl rfl rfl (Or.inl (hts _ q234)) (Or.inl rfl) dX1_build_2 (fun H locs hI => ?_)
  refine gr_aload_n hx hb x0 dX1_build_5 rfl (lv_at hl 0 rfl) ?_
  obtain ⟨v2, e2, h⟩ := g_bind h
  refine gr_getR cx hI e2 rfl (fun _ => rfl) rfl (Or.inl (hts _ q231)) dX1_build_6 ?_
  obtain ⟨a3, t3, h⟩ := gz_q_s h
  obtain ⟨a3_, z3_, y3_⟩ : ∃ a, a = a3 ∧ True := ⟨a3, rfl, trivial⟩
  obtain ⟨z3, y3⟩ := g_at_s t3
  rw [← z3_] at z3 y3
  rcases gz_tR_s h with ⟨v3, S3, w3, h⟩ | ⟨a3, S3, w3, h⟩
  · refine gr_callR (gb_rawV (As := []) cx (Or.inl (hts _ q319)) (hts _ q320) (hts _ q321) (gl_C.code (hts _ q322)) hy_X2_chart (gr_recv hK hI.1 y3 rfl) rfl (by rw [z3]; rfl) dX1_build_9) (M_X2_chart (x0 := some a3_) cx.2.2.2.2.2.2.2.2 (by omega) (by rw [← z3]; exact w3)) (d := d0 - 1) (by omega) (Nat.le_of_ble_eq_true rfl) (gz_ws (lw_meth q322) hts) (hts _ q73) hI hK rfl (by rw [cx.2.2.1]; exact hl.1) (lv_room (m := m) (pc := 0) (ls := ls) (rest := []) (gz_cs (st := []) (Nat.le_of_ble_eq_true rfl))) (fun H locs cells slots hI => ?_)
    refine lv_pop hx hb dX1_build_12 (gl_cat v3) ?_
    refine lv_goto (tgt := 28) hx hb dX1_build_13 rfl ?_
    exact T_X1_build_28 hD h p e s m args below meth c H locs cells slots ls cx hnm hex hI hl
  · by_cases hc : gs_t S3 a3 = 17
    · have h := gz_t h hc
      refine gr_callC (t := 17) cx (gb_rawV (As := []) cx (Or.inl (hts _ q319)) (hts _ q320) (hts _ q321) (gl_C.code (hts _ q322)) hy_X2_chart (gr_recv hK hI.1 y3 rfl) rfl (by rw [z3]; rfl) dX1_build_9) (M_X2_chart (x0 := some a3_) cx.2.2.2.2.2.2.2.2 (by omega) (by rw [← z3]; exact w3)) (d := d0 - 1) (by omega) (Nat.le_of_ble_eq_true rfl) (gz_ws (lw_meth q322) hts) (hts _ q73) hI rfl (by rw [cx.2.2.1]; exact hl.1) (lv_room (m := m) (pc := 0) (ls := ls) (rest := []) (gz_cs (st := []) (Nat.le_of_ble_eq_true rfl))) hc (by decide) [] ⟨5, 13, 16, 77⟩ [] hex rfl (by decide) (hts _ q318) q342 gz_nilE (fun H locs cells slots hI => ?_)
      refine gz_astore_n hx hb dX1_build_16 rfl hl (by decide) [0] rfl (gz_con ⟨gz_ne rfl, Or.inr (gl_cat x0)⟩ gz_nil) (fun ls hl => ?_)
      refine gr_aload_n hx hb x0 dX1_build_17 rfl (lv_at hl 1 rfl) ?_
      refine gr_aload_n hx hb x0 dX1_build_18 rfl (lv_at hl 1 rfl) ?_
      obtain ⟨v4, e4, h⟩ := g_bind h
      refine gr_getR cx hI e4 rfl (fun _ => rfl) rfl (Or.inl (hts _ q231)) dX1_build_19 ?_
      obtain ⟨v5, e5, h⟩ := g_bind h
      refine gr_getI cx hI e5 rfl (fun _ => rfl) rfl (Or.inr ⟨_, gk_w hK q121 rfl⟩) dX1_build_22 ?_
      obtain ⟨S6, e6, h⟩ := g_bind h
      refine gr_putI cx hI e6 rfl rfl rfl (Or.inl (hts _ q234)) (Or.inl rfl) dX1_build_25 (fun H locs hI => ?_)
      exact T_X1_build_28 hD h p e s m args below meth c H locs cells slots ls cx hnm hex hI (lv_sub hl [1] rfl)
    have h := gz_f h hc
    cases h
theorem M_X1_build {l : Launch} {G : gG} {fu d0 : Nat} (hfl : l.flags = flags0) (hD : 24 ≤ d0) {x0 : Option Nat} {S : gm_S} {o : Outcome} {S2 : gm_S} (h : F_X1_build fu x0 S = some (o, S2)) : gx_Met l yX1_build (wsW_ yX1_build cX1_build 2 (Option.some Jvm.ClassFile.FieldType.int) [((5 : Nat), (13 : Nat), (16 : Nat), (77 : Nat))]) d0 G S [va_rf x0] o S2 := by
  refine gx_ofH hfl (by decide) (fun p e s m below meth c cx hnm hex hI => ?_)
  rw [lg_entry_eq]
  cases x0 <;> exact T_X1_build (r := (o, S2)) hD h p e s m _ below meth c _ _ _ _ _ cx hnm hex hI (lv_entry _ (Nat.le_of_ble_eq_true rfl))
abbrev B_X0_build (l : Launch) (d0 : Nat) (G : gG) (S0 : gm_S) : Nat → List (Nat × Value) → List Value → gm_S → Outcome → gm_S → Prop := gz_B l RX0 "build" cX0_build 3 (Option.some Jvm.ClassFile.FieldType.int) [⟨0, 8, 11, 13⟩] d0 G S0
theorem T_X0_build {l : Launch} {G : gG} {S0 : gm_S} {d0 fu : Nat} {r : Outcome × gm_S} (hD : 25 ≤ d0) {x0 : Option Nat} {x1 : Option Nat} {S : gm_S} (h : F_X0_build fu x0 x1 S = some r) : B_X0_build l d0 G S0 0 [(0, va_rf x0), (1, va_rf x1)] [] S r.1 r.2 := by
  unfold F_X0_build at h
  intro p e s m args below meth c H locs cells slots ls cx hnm hex hI hl
  have hx := cx.1
  have hb := cx.2.1
  have hown := cx.2.2.2.1
  have hts := cx.2.2.2.2.1
  have hK := cx.2.2.2.2.2.1
  refine gr_aload_n hx hb x1 dX0_build_0 rfl (lv_at hl 1 rfl) ?_
  refine lv_iconst hx hb dX0_build_1 gz_ic_0 ?_
  refine gr_aload_n hx hb x0 dX0_build_2 rfl (lv_at hl 0 rfl) ?_
  obtain ⟨a1, t1, h⟩ := gz_q_s h
  obtain ⟨a1_, z1_, y1_⟩ : ∃ a, a = a1 ∧ True := ⟨a1, rfl, trivial⟩
  obtain ⟨z1, y1⟩ := g_at_s t1
  rw [← z1_] at z1 y1
  rcases gz_tI_s h with ⟨v1, S1, w1, h⟩ | ⟨a1, S1, w1, h⟩
  · refine gr_callR (gb_rawV (As := []) cx (Or.inl (hts _ q314)) (hts _ q315) (hts _ q316) (gl_C.codeW (hts _ q317)) hy_X1_build (gr_recv hK hI.1 y1 rfl) rfl (by rw [z1]; rfl) dX0_build_3) (M_X1_build (x0 := some a1_) cx.2.2.2.2.2.2.2.2 (by omega) (by rw [← z1]; exact w1)) (d := d0 - 1) (by omega) (Nat.le_of_ble_eq_true rfl) (gz_ws (lw_methW q317) hts) (hts _ q72) hI hK rfl (by rw [cx.2.2.1]; exact hl.1) (lv_room (m := m) (pc := 0) (ls := ls) (rest := []) (gz_cs (st := [.int (0 : Int32), va_rf x1]) (Nat.le_of_ble_eq_true rfl))) (fun H locs cells slots hI => ?_)
    refine lv_i2l hx hb dX0_build_6 rfl ?_
    obtain ⟨S2, e2, h⟩ := g_bind h
    refine gr_last cx hI e2 dX0_build_7 (fun H locs hI => ?_)
    refine lv_goto (tgt := 14) hx hb dX0_build_8 rfl ?_
    refine lv_iconst hx hb dX0_build_14 gz_ic_0 ?_
    cases h
    exact gr_iret cx hI dX0_build_15
  · by_cases hc : gs_t S1 a1 = 17
    · have h := gz_t h hc
      refine gr_callC (t := 17) cx (gb_rawV (As := []) cx (Or.inl (hts _ q314)) (hts _ q315) (hts _ q316) (gl_C.codeW (hts _ q317)) hy_X1_build (gr_recv hK hI.1 y1 rfl) rfl (by rw [z1]; rfl) dX0_build_3) (M_X1_build (x0 := some a1_) cx.2.2.2.2.2.2.2.2 (by omega) (by rw [← z1]; exact w1)) (d := d0 - 1) (by omega) (Nat.le_of_ble_eq_true rfl) (gz_ws (lw_methW q317) hts) (hts _ q72) hI rfl (by rw [cx.2.2.1]; exact hl.1) (lv_room (m := m) (pc := 0) (ls := ls) (rest := []) (gz_cs (st := [.int (0 : Int32), va_rf x1]) (Nat.le_of_ble_eq_true rfl))) hc (by decide) [] ⟨0, 8, 11, 13⟩ [] hex rfl (by decide) (hts _ q313) q342 gz_nilE (fun H locs cells slots hI => ?_)
      refine gz_astore_n hx hb dX0_build_11 rfl hl (by decide) [] rfl gz_nil (fun ls hl => ?_)
      refine lv_iconst hx hb dX0_build_12 gz_ic_1 ?_
      cases h
      exact gr_iret cx hI dX0_build_13
    have h := gz_f h hc
    cases h
theorem M_X0_build {l : Launch} {G : gG} {fu d0 : Nat} (hfl : l.flags = flags0) (hD : 25 ≤ d0) {x0 : Option Nat} {x1 : Option Nat} {S : gm_S} {o : Outcome} {S2 : gm_S} (h : F_X0_build fu x0 x1 S = some (o, S2)) : gx_Met l yX0_build (wsW_ yX0_build cX0_build 3 (Option.some Jvm.ClassFile.FieldType.int) [((0 : Nat), (8 : Nat), (11 : Nat), (13 : Nat))]) d0 G S [va_rf x0, va_rf x1] o S2 := by
  refine gx_ofH hfl (by decide) (fun p e s m below meth c cx hnm hex hI => ?_)
  rw [lg_entry_eq]
  cases x0 <;> cases x1 <;> exact T_X0_build (r := (o, S2)) hD h p e s m _ below meth c _ _ _ _ _ cx hnm hex hI (lv_entry _ (Nat.le_of_ble_eq_true rfl))
abbrev B_X3_aim (l : Launch) (d0 : Nat) (G : gG) (S0 : gm_S) : Nat → List (Nat × Value) → List Value → gm_S → Outcome → gm_S → Prop := gz_B l RX3 "aim" cX3_aim 6 (Option.none : Option Jvm.ClassFile.FieldType) [] d0 G S0
theorem T_X3_aim_171 {l : Launch} {G : gG} {S0 : gm_S} {d0 fu : Nat} {r : Outcome × gm_S} (hD : 11 ≤ d0) {x0 : Option Nat} {x1 : Option Nat} {x5 : Option Nat} {s0 : Int32} {s1 : Option Nat} {S : gm_S} (h : F_X3_aim_171 fu x0 x1 x5 s0 s1 S = some r) : B_X3_aim l d0 G S0 171 [(0, va_rf x0), (1, va_rf x1), (5, va_rf x5)] [.int s0, va_rf s1] S r.1 r.2 := by
  unfold F_X3_aim_171 at h
  intro p e s m args below meth c H locs cells slots ls cx hnm hex hI hl
  have hx := cx.1
  have hb := cx.2.1
  have hown := cx.2.2.2.1
  have hts := cx.2.2.2.2.1
  have hK := cx.2.2.2.2.2.1
  obtain ⟨S1, e1, h⟩ := g_bind h
  refine gr_putI cx hI e1 rfl rfl rfl (Or.inr ⟨_, gk_w hK q633 rfl⟩) (Or.inl rfl) dX3_aim_171 (fun H locs hI => ?_)
  refine gr_aload_n hx hb x1 dX3_aim_174 rfl (lv_at hl 1 rfl) ?_
  refine gr_aload hx hb x5 dX3_aim_175 (lv_at hl 2 rfl) ?_
  refine gr_ifnonnull (tgt := 187) hx hb dX3_aim_177 rfl (fun hc => ?_) (fun hc => ?_)
  · have h := gz_f h hc
    refine gr_aload_n hx hb x0 dX3_aim_187 rfl (lv_at hl 0 rfl) ?_
    obtain ⟨v2, e2, h⟩ := g_bind h
    refine gr_getI cx hI e2 rfl (fun _ => rfl) rfl (Or.inl (hts _ q184)) dX3_aim_188 ?_
    refine gr_aload hx hb x5 dX3_aim_191 (lv_at hl 2 rfl) ?_
    obtain ⟨v3, e3, h⟩ := g_bind h
    refine gr_getI cx hI e3 rfl (fun _ => rfl) rfl (Or.inr ⟨_, gk_w hK q437 rfl⟩) dX3_aim_193 ?_
    refine lv_iand hx hb dX3_aim_196 ?_
    obtain ⟨S4, e4, h⟩ := g_bind h
    refine gr_putI cx hI e4 rfl rfl rfl (Or.inr ⟨_, gk_w hK q634 rfl⟩) (Or.inl rfl) dX3_aim_197 (fun H locs hI => ?_)
    cases h
    exact gr_vret cx hI dX3_aim_200
  · have h := gz_t h hc
    refine gr_aload_n hx hb x0 dX3_aim_180 rfl (lv_at hl 0 rfl) ?_
    obtain ⟨v5, e5, h⟩ := g_bind h
    refine gr_getI cx hI e5 rfl (fun _ => rfl) rfl (Or.inl (hts _ q184)) dX3_aim_181 ?_
    refine lv_goto (tgt := 197) hx hb dX3_aim_184 rfl ?_
    obtain ⟨S6, e6, h⟩ := g_bind h
    refine gr_putI cx hI e6 rfl rfl rfl (Or.inr ⟨_, gk_w hK q634 rfl⟩) (Or.inl rfl) dX3_aim_197 (fun H locs hI => ?_)
    cases h
    exact gr_vret cx hI dX3_aim_200
theorem T_X3_aim_156 {l : Launch} {G : gG} {S0 : gm_S} {d0 fu : Nat} {r : Outcome × gm_S} (hD : 11 ≤ d0) {x0 : Option Nat} {x1 : Option Nat} {x5 : Option Nat} {S : gm_S} (h : F_X3_aim_156 fu x0 x1 x5 S = some r) : B_X3_aim l d0 G S0 156 [(0, va_rf x0), (1, va_rf x1), (5, va_rf x5)] [] S r.1 r.2 := by
  unfold F_X3_aim_156 at h
  intro p e s m args below meth c H locs cells slots ls cx hnm hex hI hl
  have hx := cx.1
  have hb := cx.2.1
  have hown := cx.2.2.2.1
  have hts := cx.2.2.2.2.1
  have hK := cx.2.2.2.2.2.1
  refine gr_aload_n hx hb x1 dX3_aim_156 rfl (lv_at hl 1 rfl) ?_
  refine gr_aload hx hb x5 dX3_aim_157 (lv_at hl 2 rfl) ?_
  refine gr_ifnonnull (tgt := 166) hx hb dX3_aim_159 rfl (fun hc => ?_) (fun hc => ?_)
  · have h := gz_f h hc
    refine gr_aload hx hb x5 dX3_aim_166 (lv_at hl 2 rfl) ?_
    obtain ⟨v1, e1, h⟩ := g_bind h
    refine gr_getI cx hI e1 rfl (fun _ => rfl) rfl (Or.inr ⟨_, gk_w hK q415 rfl⟩) dX3_aim_168 ?_
    exact T_X3_aim_171 hD h p e s m args below meth c H locs cells slots ls cx hnm hex hI hl
  · have h := gz_t h hc
    refine lv_iconst hx hb dX3_aim_162 gz_ic_m1 ?_
    refine lv_goto (tgt := 171) hx hb dX3_aim_163 rfl ?_
    exact T_X3_aim_171 hD h p e s m args below meth c H locs cells slots ls cx hnm hex hI hl
theorem T_X3_aim_119 {l : Launch} {G : gG} {S0 : gm_S} {d0 fu : Nat} {r : Outcome × gm_S} (hD : 11 ≤ d0) : ∀ (n : Nat) (x0 : Option Nat) (x1 : Option Nat) (x4 : Int32) (x5 : Option Nat) (S : gm_S), F_X3_aim_119 fu n x0 x1 x4 x5 S = some r → B_X3_aim l d0 G S0 119 [(0, va_rf x0), (1, va_rf x1), (4, .int x4), (5, va_rf x5)] [] S r.1 r.2 := by
  intro n
  induction n with
  | zero => intro x0 x1 x4 x5 S h; exact nomatch (show (none : gR) = some r from h)
  | succ n ih =>
    intro x0 x1 x4 x5 S h
    rw [F_X3_aim_119] at h
    intro p e s m args below meth c H locs cells slots ls cx hnm hex hI hl
    have hx := cx.1
    have hb := cx.2.1
    have hown := cx.2.2.2.1
    have hts := cx.2.2.2.2.1
    have hK := cx.2.2.2.2.2.1
    refine gr_aload hx hb x5 dX3_aim_119 (lv_at hl 3 rfl) ?_
    refine gr_ifnull (tgt := 156) hx hb dX3_aim_121 rfl (fun hc => ?_) (fun hc => ?_)
    · have h := gz_t h hc
      exact T_X3_aim_156 hD h p e s m args below meth c H locs cells slots ls cx hnm hex hI (lv_sub hl [0, 1, 3] rfl)
    · have h := gz_f h hc
      refine gr_aload hx hb x5 dX3_aim_124 (lv_at hl 3 rfl) ?_
      obtain ⟨v1, e1, h⟩ := g_bind h
      refine gr_getI cx hI e1 rfl (fun _ => rfl) rfl (Or.inr ⟨_, gk_w hK q421 rfl⟩) dX3_aim_126 ?_
      refine lv_iconst hx hb dX3_aim_129 gz_ic_1 ?_
      refine lv_icmp_ne (tgt := 146) hx hb dX3_aim_130 rfl (fun hc => ?_) (fun hc => ?_)
      · have h := gz_f h hc
        refine gr_aload hx hb x5 dX3_aim_146 (lv_at hl 3 rfl) ?_
        obtain ⟨v2, e2, h⟩ := g_bind h
        refine gr_getR cx hI e2 rfl (fun _ => rfl) rfl (Or.inr ⟨_, gk_w hK q418 rfl⟩) dX3_aim_148 ?_
        refine gz_astore hx hb dX3_aim_151 hl (by decide) [0, 1, 2] rfl (gz_con ⟨gz_ne rfl, Or.inl (gz_ne rfl)⟩ (gz_con ⟨gz_ne rfl, Or.inl (gz_ne rfl)⟩ (gz_con ⟨gz_ne rfl, Or.inr rfl⟩ gz_nil))) (fun ls hl => ?_)
        refine lv_goto (tgt := 119) hx hb dX3_aim_153 rfl ?_
        exact ih _ _ _ _ _ h p e s m args below meth c H locs cells slots ls cx hnm hex hI (lv_sub hl [1, 2, 3, 0] rfl)
      · have h := gz_t h hc
        refine gr_aload hx hb x5 dX3_aim_133 (lv_at hl 3 rfl) ?_
        obtain ⟨v3, e3, h⟩ := g_bind h
        refine gr_getI cx hI e3 rfl (fun _ => rfl) rfl (Or.inr ⟨_, gk_w hK q437 rfl⟩) dX3_aim_135 ?_
        refine lv_iload hx hb dX3_aim_138 (lv_at hl 2 rfl) ?_
        refine lv_iand hx hb dX3_aim_140 ?_
        refine lv_iload hx hb dX3_aim_141 (lv_at hl 2 rfl) ?_
        refine lv_icmp_eq (tgt := 156) hx hb dX3_aim_143 rfl (fun hc => ?_) (fun hc => ?_)
        · have h := gz_t h hc
          exact T_X3_aim_156 hD h p e s m args below meth c H locs cells slots ls cx hnm hex hI (lv_sub hl [0, 1, 3] rfl)
        · have h := gz_f h hc
          refine gr_aload hx hb x5 dX3_aim_146 (lv_at hl 3 rfl) ?_
          obtain ⟨v4, e4, h⟩ := g_bind h
          refine gr_getR cx hI e4 rfl (fun _ => rfl) rfl (Or.inr ⟨_, gk_w hK q418 rfl⟩) dX3_aim_148 ?_
          refine gz_astore hx hb dX3_aim_151 hl (by decide) [0, 1, 2] rfl (gz_con ⟨gz_ne rfl, Or.inl (gz_ne rfl)⟩ (gz_con ⟨gz_ne rfl, Or.inl (gz_ne rfl)⟩ (gz_con ⟨gz_ne rfl, Or.inr rfl⟩ gz_nil))) (fun ls hl => ?_)
          refine lv_goto (tgt := 119) hx hb dX3_aim_153 rfl ?_
          exact ih _ _ _ _ _ h p e s m args below meth c H locs cells slots ls cx hnm hex hI (lv_sub hl [1, 2, 3, 0] rfl)
theorem T_X3_aim_96 {l : Launch} {G : gG} {S0 : gm_S} {d0 fu : Nat} {r : Outcome × gm_S} (hD : 11 ≤ d0) {x0 : Option Nat} {x1 : Option Nat} {S : gm_S} (h : F_X3_aim_96 fu x0 x1 S = some r) : B_X3_aim l d0 G S0 96 [(0, va_rf x0), (1, va_rf x1)] [] S r.1 r.2 := by
  unfold F_X3_aim_96 at h
  intro p e s m args below meth c H locs cells slots ls cx hnm hex hI hl
  have hx := cx.1
  have hb := cx.2.1
  have hown := cx.2.2.2.1
  have hts := cx.2.2.2.2.1
  have hK := cx.2.2.2.2.2.1
  refine gr_aload_n hx hb x1 dX3_aim_96 rfl (lv_at hl 1 rfl) ?_
  obtain ⟨v1, e1, h⟩ := g_bind h
  refine gr_getI cx hI e1 rfl (fun _ => rfl) rfl (Or.inr ⟨_, gk_w hK q632 rfl⟩) dX3_aim_97 ?_
  refine gr_aload_n hx hb x1 dX3_aim_100 rfl (lv_at hl 1 rfl) ?_
  obtain ⟨v2, e2, h⟩ := g_bind h
  refine gr_getR cx hI e2 rfl (fun _ => rfl) rfl (Or.inr ⟨_, gk_w hK q623 rfl⟩) dX3_aim_101 ?_
  obtain ⟨a3, t3, h⟩ := gz_q_s h
  refine C_X5_bit cx (gz_nh hex) hI (Or.inl (hts _ q775)) hl.1 (gz_cs (Nat.le_of_ble_eq_true rfl)) (by omega) dX3_aim_104 t3 h (fun v3 S3 h H locs cells slots hI => ?_)
  refine lv_ior hx hb dX3_aim_107 ?_
  refine gz_istore hx hb dX3_aim_108 hl (by decide) [0, 1] rfl (gz_con ⟨gz_ne rfl, Or.inl (gz_ne rfl)⟩ (gz_con ⟨gz_ne rfl, Or.inl (gz_ne rfl)⟩ gz_nil)) (fun ls hl => ?_)
  refine gr_aload_n hx hb x1 dX3_aim_110 rfl (lv_at hl 2 rfl) ?_
  obtain ⟨v4, e4, h⟩ := g_bind h
  refine gr_getR cx hI e4 rfl (fun _ => rfl) rfl (Or.inr ⟨_, gk_w hK q623 rfl⟩) dX3_aim_111 ?_
  obtain ⟨v5, e5, h⟩ := g_bind h
  refine gr_getR cx hI e5 rfl (fun _ => rfl) rfl (Or.inr ⟨_, gk_w hK q418 rfl⟩) dX3_aim_114 ?_
  refine gz_astore hx hb dX3_aim_117 hl (by decide) [0, 1, 2] rfl (gz_con ⟨gz_ne rfl, Or.inr rfl⟩ (gz_con ⟨gz_ne rfl, Or.inl (gz_ne rfl)⟩ (gz_con ⟨gz_ne rfl, Or.inl (gz_ne rfl)⟩ gz_nil))) (fun ls hl => ?_)
  exact T_X3_aim_119 hD fu _ _ _ _ _ h p e s m args below meth c H locs cells slots ls cx hnm hex hI (lv_sub hl [2, 3, 1, 0] rfl)
theorem T_X3_aim_78 {l : Launch} {G : gG} {S0 : gm_S} {d0 fu : Nat} {r : Outcome × gm_S} (hD : 11 ≤ d0) {x0 : Option Nat} {x1 : Option Nat} {x2 : Option Nat} {s0 : Int32} {s1 : Option Nat} {S : gm_S} (h : F_X3_aim_78 fu x0 x1 x2 s0 s1 S = some r) : B_X3_aim l d0 G S0 78 [(0, va_rf x0), (1, va_rf x1), (2, va_rf x2)] [.int s0, va_rf s1] S r.1 r.2 := by
  unfold F_X3_aim_78 at h
  intro p e s m args below meth c H locs cells slots ls cx hnm hex hI hl
  have hx := cx.1
  have hb := cx.2.1
  have hown := cx.2.2.2.1
  have hts := cx.2.2.2.2.1
  have hK := cx.2.2.2.2.2.1
  obtain ⟨S1, e1, h⟩ := g_bind h
  refine gr_putI cx hI e1 rfl rfl rfl (Or.inr ⟨_, gk_w hK q632 rfl⟩) (Or.inl rfl) dX3_aim_78 (fun H locs hI => ?_)
  refine gr_aload_n hx hb x1 dX3_aim_81 rfl (lv_at hl 1 rfl) ?_
  obtain ⟨v2, e2, h⟩ := g_bind h
  refine gr_getI cx hI e2 rfl (fun _ => rfl) rfl (Or.inr ⟨_, gk_w hK q632 rfl⟩) dX3_aim_82 ?_
  refine lv_if_ne (tgt := 96) hx hb dX3_aim_85 rfl (fun hc => ?_) (fun hc => ?_)
  · have h := gz_f h hc
    exact T_X3_aim_96 hD h p e s m args below meth c H locs cells slots ls cx hnm hex hI (lv_sub hl [0, 1] rfl)
  · have h := gz_t h hc
    refine gr_aload_n hx hb x1 dX3_aim_88 rfl (lv_at hl 1 rfl) ?_
    refine gr_aload_n hx hb x2 dX3_aim_89 rfl (lv_at hl 2 rfl) ?_
    obtain ⟨a3, t3, h⟩ := gz_q_s h
    refine C_X5_bit cx (gz_nh hex) hI (Or.inl (hts _ q775)) hl.1 (gz_cs (Nat.le_of_ble_eq_true rfl)) (by omega) dX3_aim_90 t3 h (fun v3 S3 h H locs cells slots hI => ?_)
    obtain ⟨S4, e4, h⟩ := g_bind h
    refine gr_putI cx hI e4 rfl rfl rfl (Or.inr ⟨_, gk_w hK q632 rfl⟩) (Or.inl rfl) dX3_aim_93 (fun H locs hI => ?_)
    exact T_X3_aim_96 hD h p e s m args below meth c H locs cells slots ls cx hnm hex hI (lv_sub hl [0, 1] rfl)
theorem T_X3_aim {l : Launch} {G : gG} {S0 : gm_S} {d0 fu : Nat} {r : Outcome × gm_S} (hD : 11 ≤ d0) {x0 : Option Nat} {x1 : Option Nat} {S : gm_S} (h : F_X3_aim fu x0 x1 S = some r) : B_X3_aim l d0 G S0 0 [(0, va_rf x0), (1, va_rf x1)] [] S r.1 r.2 := by
  unfold F_X3_aim at h
  intro p e s m args below meth c H locs cells slots ls cx hnm hex hI hl
  have hx := cx.1
  have hb := cx.2.1
  have hown := cx.2.2.2.1
  have hts := cx.2.2.2.2.1
  have hK := cx.2.2.2.2.2.1
  refine gr_aload_n hx hb x1 dX3_aim_0 rfl (lv_at hl 1 rfl) ?_
  refine lv_iconst hx hb dX3_aim_1 gz_ic_0 ?_
  obtain ⟨S1, e1, h⟩ := g_bind h
  refine gr_putI cx hI e1 rfl rfl rfl (Or.inr ⟨_, gk_w hK q632 rfl⟩) (Or.inl rfl) dX3_aim_2 (fun H locs hI => ?_)
  refine gr_aload_n hx hb x1 dX3_aim_5 rfl (lv_at hl 1 rfl) ?_
  refine lv_iconst hx hb dX3_aim_6 gz_ic_0 ?_
  obtain ⟨S2, e2, h⟩ := g_bind h
  refine gr_putI cx hI e2 rfl rfl rfl (Or.inr ⟨_, gk_w hK q634 rfl⟩) (Or.inl rfl) dX3_aim_7 (fun H locs hI => ?_)
  refine gr_aload_n hx hb x1 dX3_aim_10 rfl (lv_at hl 1 rfl) ?_
  refine lv_iconst hx hb dX3_aim_11 gz_ic_m1 ?_
  obtain ⟨S3, e3, h⟩ := g_bind h
  refine gr_putI cx hI e3 rfl rfl rfl (Or.inr ⟨_, gk_w hK q633 rfl⟩) (Or.inl rfl) dX3_aim_12 (fun H locs hI => ?_)
  refine gr_aload_n hx hb x1 dX3_aim_15 rfl (lv_at hl 1 rfl) ?_
  obtain ⟨v4, e4, h⟩ := g_bind h
  refine gr_getR cx hI e4 rfl (fun _ => rfl) rfl (Or.inr ⟨_, gk_w hK q631 rfl⟩) dX3_aim_16 ?_
  refine gr_ifnonnull (tgt := 23) hx hb dX3_aim_19 rfl (fun hc => ?_) (fun hc => ?_)
  · have h := gz_f h hc
    refine gr_aload_n hx hb x0 dX3_aim_23 rfl (lv_at hl 0 rfl) ?_
    obtain ⟨v5, e5, h⟩ := g_bind h
    refine gr_getR cx hI e5 rfl (fun _ => rfl) rfl (Or.inl (hts _ q180)) dX3_aim_24 ?_
    refine gr_aload_n hx hb x1 dX3_aim_27 rfl (lv_at hl 1 rfl) ?_
    obtain ⟨v6, e6, h⟩ := g_bind h
    refine gr_getR cx hI e6 rfl (fun _ => rfl) rfl (Or.inr ⟨_, gk_w hK q631 rfl⟩) dX3_aim_28 ?_
    obtain ⟨v7, e7, h⟩ := g_bind h
    refine gr_getI cx hI e7 rfl (fun _ => rfl) rfl (Or.inr ⟨_, gk_w hK q671 rfl⟩) dX3_aim_31 ?_
    obtain ⟨v8, e8, h⟩ := g_bind h
    refine gr_lgetr cx (gz_nh hex) hI (Or.inl (hts _ q760)) hl.1 (gz_cs (Nat.le_of_ble_eq_true rfl)) (by omega) dX3_aim_34 e8 (fun H locs cells slots hI => ?_)
    obtain ⟨a9, e9, h⟩ := gz_q_s h
    refine gr_ck1 cx hI e9 rfl (hts _ q761) dX3_aim_37 ?_
    refine gz_astore_n hx hb dX3_aim_40 rfl hl (by decide) [0, 1] rfl (gz_con ⟨gz_ne rfl, Or.inl (gz_ne rfl)⟩ (gz_con ⟨gz_ne rfl, Or.inr (gl_cat x1)⟩ gz_nil)) (fun ls hl => ?_)
    refine gr_aload_n hx hb x1 dX3_aim_41 rfl (lv_at hl 2 rfl) ?_
    obtain ⟨v10, e10, h⟩ := g_bind h
    refine gr_getR cx hI e10 rfl (fun _ => rfl) rfl (Or.inr ⟨_, gk_w hK q631 rfl⟩) dX3_aim_42 ?_
    obtain ⟨v11, e11, h⟩ := g_bind h
    refine gr_getI cx hI e11 rfl (fun _ => rfl) rfl (Or.inr ⟨_, gk_w hK q668 rfl⟩) dX3_aim_45 ?_
    refine gz_istore_n hx hb dX3_aim_48 rfl hl (by decide) [0, 1, 2] rfl (gz_con ⟨gz_ne rfl, Or.inr (gl_cat (some v8))⟩ (gz_con ⟨gz_ne rfl, Or.inl (gz_ne rfl)⟩ (gz_con ⟨gz_ne rfl, Or.inl (gz_ne rfl)⟩ gz_nil))) (fun ls hl => ?_)
    refine gr_aload_n hx hb x1 dX3_aim_49 rfl (lv_at hl 3 rfl) ?_
    refine lv_iload_n hx hb dX3_aim_50 rfl (lv_at hl 0 rfl) ?_
    refine lv_iconst hx hb dX3_aim_51 gz_ic_1 ?_
    refine lv_icmp_ne (tgt := 62) hx hb dX3_aim_52 rfl (fun hc => ?_) (fun hc => ?_)
    · have h := gz_f h hc
      refine lv_iload_n hx hb dX3_aim_62 rfl (lv_at hl 0 rfl) ?_
      refine lv_iconst hx hb dX3_aim_63 gz_ic_2 ?_
      refine lv_icmp_ne (tgt := 74) hx hb dX3_aim_64 rfl (fun hc => ?_) (fun hc => ?_)
      · have h := gz_f h hc
        refine gr_aload_n hx hb (some v8) dX3_aim_74 rfl (lv_at hl 1 rfl) ?_
        obtain ⟨a12, t12, h⟩ := gz_q_s h
        refine C_X5_bit cx (gz_nh hex) hI (Or.inl (hts _ q775)) hl.1 (gz_cs (Nat.le_of_ble_eq_true rfl)) (by omega) dX3_aim_75 t12 h (fun v12 S12 h H locs cells slots hI => ?_)
        exact T_X3_aim_78 hD h p e s m args below meth c H locs cells slots ls cx hnm hex hI (lv_sub hl [2, 3, 1] rfl)
      · have h := gz_t h hc
        refine gr_aload_n hx hb (some v8) dX3_aim_67 rfl (lv_at hl 1 rfl) ?_
        obtain ⟨v13, e13, h⟩ := g_bind h
        refine gr_getI cx hI e13 rfl (fun _ => rfl) rfl (Or.inr ⟨_, gk_w hK q440 rfl⟩) dX3_aim_68 ?_
        refine lv_goto (tgt := 78) hx hb dX3_aim_71 rfl ?_
        exact T_X3_aim_78 hD h p e s m args below meth c H locs cells slots ls cx hnm hex hI (lv_sub hl [2, 3, 1] rfl)
    · have h := gz_t h hc
      refine gr_aload_n hx hb (some v8) dX3_aim_55 rfl (lv_at hl 1 rfl) ?_
      obtain ⟨v14, e14, h⟩ := g_bind h
      refine gr_getI cx hI e14 rfl (fun _ => rfl) rfl (Or.inr ⟨_, gk_w hK q438 rfl⟩) dX3_aim_56 ?_
      refine lv_goto (tgt := 78) hx hb dX3_aim_59 rfl ?_
      exact T_X3_aim_78 hD h p e s m args below meth c H locs cells slots ls cx hnm hex hI (lv_sub hl [2, 3, 1] rfl)
  · have h := gz_t h hc
    cases h
    exact gr_vret cx hI dX3_aim_22
theorem M_X3_aim {l : Launch} {G : gG} {fu d0 : Nat} (hfl : l.flags = flags0) (hD : 11 ≤ d0) {x0 : Option Nat} {x1 : Option Nat} {S : gm_S} {o : Outcome} {S2 : gm_S} (h : F_X3_aim fu x0 x1 S = some (o, S2)) : gx_Met l yX3_aim (ws_ yX3_aim cX3_aim 6 (Option.none : Option Jvm.ClassFile.FieldType)) d0 G S [va_rf x0, va_rf x1] o S2 := by
  refine gx_of hfl (by decide) (fun p e s m below meth c cx hnm hex hI => ?_)
  rw [lg_entry_eq]
  cases x0 <;> cases x1 <;> exact T_X3_aim (r := (o, S2)) hD h p e s m _ below meth c _ _ _ _ _ cx hnm (gz_nh0 hex) hI (lv_entry _ (Nat.le_of_ble_eq_true rfl))
theorem C_X3_aim {p : Program} {l : Launch} {e : Env} {s : State} {m : MethodId} {args : Array Value} {below : List Frame} {meth : Method} {c : Code} {H : Heap} {locs : List Loc} {cells slots : Nat} {cc : ByteArray} {pc nL : Nat} {ls : Array Slot} {rest : List Value} {G : gG} {S0 S : gm_S} {own : String} {ret : Option FieldType} {d0 index fu : Nat} {x0 : Option Nat} {x1 : Option Nat} {k : gm_S → gR} {r : Outcome × gm_S} (cx : gx_cx p l s m args meth c G own cc nL ret) (hex : ∀ x ∈ c.exceptionTable.toList, covers x pc = false) (hI : gw_I G S0 S H locs cells slots) (hl : gl_M own index yX3_aim args s) (hlv : ls.size = nL) (hrest : (rest.map fun v => v.category).sum ≤ 8) (hD : 12 ≤ d0) (hdg : decode cc pc = .ok (.invokevirtual index, 3)) {b : Nat} (hat : g_at S x0 3 = some b) (h : gz_cV (F_X3_aim fu x0 x1 S) k = some r)
    (kk : ∀ (z : gm_S), k z = some r → ∀ (H : Heap) (locs : List Loc) (cells slots : Nat), gw_I G S0 z H locs cells slots → W p l e (gx_rm d0 S0) s m args below meth c H locs cells slots (gx_MQ below G S0 r.2 r.1 s) (F0 m (pc + 3) ls rest)) : W p l e (gx_rm d0 S0) s m args below meth c H locs cells slots (gx_MQ below G S0 r.2 r.1 s) (F0 m pc ls (va_rf x1 :: va_rf x0 :: rest)) := by
  obtain ⟨rfl, ht⟩ := g_at_s hat
  have hts := cx.2.2.2.2.1
  have hK := cx.2.2.2.2.2.1
  exact gz_goV (d := d0 - 1) (fun S => S) cx hex hI hlv hrest (by omega) (Nat.le_of_ble_eq_true rfl) (gz_ws (lw_meth q910) hts) (hts _ q74) (gb_rawV (As := [va_rf x1]) cx hl (hts _ q909) (hts _ qs21) (gl_C.code (hts _ q910)) hy_X3_aim (gr_recv hK hI.1 ht rfl) rfl rfl hdg) (fun o S2 e => M_X3_aim (x0 := some b) cx.2.2.2.2.2.2.2.2 (by omega) e) h kk
abbrev B_X3_isActive (l : Launch) (d0 : Nat) (G : gG) (S0 : gm_S) : Nat → List (Nat × Value) → List Value → gm_S → Outcome → gm_S → Prop := gz_B l RX3 "isActive" cX3_isActive 2 (Option.some Jvm.ClassFile.FieldType.boolean) [] d0 G S0
theorem T_X3_isActive {l : Launch} {G : gG} {S0 : gm_S} {d0 fu : Nat} {r : Outcome × gm_S} (hD : 2 ≤ d0) {x0 : Option Nat} {x1 : Int32} {S : gm_S} (h : F_X3_isActive fu x0 x1 S = some r) : B_X3_isActive l d0 G S0 0 [(0, va_rf x0), (1, .int x1)] [] S r.1 r.2 := by
  unfold F_X3_isActive at h
  intro p e s m args below meth c H locs cells slots ls cx hnm hex hI hl
  have hx := cx.1
  have hb := cx.2.1
  have hown := cx.2.2.2.1
  have hts := cx.2.2.2.2.1
  have hK := cx.2.2.2.2.2.1
  refine gr_aload_n hx hb x0 dX3_isActive_0 rfl (lv_at hl 0 rfl) ?_
  obtain ⟨v1, e1, h⟩ := g_bind h
  refine gr_getI cx hI e1 rfl (fun _ => rfl) rfl (Or.inl (hts _ q184)) dX3_isActive_1 ?_
  refine lv_iload_n hx hb dX3_isActive_4 rfl (lv_at hl 1 rfl) ?_
  refine lv_ishr hx hb dX3_isActive_5 ?_
  refine lv_iconst hx hb dX3_isActive_6 gz_ic_1 ?_
  refine lv_iand hx hb dX3_isActive_7 ?_
  refine lv_iconst hx hb dX3_isActive_8 gz_ic_1 ?_
  refine lv_icmp_ne (tgt := 16) hx hb dX3_isActive_9 rfl (fun hc => ?_) (fun hc => ?_)
  · have h := gz_f h hc
    refine lv_iconst hx hb dX3_isActive_16 gz_ic_0 ?_
    obtain ⟨hz, h⟩ := g_ifs h
    cases h
    exact gr_zret cx hz hI dX3_isActive_17
  · have h := gz_t h hc
    refine lv_iconst hx hb dX3_isActive_12 gz_ic_1 ?_
    refine lv_goto (tgt := 17) hx hb dX3_isActive_13 rfl ?_
    obtain ⟨hz, h⟩ := g_ifs h
    cases h
    exact gr_zret cx hz hI dX3_isActive_17
theorem M_X3_isActive {l : Launch} {G : gG} {fu d0 : Nat} (hfl : l.flags = flags0) (hD : 2 ≤ d0) {x0 : Option Nat} {x1 : Int32} {S : gm_S} {o : Outcome} {S2 : gm_S} (h : F_X3_isActive fu x0 x1 S = some (o, S2)) : gx_Met l yX3_isActive (ws_ yX3_isActive cX3_isActive 2 (Option.some Jvm.ClassFile.FieldType.boolean)) d0 G S [va_rf x0, .int x1] o S2 := by
  refine gx_of hfl (by decide) (fun p e s m below meth c cx hnm hex hI => ?_)
  rw [lg_entry_eq]
  cases x0 <;> exact T_X3_isActive (r := (o, S2)) hD h p e s m _ below meth c _ _ _ _ _ cx hnm (gz_nh0 hex) hI (lv_entry _ (Nat.le_of_ble_eq_true rfl))
theorem C_X3_isActive {p : Program} {l : Launch} {e : Env} {s : State} {m : MethodId} {args : Array Value} {below : List Frame} {meth : Method} {c : Code} {H : Heap} {locs : List Loc} {cells slots : Nat} {cc : ByteArray} {pc nL : Nat} {ls : Array Slot} {rest : List Value} {G : gG} {S0 S : gm_S} {own : String} {ret : Option FieldType} {d0 index fu : Nat} {x0 : Option Nat} {x1 : Int32} {k : Int32 → gm_S → gR} {r : Outcome × gm_S} (cx : gx_cx p l s m args meth c G own cc nL ret) (hex : ∀ x ∈ c.exceptionTable.toList, covers x pc = false) (hI : gw_I G S0 S H locs cells slots) (hl : gl_M own index yX3_isActive args s) (hlv : ls.size = nL) (hrest : (rest.map fun v => v.category).sum ≤ 8) (hD : 3 ≤ d0) (hdg : decode cc pc = .ok (.invokevirtual index, 3)) {b : Nat} (hat : g_at S x0 3 = some b) (h : gz_cI (F_X3_isActive fu x0 x1 S) k = some r)
    (kk : ∀ (v : Int32) (z : gm_S), k v z = some r → ∀ (H : Heap) (locs : List Loc) (cells slots : Nat), gw_I G S0 z H locs cells slots → W p l e (gx_rm d0 S0) s m args below meth c H locs cells slots (gx_MQ below G S0 r.2 r.1 s) (F0 m (pc + 3) ls (.int v :: rest))) : W p l e (gx_rm d0 S0) s m args below meth c H locs cells slots (gx_MQ below G S0 r.2 r.1 s) (F0 m pc ls (.int x1 :: va_rf x0 :: rest)) := by
  obtain ⟨rfl, ht⟩ := g_at_s hat
  have hts := cx.2.2.2.2.1
  have hK := cx.2.2.2.2.2.1
  exact gz_goI (d := d0 - 1) (fun S => S) cx hex hI hlv hrest (by omega) (Nat.le_of_ble_eq_true rfl) (gz_ws (lw_meth q289) hts) (hts _ q74) (gb_rawV (As := [.int x1]) cx hl (hts _ q287) (hts _ q288) (gl_C.code (hts _ q289)) hy_X3_isActive (gr_recv hK hI.1 ht rfl) rfl rfl hdg) (fun o S2 e => M_X3_isActive (x0 := some b) cx.2.2.2.2.2.2.2.2 (by omega) e) h kk
theorem C_X3_isActive_F {p : Program} {l : Launch} {e : Env} {s : State} {m : MethodId} {args : Array Value} {below : List Frame} {meth : Method} {c : Code} {H : Heap} {locs : List Loc} {cells slots : Nat} {cc : ByteArray} {pc nL : Nat} {ls : Array Slot} {rest : List Value} {G : gG} {S0 S : gm_S} {own : String} {ret : Option FieldType} {d0 index fu : Nat} {count : Nat} {x0 : Option Nat} {x1 : Int32} {k : Int32 → gm_S → gR} {r : Outcome × gm_S} (cx : gx_cx p l s m args meth c G own cc nL ret) (hex : ∀ x ∈ c.exceptionTable.toList, covers x pc = false) (hI : gw_I G S0 S H locs cells slots) (hl : (Cond.methodLink own index ⟨"NestChart$Machine", "isActive", "(I)Z"⟩).before args s = true) (hlv : ls.size = nL) (hrest : (rest.map fun v => v.category).sum ≤ 8) (hD : 3 ≤ d0) (hdg : decode cc pc = .ok (.invokeinterface index count, 5)) {b : Nat} (hat : g_at S x0 3 = some b) (h : gz_cI (F_X3_isActive fu x0 x1 S) k = some r)
    (kk : ∀ (v : Int32) (z : gm_S), k v z = some r → ∀ (H : Heap) (locs : List Loc) (cells slots : Nat), gw_I G S0 z H locs cells slots → W p l e (gx_rm d0 S0) s m args below meth c H locs cells slots (gx_MQ below G S0 r.2 r.1 s) (F0 m (pc + 5) ls (.int v :: rest))) : W p l e (gx_rm d0 S0) s m args below meth c H locs cells slots (gx_MQ below G S0 r.2 r.1 s) (F0 m pc ls (.int x1 :: va_rf x0 :: rest)) := by
  obtain ⟨rfl, ht⟩ := g_at_s hat
  have hts := cx.2.2.2.2.1
  have hK := cx.2.2.2.2.2.1
  exact gz_goI (d := d0 - 1) (fun S => S) cx hex hI hlv hrest (by omega) (Nat.le_of_ble_eq_true rfl) (gz_ws (lw_meth q289) hts) (hts _ q74) (gb_rawF (As := [.int x1]) cx hl (hK.2.2.2.2.1 ("isActive", "(I)Z") (by decide)) (hts _ q900) (hts _ q287) (gl_C.code (hts _ q289)) (hK.1 3).2 ⟨by decide +kernel, hy_X3_isActive.2⟩ (gr_recv hK hI.1 ht rfl) rfl rfl hdg) (fun o S2 e => M_X3_isActive (x0 := some b) cx.2.2.2.2.2.2.2.2 (by omega) e) h kk
abbrev B_X13_is (l : Launch) (d0 : Nat) (G : gG) (S0 : gm_S) : Nat → List (Nat × Value) → List Value → gm_S → Outcome → gm_S → Prop := gz_B l RX13 "is" cX13_is 2 (Option.some Jvm.ClassFile.FieldType.boolean) [] d0 G S0
theorem T_X13_is {l : Launch} {G : gG} {S0 : gm_S} {d0 fu : Nat} {r : Outcome × gm_S} (hD : 3 ≤ d0) {x0 : Option Nat} {x1 : Option Nat} {S : gm_S} (h : F_X13_is fu x0 x1 S = some r) : B_X13_is l d0 G S0 0 [(0, va_rf x0), (1, va_rf x1)] [] S r.1 r.2 := by
  unfold F_X13_is at h
  intro p e s m args below meth c H locs cells slots ls cx hnm hex hI hl
  have hx := cx.1
  have hb := cx.2.1
  have hown := cx.2.2.2.1
  have hts := cx.2.2.2.2.1
  have hK := cx.2.2.2.2.2.1
  refine gr_aload_n hx hb x1 dX13_is_0 rfl (lv_at hl 1 rfl) ?_
  refine gr_aload_n hx hb x0 dX13_is_1 rfl (lv_at hl 0 rfl) ?_
  obtain ⟨v1, e1, h⟩ := g_bind h
  refine gr_getR cx hI e1 rfl (fun _ => rfl) rfl (Or.inl (hts _ q690)) dX13_is_2 ?_
  obtain ⟨v2, e2, h⟩ := g_bind h
  refine gr_getI cx hI e2 rfl (fun _ => rfl) rfl (Or.inr ⟨_, gk_w hK q669 rfl⟩) dX13_is_5 ?_
  obtain ⟨a3, t3, h⟩ := gz_q_s h
  refine C_X3_isActive_F cx (gz_nh hex) hI (hts _ q897) hl.1 (gz_cs (Nat.le_of_ble_eq_true rfl)) (by omega) dX13_is_8 t3 h (fun v3 S3 h H locs cells slots hI => ?_)
  obtain ⟨hz, h⟩ := g_ifs h
  cases h
  exact gr_zret cx hz hI dX13_is_13
theorem M_X13_is {l : Launch} {G : gG} {fu d0 : Nat} (hfl : l.flags = flags0) (hD : 3 ≤ d0) {x0 : Option Nat} {x1 : Option Nat} {S : gm_S} {o : Outcome} {S2 : gm_S} (h : F_X13_is fu x0 x1 S = some (o, S2)) : gx_Met l yX13_is (ws_ yX13_is cX13_is 2 (Option.some Jvm.ClassFile.FieldType.boolean)) d0 G S [va_rf x0, va_rf x1] o S2 := by
  refine gx_of hfl (by decide) (fun p e s m below meth c cx hnm hex hI => ?_)
  rw [lg_entry_eq]
  cases x0 <;> cases x1 <;> exact T_X13_is (r := (o, S2)) hD h p e s m _ below meth c _ _ _ _ _ cx hnm (gz_nh0 hex) hI (lv_entry _ (Nat.le_of_ble_eq_true rfl))
theorem C_X13_is_U {p : Program} {l : Launch} {e : Env} {s : State} {m : MethodId} {args : Array Value} {below : List Frame} {meth : Method} {c : Code} {H : Heap} {locs : List Loc} {cells slots : Nat} {cc : ByteArray} {pc nL : Nat} {ls : Array Slot} {rest : List Value} {G : gG} {S0 S : gm_S} {own : String} {ret : Option FieldType} {d0 index fu : Nat} {x0 : Option Nat} {x1 : Option Nat} {k : Int32 → gm_S → gR} {r : Outcome × gm_S} (cx : gx_cx p l s m args meth c G own cc nL ret) (hex : ∀ x ∈ c.exceptionTable.toList, covers x pc = false) (hI : gw_I G S0 S H locs cells slots) (hl : (Cond.methodLink own index ⟨"NestChart$Test", "is", "(LNestChart$Machine;)Z"⟩).before args s = true) (hlv : ls.size = nL) (hrest : (rest.map fun v => v.category).sum ≤ 8) (hD : 4 ≤ d0) (hdg : decode cc pc = .ok (.invokevirtual index, 3)) {b : Nat} (hat : g_at S x0 13 = some b) (h : gz_cI (F_X13_is fu x0 x1 S) k = some r)
    (kk : ∀ (v : Int32) (z : gm_S), k v z = some r → ∀ (H : Heap) (locs : List Loc) (cells slots : Nat), gw_I G S0 z H locs cells slots → W p l e (gx_rm d0 S0) s m args below meth c H locs cells slots (gx_MQ below G S0 r.2 r.1 s) (F0 m (pc + 3) ls (.int v :: rest))) : W p l e (gx_rm d0 S0) s m args below meth c H locs cells slots (gx_MQ below G S0 r.2 r.1 s) (F0 m pc ls (va_rf x1 :: va_rf x0 :: rest)) := by
  obtain ⟨rfl, ht⟩ := g_at_s hat
  have hts := cx.2.2.2.2.1
  have hK := cx.2.2.2.2.2.1
  exact gz_goI (d := d0 - 1) (fun S => S) cx hex hI hlv hrest (by omega) (Nat.le_of_ble_eq_true rfl) (gz_ws (lw_meth q895) hts) (hts _ q97) (gb_rawU (As := [va_rf x1]) (owner := "NestChart$Test") cx hl (hts _ q888) (gk_w hK q887 rfl) (hts _ q893) (hts _ q894) (gl_C.code (hts _ q895)) ⟨by decide +kernel, hy_X13_is.2⟩ (gr_recv hK hI.1 ht rfl) rfl rfl hdg) (fun o S2 e => M_X13_is (x0 := some b) cx.2.2.2.2.2.2.2.2 (by omega) e) h kk
abbrev B_X12_holds_13 (l : Launch) (d0 : Nat) (G : gG) (S0 : gm_S) : Nat → List (Nat × Value) → List Value → gm_S → Outcome → gm_S → Prop := gz_B l RX12 "holds" cX12_holds 2 (Option.some Jvm.ClassFile.FieldType.boolean) [] d0 G S0
theorem T_X12_holds_13 {l : Launch} {G : gG} {S0 : gm_S} {d0 fu : Nat} {r : Outcome × gm_S} (hD : 4 ≤ d0) {x0 : Option Nat} {x1 : Option Nat} {S : gm_S} (h : F_X12_holds_13 fu x0 x1 S = some r) : B_X12_holds_13 l d0 G S0 0 [(0, va_rf x0), (1, va_rf x1)] [] S r.1 r.2 := by
  unfold F_X12_holds_13 at h
  intro p e s m args below meth c H locs cells slots ls cx hnm hex hI hl
  have hx := cx.1
  have hb := cx.2.1
  have hown := cx.2.2.2.1
  have hts := cx.2.2.2.2.1
  have hK := cx.2.2.2.2.2.1
  refine gr_aload_n hx hb x0 dX12_holds_0 rfl (lv_at hl 0 rfl) ?_
  refine gr_aload_n hx hb x1 dX12_holds_1 rfl (lv_at hl 1 rfl) ?_
  obtain ⟨a1, t1, h⟩ := gz_q_s h
  refine C_X13_is_U cx (gz_nh hex) hI (hts _ q886) hl.1 (gz_cs (Nat.le_of_ble_eq_true rfl)) (by omega) dX12_holds_2 t1 h (fun v1 S1 h H locs cells slots hI => ?_)
  refine gr_aload_n hx hb x0 dX12_holds_5 rfl (lv_at hl 0 rfl) ?_
  obtain ⟨v2, e2, h⟩ := g_bind h
  refine gr_getI cx hI e2 rfl (fun _ => rfl) rfl (Or.inl (hts _ q691)) dX12_holds_6 ?_
  refine lv_icmp_eq (tgt := 16) hx hb dX12_holds_9 rfl (fun hc => ?_) (fun hc => ?_)
  · have h := gz_t h hc
    refine lv_iconst hx hb dX12_holds_16 gz_ic_0 ?_
    obtain ⟨hz, h⟩ := g_ifs h
    cases h
    exact gr_zret cx hz hI dX12_holds_17
  · have h := gz_f h hc
    refine lv_iconst hx hb dX12_holds_12 gz_ic_1 ?_
    refine lv_goto (tgt := 17) hx hb dX12_holds_13 rfl ?_
    obtain ⟨hz, h⟩ := g_ifs h
    cases h
    exact gr_zret cx hz hI dX12_holds_17
theorem M_X12_holds_13 {l : Launch} {G : gG} {fu d0 : Nat} (hfl : l.flags = flags0) (hD : 4 ≤ d0) {x0 : Option Nat} {x1 : Option Nat} {S : gm_S} {o : Outcome} {S2 : gm_S} (h : F_X12_holds_13 fu x0 x1 S = some (o, S2)) : gx_Met l yX12_holds (ws_ yX12_holds cX12_holds 2 (Option.some Jvm.ClassFile.FieldType.boolean)) d0 G S [va_rf x0, va_rf x1] o S2 := by
  refine gx_of hfl (by decide) (fun p e s m below meth c cx hnm hex hI => ?_)
  rw [lg_entry_eq]
  cases x0 <;> cases x1 <;> exact T_X12_holds_13 (r := (o, S2)) hD h p e s m _ below meth c _ _ _ _ _ cx hnm (gz_nh0 hex) hI (lv_entry _ (Nat.le_of_ble_eq_true rfl))
theorem C_X12_holds_13 {p : Program} {l : Launch} {e : Env} {s : State} {m : MethodId} {args : Array Value} {below : List Frame} {meth : Method} {c : Code} {H : Heap} {locs : List Loc} {cells slots : Nat} {cc : ByteArray} {pc nL : Nat} {ls : Array Slot} {rest : List Value} {G : gG} {S0 S : gm_S} {own : String} {ret : Option FieldType} {d0 index fu : Nat} {x0 : Option Nat} {x1 : Option Nat} {k : Int32 → gm_S → gR} {r : Outcome × gm_S} (cx : gx_cx p l s m args meth c G own cc nL ret) (hex : ∀ x ∈ c.exceptionTable.toList, covers x pc = false) (hI : gw_I G S0 S H locs cells slots) (hl : gl_M own index yX12_holds args s) (hlv : ls.size = nL) (hrest : (rest.map fun v => v.category).sum ≤ 8) (hD : 5 ≤ d0) (hdg : decode cc pc = .ok (.invokevirtual index, 3)) {b : Nat} (hat : g_at S x0 13 = some b) (h : gz_cI (F_X12_holds_13 fu x0 x1 S) k = some r)
    (kk : ∀ (v : Int32) (z : gm_S), k v z = some r → ∀ (H : Heap) (locs : List Loc) (cells slots : Nat), gw_I G S0 z H locs cells slots → W p l e (gx_rm d0 S0) s m args below meth c H locs cells slots (gx_MQ below G S0 r.2 r.1 s) (F0 m (pc + 3) ls (.int v :: rest))) : W p l e (gx_rm d0 S0) s m args below meth c H locs cells slots (gx_MQ below G S0 r.2 r.1 s) (F0 m pc ls (va_rf x1 :: va_rf x0 :: rest)) := by
  obtain ⟨rfl, ht⟩ := g_at_s hat
  have hts := cx.2.2.2.2.1
  have hK := cx.2.2.2.2.2.1
  exact gz_goI (d := d0 - 1) (fun S => S) cx hex hI hlv hrest (by omega) (Nat.le_of_ble_eq_true rfl) (gz_ws (lw_meth q885) hts) (hts _ q96) (gb_rawV (As := [va_rf x1]) cx hl (hts _ q881) (hts _ q884) (gl_C.code (hts _ q885)) hy_X12_holds (gr_recv hK hI.1 ht rfl) rfl rfl hdg) (fun o S2 e => M_X12_holds_13 (x0 := some b) cx.2.2.2.2.2.2.2.2 (by omega) e) h kk
abbrev B_X3_get (l : Launch) (d0 : Nat) (G : gG) (S0 : gm_S) : Nat → List (Nat × Value) → List Value → gm_S → Outcome → gm_S → Prop := gz_B l RX3 "get" cX3_get 2 (Option.some Jvm.ClassFile.FieldType.double) [] d0 G S0
theorem T_X3_get {l : Launch} {G : gG} {S0 : gm_S} {d0 fu : Nat} {r : Outcome × gm_S} (hD : 2 ≤ d0) {x0 : Option Nat} {x1 : Int32} {S : gm_S} (h : F_X3_get fu x0 x1 S = some r) : B_X3_get l d0 G S0 0 [(0, va_rf x0), (1, .int x1)] [] S r.1 r.2 := by
  unfold F_X3_get at h
  intro p e s m args below meth c H locs cells slots ls cx hnm hex hI hl
  have hx := cx.1
  have hb := cx.2.1
  have hown := cx.2.2.2.1
  have hts := cx.2.2.2.2.1
  have hK := cx.2.2.2.2.2.1
  refine gr_aload_n hx hb x0 dX3_get_0 rfl (lv_at hl 0 rfl) ?_
  obtain ⟨v1, e1, h⟩ := g_bind h
  refine gr_getR cx hI e1 rfl (fun _ => rfl) rfl (Or.inl (hts _ q185)) dX3_get_1 ?_
  refine lv_iload_n hx hb dX3_get_4 rfl (lv_at hl 1 rfl) ?_
  obtain ⟨v2, e2, h⟩ := g_bind h
  refine gr_dald cx hI e2 dX3_get_5 ?_
  cases h
  exact gr_dret cx hI dX3_get_6
theorem M_X3_get {l : Launch} {G : gG} {fu d0 : Nat} (hfl : l.flags = flags0) (hD : 2 ≤ d0) {x0 : Option Nat} {x1 : Int32} {S : gm_S} {o : Outcome} {S2 : gm_S} (h : F_X3_get fu x0 x1 S = some (o, S2)) : gx_Met l yX3_get (ws_ yX3_get cX3_get 2 (Option.some Jvm.ClassFile.FieldType.double)) d0 G S [va_rf x0, .int x1] o S2 := by
  refine gx_of hfl (by decide) (fun p e s m below meth c cx hnm hex hI => ?_)
  rw [lg_entry_eq]
  cases x0 <;> exact T_X3_get (r := (o, S2)) hD h p e s m _ below meth c _ _ _ _ _ cx hnm (gz_nh0 hex) hI (lv_entry _ (Nat.le_of_ble_eq_true rfl))
theorem C_X3_get_F {p : Program} {l : Launch} {e : Env} {s : State} {m : MethodId} {args : Array Value} {below : List Frame} {meth : Method} {c : Code} {H : Heap} {locs : List Loc} {cells slots : Nat} {cc : ByteArray} {pc nL : Nat} {ls : Array Slot} {rest : List Value} {G : gG} {S0 S : gm_S} {own : String} {ret : Option FieldType} {d0 index fu : Nat} {count : Nat} {x0 : Option Nat} {x1 : Int32} {k : UInt64 → gm_S → gR} {r : Outcome × gm_S} (cx : gx_cx p l s m args meth c G own cc nL ret) (hex : ∀ x ∈ c.exceptionTable.toList, covers x pc = false) (hI : gw_I G S0 S H locs cells slots) (hl : (Cond.methodLink own index ⟨"NestChart$Machine", "get", "(I)D"⟩).before args s = true) (hlv : ls.size = nL) (hrest : (rest.map fun v => v.category).sum ≤ 8) (hD : 3 ≤ d0) (hdg : decode cc pc = .ok (.invokeinterface index count, 5)) {b : Nat} (hat : g_at S x0 3 = some b) (h : gz_cD (F_X3_get fu x0 x1 S) k = some r)
    (kk : ∀ (v : UInt64) (z : gm_S), k v z = some r → ∀ (H : Heap) (locs : List Loc) (cells slots : Nat), gw_I G S0 z H locs cells slots → W p l e (gx_rm d0 S0) s m args below meth c H locs cells slots (gx_MQ below G S0 r.2 r.1 s) (F0 m (pc + 5) ls (.double v :: rest))) : W p l e (gx_rm d0 S0) s m args below meth c H locs cells slots (gx_MQ below G S0 r.2 r.1 s) (F0 m pc ls (.int x1 :: va_rf x0 :: rest)) := by
  obtain ⟨rfl, ht⟩ := g_at_s hat
  have hts := cx.2.2.2.2.1
  have hK := cx.2.2.2.2.2.1
  exact gz_goD (d := d0 - 1) (fun S => S) cx hex hI hlv hrest (by omega) (Nat.le_of_ble_eq_true rfl) (gz_ws (lw_meth q800) hts) (hts _ q74) (gb_rawF (As := [.int x1]) cx hl (hK.2.2.2.2.1 ("get", "(I)D") (by decide)) (hts _ q796) (hts _ q798) (gl_C.code (hts _ q800)) (hK.1 3).2 ⟨by decide +kernel, hy_X3_get.2⟩ (gr_recv hK hI.1 ht rfl) rfl rfl hdg) (fun o S2 e => M_X3_get (x0 := some b) cx.2.2.2.2.2.2.2.2 (by omega) e) h kk
abbrev B_X9_of (l : Launch) (d0 : Nat) (G : gG) (S0 : gm_S) : Nat → List (Nat × Value) → List Value → gm_S → Outcome → gm_S → Prop := gz_B l RX9 "of" cX9_of 2 (Option.some Jvm.ClassFile.FieldType.double) [] d0 G S0
theorem T_X9_of {l : Launch} {G : gG} {S0 : gm_S} {d0 fu : Nat} {r : Outcome × gm_S} (hD : 3 ≤ d0) {x0 : Option Nat} {x1 : Option Nat} {S : gm_S} (h : F_X9_of fu x0 x1 S = some r) : B_X9_of l d0 G S0 0 [(0, va_rf x0), (1, va_rf x1)] [] S r.1 r.2 := by
  unfold F_X9_of at h
  intro p e s m args below meth c H locs cells slots ls cx hnm hex hI hl
  have hx := cx.1
  have hb := cx.2.1
  have hown := cx.2.2.2.1
  have hts := cx.2.2.2.2.1
  have hK := cx.2.2.2.2.2.1
  refine gr_aload_n hx hb x0 dX9_of_0 rfl (lv_at hl 0 rfl) ?_
  obtain ⟨v1, e1, h⟩ := g_bind h
  refine gr_getI cx hI e1 rfl (fun _ => rfl) rfl (Or.inl (hts _ q588)) dX9_of_1 ?_
  refine lv_if_lt (tgt := 20) hx hb dX9_of_4 rfl (fun hc => ?_) (fun hc => ?_)
  · have h := gz_t h hc
    refine gr_aload_n hx hb x0 dX9_of_20 rfl (lv_at hl 0 rfl) ?_
    obtain ⟨v2, e2, h⟩ := g_bind h
    refine gr_getD cx hI e2 rfl (fun _ => rfl) rfl (Or.inl (hts _ q589)) dX9_of_21 ?_
    cases h
    exact gr_dret cx hI dX9_of_24
  · have h := gz_f h hc
    refine gr_aload_n hx hb x1 dX9_of_7 rfl (lv_at hl 1 rfl) ?_
    refine gr_aload_n hx hb x0 dX9_of_8 rfl (lv_at hl 0 rfl) ?_
    obtain ⟨v3, e3, h⟩ := g_bind h
    refine gr_getI cx hI e3 rfl (fun _ => rfl) rfl (Or.inl (hts _ q588)) dX9_of_9 ?_
    obtain ⟨a4, t4, h⟩ := gz_q_s h
    refine C_X3_get_F cx (gz_nh hex) hI (hts _ q806) hl.1 (gz_cs (Nat.le_of_ble_eq_true rfl)) (by omega) dX9_of_12 t4 h (fun v4 S4 h H locs cells slots hI => ?_)
    refine lv_goto (tgt := 24) hx hb dX9_of_17 rfl ?_
    cases h
    exact gr_dret cx hI dX9_of_24
theorem M_X9_of {l : Launch} {G : gG} {fu d0 : Nat} (hfl : l.flags = flags0) (hD : 3 ≤ d0) {x0 : Option Nat} {x1 : Option Nat} {S : gm_S} {o : Outcome} {S2 : gm_S} (h : F_X9_of fu x0 x1 S = some (o, S2)) : gx_Met l yX9_of (ws_ yX9_of cX9_of 2 (Option.some Jvm.ClassFile.FieldType.double)) d0 G S [va_rf x0, va_rf x1] o S2 := by
  refine gx_of hfl (by decide) (fun p e s m below meth c cx hnm hex hI => ?_)
  rw [lg_entry_eq]
  cases x0 <;> cases x1 <;> exact T_X9_of (r := (o, S2)) hD h p e s m _ below meth c _ _ _ _ _ cx hnm (gz_nh0 hex) hI (lv_entry _ (Nat.le_of_ble_eq_true rfl))
theorem C_X9_of {p : Program} {l : Launch} {e : Env} {s : State} {m : MethodId} {args : Array Value} {below : List Frame} {meth : Method} {c : Code} {H : Heap} {locs : List Loc} {cells slots : Nat} {cc : ByteArray} {pc nL : Nat} {ls : Array Slot} {rest : List Value} {G : gG} {S0 S : gm_S} {own : String} {ret : Option FieldType} {d0 index fu : Nat} {x0 : Option Nat} {x1 : Option Nat} {k : UInt64 → gm_S → gR} {r : Outcome × gm_S} (cx : gx_cx p l s m args meth c G own cc nL ret) (hex : ∀ x ∈ c.exceptionTable.toList, covers x pc = false) (hI : gw_I G S0 S H locs cells slots) (hl : gl_M own index yX9_of args s) (hlv : ls.size = nL) (hrest : (rest.map fun v => v.category).sum ≤ 8) (hD : 4 ≤ d0) (hdg : decode cc pc = .ok (.invokevirtual index, 3)) {b : Nat} (hat : g_at S x0 9 = some b) (h : gz_cD (F_X9_of fu x0 x1 S) k = some r)
    (kk : ∀ (v : UInt64) (z : gm_S), k v z = some r → ∀ (H : Heap) (locs : List Loc) (cells slots : Nat), gw_I G S0 z H locs cells slots → W p l e (gx_rm d0 S0) s m args below meth c H locs cells slots (gx_MQ below G S0 r.2 r.1 s) (F0 m (pc + 3) ls (.double v :: rest))) : W p l e (gx_rm d0 S0) s m args below meth c H locs cells slots (gx_MQ below G S0 r.2 r.1 s) (F0 m pc ls (va_rf x1 :: va_rf x0 :: rest)) := by
  obtain ⟨rfl, ht⟩ := g_at_s hat
  have hts := cx.2.2.2.2.1
  have hK := cx.2.2.2.2.2.1
  exact gz_goD (d := d0 - 1) (fun S => S) cx hex hI hlv hrest (by omega) (Nat.le_of_ble_eq_true rfl) (gz_ws (lw_meth q804) hts) (hts _ q93) (gb_rawV (As := [va_rf x1]) cx hl (hts _ q802) (hts _ q803) (gl_C.code (hts _ q804)) hy_X9_of (gr_recv hK hI.1 ht rfl) rfl rfl hdg) (fun o S2 e => M_X9_of (x0 := some b) cx.2.2.2.2.2.2.2.2 (by omega) e) h kk
abbrev B_X14_is (l : Launch) (d0 : Nat) (G : gG) (S0 : gm_S) : Nat → List (Nat × Value) → List Value → gm_S → Outcome → gm_S → Prop := gz_B l RX14 "is" cX14_is 6 (Option.some Jvm.ClassFile.FieldType.boolean) [] d0 G S0
theorem T_X14_is {l : Launch} {G : gG} {S0 : gm_S} {d0 fu : Nat} {r : Outcome × gm_S} (hD : 4 ≤ d0) {x0 : Option Nat} {x1 : Option Nat} {S : gm_S} (h : F_X14_is fu x0 x1 S = some r) : B_X14_is l d0 G S0 0 [(0, va_rf x0), (1, va_rf x1)] [] S r.1 r.2 := by
  unfold F_X14_is at h
  intro p e s m args below meth c H locs cells slots ls cx hnm hex hI hl
  have hx := cx.1
  have hb := cx.2.1
  have hown := cx.2.2.2.1
  have hts := cx.2.2.2.2.1
  have hK := cx.2.2.2.2.2.1
  refine gr_aload_n hx hb x0 dX14_is_0 rfl (lv_at hl 0 rfl) ?_
  obtain ⟨v1, e1, h⟩ := g_bind h
  refine gr_getR cx hI e1 rfl (fun _ => rfl) rfl (Or.inl (hts _ q703)) dX14_is_1 ?_
  refine gr_aload_n hx hb x1 dX14_is_4 rfl (lv_at hl 1 rfl) ?_
  obtain ⟨a2, t2, h⟩ := gz_q_s h
  refine C_X9_of cx (gz_nh hex) hI (Or.inl (hts _ q892)) hl.1 (gz_cs (Nat.le_of_ble_eq_true rfl)) (by omega) dX14_is_5 t2 h (fun v2 S2 h H locs cells slots hI => ?_)
  refine gz_dstore_n hx hb dX14_is_8 rfl hl (by decide) [0, 1] rfl (gz_con ⟨gz_ne rfl, gz_ne rfl, Or.inl (gz_ne rfl)⟩ (gz_con ⟨gz_ne rfl, gz_ne rfl, Or.inr (gl_cat x1)⟩ gz_nil)) (fun ls hl => ?_)
  refine gr_aload_n hx hb x0 dX14_is_9 rfl (lv_at hl 1 rfl) ?_
  obtain ⟨v3, e3, h⟩ := g_bind h
  refine gr_getR cx hI e3 rfl (fun _ => rfl) rfl (Or.inl (hts _ q704)) dX14_is_10 ?_
  refine gr_aload_n hx hb x1 dX14_is_13 rfl (lv_at hl 2 rfl) ?_
  obtain ⟨a4, t4, h⟩ := gz_q_s h
  refine C_X9_of cx (gz_nh hex) hI (Or.inl (hts _ q892)) hl.1 (gz_cs (Nat.le_of_ble_eq_true rfl)) (by omega) dX14_is_14 t4 h (fun v4 S4 h H locs cells slots hI => ?_)
  refine gz_dstore hx hb dX14_is_17 hl (by decide) [0, 1] rfl (gz_con ⟨gz_ne rfl, gz_ne rfl, Or.inl (gz_ne rfl)⟩ (gz_con ⟨gz_ne rfl, gz_ne rfl, Or.inl (gz_ne rfl)⟩ gz_nil)) (fun ls hl => ?_)
  refine gr_aload_n hx hb x0 dX14_is_19 rfl (lv_at hl 2 rfl) ?_
  obtain ⟨v5, e5, h⟩ := g_bind h
  refine gr_getI cx hI e5 rfl (fun _ => rfl) rfl (Or.inl (hts _ q705)) dX14_is_20 ?_
  refine lv_bipush hx hb dX14_is_23 gz_bp_60 ?_
  refine lv_icmp_ne (tgt := 43) hx hb dX14_is_25 rfl (fun hc => ?_) (fun hc => ?_)
  · have h := gz_f h hc
    refine gr_aload_n hx hb x0 dX14_is_43 rfl (lv_at hl 2 rfl) ?_
    obtain ⟨v6, e6, h⟩ := g_bind h
    refine gr_getI cx hI e6 rfl (fun _ => rfl) rfl (Or.inl (hts _ q705)) dX14_is_44 ?_
    refine lv_bipush hx hb dX14_is_47 gz_bp_61 ?_
    refine lv_icmp_ne (tgt := 67) hx hb dX14_is_49 rfl (fun hc => ?_) (fun hc => ?_)
    · have h := gz_f h hc
      refine lv_dload_n hx hb dX14_is_67 rfl (lv_at hl 1 rfl) ?_
      refine lv_dload hx hb dX14_is_68 (lv_at hl 0 rfl) ?_
      refine lv_dcmp hx hb dX14_is_70 ?_
      refine lv_if_le (tgt := 78) hx hb dX14_is_71 rfl (fun hc => ?_) (fun hc => ?_)
      · have h := gz_t h hc
        refine lv_iconst hx hb dX14_is_78 gz_ic_0 ?_
        obtain ⟨hz, h⟩ := g_ifs h
        cases h
        exact gr_zret cx hz hI dX14_is_79
      · have h := gz_f h hc
        refine lv_iconst hx hb dX14_is_74 gz_ic_1 ?_
        refine lv_goto (tgt := 79) hx hb dX14_is_75 rfl ?_
        obtain ⟨hz, h⟩ := g_ifs h
        cases h
        exact gr_zret cx hz hI dX14_is_79
    · have h := gz_t h hc
      refine lv_dload_n hx hb dX14_is_52 rfl (lv_at hl 1 rfl) ?_
      refine lv_dload hx hb dX14_is_53 (lv_at hl 0 rfl) ?_
      refine lv_dcmp hx hb dX14_is_55 ?_
      refine lv_if_ne (tgt := 63) hx hb dX14_is_56 rfl (fun hc => ?_) (fun hc => ?_)
      · have h := gz_f h hc
        refine lv_iconst hx hb dX14_is_63 gz_ic_0 ?_
        refine lv_goto (tgt := 79) hx hb dX14_is_64 rfl ?_
        obtain ⟨hz, h⟩ := g_ifs h
        cases h
        exact gr_zret cx hz hI dX14_is_79
      · have h := gz_t h hc
        refine lv_iconst hx hb dX14_is_59 gz_ic_1 ?_
        refine lv_goto (tgt := 79) hx hb dX14_is_60 rfl ?_
        obtain ⟨hz, h⟩ := g_ifs h
        cases h
        exact gr_zret cx hz hI dX14_is_79
  · have h := gz_t h hc
    refine lv_dload_n hx hb dX14_is_28 rfl (lv_at hl 1 rfl) ?_
    refine lv_dload hx hb dX14_is_29 (lv_at hl 0 rfl) ?_
    refine lv_dcmp hx hb dX14_is_31 ?_
    refine lv_if_ge (tgt := 39) hx hb dX14_is_32 rfl (fun hc => ?_) (fun hc => ?_)
    · have h := gz_t h hc
      refine lv_iconst hx hb dX14_is_39 gz_ic_0 ?_
      refine lv_goto (tgt := 79) hx hb dX14_is_40 rfl ?_
      obtain ⟨hz, h⟩ := g_ifs h
      cases h
      exact gr_zret cx hz hI dX14_is_79
    · have h := gz_f h hc
      refine lv_iconst hx hb dX14_is_35 gz_ic_1 ?_
      refine lv_goto (tgt := 79) hx hb dX14_is_36 rfl ?_
      obtain ⟨hz, h⟩ := g_ifs h
      cases h
      exact gr_zret cx hz hI dX14_is_79
theorem M_X14_is {l : Launch} {G : gG} {fu d0 : Nat} (hfl : l.flags = flags0) (hD : 4 ≤ d0) {x0 : Option Nat} {x1 : Option Nat} {S : gm_S} {o : Outcome} {S2 : gm_S} (h : F_X14_is fu x0 x1 S = some (o, S2)) : gx_Met l yX14_is (ws_ yX14_is cX14_is 6 (Option.some Jvm.ClassFile.FieldType.boolean)) d0 G S [va_rf x0, va_rf x1] o S2 := by
  refine gx_of hfl (by decide) (fun p e s m below meth c cx hnm hex hI => ?_)
  rw [lg_entry_eq]
  cases x0 <;> cases x1 <;> exact T_X14_is (r := (o, S2)) hD h p e s m _ below meth c _ _ _ _ _ cx hnm (gz_nh0 hex) hI (lv_entry _ (Nat.le_of_ble_eq_true rfl))
theorem C_X14_is_U {p : Program} {l : Launch} {e : Env} {s : State} {m : MethodId} {args : Array Value} {below : List Frame} {meth : Method} {c : Code} {H : Heap} {locs : List Loc} {cells slots : Nat} {cc : ByteArray} {pc nL : Nat} {ls : Array Slot} {rest : List Value} {G : gG} {S0 S : gm_S} {own : String} {ret : Option FieldType} {d0 index fu : Nat} {x0 : Option Nat} {x1 : Option Nat} {k : Int32 → gm_S → gR} {r : Outcome × gm_S} (cx : gx_cx p l s m args meth c G own cc nL ret) (hex : ∀ x ∈ c.exceptionTable.toList, covers x pc = false) (hI : gw_I G S0 S H locs cells slots) (hl : (Cond.methodLink own index ⟨"NestChart$Test", "is", "(LNestChart$Machine;)Z"⟩).before args s = true) (hlv : ls.size = nL) (hrest : (rest.map fun v => v.category).sum ≤ 8) (hD : 5 ≤ d0) (hdg : decode cc pc = .ok (.invokevirtual index, 3)) {b : Nat} (hat : g_at S x0 14 = some b) (h : gz_cI (F_X14_is fu x0 x1 S) k = some r)
    (kk : ∀ (v : Int32) (z : gm_S), k v z = some r → ∀ (H : Heap) (locs : List Loc) (cells slots : Nat), gw_I G S0 z H locs cells slots → W p l e (gx_rm d0 S0) s m args below meth c H locs cells slots (gx_MQ below G S0 r.2 r.1 s) (F0 m (pc + 3) ls (.int v :: rest))) : W p l e (gx_rm d0 S0) s m args below meth c H locs cells slots (gx_MQ below G S0 r.2 r.1 s) (F0 m pc ls (va_rf x1 :: va_rf x0 :: rest)) := by
  obtain ⟨rfl, ht⟩ := g_at_s hat
  have hts := cx.2.2.2.2.1
  have hK := cx.2.2.2.2.2.1
  exact gz_goI (d := d0 - 1) (fun S => S) cx hex hI hlv hrest (by omega) (Nat.le_of_ble_eq_true rfl) (gz_ws (lw_meth q891) hts) (hts _ q98) (gb_rawU (As := [va_rf x1]) (owner := "NestChart$Test") cx hl (hts _ q888) (gk_w hK q887 rfl) (hts _ q889) (hts _ q890) (gl_C.code (hts _ q891)) ⟨by decide +kernel, hy_X14_is.2⟩ (gr_recv hK hI.1 ht rfl) rfl rfl hdg) (fun o S2 e => M_X14_is (x0 := some b) cx.2.2.2.2.2.2.2.2 (by omega) e) h kk
