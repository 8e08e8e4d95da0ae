/-! LAYER 1 (printed): contracts -/
set_option maxRecDepth 100000
abbrev B_X4_drop (l : Launch) (d0 : Nat) (G : gG) (S0 : gm_S) : Nat → List (Nat × Value) → List Value → gm_S → Outcome → gm_S → Prop := gz_B l RX4 "drop" cX4_drop 3 (Option.none : Option Jvm.ClassFile.FieldType) [] d0 G S0
theorem T_X4_drop_12 {l : Launch} {G : gG} {S0 S : gm_S} {d0 fu : Nat} {r : Outcome × gM} (hf : gg_f G = true) (hD : 2 ≤ d0) : ∀ (n : Nat) (x2 : Int32) (M : gM), F_X4_drop_12 fu n x2 M = some r → B_X4_drop l d0 G S0 12 [(0, va_rf (some (gg_o G))), (2, .int x2)] [] (gm_w S M) r.1 (gm_w S r.2) := by
  intro n
  induction n with
  | zero => intro x2 M h; exact nomatch (show (none : gQ) = some r from h)
  | succ n ih =>
    intro x2 M h
    rw [F_X4_drop_12] at h
    intro p e s m args below meth c H locs cells slots ls cx hnm hex hI hl
    have hx := cx.1
    have hb := cx.2.1
    have hown := cx.2.2.2.1
    have hts := cx.2.2.2.2.1
    have hK := cx.2.2.2.2.2.1
    refine lv_iload_n hx hb dX4_drop_12 rfl (lv_at hl 1 rfl) ?_
    refine gr_aload_n hx hb (some (gg_o G)) dX4_drop_13 rfl (lv_at hl 0 rfl) ?_
    refine nr_gI cx hf hI 55 rfl (fun _ => rfl) rfl (Or.inl (hts _ q1047)) dX4_drop_14 ?_
    refine lv_icmp_ge (tgt := 82) hx hb dX4_drop_17 rfl (fun hc => ?_) (fun hc => ?_)
    · have h := gz_t h hc
      cases h
      exact gr_vret cx hI dX4_drop_82
    · have h := gz_f h hc
      refine gr_aload_n hx hb (some (gg_o G)) dX4_drop_20 rfl (lv_at hl 0 rfl) ?_
      refine gr_mgA cx hf hI 56 rfl rfl (Or.inl (hts _ q1048)) dX4_drop_21 ?_
      refine lv_iload_n hx hb dX4_drop_24 rfl (lv_at hl 1 rfl) ?_
      refine gr_aload_n hx hb (some (gg_o G)) dX4_drop_25 rfl (lv_at hl 0 rfl) ?_
      refine gr_mgA cx hf hI 56 rfl rfl (Or.inl (hts _ q1048)) dX4_drop_26 ?_
      refine lv_iload_n hx hb dX4_drop_29 rfl (lv_at hl 1 rfl) ?_
      refine lv_iconst hx hb dX4_drop_30 gz_ic_1 ?_
      refine lv_iadd hx hb dX4_drop_31 ?_
      obtain ⟨v4, e4, h⟩ := g_bind h
      refine gr_miald cx hf hI 56 rfl rfl rfl (nr_aI e4) dX4_drop_32 ?_
      obtain ⟨M5, e5, h⟩ := g_bind h
      refine gr_miast cx hf hI 56 rfl rfl rfl (nr_sI e5) dX4_drop_33 (fun H locs hI => ?_)
      refine gr_aload_n hx hb (some (gg_o G)) dX4_drop_34 rfl (lv_at hl 0 rfl) ?_
      refine gr_mgA cx hf hI 57 rfl rfl (Or.inl (hts _ q1049)) dX4_drop_35 ?_
      refine lv_iload_n hx hb dX4_drop_38 rfl (lv_at hl 1 rfl) ?_
      refine gr_aload_n hx hb (some (gg_o G)) dX4_drop_39 rfl (lv_at hl 0 rfl) ?_
      refine gr_mgA cx hf hI 57 rfl rfl (Or.inl (hts _ q1049)) dX4_drop_40 ?_
      refine lv_iload_n hx hb dX4_drop_43 rfl (lv_at hl 1 rfl) ?_
      refine lv_iconst hx hb dX4_drop_44 gz_ic_1 ?_
      refine lv_iadd hx hb dX4_drop_45 ?_
      obtain ⟨v8, e8, h⟩ := g_bind h
      refine gr_miald cx hf hI 57 rfl rfl rfl (nr_aI e8) dX4_drop_46 ?_
      obtain ⟨M9, e9, h⟩ := g_bind h
      refine gr_miast cx hf hI 57 rfl rfl rfl (nr_sI e9) dX4_drop_47 (fun H locs hI => ?_)
      refine gr_aload_n hx hb (some (gg_o G)) dX4_drop_48 rfl (lv_at hl 0 rfl) ?_
      refine gr_mgA cx hf hI 58 rfl rfl (Or.inl (hts _ q1050)) dX4_drop_49 ?_
      refine lv_iload_n hx hb dX4_drop_52 rfl (lv_at hl 1 rfl) ?_
      refine gr_aload_n hx hb (some (gg_o G)) dX4_drop_53 rfl (lv_at hl 0 rfl) ?_
      refine gr_mgA cx hf hI 58 rfl rfl (Or.inl (hts _ q1050)) dX4_drop_54 ?_
      refine lv_iload_n hx hb dX4_drop_57 rfl (lv_at hl 1 rfl) ?_
      refine lv_iconst hx hb dX4_drop_58 gz_ic_1 ?_
      refine lv_iadd hx hb dX4_drop_59 ?_
      obtain ⟨v12, e12, h⟩ := g_bind h
      refine gr_miald cx hf hI 58 rfl rfl rfl (nr_aI e12) dX4_drop_60 ?_
      obtain ⟨M13, e13, h⟩ := g_bind h
      refine gr_miast cx hf hI 58 rfl rfl rfl (nr_sI e13) dX4_drop_61 (fun H locs hI => ?_)
      refine gr_aload_n hx hb (some (gg_o G)) dX4_drop_62 rfl (lv_at hl 0 rfl) ?_
      refine gr_mgA cx hf hI 59 rfl rfl (Or.inl (hts _ q1051)) dX4_drop_63 ?_
      refine lv_iload_n hx hb dX4_drop_66 rfl (lv_at hl 1 rfl) ?_
      refine gr_aload_n hx hb (some (gg_o G)) dX4_drop_67 rfl (lv_at hl 0 rfl) ?_
      refine gr_mgA cx hf hI 59 rfl rfl (Or.inl (hts _ q1051)) dX4_drop_68 ?_
      refine lv_iload_n hx hb dX4_drop_71 rfl (lv_at hl 1 rfl) ?_
      refine lv_iconst hx hb dX4_drop_72 gz_ic_1 ?_
      refine lv_iadd hx hb dX4_drop_73 ?_
      obtain ⟨v16, e16, h⟩ := g_bind h
      refine gr_miald cx hf hI 59 rfl rfl rfl (nr_aI e16) dX4_drop_74 ?_
      obtain ⟨M17, e17, h⟩ := g_bind h
      refine gr_miast cx hf hI 59 rfl rfl rfl (nr_sI e17) dX4_drop_75 (fun H locs hI => ?_)
      refine gz_iinc (k := 1) (v := (x2 + (1 : Int32))) hx hb dX4_drop_76 hl rfl (congrArg (fun z => x2 + z) gz_ic_1) (by decide) [0] rfl (gz_con ⟨gz_ne rfl, Or.inl (gz_ne rfl)⟩ gz_nil) (fun ls hl => ?_)
      refine lv_goto (tgt := 12) hx hb dX4_drop_79 rfl ?_
      exact ih _ _ h p e s m args below meth c H locs cells slots ls cx hnm hex hI (lv_sub hl [1, 0] rfl)
theorem T_X4_drop {l : Launch} {G : gG} {S0 S : gm_S} {d0 fu : Nat} {r : Outcome × gM} (hf : gg_f G = true) (hD : 2 ≤ d0) {x1 : Int32} {M : gM} (h : F_X4_drop fu x1 M = some r) : B_X4_drop l d0 G S0 0 [(0, va_rf (some (gg_o G))), (1, .int x1)] [] (gm_w S M) r.1 (gm_w S r.2) := by
  unfold F_X4_drop at h
  intro p e s m args below meth c H locs cells slots ls cx hnm hex hI hl
  have hx := cx.1
  have hb := cx.2.1
  have hown := cx.2.2.2.1
  have hts := cx.2.2.2.2.1
  have hK := cx.2.2.2.2.2.1
  refine gr_aload_n hx hb (some (gg_o G)) dX4_drop_0 rfl (lv_at hl 0 rfl) ?_
  refine lv_dup hx hb dX4_drop_1 (gl_cat (some (gg_o G))) ?_
  refine nr_gI cx hf hI 55 rfl (fun _ => rfl) rfl (Or.inl (hts _ q1047)) dX4_drop_2 ?_
  refine lv_iconst hx hb dX4_drop_5 gz_ic_1 ?_
  refine lv_isub hx hb dX4_drop_6 ?_
  obtain ⟨M2, e2, h⟩ := g_bind h
  refine nr_pI cx hf hI 55 rfl rfl rfl (Or.inl (hts _ q1047)) e2 dX4_drop_7 (fun H locs hI => ?_)
  refine lv_iload_n hx hb dX4_drop_10 rfl (lv_at hl 1 rfl) ?_
  refine gz_istore_n hx hb dX4_drop_11 rfl hl (by decide) [0] rfl (gz_con ⟨gz_ne rfl, Or.inl (gz_ne rfl)⟩ gz_nil) (fun ls hl => ?_)
  exact T_X4_drop_12 hf hD fu _ _ h p e s m args below meth c H locs cells slots ls cx hnm hex hI (lv_sub hl [1, 0] rfl)
theorem M_X4_drop {l : Launch} {G : gG} {fu d0 : Nat} (hf : gg_f G = true) (hfl : l.flags = flags0) (hD : 2 ≤ d0) {x1 : Int32} {S : gm_S} {M : gM} {o : Outcome} {M2 : gM} (h : F_X4_drop fu x1 M = some (o, M2)) : gx_Met l yX4_drop (ws_ yX4_drop cX4_drop 3 (Option.none : Option Jvm.ClassFile.FieldType)) d0 G (gm_w S M) [va_rf (some (gg_o G)), .int x1] o (gm_w S M2) := by
  refine gx_of hfl (by decide) (fun p e s m below meth c cx hnm hex hI => ?_)
  rw [lg_entry_eq]
  exact T_X4_drop (r := (o, M2)) hf hD h p e s m _ below meth c _ _ _ _ _ cx hnm (gz_nh0 hex) hI (lv_entry _ (Nat.le_of_ble_eq_true rfl))
theorem C_X4_drop {p : Program} {l : Launch} {e : Env} {s : State} {m : MethodId} {args : Array Value} {below : List Frame} {meth : Method} {c : Code} {H : Heap} {locs : List Loc} {cells slots : Nat} {cc : ByteArray} {pc nL : Nat} {ls : Array Slot} {rest : List Value} {G : gG} {S0 S : gm_S} {own : String} {ret : Option FieldType} {d0 index fu : Nat} {M : gM} {x1 : Int32} {k : gM → gQ} {r : Outcome × gM} (hf : gg_f G = true) (cx : gx_cx p l s m args meth c G own cc nL ret) (hex : ∀ x ∈ c.exceptionTable.toList, covers x pc = false) (hI : gw_I G S0 (gm_w S M) H locs cells slots) (hl : gl_M own index yX4_drop args s) (hlv : ls.size = nL) (hrest : (rest.map fun v => v.category).sum ≤ 8) (hD : 3 ≤ d0) (hdg : decode cc pc = .ok (.invokevirtual index, 3)) (h : gz_cV (F_X4_drop fu x1 M) k = some r)
    (kk : ∀ (z : gM), k z = some r → ∀ (H : Heap) (locs : List Loc) (cells slots : Nat), gw_I G S0 (gm_w S z) H locs cells slots → W p l e (gx_rm d0 S0) s m args below meth c H locs cells slots (gx_MQ below G S0 (gm_w S r.2) r.1 s) (F0 m (pc + 3) ls rest)) : W p l e (gx_rm d0 S0) s m args below meth c H locs cells slots (gx_MQ below G S0 (gm_w S r.2) r.1 s) (F0 m pc ls (.int x1 :: va_rf (some (gg_o G)) :: rest)) := by
  have hts := cx.2.2.2.2.1
  have hK := cx.2.2.2.2.2.1
  exact gz_goV (d := d0 - 1) (gm_w S) cx hex hI hlv hrest (by omega) (Nat.le_of_ble_eq_true rfl) (gz_ws (lw_meth q1346) hts) (hts _ q78) (gb_rawV (As := [.int x1]) cx hl (hts _ q1345) (hts _ qs63) (gl_C.code (hts _ q1346)) hy_X4_drop (gr_recvM hK hI.1 hf) rfl rfl hdg) (fun o S2 e => M_X4_drop hf cx.2.2.2.2.2.2.2.2 (by omega) e) h kk
abbrev B_X4_holds (l : Launch) (d0 : Nat) (G : gG) (S0 : gm_S) : Nat → List (Nat × Value) → List Value → gm_S → Outcome → gm_S → Prop := gz_B l RX4 "holds" cX4_holds 7 (Option.some Jvm.ClassFile.FieldType.boolean) [] d0 G S0
theorem T_X4_holds_158 {l : Launch} {G : gG} {S0 S : gm_S} {d0 fu : Nat} {r : Outcome × gM} (hf : gg_f G = true) (hD : 3 ≤ d0) {x1 : Int32} {x2 : Int32} {M : gM} (h : F_X4_holds_158 fu x1 x2 M = some r) : B_X4_holds l d0 G S0 158 [(0, va_rf (some (gg_o G))), (1, .int x1), (2, .int x2)] [] (gm_w S M) r.1 (gm_w S r.2) := by
  unfold F_X4_holds_158 at h
  intro p e s m args below meth c H locs cells slots ls cx hnm hex hI hl
  have hx := cx.1
  have hb := cx.2.1
  have hown := cx.2.2.2.1
  have hts := cx.2.2.2.2.1
  have hK := cx.2.2.2.2.2.1
  refine lv_iload_n hx hb dX4_holds_158 rfl (lv_at hl 2 rfl) ?_
  refine gr_aload_n hx hb (some (gg_o G)) dX4_holds_159 rfl (lv_at hl 0 rfl) ?_
  refine gr_mgA cx hf hI 26 rfl rfl (Or.inl (hts _ q1018)) dX4_holds_160 ?_
  refine lv_iload_n hx hb dX4_holds_163 rfl (lv_at hl 1 rfl) ?_
  obtain ⟨v2, e2, h⟩ := g_bind h
  refine gr_mzald cx hf hI 26 rfl rfl rfl (nr_aI e2) dX4_holds_164 ?_
  refine lv_icmp_eq (tgt := 172) hx hb dX4_holds_165 rfl (fun hc => ?_) (fun hc => ?_)
  · have h := gz_t h hc
    refine lv_iconst hx hb dX4_holds_172 gz_ic_0 ?_
    obtain ⟨hz, h⟩ := g_ifs h
    cases h
    exact gr_zret cx hz hI dX4_holds_173
  · have h := gz_f h hc
    refine lv_iconst hx hb dX4_holds_168 gz_ic_1 ?_
    refine lv_goto (tgt := 173) hx hb dX4_holds_169 rfl ?_
    obtain ⟨hz, h⟩ := g_ifs h
    cases h
    exact gr_zret cx hz hI dX4_holds_173
theorem T_X4_holds_91 {l : Launch} {G : gG} {S0 S : gm_S} {d0 fu : Nat} {r : Outcome × gM} (hf : gg_f G = true) (hD : 3 ≤ d0) {x1 : Int32} {x3 : UInt64} {s0 : UInt64} {M : gM} (h : F_X4_holds_91 fu x1 x3 s0 M = some r) : B_X4_holds l d0 G S0 91 [(0, va_rf (some (gg_o G))), (1, .int x1), (3, .double x3)] [.double s0] (gm_w S M) r.1 (gm_w S r.2) := by
  unfold F_X4_holds_91 at h
  intro p e s m args below meth c H locs cells slots ls cx hnm hex hI hl
  have hx := cx.1
  have hb := cx.2.1
  have hown := cx.2.2.2.1
  have hts := cx.2.2.2.2.1
  have hK := cx.2.2.2.2.2.1
  refine gz_dstore hx hb dX4_holds_91 hl (by decide) [0, 1, 2] rfl (gz_con ⟨gz_ne rfl, gz_ne rfl, Or.inl (gz_ne rfl)⟩ (gz_con ⟨gz_ne rfl, gz_ne rfl, Or.inl (gz_ne rfl)⟩ (gz_con ⟨gz_ne rfl, gz_ne rfl, Or.inl (gz_ne rfl)⟩ gz_nil))) (fun ls hl => ?_)
  refine gr_aload_n hx hb (some (gg_o G)) dX4_holds_93 rfl (lv_at hl 1 rfl) ?_
  refine gr_mgA cx hf hI 28 rfl rfl (Or.inl (hts _ q1020)) dX4_holds_94 ?_
  refine lv_iload_n hx hb dX4_holds_97 rfl (lv_at hl 2 rfl) ?_
  obtain ⟨v2, e2, h⟩ := g_bind h
  refine gr_miald cx hf hI 28 rfl rfl rfl (nr_aI e2) dX4_holds_98 ?_
  refine lv_bipush hx hb dX4_holds_99 gz_bp_60 ?_
  refine lv_icmp_ne (tgt := 119) hx hb dX4_holds_101 rfl (fun hc => ?_) (fun hc => ?_)
  · have h := gz_f h hc
    refine gr_aload_n hx hb (some (gg_o G)) dX4_holds_119 rfl (lv_at hl 1 rfl) ?_
    refine gr_mgA cx hf hI 28 rfl rfl (Or.inl (hts _ q1020)) dX4_holds_120 ?_
    refine lv_iload_n hx hb dX4_holds_123 rfl (lv_at hl 2 rfl) ?_
    obtain ⟨v4, e4, h⟩ := g_bind h
    refine gr_miald cx hf hI 28 rfl rfl rfl (nr_aI e4) dX4_holds_124 ?_
    refine lv_bipush hx hb dX4_holds_125 gz_bp_61 ?_
    refine lv_icmp_ne (tgt := 145) hx hb dX4_holds_127 rfl (fun hc => ?_) (fun hc => ?_)
    · have h := gz_f h hc
      refine lv_dload_n hx hb dX4_holds_145 rfl (lv_at hl 3 rfl) ?_
      refine lv_dload hx hb dX4_holds_146 (lv_at hl 0 rfl) ?_
      refine lv_dcmp hx hb dX4_holds_148 ?_
      refine lv_if_le (tgt := 156) hx hb dX4_holds_149 rfl (fun hc => ?_) (fun hc => ?_)
      · have h := gz_t h hc
        refine lv_iconst hx hb dX4_holds_156 gz_ic_0 ?_
        refine gz_istore_n hx hb dX4_holds_157 rfl hl (by decide) [1, 2] rfl (gz_con ⟨gz_ne rfl, Or.inl (gz_ne rfl)⟩ (gz_con ⟨gz_ne rfl, Or.inr rfl⟩ gz_nil)) (fun ls hl => ?_)
        exact T_X4_holds_158 hf hD h p e s m args below meth c H locs cells slots ls cx hnm hex hI (lv_sub hl [1, 2, 0] rfl)
      · have h := gz_f h hc
        refine lv_iconst hx hb dX4_holds_152 gz_ic_1 ?_
        refine lv_goto (tgt := 157) hx hb dX4_holds_153 rfl ?_
        refine gz_istore_n hx hb dX4_holds_157 rfl hl (by decide) [1, 2] rfl (gz_con ⟨gz_ne rfl, Or.inl (gz_ne rfl)⟩ (gz_con ⟨gz_ne rfl, Or.inr rfl⟩ gz_nil)) (fun ls hl => ?_)
        exact T_X4_holds_158 hf hD h p e s m args below meth c H locs cells slots ls cx hnm hex hI (lv_sub hl [1, 2, 0] rfl)
    · have h := gz_t h hc
      refine lv_dload_n hx hb dX4_holds_130 rfl (lv_at hl 3 rfl) ?_
      refine lv_dload hx hb dX4_holds_131 (lv_at hl 0 rfl) ?_
      refine lv_dcmp hx hb dX4_holds_133 ?_
      refine lv_if_ne (tgt := 141) hx hb dX4_holds_134 rfl (fun hc => ?_) (fun hc => ?_)
      · have h := gz_f h hc
        refine lv_iconst hx hb dX4_holds_141 gz_ic_0 ?_
        refine lv_goto (tgt := 157) hx hb dX4_holds_142 rfl ?_
        refine gz_istore_n hx hb dX4_holds_157 rfl hl (by decide) [1, 2] rfl (gz_con ⟨gz_ne rfl, Or.inl (gz_ne rfl)⟩ (gz_con ⟨gz_ne rfl, Or.inr rfl⟩ gz_nil)) (fun ls hl => ?_)
        exact T_X4_holds_158 hf hD h p e s m args below meth c H locs cells slots ls cx hnm hex hI (lv_sub hl [1, 2, 0] rfl)
      · have h := gz_t h hc
        refine lv_iconst hx hb dX4_holds_137 gz_ic_1 ?_
        refine lv_goto (tgt := 157) hx hb dX4_holds_138 rfl ?_
        refine gz_istore_n hx hb dX4_holds_157 rfl hl (by decide) [1, 2] rfl (gz_con ⟨gz_ne rfl, Or.inl (gz_ne rfl)⟩ (gz_con ⟨gz_ne rfl, Or.inr rfl⟩ gz_nil)) (fun ls hl => ?_)
        exact T_X4_holds_158 hf hD h p e s m args below meth c H locs cells slots ls cx hnm hex hI (lv_sub hl [1, 2, 0] rfl)
  · have h := gz_t h hc
    refine lv_dload_n hx hb dX4_holds_104 rfl (lv_at hl 3 rfl) ?_
    refine lv_dload hx hb dX4_holds_105 (lv_at hl 0 rfl) ?_
    refine lv_dcmp hx hb dX4_holds_107 ?_
    refine lv_if_ge (tgt := 115) hx hb dX4_holds_108 rfl (fun hc => ?_) (fun hc => ?_)
    · have h := gz_t h hc
      refine lv_iconst hx hb dX4_holds_115 gz_ic_0 ?_
      refine lv_goto (tgt := 157) hx hb dX4_holds_116 rfl ?_
      refine gz_istore_n hx hb dX4_holds_157 rfl hl (by decide) [1, 2] rfl (gz_con ⟨gz_ne rfl, Or.inl (gz_ne rfl)⟩ (gz_con ⟨gz_ne rfl, Or.inr rfl⟩ gz_nil)) (fun ls hl => ?_)
      exact T_X4_holds_158 hf hD h p e s m args below meth c H locs cells slots ls cx hnm hex hI (lv_sub hl [1, 2, 0] rfl)
    · have h := gz_f h hc
      refine lv_iconst hx hb dX4_holds_111 gz_ic_1 ?_
      refine lv_goto (tgt := 157) hx hb dX4_holds_112 rfl ?_
      refine gz_istore_n hx hb dX4_holds_157 rfl hl (by decide) [1, 2] rfl (gz_con ⟨gz_ne rfl, Or.inl (gz_ne rfl)⟩ (gz_con ⟨gz_ne rfl, Or.inr rfl⟩ gz_nil)) (fun ls hl => ?_)
      exact T_X4_holds_158 hf hD h p e s m args below meth c H locs cells slots ls cx hnm hex hI (lv_sub hl [1, 2, 0] rfl)
theorem T_X4_holds_61 {l : Launch} {G : gG} {S0 S : gm_S} {d0 fu : Nat} {r : Outcome × gM} (hf : gg_f G = true) (hD : 3 ≤ d0) {x1 : Int32} {s0 : UInt64} {M : gM} (h : F_X4_holds_61 fu x1 s0 M = some r) : B_X4_holds l d0 G S0 61 [(0, va_rf (some (gg_o G))), (1, .int x1)] [.double s0] (gm_w S M) r.1 (gm_w S r.2) := by
  unfold F_X4_holds_61 at h
  intro p e s m args below meth c H locs cells slots ls cx hnm hex hI hl
  have hx := cx.1
  have hb := cx.2.1
  have hown := cx.2.2.2.1
  have hts := cx.2.2.2.2.1
  have hK := cx.2.2.2.2.2.1
  refine gz_dstore_n hx hb dX4_holds_61 rfl hl (by decide) [0, 1] rfl (gz_con ⟨gz_ne rfl, gz_ne rfl, Or.inl (gz_ne rfl)⟩ (gz_con ⟨gz_ne rfl, gz_ne rfl, Or.inl (gz_ne rfl)⟩ gz_nil)) (fun ls hl => ?_)
  refine gr_aload_n hx hb (some (gg_o G)) dX4_holds_62 rfl (lv_at hl 1 rfl) ?_
  refine gr_mgA cx hf hI 30 rfl rfl (Or.inl (hts _ q1022)) dX4_holds_63 ?_
  refine lv_iload_n hx hb dX4_holds_66 rfl (lv_at hl 2 rfl) ?_
  obtain ⟨v2, e2, h⟩ := g_bind h
  refine gr_miald cx hf hI 30 rfl rfl rfl (nr_aI e2) dX4_holds_67 ?_
  refine lv_if_lt (tgt := 85) hx hb dX4_holds_68 rfl (fun hc => ?_) (fun hc => ?_)
  · have h := gz_t h hc
    refine gr_aload_n hx hb (some (gg_o G)) dX4_holds_85 rfl (lv_at hl 1 rfl) ?_
    refine gr_mgA cx hf hI 32 rfl rfl (Or.inl (hts _ q1024)) dX4_holds_86 ?_
    refine lv_iload_n hx hb dX4_holds_89 rfl (lv_at hl 2 rfl) ?_
    obtain ⟨v4, e4, h⟩ := g_bind h
    refine gr_mdald cx hf hI 32 rfl rfl rfl (nr_aD e4) dX4_holds_90 ?_
    exact T_X4_holds_91 hf hD h p e s m args below meth c H locs cells slots ls cx hnm hex hI (lv_sub hl [1, 2, 0] rfl)
  · have h := gz_f h hc
    refine gr_aload_n hx hb (some (gg_o G)) dX4_holds_71 rfl (lv_at hl 1 rfl) ?_
    refine gr_mgA cx hf hI 42 rfl rfl (Or.inl (hts _ q1034)) dX4_holds_72 ?_
    refine gr_aload_n hx hb (some (gg_o G)) dX4_holds_75 rfl (lv_at hl 1 rfl) ?_
    refine gr_mgA cx hf hI 30 rfl rfl (Or.inl (hts _ q1022)) dX4_holds_76 ?_
    refine lv_iload_n hx hb dX4_holds_79 rfl (lv_at hl 2 rfl) ?_
    obtain ⟨v7, e7, h⟩ := g_bind h
    refine gr_miald cx hf hI 30 rfl rfl rfl (nr_aI e7) dX4_holds_80 ?_
    obtain ⟨v8, e8, h⟩ := g_bind h
    refine gr_mdald cx hf hI 42 rfl rfl rfl (nr_aD e8) dX4_holds_81 ?_
    refine lv_goto (tgt := 91) hx hb dX4_holds_82 rfl ?_
    exact T_X4_holds_91 hf hD h p e s m args below meth c H locs cells slots ls cx hnm hex hI (lv_sub hl [1, 2, 0] rfl)
theorem T_X4_holds {l : Launch} {G : gG} {S0 S : gm_S} {d0 fu : Nat} {r : Outcome × gM} (hf : gg_f G = true) (hD : 3 ≤ d0) {x1 : Int32} {M : gM} (h : F_X4_holds fu x1 M = some r) : B_X4_holds l d0 G S0 0 [(0, va_rf (some (gg_o G))), (1, .int x1)] [] (gm_w S M) r.1 (gm_w S r.2) := by
  unfold F_X4_holds at h
  intro p e s m args below meth c H locs cells slots ls cx hnm hex hI hl
  have hx := cx.1
  have hb := cx.2.1
  have hown := cx.2.2.2.1
  have hts := cx.2.2.2.2.1
  have hK := cx.2.2.2.2.2.1
  refine gr_aload_n hx hb (some (gg_o G)) dX4_holds_0 rfl (lv_at hl 0 rfl) ?_
  refine gr_mgA cx hf hI 27 rfl rfl (Or.inl (hts _ q1019)) dX4_holds_1 ?_
  refine lv_iload_n hx hb dX4_holds_4 rfl (lv_at hl 1 rfl) ?_
  obtain ⟨v2, e2, h⟩ := g_bind h
  refine gr_miald cx hf hI 27 rfl rfl rfl (nr_aI e2) dX4_holds_5 ?_
  refine lv_if_lt (tgt := 32) hx hb dX4_holds_6 rfl (fun hc => ?_) (fun hc => ?_)
  · have h := gz_t h hc
    refine gr_aload_n hx hb (some (gg_o G)) dX4_holds_32 rfl (lv_at hl 0 rfl) ?_
    refine gr_mgA cx hf hI 29 rfl rfl (Or.inl (hts _ q1021)) dX4_holds_33 ?_
    refine lv_iload_n hx hb dX4_holds_36 rfl (lv_at hl 1 rfl) ?_
    obtain ⟨v4, e4, h⟩ := g_bind h
    refine gr_miald cx hf hI 29 rfl rfl rfl (nr_aI e4) dX4_holds_37 ?_
    refine lv_if_lt (tgt := 55) hx hb dX4_holds_38 rfl (fun hc => ?_) (fun hc => ?_)
    · have h := gz_t h hc
      refine gr_aload_n hx hb (some (gg_o G)) dX4_holds_55 rfl (lv_at hl 0 rfl) ?_
      refine gr_mgA cx hf hI 31 rfl rfl (Or.inl (hts _ q1023)) dX4_holds_56 ?_
      refine lv_iload_n hx hb dX4_holds_59 rfl (lv_at hl 1 rfl) ?_
      obtain ⟨v6, e6, h⟩ := g_bind h
      refine gr_mdald cx hf hI 31 rfl rfl rfl (nr_aD e6) dX4_holds_60 ?_
      exact T_X4_holds_61 hf hD h p e s m args below meth c H locs cells slots ls cx hnm hex hI hl
    · have h := gz_f h hc
      refine gr_aload_n hx hb (some (gg_o G)) dX4_holds_41 rfl (lv_at hl 0 rfl) ?_
      refine gr_mgA cx hf hI 42 rfl rfl (Or.inl (hts _ q1034)) dX4_holds_42 ?_
      refine gr_aload_n hx hb (some (gg_o G)) dX4_holds_45 rfl (lv_at hl 0 rfl) ?_
      refine gr_mgA cx hf hI 29 rfl rfl (Or.inl (hts _ q1021)) dX4_holds_46 ?_
      refine lv_iload_n hx hb dX4_holds_49 rfl (lv_at hl 1 rfl) ?_
      obtain ⟨v9, e9, h⟩ := g_bind h
      refine gr_miald cx hf hI 29 rfl rfl rfl (nr_aI e9) dX4_holds_50 ?_
      obtain ⟨v10, e10, h⟩ := g_bind h
      refine gr_mdald cx hf hI 42 rfl rfl rfl (nr_aD e10) dX4_holds_51 ?_
      refine lv_goto (tgt := 61) hx hb dX4_holds_52 rfl ?_
      exact T_X4_holds_61 hf hD h p e s m args below meth c H locs cells slots ls cx hnm hex hI hl
  · have h := gz_f h hc
    refine gr_aload_n hx hb (some (gg_o G)) dX4_holds_9 rfl (lv_at hl 0 rfl) ?_
    refine gr_aload_n hx hb (some (gg_o G)) dX4_holds_10 rfl (lv_at hl 0 rfl) ?_
    refine nr_gI cx hf hI 41 rfl (fun _ => rfl) rfl (Or.inl (hts _ q1033)) dX4_holds_11 ?_
    refine gr_aload_n hx hb (some (gg_o G)) dX4_holds_14 rfl (lv_at hl 0 rfl) ?_
    refine gr_mgA cx hf hI 23 rfl rfl (Or.inl (hts _ q1015)) dX4_holds_15 ?_
    refine gr_aload_n hx hb (some (gg_o G)) dX4_holds_18 rfl (lv_at hl 0 rfl) ?_
    refine gr_mgA cx hf hI 27 rfl rfl (Or.inl (hts _ q1019)) dX4_holds_19 ?_
    refine lv_iload_n hx hb dX4_holds_22 rfl (lv_at hl 1 rfl) ?_
    obtain ⟨v14, e14, h⟩ := g_bind h
    refine gr_miald cx hf hI 27 rfl rfl rfl (nr_aI e14) dX4_holds_23 ?_
    obtain ⟨v15, e15, h⟩ := g_bind h
    refine gr_miald cx hf hI 23 rfl rfl rfl (nr_aI e15) dX4_holds_24 ?_
    refine C_X4_isIn hf cx (gz_nh hex) hI (Or.inl (hts _ q1297)) hl.1 (gz_cs (Nat.le_of_ble_eq_true rfl)) (by omega) dX4_holds_25 h (fun v16 M16 h H locs cells slots hI => ?_)
    refine gz_istore_n hx hb dX4_holds_28 rfl hl (by decide) [0, 1] rfl (gz_con ⟨gz_ne rfl, Or.inl (gz_ne rfl)⟩ (gz_con ⟨gz_ne rfl, Or.inr rfl⟩ gz_nil)) (fun ls hl => ?_)
    refine lv_goto (tgt := 158) hx hb dX4_holds_29 rfl ?_
    exact T_X4_holds_158 hf hD h p e s m args below meth c H locs cells slots ls cx hnm hex hI (lv_sub hl [1, 2, 0] rfl)
theorem M_X4_holds {l : Launch} {G : gG} {fu d0 : Nat} (hf : gg_f G = true) (hfl : l.flags = flags0) (hD : 3 ≤ d0) {x1 : Int32} {S : gm_S} {M : gM} {o : Outcome} {M2 : gM} (h : F_X4_holds fu x1 M = some (o, M2)) : gx_Met l yX4_holds (ws_ yX4_holds cX4_holds 7 (Option.some Jvm.ClassFile.FieldType.boolean)) d0 G (gm_w S M) [va_rf (some (gg_o G)), .int x1] o (gm_w S M2) := by
  refine gx_of hfl (by decide) (fun p e s m below meth c cx hnm hex hI => ?_)
  rw [lg_entry_eq]
  exact T_X4_holds (r := (o, M2)) hf hD h p e s m _ below meth c _ _ _ _ _ cx hnm (gz_nh0 hex) hI (lv_entry _ (Nat.le_of_ble_eq_true rfl))
theorem C_X4_holds {p : Program} {l : Launch} {e : Env} {s : State} {m : MethodId} {args : Array Value} {below : List Frame} {meth : Method} {c : Code} {H : Heap} {locs : List Loc} {cells slots : Nat} {cc : ByteArray} {pc nL : Nat} {ls : Array Slot} {rest : List Value} {G : gG} {S0 S : gm_S} {own : String} {ret : Option FieldType} {d0 index fu : Nat} {M : gM} {x1 : Int32} {k : Int32 → gM → gQ} {r : Outcome × gM} (hf : gg_f G = true) (cx : gx_cx p l s m args meth c G own cc nL ret) (hex : ∀ x ∈ c.exceptionTable.toList, covers x pc = false) (hI : gw_I G S0 (gm_w S M) H locs cells slots) (hl : gl_M own index yX4_holds args s) (hlv : ls.size = nL) (hrest : (rest.map fun v => v.category).sum ≤ 8) (hD : 4 ≤ d0) (hdg : decode cc pc = .ok (.invokevirtual index, 3)) (h : gz_cI (F_X4_holds fu x1 M) k = some r)
    (kk : ∀ (v : Int32) (z : gM), k v z = some r → ∀ (H : Heap) (locs : List Loc) (cells slots : Nat), gw_I G S0 (gm_w S z) H locs cells slots → W p l e (gx_rm d0 S0) s m args below meth c H locs cells slots (gx_MQ below G S0 (gm_w S r.2) r.1 s) (F0 m (pc + 3) ls (.int v :: rest))) : W p l e (gx_rm d0 S0) s m args below meth c H locs cells slots (gx_MQ below G S0 (gm_w S r.2) r.1 s) (F0 m pc ls (.int x1 :: va_rf (some (gg_o G)) :: rest)) := by
  have hts := cx.2.2.2.2.1
  have hK := cx.2.2.2.2.2.1
  exact gz_goI (d := d0 - 1) (gm_w S) cx hex hI hlv hrest (by omega) (Nat.le_of_ble_eq_true rfl) (gz_ws (lw_meth q1334) hts) (hts _ q78) (gb_rawV (As := [.int x1]) cx hl (hts _ q1333) (hts _ qs60) (gl_C.code (hts _ q1334)) hy_X4_holds (gr_recvM hK hI.1 hf) rfl rfl hdg) (fun o S2 e => M_X4_holds hf cx.2.2.2.2.2.2.2.2 (by omega) e) h kk
abbrev B_X4_enabled (l : Launch) (d0 : Nat) (G : gG) (S0 : gm_S) : Nat → List (Nat × Value) → List Value → gm_S → Outcome → gm_S → Prop := gz_B l RX4 "enabled" cX4_enabled 4 (Option.some Jvm.ClassFile.FieldType.boolean) [] d0 G S0
theorem T_X4_enabled_19 {l : Launch} {G : gG} {S0 S : gm_S} {d0 fu : Nat} {r : Outcome × gM} (hf : gg_f G = true) (hD : 4 ≤ d0) : ∀ (n : Nat) (x1 : Int32) (x3 : Int32) (M : gM), F_X4_enabled_19 fu n x1 x3 M = some r → B_X4_enabled l d0 G S0 19 [(0, va_rf (some (gg_o G))), (1, .int x1), (3, .int x3)] [] (gm_w S M) r.1 (gm_w S r.2) := by
  intro n
  induction n with
  | zero => intro x1 x3 M h; exact nomatch (show (none : gQ) = some r from h)
  | succ n ih =>
    intro x1 x3 M h
    rw [F_X4_enabled_19] at h
    intro p e s m args below meth c H locs cells slots ls cx hnm hex hI hl
    have hx := cx.1
    have hb := cx.2.1
    have hown := cx.2.2.2.1
    have hts := cx.2.2.2.2.1
    have hK := cx.2.2.2.2.2.1
    refine lv_iload_n hx hb dX4_enabled_19 rfl (lv_at hl 2 rfl) ?_
    refine gr_aload_n hx hb (some (gg_o G)) dX4_enabled_20 rfl (lv_at hl 0 rfl) ?_
    refine gr_mgA cx hf hI 21 rfl rfl (Or.inl (hts _ q1013)) dX4_enabled_21 ?_
    refine lv_iload_n hx hb dX4_enabled_24 rfl (lv_at hl 1 rfl) ?_
    obtain ⟨v2, e2, h⟩ := g_bind h
    refine gr_miald cx hf hI 21 rfl rfl rfl (nr_aI e2) dX4_enabled_25 ?_
    refine lv_icmp_ge (tgt := 45) hx hb dX4_enabled_26 rfl (fun hc => ?_) (fun hc => ?_)
    · have h := gz_t h hc
      refine lv_iconst hx hb dX4_enabled_45 gz_ic_1 ?_
      obtain ⟨hz, h⟩ := g_ifs h
      cases h
      exact gr_zret cx hz hI dX4_enabled_46
    · have h := gz_f h hc
      refine gr_aload_n hx hb (some (gg_o G)) dX4_enabled_29 rfl (lv_at hl 0 rfl) ?_
      refine lv_iload_n hx hb dX4_enabled_30 rfl (lv_at hl 2 rfl) ?_
      refine C_X4_holds hf cx (gz_nh hex) hI (Or.inl (hts _ q1331)) hl.1 (gz_cs (Nat.le_of_ble_eq_true rfl)) (by omega) dX4_enabled_31 h (fun v3 M3 h H locs cells slots hI => ?_)
      refine lv_if_ne (tgt := 39) hx hb dX4_enabled_34 rfl (fun hc => ?_) (fun hc => ?_)
      · have h := gz_f h hc
        refine gz_iinc (k := 2) (v := (x3 + (1 : Int32))) hx hb dX4_enabled_39 hl rfl (congrArg (fun z => x3 + z) gz_ic_1) (by decide) [0, 1] rfl (gz_con ⟨gz_ne rfl, Or.inl (gz_ne rfl)⟩ (gz_con ⟨gz_ne rfl, Or.inl (gz_ne rfl)⟩ gz_nil)) (fun ls hl => ?_)
        refine lv_goto (tgt := 19) hx hb dX4_enabled_42 rfl ?_
        exact ih _ _ _ h p e s m args below meth c H locs cells slots ls cx hnm hex hI (lv_sub hl [1, 2, 0] rfl)
      · have h := gz_t h hc
        refine lv_iconst hx hb dX4_enabled_37 gz_ic_0 ?_
        obtain ⟨hz, h⟩ := g_ifs h
        cases h
        exact gr_zret cx hz hI dX4_enabled_38
theorem T_X4_enabled {l : Launch} {G : gG} {S0 S : gm_S} {d0 fu : Nat} {r : Outcome × gM} (hf : gg_f G = true) (hD : 4 ≤ d0) {x1 : Int32} {x2 : Int32} {M : gM} (h : F_X4_enabled fu x1 x2 M = some r) : B_X4_enabled l d0 G S0 0 [(0, va_rf (some (gg_o G))), (1, .int x1), (2, .int x2)] [] (gm_w S M) r.1 (gm_w S r.2) := by
  unfold F_X4_enabled at h
  intro p e s m args below meth c H locs cells slots ls cx hnm hex hI hl
  have hx := cx.1
  have hb := cx.2.1
  have hown := cx.2.2.2.1
  have hts := cx.2.2.2.2.1
  have hK := cx.2.2.2.2.2.1
  refine gr_aload_n hx hb (some (gg_o G)) dX4_enabled_0 rfl (lv_at hl 0 rfl) ?_
  refine gr_mgA cx hf hI 19 rfl rfl (Or.inl (hts _ q1011)) dX4_enabled_1 ?_
  refine lv_iload_n hx hb dX4_enabled_4 rfl (lv_at hl 1 rfl) ?_
  obtain ⟨v2, e2, h⟩ := g_bind h
  refine gr_miald cx hf hI 19 rfl rfl rfl (nr_aI e2) dX4_enabled_5 ?_
  refine lv_iload_n hx hb dX4_enabled_6 rfl (lv_at hl 2 rfl) ?_
  refine lv_icmp_eq (tgt := 12) hx hb dX4_enabled_7 rfl (fun hc => ?_) (fun hc => ?_)
  · have h := gz_t h hc
    refine gr_aload_n hx hb (some (gg_o G)) dX4_enabled_12 rfl (lv_at hl 0 rfl) ?_
    refine gr_mgA cx hf hI 20 rfl rfl (Or.inl (hts _ q1012)) dX4_enabled_13 ?_
    refine lv_iload_n hx hb dX4_enabled_16 rfl (lv_at hl 1 rfl) ?_
    obtain ⟨v4, e4, h⟩ := g_bind h
    refine gr_miald cx hf hI 20 rfl rfl rfl (nr_aI e4) dX4_enabled_17 ?_
    refine gz_istore_n hx hb dX4_enabled_18 rfl hl (by decide) [0, 1] rfl (gz_con ⟨gz_ne rfl, Or.inl (gz_ne rfl)⟩ (gz_con ⟨gz_ne rfl, Or.inl (gz_ne rfl)⟩ gz_nil)) (fun ls hl => ?_)
    exact T_X4_enabled_19 hf hD fu _ _ _ h p e s m args below meth c H locs cells slots ls cx hnm hex hI (lv_sub hl [1, 2, 0] rfl)
  · have h := gz_f h hc
    refine lv_iconst hx hb dX4_enabled_10 gz_ic_0 ?_
    obtain ⟨hz, h⟩ := g_ifs h
    cases h
    exact gr_zret cx hz hI dX4_enabled_11
theorem M_X4_enabled {l : Launch} {G : gG} {fu d0 : Nat} (hf : gg_f G = true) (hfl : l.flags = flags0) (hD : 4 ≤ d0) {x1 : Int32} {x2 : Int32} {S : gm_S} {M : gM} {o : Outcome} {M2 : gM} (h : F_X4_enabled fu x1 x2 M = some (o, M2)) : gx_Met l yX4_enabled (ws_ yX4_enabled cX4_enabled 4 (Option.some Jvm.ClassFile.FieldType.boolean)) d0 G (gm_w S M) [va_rf (some (gg_o G)), .int x1, .int x2] o (gm_w S M2) := by
  refine gx_of hfl (by decide) (fun p e s m below meth c cx hnm hex hI => ?_)
  rw [lg_entry_eq]
  exact T_X4_enabled (r := (o, M2)) hf hD h p e s m _ below meth c _ _ _ _ _ cx hnm (gz_nh0 hex) hI (lv_entry _ (Nat.le_of_ble_eq_true rfl))
theorem C_X4_enabled {p : Program} {l : Launch} {e : Env} {s : State} {m : MethodId} {args : Array Value} {below : List Frame} {meth : Method} {c : Code} {H : Heap} {locs : List Loc} {cells slots : Nat} {cc : ByteArray} {pc nL : Nat} {ls : Array Slot} {rest : List Value} {G : gG} {S0 S : gm_S} {own : String} {ret : Option FieldType} {d0 index fu : Nat} {M : gM} {x1 : Int32} {x2 : Int32} {k : Int32 → gM → gQ} {r : Outcome × gM} (hf : gg_f G = true) (cx : gx_cx p l s m args meth c G own cc nL ret) (hex : ∀ x ∈ c.exceptionTable.toList, covers x pc = false) (hI : gw_I G S0 (gm_w S M) H locs cells slots) (hl : gl_M own index yX4_enabled args s) (hlv : ls.size = nL) (hrest : (rest.map fun v => v.category).sum ≤ 8) (hD : 5 ≤ d0) (hdg : decode cc pc = .ok (.invokevirtual index, 3)) (h : gz_cI (F_X4_enabled fu x1 x2 M) k = some r)
    (kk : ∀ (v : Int32) (z : gM), k v z = some r → ∀ (H : Heap) (locs : List Loc) (cells slots : Nat), gw_I G S0 (gm_w S z) H locs cells slots → W p l e (gx_rm d0 S0) s m args below meth c H locs cells slots (gx_MQ below G S0 (gm_w S r.2) r.1 s) (F0 m (pc + 3) ls (.int v :: rest))) : W p l e (gx_rm d0 S0) s m args below meth c H locs cells slots (gx_MQ below G S0 (gm_w S r.2) r.1 s) (F0 m pc ls (.int x2 :: .int x1 :: va_rf (some (gg_o G)) :: rest)) := by
  have hts := cx.2.2.2.2.1
  have hK := cx.2.2.2.2.2.1
  exact gz_goI (d := d0 - 1) (gm_w S) cx hex hI hlv hrest (by omega) (Nat.le_of_ble_eq_true rfl) (gz_ws (lw_meth q1330) hts) (hts _ q78) (gb_rawV (As := [.int x1, .int x2]) cx hl (hts _ q1329) (hts _ qs59) (gl_C.code (hts _ q1330)) hy_X4_enabled (gr_recvM hK hI.1 hf) rfl rfl hdg) (fun o S2 e => M_X4_enabled hf cx.2.2.2.2.2.2.2.2 (by omega) e) h kk
abbrev B_X4_firstOf (l : Launch) (d0 : Nat) (G : gG) (S0 : gm_S) : Nat → List (Nat × Value) → List Value → gm_S → Outcome → gm_S → Prop := gz_B l RX4 "firstOf" cX4_firstOf 4 (Option.some Jvm.ClassFile.FieldType.int) [] d0 G S0
theorem T_X4_firstOf_8 {l : Launch} {G : gG} {S0 S : gm_S} {d0 fu : Nat} {r : Outcome × gM} (hf : gg_f G = true) (hD : 5 ≤ d0) : ∀ (n : Nat) (x1 : Int32) (x2 : Int32) (x3 : Int32) (M : gM), F_X4_firstOf_8 fu n x1 x2 x3 M = some r → B_X4_firstOf l d0 G S0 8 [(0, va_rf (some (gg_o G))), (1, .int x1), (2, .int x2), (3, .int x3)] [] (gm_w S M) r.1 (gm_w S r.2) := by
  intro n
  induction n with
  | zero => intro x1 x2 x3 M h; exact nomatch (show (none : gQ) = some r from h)
  | succ n ih =>
    intro x1 x2 x3 M h
    rw [F_X4_firstOf_8] at h
    intro p e s m args below meth c H locs cells slots ls cx hnm hex hI hl
    have hx := cx.1
    have hb := cx.2.1
    have hown := cx.2.2.2.1
    have hts := cx.2.2.2.2.1
    have hK := cx.2.2.2.2.2.1
    refine lv_iload_n hx hb dX4_firstOf_8 rfl (lv_at hl 3 rfl) ?_
    refine lv_bipush hx hb dX4_firstOf_9 gz_bp_24 ?_
    refine gr_aload_n hx hb (some (gg_o G)) dX4_firstOf_11 rfl (lv_at hl 0 rfl) ?_
    refine nr_gI cx hf hI 7 rfl (fun _ => rfl) rfl (Or.inl (hts _ q999)) dX4_firstOf_12 ?_
    refine lv_imul hx hb dX4_firstOf_15 ?_
    refine gr_aload_n hx hb (some (gg_o G)) dX4_firstOf_16 rfl (lv_at hl 0 rfl) ?_
    refine gr_mgA cx hf hI 10 rfl rfl (Or.inl (hts _ q1002)) dX4_firstOf_17 ?_
    refine gr_aload_n hx hb (some (gg_o G)) dX4_firstOf_20 rfl (lv_at hl 0 rfl) ?_
    refine nr_gI cx hf hI 7 rfl (fun _ => rfl) rfl (Or.inl (hts _ q999)) dX4_firstOf_21 ?_
    obtain ⟨v4, e4, h⟩ := g_bind h
    refine gr_miald cx hf hI 10 rfl rfl rfl (nr_aI e4) dX4_firstOf_24 ?_
    refine lv_iadd hx hb dX4_firstOf_25 ?_
    refine lv_icmp_ge (tgt := 56) hx hb dX4_firstOf_26 rfl (fun hc => ?_) (fun hc => ?_)
    · have h := gz_t h hc
      refine lv_iconst hx hb dX4_firstOf_56 gz_ic_m1 ?_
      cases h
      exact gr_iret cx hI dX4_firstOf_57
    · have h := gz_f h hc
      refine gr_aload_n hx hb (some (gg_o G)) dX4_firstOf_29 rfl (lv_at hl 0 rfl) ?_
      refine gr_mgA cx hf hI 18 rfl rfl (Or.inl (hts _ q1010)) dX4_firstOf_30 ?_
      refine lv_iload_n hx hb dX4_firstOf_33 rfl (lv_at hl 3 rfl) ?_
      obtain ⟨v6, e6, h⟩ := g_bind h
      refine gr_miald cx hf hI 18 rfl rfl rfl (nr_aI e6) dX4_firstOf_34 ?_
      refine lv_iload_n hx hb dX4_firstOf_35 rfl (lv_at hl 1 rfl) ?_
      refine lv_icmp_ne (tgt := 50) hx hb dX4_firstOf_36 rfl (fun hc => ?_) (fun hc => ?_)
      · have h := gz_f h hc
        refine gz_iinc (k := 3) (v := (x3 + (1 : Int32))) hx hb dX4_firstOf_50 hl rfl (congrArg (fun z => x3 + z) gz_ic_1) (by decide) [0, 1, 2] rfl (gz_con ⟨gz_ne rfl, Or.inl (gz_ne rfl)⟩ (gz_con ⟨gz_ne rfl, Or.inl (gz_ne rfl)⟩ (gz_con ⟨gz_ne rfl, Or.inr rfl⟩ gz_nil))) (fun ls hl => ?_)
        refine lv_goto (tgt := 8) hx hb dX4_firstOf_53 rfl ?_
        exact ih _ _ _ _ h p e s m args below meth c H locs cells slots ls cx hnm hex hI (lv_sub hl [1, 2, 3, 0] rfl)
      · have h := gz_t h hc
        refine gr_aload_n hx hb (some (gg_o G)) dX4_firstOf_39 rfl (lv_at hl 0 rfl) ?_
        refine lv_iload_n hx hb dX4_firstOf_40 rfl (lv_at hl 3 rfl) ?_
        refine lv_iload_n hx hb dX4_firstOf_41 rfl (lv_at hl 2 rfl) ?_
        refine C_X4_enabled hf cx (gz_nh hex) hI (Or.inl (hts _ q1327)) hl.1 (gz_cs (Nat.le_of_ble_eq_true rfl)) (by omega) dX4_firstOf_42 h (fun v7 M7 h H locs cells slots hI => ?_)
        refine lv_if_eq (tgt := 50) hx hb dX4_firstOf_45 rfl (fun hc => ?_) (fun hc => ?_)
        · have h := gz_t h hc
          refine gz_iinc (k := 3) (v := (x3 + (1 : Int32))) hx hb dX4_firstOf_50 hl rfl (congrArg (fun z => x3 + z) gz_ic_1) (by decide) [0, 1, 2] rfl (gz_con ⟨gz_ne rfl, Or.inl (gz_ne rfl)⟩ (gz_con ⟨gz_ne rfl, Or.inl (gz_ne rfl)⟩ (gz_con ⟨gz_ne rfl, Or.inr rfl⟩ gz_nil))) (fun ls hl => ?_)
          refine lv_goto (tgt := 8) hx hb dX4_firstOf_53 rfl ?_
          exact ih _ _ _ _ h p e s m args below meth c H locs cells slots ls cx hnm hex hI (lv_sub hl [1, 2, 3, 0] rfl)
        · have h := gz_f h hc
          refine lv_iload_n hx hb dX4_firstOf_48 rfl (lv_at hl 3 rfl) ?_
          cases h
          exact gr_iret cx hI dX4_firstOf_49
theorem T_X4_firstOf {l : Launch} {G : gG} {S0 S : gm_S} {d0 fu : Nat} {r : Outcome × gM} (hf : gg_f G = true) (hD : 5 ≤ d0) {x1 : Int32} {x2 : Int32} {M : gM} (h : F_X4_firstOf fu x1 x2 M = some r) : B_X4_firstOf l d0 G S0 0 [(0, va_rf (some (gg_o G))), (1, .int x1), (2, .int x2)] [] (gm_w S M) r.1 (gm_w S r.2) := by
  unfold F_X4_firstOf at h
  intro p e s m args below meth c H locs cells slots ls cx hnm hex hI hl
  have hx := cx.1
  have hb := cx.2.1
  have hown := cx.2.2.2.1
  have hts := cx.2.2.2.2.1
  have hK := cx.2.2.2.2.2.1
  refine lv_bipush hx hb dX4_firstOf_0 gz_bp_24 ?_
  refine gr_aload_n hx hb (some (gg_o G)) dX4_firstOf_2 rfl (lv_at hl 0 rfl) ?_
  refine nr_gI cx hf hI 7 rfl (fun _ => rfl) rfl (Or.inl (hts _ q999)) dX4_firstOf_3 ?_
  refine lv_imul hx hb dX4_firstOf_6 ?_
  refine gz_istore_n hx hb dX4_firstOf_7 rfl hl (by decide) [0, 1, 2] rfl (gz_con ⟨gz_ne rfl, Or.inl (gz_ne rfl)⟩ (gz_con ⟨gz_ne rfl, Or.inl (gz_ne rfl)⟩ (gz_con ⟨gz_ne rfl, Or.inr rfl⟩ gz_nil))) (fun ls hl => ?_)
  exact T_X4_firstOf_8 hf hD fu _ _ _ _ h p e s m args below meth c H locs cells slots ls cx hnm hex hI (lv_sub hl [1, 2, 3, 0] rfl)
theorem M_X4_firstOf {l : Launch} {G : gG} {fu d0 : Nat} (hf : gg_f G = true) (hfl : l.flags = flags0) (hD : 5 ≤ d0) {x1 : Int32} {x2 : Int32} {S : gm_S} {M : gM} {o : Outcome} {M2 : gM} (h : F_X4_firstOf fu x1 x2 M = some (o, M2)) : gx_Met l yX4_firstOf (ws_ yX4_firstOf cX4_firstOf 4 (Option.some Jvm.ClassFile.FieldType.int)) d0 G (gm_w S M) [va_rf (some (gg_o G)), .int x1, .int x2] o (gm_w S M2) := by
  refine gx_of hfl (by decide) (fun p e s m below meth c cx hnm hex hI => ?_)
  rw [lg_entry_eq]
  exact T_X4_firstOf (r := (o, M2)) hf hD h p e s m _ below meth c _ _ _ _ _ cx hnm (gz_nh0 hex) hI (lv_entry _ (Nat.le_of_ble_eq_true rfl))
theorem C_X4_firstOf {p : Program} {l : Launch} {e : Env} {s : State} {m : MethodId} {args : Array Value} {below : List Frame} {meth : Method} {c : Code} {H : Heap} {locs : List Loc} {cells slots : Nat} {cc : ByteArray} {pc nL : Nat} {ls : Array Slot} {rest : List Value} {G : gG} {S0 S : gm_S} {own : String} {ret : Option FieldType} {d0 index fu : Nat} {M : gM} {x1 : Int32} {x2 : Int32} {k : Int32 → gM → gQ} {r : Outcome × gM} (hf : gg_f G = true) (cx : gx_cx p l s m args meth c G own cc nL ret) (hex : ∀ x ∈ c.exceptionTable.toList, covers x pc = false) (hI : gw_I G S0 (gm_w S M) H locs cells slots) (hl : gl_M own index yX4_firstOf args s) (hlv : ls.size = nL) (hrest : (rest.map fun v => v.category).sum ≤ 8) (hD : 6 ≤ d0) (hdg : decode cc pc = .ok (.invokevirtual index, 3)) (h : gz_cI (F_X4_firstOf fu x1 x2 M) k = some r)
    (kk : ∀ (v : Int32) (z : gM), k v z = some r → ∀ (H : Heap) (locs : List Loc) (cells slots : Nat), gw_I G S0 (gm_w S z) H locs cells slots → W p l e (gx_rm d0 S0) s m args below meth c H locs cells slots (gx_MQ below G S0 (gm_w S r.2) r.1 s) (F0 m (pc + 3) ls (.int v :: rest))) : W p l e (gx_rm d0 S0) s m args below meth c H locs cells slots (gx_MQ below G S0 (gm_w S r.2) r.1 s) (F0 m pc ls (.int x2 :: .int x1 :: va_rf (some (gg_o G)) :: rest)) := by
  have hts := cx.2.2.2.2.1
  have hK := cx.2.2.2.2.2.1
  exact gz_goI (d := d0 - 1) (gm_w S) cx hex hI hlv hrest (by omega) (Nat.le_of_ble_eq_true rfl) (gz_ws (lw_meth q1326) hts) (hts _ q78) (gb_rawV (As := [.int x1, .int x2]) cx hl (hts _ q1325) (hts _ qs58) (gl_C.code (hts _ q1326)) hy_X4_firstOf (gr_recvM hK hI.1 hf) rfl rfl hdg) (fun o S2 e => M_X4_firstOf hf cx.2.2.2.2.2.2.2.2 (by omega) e) h kk
abbrev B_X4_stays (l : Launch) (d0 : Nat) (G : gG) (S0 : gm_S) : Nat → List (Nat × Value) → List Value → gm_S → Outcome → gm_S → Prop := gz_B l RX4 "stays" cX4_stays 3 (Option.some Jvm.ClassFile.FieldType.boolean) [] d0 G S0
theorem T_X4_stays_2 {l : Launch} {G : gG} {S0 S : gm_S} {d0 fu : Nat} {r : Outcome × gM} (hf : gg_f G = true) (hD : 3 ≤ d0) : ∀ (n : Nat) (x1 : Int32) (x2 : Int32) (M : gM), F_X4_stays_2 fu n x1 x2 M = some r → B_X4_stays l d0 G S0 2 [(0, va_rf (some (gg_o G))), (1, .int x1), (2, .int x2)] [] (gm_w S M) r.1 (gm_w S r.2) := by
  intro n
  induction n with
  | zero => intro x1 x2 M h; exact nomatch (show (none : gQ) = some r from h)
  | succ n ih =>
    intro x1 x2 M h
    rw [F_X4_stays_2] at h
    intro p e s m args below meth c H locs cells slots ls cx hnm hex hI hl
    have hx := cx.1
    have hb := cx.2.1
    have hown := cx.2.2.2.1
    have hts := cx.2.2.2.2.1
    have hK := cx.2.2.2.2.2.1
    refine lv_iload_n hx hb dX4_stays_2 rfl (lv_at hl 2 rfl) ?_
    refine lv_iload_n hx hb dX4_stays_3 rfl (lv_at hl 1 rfl) ?_
    refine lv_icmp_ge (tgt := 64) hx hb dX4_stays_4 rfl (fun hc => ?_) (fun hc => ?_)
    · have h := gz_t h hc
      refine lv_iconst hx hb dX4_stays_64 gz_ic_1 ?_
      obtain ⟨hz, h⟩ := g_ifs h
      cases h
      exact gr_zret cx hz hI dX4_stays_65
    · have h := gz_f h hc
      refine gr_aload_n hx hb (some (gg_o G)) dX4_stays_7 rfl (lv_at hl 0 rfl) ?_
      refine gr_mgA cx hf hI 59 rfl rfl (Or.inl (hts _ q1051)) dX4_stays_8 ?_
      refine lv_iload_n hx hb dX4_stays_11 rfl (lv_at hl 2 rfl) ?_
      obtain ⟨v2, e2, h⟩ := g_bind h
      refine gr_miald cx hf hI 59 rfl rfl rfl (nr_aI e2) dX4_stays_12 ?_
      refine gr_aload_n hx hb (some (gg_o G)) dX4_stays_13 rfl (lv_at hl 0 rfl) ?_
      refine gr_mgA cx hf hI 59 rfl rfl (Or.inl (hts _ q1051)) dX4_stays_14 ?_
      refine lv_iload_n hx hb dX4_stays_17 rfl (lv_at hl 1 rfl) ?_
      obtain ⟨v4, e4, h⟩ := g_bind h
      refine gr_miald cx hf hI 59 rfl rfl rfl (nr_aI e4) dX4_stays_18 ?_
      refine lv_iand hx hb dX4_stays_19 ?_
      refine lv_if_eq (tgt := 58) hx hb dX4_stays_20 rfl (fun hc => ?_) (fun hc => ?_)
      · have h := gz_t h hc
        refine gz_iinc (k := 2) (v := (x2 + (1 : Int32))) hx hb dX4_stays_58 hl rfl (congrArg (fun z => x2 + z) gz_ic_1) (by decide) [0, 1] rfl (gz_con ⟨gz_ne rfl, Or.inl (gz_ne rfl)⟩ (gz_con ⟨gz_ne rfl, Or.inr rfl⟩ gz_nil)) (fun ls hl => ?_)
        refine lv_goto (tgt := 2) hx hb dX4_stays_61 rfl ?_
        exact ih _ _ _ h p e s m args below meth c H locs cells slots ls cx hnm hex hI (lv_sub hl [1, 2, 0] rfl)
      · have h := gz_f h hc
        refine gr_aload_n hx hb (some (gg_o G)) dX4_stays_23 rfl (lv_at hl 0 rfl) ?_
        refine gr_aload_n hx hb (some (gg_o G)) dX4_stays_24 rfl (lv_at hl 0 rfl) ?_
        refine gr_aload_n hx hb (some (gg_o G)) dX4_stays_25 rfl (lv_at hl 0 rfl) ?_
        refine gr_mgA cx hf hI 18 rfl rfl (Or.inl (hts _ q1010)) dX4_stays_26 ?_
        refine gr_aload_n hx hb (some (gg_o G)) dX4_stays_29 rfl (lv_at hl 0 rfl) ?_
        refine gr_mgA cx hf hI 56 rfl rfl (Or.inl (hts _ q1048)) dX4_stays_30 ?_
        refine lv_iload_n hx hb dX4_stays_33 rfl (lv_at hl 2 rfl) ?_
        obtain ⟨v7, e7, h⟩ := g_bind h
        refine gr_miald cx hf hI 56 rfl rfl rfl (nr_aI e7) dX4_stays_34 ?_
        obtain ⟨v8, e8, h⟩ := g_bind h
        refine gr_miald cx hf hI 18 rfl rfl rfl (nr_aI e8) dX4_stays_35 ?_
        refine C_X4_belowOf hf cx (gz_nh hex) hI (Or.inl (hts _ q1285)) hl.1 (gz_cs (Nat.le_of_ble_eq_true rfl)) (by omega) dX4_stays_36 h (fun v9 M9 h H locs cells slots hI => ?_)
        refine gr_aload_n hx hb (some (gg_o G)) dX4_stays_39 rfl (lv_at hl 0 rfl) ?_
        refine gr_mgA cx hf hI 18 rfl rfl (Or.inl (hts _ q1010)) dX4_stays_40 ?_
        refine gr_aload_n hx hb (some (gg_o G)) dX4_stays_43 rfl (lv_at hl 0 rfl) ?_
        refine gr_mgA cx hf hI 56 rfl rfl (Or.inl (hts _ q1048)) dX4_stays_44 ?_
        refine lv_iload_n hx hb dX4_stays_47 rfl (lv_at hl 1 rfl) ?_
        obtain ⟨v12, e12, h⟩ := g_bind h
        refine gr_miald cx hf hI 56 rfl rfl rfl (nr_aI e12) dX4_stays_48 ?_
        obtain ⟨v13, e13, h⟩ := g_bind h
        refine gr_miald cx hf hI 18 rfl rfl rfl (nr_aI e13) dX4_stays_49 ?_
        refine C_X4_isIn hf cx (gz_nh hex) hI (Or.inl (hts _ q1297)) hl.1 (gz_cs (Nat.le_of_ble_eq_true rfl)) (by omega) dX4_stays_50 h (fun v14 M14 h H locs cells slots hI => ?_)
        refine lv_if_ne (tgt := 58) hx hb dX4_stays_53 rfl (fun hc => ?_) (fun hc => ?_)
        · have h := gz_f h hc
          refine gz_iinc (k := 2) (v := (x2 + (1 : Int32))) hx hb dX4_stays_58 hl rfl (congrArg (fun z => x2 + z) gz_ic_1) (by decide) [0, 1] rfl (gz_con ⟨gz_ne rfl, Or.inl (gz_ne rfl)⟩ (gz_con ⟨gz_ne rfl, Or.inr rfl⟩ gz_nil)) (fun ls hl => ?_)
          refine lv_goto (tgt := 2) hx hb dX4_stays_61 rfl ?_
          exact ih _ _ _ h p e s m args below meth c H locs cells slots ls cx hnm hex hI (lv_sub hl [1, 2, 0] rfl)
        · have h := gz_t h hc
          refine lv_iconst hx hb dX4_stays_56 gz_ic_0 ?_
          obtain ⟨hz, h⟩ := g_ifs h
          cases h
          exact gr_zret cx hz hI dX4_stays_57
theorem T_X4_stays {l : Launch} {G : gG} {S0 S : gm_S} {d0 fu : Nat} {r : Outcome × gM} (hf : gg_f G = true) (hD : 3 ≤ d0) {x1 : Int32} {M : gM} (h : F_X4_stays fu x1 M = some r) : B_X4_stays l d0 G S0 0 [(0, va_rf (some (gg_o G))), (1, .int x1)] [] (gm_w S M) r.1 (gm_w S r.2) := by
  unfold F_X4_stays at h
  intro p e s m args below meth c H locs cells slots ls cx hnm hex hI hl
  have hx := cx.1
  have hb := cx.2.1
  have hown := cx.2.2.2.1
  have hts := cx.2.2.2.2.1
  have hK := cx.2.2.2.2.2.1
  refine lv_iconst hx hb dX4_stays_0 gz_ic_0 ?_
  refine gz_istore_n hx hb dX4_stays_1 rfl hl (by decide) [0, 1] rfl (gz_con ⟨gz_ne rfl, Or.inl (gz_ne rfl)⟩ (gz_con ⟨gz_ne rfl, Or.inr rfl⟩ gz_nil)) (fun ls hl => ?_)
  exact T_X4_stays_2 hf hD fu _ _ _ h p e s m args below meth c H locs cells slots ls cx hnm hex hI (lv_sub hl [1, 2, 0] rfl)
theorem M_X4_stays {l : Launch} {G : gG} {fu d0 : Nat} (hf : gg_f G = true) (hfl : l.flags = flags0) (hD : 3 ≤ d0) {x1 : Int32} {S : gm_S} {M : gM} {o : Outcome} {M2 : gM} (h : F_X4_stays fu x1 M = some (o, M2)) : gx_Met l yX4_stays (ws_ yX4_stays cX4_stays 3 (Option.some Jvm.ClassFile.FieldType.boolean)) d0 G (gm_w S M) [va_rf (some (gg_o G)), .int x1] o (gm_w S M2) := by
  refine gx_of hfl (by decide) (fun p e s m below meth c cx hnm hex hI => ?_)
  rw [lg_entry_eq]
  exact T_X4_stays (r := (o, M2)) hf hD h p e s m _ below meth c _ _ _ _ _ cx hnm (gz_nh0 hex) hI (lv_entry _ (Nat.le_of_ble_eq_true rfl))
theorem C_X4_stays {p : Program} {l : Launch} {e : Env} {s : State} {m : MethodId} {args : Array Value} {below : List Frame} {meth : Method} {c : Code} {H : Heap} {locs : List Loc} {cells slots : Nat} {cc : ByteArray} {pc nL : Nat} {ls : Array Slot} {rest : List Value} {G : gG} {S0 S : gm_S} {own : String} {ret : Option FieldType} {d0 index fu : Nat} {M : gM} {x1 : Int32} {k : Int32 → gM → gQ} {r : Outcome × gM} (hf : gg_f G = true) (cx : gx_cx p l s m args meth c G own cc nL ret) (hex : ∀ x ∈ c.exceptionTable.toList, covers x pc = false) (hI : gw_I G S0 (gm_w S M) H locs cells slots) (hl : gl_M own index yX4_stays args s) (hlv : ls.size = nL) (hrest : (rest.map fun v => v.category).sum ≤ 8) (hD : 4 ≤ d0) (hdg : decode cc pc = .ok (.invokevirtual index, 3)) (h : gz_cI (F_X4_stays fu x1 M) k = some r)
    (kk : ∀ (v : Int32) (z : gM), k v z = some r → ∀ (H : Heap) (locs : List Loc) (cells slots : Nat), gw_I G S0 (gm_w S z) H locs cells slots → W p l e (gx_rm d0 S0) s m args below meth c H locs cells slots (gx_MQ below G S0 (gm_w S r.2) r.1 s) (F0 m (pc + 3) ls (.int v :: rest))) : W p l e (gx_rm d0 S0) s m args below meth c H locs cells slots (gx_MQ below G S0 (gm_w S r.2) r.1 s) (F0 m pc ls (.int x1 :: va_rf (some (gg_o G)) :: rest)) := by
  have hts := cx.2.2.2.2.1
  have hK := cx.2.2.2.2.2.1
  exact gz_goI (d := d0 - 1) (gm_w S) cx hex hI hlv hrest (by omega) (Nat.le_of_ble_eq_true rfl) (gz_ws (lw_meth q1342) hts) (hts _ q78) (gb_rawV (As := [.int x1]) cx hl (hts _ q1341) (hts _ qs62) (gl_C.code (hts _ q1342)) hy_X4_stays (gr_recvM hK hI.1 hf) rfl rfl hdg) (fun o S2 e => M_X4_stays hf cx.2.2.2.2.2.2.2.2 (by omega) e) h kk
abbrev B_X4_choose (l : Launch) (d0 : Nat) (G : gG) (S0 : gm_S) : Nat → List (Nat × Value) → List Value → gm_S → Outcome → gm_S → Prop := gz_B l RX4 "choose" cX4_choose 6 (Option.none : Option Jvm.ClassFile.FieldType) [] d0 G S0
theorem T_X4_choose_213 {l : Launch} {G : gG} {S0 S : gm_S} {d0 fu : Nat} {k185 : Int32 → gM → gQ} {r : Outcome × gM} (hf : gg_f G = true) (hD : 6 ≤ d0)
    (hk185 : ∀ (x2 : Int32) (M : gM), k185 x2 M = some r → B_X4_choose l d0 G S0 185 [(0, va_rf (some (gg_o G))), (2, .int x2)] [] (gm_w S M) r.1 (gm_w S r.2)) : ∀ (n : Nat) (x2 : Int32) (x3 : Int32) (M : gM), F_X4_choose_213 fu k185 n x2 x3 M = some r → B_X4_choose l d0 G S0 213 [(0, va_rf (some (gg_o G))), (2, .int x2), (3, .int x3)] [] (gm_w S M) r.1 (gm_w S r.2) := by
  intro n
  induction n with
  | zero => intro x2 x3 M h; exact nomatch (show (none : gQ) = some r from h)
  | succ n ih =>
    intro x2 x3 M h
    rw [F_X4_choose_213] at h
    intro p e s m args below meth c H locs cells slots ls cx hnm hex hI hl
    have hx := cx.1
    have hb := cx.2.1
    have hown := cx.2.2.2.1
    have hts := cx.2.2.2.2.1
    have hK := cx.2.2.2.2.2.1
    refine lv_iload_n hx hb dX4_choose_213 rfl (lv_at hl 2 rfl) ?_
    refine lv_if_lt (tgt := 250) hx hb dX4_choose_214 rfl (fun hc => ?_) (fun hc => ?_)
    · have h := gz_t h hc
      refine gz_iinc (k := 1) (v := (x2 + (1 : Int32))) hx hb dX4_choose_250 hl rfl (congrArg (fun z => x2 + z) gz_ic_1) (by decide) [0] rfl (gz_con ⟨gz_ne rfl, Or.inl (gz_ne rfl)⟩ gz_nil) (fun ls hl => ?_)
      refine lv_goto (tgt := 185) hx hb dX4_choose_253 rfl ?_
      exact hk185 _ _ h p e s m args below meth c H locs cells slots ls cx hnm hex hI (lv_sub hl [1, 0] rfl)
    · have h := gz_f h hc
      refine gr_aload_n hx hb (some (gg_o G)) dX4_choose_217 rfl (lv_at hl 0 rfl) ?_
      refine gr_mgA cx hf hI 59 rfl rfl (Or.inl (hts _ q1051)) dX4_choose_218 ?_
      refine lv_iload_n hx hb dX4_choose_221 rfl (lv_at hl 2 rfl) ?_
      obtain ⟨v2, e2, h⟩ := g_bind h
      refine gr_miald cx hf hI 59 rfl rfl rfl (nr_aI e2) dX4_choose_222 ?_
      refine gr_aload_n hx hb (some (gg_o G)) dX4_choose_223 rfl (lv_at hl 0 rfl) ?_
      refine gr_mgA cx hf hI 59 rfl rfl (Or.inl (hts _ q1051)) dX4_choose_224 ?_
      refine lv_iload_n hx hb dX4_choose_227 rfl (lv_at hl 1 rfl) ?_
      obtain ⟨v4, e4, h⟩ := g_bind h
      refine gr_miald cx hf hI 59 rfl rfl rfl (nr_aI e4) dX4_choose_228 ?_
      refine lv_iand hx hb dX4_choose_229 ?_
      refine lv_if_ne (tgt := 236) hx hb dX4_choose_230 rfl (fun hc => ?_) (fun hc => ?_)
      · have h := gz_f h hc
        refine gr_aload_n hx hb (some (gg_o G)) dX4_choose_236 rfl (lv_at hl 0 rfl) ?_
        refine lv_iload_n hx hb dX4_choose_237 rfl (lv_at hl 2 rfl) ?_
        refine C_X4_drop hf cx (gz_nh hex) hI (Or.inl (hts _ q1343)) hl.1 (gz_cs (Nat.le_of_ble_eq_true rfl)) (by omega) dX4_choose_238 h (fun M5 h H locs cells slots hI => ?_)
        refine gz_iinc (k := 1) (v := (x2 + (-1 : Int32))) hx hb dX4_choose_241 hl rfl (congrArg (fun z => x2 + z) gz_ic_m1) (by decide) [0, 2] rfl (gz_con ⟨gz_ne rfl, Or.inl (gz_ne rfl)⟩ (gz_con ⟨gz_ne rfl, Or.inl (gz_ne rfl)⟩ gz_nil)) (fun ls hl => ?_)
        refine gz_iinc (k := 2) (v := (x3 + (-1 : Int32))) hx hb dX4_choose_244 hl rfl (congrArg (fun z => x3 + z) gz_ic_m1) (by decide) [0, 1] rfl (gz_con ⟨gz_ne rfl, Or.inr rfl⟩ (gz_con ⟨gz_ne rfl, Or.inl (gz_ne rfl)⟩ gz_nil)) (fun ls hl => ?_)
        refine lv_goto (tgt := 213) hx hb dX4_choose_247 rfl ?_
        exact ih _ _ _ h p e s m args below meth c H locs cells slots ls cx hnm hex hI (lv_sub hl [2, 1, 0] rfl)
      · have h := gz_t h hc
        refine lv_goto (tgt := 244) hx hb dX4_choose_233 rfl ?_
        refine gz_iinc (k := 2) (v := (x3 + (-1 : Int32))) hx hb dX4_choose_244 hl rfl (congrArg (fun z => x3 + z) gz_ic_m1) (by decide) [0, 1] rfl (gz_con ⟨gz_ne rfl, Or.inl (gz_ne rfl)⟩ (gz_con ⟨gz_ne rfl, Or.inr rfl⟩ gz_nil)) (fun ls hl => ?_)
        refine lv_goto (tgt := 213) hx hb dX4_choose_247 rfl ?_
        exact ih _ _ _ h p e s m args below meth c H locs cells slots ls cx hnm hex hI (lv_sub hl [1, 2, 0] rfl)
theorem T_X4_choose_185 {l : Launch} {G : gG} {S0 S : gm_S} {d0 fu : Nat} {r : Outcome × gM} (hf : gg_f G = true) (hD : 6 ≤ d0) : ∀ (n : Nat) (x2 : Int32) (M : gM), F_X4_choose_185 fu n x2 M = some r → B_X4_choose l d0 G S0 185 [(0, va_rf (some (gg_o G))), (2, .int x2)] [] (gm_w S M) r.1 (gm_w S r.2) := by
  intro n
  induction n with
  | zero => intro x2 M h; exact nomatch (show (none : gQ) = some r from h)
  | succ n ih =>
    intro x2 M h
    rw [F_X4_choose_185] at h
    intro p e s m args below meth c H locs cells slots ls cx hnm hex hI hl
    have hx := cx.1
    have hb := cx.2.1
    have hown := cx.2.2.2.1
    have hts := cx.2.2.2.2.1
    have hK := cx.2.2.2.2.2.1
    refine lv_iload_n hx hb dX4_choose_185 rfl (lv_at hl 1 rfl) ?_
    refine gr_aload_n hx hb (some (gg_o G)) dX4_choose_186 rfl (lv_at hl 0 rfl) ?_
    refine nr_gI cx hf hI 55 rfl (fun _ => rfl) rfl (Or.inl (hts _ q1047)) dX4_choose_187 ?_
    refine lv_icmp_ge (tgt := 256) hx hb dX4_choose_190 rfl (fun hc => ?_) (fun hc => ?_)
    · have h := gz_t h hc
      cases h
      exact gr_vret cx hI dX4_choose_256
    · have h := gz_f h hc
      refine gr_aload_n hx hb (some (gg_o G)) dX4_choose_193 rfl (lv_at hl 0 rfl) ?_
      refine lv_iload_n hx hb dX4_choose_194 rfl (lv_at hl 1 rfl) ?_
      refine C_X4_stays hf cx (gz_nh hex) hI (Or.inl (hts _ q1339)) hl.1 (gz_cs (Nat.le_of_ble_eq_true rfl)) (by omega) dX4_choose_195 h (fun v2 M2 h H locs cells slots hI => ?_)
      refine lv_if_ne (tgt := 209) hx hb dX4_choose_198 rfl (fun hc => ?_) (fun hc => ?_)
      · have h := gz_f h hc
        refine lv_iload_n hx hb dX4_choose_209 rfl (lv_at hl 1 rfl) ?_
        refine lv_iconst hx hb dX4_choose_210 gz_ic_1 ?_
        refine lv_isub hx hb dX4_choose_211 ?_
        refine gz_istore_n hx hb dX4_choose_212 rfl hl (by decide) [0, 1] rfl (gz_con ⟨gz_ne rfl, Or.inl (gz_ne rfl)⟩ (gz_con ⟨gz_ne rfl, Or.inr rfl⟩ gz_nil)) (fun ls hl => ?_)
        exact T_X4_choose_213 hf hD ih fu _ _ _ h p e s m args below meth c H locs cells slots ls cx hnm hex hI (lv_sub hl [1, 2, 0] rfl)
      · have h := gz_t h hc
        refine gr_aload_n hx hb (some (gg_o G)) dX4_choose_201 rfl (lv_at hl 0 rfl) ?_
        refine lv_iload_n hx hb dX4_choose_202 rfl (lv_at hl 1 rfl) ?_
        refine C_X4_drop hf cx (gz_nh hex) hI (Or.inl (hts _ q1343)) hl.1 (gz_cs (Nat.le_of_ble_eq_true rfl)) (by omega) dX4_choose_203 h (fun M3 h H locs cells slots hI => ?_)
        refine lv_goto (tgt := 185) hx hb dX4_choose_206 rfl ?_
        exact ih _ _ h p e s m args below meth c H locs cells slots ls cx hnm hex hI hl
theorem T_X4_choose_164 {l : Launch} {G : gG} {S0 S : gm_S} {d0 fu : Nat} {r : Outcome × gM} (hf : gg_f G = true) (hD : 6 ≤ d0) : ∀ (n : Nat) (x2 : Int32) (M : gM), F_X4_choose_164 fu n x2 M = some r → B_X4_choose l d0 G S0 164 [(0, va_rf (some (gg_o G))), (2, .int x2)] [] (gm_w S M) r.1 (gm_w S r.2) := by
  intro n
  induction n with
  | zero => intro x2 M h; exact nomatch (show (none : gQ) = some r from h)
  | succ n ih =>
    intro x2 M h
    rw [F_X4_choose_164] at h
    intro p e s m args below meth c H locs cells slots ls cx hnm hex hI hl
    have hx := cx.1
    have hb := cx.2.1
    have hown := cx.2.2.2.1
    have hts := cx.2.2.2.2.1
    have hK := cx.2.2.2.2.2.1
    refine lv_iload_n hx hb dX4_choose_164 rfl (lv_at hl 1 rfl) ?_
    refine gr_aload_n hx hb (some (gg_o G)) dX4_choose_165 rfl (lv_at hl 0 rfl) ?_
    refine nr_gI cx hf hI 55 rfl (fun _ => rfl) rfl (Or.inl (hts _ q1047)) dX4_choose_166 ?_
    refine lv_icmp_ge (tgt := 183) hx hb dX4_choose_169 rfl (fun hc => ?_) (fun hc => ?_)
    · have h := gz_t h hc
      refine lv_iconst hx hb dX4_choose_183 gz_ic_0 ?_
      refine gz_istore_n hx hb dX4_choose_184 rfl hl (by decide) [0] rfl (gz_con ⟨gz_ne rfl, Or.inl (gz_ne rfl)⟩ gz_nil) (fun ls hl => ?_)
      exact T_X4_choose_185 hf hD fu _ _ h p e s m args below meth c H locs cells slots ls cx hnm hex hI (lv_sub hl [1, 0] rfl)
    · have h := gz_f h hc
      refine gr_aload_n hx hb (some (gg_o G)) dX4_choose_172 rfl (lv_at hl 0 rfl) ?_
      refine lv_iload_n hx hb dX4_choose_173 rfl (lv_at hl 1 rfl) ?_
      refine C_X4_aim hf cx (gz_nh hex) hI (Or.inl (hts _ q1335)) hl.1 (gz_cs (Nat.le_of_ble_eq_true rfl)) (by omega) dX4_choose_174 h (fun M2 h H locs cells slots hI => ?_)
      refine gz_iinc (k := 1) (v := (x2 + (1 : Int32))) hx hb dX4_choose_177 hl rfl (congrArg (fun z => x2 + z) gz_ic_1) (by decide) [0] rfl (gz_con ⟨gz_ne rfl, Or.inl (gz_ne rfl)⟩ gz_nil) (fun ls hl => ?_)
      refine lv_goto (tgt := 164) hx hb dX4_choose_180 rfl ?_
      exact ih _ _ h p e s m args below meth c H locs cells slots ls cx hnm hex hI (lv_sub hl [1, 0] rfl)
theorem T_X4_choose_90 {l : Launch} {G : gG} {S0 S : gm_S} {d0 fu : Nat} {k7 : Int32 → Int32 → gM → gQ} {r : Outcome × gM} (hf : gg_f G = true) (hD : 6 ≤ d0)
    (hk7 : ∀ (x1 : Int32) (x2 : Int32) (M : gM), k7 x1 x2 M = some r → B_X4_choose l d0 G S0 7 [(0, va_rf (some (gg_o G))), (1, .int x1), (2, .int x2)] [] (gm_w S M) r.1 (gm_w S r.2)) : ∀ (n : Nat) (x1 : Int32) (x2 : Int32) (x3 : Int32) (x4 : Int32) (x5 : Int32) (M : gM), F_X4_choose_90 fu k7 n x1 x2 x3 x4 x5 M = some r → B_X4_choose l d0 G S0 90 [(0, va_rf (some (gg_o G))), (1, .int x1), (2, .int x2), (3, .int x3), (4, .int x4), (5, .int x5)] [] (gm_w S M) r.1 (gm_w S r.2) := by
  intro n
  induction n with
  | zero => intro x1 x2 x3 x4 x5 M h; exact nomatch (show (none : gQ) = some r from h)
  | succ n ih =>
    intro x1 x2 x3 x4 x5 M h
    rw [F_X4_choose_90] at h
    intro p e s m args below meth c H locs cells slots ls cx hnm hex hI hl
    have hx := cx.1
    have hb := cx.2.1
    have hown := cx.2.2.2.1
    have hts := cx.2.2.2.2.1
    have hK := cx.2.2.2.2.2.1
    refine lv_iload hx hb dX4_choose_90 (lv_at hl 5 rfl) ?_
    refine gr_aload_n hx hb (some (gg_o G)) dX4_choose_92 rfl (lv_at hl 0 rfl) ?_
    refine nr_gI cx hf hI 55 rfl (fun _ => rfl) rfl (Or.inl (hts _ q1047)) dX4_choose_93 ?_
    refine lv_icmp_ge (tgt := 128) hx hb dX4_choose_96 rfl (fun hc => ?_) (fun hc => ?_)
    · have h := gz_t h hc
      refine lv_iload hx hb dX4_choose_128 (lv_at hl 4 rfl) ?_
      refine lv_if_eq (tgt := 136) hx hb dX4_choose_130 rfl (fun hc => ?_) (fun hc => ?_)
      · have h := gz_t h hc
        refine gr_aload_n hx hb (some (gg_o G)) dX4_choose_136 rfl (lv_at hl 0 rfl) ?_
        refine gr_mgA cx hf hI 56 rfl rfl (Or.inl (hts _ q1048)) dX4_choose_137 ?_
        refine gr_aload_n hx hb (some (gg_o G)) dX4_choose_140 rfl (lv_at hl 0 rfl) ?_
        refine nr_gI cx hf hI 55 rfl (fun _ => rfl) rfl (Or.inl (hts _ q1047)) dX4_choose_141 ?_
        refine lv_iload_n hx hb dX4_choose_144 rfl (lv_at hl 3 rfl) ?_
        obtain ⟨M4, e4, h⟩ := g_bind h
        refine gr_miast cx hf hI 56 rfl rfl rfl (nr_sI e4) dX4_choose_145 (fun H locs hI => ?_)
        refine gr_aload_n hx hb (some (gg_o G)) dX4_choose_146 rfl (lv_at hl 0 rfl) ?_
        refine lv_dup hx hb dX4_choose_147 (gl_cat (some (gg_o G))) ?_
        refine nr_gI cx hf hI 55 rfl (fun _ => rfl) rfl (Or.inl (hts _ q1047)) dX4_choose_148 ?_
        refine lv_iconst hx hb dX4_choose_151 gz_ic_1 ?_
        refine lv_iadd hx hb dX4_choose_152 ?_
        obtain ⟨M6, e6, h⟩ := g_bind h
        refine nr_pI cx hf hI 55 rfl rfl rfl (Or.inl (hts _ q1047)) e6 dX4_choose_153 (fun H locs hI => ?_)
        refine gz_iinc (k := 2) (v := (x2 + (1 : Int32))) hx hb dX4_choose_156 hl rfl (congrArg (fun z => x2 + z) gz_ic_1) (by decide) [0, 1] rfl (gz_con ⟨gz_ne rfl, Or.inl (gz_ne rfl)⟩ (gz_con ⟨gz_ne rfl, Or.inr rfl⟩ gz_nil)) (fun ls hl => ?_)
        refine lv_goto (tgt := 7) hx hb dX4_choose_159 rfl ?_
        exact hk7 _ _ _ h p e s m args below meth c H locs cells slots ls cx hnm hex hI (lv_sub hl [1, 2, 0] rfl)
      · have h := gz_f h hc
        refine lv_goto (tgt := 156) hx hb dX4_choose_133 rfl ?_
        refine gz_iinc (k := 2) (v := (x2 + (1 : Int32))) hx hb dX4_choose_156 hl rfl (congrArg (fun z => x2 + z) gz_ic_1) (by decide) [0, 1] rfl (gz_con ⟨gz_ne rfl, Or.inl (gz_ne rfl)⟩ (gz_con ⟨gz_ne rfl, Or.inr rfl⟩ gz_nil)) (fun ls hl => ?_)
        refine lv_goto (tgt := 7) hx hb dX4_choose_159 rfl ?_
        exact hk7 _ _ _ h p e s m args below meth c H locs cells slots ls cx hnm hex hI (lv_sub hl [1, 2, 0] rfl)
    · have h := gz_f h hc
      refine lv_iload hx hb dX4_choose_99 (lv_at hl 4 rfl) ?_
      refine lv_if_ne (tgt := 115) hx hb dX4_choose_101 rfl (fun hc => ?_) (fun hc => ?_)
      · have h := gz_f h hc
        refine lv_iconst hx hb dX4_choose_115 gz_ic_1 ?_
        refine lv_goto (tgt := 120) hx hb dX4_choose_116 rfl ?_
        refine gz_istore hx hb dX4_choose_120 hl (by decide) [0, 1, 2, 3, 5] rfl (gz_con ⟨gz_ne rfl, Or.inl (gz_ne rfl)⟩ (gz_con ⟨gz_ne rfl, Or.inl (gz_ne rfl)⟩ (gz_con ⟨gz_ne rfl, Or.inl (gz_ne rfl)⟩ (gz_con ⟨gz_ne rfl, Or.inr rfl⟩ (gz_con ⟨gz_ne rfl, Or.inl (gz_ne rfl)⟩ gz_nil))))) (fun ls hl => ?_)
        refine gz_iinc (k := 5) (v := (x5 + (1 : Int32))) hx hb dX4_choose_122 hl rfl (congrArg (fun z => x5 + z) gz_ic_1) (by decide) [0, 1, 2, 3, 4] rfl (gz_con ⟨gz_ne rfl, Or.inr rfl⟩ (gz_con ⟨gz_ne rfl, Or.inl (gz_ne rfl)⟩ (gz_con ⟨gz_ne rfl, Or.inl (gz_ne rfl)⟩ (gz_con ⟨gz_ne rfl, Or.inl (gz_ne rfl)⟩ (gz_con ⟨gz_ne rfl, Or.inl (gz_ne rfl)⟩ gz_nil))))) (fun ls hl => ?_)
        refine lv_goto (tgt := 90) hx hb dX4_choose_125 rfl ?_
        exact ih _ _ _ _ _ _ h p e s m args below meth c H locs cells slots ls cx hnm hex hI (lv_sub hl [2, 3, 4, 5, 1, 0] rfl)
      · have h := gz_t h hc
        refine gr_aload_n hx hb (some (gg_o G)) dX4_choose_104 rfl (lv_at hl 0 rfl) ?_
        refine gr_mgA cx hf hI 56 rfl rfl (Or.inl (hts _ q1048)) dX4_choose_105 ?_
        refine lv_iload hx hb dX4_choose_108 (lv_at hl 5 rfl) ?_
        obtain ⟨v8, e8, h⟩ := g_bind h
        refine gr_miald cx hf hI 56 rfl rfl rfl (nr_aI e8) dX4_choose_110 ?_
        refine lv_iload_n hx hb dX4_choose_111 rfl (lv_at hl 3 rfl) ?_
        refine lv_icmp_ne (tgt := 119) hx hb dX4_choose_112 rfl (fun hc => ?_) (fun hc => ?_)
        · have h := gz_f h hc
          refine lv_iconst hx hb dX4_choose_119 gz_ic_0 ?_
          refine gz_istore hx hb dX4_choose_120 hl (by decide) [0, 1, 2, 3, 5] rfl (gz_con ⟨gz_ne rfl, Or.inl (gz_ne rfl)⟩ (gz_con ⟨gz_ne rfl, Or.inl (gz_ne rfl)⟩ (gz_con ⟨gz_ne rfl, Or.inl (gz_ne rfl)⟩ (gz_con ⟨gz_ne rfl, Or.inr rfl⟩ (gz_con ⟨gz_ne rfl, Or.inl (gz_ne rfl)⟩ gz_nil))))) (fun ls hl => ?_)
          refine gz_iinc (k := 5) (v := (x5 + (1 : Int32))) hx hb dX4_choose_122 hl rfl (congrArg (fun z => x5 + z) gz_ic_1) (by decide) [0, 1, 2, 3, 4] rfl (gz_con ⟨gz_ne rfl, Or.inr rfl⟩ (gz_con ⟨gz_ne rfl, Or.inl (gz_ne rfl)⟩ (gz_con ⟨gz_ne rfl, Or.inl (gz_ne rfl)⟩ (gz_con ⟨gz_ne rfl, Or.inl (gz_ne rfl)⟩ (gz_con ⟨gz_ne rfl, Or.inl (gz_ne rfl)⟩ gz_nil))))) (fun ls hl => ?_)
          refine lv_goto (tgt := 90) hx hb dX4_choose_125 rfl ?_
          exact ih _ _ _ _ _ _ h p e s m args below meth c H locs cells slots ls cx hnm hex hI (lv_sub hl [2, 3, 4, 5, 1, 0] rfl)
        · have h := gz_t h hc
          refine lv_iconst hx hb dX4_choose_115 gz_ic_1 ?_
          refine lv_goto (tgt := 120) hx hb dX4_choose_116 rfl ?_
          refine gz_istore hx hb dX4_choose_120 hl (by decide) [0, 1, 2, 3, 5] rfl (gz_con ⟨gz_ne rfl, Or.inl (gz_ne rfl)⟩ (gz_con ⟨gz_ne rfl, Or.inl (gz_ne rfl)⟩ (gz_con ⟨gz_ne rfl, Or.inl (gz_ne rfl)⟩ (gz_con ⟨gz_ne rfl, Or.inr rfl⟩ (gz_con ⟨gz_ne rfl, Or.inl (gz_ne rfl)⟩ gz_nil))))) (fun ls hl => ?_)
          refine gz_iinc (k := 5) (v := (x5 + (1 : Int32))) hx hb dX4_choose_122 hl rfl (congrArg (fun z => x5 + z) gz_ic_1) (by decide) [0, 1, 2, 3, 4] rfl (gz_con ⟨gz_ne rfl, Or.inr rfl⟩ (gz_con ⟨gz_ne rfl, Or.inl (gz_ne rfl)⟩ (gz_con ⟨gz_ne rfl, Or.inl (gz_ne rfl)⟩ (gz_con ⟨gz_ne rfl, Or.inl (gz_ne rfl)⟩ (gz_con ⟨gz_ne rfl, Or.inl (gz_ne rfl)⟩ gz_nil))))) (fun ls hl => ?_)
          refine lv_goto (tgt := 90) hx hb dX4_choose_125 rfl ?_
          exact ih _ _ _ _ _ _ h p e s m args below meth c H locs cells slots ls cx hnm hex hI (lv_sub hl [2, 3, 4, 5, 1, 0] rfl)
theorem T_X4_choose_76 {l : Launch} {G : gG} {S0 S : gm_S} {d0 fu : Nat} {k7 : Int32 → Int32 → gM → gQ} {r : Outcome × gM} (hf : gg_f G = true) (hD : 6 ≤ d0)
    (hk7 : ∀ (x1 : Int32) (x2 : Int32) (M : gM), k7 x1 x2 M = some r → B_X4_choose l d0 G S0 7 [(0, va_rf (some (gg_o G))), (1, .int x1), (2, .int x2)] [] (gm_w S M) r.1 (gm_w S r.2)) {x1 : Int32} {x2 : Int32} {x3 : Int32} {M : gM} (h : F_X4_choose_76 fu k7 x1 x2 x3 M = some r) : B_X4_choose l d0 G S0 76 [(0, va_rf (some (gg_o G))), (1, .int x1), (2, .int x2), (3, .int x3)] [] (gm_w S M) r.1 (gm_w S r.2) := by
  unfold F_X4_choose_76 at h
  intro p e s m args below meth c H locs cells slots ls cx hnm hex hI hl
  have hx := cx.1
  have hb := cx.2.1
  have hown := cx.2.2.2.1
  have hts := cx.2.2.2.2.1
  have hK := cx.2.2.2.2.2.1
  refine lv_iload_n hx hb dX4_choose_76 rfl (lv_at hl 3 rfl) ?_
  refine lv_if_ge (tgt := 84) hx hb dX4_choose_77 rfl (fun hc => ?_) (fun hc => ?_)
  · have h := gz_t h hc
    refine lv_iconst hx hb dX4_choose_84 gz_ic_0 ?_
    refine gz_istore hx hb dX4_choose_85 hl (by decide) [0, 1, 2, 3] rfl (gz_con ⟨gz_ne rfl, Or.inl (gz_ne rfl)⟩ (gz_con ⟨gz_ne rfl, Or.inl (gz_ne rfl)⟩ (gz_con ⟨gz_ne rfl, Or.inl (gz_ne rfl)⟩ (gz_con ⟨gz_ne rfl, Or.inr rfl⟩ gz_nil)))) (fun ls hl => ?_)
    refine lv_iconst hx hb dX4_choose_87 gz_ic_0 ?_
    refine gz_istore hx hb dX4_choose_88 hl (by decide) [0, 1, 2, 3, 4] rfl (gz_con ⟨gz_ne rfl, Or.inr rfl⟩ (gz_con ⟨gz_ne rfl, Or.inl (gz_ne rfl)⟩ (gz_con ⟨gz_ne rfl, Or.inl (gz_ne rfl)⟩ (gz_con ⟨gz_ne rfl, Or.inl (gz_ne rfl)⟩ (gz_con ⟨gz_ne rfl, Or.inl (gz_ne rfl)⟩ gz_nil))))) (fun ls hl => ?_)
    exact T_X4_choose_90 hf hD hk7 fu _ _ _ _ _ _ h p e s m args below meth c H locs cells slots ls cx hnm hex hI (lv_sub hl [2, 3, 4, 5, 1, 0] rfl)
  · have h := gz_f h hc
    refine lv_iconst hx hb dX4_choose_80 gz_ic_1 ?_
    refine lv_goto (tgt := 85) hx hb dX4_choose_81 rfl ?_
    refine gz_istore hx hb dX4_choose_85 hl (by decide) [0, 1, 2, 3] rfl (gz_con ⟨gz_ne rfl, Or.inl (gz_ne rfl)⟩ (gz_con ⟨gz_ne rfl, Or.inl (gz_ne rfl)⟩ (gz_con ⟨gz_ne rfl, Or.inl (gz_ne rfl)⟩ (gz_con ⟨gz_ne rfl, Or.inr rfl⟩ gz_nil)))) (fun ls hl => ?_)
    refine lv_iconst hx hb dX4_choose_87 gz_ic_0 ?_
    refine gz_istore hx hb dX4_choose_88 hl (by decide) [0, 1, 2, 3, 4] rfl (gz_con ⟨gz_ne rfl, Or.inr rfl⟩ (gz_con ⟨gz_ne rfl, Or.inl (gz_ne rfl)⟩ (gz_con ⟨gz_ne rfl, Or.inl (gz_ne rfl)⟩ (gz_con ⟨gz_ne rfl, Or.inl (gz_ne rfl)⟩ (gz_con ⟨gz_ne rfl, Or.inl (gz_ne rfl)⟩ gz_nil))))) (fun ls hl => ?_)
    exact T_X4_choose_90 hf hD hk7 fu _ _ _ _ _ _ h p e s m args below meth c H locs cells slots ls cx hnm hex hI (lv_sub hl [2, 3, 4, 5, 1, 0] rfl)
theorem T_X4_choose_48 {l : Launch} {G : gG} {S0 S : gm_S} {d0 fu : Nat} {k7 : Int32 → Int32 → gM → gQ} {r : Outcome × gM} (hf : gg_f G = true) (hD : 6 ≤ d0)
    (hk7 : ∀ (x1 : Int32) (x2 : Int32) (M : gM), k7 x1 x2 M = some r → B_X4_choose l d0 G S0 7 [(0, va_rf (some (gg_o G))), (1, .int x1), (2, .int x2)] [] (gm_w S M) r.1 (gm_w S r.2)) : ∀ (n : Nat) (x1 : Int32) (x2 : Int32) (x3 : Int32) (x4 : Int32) (M : gM), F_X4_choose_48 fu k7 n x1 x2 x3 x4 M = some r → B_X4_choose l d0 G S0 48 [(0, va_rf (some (gg_o G))), (1, .int x1), (2, .int x2), (3, .int x3), (4, .int x4)] [] (gm_w S M) r.1 (gm_w S r.2) := by
  intro n
  induction n with
  | zero => intro x1 x2 x3 x4 M h; exact nomatch (show (none : gQ) = some r from h)
  | succ n ih =>
    intro x1 x2 x3 x4 M h
    rw [F_X4_choose_48] at h
    intro p e s m args below meth c H locs cells slots ls cx hnm hex hI hl
    have hx := cx.1
    have hb := cx.2.1
    have hown := cx.2.2.2.1
    have hts := cx.2.2.2.2.1
    have hK := cx.2.2.2.2.2.1
    refine lv_iload hx hb dX4_choose_48 (lv_at hl 4 rfl) ?_
    refine lv_if_lt (tgt := 76) hx hb dX4_choose_50 rfl (fun hc => ?_) (fun hc => ?_)
    · have h := gz_t h hc
      exact T_X4_choose_76 hf hD hk7 h p e s m args below meth c H locs cells slots ls cx hnm hex hI (lv_sub hl [0, 1, 2, 3] rfl)
    · have h := gz_f h hc
      refine lv_iload_n hx hb dX4_choose_53 rfl (lv_at hl 3 rfl) ?_
      refine lv_if_ge (tgt := 76) hx hb dX4_choose_54 rfl (fun hc => ?_) (fun hc => ?_)
      · have h := gz_t h hc
        exact T_X4_choose_76 hf hD hk7 h p e s m args below meth c H locs cells slots ls cx hnm hex hI (lv_sub hl [0, 1, 2, 3] rfl)
      · have h := gz_f h hc
        refine gr_aload_n hx hb (some (gg_o G)) dX4_choose_57 rfl (lv_at hl 0 rfl) ?_
        refine lv_iload hx hb dX4_choose_58 (lv_at hl 4 rfl) ?_
        refine lv_iload_n hx hb dX4_choose_60 rfl (lv_at hl 1 rfl) ?_
        refine C_X4_firstOf hf cx (gz_nh hex) hI (Or.inl (hts _ q1323)) hl.1 (gz_cs (Nat.le_of_ble_eq_true rfl)) (by omega) dX4_choose_61 h (fun v1 M1 h H locs cells slots hI => ?_)
        refine gz_istore_n hx hb dX4_choose_64 rfl hl (by decide) [0, 1, 2, 4] rfl (gz_con ⟨gz_ne rfl, Or.inl (gz_ne rfl)⟩ (gz_con ⟨gz_ne rfl, Or.inl (gz_ne rfl)⟩ (gz_con ⟨gz_ne rfl, Or.inr rfl⟩ (gz_con ⟨gz_ne rfl, Or.inl (gz_ne rfl)⟩ gz_nil)))) (fun ls hl => ?_)
        refine gr_aload_n hx hb (some (gg_o G)) dX4_choose_65 rfl (lv_at hl 1 rfl) ?_
        refine lv_iload hx hb dX4_choose_66 (lv_at hl 4 rfl) ?_
        refine C_X4_outerOf hf cx (gz_nh hex) hI (Or.inl (hts _ q1289)) hl.1 (gz_cs (Nat.le_of_ble_eq_true rfl)) (by omega) dX4_choose_68 h (fun v2 M2 h H locs cells slots hI => ?_)
        refine gz_istore hx hb dX4_choose_71 hl (by decide) [0, 1, 2, 3] rfl (gz_con ⟨gz_ne rfl, Or.inr rfl⟩ (gz_con ⟨gz_ne rfl, Or.inl (gz_ne rfl)⟩ (gz_con ⟨gz_ne rfl, Or.inl (gz_ne rfl)⟩ (gz_con ⟨gz_ne rfl, Or.inl (gz_ne rfl)⟩ gz_nil)))) (fun ls hl => ?_)
        refine lv_goto (tgt := 48) hx hb dX4_choose_73 rfl ?_
        exact ih _ _ _ _ _ h p e s m args below meth c H locs cells slots ls cx hnm hex hI (lv_sub hl [2, 3, 4, 1, 0] rfl)
theorem T_X4_choose_7 {l : Launch} {G : gG} {S0 S : gm_S} {d0 fu : Nat} {r : Outcome × gM} (hf : gg_f G = true) (hD : 6 ≤ d0) : ∀ (n : Nat) (x1 : Int32) (x2 : Int32) (M : gM), F_X4_choose_7 fu n x1 x2 M = some r → B_X4_choose l d0 G S0 7 [(0, va_rf (some (gg_o G))), (1, .int x1), (2, .int x2)] [] (gm_w S M) r.1 (gm_w S r.2) := by
  intro n
  induction n with
  | zero => intro x1 x2 M h; exact nomatch (show (none : gQ) = some r from h)
  | succ n ih =>
    intro x1 x2 M h
    rw [F_X4_choose_7] at h
    intro p e s m args below meth c H locs cells slots ls cx hnm hex hI hl
    have hx := cx.1
    have hb := cx.2.1
    have hown := cx.2.2.2.1
    have hts := cx.2.2.2.2.1
    have hK := cx.2.2.2.2.2.1
    refine lv_iload_n hx hb dX4_choose_7 rfl (lv_at hl 2 rfl) ?_
    refine gr_aload_n hx hb (some (gg_o G)) dX4_choose_8 rfl (lv_at hl 0 rfl) ?_
    refine gr_mgA cx hf hI 9 rfl rfl (Or.inl (hts _ q1001)) dX4_choose_9 ?_
    refine gr_aload_n hx hb (some (gg_o G)) dX4_choose_12 rfl (lv_at hl 0 rfl) ?_
    refine nr_gI cx hf hI 7 rfl (fun _ => rfl) rfl (Or.inl (hts _ q999)) dX4_choose_13 ?_
    obtain ⟨v3, e3, h⟩ := g_bind h
    refine gr_miald cx hf hI 9 rfl rfl rfl (nr_aI e3) dX4_choose_16 ?_
    refine lv_icmp_ge (tgt := 162) hx hb dX4_choose_17 rfl (fun hc => ?_) (fun hc => ?_)
    · have h := gz_t h hc
      refine lv_iconst hx hb dX4_choose_162 gz_ic_0 ?_
      refine gz_istore_n hx hb dX4_choose_163 rfl hl (by decide) [0] rfl (gz_con ⟨gz_ne rfl, Or.inl (gz_ne rfl)⟩ gz_nil) (fun ls hl => ?_)
      exact T_X4_choose_164 hf hD fu _ _ h p e s m args below meth c H locs cells slots ls cx hnm hex hI (lv_sub hl [1, 0] rfl)
    · have h := gz_f h hc
      refine gr_aload_n hx hb (some (gg_o G)) dX4_choose_20 rfl (lv_at hl 0 rfl) ?_
      refine lv_iload_n hx hb dX4_choose_21 rfl (lv_at hl 2 rfl) ?_
      refine C_X4_kindOf hf cx (gz_nh hex) hI (Or.inl (hts _ q1281)) hl.1 (gz_cs (Nat.le_of_ble_eq_true rfl)) (by omega) dX4_choose_22 h (fun v4 M4 h H locs cells slots hI => ?_)
      refine lv_if_ne (tgt := 156) hx hb dX4_choose_25 rfl (fun hc => ?_) (fun hc => ?_)
      · have h := gz_f h hc
        refine gz_iinc (k := 2) (v := (x2 + (1 : Int32))) hx hb dX4_choose_156 hl rfl (congrArg (fun z => x2 + z) gz_ic_1) (by decide) [0, 1] rfl (gz_con ⟨gz_ne rfl, Or.inl (gz_ne rfl)⟩ (gz_con ⟨gz_ne rfl, Or.inr rfl⟩ gz_nil)) (fun ls hl => ?_)
        refine lv_goto (tgt := 7) hx hb dX4_choose_159 rfl ?_
        exact ih _ _ _ h p e s m args below meth c H locs cells slots ls cx hnm hex hI (lv_sub hl [1, 2, 0] rfl)
      · have h := gz_t h hc
        refine gr_aload_n hx hb (some (gg_o G)) dX4_choose_28 rfl (lv_at hl 0 rfl) ?_
        refine gr_aload_n hx hb (some (gg_o G)) dX4_choose_29 rfl (lv_at hl 0 rfl) ?_
        refine nr_gI cx hf hI 41 rfl (fun _ => rfl) rfl (Or.inl (hts _ q1033)) dX4_choose_30 ?_
        refine lv_iload_n hx hb dX4_choose_33 rfl (lv_at hl 2 rfl) ?_
        refine C_X4_isIn hf cx (gz_nh hex) hI (Or.inl (hts _ q1297)) hl.1 (gz_cs (Nat.le_of_ble_eq_true rfl)) (by omega) dX4_choose_34 h (fun v6 M6 h H locs cells slots hI => ?_)
        refine lv_if_ne (tgt := 43) hx hb dX4_choose_37 rfl (fun hc => ?_) (fun hc => ?_)
        · have h := gz_f h hc
          refine lv_iconst hx hb dX4_choose_43 gz_ic_m1 ?_
          refine gz_istore_n hx hb dX4_choose_44 rfl hl (by decide) [0, 1, 2] rfl (gz_con ⟨gz_ne rfl, Or.inl (gz_ne rfl)⟩ (gz_con ⟨gz_ne rfl, Or.inl (gz_ne rfl)⟩ (gz_con ⟨gz_ne rfl, Or.inr rfl⟩ gz_nil))) (fun ls hl => ?_)
          refine lv_iload_n hx hb dX4_choose_45 rfl (lv_at hl 3 rfl) ?_
          refine gz_istore hx hb dX4_choose_46 hl (by decide) [0, 1, 2, 3] rfl (gz_con ⟨gz_ne rfl, Or.inr rfl⟩ (gz_con ⟨gz_ne rfl, Or.inl (gz_ne rfl)⟩ (gz_con ⟨gz_ne rfl, Or.inl (gz_ne rfl)⟩ (gz_con ⟨gz_ne rfl, Or.inl (gz_ne rfl)⟩ gz_nil)))) (fun ls hl => ?_)
          exact T_X4_choose_48 hf hD ih fu _ _ _ _ _ h p e s m args below meth c H locs cells slots ls cx hnm hex hI (lv_sub hl [2, 3, 4, 1, 0] rfl)
        · have h := gz_t h hc
          refine lv_goto (tgt := 156) hx hb dX4_choose_40 rfl ?_
          refine gz_iinc (k := 2) (v := (x2 + (1 : Int32))) hx hb dX4_choose_156 hl rfl (congrArg (fun z => x2 + z) gz_ic_1) (by decide) [0, 1] rfl (gz_con ⟨gz_ne rfl, Or.inl (gz_ne rfl)⟩ (gz_con ⟨gz_ne rfl, Or.inr rfl⟩ gz_nil)) (fun ls hl => ?_)
          refine lv_goto (tgt := 7) hx hb dX4_choose_159 rfl ?_
          exact ih _ _ _ h p e s m args below meth c H locs cells slots ls cx hnm hex hI (lv_sub hl [1, 2, 0] rfl)
theorem T_X4_choose {l : Launch} {G : gG} {S0 S : gm_S} {d0 fu : Nat} {r : Outcome × gM} (hf : gg_f G = true) (hD : 6 ≤ d0) {x1 : Int32} {M : gM} (h : F_X4_choose fu x1 M = some r) : B_X4_choose l d0 G S0 0 [(0, va_rf (some (gg_o G))), (1, .int x1)] [] (gm_w S M) r.1 (gm_w S r.2) := by
  unfold F_X4_choose at h
  intro p e s m args below meth c H locs cells slots ls cx hnm hex hI hl
  have hx := cx.1
  have hb := cx.2.1
  have hown := cx.2.2.2.1
  have hts := cx.2.2.2.2.1
  have hK := cx.2.2.2.2.2.1
  refine gr_aload_n hx hb (some (gg_o G)) dX4_choose_0 rfl (lv_at hl 0 rfl) ?_
  refine lv_iconst hx hb dX4_choose_1 gz_ic_0 ?_
  obtain ⟨M1, e1, h⟩ := g_bind h
  refine nr_pI cx hf hI 55 rfl rfl rfl (Or.inl (hts _ q1047)) e1 dX4_choose_2 (fun H locs hI => ?_)
  refine lv_iconst hx hb dX4_choose_5 gz_ic_0 ?_
  refine gz_istore_n hx hb dX4_choose_6 rfl hl (by decide) [0, 1] rfl (gz_con ⟨gz_ne rfl, Or.inl (gz_ne rfl)⟩ (gz_con ⟨gz_ne rfl, Or.inr rfl⟩ gz_nil)) (fun ls hl => ?_)
  exact T_X4_choose_7 hf hD fu _ _ _ h p e s m args below meth c H locs cells slots ls cx hnm hex hI (lv_sub hl [1, 2, 0] rfl)
theorem M_X4_choose {l : Launch} {G : gG} {fu d0 : Nat} (hf : gg_f G = true) (hfl : l.flags = flags0) (hD : 6 ≤ d0) {x1 : Int32} {S : gm_S} {M : gM} {o : Outcome} {M2 : gM} (h : F_X4_choose fu x1 M = some (o, M2)) : gx_Met l yX4_choose (ws_ yX4_choose cX4_choose 6 (Option.none : Option Jvm.ClassFile.FieldType)) d0 G (gm_w S M) [va_rf (some (gg_o G)), .int x1] o (gm_w S M2) := by
  refine gx_of hfl (by decide) (fun p e s m below meth c cx hnm hex hI => ?_)
  rw [lg_entry_eq]
  exact T_X4_choose (r := (o, M2)) hf hD h p e s m _ below meth c _ _ _ _ _ cx hnm (gz_nh0 hex) hI (lv_entry _ (Nat.le_of_ble_eq_true rfl))
theorem C_X4_choose {p : Program} {l : Launch} {e : Env} {s : State} {m : MethodId} {args : Array Value} {below : List Frame} {meth : Method} {c : Code} {H : Heap} {locs : List Loc} {cells slots : Nat} {cc : ByteArray} {pc nL : Nat} {ls : Array Slot} {rest : List Value} {G : gG} {S0 S : gm_S} {own : String} {ret : Option FieldType} {d0 index fu : Nat} {M : gM} {x1 : Int32} {k : gM → gQ} {r : Outcome × gM} (hf : gg_f G = true) (cx : gx_cx p l s m args meth c G own cc nL ret) (hex : ∀ x ∈ c.exceptionTable.toList, covers x pc = false) (hI : gw_I G S0 (gm_w S M) H locs cells slots) (hl : gl_M own index yX4_choose args s) (hlv : ls.size = nL) (hrest : (rest.map fun v => v.category).sum ≤ 8) (hD : 7 ≤ d0) (hdg : decode cc pc = .ok (.invokevirtual index, 3)) (h : gz_cV (F_X4_choose fu x1 M) k = some r)
    (kk : ∀ (z : gM), k z = some r → ∀ (H : Heap) (locs : List Loc) (cells slots : Nat), gw_I G S0 (gm_w S z) H locs cells slots → W p l e (gx_rm d0 S0) s m args below meth c H locs cells slots (gx_MQ below G S0 (gm_w S r.2) r.1 s) (F0 m (pc + 3) ls rest)) : W p l e (gx_rm d0 S0) s m args below meth c H locs cells slots (gx_MQ below G S0 (gm_w S r.2) r.1 s) (F0 m pc ls (.int x1 :: va_rf (some (gg_o G)) :: rest)) := by
  have hts := cx.2.2.2.2.1
  have hK := cx.2.2.2.2.2.1
  exact gz_goV (d := d0 - 1) (gm_w S) cx hex hI hlv hrest (by omega) (Nat.le_of_ble_eq_true rfl) (gz_ws (lw_meth q1322) hts) (hts _ q78) (gb_rawV (As := [.int x1]) cx hl (hts _ q1321) (hts _ qs57) (gl_C.code (hts _ q1322)) hy_X4_choose (gr_recvM hK hI.1 hf) rfl rfl hdg) (fun o S2 e => M_X4_choose hf cx.2.2.2.2.2.2.2.2 (by omega) e) h kk
abbrev B_X4_down (l : Launch) (d0 : Nat) (G : gG) (S0 : gm_S) : Nat → List (Nat × Value) → List Value → gm_S → Outcome → gm_S → Prop := gz_B l RX4 "down" cX4_down 6 (Option.none : Option Jvm.ClassFile.FieldType) [] d0 G S0
theorem T_X4_down_136 {l : Launch} {G : gG} {S0 S : gm_S} {d0 fu : Nat} {k9 : Int32 → gM → gQ} {k76 : Int32 → Int32 → Int32 → Int32 → gM → gQ} {r : Outcome × gM} (hf : gg_f G = true) (hD : 3 ≤ d0)
    (hk9 : ∀ (x2 : Int32) (M : gM), k9 x2 M = some r → B_X4_down l d0 G S0 9 [(0, va_rf (some (gg_o G))), (2, .int x2)] [] (gm_w S M) r.1 (gm_w S r.2))
    (hk76 : ∀ (x2 : Int32) (x3 : Int32) (x4 : Int32) (x5 : Int32) (M : gM), k76 x2 x3 x4 x5 M = some r → B_X4_down l d0 G S0 76 [(0, va_rf (some (gg_o G))), (2, .int x2), (3, .int x3), (4, .int x4), (5, .int x5)] [] (gm_w S M) r.1 (gm_w S r.2)) {x2 : Int32} {x3 : Int32} {x5 : Int32} {M : gM} (h : F_X4_down_136 fu k9 k76 x2 x3 x5 M = some r) : B_X4_down l d0 G S0 136 [(0, va_rf (some (gg_o G))), (2, .int x2), (3, .int x3), (5, .int x5)] [] (gm_w S M) r.1 (gm_w S r.2) := by
  unfold F_X4_down_136 at h
  intro p e s m args below meth c H locs cells slots ls cx hnm hex hI hl
  have hx := cx.1
  have hb := cx.2.1
  have hown := cx.2.2.2.1
  have hts := cx.2.2.2.2.1
  have hK := cx.2.2.2.2.2.1
  refine lv_iconst hx hb dX4_down_136 gz_ic_0 ?_
  refine gz_istore hx hb dX4_down_137 hl (by decide) [0, 1, 2, 3] rfl (gz_con ⟨gz_ne rfl, Or.inl (gz_ne rfl)⟩ (gz_con ⟨gz_ne rfl, Or.inl (gz_ne rfl)⟩ (gz_con ⟨gz_ne rfl, Or.inr rfl⟩ (gz_con ⟨gz_ne rfl, Or.inl (gz_ne rfl)⟩ gz_nil)))) (fun ls hl => ?_)
  refine gr_aload_n hx hb (some (gg_o G)) dX4_down_139 rfl (lv_at hl 1 rfl) ?_
  refine gr_mgA cx hf hI 61 rfl rfl (Or.inl (hts _ q1053)) dX4_down_140 ?_
  refine lv_iload_n hx hb dX4_down_143 rfl (lv_at hl 2 rfl) ?_
  refine lv_iload hx hb dX4_down_144 (lv_at hl 4 rfl) ?_
  obtain ⟨M2, e2, h⟩ := g_bind h
  refine gr_miast cx hf hI 61 rfl rfl rfl (nr_sI e2) dX4_down_146 (fun H locs hI => ?_)
  refine gz_iinc (k := 2) (v := (x2 + (1 : Int32))) hx hb dX4_down_147 hl rfl (congrArg (fun z => x2 + z) gz_ic_1) (by decide) [0, 1, 3, 4] rfl (gz_con ⟨gz_ne rfl, Or.inl (gz_ne rfl)⟩ (gz_con ⟨gz_ne rfl, Or.inl (gz_ne rfl)⟩ (gz_con ⟨gz_ne rfl, Or.inl (gz_ne rfl)⟩ (gz_con ⟨gz_ne rfl, Or.inl (gz_ne rfl)⟩ gz_nil)))) (fun ls hl => ?_)
  refine gz_iinc (k := 4) (v := (x5 + (1 : Int32))) hx hb dX4_down_150 hl rfl (congrArg (fun z => x5 + z) gz_ic_1) (by decide) [0, 1, 2, 3] rfl (gz_con ⟨gz_ne rfl, Or.inl (gz_ne rfl)⟩ (gz_con ⟨gz_ne rfl, Or.inr rfl⟩ (gz_con ⟨gz_ne rfl, Or.inl (gz_ne rfl)⟩ (gz_con ⟨gz_ne rfl, Or.inl (gz_ne rfl)⟩ gz_nil)))) (fun ls hl => ?_)
  refine lv_goto (tgt := 76) hx hb dX4_down_153 rfl ?_
  exact hk76 _ _ _ _ _ h p e s m args below meth c H locs cells slots ls cx hnm hex hI (lv_sub hl [3, 1, 4, 2, 0] rfl)
theorem T_X4_down_76 {l : Launch} {G : gG} {S0 S : gm_S} {d0 fu : Nat} {k9 : Int32 → gM → gQ} {r : Outcome × gM} (hf : gg_f G = true) (hD : 3 ≤ d0)
    (hk9 : ∀ (x2 : Int32) (M : gM), k9 x2 M = some r → B_X4_down l d0 G S0 9 [(0, va_rf (some (gg_o G))), (2, .int x2)] [] (gm_w S M) r.1 (gm_w S r.2)) : ∀ (n : Nat) (x2 : Int32) (x3 : Int32) (x4 : Int32) (x5 : Int32) (M : gM), F_X4_down_76 fu k9 n x2 x3 x4 x5 M = some r → B_X4_down l d0 G S0 76 [(0, va_rf (some (gg_o G))), (2, .int x2), (3, .int x3), (4, .int x4), (5, .int x5)] [] (gm_w S M) r.1 (gm_w S r.2) := by
  intro n
  induction n with
  | zero => intro x2 x3 x4 x5 M h; exact nomatch (show (none : gQ) = some r from h)
  | succ n ih =>
    intro x2 x3 x4 x5 M h
    rw [F_X4_down_76] at h
    intro p e s m args below meth c H locs cells slots ls cx hnm hex hI hl
    have hx := cx.1
    have hb := cx.2.1
    have hown := cx.2.2.2.1
    have hts := cx.2.2.2.2.1
    have hK := cx.2.2.2.2.2.1
    refine lv_iload hx hb dX4_down_76 (lv_at hl 4 rfl) ?_
    refine gr_aload_n hx hb (some (gg_o G)) dX4_down_78 rfl (lv_at hl 0 rfl) ?_
    refine gr_mgA cx hf hI 9 rfl rfl (Or.inl (hts _ q1001)) dX4_down_79 ?_
    refine gr_aload_n hx hb (some (gg_o G)) dX4_down_82 rfl (lv_at hl 0 rfl) ?_
    refine nr_gI cx hf hI 7 rfl (fun _ => rfl) rfl (Or.inl (hts _ q999)) dX4_down_83 ?_
    obtain ⟨v3, e3, h⟩ := g_bind h
    refine gr_miald cx hf hI 9 rfl rfl rfl (nr_aI e3) dX4_down_86 ?_
    refine lv_icmp_ge (tgt := 156) hx hb dX4_down_87 rfl (fun hc => ?_) (fun hc => ?_)
    · have h := gz_t h hc
      refine lv_goto (tgt := 9) hx hb dX4_down_156 rfl ?_
      exact hk9 _ _ h p e s m args below meth c H locs cells slots ls cx hnm hex hI (lv_sub hl [0, 1] rfl)
    · have h := gz_f h hc
      refine gr_aload_n hx hb (some (gg_o G)) dX4_down_90 rfl (lv_at hl 0 rfl) ?_
      refine lv_iload hx hb dX4_down_91 (lv_at hl 4 rfl) ?_
      refine C_X4_outerOf hf cx (gz_nh hex) hI (Or.inl (hts _ q1289)) hl.1 (gz_cs (Nat.le_of_ble_eq_true rfl)) (by omega) dX4_down_93 h (fun v4 M4 h H locs cells slots hI => ?_)
      refine lv_iload_n hx hb dX4_down_96 rfl (lv_at hl 2 rfl) ?_
      refine lv_icmp_ne (tgt := 150) hx hb dX4_down_97 rfl (fun hc => ?_) (fun hc => ?_)
      · have h := gz_f h hc
        refine gz_iinc (k := 4) (v := (x5 + (1 : Int32))) hx hb dX4_down_150 hl rfl (congrArg (fun z => x5 + z) gz_ic_1) (by decide) [0, 1, 2, 3] rfl (gz_con ⟨gz_ne rfl, Or.inl (gz_ne rfl)⟩ (gz_con ⟨gz_ne rfl, Or.inl (gz_ne rfl)⟩ (gz_con ⟨gz_ne rfl, Or.inl (gz_ne rfl)⟩ (gz_con ⟨gz_ne rfl, Or.inr rfl⟩ gz_nil)))) (fun ls hl => ?_)
        refine lv_goto (tgt := 76) hx hb dX4_down_153 rfl ?_
        exact ih _ _ _ _ _ h p e s m args below meth c H locs cells slots ls cx hnm hex hI (lv_sub hl [1, 2, 3, 4, 0] rfl)
      · have h := gz_t h hc
        refine gr_aload_n hx hb (some (gg_o G)) dX4_down_100 rfl (lv_at hl 0 rfl) ?_
        refine nr_gI cx hf hI 60 rfl (fun _ => rfl) rfl (Or.inl (hts _ q1052)) dX4_down_101 ?_
        refine gr_aload_n hx hb (some (gg_o G)) dX4_down_104 rfl (lv_at hl 0 rfl) ?_
        refine lv_iload hx hb dX4_down_105 (lv_at hl 4 rfl) ?_
        refine C_X4_belowOf hf cx (gz_nh hex) hI (Or.inl (hts _ q1285)) hl.1 (gz_cs (Nat.le_of_ble_eq_true rfl)) (by omega) dX4_down_107 h (fun v6 M6 h H locs cells slots hI => ?_)
        refine lv_iconst hx hb dX4_down_110 gz_ic_1 ?_
        refine lv_iload hx hb dX4_down_111 (lv_at hl 4 rfl) ?_
        refine lv_ishl hx hb dX4_down_113 ?_
        refine lv_ior hx hb dX4_down_114 ?_
        refine lv_iand hx hb dX4_down_115 ?_
        refine lv_if_ne (tgt := 150) hx hb dX4_down_116 rfl (fun hc => ?_) (fun hc => ?_)
        · have h := gz_f h hc
          refine gz_iinc (k := 4) (v := (x5 + (1 : Int32))) hx hb dX4_down_150 hl rfl (congrArg (fun z => x5 + z) gz_ic_1) (by decide) [0, 1, 2, 3] rfl (gz_con ⟨gz_ne rfl, Or.inl (gz_ne rfl)⟩ (gz_con ⟨gz_ne rfl, Or.inl (gz_ne rfl)⟩ (gz_con ⟨gz_ne rfl, Or.inl (gz_ne rfl)⟩ (gz_con ⟨gz_ne rfl, Or.inr rfl⟩ gz_nil)))) (fun ls hl => ?_)
          refine lv_goto (tgt := 76) hx hb dX4_down_153 rfl ?_
          exact ih _ _ _ _ _ h p e s m args below meth c H locs cells slots ls cx hnm hex hI (lv_sub hl [1, 2, 3, 4, 0] rfl)
        · have h := gz_t h hc
          refine gr_aload_n hx hb (some (gg_o G)) dX4_down_119 rfl (lv_at hl 0 rfl) ?_
          refine lv_iload_n hx hb dX4_down_120 rfl (lv_at hl 2 rfl) ?_
          refine C_X4_kindOf hf cx (gz_nh hex) hI (Or.inl (hts _ q1281)) hl.1 (gz_cs (Nat.le_of_ble_eq_true rfl)) (by omega) dX4_down_121 h (fun v7 M7 h H locs cells slots hI => ?_)
          refine lv_iconst hx hb dX4_down_124 gz_ic_1 ?_
          refine lv_icmp_ne (tgt := 136) hx hb dX4_down_125 rfl (fun hc => ?_) (fun hc => ?_)
          · have h := gz_f h hc
            exact T_X4_down_136 hf hD hk9 ih h p e s m args below meth c H locs cells slots ls cx hnm hex hI (lv_sub hl [0, 1, 2, 4] rfl)
          · have h := gz_t h hc
            refine lv_iload hx hb dX4_down_128 (lv_at hl 3 rfl) ?_
            refine lv_if_ne (tgt := 136) hx hb dX4_down_130 rfl (fun hc => ?_) (fun hc => ?_)
            · have h := gz_f h hc
              exact T_X4_down_136 hf hD hk9 ih h p e s m args below meth c H locs cells slots ls cx hnm hex hI (lv_sub hl [0, 1, 2, 4] rfl)
            · have h := gz_t h hc
              refine lv_goto (tgt := 150) hx hb dX4_down_133 rfl ?_
              refine gz_iinc (k := 4) (v := (x5 + (1 : Int32))) hx hb dX4_down_150 hl rfl (congrArg (fun z => x5 + z) gz_ic_1) (by decide) [0, 1, 2, 3] rfl (gz_con ⟨gz_ne rfl, Or.inl (gz_ne rfl)⟩ (gz_con ⟨gz_ne rfl, Or.inl (gz_ne rfl)⟩ (gz_con ⟨gz_ne rfl, Or.inl (gz_ne rfl)⟩ (gz_con ⟨gz_ne rfl, Or.inr rfl⟩ gz_nil)))) (fun ls hl => ?_)
              refine lv_goto (tgt := 76) hx hb dX4_down_153 rfl ?_
              exact ih _ _ _ _ _ h p e s m args below meth c H locs cells slots ls cx hnm hex hI (lv_sub hl [1, 2, 3, 4, 0] rfl)
theorem T_X4_down_9 {l : Launch} {G : gG} {S0 S : gm_S} {d0 fu : Nat} {r : Outcome × gM} (hf : gg_f G = true) (hD : 3 ≤ d0) : ∀ (n : Nat) (x2 : Int32) (M : gM), F_X4_down_9 fu n x2 M = some r → B_X4_down l d0 G S0 9 [(0, va_rf (some (gg_o G))), (2, .int x2)] [] (gm_w S M) r.1 (gm_w S r.2) := by
  intro n
  induction n with
  | zero => intro x2 M h; exact nomatch (show (none : gQ) = some r from h)
  | succ n ih =>
    intro x2 M h
    rw [F_X4_down_9] at h
    intro p e s m args below meth c H locs cells slots ls cx hnm hex hI hl
    have hx := cx.1
    have hb := cx.2.1
    have hown := cx.2.2.2.1
    have hts := cx.2.2.2.2.1
    have hK := cx.2.2.2.2.2.1
    refine lv_iload_n hx hb dX4_down_9 rfl (lv_at hl 1 rfl) ?_
    refine lv_if_le (tgt := 159) hx hb dX4_down_10 rfl (fun hc => ?_) (fun hc => ?_)
    · have h := gz_t h hc
      cases h
      exact gr_vret cx hI dX4_down_159
    · have h := gz_f h hc
      refine gz_iinc (k := 1) (v := (x2 + (-1 : Int32))) hx hb dX4_down_13 hl rfl (congrArg (fun z => x2 + z) gz_ic_m1) (by decide) [0] rfl (gz_con ⟨gz_ne rfl, Or.inl (gz_ne rfl)⟩ gz_nil) (fun ls hl => ?_)
      refine gr_aload_n hx hb (some (gg_o G)) dX4_down_16 rfl (lv_at hl 1 rfl) ?_
      refine gr_mgA cx hf hI 61 rfl rfl (Or.inl (hts _ q1053)) dX4_down_17 ?_
      refine lv_iload_n hx hb dX4_down_20 rfl (lv_at hl 0 rfl) ?_
      obtain ⟨v2, e2, h⟩ := g_bind h
      refine gr_miald cx hf hI 61 rfl rfl rfl (nr_aI e2) dX4_down_21 ?_
      refine gz_istore_n hx hb dX4_down_22 rfl hl (by decide) [0, 1] rfl (gz_con ⟨gz_ne rfl, Or.inr rfl⟩ (gz_con ⟨gz_ne rfl, Or.inl (gz_ne rfl)⟩ gz_nil)) (fun ls hl => ?_)
      refine gr_aload_n hx hb (some (gg_o G)) dX4_down_23 rfl (lv_at hl 2 rfl) ?_
      refine lv_dup hx hb dX4_down_24 (gl_cat (some (gg_o G))) ?_
      refine nr_gI cx hf hI 60 rfl (fun _ => rfl) rfl (Or.inl (hts _ q1052)) dX4_down_25 ?_
      refine lv_iconst hx hb dX4_down_28 gz_ic_1 ?_
      refine lv_iload_n hx hb dX4_down_29 rfl (lv_at hl 0 rfl) ?_
      refine lv_ishl hx hb dX4_down_30 ?_
      refine lv_ior hx hb dX4_down_31 ?_
      obtain ⟨M4, e4, h⟩ := g_bind h
      refine nr_pI cx hf hI 60 rfl rfl rfl (Or.inl (hts _ q1052)) e4 dX4_down_32 (fun H locs hI => ?_)
      refine gr_aload_n hx hb (some (gg_o G)) dX4_down_35 rfl (lv_at hl 2 rfl) ?_
      refine lv_iload_n hx hb dX4_down_36 rfl (lv_at hl 0 rfl) ?_
      refine C_X4_kindOf hf cx (gz_nh hex) hI (Or.inl (hts _ q1281)) hl.1 (gz_cs (Nat.le_of_ble_eq_true rfl)) (by omega) dX4_down_37 h (fun v5 M5 h H locs cells slots hI => ?_)
      refine lv_if_eq (tgt := 9) hx hb dX4_down_40 rfl (fun hc => ?_) (fun hc => ?_)
      · have h := gz_t h hc
        exact ih _ _ h p e s m args below meth c H locs cells slots ls cx hnm hex hI (lv_sub hl [2, 1] rfl)
      · have h := gz_f h hc
        refine gr_aload_n hx hb (some (gg_o G)) dX4_down_43 rfl (lv_at hl 2 rfl) ?_
        refine lv_iload_n hx hb dX4_down_44 rfl (lv_at hl 0 rfl) ?_
        refine C_X4_kindOf hf cx (gz_nh hex) hI (Or.inl (hts _ q1281)) hl.1 (gz_cs (Nat.le_of_ble_eq_true rfl)) (by omega) dX4_down_45 h (fun v6 M6 h H locs cells slots hI => ?_)
        refine lv_iconst hx hb dX4_down_48 gz_ic_1 ?_
        refine lv_icmp_ne (tgt := 68) hx hb dX4_down_49 rfl (fun hc => ?_) (fun hc => ?_)
        · have h := gz_f h hc
          refine lv_iconst hx hb dX4_down_68 gz_ic_1 ?_
          refine gz_istore hx hb dX4_down_69 hl (by decide) [0, 1, 2] rfl (gz_con ⟨gz_ne rfl, Or.inr rfl⟩ (gz_con ⟨gz_ne rfl, Or.inl (gz_ne rfl)⟩ (gz_con ⟨gz_ne rfl, Or.inl (gz_ne rfl)⟩ gz_nil))) (fun ls hl => ?_)
          refine lv_iload_n hx hb dX4_down_71 rfl (lv_at hl 1 rfl) ?_
          refine lv_iconst hx hb dX4_down_72 gz_ic_1 ?_
          refine lv_iadd hx hb dX4_down_73 ?_
          refine gz_istore hx hb dX4_down_74 hl (by decide) [0, 1, 2, 3] rfl (gz_con ⟨gz_ne rfl, Or.inr rfl⟩ (gz_con ⟨gz_ne rfl, Or.inl (gz_ne rfl)⟩ (gz_con ⟨gz_ne rfl, Or.inl (gz_ne rfl)⟩ (gz_con ⟨gz_ne rfl, Or.inl (gz_ne rfl)⟩ gz_nil)))) (fun ls hl => ?_)
          exact T_X4_down_76 hf hD ih fu _ _ _ _ _ h p e s m args below meth c H locs cells slots ls cx hnm hex hI (lv_sub hl [4, 3, 2, 1, 0] rfl)
        · have h := gz_t h hc
          refine gr_aload_n hx hb (some (gg_o G)) dX4_down_52 rfl (lv_at hl 2 rfl) ?_
          refine nr_gI cx hf hI 60 rfl (fun _ => rfl) rfl (Or.inl (hts _ q1052)) dX4_down_53 ?_
          refine gr_aload_n hx hb (some (gg_o G)) dX4_down_56 rfl (lv_at hl 2 rfl) ?_
          refine lv_iload_n hx hb dX4_down_57 rfl (lv_at hl 0 rfl) ?_
          refine C_X4_belowOf hf cx (gz_nh hex) hI (Or.inl (hts _ q1285)) hl.1 (gz_cs (Nat.le_of_ble_eq_true rfl)) (by omega) dX4_down_58 h (fun v8 M8 h H locs cells slots hI => ?_)
          refine lv_iand hx hb dX4_down_61 ?_
          refine lv_if_eq (tgt := 68) hx hb dX4_down_62 rfl (fun hc => ?_) (fun hc => ?_)
          · have h := gz_t h hc
            refine lv_iconst hx hb dX4_down_68 gz_ic_1 ?_
            refine gz_istore hx hb dX4_down_69 hl (by decide) [0, 1, 2] rfl (gz_con ⟨gz_ne rfl, Or.inr rfl⟩ (gz_con ⟨gz_ne rfl, Or.inl (gz_ne rfl)⟩ (gz_con ⟨gz_ne rfl, Or.inl (gz_ne rfl)⟩ gz_nil))) (fun ls hl => ?_)
            refine lv_iload_n hx hb dX4_down_71 rfl (lv_at hl 1 rfl) ?_
            refine lv_iconst hx hb dX4_down_72 gz_ic_1 ?_
            refine lv_iadd hx hb dX4_down_73 ?_
            refine gz_istore hx hb dX4_down_74 hl (by decide) [0, 1, 2, 3] rfl (gz_con ⟨gz_ne rfl, Or.inr rfl⟩ (gz_con ⟨gz_ne rfl, Or.inl (gz_ne rfl)⟩ (gz_con ⟨gz_ne rfl, Or.inl (gz_ne rfl)⟩ (gz_con ⟨gz_ne rfl, Or.inl (gz_ne rfl)⟩ gz_nil)))) (fun ls hl => ?_)
            exact T_X4_down_76 hf hD ih fu _ _ _ _ _ h p e s m args below meth c H locs cells slots ls cx hnm hex hI (lv_sub hl [4, 3, 2, 1, 0] rfl)
          · have h := gz_f h hc
            refine lv_goto (tgt := 9) hx hb dX4_down_65 rfl ?_
            exact ih _ _ h p e s m args below meth c H locs cells slots ls cx hnm hex hI (lv_sub hl [2, 1] rfl)
theorem T_X4_down {l : Launch} {G : gG} {S0 S : gm_S} {d0 fu : Nat} {r : Outcome × gM} (hf : gg_f G = true) (hD : 3 ≤ d0) {x1 : Int32} {M : gM} (h : F_X4_down fu x1 M = some r) : B_X4_down l d0 G S0 0 [(0, va_rf (some (gg_o G))), (1, .int x1)] [] (gm_w S M) r.1 (gm_w S r.2) := by
  unfold F_X4_down at h
  intro p e s m args below meth c H locs cells slots ls cx hnm hex hI hl
  have hx := cx.1
  have hb := cx.2.1
  have hown := cx.2.2.2.1
  have hts := cx.2.2.2.2.1
  have hK := cx.2.2.2.2.2.1
  refine lv_iconst hx hb dX4_down_0 gz_ic_1 ?_
  refine gz_istore_n hx hb dX4_down_1 rfl hl (by decide) [0, 1] rfl (gz_con ⟨gz_ne rfl, Or.inl (gz_ne rfl)⟩ (gz_con ⟨gz_ne rfl, Or.inr rfl⟩ gz_nil)) (fun ls hl => ?_)
  refine gr_aload_n hx hb (some (gg_o G)) dX4_down_2 rfl (lv_at hl 1 rfl) ?_
  refine gr_mgA cx hf hI 61 rfl rfl (Or.inl (hts _ q1053)) dX4_down_3 ?_
  refine lv_iconst hx hb dX4_down_6 gz_ic_0 ?_
  refine lv_iload_n hx hb dX4_down_7 rfl (lv_at hl 2 rfl) ?_
  obtain ⟨M2, e2, h⟩ := g_bind h
  refine gr_miast cx hf hI 61 rfl rfl rfl (nr_sI e2) dX4_down_8 (fun H locs hI => ?_)
  exact T_X4_down_9 hf hD fu _ _ h p e s m args below meth c H locs cells slots ls cx hnm hex hI (lv_sub hl [1, 0] rfl)
theorem M_X4_down {l : Launch} {G : gG} {fu d0 : Nat} (hf : gg_f G = true) (hfl : l.flags = flags0) (hD : 3 ≤ d0) {x1 : Int32} {S : gm_S} {M : gM} {o : Outcome} {M2 : gM} (h : F_X4_down fu x1 M = some (o, M2)) : gx_Met l yX4_down (ws_ yX4_down cX4_down 6 (Option.none : Option Jvm.ClassFile.FieldType)) d0 G (gm_w S M) [va_rf (some (gg_o G)), .int x1] o (gm_w S M2) := by
  refine gx_of hfl (by decide) (fun p e s m below meth c cx hnm hex hI => ?_)
  rw [lg_entry_eq]
  exact T_X4_down (r := (o, M2)) hf hD h p e s m _ below meth c _ _ _ _ _ cx hnm (gz_nh0 hex) hI (lv_entry _ (Nat.le_of_ble_eq_true rfl))
theorem C_X4_down {p : Program} {l : Launch} {e : Env} {s : State} {m : MethodId} {args : Array Value} {below : List Frame} {meth : Method} {c : Code} {H : Heap} {locs : List Loc} {cells slots : Nat} {cc : ByteArray} {pc nL : Nat} {ls : Array Slot} {rest : List Value} {G : gG} {S0 S : gm_S} {own : String} {ret : Option FieldType} {d0 index fu : Nat} {M : gM} {x1 : Int32} {k : gM → gQ} {r : Outcome × gM} (hf : gg_f G = true) (cx : gx_cx p l s m args meth c G own cc nL ret) (hex : ∀ x ∈ c.exceptionTable.toList, covers x pc = false) (hI : gw_I G S0 (gm_w S M) H locs cells slots) (hl : gl_M own index yX4_down args s) (hlv : ls.size = nL) (hrest : (rest.map fun v => v.category).sum ≤ 8) (hD : 4 ≤ d0) (hdg : decode cc pc = .ok (.invokevirtual index, 3)) (h : gz_cV (F_X4_down fu x1 M) k = some r)
    (kk : ∀ (z : gM), k z = some r → ∀ (H : Heap) (locs : List Loc) (cells slots : Nat), gw_I G S0 (gm_w S z) H locs cells slots → W p l e (gx_rm d0 S0) s m args below meth c H locs cells slots (gx_MQ below G S0 (gm_w S r.2) r.1 s) (F0 m (pc + 3) ls rest)) : W p l e (gx_rm d0 S0) s m args below meth c H locs cells slots (gx_MQ below G S0 (gm_w S r.2) r.1 s) (F0 m pc ls (.int x1 :: va_rf (some (gg_o G)) :: rest)) := by
  have hts := cx.2.2.2.2.1
  have hK := cx.2.2.2.2.2.1
  exact gz_goV (d := d0 - 1) (gm_w S) cx hex hI hlv hrest (by omega) (Nat.le_of_ble_eq_true rfl) (gz_ws (lw_meth q1280) hts) (hts _ q78) (gb_rawV (As := [.int x1]) cx hl (hts _ q1279) (hts _ qs47) (gl_C.code (hts _ q1280)) hy_X4_down (gr_recvM hK hI.1 hf) rfl rfl hdg) (fun o S2 e => M_X4_down hf cx.2.2.2.2.2.2.2.2 (by omega) e) h kk
