set_option maxRecDepth 100000
/-- the board as SawLine has it -/
abbrev xo_b (ξ : mo_S) : sp_T := fun i => match i with
  | 0 => ξ.2 7
  | 1 => ξ.2 8
  | 2 => ξ.2 9
  | _ => fun _ => 0
def xo_st (ξ : mo_S) (o : Int32) (P H : Nat → Int32) (f : Int32) : mo_S := (va_up (va_up ξ.1 14 o) 17 f, va_up (va_up ξ.2 15 P) 16 H)
theorem up_sw {α : Type} (f : Nat → α) {a b : Nat} (h : ¬ a = b) (x y z : α) : va_up (va_up (va_up f a x) b y) a z = va_up (va_up f a z) b y := by
  funext j; unfold va_up
  by_cases h1 : j = a
  · rw [if_pos h1]; by_cases h2 : j = b
    · exact absurd (h1.symm.trans h2) h
    · rw [if_neg h2, if_pos h1]
  · rw [if_neg h1]; by_cases h2 : j = b
    · rw [if_pos h2, if_pos h2]
    · rw [if_neg h2, if_neg h2, if_neg h1, if_neg h1]
theorem xo_st_15 (ξ : mo_S) (o : Int32) (P H : Nat → Int32) (f : Int32) (j : Nat) (v : Int32) : mo_a (xo_st ξ o P H f) 15 j v = xo_st ξ o (upd P j v) H f := by
  have e : (xo_st ξ o P H f).2 15 = P := rfl
  unfold mo_a; rw [e]; unfold xo_st; dsimp only; rw [up_sw _ (by decide)]
theorem xo_st_16 (ξ : mo_S) (o : Int32) (P H : Nat → Int32) (f : Int32) (j : Nat) (v : Int32) : mo_a (xo_st ξ o P H f) 16 j v = xo_st ξ o P (upd H j v) f := by
  have e : (xo_st ξ o P H f).2 16 = H := rfl
  unfold mo_a; rw [e]; unfold xo_st; dsimp only; rw [va_up_up]
theorem xo_st_17 (ξ : mo_S) (o : Int32) (P H : Nat → Int32) (f v : Int32) : mo_i (xo_st ξ o P H f) 17 v = xo_st ξ o P H v := by
  unfold mo_i xo_st; dsimp only; rw [va_up_up]
theorem xo_st_14 (ξ : mo_S) (o : Int32) (P H : Nat → Int32) (f v : Int32) : mo_i (xo_st ξ o P H f) 14 v = xo_st ξ v P H f := by
  unfold mo_i xo_st; dsimp only; rw [up_sw _ (by decide)]
theorem xo_st_0 (ξ : mo_S) (a b : Int32) : mo_i (mo_i ξ 14 a) 17 b = xo_st ξ a (ξ.2 15) (ξ.2 16) b := by
  unfold mo_i xo_st; dsimp only; rw [va_up_id, va_up_id]
theorem xb_b (x : Int32) : (if (-99 : Int32) < (if x < 99 then x else 99) then (if x < 99 then x else 99) else -99) = ct_b x := by
  unfold ct_b
  by_cases h : x < 99
  · rw [if_pos h, if_pos (Int32.le_of_lt h)]
    by_cases h2 : (-99 : Int32) < x
    · rw [if_pos h2, if_pos (Int32.le_of_lt h2)]
    · rw [if_neg h2]
      by_cases h3 : (-99 : Int32) ≤ x
      · rw [if_pos h3]; exact Int32.le_antisymm h3 (Int32.not_lt.mp h2)
      · rw [if_neg h3]
  · rw [if_neg h, if_pos (by decide)]
    by_cases h2 : x ≤ 99
    · rw [if_pos h2, Int32.le_antisymm h2 (Int32.not_lt.mp h), if_pos (by decide)]
    · rw [if_neg h2]
theorem xb_a (x : Int32) : (if 0 ≤ x then x else 0 - x) = sp_sz x := by unfold sp_sz; rw [Int32.zero_sub]
theorem xb_m (x y : Int32) : (if x < y then y else x) = sp_gr x y := by
  unfold sp_gr
  by_cases h : x < y
  · rw [if_pos h, if_pos (Int32.le_of_lt h)]
  · rw [if_neg h]
    by_cases h2 : x ≤ y
    · rw [if_pos h2]; exact Int32.le_antisymm h2 (Int32.not_lt.mp h)
    · rw [if_neg h2]
theorem xb_w (s : Int32) : s * 0 / 8 = 0 := by rw [Int32.mul_zero]; decide
theorem upd_self (f : Nat → Int32) (j : Nat) (v : Int32) : upd f j v j = v := by unfold upd; rw [if_pos rfl]
set_option maxHeartbeats 4000000 in
theorem xs_goLine (t : Nat) (l : Launch) (Γ : gk_E) (h : Nat) (ad : Nat → Nat) (ξ : mo_S) (dy : va_W) (o f pu : Int32) (P H : Nat → Int32) (t0 lt : Nat) (ht0 : t0 < 24) (hlt : lt ≤ 5) (eT : ξ.1 12 = nI lt) (hH : ¬ 10 * ξ.2 7 t0 = 0) : xo_V t l yX0_goLine (Cond.code yX0_goLine cX0_goLine 9 none) 1 [.int (nI t0), .int pu] Γ h ad (xo_st ξ o P H f) dy (xo_st ξ o (upd P t0 (ct_s (pu, ξ.1 10, ξ.1 11, ξ.1 13, lt, xo_b ξ) P (if t0 = 0 then 0 else P (t0 - 1)) (if t0 = 0 then 0 else H (t0 - 1)) t0).1) (upd H t0 (ct_s (pu, ξ.1 10, ξ.1 11, ξ.1 13, lt, xo_b ξ) P (if t0 = 0 then 0 else P (t0 - 1)) (if t0 = 0 then 0 else H (t0 - 1)) t0).2) (sp_gr f (sp_sz (ct_s (pu, ξ.1 10, ξ.1 11, ξ.1 13, lt, xo_b ξ) P (if t0 = 0 then 0 else P (t0 - 1)) (if t0 = 0 then 0 else H (t0 - 1)) t0).1))) := by
  refine gk_M.intro (xN_ok t) (by decide) [some (.ref h), some (.int (nI t0)), some (.int pu), none, none, none, none, none, none] rfl rfl rfl ?_
  intro κ hl hg hN0 C E
  subst hl hg
  have C : gk_C κ cX0_goLine "SawLine" 1 0 0 := C
  refine gk_iload_n C dX0_goLine_0 rfl ?_
  refine gk_iconst 1 C dX0_goLine_1 rfl ?_
  refine gk_isub C dX0_goLine_2 ?_
  refine gk_aload_n C dX0_goLine_3 rfl ?_
  refine xo_g12 C dX0_goLine_4 ?_
  refine gk_eqv (y := nI lt) eT ?_
  refine gk_isub C dX0_goLine_7 ?_
  refine gk_istore_n C dX0_goLine_8 rfl rfl ?_
  refine gk_iload_n C dX0_goLine_9 rfl ?_
  refine gk_bipush 10 C dX0_goLine_10 rfl ?_
  refine gk_aload_n C dX0_goLine_12 rfl ?_
  refine xo_g7 C dX0_goLine_13 ?_
  refine gk_iload_n C dX0_goLine_16 rfl ?_
  refine xo_l7 C dX0_goLine_17 rfl (by omega) ?_
  refine gk_imul C dX0_goLine_18 ?_
  refine gk_idiv C dX0_goLine_19 hH ?_
  refine gk_aload_n C dX0_goLine_20 rfl ?_
  refine xo_g8 C dX0_goLine_21 ?_
  refine gk_iload_n C dX0_goLine_24 rfl ?_
  refine xo_l8 C dX0_goLine_25 rfl (by omega) ?_
  refine gk_iadd C dX0_goLine_26 ?_
  refine gk_aload_n C dX0_goLine_27 rfl ?_
  refine xo_g10 C dX0_goLine_28 ?_
  refine gk_iadd C dX0_goLine_31 ?_
  refine gk_iload_n C dX0_goLine_32 rfl ?_
  refine gk_jn1 ((pu, ξ.1 10, ξ.1 11, ξ.1 13, lt, xo_b ξ).2.2.1 * ct_w (pu, ξ.1 10, ξ.1 11, ξ.1 13, lt, xo_b ξ) P t0 / 8) 54 ?_ (fun K54 => ?_)
  · refine gk_isub C dX0_goLine_54 ?_
    refine gk_istore C dX0_goLine_55 rfl rfl ?_
    refine gk_iload_n C dX0_goLine_57 rfl ?_
    refine gk_jn1 ((if t0 = 0 then 0 else H (t0 - 1))) 73 ?_ (fun K73 => ?_)
    · refine gk_istore C dX0_goLine_73 rfl rfl ?_
      refine gk_bipush (-99) C dX0_goLine_75 rfl ?_
      refine gk_bipush 99 C dX0_goLine_77 rfl ?_
      refine gk_iload C dX0_goLine_79 rfl ?_
      refine gk_iload C dX0_goLine_81 rfl ?_
      refine gk_iadd C dX0_goLine_83 ?_
      refine gk_eqv (y := (ct_h (pu, ξ.1 10, ξ.1 11, ξ.1 13, lt, xo_b ξ) P (if t0 = 0 then 0 else H (t0 - 1)) t0)) rfl ?_
      refine gk_min C q432 (by decide) (by decide) rfl dX0_goLine_84 ?_
      refine gk_max C q722 (by decide) (by decide) rfl dX0_goLine_87 ?_
      refine gk_eqv (xb_b _) ?_
      refine gk_istore C dX0_goLine_90 rfl rfl ?_
      refine gk_iload_n C dX0_goLine_92 rfl ?_
      refine gk_jn1 ((if t0 = 0 then 0 else P (t0 - 1))) 108 ?_ (fun K108 => ?_)
      · refine gk_iload C dX0_goLine_108 rfl ?_
        refine gk_iadd C dX0_goLine_110 ?_
        refine gk_istore C dX0_goLine_111 rfl rfl ?_
        refine gk_aload_n C dX0_goLine_113 rfl ?_
        refine xo_g13 C dX0_goLine_114 ?_
        refine gk_jn1 (zb (0 < (pu, ξ.1 10, ξ.1 11, ξ.1 13, lt, xo_b ξ).2.2.2.1 ∧ (pu, ξ.1 10, ξ.1 11, ξ.1 13, lt, xo_b ξ).2.2.2.1 < sp_sz ((if t0 = 0 then 0 else P (t0 - 1)) + (ct_b (ct_h (pu, ξ.1 10, ξ.1 11, ξ.1 13, lt, xo_b ξ) P (if t0 = 0 then 0 else H (t0 - 1)) t0))))) 137 ?_ (fun K137 => ?_)
        · refine gk_istore C dX0_goLine_137 rfl rfl ?_
          refine gk_aload_n C dX0_goLine_139 rfl ?_
          refine xo_g15 C dX0_goLine_140 ?_
          refine gk_iload_n C dX0_goLine_143 rfl ?_
          refine gk_iload C dX0_goLine_144 rfl ?_
          refine gk_jn1 ((ct_s (pu, ξ.1 10, ξ.1 11, ξ.1 13, lt, xo_b ξ) P (if t0 = 0 then 0 else P (t0 - 1)) (if t0 = 0 then 0 else H (t0 - 1)) t0).1) 171 ?_ (fun K171 => ?_)
          · refine xo_s15 C dX0_goLine_171 rfl (by omega) ?_
            rw [xo_st_15]
            refine gk_aload_n C dX0_goLine_172 rfl ?_
            refine xo_g16 C dX0_goLine_173 ?_
            refine gk_iload_n C dX0_goLine_176 rfl ?_
            refine gk_iload C dX0_goLine_177 rfl ?_
            refine gk_jn1 ((ct_s (pu, ξ.1 10, ξ.1 11, ξ.1 13, lt, xo_b ξ) P (if t0 = 0 then 0 else P (t0 - 1)) (if t0 = 0 then 0 else H (t0 - 1)) t0).2) 188 ?_ (fun K188 => ?_)
            · refine xo_s16 C dX0_goLine_188 rfl (by omega) ?_
              rw [xo_st_16]
              refine gk_aload_n C dX0_goLine_189 rfl ?_
              refine gk_aload_n C dX0_goLine_190 rfl ?_
              refine xo_g17 C dX0_goLine_191 ?_
              refine gk_aload_n C dX0_goLine_194 rfl ?_
              refine xo_g15 C dX0_goLine_195 ?_
              refine gk_iload_n C dX0_goLine_198 rfl ?_
              refine xo_l15 C dX0_goLine_199 rfl (by omega) ?_
              refine gk_eqv (y := (ct_s (pu, ξ.1 10, ξ.1 11, ξ.1 13, lt, xo_b ξ) P (if t0 = 0 then 0 else P (t0 - 1)) (if t0 = 0 then 0 else H (t0 - 1)) t0).1) (upd_self _ _ _) ?_
              refine gk_abs C q782 (by decide) (by decide) rfl dX0_goLine_200 ?_
              refine gk_eqv (xb_a _) ?_
              refine gk_max C q722 (by decide) (by decide) rfl dX0_goLine_203 ?_
              refine gk_eqv (xb_m _ _) ?_
              refine xo_p17 C dX0_goLine_206 ?_
              rw [xo_st_17]
              exact gk_vret C E dX0_goLine_209 rfl rfl ⟨rfl, rfl⟩
            · refine gk_if_eq 186 C dX0_goLine_179 (by decide) (fun c179 => ?_) (fun c179 => ?_)
              · rw [zb_0] at c179
                have hs := ct_s_n c179
                refine gk_iload C dX0_goLine_186 rfl ?_
                exact gk_eqv (by rw [hs]; try rfl) K188
              · rw [zb_n] at c179
                have hs := ct_s_y c179
                refine gk_iconst 0 C dX0_goLine_182 rfl ?_
                refine gk_goto 188 C dX0_goLine_183 (by decide) ?_
                exact gk_eqv (by rw [hs]; try rfl) K188
          · refine gk_if_eq 169 C dX0_goLine_146 (by decide) (fun c146 => ?_) (fun c146 => ?_)
            · rw [zb_0] at c146
              have hs := ct_s_n c146
              refine gk_iload C dX0_goLine_169 rfl ?_
              exact gk_eqv (by rw [hs]; try rfl) K171
            · rw [zb_n] at c146
              have hs := ct_s_y c146
              refine gk_iload C dX0_goLine_149 rfl ?_
              refine gk_if_le 161 C dX0_goLine_151 (by decide) (fun c151 => ?_) (fun c151 => ?_)
              · rw [if_pos c151] at hs
                refine gk_aload_n C dX0_goLine_161 rfl ?_
                refine xo_g13 C dX0_goLine_162 ?_
                refine gk_ineg C dX0_goLine_165 ?_
                refine gk_goto 171 C dX0_goLine_166 (by decide) ?_
                exact gk_eqv (by rw [hs]; try rfl) K171
              · rw [if_neg c151] at hs
                refine gk_aload_n C dX0_goLine_154 rfl ?_
                refine xo_g13 C dX0_goLine_155 ?_
                refine gk_goto 171 C dX0_goLine_158 (by decide) ?_
                exact gk_eqv (by rw [hs]; try rfl) K171
        · refine gk_if_le 136 C dX0_goLine_117 (by decide) (fun c117 => ?_) (fun c117 => ?_)
          · refine gk_iconst 0 C dX0_goLine_136 rfl ?_
            exact gk_eqv (by first | exact (zb_f (fun z => Int32.not_lt.mpr c117 z.1)).symm | exact (zb_f (fun z => Int32.not_lt.mpr c129 z.2)).symm | exact (zb_t ⟨Int32.not_le.mp c117, Int32.not_le.mp c129⟩).symm) K137
          · refine gk_iload C dX0_goLine_120 rfl ?_
            refine gk_abs C q782 (by decide) (by decide) rfl dX0_goLine_122 ?_
            refine gk_eqv (xb_a _) ?_
            refine gk_aload_n C dX0_goLine_125 rfl ?_
            refine xo_g13 C dX0_goLine_126 ?_
            refine gk_icmp_le 136 C dX0_goLine_129 (by decide) (fun c129 => ?_) (fun c129 => ?_)
            · refine gk_iconst 0 C dX0_goLine_136 rfl ?_
              exact gk_eqv (by first | exact (zb_f (fun z => Int32.not_lt.mpr c117 z.1)).symm | exact (zb_f (fun z => Int32.not_lt.mpr c129 z.2)).symm | exact (zb_t ⟨Int32.not_le.mp c117, Int32.not_le.mp c129⟩).symm) K137
            · refine gk_iconst 1 C dX0_goLine_132 rfl ?_
              refine gk_goto 137 C dX0_goLine_133 (by decide) ?_
              exact gk_eqv (by first | exact (zb_f (fun z => Int32.not_lt.mpr c117 z.1)).symm | exact (zb_f (fun z => Int32.not_lt.mpr c129 z.2)).symm | exact (zb_t ⟨Int32.not_le.mp c117, Int32.not_le.mp c129⟩).symm) K137
      · refine gk_if_ne 100 C dX0_goLine_93 (by decide) (fun c93 => ?_) (fun c93 => ?_)
        · have h58 : ¬ t0 = 0 := fun z => c93 (by rw [z]; rfl)
          refine gk_aload_n C dX0_goLine_100 rfl ?_
          refine xo_g15 C dX0_goLine_101 ?_
          refine gk_iload_n C dX0_goLine_104 rfl ?_
          refine gk_iconst 1 C dX0_goLine_105 rfl ?_
          refine gk_isub C dX0_goLine_106 ?_
          refine xo_l15 C dX0_goLine_107 (nI_s1 (by omega)) (by omega) ?_
          exact gk_eqv (by first | exact (if_pos h58).symm | exact (if_neg h58).symm) K108
        · have h58 : t0 = 0 := (nI_eq (b := 0) (by omega) (by omega)).mp c93
          refine gk_iconst 0 C dX0_goLine_96 rfl ?_
          refine gk_goto 108 C dX0_goLine_97 (by decide) ?_
          exact gk_eqv (by first | exact (if_pos h58).symm | exact (if_neg h58).symm) K108
    · refine gk_if_ne 65 C dX0_goLine_58 (by decide) (fun c58 => ?_) (fun c58 => ?_)
      · have h58 : ¬ t0 = 0 := fun z => c58 (by rw [z]; rfl)
        refine gk_aload_n C dX0_goLine_65 rfl ?_
        refine xo_g16 C dX0_goLine_66 ?_
        refine gk_iload_n C dX0_goLine_69 rfl ?_
        refine gk_iconst 1 C dX0_goLine_70 rfl ?_
        refine gk_isub C dX0_goLine_71 ?_
        refine xo_l16 C dX0_goLine_72 (nI_s1 (by omega)) (by omega) ?_
        exact gk_eqv (by first | exact (if_pos h58).symm | exact (if_neg h58).symm) K73
      · have h58 : t0 = 0 := (nI_eq (b := 0) (by omega) (by omega)).mp c58
        refine gk_iconst 0 C dX0_goLine_61 rfl ?_
        refine gk_goto 73 C dX0_goLine_62 (by decide) ?_
        exact gk_eqv (by first | exact (if_pos h58).symm | exact (if_neg h58).symm) K73
  · refine gk_if_ge 40 C dX0_goLine_33 (by decide) (fun c33 => ?_) (fun c33 => ?_)
    · rw [nI_seen (by omega) (by omega)] at c33
      refine gk_aload_n C dX0_goLine_40 rfl ?_
      refine xo_g11 C dX0_goLine_41 ?_
      refine gk_aload_n C dX0_goLine_44 rfl ?_
      refine xo_g15 C dX0_goLine_45 ?_
      refine gk_iload_n C dX0_goLine_48 rfl ?_
      refine xo_l15 C dX0_goLine_49 (nI_sub1 c33) (by omega) ?_
      refine gk_imul C dX0_goLine_50 ?_
      refine gk_bipush 8 C dX0_goLine_51 rfl ?_
      refine gk_idiv C dX0_goLine_53 (by decide) ?_
      exact gk_eqv (by first | (rw [show ct_w (pu, ξ.1 10, ξ.1 11, ξ.1 13, lt, xo_b ξ) P t0 = 0 from if_neg c33]; exact (xb_w _).symm) | (rw [show ct_w (pu, ξ.1 10, ξ.1 11, ξ.1 13, lt, xo_b ξ) P t0 = P (t0 - 1 - lt) from if_pos c33]; rfl)) K54
    · rw [nI_seen (by omega) (by omega)] at c33
      refine gk_iconst 0 C dX0_goLine_36 rfl ?_
      refine gk_goto 54 C dX0_goLine_37 (by decide) ?_
      exact gk_eqv (by first | (rw [show ct_w (pu, ξ.1 10, ξ.1 11, ξ.1 13, lt, xo_b ξ) P t0 = 0 from if_neg c33]; exact (xb_w _).symm) | (rw [show ct_w (pu, ξ.1 10, ξ.1 11, ξ.1 13, lt, xo_b ξ) P t0 = P (t0 - 1 - lt) from if_pos c33]; rfl)) K54
