set_option maxRecDepth 100000
def rb_ok (T : sp_T) (m : Nat) (Nu : Nat → Int32) : Prop := ∀ j, j < m → Nu (3 * j) = T 0 j ∧ Nu (3 * j + 1) = T 1 j ∧ Nu (3 * j + 2) = T 2 j
theorem rb_step {T : sp_T} {m : Nat} {Nu : Nat → Int32} {a b c : Int32} (hr : rb_ok T m Nu) : rb_ok (tx_t T m a b c 0 0) (m + 1) (upd (upd (upd Nu (3 * m) a) (3 * m + 1) b) (3 * m + 2) c) := fun j hj => by
  by_cases hjm : j = m
  · subst hjm
    unfold upd tx_t
    simp only [if_true]
    refine ⟨?_, ?_, trivial⟩
    · rw [if_neg (by omega), if_neg (by omega)]
    · rw [if_neg (by omega)]
  · obtain ⟨h1, h2, h3⟩ := hr j (by omega)
    unfold upd tx_t
    simp only [if_neg hjm]
    rw [if_neg (by omega), if_neg (by omega), if_neg (by omega), if_neg (by omega), if_neg (by omega), if_neg (by omega), if_neg (by omega), if_neg (by omega), if_neg (by omega)]
    exact ⟨h1, h2, h3⟩
theorem rb_m (x : Nat → Int32) (N : Nat) : ∀ f p m T, f + m = 26 → m ≤ 24 → (rb x N f p m T).2.2.1 ≤ 24 := by
  intro f
  induction f with
  | zero => intro p m T h1 h2; exact h2
  | succ f ih =>
    intro p m T h1 h2
    unfold rb
    split
    · exact h2
    · split
      · exact h2
      · rename_i h3 h4
        split
        · exact h2
        · split
          · exact h2
          · exact ih _ _ _ (by omega) (by rcases Nat.lt_or_ge m 24 with z | z; exact z; exact absurd (Or.inl (by omega)) h4)
set_option maxHeartbeats 8000000 in
theorem mo_readsBoard (l : Launch) (Γ : gk_E) (h : Nat) (ad : Nat → Nat) (σ : mo_S) (a N : Nat) (haN : a + N ≤ 320) : mo_X l yX2_readsBoard (Cond.code yX2_readsBoard cX2_readsBoard 6 (some .boolean)) 1 [.int (nI a), .int (nI N)] Γ h ad σ (fun v σ1 => v = .int (zb ((rb (fun p => σ.2 43 (a + p)) N 26 0 0 (fun _ _ => 0)).1 = true)) ∧ ∃ Nu, σ1 = mo_rd σ (rb (fun p => σ.2 43 (a + p)) N 26 0 0 (fun _ _ => 0)).2.1 (rb (fun p => σ.2 43 (a + p)) N 26 0 0 (fun _ _ => 0)).2.2.1 (σ.2 9) (σ.2 10) Nu ∧ rb_ok (rb (fun p => σ.2 43 (a + p)) N 26 0 0 (fun _ _ => 0)).2.2.2 (rb (fun p => σ.2 43 (a + p)) N 26 0 0 (fun _ _ => 0)).2.2.1 Nu) := by
  refine gk_M.intro gk_N0_ok (by decide) [some (.ref h), some (.int (nI a)), some (.int (nI N)), none, none, none] rfl rfl rfl ?_
  intro κ hl hg hN0 C E
  subst hl hg
  have C : gk_C κ cX2_readsBoard "SawLineModel" 1 0 0 := C
  have E : gk_End κ (some .boolean) (fun r ws => ∃ (v : Value) (σ1 : mo_S), r = some v ∧ ws = mo_W (gk_g κ) h ad σ1 ∧ (v = .int (zb ((rb (fun p => σ.2 43 (a + p)) N 26 0 0 (fun _ _ => 0)).1 = true)) ∧ ∃ Nu, σ1 = mo_rd σ (rb (fun p => σ.2 43 (a + p)) N 26 0 0 (fun _ _ => 0)).2.1 (rb (fun p => σ.2 43 (a + p)) N 26 0 0 (fun _ _ => 0)).2.2.1 (σ.2 9) (σ.2 10) Nu ∧ rb_ok (rb (fun p => σ.2 43 (a + p)) N 26 0 0 (fun _ _ => 0)).2.2.2 (rb (fun p => σ.2 43 (a + p)) N 26 0 0 (fun _ _ => 0)).2.2.1 Nu)) 0 0 := E
  have L10 : ∀ (R : rs_R), gk_End κ (some .boolean) (fun r ws => ∃ (v : Value) (σ1 : mo_S), r = some v ∧ ws = mo_W (gk_g κ) h ad σ1 ∧ (v = .int (zb (R.1 = true)) ∧ ∃ Nu, σ1 = mo_rd σ R.2.1 R.2.2.1 (σ.2 9) (σ.2 10) Nu ∧ rb_ok R.2.2.2 R.2.2.1 Nu)) 0 0 → ∀ (f p m : Nat) (T : sp_T) (Nu : Nat → Int32), f + m = 26 → m ≤ 24 → p ≤ N → rb_ok T m Nu → rb (fun p => σ.2 43 (a + p)) N f p m T = R → gk_G κ 0 0 (mo_W (gk_g κ) h ad (mo_rd σ p m (σ.2 9) (σ.2 10) Nu)) 10 [some (.ref h), some (.int (nI a)), some (.int (nI N)), none, none, none] [] := by
    intro R E
    refine fu_ind (fun p m T Nu h1 h2 => absurd h1 (by omega)) (fun f ih => ?_)
    intro p m T Nu hfm hm8 hpN hrel hR
    unfold rb at hR
    have K25 : (m = 0 ∨ p < N) → gk_G κ 0 0 (mo_W (gk_g κ) h ad (mo_rd σ p m (σ.2 9) (σ.2 10) Nu)) 25 [some (.ref h), some (.int (nI a)), some (.int (nI N)), none, none, none] [] := by
      intro hor
      rw [if_neg (fun z => z hor)] at hR
      refine gk_aload_n C dX2_readsBoard_25 rfl ?_
      refine mo_g7 C dX2_readsBoard_26 ?_
      refine gk_eqv (y := nI p) rfl ?_
      refine gk_iload_n C dX2_readsBoard_29 rfl ?_
      refine gk_jn2 (tx_d (fun p => σ.2 43 (a + p)) N p) 52 ?_ (fun K52 => ?_)
      · refine gk_istore_n C dX2_readsBoard_52 rfl rfl ?_
        refine gk_aload_n C dX2_readsBoard_53 rfl ?_
        refine mo_g8 C dX2_readsBoard_54 ?_
        refine gk_eqv (y := nI m) rfl ?_
        refine gk_bipush 24 C dX2_readsBoard_57 rfl ?_
        refine gk_icmp_eq 74 C dX2_readsBoard_59 (by decide) (fun c59 => ?_) (fun c59 => ?_)
        · have c59 : m = 24 := (nI_eq (b := 24) (by omega) (by omega)).mp c59
          rw [if_pos (Or.inl c59)] at hR
          refine gk_iconst 0 C dX2_readsBoard_74 rfl ?_
          exact gk_zret C E dX2_readsBoard_75 rfl rfl (by first | exact narrow_b1 | exact narrow_b0 | exact zb_nb) ⟨_, _, rfl, rfl, by rw [← hR]; rfl, _, by rw [← hR], by rw [← hR]; exact hrel⟩
        · have c59 : ¬ m = 24 := fun z => c59 (by rw [z]; rfl)
          refine gk_iload_n C dX2_readsBoard_62 rfl ?_
          refine gk_i2l C dX2_readsBoard_63 ?_
          refine gk_lconst 1 C dX2_readsBoard_64 rfl ?_
          refine gk_ldc2 C q1254 dX2_readsBoard_65 ?_
          refine gk_cP3 C (mo_in3 _ (tx_d (fun p => σ.2 43 (a + p)) N p) 1 9 1 9 rfl rfl) cs_X2_105 rfl (Nat.zero_le _) (Nat.zero_le _) rfl dX2_readsBoard_68 ?_
          refine gk_if_ne 76 C dX2_readsBoard_71 (by decide) (fun c71 => ?_) (fun c71 => ?_)
          · rw [zb_n] at c71
            have hk1 := tx_ok_iff.mpr c71
            have hl1 := tx_lt (by decide) hk1
            rw [if_neg (fun z => z.elim c59 (fun z => z hk1))] at hR
            refine gk_aload_n C dX2_readsBoard_76 rfl ?_
            refine mo_g7 C dX2_readsBoard_77 ?_
            refine gk_eqv (y := nI p) rfl ?_
            refine gk_iconst 1 C dX2_readsBoard_80 rfl ?_
            refine gk_iadd C dX2_readsBoard_81 ?_
            refine gk_eqv (nI_1 p) ?_
            refine gk_iload_n C dX2_readsBoard_82 rfl ?_
            refine gk_jn2 (tx_d (fun p => σ.2 43 (a + p)) N (p + 1)) 107 ?_ (fun K107 => ?_)
            · refine gk_istore C dX2_readsBoard_107 rfl rfl ?_
              refine gk_iload C dX2_readsBoard_109 rfl ?_
              refine gk_i2l C dX2_readsBoard_111 ?_
              refine gk_lconst 0 C dX2_readsBoard_112 rfl ?_
              refine gk_ldc2 C q1302 dX2_readsBoard_113 ?_
              refine gk_cP3 C (mo_in3 _ (tx_d (fun p => σ.2 43 (a + p)) N (p + 1)) 0 8 0 8 rfl rfl) cs_X2_105 rfl (Nat.zero_le _) (Nat.zero_le _) rfl dX2_readsBoard_116 ?_
              refine gk_if_ne 134 C dX2_readsBoard_119 (by decide) (fun c119 => ?_) (fun c119 => ?_)
              · rw [zb_n] at c119
                have hk2 := tx_ok_iff.mpr c119
                have hl2 := tx_lt (by decide) hk2
                rw [if_neg (fun z => z hk2)] at hR
                refine gk_aload_n C dX2_readsBoard_134 rfl ?_
                refine mo_g7 C dX2_readsBoard_135 ?_
                refine gk_eqv (y := nI p) rfl ?_
                refine gk_iconst 2 C dX2_readsBoard_138 rfl ?_
                refine gk_iadd C dX2_readsBoard_139 ?_
                refine gk_eqv (nI_add p 2) ?_
                refine gk_iload_n C dX2_readsBoard_140 rfl ?_
                refine gk_jn2 (tx_d (fun p => σ.2 43 (a + p)) N (p + 2)) 165 ?_ (fun K165 => ?_)
                · refine gk_istore C dX2_readsBoard_165 rfl rfl ?_
                  refine gk_iload C dX2_readsBoard_167 rfl ?_
                  refine gk_i2l C dX2_readsBoard_169 ?_
                  refine gk_lconst 0 C dX2_readsBoard_170 rfl ?_
                  refine gk_ldc2 C q1254 dX2_readsBoard_171 ?_
                  refine gk_cP3 C (mo_in3 _ (tx_d (fun p => σ.2 43 (a + p)) N (p + 2)) 0 9 0 9 rfl rfl) cs_X2_105 rfl (Nat.zero_le _) (Nat.zero_le _) rfl dX2_readsBoard_174 ?_
                  refine gk_if_ne 192 C dX2_readsBoard_177 (by decide) (fun c177 => ?_) (fun c177 => ?_)
                  · rw [zb_n] at c177
                    have hk3 := tx_ok_iff.mpr c177
                    have hl3 := tx_lt (by decide) hk3
                    rw [if_neg (fun z => z hk3)] at hR
                    refine gk_aload_n C dX2_readsBoard_192 rfl ?_
                    refine mo_g11 C dX2_readsBoard_193 ?_
                    refine gk_iconst 3 C dX2_readsBoard_196 rfl ?_
                    refine gk_aload_n C dX2_readsBoard_197 rfl ?_
                    refine mo_g8 C dX2_readsBoard_198 ?_
                    refine gk_eqv (y := nI m) rfl ?_
                    refine gk_imul C dX2_readsBoard_201 ?_
                    refine gk_iload_n C dX2_readsBoard_202 rfl ?_
                    refine mo_s11 C dX2_readsBoard_203 (pk_mul 3 m) (by omega) ?_
                    rw [mo_rd_11]
                    refine gk_aload_n C dX2_readsBoard_204 rfl ?_
                    refine mo_g11 C dX2_readsBoard_205 ?_
                    refine gk_iconst 3 C dX2_readsBoard_208 rfl ?_
                    refine gk_aload_n C dX2_readsBoard_209 rfl ?_
                    refine mo_g8 C dX2_readsBoard_210 ?_
                    refine gk_eqv (y := nI m) rfl ?_
                    refine gk_imul C dX2_readsBoard_213 ?_
                    refine gk_iconst 1 C dX2_readsBoard_214 rfl ?_
                    refine gk_iadd C dX2_readsBoard_215 ?_
                    refine gk_iload C dX2_readsBoard_216 rfl ?_
                    refine gk_iconst 4 C dX2_readsBoard_218 rfl ?_
                    refine gk_isub C dX2_readsBoard_219 ?_
                    refine mo_s11 C dX2_readsBoard_220 (nI_ma 3 m 1) (by omega) ?_
                    rw [mo_rd_11]
                    refine gk_aload_n C dX2_readsBoard_221 rfl ?_
                    refine mo_g11 C dX2_readsBoard_222 ?_
                    refine gk_iconst 3 C dX2_readsBoard_225 rfl ?_
                    refine gk_aload_n C dX2_readsBoard_226 rfl ?_
                    refine mo_g8 C dX2_readsBoard_227 ?_
                    refine gk_eqv (y := nI m) rfl ?_
                    refine gk_imul C dX2_readsBoard_230 ?_
                    refine gk_iconst 2 C dX2_readsBoard_231 rfl ?_
                    refine gk_iadd C dX2_readsBoard_232 ?_
                    refine gk_iload C dX2_readsBoard_233 rfl ?_
                    refine mo_s11 C dX2_readsBoard_235 (nI_ma 3 m 2) (by omega) ?_
                    rw [mo_rd_11]
                    refine gk_aload_n C dX2_readsBoard_236 rfl ?_
                    refine gk_dup C dX2_readsBoard_237 rfl ?_
                    refine mo_g7 C dX2_readsBoard_238 ?_
                    refine gk_eqv (y := nI p) rfl ?_
                    refine gk_iconst 3 C dX2_readsBoard_241 rfl ?_
                    refine gk_iadd C dX2_readsBoard_242 ?_
                    refine gk_eqv (nI_add p 3) ?_
                    refine mo_p7 C dX2_readsBoard_243 ?_
                    rw [mo_rd_7]
                    refine gk_aload_n C dX2_readsBoard_246 rfl ?_
                    refine gk_dup C dX2_readsBoard_247 rfl ?_
                    refine mo_g8 C dX2_readsBoard_248 ?_
                    refine gk_eqv (y := nI m) rfl ?_
                    refine gk_iconst 1 C dX2_readsBoard_251 rfl ?_
                    refine gk_iadd C dX2_readsBoard_252 ?_
                    refine gk_eqv (nI_1 m) ?_
                    refine mo_p8 C dX2_readsBoard_253 ?_
                    rw [mo_rd_8]
                    refine gk_goto 10 C dX2_readsBoard_256 (by decide) ?_
                    exact gk_fg 3 (gk_fg 4 (gk_fg 5 (ih _ (m + 1) _ _ (by omega) (by omega) (by omega) (rb_step hrel) hR)))
                  · rw [zb_0] at c177
                    rw [if_pos (fun z => c177 (tx_ok_iff.mp z))] at hR
                    refine gk_aload_n C dX2_readsBoard_180 rfl ?_
                    refine gk_dup C dX2_readsBoard_181 rfl ?_
                    refine mo_g7 C dX2_readsBoard_182 ?_
                    refine gk_eqv (y := nI p) rfl ?_
                    refine gk_iconst 2 C dX2_readsBoard_185 rfl ?_
                    refine gk_iadd C dX2_readsBoard_186 ?_
                    refine gk_eqv (nI_add p 2) ?_
                    refine mo_p7 C dX2_readsBoard_187 ?_
                    rw [mo_rd_7]
                    refine gk_iconst 0 C dX2_readsBoard_190 rfl ?_
                    exact gk_zret C E dX2_readsBoard_191 rfl rfl (by first | exact narrow_b1 | exact narrow_b0 | exact zb_nb) ⟨_, _, rfl, rfl, by rw [← hR]; rfl, _, by rw [← hR], by rw [← hR]; exact hrel⟩
                · refine gk_icmp_ge 163 C dX2_readsBoard_141 (by decide) (fun c141 => ?_) (fun c141 => ?_)
                  · have c141 := nI_leT c141 (by omega) (by omega)
                    refine gk_bipush (-9) C dX2_readsBoard_163 rfl ?_
                    exact gk_eqv (by first | exact (if_neg (by omega)).symm | exact (if_pos c141).symm) K165
                  · have c141 := nI_ngeT c141 (by omega)
                    refine gk_aload_n C dX2_readsBoard_144 rfl ?_
                    refine mo_g43 C dX2_readsBoard_145 ?_
                    refine gk_iload_n C dX2_readsBoard_148 rfl ?_
                    refine gk_aload_n C dX2_readsBoard_149 rfl ?_
                    refine mo_g7 C dX2_readsBoard_150 ?_
                    refine gk_eqv (y := nI p) rfl ?_
                    refine gk_iadd C dX2_readsBoard_153 ?_
                    refine gk_iconst 2 C dX2_readsBoard_154 rfl ?_
                    refine gk_iadd C dX2_readsBoard_155 ?_
                    refine mo_l43 C dX2_readsBoard_156 ((congrArg (· + 2) (nI_add a p)).trans (nI_add (a + p) 2)) (by omega) ?_
                    refine gk_bipush 48 C dX2_readsBoard_157 rfl ?_
                    refine gk_isub C dX2_readsBoard_159 ?_
                    refine gk_goto 165 C dX2_readsBoard_160 (by decide) ?_
                    exact gk_eqv (by first | exact (if_neg (by omega)).symm | exact (if_pos c141).symm) K165
              · rw [zb_0] at c119
                rw [if_pos (fun z => c119 (tx_ok_iff.mp z))] at hR
                refine gk_aload_n C dX2_readsBoard_122 rfl ?_
                refine gk_dup C dX2_readsBoard_123 rfl ?_
                refine mo_g7 C dX2_readsBoard_124 ?_
                refine gk_eqv (y := nI p) rfl ?_
                refine gk_iconst 1 C dX2_readsBoard_127 rfl ?_
                refine gk_iadd C dX2_readsBoard_128 ?_
                refine gk_eqv (nI_1 p) ?_
                refine mo_p7 C dX2_readsBoard_129 ?_
                rw [mo_rd_7]
                refine gk_iconst 0 C dX2_readsBoard_132 rfl ?_
                exact gk_zret C E dX2_readsBoard_133 rfl rfl (by first | exact narrow_b1 | exact narrow_b0 | exact zb_nb) ⟨_, _, rfl, rfl, by rw [← hR]; rfl, _, by rw [← hR], by rw [← hR]; exact hrel⟩
            · refine gk_icmp_ge 105 C dX2_readsBoard_83 (by decide) (fun c83 => ?_) (fun c83 => ?_)
              · have c83 := nI_leT c83 (by omega) (by omega)
                refine gk_bipush (-9) C dX2_readsBoard_105 rfl ?_
                exact gk_eqv (by first | exact (if_neg (by omega)).symm | exact (if_pos c83).symm) K107
              · have c83 := nI_ngeT c83 (by omega)
                refine gk_aload_n C dX2_readsBoard_86 rfl ?_
                refine mo_g43 C dX2_readsBoard_87 ?_
                refine gk_iload_n C dX2_readsBoard_90 rfl ?_
                refine gk_aload_n C dX2_readsBoard_91 rfl ?_
                refine mo_g7 C dX2_readsBoard_92 ?_
                refine gk_eqv (y := nI p) rfl ?_
                refine gk_iadd C dX2_readsBoard_95 ?_
                refine gk_iconst 1 C dX2_readsBoard_96 rfl ?_
                refine gk_iadd C dX2_readsBoard_97 ?_
                refine mo_l43 C dX2_readsBoard_98 ((congrArg (· + 1) (nI_add a p)).trans (nI_1 (a + p))) (by omega) ?_
                refine gk_bipush 48 C dX2_readsBoard_99 rfl ?_
                refine gk_isub C dX2_readsBoard_101 ?_
                refine gk_goto 107 C dX2_readsBoard_102 (by decide) ?_
                exact gk_eqv (by first | exact (if_neg (by omega)).symm | exact (if_pos c83).symm) K107
          · rw [zb_0] at c71
            rw [if_pos (Or.inr (fun z => c71 (tx_ok_iff.mp z)))] at hR
            refine gk_iconst 0 C dX2_readsBoard_74 rfl ?_
            exact gk_zret C E dX2_readsBoard_75 rfl rfl (by first | exact narrow_b1 | exact narrow_b0 | exact zb_nb) ⟨_, _, rfl, rfl, by rw [← hR]; rfl, _, by rw [← hR], by rw [← hR]; exact hrel⟩
      · refine gk_icmp_ge 50 C dX2_readsBoard_30 (by decide) (fun c30 => ?_) (fun c30 => ?_)
        · have c30 := nI_leT c30 (by omega) (by omega)
          refine gk_bipush (-9) C dX2_readsBoard_50 rfl ?_
          exact gk_eqv (by first | exact (if_neg (by omega)).symm | exact (if_pos c30).symm) K52
        · have c30 := nI_ngeT c30 (by omega)
          refine gk_aload_n C dX2_readsBoard_33 rfl ?_
          refine mo_g43 C dX2_readsBoard_34 ?_
          refine gk_iload_n C dX2_readsBoard_37 rfl ?_
          refine gk_aload_n C dX2_readsBoard_38 rfl ?_
          refine mo_g7 C dX2_readsBoard_39 ?_
          refine gk_eqv (y := nI p) rfl ?_
          refine gk_iadd C dX2_readsBoard_42 ?_
          refine mo_l43 C dX2_readsBoard_43 (nI_add a p) (by omega) ?_
          refine gk_bipush 48 C dX2_readsBoard_44 rfl ?_
          refine gk_isub C dX2_readsBoard_46 ?_
          refine gk_goto 52 C dX2_readsBoard_47 (by decide) ?_
          exact gk_eqv (by first | exact (if_neg (by omega)).symm | exact (if_pos c30).symm) K52
    refine gk_aload_n C dX2_readsBoard_10 rfl ?_
    refine mo_g8 C dX2_readsBoard_11 ?_
    refine gk_eqv (y := nI m) rfl ?_
    refine gk_if_eq 25 C dX2_readsBoard_14 (by decide) (fun c14 => ?_) (fun c14 => ?_)
    · have c14 : m = 0 := (nI_eq (b := 0) (by omega) (by omega)).mp c14
      first | exact K25 (Or.inl c14) | exact K25 (Or.inr c22)
    · have c14 : ¬ m = 0 := fun z => c14 (by rw [z]; rfl)
      refine gk_aload_n C dX2_readsBoard_17 rfl ?_
      refine mo_g7 C dX2_readsBoard_18 ?_
      refine gk_eqv (y := nI p) rfl ?_
      refine gk_iload_n C dX2_readsBoard_21 rfl ?_
      refine gk_icmp_ge 259 C dX2_readsBoard_22 (by decide) (fun c22 => ?_) (fun c22 => ?_)
      · have c22 := nI_leT c22 (by omega) (by omega)
        rw [if_pos (fun z => z.elim c14 (by omega))] at hR
        refine gk_iconst 1 C dX2_readsBoard_259 rfl ?_
        exact gk_zret C E dX2_readsBoard_260 rfl rfl (by first | exact narrow_b1 | exact narrow_b0 | exact zb_nb) ⟨_, _, rfl, rfl, by rw [← hR]; rfl, _, by rw [← hR], by rw [← hR]; exact hrel⟩
      · have c22 := nI_ngeT c22 (by omega)
        first | exact K25 (Or.inl c14) | exact K25 (Or.inr c22)
  refine gk_aload_n C dX2_readsBoard_0 rfl ?_
  refine gk_iconst 0 C dX2_readsBoard_1 rfl ?_
  refine mo_p7 C dX2_readsBoard_2 ?_
  refine gk_aload_n C dX2_readsBoard_5 rfl ?_
  refine gk_iconst 0 C dX2_readsBoard_6 rfl ?_
  refine mo_p8 C dX2_readsBoard_7 ?_
  rw [mo_rd_0]
  exact L10 _ E 26 0 0 _ _ rfl (by omega) (by omega) (fun j hj => absurd hj (Nat.not_lt_zero j)) rfl
def mo_bb (σ : mo_S) (a b c : Nat → Int32) : mo_S := (σ.1, va_up (va_up (va_up σ.2 13 a) 14 b) 15 c)
theorem mo_bb_13 (σ : mo_S) (a b c : Nat → Int32) (j : Nat) (v : Int32) : mo_a (mo_bb σ a b c) 13 j v = mo_bb σ (upd a j v) b c := by
  have z : (mo_bb σ a b c).2 13 = a := rfl
  unfold mo_a; rw [z]; unfold mo_bb; dsimp only
  rw [va_up_cm _ 15 13 _ _ (by decide), va_up_cm _ 14 13 _ _ (by decide), va_up_up]
theorem mo_bb_14 (σ : mo_S) (a b c : Nat → Int32) (j : Nat) (v : Int32) : mo_a (mo_bb σ a b c) 14 j v = mo_bb σ a (upd b j v) c := by
  have z : (mo_bb σ a b c).2 14 = b := rfl
  unfold mo_a; rw [z]; unfold mo_bb; dsimp only
  rw [va_up_cm _ 15 14 _ _ (by decide), va_up_up]
theorem mo_bb_15 (σ : mo_S) (a b c : Nat → Int32) (j : Nat) (v : Int32) : mo_a (mo_bb σ a b c) 15 j v = mo_bb σ a b (upd c j v) := by
  have z : (mo_bb σ a b c).2 15 = c := rfl
  unfold mo_a; rw [z]; unfold mo_bb; dsimp only; rw [va_up_up]
theorem mo_bb_id (σ : mo_S) : mo_bb σ (σ.2 13) (σ.2 14) (σ.2 15) = σ := by unfold mo_bb; rw [va_up_id, va_up_id, va_up_id]
/-- the model behind a board that was read: m lines by T -/
def mo_brdS (σ : mo_S) (m : Nat) (T : sp_T) : mo_S := mo_bb (mo_i (mo_i (mo_i σ 12 (nI m)) 28 0) 0 0) (cp_u (T 0) (σ.2 13) m) (cp_u (T 1) (σ.2 14) m) (cp_u (T 2) (σ.2 15) m)
set_option maxHeartbeats 8000000 in
theorem mo_board (l : Launch) (Γ : gk_E) (h : Nat) (ad : Nat → Nat) (σ : mo_S) (hS : ∀ j, j < 4 → σ.2 41 j < 0 ∨ ∃ s, s ≤ 80 ∧ σ.2 41 j = nI s) (k la i n : Int32) (c : Nat) (hcc : (ba_c (σ.2 41) (σ.2 42) k la i n) = c) (R : rs_R) (hRR : (rb (mo_x σ k i) n.toInt.toNat 26 0 0 (fun _ _ => 0)) = R) : mo_X l yX2_board (Cond.code yX2_board cX2_board 7 (some .int)) 3 [.int k, .int la, .int i, .int n] Γ h ad σ (fun v σ1 => v = .int (if c = 0 then (if R.1 = true then nI R.2.2.1 else -100 - nI R.2.1) else ba_v c) ∧ (∃ (p m9 : Nat) (K D Nu : Nat → Int32), σ1 = (if c = 0 then (if R.1 = true then mo_brdS (mo_rd σ p m9 K D Nu) R.2.2.1 R.2.2.2 else mo_i (mo_rd σ p m9 K D Nu) 0 0) else mo_i σ 0 (ba_f c)))) := by
  refine gk_M.intro gk_N0_ok (by decide) [some (.ref h), some (.int k), some (.int la), some (.int i), some (.int n), none, none] rfl rfl rfl ?_
  intro κ hl hg hN0 C E
  subst hl hg
  have C : gk_C κ cX2_board "SawLineModel" 3 0 0 := C
  refine gk_aload_n C dX2_board_0 rfl ?_
  refine gk_iload_n C dX2_board_1 rfl ?_
  refine gk_iload_n C dX2_board_2 rfl ?_
  refine gk_iload_n C dX2_board_3 rfl ?_
  refine gk_iload C dX2_board_4 rfl ?_
  refine gk_i2l C dX2_board_6 ?_
  refine mo_cU4 C (mo_barred _ _ _ _ _ k la i n) cv_X2_134 rfl rfl rfl dX2_board_7 ?_
  rw [hcc]
  refine gk_istore C dX2_board_10 rfl rfl ?_
  refine gk_iload C dX2_board_12 rfl ?_
  refine gk_if_ge 20 C dX2_board_14 (by decide) (fun c14 => ?_) (fun c14 => ?_)
  · obtain rfl : c = 0 := Decidable.byContradiction fun z => absurd c14 (Int32.not_le.mpr (ba_neg z))
    rw [if_pos rfl]
    obtain ⟨hk, hla, hsz, hln, hn0, hi0, hin⟩ := ba_0 hcc
    obtain ⟨k, hk3, rfl⟩ := nI_btw (x := k) (n := 3) hk.1 hk.2
    have hkt : (nI k).toInt.toNat = k := toNat_nI (by omega)
    rw [hkt] at hsz hin hln
    obtain ⟨s, hs, es⟩ := (hS k (by omega)).resolve_left hsz
    rw [es, nI_ti (by omega)] at hin
    obtain ⟨n, hn80, rfl⟩ := nI_btw (x := n) (n := 80) hn0 (by omega)
    obtain ⟨i, hi80, rfl⟩ := nI_btw (x := i) (n := 80) hi0 (by omega)
    have hnt : (nI n).toInt.toNat = n := toNat_nI (by omega)
    have hit : (nI i).toInt.toNat = i := toNat_nI (by omega)
    rw [nI_ti (by omega), nI_ti (by omega)] at hin
    have hm8 := rb_m (mo_x σ (nI k) (nI i)) (nI n).toInt.toNat 26 0 0 (fun _ _ => 0) rfl (by omega)
    rw [hRR] at hm8
    rw [hnt, show mo_x σ (nI k) (nI i) = (fun p => σ.2 43 (80 * k + i + p)) from by unfold mo_x; rw [hkt, hit]] at hRR
    simp only [↓reduceIte] at E
    refine gk_aload_n C dX2_board_20 rfl ?_
    refine gk_bipush 80 C dX2_board_21 rfl ?_
    refine gk_iload_n C dX2_board_23 rfl ?_
    refine gk_imul C dX2_board_24 ?_
    refine gk_iload_n C dX2_board_25 rfl ?_
    refine gk_iadd C dX2_board_26 ?_
    refine gk_eqv (nI_ma 80 k i) ?_
    refine gk_iload C dX2_board_27 rfl ?_
    refine mo_cX2 C (mo_readsBoard _ _ _ _ _ (80 * k + i) n (by omega)) cv_X2_177 rfl rfl rfl dX2_board_29 ?_
    rintro v9 σ9 ⟨rfl, Nu, rfl, hrel⟩
    rw [hRR] at hrel ⊢
    clear hRR
    obtain ⟨okR, p9, m, T⟩ := R
    dsimp only at E hrel hm8 ⊢
    refine gk_if_ne 47 C dX2_board_32 (by decide) (fun c32 => ?_) (fun c32 => ?_)
    · rw [zb_n] at c32
      subst c32
      refine gk_aload_n C dX2_board_47 rfl ?_
      refine gk_aload_n C dX2_board_48 rfl ?_
      refine mo_g8 C dX2_board_49 ?_
      refine gk_eqv (y := nI m) rfl ?_
      refine mo_p12 C dX2_board_52 ?_
      refine gk_iconst 0 C dX2_board_55 rfl ?_
      refine gk_istore C dX2_board_56 rfl rfl ?_
      have L58 : ∀ x, x ≤ m → gk_G κ 0 0 (mo_W (gk_g κ) h ad (mo_bb (mo_i (mo_rd σ p9 m (σ.2 9) (σ.2 10) Nu) 12 (nI m)) (cp_u (fun j => Nu (3 * j)) (σ.2 13) x) (cp_u (fun j => Nu (3 * j + 1)) (σ.2 14) x) (cp_u (fun j => Nu (3 * j + 2)) (σ.2 15) x))) 58 [some (.ref h), some (.int (nI k)), some (.int la), some (.int (nI i)), some (.int (nI n)), some (.int (ba_v 0)), some (.int (nI x))] [] := by
        refine up_ind (fun x hx ih => ?_)
        refine gk_iload C dX2_board_58 rfl ?_
        refine gk_aload_n C dX2_board_60 rfl ?_
        refine mo_g12 C dX2_board_61 ?_
        refine gk_eqv (y := nI m) rfl ?_
        refine gk_icmp_ge 125 C dX2_board_64 (by decide) (fun c64 => ?_) (fun c64 => ?_)
        · obtain rfl : x = m := by have := nI_leT c64 (by omega) (by omega); omega
          refine gk_aload_n C dX2_board_125 rfl ?_
          refine gk_iconst 0 C dX2_board_126 rfl ?_
          refine mo_p28 C dX2_board_127 ?_
          refine gk_aload_n C dX2_board_130 rfl ?_
          refine gk_aload_n C dX2_board_131 rfl ?_
          refine mo_g12 C dX2_board_132 ?_
          refine gk_eqv (y := nI x) rfl ?_
          refine mo_cU1 C (mo_refused _ _ _ _ _ _) cv_X2_99 rfl rfl rfl dX2_board_135 ?_
          exact gk_iret C E dX2_board_138 rfl rfl ⟨_, _, rfl, rfl, rfl, p9, x, σ.2 9, σ.2 10, Nu, by rw [cp_uc (g := σ.2 13) (fun j hj => (hrel j hj).1), cp_uc (g := σ.2 14) (fun j hj => (hrel j hj).2.1), cp_uc (g := σ.2 15) (fun j hj => (hrel j hj).2.2)]; rfl⟩
        · have c64 := nI_ngeT c64 (by omega)
          refine gk_aload_n C dX2_board_67 rfl ?_
          refine mo_g13 C dX2_board_68 ?_
          refine gk_iload C dX2_board_71 rfl ?_
          refine gk_aload_n C dX2_board_73 rfl ?_
          refine mo_g11 C dX2_board_74 ?_
          refine gk_iconst 3 C dX2_board_77 rfl ?_
          refine gk_iload C dX2_board_78 rfl ?_
          refine gk_imul C dX2_board_80 ?_
          refine mo_l11 C dX2_board_81 (pk_mul 3 x) (by omega) ?_
          refine mo_s13 C dX2_board_82 rfl (by omega) ?_
          rw [mo_bb_13]
          refine gk_aload_n C dX2_board_83 rfl ?_
          refine mo_g14 C dX2_board_84 ?_
          refine gk_iload C dX2_board_87 rfl ?_
          refine gk_aload_n C dX2_board_89 rfl ?_
          refine mo_g11 C dX2_board_90 ?_
          refine gk_iconst 3 C dX2_board_93 rfl ?_
          refine gk_iload C dX2_board_94 rfl ?_
          refine gk_imul C dX2_board_96 ?_
          refine gk_iconst 1 C dX2_board_97 rfl ?_
          refine gk_iadd C dX2_board_98 ?_
          refine mo_l11 C dX2_board_99 (nI_ma 3 x 1) (by omega) ?_
          refine mo_s14 C dX2_board_100 rfl (by omega) ?_
          rw [mo_bb_14]
          refine gk_aload_n C dX2_board_101 rfl ?_
          refine mo_g15 C dX2_board_102 ?_
          refine gk_iload C dX2_board_105 rfl ?_
          refine gk_aload_n C dX2_board_107 rfl ?_
          refine mo_g11 C dX2_board_108 ?_
          refine gk_iconst 3 C dX2_board_111 rfl ?_
          refine gk_iload C dX2_board_112 rfl ?_
          refine gk_imul C dX2_board_114 ?_
          refine gk_iconst 2 C dX2_board_115 rfl ?_
          refine gk_iadd C dX2_board_116 ?_
          refine mo_l11 C dX2_board_117 (nI_ma 3 x 2) (by omega) ?_
          refine mo_s15 C dX2_board_118 rfl (by omega) ?_
          rw [mo_bb_15]
          refine gk_eqw (ws' := mo_W (gk_g κ) h ad (mo_bb (mo_i (mo_rd σ p9 m (σ.2 9) (σ.2 10) Nu) 12 (nI m)) (cp_u (fun j => Nu (3 * j)) (σ.2 13) (x + 1)) (cp_u (fun j => Nu (3 * j + 1)) (σ.2 14) (x + 1)) (cp_u (fun j => Nu (3 * j + 2)) (σ.2 15) (x + 1)))) (by rw [← cp_us (fun j => Nu (3 * j)), ← cp_us (fun j => Nu (3 * j + 1)), ← cp_us (fun j => Nu (3 * j + 2))]; rfl) ?_
          refine gk_iinc (nI (x + 1)) C dX2_board_119 rfl (nI_succ x).symm rfl rfl ?_
          refine gk_goto 58 C dX2_board_122 (by decide) ?_
          exact ih c64
      have h0 := L58 0 (Nat.zero_le _)
      rw [cp_u0, cp_u0, cp_u0, show mo_bb (mo_i (mo_rd σ p9 m (σ.2 9) (σ.2 10) Nu) 12 (nI m)) (σ.2 13) (σ.2 14) (σ.2 15) = mo_i (mo_rd σ p9 m (σ.2 9) (σ.2 10) Nu) 12 (nI m) from mo_bb_id (mo_i (mo_rd σ p9 m (σ.2 9) (σ.2 10) Nu) 12 (nI m))] at h0
      exact h0
    · rw [zb_0, Bool.not_eq_true] at c32
      subst c32
      refine gk_aload_n C dX2_board_35 rfl ?_
      refine gk_bipush (-100) C dX2_board_36 rfl ?_
      refine gk_aload_n C dX2_board_38 rfl ?_
      refine mo_g7 C dX2_board_39 ?_
      refine gk_eqv (y := nI p9) rfl ?_
      refine gk_isub C dX2_board_42 ?_
      refine mo_cU1 C (mo_refused _ _ _ _ _ _) cv_X2_99 rfl rfl rfl dX2_board_43 ?_
      exact gk_iret C E dX2_board_46 rfl rfl ⟨_, _, rfl, rfl, rfl, _, _, _, _, _, rfl⟩
  · have hc : ¬ c = 0 := fun z => c14 (by rw [z]; decide)
    rw [if_neg hc]
    refine gk_iload C dX2_board_17 rfl ?_
    exact gk_iret C E dX2_board_19 rfl rfl ⟨_, _, rfl, rfl, by rw [if_neg hc], 0, 0, σ.2 9, σ.2 10, σ.2 11, by rw [if_neg hc]⟩
