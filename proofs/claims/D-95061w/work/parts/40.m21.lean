set_option maxRecDepth 100000
def mo_lg (σ : mo_S) (s : Nat → Int32) (b : Int32) : mo_S := (va_up σ.1 40 b, va_up σ.2 39 s)
theorem mo_lg_39 (σ : mo_S) (s : Nat → Int32) (b : Int32) (j : Nat) (v : Int32) : mo_a (mo_lg σ s b) 39 j v = mo_lg σ (upd s j v) b := by
  have e : (mo_lg σ s b).2 39 = s := rfl
  unfold mo_a; rw [e]; unfold mo_lg; dsimp only; rw [va_up_up]
theorem mo_lg_40 (σ : mo_S) (s : Nat → Int32) (b v : Int32) : mo_i (mo_lg σ s b) 40 v = mo_lg σ s v := by
  unfold mo_i mo_lg; dsimp only; rw [va_up_up]
theorem mo_lg_id (σ : mo_S) : mo_lg σ (σ.2 39) (σ.1 40) = σ := by unfold mo_lg; rw [va_up_id, va_up_id]
theorem pw7 : ∀ n, n ≤ 7 → 7 ^ (n - 1) ≤ 117649 := by decide
theorem pw7s (x : Nat) (hx : 0 < x) : 7 ^ (x - 1) * 7 = 7 ^ (x + 1 - 1) := by
  obtain ⟨u, rfl⟩ : ∃ u, x = u + 1 := ⟨x - 1, by omega⟩
  exact (Nat.pow_succ 7 u).symm
set_option maxHeartbeats 8000000 in
theorem mo_log (l : Launch) (Γ : gk_E) (h : Nat) (ad : Nat → Nat) (σ : mo_S) (hS : ∀ j, j < 4 → σ.2 41 j < 0 ∨ ∃ s, s ≤ 80 ∧ σ.2 41 j = nI s) (k la i n q : Int32) (c : Nat) (hcc : (ba_c (σ.2 41) (σ.2 42) k la i n) = c) (R : Int32) (hRR : ap_log (mo_x σ k i) n.toInt.toNat q = R) : mo_X l yX2_log (Cond.code yX2_log cX2_log 11 (some .int)) 3 [.int k, .int la, .int i, .int n, .int q] Γ h ad σ (fun v σ1 => v = .int (if c = 0 then R else ba_v c) ∧ ∃ (s : Nat → Int32) (b : Int32), σ1 = (if c = 0 then mo_i (mo_lg σ s b) 0 0 else mo_i σ 0 (ba_f c))) := by
  refine gk_M.intro gk_N0_ok (by decide) [some (.ref h), some (.int k), some (.int la), some (.int i), some (.int n), some (.int q), none, none, none, none, none] rfl rfl rfl ?_
  intro κ hl hg hN0 C E
  subst hl hg
  have C : gk_C κ cX2_log "SawLineModel" 3 0 0 := C
  refine gk_aload_n C dX2_log_0 rfl ?_
  refine gk_iload_n C dX2_log_1 rfl ?_
  refine gk_iload_n C dX2_log_2 rfl ?_
  refine gk_iload_n C dX2_log_3 rfl ?_
  refine gk_iload C dX2_log_4 rfl ?_
  refine gk_i2l C dX2_log_6 ?_
  refine mo_cU4 C (mo_barred _ _ _ _ _ k la i n) cv_X2_134 rfl rfl rfl dX2_log_7 ?_
  rw [hcc]
  refine gk_istore C dX2_log_10 rfl rfl ?_
  refine gk_iload C dX2_log_12 rfl ?_
  refine gk_if_ge 20 C dX2_log_14 (by decide) (fun c14 => ?_) (fun c14 => ?_)
  · obtain rfl : c = 0 := Decidable.byContradiction fun z => absurd c14 (Int32.not_le.mpr (ba_neg z))
    rw [if_pos rfl]
    obtain ⟨hk, hla, hsz, hln, hn0, hi0, hin⟩ := ba_0 hcc
    obtain ⟨k, hk3, rfl⟩ := nI_btw (x := k) (n := 3) hk.1 hk.2
    have hkt : (nI k).toInt.toNat = k := toNat_nI (by omega)
    rw [hkt] at hsz hin hln
    obtain ⟨s, hs, es⟩ := (hS k (by omega)).resolve_left hsz
    rw [es, nI_ti (by omega)] at hin
    obtain ⟨n, hn80, rfl⟩ := nI_btw (x := n) (n := 80) hn0 (by omega)
    obtain ⟨i, hi80, rfl⟩ := nI_btw (x := i) (n := 80) hi0 (by omega)
    have hnt : (nI n).toInt.toNat = n := toNat_nI (by omega)
    have hit : (nI i).toInt.toNat = i := toNat_nI (by omega)
    rw [nI_ti (by omega), nI_ti (by omega)] at hin
    rw [hnt, show mo_x σ (nI k) (nI i) = (fun p => σ.2 43 (80 * k + i + p)) from by unfold mo_x; rw [hkt, hit]] at hRR
    simp only [↓reduceIte] at E
    refine gk_iload C dX2_log_20 rfl ?_
    refine gk_i2l C dX2_log_22 ?_
    refine gk_ldc2 C q1235 dX2_log_23 ?_
    refine gk_ldc2 C q1462 dX2_log_26 ?_
    refine gk_cP3 C (mo_in3 _ (nI n) 2 7 2 7 rfl rfl) cs_X2_105 rfl (Nat.zero_le _) (Nat.zero_le _) rfl dX2_log_29 ?_
    refine gk_if_ne 42 C dX2_log_32 (by decide) (fun c32 => ?_) (fun c32 => ?_)
    · rw [zb_n, nI_ti (by omega)] at c32
      have c32 : 2 ≤ n ∧ n ≤ 7 := ⟨by omega, by omega⟩
      have hpw := pw7 n c32.2
      refine gk_iconst 1 C dX2_log_42 rfl ?_
      refine gk_istore C dX2_log_43 rfl rfl ?_
      refine gk_iconst 0 C dX2_log_45 rfl ?_
      refine gk_istore C dX2_log_46 rfl rfl ?_
      have L48 : ∀ x, x ≤ n → st_n (fun p => if -9 ≤ ((fun p => σ.2 43 (80 * k + i + p)) p).toInt ∧ ((fun p => σ.2 43 (80 * k + i + p)) p).toInt ≤ 9 then (0 : Int32) else 1) 0 (n - x) x = st_n (fun p => if -9 ≤ ((fun p => σ.2 43 (80 * k + i + p)) p).toInt ∧ ((fun p => σ.2 43 (80 * k + i + p)) p).toInt ≤ 9 then (0 : Int32) else 1) 0 n 0 → gk_G κ 0 0 (mo_W (gk_g κ) h ad (mo_lg σ (cp_u (fun p => σ.2 43 (80 * k + i + p)) (σ.2 39) x) (σ.1 40))) 48 [some (.ref h), some (.int (nI k)), some (.int la), some (.int (nI i)), some (.int (nI n)), some (.int q), some (.int (ba_v 0)), some (.int (nI (7 ^ (x - 1)))), some (.int (nI x)), none, none] [] := by
        refine up_ind (fun x hx ih => ?_)
        intro hst
        refine gk_iload C dX2_log_48 rfl ?_
        refine gk_iload C dX2_log_50 rfl ?_
        refine gk_icmp_ge 125 C dX2_log_52 (by decide) (fun c52 => ?_) (fun c52 => ?_)
        · obtain rfl : x = n := by have := nI_leT c52 (by omega) (by omega); omega
          rw [Nat.sub_self] at hst
          have hst : st_n (fun p => if -9 ≤ ((fun p => σ.2 43 (80 * k + i + p)) p).toInt ∧ ((fun p => σ.2 43 (80 * k + i + p)) p).toInt ≤ 9 then (0 : Int32) else 1) 0 x 0 = x := hst.symm
          refine gk_iload C dX2_log_125 rfl ?_
          refine gk_i2l C dX2_log_127 ?_
          refine gk_ldc2 C q1463 dX2_log_128 ?_
          refine gk_ldc2 C q1316 dX2_log_131 ?_
          refine gk_cP3 C (mo_in3 _ q (-1) 5 (-1) 5 rfl rfl) cs_X2_105 rfl (Nat.zero_le _) (Nat.zero_le _) rfl dX2_log_134 ?_
          refine gk_if_ne 146 C dX2_log_137 (by decide) (fun c137 => ?_) (fun c137 => ?_)
          · rw [zb_n] at c137
            refine gk_aload_n C dX2_log_146 rfl ?_
            refine gk_bipush (-9) C dX2_log_147 rfl ?_
            refine mo_p40 C dX2_log_149 ?_
            rw [mo_lg_40]
            refine gk_bipush (-9) C dX2_log_152 rfl ?_
            refine gk_istore C dX2_log_154 rfl rfl ?_
            refine gk_iconst 0 C dX2_log_156 rfl ?_
            refine gk_istore C dX2_log_157 rfl rfl ?_
            have L159 : ∀ o, o ≤ 7 ^ (x - 1) → gk_G κ 0 0 (mo_W (gk_g κ) h ad (mo_lg σ (cp_u (fun p => σ.2 43 (80 * k + i + p)) (σ.2 39) x) (bo (cp_u (fun p => σ.2 43 (80 * k + i + p)) (σ.2 39) x) x o).2)) 159 [some (.ref h), some (.int (nI k)), some (.int la), some (.int (nI i)), some (.int (nI x)), some (.int q), some (.int (ba_v 0)), some (.int (nI (7 ^ (x - 1)))), some (.int (bo (cp_u (fun p => σ.2 43 (80 * k + i + p)) (σ.2 39) x) x o).1), some (.int (nI o)), none] [] := by
              refine up_ind (fun o ho iho => ?_)
              refine gk_iload C dX2_log_159 rfl ?_
              refine gk_iload C dX2_log_161 rfl ?_
              refine gk_icmp_ge 209 C dX2_log_163 (by decide) (fun c163 => ?_) (fun c163 => ?_)
              · obtain rfl : o = 7 ^ (x - 1) := by have := nI_leT c163 (by omega) (by omega); omega
                have hbo : bo (cp_u (fun p => σ.2 43 (80 * k + i + p)) (σ.2 39) x) x (7 ^ (x - 1)) = bo (fun p => σ.2 43 (80 * k + i + p)) x (7 ^ (x - 1)) := bo_c c32.1 (fun j hj => by unfold cp_u; rw [if_pos hj])
                rw [hbo]
                have hRR : (if q.toInt < 0 then (bo (fun p => σ.2 43 (80 * k + i + p)) x (7 ^ (x - 1))).1 else if q.toInt < (x : Int) - 1 then ci (bo (fun p => σ.2 43 (80 * k + i + p)) x (7 ^ (x - 1))).2 (x - 2 - q.toInt.toNat) else -9) = R := by rw [← hRR]; unfold ap_log; rw [if_neg (show ¬ ¬ _ from fun z => z c32), if_neg (show ¬ ¬ _ from fun z => z hst), if_neg (show ¬ ¬ _ from fun z => z c137)]
                refine gk_aload_n C dX2_log_209 rfl ?_
                refine gk_iload C dX2_log_210 rfl ?_
                refine gk_jn1 (R) 247 ?_ (fun K247 => ?_)
                · refine mo_cU1 C (mo_refused _ _ _ _ _ _) cv_X2_99 rfl rfl rfl dX2_log_247 ?_
                  exact gk_iret C E dX2_log_250 rfl rfl ⟨_, _, rfl, rfl, rfl, _, _, rfl⟩
                · refine gk_if_ge 220 C dX2_log_212 (by decide) (fun c212 => ?_) (fun c212 => ?_)
                  · rw [Int32.le_iff_toInt_le, Int32.toInt_zero] at c212
                    rw [if_neg (by omega)] at hRR
                    obtain ⟨q, hq5, rfl⟩ := nI_btw (x := q) (n := 5) c212 c137.2
                    rw [toNat_nI (by omega), nI_ti (by omega)] at hRR
                    refine gk_iload C dX2_log_220 rfl ?_
                    refine gk_iload C dX2_log_222 rfl ?_
                    refine gk_iconst 1 C dX2_log_224 rfl ?_
                    refine gk_isub C dX2_log_225 ?_
                    refine gk_eqv (nI_s1 (by omega)) ?_
                    refine gk_icmp_ge 245 C dX2_log_226 (by decide) (fun c226 => ?_) (fun c226 => ?_)
                    · have c226 := nI_leT c226 (by omega) (by omega)
                      rw [if_neg (by omega)] at hRR
                      have h1 := hRR
                      refine gk_bipush (-9) C dX2_log_245 rfl ?_
                      exact gk_eqv (by exact h1) K247
                    · have c226 := nI_ngeT c226 (by omega)
                      rw [if_pos (by omega)] at hRR
                      have h1 := hRR
                      refine gk_aload_n C dX2_log_229 rfl ?_
                      refine mo_g40 C dX2_log_230 ?_
                      refine gk_eqv (y := (bo (fun p => σ.2 43 (80 * k + i + p)) x (7 ^ (x - 1))).2) rfl ?_
                      refine gk_iload C dX2_log_233 rfl ?_
                      refine gk_iconst 1 C dX2_log_235 rfl ?_
                      refine gk_isub C dX2_log_236 ?_
                      refine gk_eqv (nI_s1 (by omega)) ?_
                      refine gk_iload C dX2_log_237 rfl ?_
                      refine gk_cP3 C (mo_cutIn _ _ (x - 1) q c226 (by omega)) cs_X2_287 rfl (Nat.zero_le _) (Nat.zero_le _) rfl dX2_log_239 ?_
                      rw [show x - 1 - 1 - q = x - 2 - q by omega]
                      refine gk_goto 247 C dX2_log_242 (by decide) ?_
                      exact gk_eqv (by exact h1) K247
                  · rw [Int32.le_iff_toInt_le, Int32.toInt_zero] at c212
                    rw [if_pos (by omega)] at hRR
                    have h1 := hRR
                    refine gk_iload C dX2_log_215 rfl ?_
                    refine gk_goto 247 C dX2_log_217 (by decide) ?_
                    exact gk_eqv (by exact h1) K247
              · have c163 : o < 7 ^ (x - 1) := nI_ngeT c163 (by omega)
                have K203 : gk_G κ 0 0 (mo_W (gk_g κ) h ad (mo_lg σ (cp_u (fun p => σ.2 43 (80 * k + i + p)) (σ.2 39) x) (bo (cp_u (fun p => σ.2 43 (80 * k + i + p)) (σ.2 39) x) x (o + 1)).2)) 203 [some (.ref h), some (.int (nI k)), some (.int la), some (.int (nI i)), some (.int (nI x)), some (.int q), some (.int (ba_v 0)), some (.int (nI (7 ^ (x - 1)))), some (.int (bo (cp_u (fun p => σ.2 43 (80 * k + i + p)) (σ.2 39) x) x (o + 1)).1), some (.int (nI o)), none] [] := by
                  refine gk_iinc (nI (o + 1)) C dX2_log_203 rfl (nI_succ o).symm rfl rfl ?_
                  refine gk_goto 159 C dX2_log_206 (by decide) ?_
                  exact iho c163
                refine gk_aload_n C dX2_log_166 rfl ?_
                refine gk_iload C dX2_log_167 rfl ?_
                refine gk_iload C dX2_log_169 rfl ?_
                refine mo_cU2 C (mo_costOfOrder _ _ _ _ _ x o c32.1 c32.2 (by omega)) cv_X2_297 rfl rfl rfl dX2_log_171 ?_
                refine gk_eqv (y := co (cp_u (fun p => σ.2 43 (80 * k + i + p)) (σ.2 39) x) x o (x - 1) 0 0 0) rfl ?_
                refine gk_istore C dX2_log_174 rfl rfl ?_
                refine gk_iload C dX2_log_176 rfl ?_
                refine gk_if_lt 203 C dX2_log_178 (by decide) (fun c178 => ?_) (fun c178 => ?_)
                · have hs : (bo (cp_u (fun p => σ.2 43 (80 * k + i + p)) (σ.2 39) x) x (o + 1)) = (bo (cp_u (fun p => σ.2 43 (80 * k + i + p)) (σ.2 39) x) x o) := if_neg (fun z => Int32.not_le.mpr c178 z.1)
                  rw [hs] at K203
                  exact gk_fg 10 K203
                · have c178 := Int32.not_lt.mp c178
                  refine gk_iload C dX2_log_181 rfl ?_
                  refine gk_if_lt 193 C dX2_log_183 (by decide) (fun c183 => ?_) (fun c183 => ?_)
                  · have hs : (bo (cp_u (fun p => σ.2 43 (80 * k + i + p)) (σ.2 39) x) x (o + 1)) = (co (cp_u (fun p => σ.2 43 (80 * k + i + p)) (σ.2 39) x) x o (x - 1) 0 0 0, nI o) := if_pos ⟨c178, Or.inl c183⟩
                    refine gk_iload C dX2_log_193 rfl ?_
                    refine gk_istore C dX2_log_195 rfl rfl ?_
                    refine gk_aload_n C dX2_log_197 rfl ?_
                    refine gk_iload C dX2_log_198 rfl ?_
                    refine mo_p40 C dX2_log_200 ?_
                    rw [mo_lg_40]
                    rw [hs] at K203
                    exact gk_fg 10 K203
                  · refine gk_iload C dX2_log_186 rfl ?_
                    refine gk_iload C dX2_log_188 rfl ?_
                    refine gk_icmp_ge 203 C dX2_log_190 (by decide) (fun c190 => ?_) (fun c190 => ?_)
                    · have hs : (bo (cp_u (fun p => σ.2 43 (80 * k + i + p)) (σ.2 39) x) x (o + 1)) = (bo (cp_u (fun p => σ.2 43 (80 * k + i + p)) (σ.2 39) x) x o) := if_neg (fun z => z.2.elim c183 (Int32.not_lt.mpr c190))
                      rw [hs] at K203
                      exact gk_fg 10 K203
                    · have hs : (bo (cp_u (fun p => σ.2 43 (80 * k + i + p)) (σ.2 39) x) x (o + 1)) = (co (cp_u (fun p => σ.2 43 (80 * k + i + p)) (σ.2 39) x) x o (x - 1) 0 0 0, nI o) := if_pos ⟨c178, Or.inr (Int32.not_le.mp c190)⟩
                      refine gk_iload C dX2_log_193 rfl ?_
                      refine gk_istore C dX2_log_195 rfl rfl ?_
                      refine gk_aload_n C dX2_log_197 rfl ?_
                      refine gk_iload C dX2_log_198 rfl ?_
                      refine mo_p40 C dX2_log_200 ?_
                      rw [mo_lg_40]
                      rw [hs] at K203
                      exact gk_fg 10 K203
            exact L159 0 (Nat.zero_le _)
          · rw [zb_0] at c137
            refine gk_aload_n C dX2_log_140 rfl ?_
            refine gk_iconst (-1) C dX2_log_141 rfl ?_
            refine mo_cU1 C (mo_refused _ _ _ _ _ _) cv_X2_99 rfl rfl rfl dX2_log_142 ?_
            exact gk_iret C E dX2_log_145 rfl rfl ⟨_, _, rfl, rfl, congrArg Value.int (by rw [← hRR]; exact ((if_neg (show ¬ ¬ _ from fun z => z c32)).trans ((if_neg (show ¬ ¬ _ from fun z => z hst)).trans (if_pos c137))).symm), _, _, by first | rfl | (rw [mo_lg_id])⟩
        · have c52 := nI_ngeT c52 (by omega)
          refine gk_aload_n C dX2_log_55 rfl ?_
          refine mo_g39 C dX2_log_56 ?_
          refine gk_iload C dX2_log_59 rfl ?_
          refine gk_aload_n C dX2_log_61 rfl ?_
          refine mo_g43 C dX2_log_62 ?_
          refine gk_bipush 80 C dX2_log_65 rfl ?_
          refine gk_iload_n C dX2_log_67 rfl ?_
          refine gk_imul C dX2_log_68 ?_
          refine gk_iload_n C dX2_log_69 rfl ?_
          refine gk_iadd C dX2_log_70 ?_
          refine gk_iload C dX2_log_71 rfl ?_
          refine gk_iadd C dX2_log_73 ?_
          refine mo_l43 C dX2_log_74 ((congrArg (· + nI x) (nI_ma 80 k i)).trans (nI_add _ _)) (by omega) ?_
          refine mo_s39 C dX2_log_75 rfl (by omega) ?_
          rw [mo_lg_39]
          refine gk_eqw (ws' := mo_W (gk_g κ) h ad (mo_lg σ (cp_u (fun p => σ.2 43 (80 * k + i + p)) (σ.2 39) (x + 1)) (σ.1 40))) (by rw [← cp_us (fun p => σ.2 43 (80 * k + i + p))]; rfl) ?_
          refine gk_iload C dX2_log_76 rfl ?_
          refine gk_iload C dX2_log_78 rfl ?_
          refine gk_jn1 (if x = 0 then (1 : Int32) else 7) 89 ?_ (fun K89 => ?_)
          · refine gk_imul C dX2_log_89 ?_
            refine gk_eqv (y := nI (7 ^ (x + 1 - 1))) (by by_cases z : x = 0; rw [if_pos z, z]; rfl; rw [if_neg z, ← pw7s x (by omega)]; exact pk_mul _ 7) ?_
            refine gk_istore C dX2_log_90 rfl rfl ?_
            refine gk_aload_n C dX2_log_92 rfl ?_
            refine mo_g39 C dX2_log_93 ?_
            refine gk_iload C dX2_log_96 rfl ?_
            refine mo_l39 C dX2_log_98 rfl (by omega) ?_
            refine gk_eqv (y := (fun p => σ.2 43 (80 * k + i + p)) x) (by show cp_u (fun p => σ.2 43 (80 * k + i + p)) (σ.2 39) (x + 1) x = _; unfold cp_u; rw [if_pos (by omega)]) ?_
            refine gk_i2l C dX2_log_99 ?_
            refine gk_ldc2 C q1315 dX2_log_100 ?_
            refine gk_ldc2 C q1254 dX2_log_103 ?_
            refine gk_cP3 C (mo_in3 _ ((fun p => σ.2 43 (80 * k + i + p)) x) (-9) 9 (-9) 9 rfl rfl) cs_X2_105 rfl (Nat.zero_le _) (Nat.zero_le _) rfl dX2_log_106 ?_
            refine gk_if_ne 119 C dX2_log_109 (by decide) (fun c109 => ?_) (fun c109 => ?_)
            · rw [zb_n] at c109
              refine gk_iinc (nI (x + 1)) C dX2_log_119 rfl (nI_succ x).symm rfl rfl ?_
              refine gk_goto 48 C dX2_log_122 (by decide) ?_
              refine ih c52 ?_
              rw [← hst, show n - x = n - (x + 1) + 1 by omega]
              exact (if_pos (show _ ≤ (0 : Int32) by dsimp only; rw [if_pos c109]; decide)).symm
            · rw [zb_0] at c109
              have hst : ¬ st_n (fun p => if -9 ≤ ((fun p => σ.2 43 (80 * k + i + p)) p).toInt ∧ ((fun p => σ.2 43 (80 * k + i + p)) p).toInt ≤ 9 then (0 : Int32) else 1) 0 n 0 = n := by
                rw [← hst, show n - x = n - x - 1 + 1 by omega]
                rw [show st_n (fun p => if -9 ≤ ((fun p => σ.2 43 (80 * k + i + p)) p).toInt ∧ ((fun p => σ.2 43 (80 * k + i + p)) p).toInt ≤ 9 then (0 : Int32) else 1) 0 (n - x - 1 + 1) x = x from if_neg (show ¬ _ ≤ (0 : Int32) by dsimp only; rw [if_neg c109]; decide)]
                omega
              refine gk_aload_n C dX2_log_112 rfl ?_
              refine gk_bipush (-2) C dX2_log_113 rfl ?_
              refine mo_cU1 C (mo_refused _ _ _ _ _ _) cv_X2_99 rfl rfl rfl dX2_log_115 ?_
              exact gk_iret C E dX2_log_118 rfl rfl ⟨_, _, rfl, rfl, congrArg Value.int (by rw [← hRR]; exact ((if_neg (show ¬ ¬ _ from fun z => z c32)).trans (if_pos hst)).symm), _, _, by first | rfl | (rw [mo_lg_id])⟩
          · refine gk_if_le 88 C dX2_log_80 (by decide) (fun c80 => ?_) (fun c80 => ?_)
            · have h1 : x = 0 := by have := nI_leT (b := 0) c80 (by omega) (by omega); omega
              refine gk_iconst 1 C dX2_log_88 rfl ?_
              exact gk_eqv (by first | exact (if_pos h1).symm | exact (if_neg h1).symm) K89
            · have h1 : ¬ x = 0 := fun z => c80 (by rw [z]; decide)
              refine gk_bipush 7 C dX2_log_83 rfl ?_
              refine gk_goto 89 C dX2_log_85 (by decide) ?_
              exact gk_eqv (by first | exact (if_pos h1).symm | exact (if_neg h1).symm) K89
      have h0 := L48 0 (Nat.zero_le _) rfl
      rw [cp_u0, mo_lg_id] at h0
      exact h0
    · rw [zb_0, nI_ti (by omega)] at c32
      have c32 : ¬ (2 ≤ n ∧ n ≤ 7) := fun z => c32 ⟨by omega, by omega⟩
      refine gk_aload_n C dX2_log_35 rfl ?_
      refine gk_bipush (-2) C dX2_log_36 rfl ?_
      refine mo_cU1 C (mo_refused _ _ _ _ _ _) cv_X2_99 rfl rfl rfl dX2_log_38 ?_
      exact gk_iret C E dX2_log_41 rfl rfl ⟨_, _, rfl, rfl, congrArg Value.int (by rw [← hRR]; exact (if_pos c32).symm), σ.2 39, σ.1 40, by rw [mo_lg_id]⟩
  · have hc : ¬ c = 0 := fun z => c14 (by rw [z]; decide)
    rw [if_neg hc]
    refine gk_iload C dX2_log_17 rfl ?_
    exact gk_iret C E dX2_log_19 rfl rfl ⟨_, _, rfl, rfl, by rw [if_neg hc], σ.2 39, σ.1 40, by rw [if_neg hc]⟩
