set_option maxRecDepth 100000
def mo_hd (σ : mo_S) (g : Nat → Int32) : mo_S := (σ.1, va_up σ.2 44 g)
theorem mo_hd_a (σ : mo_S) (d : Nat → Int32) (j : Nat) (v : Int32) : mo_a (mo_hd σ d) 44 j v = mo_hd σ (upd d j v) := by
  have e : (mo_hd σ d).2 44 = d := rfl
  unfold mo_a; rw [e]; unfold mo_hd; dsimp only; rw [va_up_up]
theorem mo_hd_id (σ : mo_S) : mo_hd σ (σ.2 44) = σ := by unfold mo_hd; rw [va_up_id]
set_option maxHeartbeats 8000000 in
theorem mo_copy (l : Launch) (Γ : gk_E) (h : Nat) (ad : Nat → Nat) (σ : mo_S) (hS : ∀ j, j < 4 → σ.2 41 j < 0 ∨ ∃ s, s ≤ 80 ∧ σ.2 41 j = nI s) (k i o j n : Int32) : mo_X l yX2_copy (Cond.code yX2_copy cX2_copy 7 (some .int)) 2 [.int k, .int i, .int o, .int j, .int n] Γ h ad σ (fun v σ1 => v = .int (if (cp_c (σ.2 41) (σ.2 42) k i o j n) = 0 then n else ba_v (cp_c (σ.2 41) (σ.2 42) k i o j n)) ∧ ∃ g : Nat → Int32, σ1 = mo_hd (mo_i (if (cp_c (σ.2 41) (σ.2 42) k i o j n) = 0 then mo_sd σ (va_cpy (σ.2 43) (σ.2 43) (80 * k.toInt.toNat + i.toInt.toNat) (80 * o.toInt.toNat + j.toInt.toNat) n.toInt.toNat) else σ) 0 (ba_f (cp_c (σ.2 41) (σ.2 42) k i o j n))) g) := by
  refine gk_M.intro gk_N0_ok (by decide) [some (.ref h), some (.int k), some (.int i), some (.int o), some (.int j), some (.int n), none] rfl rfl rfl ?_
  intro κ hl hg hN0 C E
  subst hl hg
  have C : gk_C κ cX2_copy "SawLineModel" 2 0 0 := C
  refine gk_iload_n C dX2_copy_0 rfl ?_
  refine gk_cP1 C (mo_noSheet _ k) cs_X2_95 rfl (Nat.zero_le _) (Nat.zero_le _) rfl dX2_copy_1 ?_
  refine gk_if_ne 14 C dX2_copy_4 (by decide) (fun c4 => ?_) (fun c4 => ?_)
  · rw [zb_n] at c4
    have hc : (cp_c (σ.2 41) (σ.2 42) k i o j n) = 1 := if_pos (fun z => c4 z.1)
    refine gk_aload_n C dX2_copy_14 rfl ?_
    refine gk_iconst (-1) C dX2_copy_15 rfl ?_
    refine mo_cU1 C (mo_refused _ _ _ _ _ _) cv_X2_99 rfl rfl rfl dX2_copy_16 ?_
    exact gk_iret C E dX2_copy_19 rfl rfl ⟨_, _, rfl, rfl, by rw [hc]; rfl, σ.2 44, by rw [hc]; exact (mo_hd_id _).symm⟩
  · rw [zb_0, Decidable.not_not] at c4
    refine gk_iload_n C dX2_copy_7 rfl ?_
    refine gk_cP1 C (mo_noSheet _ o) cs_X2_95 rfl (Nat.zero_le _) (Nat.zero_le _) rfl dX2_copy_8 ?_
    refine gk_if_eq 20 C dX2_copy_11 (by decide) (fun c11 => ?_) (fun c11 => ?_)
    · rw [zb_0, Decidable.not_not] at c11
      obtain ⟨k, hk, rfl⟩ := nI_btw (x := k) (n := 3) c4.1 c4.2
      obtain ⟨o, ho, rfl⟩ := nI_btw (x := o) (n := 3) c11.1 c11.2
      have hkt : (nI k).toInt.toNat = k := toNat_nI (by omega)
      have hot : (nI o).toInt.toNat = o := toNat_nI (by omega)
      have hc : (cp_c (σ.2 41) (σ.2 42) (nI k) i (nI o) j n) = _ := if_neg (show ¬ ¬ _ from fun z => z ⟨c4, c11⟩)
      rw [hkt, hot] at hc
      refine gk_aload_n C dX2_copy_20 rfl ?_
      refine mo_g41 C dX2_copy_21 ?_
      refine gk_iload_n C dX2_copy_24 rfl ?_
      refine mo_l41 C dX2_copy_25 rfl (by omega) ?_
      refine gk_if_lt 38 C dX2_copy_26 (by decide) (fun c26 => ?_) (fun c26 => ?_)
      · rw [if_pos (Or.inl c26)] at hc
        refine gk_aload_n C dX2_copy_38 rfl ?_
        refine gk_iconst 1 C dX2_copy_39 rfl ?_
        refine mo_cU1 C (mo_failed _ _ _ _ _ _) cv_X2_109 rfl rfl rfl dX2_copy_40 ?_
        exact gk_iret C E dX2_copy_43 rfl rfl ⟨_, _, rfl, rfl, by rw [hc]; rfl, σ.2 44, by rw [hc]; exact (mo_hd_id _).symm⟩
      · refine gk_aload_n C dX2_copy_29 rfl ?_
        refine mo_g41 C dX2_copy_30 ?_
        refine gk_iload_n C dX2_copy_33 rfl ?_
        refine mo_l41 C dX2_copy_34 rfl (by omega) ?_
        refine gk_if_ge 44 C dX2_copy_35 (by decide) (fun c35 => ?_) (fun c35 => ?_)
        · have c35 := Int32.not_lt.mpr c35
          rw [if_neg (fun z => z.elim c26 c35)] at hc
          refine gk_aload_n C dX2_copy_44 rfl ?_
          refine mo_g42 C dX2_copy_45 ?_
          refine gk_iload_n C dX2_copy_48 rfl ?_
          refine mo_l42 C dX2_copy_49 rfl (by omega) ?_
          refine gk_aload_n C dX2_copy_50 rfl ?_
          refine mo_g42 C dX2_copy_51 ?_
          refine gk_iload_n C dX2_copy_54 rfl ?_
          refine mo_l42 C dX2_copy_55 rfl (by omega) ?_
          refine gk_icmp_eq 65 C dX2_copy_56 (by decide) (fun c56 => ?_) (fun c56 => ?_)
          · rw [if_neg (fun z => z c56)] at hc
            refine gk_iload_n C dX2_copy_65 rfl ?_
            refine gk_iload C dX2_copy_66 rfl ?_
            refine gk_i2l C dX2_copy_68 ?_
            refine gk_aload_n C dX2_copy_69 rfl ?_
            refine mo_g41 C dX2_copy_70 ?_
            refine gk_iload_n C dX2_copy_73 rfl ?_
            refine mo_l41 C dX2_copy_74 rfl (by omega) ?_
            refine gk_cP3 C (mo_isBeyond _ i n _) cs_X2_112 rfl (Nat.zero_le _) (Nat.zero_le _) rfl dX2_copy_75 ?_
            refine gk_if_ne 98 C dX2_copy_78 (by decide) (fun c78 => ?_) (fun c78 => ?_)
            · rw [zb_n] at c78
              rw [if_pos (Or.inl c78)] at hc
              refine gk_aload_n C dX2_copy_98 rfl ?_
              refine gk_iconst 3 C dX2_copy_99 rfl ?_
              refine mo_cU1 C (mo_failed _ _ _ _ _ _) cv_X2_109 rfl rfl rfl dX2_copy_100 ?_
              exact gk_iret C E dX2_copy_103 rfl rfl ⟨_, _, rfl, rfl, by rw [hc]; rfl, σ.2 44, by rw [hc]; exact (mo_hd_id _).symm⟩
            · rw [zb_0] at c78
              refine gk_iload C dX2_copy_81 rfl ?_
              refine gk_iload C dX2_copy_83 rfl ?_
              refine gk_i2l C dX2_copy_85 ?_
              refine gk_aload_n C dX2_copy_86 rfl ?_
              refine mo_g41 C dX2_copy_87 ?_
              refine gk_iload_n C dX2_copy_90 rfl ?_
              refine mo_l41 C dX2_copy_91 rfl (by omega) ?_
              refine gk_cP3 C (mo_isBeyond _ j n _) cs_X2_112 rfl (Nat.zero_le _) (Nat.zero_le _) rfl dX2_copy_92 ?_
              refine gk_if_eq 104 C dX2_copy_95 (by decide) (fun c95 => ?_) (fun c95 => ?_)
              · rw [zb_0] at c95
                rw [if_neg (fun z => z.elim c78 c95)] at hc
                obtain ⟨s, hs, es⟩ := (hS k (by omega)).resolve_left c26
                obtain ⟨s2, hs2, es2⟩ := (hS o (by omega)).resolve_left c35
                rw [es, nI_ti (by omega)] at c78
                rw [es2, nI_ti (by omega)] at c95
                obtain ⟨n, hn, rfl⟩ := nI_btw (x := n) (n := 80) (by omega) (by omega)
                obtain ⟨i, hi, rfl⟩ := nI_btw (x := i) (n := 80) (by omega) (by omega)
                obtain ⟨j, hj, rfl⟩ := nI_btw (x := j) (n := 80) (by omega) (by omega)
                rw [nI_ti (by omega), nI_ti (by omega)] at c78 c95
                refine gk_iconst 0 C dX2_copy_104 rfl ?_
                refine gk_istore C dX2_copy_105 rfl rfl ?_
                have L107 : ∀ x, x ≤ n → gk_G κ 0 0 (mo_W (gk_g κ) h ad (mo_hd σ (va_cpy (σ.2 43) (σ.2 44) (80 * k + i) 0 x))) 107 [some (.ref h), some (.int (nI k)), some (.int (nI i)), some (.int (nI o)), some (.int (nI j)), some (.int (nI n)), some (.int (nI x))] [] := by
                  refine up_ind (fun x hx ih => ?_)
                  refine gk_iload C dX2_copy_107 rfl ?_
                  refine gk_iload C dX2_copy_109 rfl ?_
                  refine gk_icmp_ge 141 C dX2_copy_111 (by decide) (fun c111 => ?_) (fun c111 => ?_)
                  · obtain rfl : x = n := by have := nI_leT c111 (by omega) (by omega); omega
                    refine gk_iconst 0 C dX2_copy_141 rfl ?_
                    refine gk_istore C dX2_copy_142 rfl rfl ?_
                    have L144 : ∀ y, y ≤ x → gk_G κ 0 0 (mo_W (gk_g κ) h ad (mo_sd (mo_hd σ (va_cpy (σ.2 43) (σ.2 44) (80 * k + i) 0 x)) (va_cpy (σ.2 43) (σ.2 43) (80 * k + i) (80 * o + j) y))) 144 [some (.ref h), some (.int (nI k)), some (.int (nI i)), some (.int (nI o)), some (.int (nI j)), some (.int (nI x)), some (.int (nI y))] [] := by
                      refine up_ind (fun y hy ihy => ?_)
                      refine gk_iload C dX2_copy_144 rfl ?_
                      refine gk_iload C dX2_copy_146 rfl ?_
                      refine gk_icmp_ge 179 C dX2_copy_148 (by decide) (fun c148 => ?_) (fun c148 => ?_)
                      · obtain rfl : y = x := by have := nI_leT c148 (by omega) (by omega); omega
                        refine gk_aload_n C dX2_copy_179 rfl ?_
                        refine gk_iload C dX2_copy_180 rfl ?_
                        refine mo_cU1 C (mo_refused _ _ _ _ _ _) cv_X2_99 rfl rfl rfl dX2_copy_182 ?_
                        exact gk_iret C E dX2_copy_185 rfl rfl ⟨_, _, rfl, rfl, by rw [hc]; rfl, va_cpy (σ.2 43) (σ.2 44) (80 * k + i) 0 y, by rw [hc, if_pos rfl, hkt, hot, toNat_nI (by omega), toNat_nI (by omega), toNat_nI (by omega)]; show ((va_up σ.1 0 0 : Nat → Int32), va_up (va_up σ.2 44 _) 43 _) = (va_up σ.1 0 0, va_up (va_up σ.2 43 _) 44 _); rw [va_up_cm _ 44 43 _ _ (by decide)]⟩
                      · have c148 := nI_ngeT c148 (by omega)
                        refine gk_aload_n C dX2_copy_151 rfl ?_
                        refine mo_g43 C dX2_copy_152 ?_
                        refine gk_bipush 80 C dX2_copy_155 rfl ?_
                        refine gk_iload_n C dX2_copy_157 rfl ?_
                        refine gk_imul C dX2_copy_158 ?_
                        refine gk_iload C dX2_copy_159 rfl ?_
                        refine gk_iadd C dX2_copy_161 ?_
                        refine gk_iload C dX2_copy_162 rfl ?_
                        refine gk_iadd C dX2_copy_164 ?_
                        refine gk_aload_n C dX2_copy_165 rfl ?_
                        refine mo_g44 C dX2_copy_166 ?_
                        refine gk_iload C dX2_copy_169 rfl ?_
                        refine mo_l44 C dX2_copy_171 rfl (by omega) ?_
                        refine gk_eqv (y := σ.2 43 (80 * k + i + y)) (by show va_cpy (σ.2 43) (σ.2 44) (80 * k + i) 0 x y = _; unfold va_cpy; rw [if_pos (by omega), Nat.sub_zero]) ?_
                        refine mo_s43 C dX2_copy_172 ((congrArg (· + nI y) (nI_ma 80 o j)).trans (nI_add _ _)) (by omega) ?_
                        rw [mo_sd_a, cpy_s]
                        refine gk_iinc (nI (y + 1)) C dX2_copy_173 rfl (nI_succ y).symm rfl rfl ?_
                        refine gk_goto 144 C dX2_copy_176 (by decide) ?_
                        exact ihy c148
                    have h0 := L144 0 (Nat.zero_le _)
                    rw [cpy_0, show mo_sd (mo_hd σ (va_cpy (σ.2 43) (σ.2 44) (80 * k + i) 0 x)) (σ.2 43) = mo_hd σ (va_cpy (σ.2 43) (σ.2 44) (80 * k + i) 0 x) from mo_sd_id (mo_hd σ (va_cpy (σ.2 43) (σ.2 44) (80 * k + i) 0 x))] at h0
                    exact h0
                  · have c111 := nI_ngeT c111 (by omega)
                    refine gk_aload_n C dX2_copy_114 rfl ?_
                    refine mo_g44 C dX2_copy_115 ?_
                    refine gk_iload C dX2_copy_118 rfl ?_
                    refine gk_aload_n C dX2_copy_120 rfl ?_
                    refine mo_g43 C dX2_copy_121 ?_
                    refine gk_bipush 80 C dX2_copy_124 rfl ?_
                    refine gk_iload_n C dX2_copy_126 rfl ?_
                    refine gk_imul C dX2_copy_127 ?_
                    refine gk_iload_n C dX2_copy_128 rfl ?_
                    refine gk_iadd C dX2_copy_129 ?_
                    refine gk_iload C dX2_copy_130 rfl ?_
                    refine gk_iadd C dX2_copy_132 ?_
                    refine mo_l43 C dX2_copy_133 ((congrArg (· + nI x) (nI_ma 80 k i)).trans (nI_add _ _)) (by omega) ?_
                    refine mo_s44 C dX2_copy_134 rfl (by omega) ?_
                    rw [mo_hd_a, show upd (va_cpy (σ.2 43) (σ.2 44) (80 * k + i) 0 x) x ((mo_hd σ (va_cpy (σ.2 43) (σ.2 44) (80 * k + i) 0 x)).2 43 (80 * k + i + x)) = va_cpy (σ.2 43) (σ.2 44) (80 * k + i) 0 (x + 1) from by rw [← cpy_s, Nat.zero_add]; rfl]
                    refine gk_iinc (nI (x + 1)) C dX2_copy_135 rfl (nI_succ x).symm rfl rfl ?_
                    refine gk_goto 107 C dX2_copy_138 (by decide) ?_
                    exact ih c111
                have h0 := L107 0 (Nat.zero_le _)
                rw [cpy_0, mo_hd_id] at h0
                exact h0
              · rw [zb_n] at c95
                rw [if_pos (Or.inr c95)] at hc
                refine gk_aload_n C dX2_copy_98 rfl ?_
                refine gk_iconst 3 C dX2_copy_99 rfl ?_
                refine mo_cU1 C (mo_failed _ _ _ _ _ _) cv_X2_109 rfl rfl rfl dX2_copy_100 ?_
                exact gk_iret C E dX2_copy_103 rfl rfl ⟨_, _, rfl, rfl, by rw [hc]; rfl, σ.2 44, by rw [hc]; exact (mo_hd_id _).symm⟩
          · rw [if_pos c56] at hc
            refine gk_aload_n C dX2_copy_59 rfl ?_
            refine gk_iconst 2 C dX2_copy_60 rfl ?_
            refine mo_cU1 C (mo_failed _ _ _ _ _ _) cv_X2_109 rfl rfl rfl dX2_copy_61 ?_
            exact gk_iret C E dX2_copy_64 rfl rfl ⟨_, _, rfl, rfl, by rw [hc]; rfl, σ.2 44, by rw [hc]; exact (mo_hd_id _).symm⟩
        · rw [if_pos (Or.inr (Int32.not_le.mp c35))] at hc
          refine gk_aload_n C dX2_copy_38 rfl ?_
          refine gk_iconst 1 C dX2_copy_39 rfl ?_
          refine mo_cU1 C (mo_failed _ _ _ _ _ _) cv_X2_109 rfl rfl rfl dX2_copy_40 ?_
          exact gk_iret C E dX2_copy_43 rfl rfl ⟨_, _, rfl, rfl, by rw [hc]; rfl, σ.2 44, by rw [hc]; exact (mo_hd_id _).symm⟩
    · rw [zb_n] at c11
      have hc : (cp_c (σ.2 41) (σ.2 42) k i o j n) = 1 := if_pos (fun z => c11 z.2)
      refine gk_aload_n C dX2_copy_14 rfl ?_
      refine gk_iconst (-1) C dX2_copy_15 rfl ?_
      refine mo_cU1 C (mo_refused _ _ _ _ _ _) cv_X2_99 rfl rfl rfl dX2_copy_16 ?_
      exact gk_iret C E dX2_copy_19 rfl rfl ⟨_, _, rfl, rfl, by rw [hc]; rfl, σ.2 44, by rw [hc]; exact (mo_hd_id _).symm⟩
