set_option maxRecDepth 100000
/-- the model with its words about likely flaws set -/
def mo_lk (σ : mo_S) (p : lk_R) : mo_S := (va_up (va_up σ.1 31 p.1) 32 p.2.1, va_up σ.2 33 p.2.2)
theorem mo_lk_0 (σ : mo_S) : mo_i (mo_i σ 31 0) 32 (-9) = mo_lk σ (0, -9, σ.2 33) := by
  unfold mo_lk mo_i; rw [va_up_id]
theorem mo_lk_31 (σ : mo_S) (p : lk_R) (v : Int32) : mo_i (mo_lk σ p) 31 v = mo_lk σ (v, p.2) := by
  unfold mo_lk mo_i; dsimp only; rw [va_up_cm _ 32 31 _ _ (by decide), va_up_up]
theorem mo_lk_32 (σ : mo_S) (p : lk_R) (v : Int32) : mo_i (mo_lk σ p) 32 v = mo_lk σ (p.1, v, p.2.2) := by
  unfold mo_lk mo_i; dsimp only; rw [va_up_up]
theorem mo_lk_33 (σ : mo_S) (p : lk_R) (j : Nat) (v : Int32) : mo_a (mo_lk σ p) 33 j v = mo_lk σ (p.1, p.2.1, upd p.2.2 j v) := by
  have e : (mo_lk σ p).2 33 = p.2.2 := rfl
  unfold mo_a; rw [e]; unfold mo_lk; dsimp only; rw [va_up_up]
theorem mo_lkW {κ : gk_K} {h : Nat} {ad : Nat → Nat} {σ : mo_S} {p p' : lk_R} {o : Int32} {P H : Nat → Int32} {f : Int32} (e : p = p') : mo_W (gk_g κ) h ad (mo_st (mo_lk σ p) o P H f) = mo_W (gk_g κ) h ad (mo_st (mo_lk σ p') o P H f) := by rw [e]
def mo_z (σ : mo_S) (q : Nat) : Nat → Int32 := fun j => if j < q then 0 else σ.2 33 j
theorem mo_z0 (σ : mo_S) : mo_z σ 0 = σ.2 33 := by funext j; unfold mo_z; rw [if_neg (by omega)]
theorem mo_zs (σ : mo_S) (q : Nat) : upd (mo_z σ q) q 0 = mo_z σ (q + 1) := by
  funext j; unfold mo_z upd
  by_cases h : j = q
  · rw [if_pos h, if_pos (by omega)]
  · rw [if_neg h]
    dsimp only
    by_cases h2 : j < q
    · rw [if_pos h2, if_pos (by omega)]
    · rw [if_neg h2, if_neg (by omega)]
/-- what fits, by the model's state -/
abbrev mo_f0 (σ : mo_S) (n L lt R : Nat) : Bool := cf_ft (mo_c σ n L lt) (mo_t σ) (σ.2 29) (σ.2 30) R
abbrev mo_f1 (σ : mo_S) (n L lt R : Nat) (q : Nat) : Bool := cf_ft (mo_c σ n L lt) (sp_fl (σ.2 25) (σ.2 26) (σ.2 27) (mo_t σ) q) (σ.2 29) (σ.2 30) R
abbrev mo_f2 (σ : mo_S) (n L lt R : Nat) (q r : Nat) : Bool := cf_ft (mo_c σ n L lt) (sp_fl (σ.2 25) (σ.2 26) (σ.2 27) (sp_fl (σ.2 25) (σ.2 26) (σ.2 27) (mo_t σ) q) r) (σ.2 29) (σ.2 30) R
abbrev mo_lkr (σ : mo_S) (n L lt R m : Nat) : lk_R := lk (mo_f0 σ n L lt R) (mo_f1 σ n L lt R) (mo_f2 σ n L lt R) m (mo_z σ 6)
set_option maxHeartbeats 8000000 in
theorem mo_layLikely (l : Launch) (Γ : gk_E) (h : Nat) (ad : Nat → Nat) (σ : mo_S) (n : Nat) (hn : n ≤ 8) (e : σ.1 1 = nI n) (L : Nat) (hL : L ≤ 24) (eL : σ.1 12 = nI L) (lt : Nat) (hlt : lt ≤ 5) (eT : σ.1 18 = nI lt) (hH : ∀ t, t < L → ¬ 10 * σ.2 13 t = 0) (R : Nat) (hR8 : R ≤ 8) (eR : σ.1 28 = nI R) (hR : ∀ x, x < R → ∃ t, t < L ∧ σ.2 29 x = nI t) (m : Nat) (hm : m ≤ 6) (em : σ.1 24 = nI m) (hF : ∀ q, q < m → ∃ k w, k < n ∧ w ≤ 2 ∧ σ.2 25 q = nI k ∧ σ.2 26 q = nI w) : mo_Y l yX2_layLikely (Cond.code yX2_layLikely cX2_layLikely 4 none) 6 [] Γ h ad σ (fun σ1 => ∃ (o : Int32) (P H : Nat → Int32) (f : Int32), σ1 = mo_st (mo_lk σ (mo_lkr σ n L lt R m)) o P H f) := by
  refine gk_M.intro gk_N0_ok (by decide) [some (.ref h), none, none, none] rfl rfl rfl ?_
  intro κ hl hg hN0 C E
  subst hl hg
  have C : gk_C κ cX2_layLikely "SawLineModel" 6 0 0 := C
  refine gk_aload_n C dX2_layLikely_0 rfl ?_
  refine gk_iconst 0 C dX2_layLikely_1 rfl ?_
  refine mo_p31 C dX2_layLikely_2 ?_
  refine gk_aload_n C dX2_layLikely_5 rfl ?_
  refine gk_bipush (-9) C dX2_layLikely_6 rfl ?_
  refine mo_p32 C dX2_layLikely_8 ?_
  refine gk_iconst 0 C dX2_layLikely_11 rfl ?_
  refine gk_istore_n C dX2_layLikely_12 rfl rfl ?_
  have L13 : ∀ q, q ≤ 6 → gk_G κ 0 0 (mo_W (gk_g κ) h ad (mo_lk σ (0, -9, mo_z σ q))) 13 [some (.ref h), some (.int (nI q)), none, none] [] := by
    refine up_ind (fun q hq ih => ?_)
    refine gk_iload_n C dX2_layLikely_13 rfl ?_
    refine gk_bipush 6 C dX2_layLikely_14 rfl ?_
    refine gk_icmp_ge 32 C dX2_layLikely_16 (by decide) (fun c16 => ?_) (fun c16 => ?_)
    · obtain rfl : q = 6 := by have := nI_leT (a := 6) c16 (by omega) (by omega); omega
      refine gk_aload_n C dX2_layLikely_32 rfl ?_
      refine gk_bipush (-9) C dX2_layLikely_33 rfl ?_
      refine gk_bipush (-9) C dX2_layLikely_35 rfl ?_
      refine mo_cX2 C (mo_doFit0 _ _ _ _ (mo_lk σ (0, -9, mo_z σ 6)) n hn e L hL eL lt hlt eT hH R hR8 eR hR m hm em hF) cv_X2_237 rfl rfl rfl dX2_layLikely_37 ?_
      rintro v9 σ9 ⟨rfl, o, P, H, f, rfl⟩
      refine gk_eqv (y := zb ((mo_f0 σ n L lt R) = true)) rfl ?_
      refine gk_jnW1 (mo_W (gk_g κ) h ad (mo_st (mo_lk σ (lk_0 (mo_f0 σ n L lt R) (mo_z σ 6))) o P H f)) 58 ?_ (fun K58 => ?_)
      · refine gk_iconst 0 C dX2_layLikely_58 rfl ?_
        refine gk_istore_n C dX2_layLikely_59 rfl rfl ?_
        have L60 : ∀ q, q ≤ m → ∀ (o : Int32) (P H : Nat → Int32) (f : Int32), gk_G κ 0 0 (mo_W (gk_g κ) h ad (mo_st (mo_lk σ (lk_1 (mo_f1 σ n L lt R) (lk_0 (mo_f0 σ n L lt R) (mo_z σ 6)) q)) o P H f)) 60 [some (.ref h), some (.int (nI q)), none, none] [] := by
          refine up_ind (fun q hq ih => ?_)
          intro o P H f
          refine gk_iload_n C dX2_layLikely_60 rfl ?_
          refine gk_aload_n C dX2_layLikely_61 rfl ?_
          refine mo_g24 C dX2_layLikely_62 ?_
          refine gk_eqv em ?_
          refine gk_icmp_ge 125 C dX2_layLikely_65 (by decide) (fun c65 => ?_) (fun c65 => ?_)
          · obtain rfl : q = m := by have := nI_leT c65 (by omega) (by omega); omega
            refine gk_aload_n C dX2_layLikely_125 rfl ?_
            refine mo_g32 C dX2_layLikely_126 ?_
            refine gk_eqv (y := (lk_1 (mo_f1 σ n L lt R) (lk_0 (mo_f0 σ n L lt R) (mo_z σ 6)) q).2.1) rfl ?_
            refine gk_jn1 (zb ((lk_one (lk_1 (mo_f1 σ n L lt R) (lk_0 (mo_f0 σ n L lt R) (mo_z σ 6)) q)) = true)) 137 ?_ (fun K137 => ?_)
            · refine gk_istore_n C dX2_layLikely_137 rfl rfl ?_
              refine gk_iconst 1 C dX2_layLikely_138 rfl ?_
              refine gk_istore_n C dX2_layLikely_139 rfl rfl ?_
              have L140 : ∀ r, r ≤ q - 1 → ∀ (o : Int32) (P H : Nat → Int32) (f : Int32), gk_G κ 0 0 (mo_W (gk_g κ) h ad (mo_st (mo_lk σ (lk_3 (mo_f2 σ n L lt R) (lk_one (lk_1 (mo_f1 σ n L lt R) (lk_0 (mo_f0 σ n L lt R) (mo_z σ 6)) q)) (lk_1 (mo_f1 σ n L lt R) (lk_0 (mo_f0 σ n L lt R) (mo_z σ 6)) q) r)) o P H f)) 140 [some (.ref h), some (.int (zb ((lk_one (lk_1 (mo_f1 σ n L lt R) (lk_0 (mo_f0 σ n L lt R) (mo_z σ 6)) q)) = true))), some (.int (nI (r + 1))), none] [] := by
                refine up_ind (fun r hr ih => ?_)
                intro o P H f
                refine gk_iload_n C dX2_layLikely_140 rfl ?_
                refine gk_aload_n C dX2_layLikely_141 rfl ?_
                refine mo_g24 C dX2_layLikely_142 ?_
                refine gk_eqv em ?_
                refine gk_icmp_ge 235 C dX2_layLikely_145 (by decide) (fun c145 => ?_) (fun c145 => ?_)
                · obtain rfl : r = q - 1 := by have := nI_leT c145 (by omega) (by omega); omega
                  exact gk_vret C E dX2_layLikely_235 rfl rfl ⟨_, rfl, rfl, _, _, _, _, rfl⟩
                · have c145 : r < q - 1 := by have := nI_ngeT c145 (by omega); omega
                  refine gk_iconst 0 C dX2_layLikely_148 rfl ?_
                  refine gk_istore_n C dX2_layLikely_149 rfl rfl ?_
                  have L150 : ∀ j, j ≤ r + 1 → ∀ (o : Int32) (P H : Nat → Int32) (f : Int32), gk_G κ 0 0 (mo_W (gk_g κ) h ad (mo_st (mo_lk σ (lk_2 (fun q => (mo_f2 σ n L lt R) q (r + 1)) (lk_one (lk_1 (mo_f1 σ n L lt R) (lk_0 (mo_f0 σ n L lt R) (mo_z σ 6)) q)) (r + 1) (lk_3 (mo_f2 σ n L lt R) (lk_one (lk_1 (mo_f1 σ n L lt R) (lk_0 (mo_f0 σ n L lt R) (mo_z σ 6)) q)) (lk_1 (mo_f1 σ n L lt R) (lk_0 (mo_f0 σ n L lt R) (mo_z σ 6)) q) r) j)) o P H f)) 150 [some (.ref h), some (.int (zb ((lk_one (lk_1 (mo_f1 σ n L lt R) (lk_0 (mo_f0 σ n L lt R) (mo_z σ 6)) q)) = true))), some (.int (nI (r + 1))), some (.int (nI j))] [] := by
                    refine up_ind (fun j hj ihj => ?_)
                    intro o P H f
                    refine gk_iload_n C dX2_layLikely_150 rfl ?_
                    refine gk_iload_n C dX2_layLikely_151 rfl ?_
                    refine gk_icmp_ge 229 C dX2_layLikely_152 (by decide) (fun c152 => ?_) (fun c152 => ?_)
                    · obtain rfl : j = r + 1 := by have := nI_leT c152 (by omega) (by omega); omega
                      refine gk_iinc (nI (r + 1 + 1)) C dX2_layLikely_229 rfl (nI_succ (r + 1)).symm rfl rfl ?_
                      refine gk_goto 140 C dX2_layLikely_232 (by decide) ?_
                      exact gk_fg 3 (ih c145 _ _ _ _)
                    · have c152 := nI_ngeT c152 (by omega)
                      refine gk_aload_n C dX2_layLikely_155 rfl ?_
                      refine gk_iload_n C dX2_layLikely_156 rfl ?_
                      refine gk_iload_n C dX2_layLikely_157 rfl ?_
                      refine mo_cX2 C (mo_doFit2 _ _ _ _ (mo_st (mo_lk σ (lk_2 (fun q => (mo_f2 σ n L lt R) q (r + 1)) (lk_one (lk_1 (mo_f1 σ n L lt R) (lk_0 (mo_f0 σ n L lt R) (mo_z σ 6)) q)) (r + 1) (lk_3 (mo_f2 σ n L lt R) (lk_one (lk_1 (mo_f1 σ n L lt R) (lk_0 (mo_f0 σ n L lt R) (mo_z σ 6)) q)) (lk_1 (mo_f1 σ n L lt R) (lk_0 (mo_f0 σ n L lt R) (mo_z σ 6)) q) r) j)) o P H f) n hn e L hL eL lt hlt eT hH R hR8 eR hR q hm em hF j (by omega) (r + 1) (by omega)) cv_X2_237 rfl rfl rfl dX2_layLikely_158 ?_
                      rintro v9 σ9 ⟨rfl, o, P, H, f, rfl⟩
                      rw [mo_st_st]
                      refine gk_eqv (y := zb ((mo_f2 σ n L lt R) j (r + 1) = true)) rfl ?_
                      refine gk_jnW1 (mo_W (gk_g κ) h ad (mo_st (mo_lk σ (lk_2 (fun q => (mo_f2 σ n L lt R) q (r + 1)) (lk_one (lk_1 (mo_f1 σ n L lt R) (lk_0 (mo_f0 σ n L lt R) (mo_z σ 6)) q)) (r + 1) (lk_3 (mo_f2 σ n L lt R) (lk_one (lk_1 (mo_f1 σ n L lt R) (lk_0 (mo_f0 σ n L lt R) (mo_z σ 6)) q)) (lk_1 (mo_f1 σ n L lt R) (lk_0 (mo_f0 σ n L lt R) (mo_z σ 6)) q) r) (j + 1))) o P H f)) 223 ?_ (fun K223 => ?_)
                      · refine gk_iinc (nI (j + 1)) C dX2_layLikely_223 rfl (nI_succ j).symm rfl rfl ?_
                        refine gk_goto 150 C dX2_layLikely_226 (by decide) ?_
                        exact ihj c152 _ _ _ _
                      · refine gk_if_eq 223 C dX2_layLikely_161 (by decide) (fun c161 => ?_) (fun c161 => ?_)
                        · rw [zb_0] at c161
                          have h1 : (lk_2 (fun q => (mo_f2 σ n L lt R) q (r + 1)) (lk_one (lk_1 (mo_f1 σ n L lt R) (lk_0 (mo_f0 σ n L lt R) (mo_z σ 6)) q)) (r + 1) (lk_3 (mo_f2 σ n L lt R) (lk_one (lk_1 (mo_f1 σ n L lt R) (lk_0 (mo_f0 σ n L lt R) (mo_z σ 6)) q)) (lk_1 (mo_f1 σ n L lt R) (lk_0 (mo_f0 σ n L lt R) (mo_z σ 6)) q) r) j) = (lk_2 (fun q => (mo_f2 σ n L lt R) q (r + 1)) (lk_one (lk_1 (mo_f1 σ n L lt R) (lk_0 (mo_f0 σ n L lt R) (mo_z σ 6)) q)) (r + 1) (lk_3 (mo_f2 σ n L lt R) (lk_one (lk_1 (mo_f1 σ n L lt R) (lk_0 (mo_f0 σ n L lt R) (mo_z σ 6)) q)) (lk_1 (mo_f1 σ n L lt R) (lk_0 (mo_f0 σ n L lt R) (mo_z σ 6)) q) r) (j + 1)) := (if_neg c161).symm
                          exact gk_eqw (mo_lkW h1) K223
                        · rw [zb_n] at c161
                          have h1 : _ = (lk_2 (fun q => (mo_f2 σ n L lt R) q (r + 1)) (lk_one (lk_1 (mo_f1 σ n L lt R) (lk_0 (mo_f0 σ n L lt R) (mo_z σ 6)) q)) (r + 1) (lk_3 (mo_f2 σ n L lt R) (lk_one (lk_1 (mo_f1 σ n L lt R) (lk_0 (mo_f0 σ n L lt R) (mo_z σ 6)) q)) (lk_1 (mo_f1 σ n L lt R) (lk_0 (mo_f0 σ n L lt R) (mo_z σ 6)) q) r) (j + 1)) := (if_pos c161).symm
                          generalize (lk_2 (fun q => (mo_f2 σ n L lt R) q (r + 1)) (lk_one (lk_1 (mo_f1 σ n L lt R) (lk_0 (mo_f0 σ n L lt R) (mo_z σ 6)) q)) (r + 1) (lk_3 (mo_f2 σ n L lt R) (lk_one (lk_1 (mo_f1 σ n L lt R) (lk_0 (mo_f0 σ n L lt R) (mo_z σ 6)) q)) (lk_1 (mo_f1 σ n L lt R) (lk_0 (mo_f0 σ n L lt R) (mo_z σ 6)) q) r) j) = p at h1 ⊢
                          generalize (lk_one (lk_1 (mo_f1 σ n L lt R) (lk_0 (mo_f0 σ n L lt R) (mo_z σ 6)) q)) = one at h1 K223 ⊢
                          refine gk_aload_n C dX2_layLikely_164 rfl ?_
                          refine gk_dup C dX2_layLikely_165 rfl ?_
                          refine mo_g31 C dX2_layLikely_166 ?_
                          refine gk_iconst 1 C dX2_layLikely_169 rfl ?_
                          refine gk_iadd C dX2_layLikely_170 ?_
                          refine gk_eqv (y := p.1 + 1) rfl ?_
                          refine mo_p31 C dX2_layLikely_171 ?_
                          rw [mo_st_i _ _ _ _ _ _ _ (by decide) (by decide), mo_lk_31]
                          refine gk_aload_n C dX2_layLikely_174 rfl ?_
                          refine mo_g33 C dX2_layLikely_175 ?_
                          refine gk_iload_n C dX2_layLikely_178 rfl ?_
                          refine gk_dup2 C dX2_layLikely_179 rfl rfl ?_
                          refine mo_l33 C dX2_layLikely_180 rfl (by omega) ?_
                          refine gk_iconst 1 C dX2_layLikely_181 rfl ?_
                          refine gk_iadd C dX2_layLikely_182 ?_
                          refine gk_eqv (y := p.2.2 j + 1) rfl ?_
                          refine mo_s33 C dX2_layLikely_183 rfl (by omega) ?_
                          rw [mo_st_a _ _ _ _ _ _ _ _ (by decide) (by decide), mo_lk_33]
                          refine gk_aload_n C dX2_layLikely_184 rfl ?_
                          refine mo_g33 C dX2_layLikely_185 ?_
                          refine gk_iload_n C dX2_layLikely_188 rfl ?_
                          refine gk_dup2 C dX2_layLikely_189 rfl rfl ?_
                          refine mo_l33 C dX2_layLikely_190 rfl (by omega) ?_
                          refine gk_iconst 1 C dX2_layLikely_191 rfl ?_
                          refine gk_iadd C dX2_layLikely_192 ?_
                          refine gk_eqv (y := upd p.2.2 j (p.2.2 j + 1) (r + 1) + 1) rfl ?_
                          refine mo_s33 C dX2_layLikely_193 rfl (by omega) ?_
                          rw [mo_st_a _ _ _ _ _ _ _ _ (by decide) (by decide), mo_lk_33]
                          refine gk_aload_n C dX2_layLikely_194 rfl ?_
                          refine gk_iload_n C dX2_layLikely_195 rfl ?_
                          refine gk_jn1 (if one = false ∧ p.2.1 < 0 then (1 <<< (nI j &&& 31)) ||| (1 <<< (nI (r + 1) &&& 31)) else p.2.1) 220 ?_ (fun K220 => ?_)
                          · refine mo_p32 C dX2_layLikely_220 ?_
                            rw [mo_st_i _ _ _ _ _ _ _ (by decide) (by decide), mo_lk_32]
                            exact gk_eqw (mo_lkW h1) K223
                          · refine gk_if_ne 216 C dX2_layLikely_196 (by decide) (fun c196 => ?_) (fun c196 => ?_)
                            · rw [zb_n] at c196
                              have h2 : ¬ (one = false ∧ p.2.1 < 0) := fun z => by rw [c196] at z; cases z.1
                              refine gk_aload_n C dX2_layLikely_216 rfl ?_
                              refine mo_g32 C dX2_layLikely_217 ?_
                              refine gk_eqv (y := p.2.1) rfl ?_
                              exact gk_eqv (by first | exact (if_neg h2).symm | exact (if_pos h2).symm) K220
                            · rw [zb_0, Bool.not_eq_true] at c196
                              refine gk_aload_n C dX2_layLikely_199 rfl ?_
                              refine mo_g32 C dX2_layLikely_200 ?_
                              refine gk_eqv (y := p.2.1) rfl ?_
                              refine gk_if_ge 216 C dX2_layLikely_203 (by decide) (fun c203 => ?_) (fun c203 => ?_)
                              · have h2 : ¬ (one = false ∧ p.2.1 < 0) := fun z => Int32.not_lt.mpr c203 z.2
                                refine gk_aload_n C dX2_layLikely_216 rfl ?_
                                refine mo_g32 C dX2_layLikely_217 ?_
                                refine gk_eqv (y := p.2.1) rfl ?_
                                exact gk_eqv (by first | exact (if_neg h2).symm | exact (if_pos h2).symm) K220
                              · have h2 : one = false ∧ p.2.1 < 0 := ⟨c196, Int32.not_le.mp c203⟩
                                refine gk_iconst 1 C dX2_layLikely_206 rfl ?_
                                refine gk_iload_n C dX2_layLikely_207 rfl ?_
                                refine gk_ishl C dX2_layLikely_208 ?_
                                refine gk_iconst 1 C dX2_layLikely_209 rfl ?_
                                refine gk_iload_n C dX2_layLikely_210 rfl ?_
                                refine gk_ishl C dX2_layLikely_211 ?_
                                refine gk_ior C dX2_layLikely_212 ?_
                                refine gk_goto 220 C dX2_layLikely_213 (by decide) ?_
                                exact gk_eqv (by first | exact (if_neg h2).symm | exact (if_pos h2).symm) K220
                  exact L150 0 (Nat.zero_le _) _ _ _ _
              exact L140 0 (Nat.zero_le _) _ _ _ _
            · refine gk_if_lt 136 C dX2_layLikely_129 (by decide) (fun c129 => ?_) (fun c129 => ?_)
              · refine gk_iconst 0 C dX2_layLikely_136 rfl ?_
                exact gk_eqv (by first | exact (zb_f (fun z => Int32.not_le.mpr c129 (of_decide_eq_true z))).symm | exact (zb_t (decide_eq_true (Int32.not_lt.mp c129))).symm) K137
              · refine gk_iconst 1 C dX2_layLikely_132 rfl ?_
                refine gk_goto 137 C dX2_layLikely_133 (by decide) ?_
                exact gk_eqv (by first | exact (zb_f (fun z => Int32.not_le.mpr c129 (of_decide_eq_true z))).symm | exact (zb_t (decide_eq_true (Int32.not_lt.mp c129))).symm) K137
          · have c65 := nI_ngeT c65 (by omega)
            refine gk_aload_n C dX2_layLikely_68 rfl ?_
            refine gk_iload_n C dX2_layLikely_69 rfl ?_
            refine gk_bipush (-9) C dX2_layLikely_70 rfl ?_
            refine mo_cX2 C (mo_doFit1 _ _ _ _ (mo_st (mo_lk σ (lk_1 (mo_f1 σ n L lt R) (lk_0 (mo_f0 σ n L lt R) (mo_z σ 6)) q)) o P H f) n hn e L hL eL lt hlt eT hH R hR8 eR hR m hm em hF q c65) cv_X2_237 rfl rfl rfl dX2_layLikely_72 ?_
            rintro v9 σ9 ⟨rfl, o, P, H, f, rfl⟩
            rw [mo_st_st]
            refine gk_eqv (y := zb ((mo_f1 σ n L lt R) q = true)) rfl ?_
            refine gk_jnW1 (mo_W (gk_g κ) h ad (mo_st (mo_lk σ (lk_1 (mo_f1 σ n L lt R) (lk_0 (mo_f0 σ n L lt R) (mo_z σ 6)) (q + 1))) o P H f)) 119 ?_ (fun K119 => ?_)
            · refine gk_iinc (nI (q + 1)) C dX2_layLikely_119 rfl (nI_succ q).symm rfl rfl ?_
              refine gk_goto 60 C dX2_layLikely_122 (by decide) ?_
              exact ih c65 _ _ _ _
            · refine gk_if_eq 119 C dX2_layLikely_75 (by decide) (fun c75 => ?_) (fun c75 => ?_)
              · rw [zb_0] at c75
                have h1 : (lk_1 (mo_f1 σ n L lt R) (lk_0 (mo_f0 σ n L lt R) (mo_z σ 6)) q) = (lk_1 (mo_f1 σ n L lt R) (lk_0 (mo_f0 σ n L lt R) (mo_z σ 6)) (q + 1)) := (if_neg c75).symm
                exact gk_eqw (mo_lkW h1) K119
              · rw [zb_n] at c75
                have h1 : _ = (lk_1 (mo_f1 σ n L lt R) (lk_0 (mo_f0 σ n L lt R) (mo_z σ 6)) (q + 1)) := (if_pos c75).symm
                generalize (lk_1 (mo_f1 σ n L lt R) (lk_0 (mo_f0 σ n L lt R) (mo_z σ 6)) q) = p at h1 ⊢
                refine gk_aload_n C dX2_layLikely_78 rfl ?_
                refine gk_dup C dX2_layLikely_79 rfl ?_
                refine mo_g31 C dX2_layLikely_80 ?_
                refine gk_iconst 1 C dX2_layLikely_83 rfl ?_
                refine gk_iadd C dX2_layLikely_84 ?_
                refine gk_eqv (y := p.1 + 1) rfl ?_
                refine mo_p31 C dX2_layLikely_85 ?_
                rw [mo_st_i _ _ _ _ _ _ _ (by decide) (by decide), mo_lk_31]
                refine gk_aload_n C dX2_layLikely_88 rfl ?_
                refine mo_g33 C dX2_layLikely_89 ?_
                refine gk_iload_n C dX2_layLikely_92 rfl ?_
                refine gk_dup2 C dX2_layLikely_93 rfl rfl ?_
                refine mo_l33 C dX2_layLikely_94 rfl (by omega) ?_
                refine gk_iconst 1 C dX2_layLikely_95 rfl ?_
                refine gk_iadd C dX2_layLikely_96 ?_
                refine gk_eqv (y := p.2.2 q + 1) rfl ?_
                refine mo_s33 C dX2_layLikely_97 rfl (by omega) ?_
                rw [mo_st_a _ _ _ _ _ _ _ _ (by decide) (by decide), mo_lk_33]
                refine gk_aload_n C dX2_layLikely_98 rfl ?_
                refine gk_aload_n C dX2_layLikely_99 rfl ?_
                refine mo_g32 C dX2_layLikely_100 ?_
                refine gk_eqv (y := p.2.1) rfl ?_
                refine gk_jn1 (if p.2.1 < 0 then 1 <<< (nI q &&& 31) else p.2.1) 116 ?_ (fun K116 => ?_)
                · refine mo_p32 C dX2_layLikely_116 ?_
                  rw [mo_st_i _ _ _ _ _ _ _ (by decide) (by decide), mo_lk_32]
                  exact gk_eqw (mo_lkW h1) K119
                · refine gk_if_ge 112 C dX2_layLikely_103 (by decide) (fun c103 => ?_) (fun c103 => ?_)
                  · refine gk_aload_n C dX2_layLikely_112 rfl ?_
                    refine mo_g32 C dX2_layLikely_113 ?_
                    refine gk_eqv (y := p.2.1) rfl ?_
                    exact gk_eqv (by first | exact (if_neg (Int32.not_lt.mpr c103)).symm | exact (if_pos (Int32.not_le.mp c103)).symm) K116
                  · refine gk_iconst 1 C dX2_layLikely_106 rfl ?_
                    refine gk_iload_n C dX2_layLikely_107 rfl ?_
                    refine gk_ishl C dX2_layLikely_108 ?_
                    refine gk_goto 116 C dX2_layLikely_109 (by decide) ?_
                    exact gk_eqv (by first | exact (if_neg (Int32.not_lt.mpr c103)).symm | exact (if_pos (Int32.not_le.mp c103)).symm) K116
        exact L60 0 (Nat.zero_le _) _ _ _ _
      · refine gk_if_eq 58 C dX2_layLikely_40 (by decide) (fun c40 => ?_) (fun c40 => ?_)
        · rw [zb_0] at c40
          have h1 : ((0, -9, mo_z σ 6) : lk_R) = (lk_0 (mo_f0 σ n L lt R) (mo_z σ 6)) := (if_neg c40).symm
          exact gk_eqw (by first | exact mo_lkW h1) K58
        · rw [zb_n] at c40
          have h1 : ((1, 0, mo_z σ 6) : lk_R) = (lk_0 (mo_f0 σ n L lt R) (mo_z σ 6)) := (if_pos c40).symm
          refine gk_aload_n C dX2_layLikely_43 rfl ?_
          refine gk_dup C dX2_layLikely_44 rfl ?_
          refine mo_g31 C dX2_layLikely_45 ?_
          refine gk_iconst 1 C dX2_layLikely_48 rfl ?_
          refine gk_iadd C dX2_layLikely_49 ?_
          refine gk_eqv (y := 1) rfl ?_
          refine mo_p31 C dX2_layLikely_50 ?_
          rw [mo_st_i _ _ _ _ _ _ _ (by decide) (by decide), mo_lk_31]
          refine gk_aload_n C dX2_layLikely_53 rfl ?_
          refine gk_iconst 0 C dX2_layLikely_54 rfl ?_
          refine mo_p32 C dX2_layLikely_55 ?_
          rw [mo_st_i _ _ _ _ _ _ _ (by decide) (by decide), mo_lk_32]
          exact gk_eqw (by first | exact mo_lkW h1) K58
    · have c16 : q < 6 := nI_ngeT (b := 6) c16 (by omega)
      refine gk_aload_n C dX2_layLikely_19 rfl ?_
      refine mo_g33 C dX2_layLikely_20 ?_
      refine gk_iload_n C dX2_layLikely_23 rfl ?_
      refine gk_iconst 0 C dX2_layLikely_24 rfl ?_
      refine mo_s33 C dX2_layLikely_25 rfl (by omega) ?_
      rw [mo_lk_33, show upd (mo_z σ q) q 0 = mo_z σ (q + 1) from mo_zs σ q]
      refine gk_iinc (nI (q + 1)) C dX2_layLikely_26 rfl (nI_succ q).symm rfl rfl ?_
      refine gk_goto 13 C dX2_layLikely_29 (by decide) ?_
      exact ih c16
  rw [mo_lk_0]
  rw [← mo_z0 σ]
  exact L13 0 (Nat.zero_le _)
