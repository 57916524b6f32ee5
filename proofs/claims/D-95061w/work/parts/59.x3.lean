set_option maxRecDepth 100000
set_option maxHeartbeats 1000000 in
theorem xs_kerf (t : Nat) (l : Launch) (Γ : gk_E) (h : Nat) (ad : Nat → Nat) (ξ : mo_S) (θ : xA) (n : Nat) (τ : sp_T) (rs : va_W) (hn : n ≤ 8) (hv : 0 < n → ¬ θ.2.1 = true) (hτ : ∀ k, k < n → xk τ k)  : xo_U t l yX0_kerf (Cond.code yX0_kerf cX0_kerf 4 (some .int)) 4 [] Γ h ad ξ (xD Γ h (ad 2) θ n τ rs) (.int (sp_kf τ n)) ξ := by
  refine gk_M.intro (xN_ok t) (by decide) [some (.ref h), none, none, none] rfl rfl rfl ?_
  intro κ hl hg hN0 C E
  subst hl hg
  have C : gk_C κ cX0_kerf "SawLine" 4 0 0 := C
  refine gk_iconst 0 C dX0_kerf_0 rfl ?_
  refine gk_istore_n C dX0_kerf_1 rfl rfl ?_
  refine gk_iconst 0 C dX0_kerf_2 rfl ?_
  refine gk_istore_n C dX0_kerf_3 rfl rfl ?_
  refine gk_iconst 0 C dX0_kerf_4 rfl ?_
  refine gk_istore_n C dX0_kerf_5 rfl rfl ?_
  have L : ∀ k, k ≤ n → gk_G κ 0 0 (xo_W (gk_g κ) h ad ξ ++ xD (gk_g κ) h (ad 2) θ n τ rs) 6 [some (.ref h), some (.int (-sp_kl τ k)), some (.int (sp_kr τ k)), some (.int (nI k))] [] := by
    refine up_ind (fun k hk ih => ?_)
    refine gk_iload_n C dX0_kerf_6 rfl ?_
    refine gk_aload_n C dX0_kerf_7 rfl ?_
    refine xo_g2 C dX0_kerf_8 ?_
    refine xr_size C hN0 (by decide) rfl dX0_kerf_11 ?_
    refine gk_icmp_ge 89 C dX0_kerf_16 (by decide) (fun c16 => ?_) (fun c16 => ?_)
    · obtain rfl : k = n := by have := nI_leT c16 (by omega) (by omega); omega
      refine gk_iconst 1 C dX0_kerf_89 rfl ?_
      refine gk_iload_n C dX0_kerf_90 rfl ?_
      refine gk_iadd C dX0_kerf_91 ?_
      refine gk_iload_n C dX0_kerf_92 rfl ?_
      refine gk_isub C dX0_kerf_93 ?_
      exact gk_iret C E dX0_kerf_94 rfl rfl ⟨vi (kf_end _), rfl⟩
    · have hk : k < n := nI_ngeT c16 (by omega)
      refine gk_aload_n C dX0_kerf_19 rfl ?_
      refine xo_g2 C dX0_kerf_20 ?_
      refine gk_iload_n C dX0_kerf_23 rfl ?_
      refine xr_get C hN0 (by decide) hk hn (hv (by omega)) rfl dX0_kerf_24 ?_
      refine xr_cast C hN0 hk dX0_kerf_29 ?_
      refine xr_isCutting C (by decide) hk (hτ _ hk) rfl dX0_kerf_32 ?_
      refine gk_if_ne 41 C dX0_kerf_35 (by decide) (fun c35 => ?_) (fun c35 => ?_)
      · rw [zb_n] at c35
        have hs := kf_step hτ hk c35
        refine gk_iload_n C dX0_kerf_41 rfl ?_
        refine gk_aload_n C dX0_kerf_42 rfl ?_
        refine xo_g2 C dX0_kerf_43 ?_
        refine gk_iload_n C dX0_kerf_46 rfl ?_
        refine xr_get C hN0 (by decide) hk hn (hv (by omega)) rfl dX0_kerf_47 ?_
        refine xr_cast C hN0 hk dX0_kerf_52 ?_
        refine xr_mark C (by decide) hk (hτ _ hk) rfl dX0_kerf_55 ?_
        refine gk_min C q432 (by decide) (by decide) rfl dX0_kerf_58 ?_
        refine gk_eqv hs.1 ?_
        refine gk_istore_n C dX0_kerf_61 rfl rfl ?_
        refine gk_iload_n C dX0_kerf_62 rfl ?_
        refine gk_aload_n C dX0_kerf_63 rfl ?_
        refine xo_g2 C dX0_kerf_64 ?_
        refine gk_iload_n C dX0_kerf_67 rfl ?_
        refine xr_get C hN0 (by decide) hk hn (hv (by omega)) rfl dX0_kerf_68 ?_
        refine xr_cast C hN0 hk dX0_kerf_73 ?_
        refine xr_mark C (by decide) hk (hτ _ hk) rfl dX0_kerf_76 ?_
        refine gk_max C q722 (by decide) (by decide) rfl dX0_kerf_79 ?_
        refine gk_eqv hs.2 ?_
        refine gk_istore_n C dX0_kerf_82 rfl rfl ?_
        refine gk_iinc (nI (k + 1)) C dX0_kerf_83 rfl (nI_succ k).symm rfl rfl ?_
        refine gk_goto 6 C dX0_kerf_86 (by decide) ?_
        exact ih hk
      · rw [zb_0] at c35
        have hs := kf_skip (τ := τ) c35
        rw [hs.1, hs.2] at ih
        refine gk_goto 83 C dX0_kerf_38 (by decide) ?_
        refine gk_iinc (nI (k + 1)) C dX0_kerf_83 rfl (nI_succ k).symm rfl rfl ?_
        refine gk_goto 6 C dX0_kerf_86 (by decide) ?_
        exact ih hk
  have h0 := L 0 (Nat.zero_le _)
  rw [show -sp_kl τ 0 = (0 : Int32) from (by show -(0 : Int32) = 0; decide), show sp_kr τ 0 = (0 : Int32) from rfl] at h0
  exact h0
set_option maxHeartbeats 1000000 in
theorem xs_ofSaw (t : Nat) (l : Launch) (Γ : gk_E) (h : Nat) (ad : Nat → Nat) (ξ : mo_S) (θ : xA) (n : Nat) (τ : sp_T) (rs : va_W) (hn : n ≤ 8) (hv : 0 < n → ¬ θ.2.1 = true) (hτ : ∀ k, k < n → xk τ k) (w : Int32) : xo_U t l yX0_ofSaw (Cond.code yX0_ofSaw cX0_ofSaw 2 (some .int)) 5 [.int w] Γ h ad ξ (xD Γ h (ad 2) θ n τ rs) (.int (ap_saw τ n w)) ξ := by
  refine gk_M.intro (xN_ok t) (by decide) [some (.ref h), some (.int w)] rfl rfl rfl ?_
  intro κ hl hg hN0 C E
  subst hl hg
  have C : gk_C κ cX0_ofSaw "SawLine" 5 0 0 := C
  refine gk_iload_n C dX0_ofSaw_0 rfl ?_
  refine gk_i2l C dX0_ofSaw_1 ?_
  refine gk_lconst 0 C dX0_ofSaw_2 rfl ?_
  refine gk_ldc2 C q419 dX0_ofSaw_3 ?_
  refine gk_cP3 C (xs_in3 _ w 0 2 0 2 rfl rfl) cs_X0_76 rfl (Nat.zero_le _) (Nat.zero_le _) rfl dX0_ofSaw_6 ?_
  refine gk_if_ne 15 C dX0_ofSaw_9 (by decide) (fun c9 => ?_) (fun c9 => ?_)
  · rw [zb_n] at c9
    refine gk_aload_n C dX0_ofSaw_15 rfl ?_
    refine xo_g2 C dX0_ofSaw_16 ?_
    refine xr_isEmpty C hN0 (by decide) rfl dX0_ofSaw_19 ?_
    refine gk_if_eq 30 C dX0_ofSaw_24 (by decide) (fun c24 => ?_) (fun c24 => ?_)
    · rw [zb_0] at c24
      have c24 : ¬ n = 0 := fun z => c24 (by rw [z]; rfl)
      refine gk_iload_n C dX0_ofSaw_30 rfl ?_
      refine gk_iconst 1 C dX0_ofSaw_31 rfl ?_
      refine gk_icmp_ne 42 C dX0_ofSaw_32 (by decide) (fun c32 => ?_) (fun c32 => ?_)
      · have h1 : ¬ w = 1 := c32
        refine gk_aload_n C dX0_ofSaw_42 rfl ?_
        refine gk_iload_n C dX0_ofSaw_43 rfl ?_
        refine gk_if_ne 51 C dX0_ofSaw_44 (by decide) (fun c44 => ?_) (fun c44 => ?_)
        · refine gk_iconst 0 C dX0_ofSaw_51 rfl ?_
          refine xo_cU1 C hN0 (xs_sumT t _ _ h ad ξ θ n τ rs hn hv hτ) cv_X0_241 rfl rfl rfl dX0_ofSaw_52 ?_
          exact gk_iret C E dX0_ofSaw_55 rfl rfl ⟨vi (by unfold ap_saw; rw [if_neg (fun z => z c9), if_neg c24, if_neg c44, if_neg h1]), rfl⟩
        · refine gk_iconst 1 C dX0_ofSaw_47 rfl ?_
          refine gk_goto 52 C dX0_ofSaw_48 (by decide) ?_
          refine xo_cU1 C hN0 (xs_sumP t _ _ h ad ξ θ n τ rs hn hv hτ) cv_X0_241 rfl rfl rfl dX0_ofSaw_52 ?_
          exact gk_iret C E dX0_ofSaw_55 rfl rfl ⟨vi (by unfold ap_saw; rw [if_neg (fun z => z c9), if_neg c24, if_pos c44]), rfl⟩
      · have h1 : w = 1 := c32
        refine gk_aload_n C dX0_ofSaw_35 rfl ?_
        refine xo_cU0 C hN0 (xs_kerf t _ _ h ad ξ θ n τ rs hn hv hτ) cv_X0_238 rfl rfl rfl dX0_ofSaw_36 ?_
        refine gk_goto 55 C dX0_ofSaw_39 (by decide) ?_
        exact gk_iret C E dX0_ofSaw_55 rfl rfl ⟨vi (by unfold ap_saw; rw [if_neg (fun z => z c9), if_neg c24, h1]; rfl), rfl⟩
    · rw [zb_n] at c24
      have c24 : n = 0 := (nI_eq (b := 0) (by omega) (by omega)).mp c24
      refine gk_bipush (-3) C dX0_ofSaw_27 rfl ?_
      exact gk_iret C E dX0_ofSaw_29 rfl rfl ⟨vi ((if_neg (fun z => z c9)).trans (if_pos c24)).symm, rfl⟩
  · rw [zb_0] at c9
    refine gk_bipush (-2) C dX0_ofSaw_12 rfl ?_
    exact gk_iret C E dX0_ofSaw_14 rfl rfl ⟨vi (if_pos c9).symm, rfl⟩
set_option maxHeartbeats 1000000 in
theorem xs_isAll (t : Nat) (l : Launch) (Γ : gk_E) (h : Nat) (ad : Nat → Nat) (ξ : mo_S) (θ : xA) (n : Nat) (τ : sp_T) (rs : va_W) (hn : n ≤ 8) (hv : 0 < n → ¬ θ.2.1 = true) (hτ : ∀ k, k < n → xk τ k) (L : Nat) (hL : L < 1000) (e : ξ.1 6 = nI L) : xo_U t l yX0_isAll (Cond.code yX0_isAll cX0_isAll 1 (some .boolean)) 1 [] Γ h ad ξ (xD Γ h (ad 2) θ n τ rs) (.int (zb (¬ (n = 0 ∨ L = 0)))) ξ := by
  refine gk_M.intro (xN_ok t) (by decide) [some (.ref h)] rfl rfl rfl ?_
  intro κ hl hg hN0 C E
  subst hl hg
  have C : gk_C κ cX0_isAll "SawLine" 1 0 0 := C
  refine gk_aload_n C dX0_isAll_0 rfl ?_
  refine xo_g2 C dX0_isAll_1 ?_
  refine xr_isEmpty C hN0 (by decide) rfl dX0_isAll_4 ?_
  refine gk_if_ne 23 C dX0_isAll_9 (by decide) (fun c9 => ?_) (fun c9 => ?_)
  · rw [zb_n] at c9
    have c9 : n = 0 := (nI_eq (b := 0) (by omega) (by omega)).mp c9
    refine gk_iconst 0 C dX0_isAll_23 rfl ?_
    exact gk_zret C E dX0_isAll_24 rfl rfl (by first | exact narrow_b1 | exact narrow_b0 | exact zb_nb) ⟨by first | exact vi (zb_f (P := ¬ (n = 0 ∨ L = 0)) (fun z => z (Or.inl c9))).symm | exact vi (zb_f (P := ¬ (n = 0 ∨ L = 0)) (fun z => z (Or.inr c16))).symm | exact vi (zb_t (P := ¬ (n = 0 ∨ L = 0)) (fun z => z.elim c9 c16)).symm, rfl⟩
  · rw [zb_0] at c9
    have c9 : ¬ n = 0 := fun z => c9 (by rw [z]; rfl)
    refine gk_aload_n C dX0_isAll_12 rfl ?_
    refine xo_g6 C dX0_isAll_13 ?_
    rw [e]
    refine gk_if_le 23 C dX0_isAll_16 (by decide) (fun c16 => ?_) (fun c16 => ?_)
    · have c16 : L = 0 := by have := nI_leT (b := 0) c16 (by omega) (by omega); omega
      refine gk_iconst 0 C dX0_isAll_23 rfl ?_
      exact gk_zret C E dX0_isAll_24 rfl rfl (by first | exact narrow_b1 | exact narrow_b0 | exact zb_nb) ⟨by first | exact vi (zb_f (P := ¬ (n = 0 ∨ L = 0)) (fun z => z (Or.inl c9))).symm | exact vi (zb_f (P := ¬ (n = 0 ∨ L = 0)) (fun z => z (Or.inr c16))).symm | exact vi (zb_t (P := ¬ (n = 0 ∨ L = 0)) (fun z => z.elim c9 c16)).symm, rfl⟩
    · have c16 : ¬ L = 0 := fun z => c16 (by rw [z]; decide)
      refine gk_iconst 1 C dX0_isAll_19 rfl ?_
      refine gk_goto 24 C dX0_isAll_20 (by decide) ?_
      exact gk_zret C E dX0_isAll_24 rfl rfl (by first | exact narrow_b1 | exact narrow_b0 | exact zb_nb) ⟨by first | exact vi (zb_f (P := ¬ (n = 0 ∨ L = 0)) (fun z => z (Or.inl c9))).symm | exact vi (zb_f (P := ¬ (n = 0 ∨ L = 0)) (fun z => z (Or.inr c16))).symm | exact vi (zb_t (P := ¬ (n = 0 ∨ L = 0)) (fun z => z.elim c9 c16)).symm, rfl⟩
