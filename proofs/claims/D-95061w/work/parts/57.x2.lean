set_option maxRecDepth 100000
set_option maxHeartbeats 1000000 in
theorem xs_ofTooth (t : Nat) (l : Launch) (Γ : gk_E) (h : Nat) (ad : Nat → Nat) (ξ : mo_S) (θ : xA) (n : Nat) (τ : sp_T) (rs : va_W) (hn : n ≤ 8) (hv : 0 < n → ¬ θ.2.1 = true) (hτ : ∀ k, k < n → xk τ k) (k w : Int32) : xo_U t l yX0_ofTooth (Cond.code yX0_ofTooth cX0_ofTooth 4 (some .int)) 4 [.int k, .int w] Γ h ad ξ (xD Γ h (ad 2) θ n τ rs) (.int (ap_tooth τ n k w)) ξ := by
  refine gk_M.intro (xN_ok t) (by decide) [some (.ref h), some (.int k), some (.int w), none] rfl rfl rfl ?_
  intro κ hl hg hN0 C E
  subst hl hg
  have C : gk_C κ cX0_ofTooth "SawLine" 4 0 0 := C
  refine gk_aload_n C dX0_ofTooth_0 rfl ?_
  refine gk_iload_n C dX0_ofTooth_1 rfl ?_
  refine xo_cU1 C hN0 (xs_isTooth t _ _ h ad ξ θ n τ rs hn hv hτ k) cv_X0_188 rfl rfl rfl dX0_ofTooth_2 ?_
  refine gk_if_ne 10 C dX0_ofTooth_5 (by decide) (fun c5 => ?_) (fun c5 => ?_)
  · rw [zb_n] at c5
    obtain ⟨k, hk, rfl⟩ := nI_lt_ex c5
    refine gk_aload_n C dX0_ofTooth_10 rfl ?_
    refine xo_g2 C dX0_ofTooth_11 ?_
    refine gk_iload_n C dX0_ofTooth_14 rfl ?_
    refine xr_get C hN0 (by decide) hk hn (hv (by omega)) rfl dX0_ofTooth_15 ?_
    refine xr_cast C hN0 hk dX0_ofTooth_20 ?_
    refine gk_astore_n C dX0_ofTooth_23 rfl rfl ?_
    refine gk_iload_n C dX0_ofTooth_24 rfl ?_
    rcases sw7 w with rfl | rfl | rfl | rfl | rfl | rfl | rfl | hsw
    · refine gk_tableIn 68 C dX0_ofTooth_25 (by decide) (by decide) rfl (by decide) ?_
      refine gk_aload_n C dX0_ofTooth_68 rfl ?_
      refine xr_kind C (by decide) hk (hτ _ hk) rfl dX0_ofTooth_69 ?_
      exact gk_iret C E dX0_ofTooth_72 rfl rfl ⟨vi (by unfold ap_tooth; rw [if_neg (fun z => z c5), toNat_nI (by omega)]; rfl), rfl⟩
    · refine gk_tableIn 73 C dX0_ofTooth_25 (by decide) (by decide) rfl (by decide) ?_
      refine gk_aload_n C dX0_ofTooth_73 rfl ?_
      refine xr_side C (by decide) hk (hτ _ hk) rfl dX0_ofTooth_74 ?_
      exact gk_iret C E dX0_ofTooth_77 rfl rfl ⟨vi (by unfold ap_tooth; rw [if_neg (fun z => z c5), toNat_nI (by omega)]; rfl), rfl⟩
    · refine gk_tableIn 78 C dX0_ofTooth_25 (by decide) (by decide) rfl (by decide) ?_
      refine gk_aload_n C dX0_ofTooth_78 rfl ?_
      refine xr_is C hN0 hk dX0_ofTooth_79 ?_
      refine gk_iload_n C dX0_ofTooth_82 rfl ?_
      refine gk_iconst 2 C dX0_ofTooth_83 rfl ?_
      refine gk_isub C dX0_ofTooth_84 ?_
      refine xr_ld (j := 0) C hk rfl (by omega) dX0_ofTooth_85 ?_
      exact gk_iret C E dX0_ofTooth_86 rfl rfl ⟨vi (by unfold ap_tooth; rw [if_neg (fun z => z c5), toNat_nI (by omega)]; rfl), rfl⟩
    · refine gk_tableIn 78 C dX0_ofTooth_25 (by decide) (by decide) rfl (by decide) ?_
      refine gk_aload_n C dX0_ofTooth_78 rfl ?_
      refine xr_is C hN0 hk dX0_ofTooth_79 ?_
      refine gk_iload_n C dX0_ofTooth_82 rfl ?_
      refine gk_iconst 2 C dX0_ofTooth_83 rfl ?_
      refine gk_isub C dX0_ofTooth_84 ?_
      refine xr_ld (j := 1) C hk rfl (by omega) dX0_ofTooth_85 ?_
      exact gk_iret C E dX0_ofTooth_86 rfl rfl ⟨vi (by unfold ap_tooth; rw [if_neg (fun z => z c5), toNat_nI (by omega)]; rfl), rfl⟩
    · refine gk_tableIn 78 C dX0_ofTooth_25 (by decide) (by decide) rfl (by decide) ?_
      refine gk_aload_n C dX0_ofTooth_78 rfl ?_
      refine xr_is C hN0 hk dX0_ofTooth_79 ?_
      refine gk_iload_n C dX0_ofTooth_82 rfl ?_
      refine gk_iconst 2 C dX0_ofTooth_83 rfl ?_
      refine gk_isub C dX0_ofTooth_84 ?_
      refine xr_ld (j := 2) C hk rfl (by omega) dX0_ofTooth_85 ?_
      exact gk_iret C E dX0_ofTooth_86 rfl rfl ⟨vi (by unfold ap_tooth; rw [if_neg (fun z => z c5), toNat_nI (by omega)]; rfl), rfl⟩
    · refine gk_tableIn 87 C dX0_ofTooth_25 (by decide) (by decide) rfl (by decide) ?_
      refine gk_aload_n C dX0_ofTooth_87 rfl ?_
      refine xr_takes C (by decide) hk (hτ _ hk) rfl dX0_ofTooth_88 ?_
      exact gk_iret C E dX0_ofTooth_91 rfl rfl ⟨vi (by unfold ap_tooth; rw [if_neg (fun z => z c5), toNat_nI (by omega)]; rfl), rfl⟩
    · refine gk_tableIn 92 C dX0_ofTooth_25 (by decide) (by decide) rfl (by decide) ?_
      refine gk_aload_n C dX0_ofTooth_92 rfl ?_
      refine xr_pushes C (by decide) hk (hτ _ hk) rfl dX0_ofTooth_93 ?_
      exact gk_iret C E dX0_ofTooth_96 rfl rfl ⟨vi (by unfold ap_tooth; rw [if_neg (fun z => z c5), toNat_nI (by omega)]; rfl), rfl⟩
    · refine gk_tableOut 97 C dX0_ofTooth_25 hsw (by decide) ?_
      refine gk_bipush (-2) C dX0_ofTooth_97 rfl ?_
      exact gk_iret C E dX0_ofTooth_99 rfl rfl ⟨vi (by have := toNat_nI (j := k) (by omega); unfold ap_tooth; rw [if_neg (fun z => z c5), if_neg (by rintro rfl; revert hsw; decide), if_neg (by rintro rfl; revert hsw; decide), if_neg (by rintro rfl; revert hsw; decide), if_neg (by rintro rfl; revert hsw; decide), if_neg (by rintro rfl; revert hsw; decide), if_neg (by rintro rfl; revert hsw; decide), if_neg (by rintro rfl; revert hsw; decide)]), rfl⟩
  · rw [zb_0] at c5
    refine gk_iconst (-1) C dX0_ofTooth_8 rfl ?_
    exact gk_iret C E dX0_ofTooth_9 rfl rfl ⟨vi (if_pos c5).symm, rfl⟩
set_option maxHeartbeats 1000000 in
theorem xs_set (t : Nat) (l : Launch) (Γ : gk_E) (h : Nat) (ad : Nat → Nat) (ξ : mo_S) (θ : xA) (n : Nat) (τ : sp_T) (rs : va_W) (hn : n ≤ 8) (hv : 0 < n → ¬ θ.2.1 = true) (hτ : ∀ k, k < n → xk τ k) (k w v : Int32) : xo_X t l yX0_set (Cond.code yX0_set cX0_set 5 (some .int)) 3 [.int k, .int w, .int v] Γ h ad ξ (xD Γ h (ad 2) θ n τ rs) (fun r ξ1 dy1 => r = .int (if ¬ (0 ≤ k.toInt ∧ k.toInt < n) then -1 else if ¬ ((0 ≤ w.toInt ∧ w.toInt ≤ 2) ∧ (0 ≤ v.toInt ∧ v.toInt ≤ 9)) then -2 else τ (w.toInt.toNat + 2) k.toInt.toNat) ∧ ξ1 = ξ ∧ dy1 = xD Γ h (ad 2) θ n (if (0 ≤ k.toInt ∧ k.toInt < n) ∧ ((0 ≤ w.toInt ∧ w.toInt ≤ 2) ∧ (0 ≤ v.toInt ∧ v.toInt ≤ 9)) then sp_ch τ k.toInt.toNat w.toInt.toNat v else τ) rs) := by
  refine gk_M.intro (xN_ok t) (by decide) [some (.ref h), some (.int k), some (.int w), some (.int v), none] rfl rfl rfl ?_
  intro κ hl hg hN0 C E
  subst hl hg
  have C : gk_C κ cX0_set "SawLine" 3 0 0 := C
  refine gk_aload_n C dX0_set_0 rfl ?_
  refine gk_iload_n C dX0_set_1 rfl ?_
  refine xo_cU1 C hN0 (xs_isTooth t _ _ h ad ξ θ n τ rs hn hv hτ k) cv_X0_188 rfl rfl rfl dX0_set_2 ?_
  refine gk_if_ne 10 C dX0_set_5 (by decide) (fun c5 => ?_) (fun c5 => ?_)
  · rw [zb_n] at c5
    obtain ⟨k, hk, rfl⟩ := nI_lt_ex c5
    refine gk_iload_n C dX0_set_10 rfl ?_
    refine gk_iload_n C dX0_set_11 rfl ?_
    refine gk_cP2 C (xs_isPart _ w v) cs_X0_215 rfl (Nat.zero_le _) (Nat.zero_le _) rfl dX0_set_12 ?_
    refine gk_if_ne 21 C dX0_set_15 (by decide) (fun c15 => ?_) (fun c15 => ?_)
    · rw [zb_n] at c15
      obtain ⟨w, hw, rfl⟩ := nI_btw (x := w) (n := 2) c15.1.1 c15.1.2
      refine gk_aload_n C dX0_set_21 rfl ?_
      refine xo_g2 C dX0_set_22 ?_
      refine gk_iload_n C dX0_set_25 rfl ?_
      refine xr_get C hN0 (by decide) hk hn (hv (by omega)) rfl dX0_set_26 ?_
      refine xr_cast C hN0 hk dX0_set_31 ?_
      refine xr_is C hN0 hk dX0_set_34 ?_
      refine gk_iload_n C dX0_set_37 rfl ?_
      refine xr_ld (j := w) C hk rfl (by omega) dX0_set_38 ?_
      refine gk_istore C dX0_set_39 rfl rfl ?_
      refine gk_aload_n C dX0_set_41 rfl ?_
      refine xo_g2 C dX0_set_42 ?_
      refine gk_iload_n C dX0_set_45 rfl ?_
      refine xr_get C hN0 (by decide) hk hn (hv (by omega)) rfl dX0_set_46 ?_
      refine xr_cast C hN0 hk dX0_set_51 ?_
      refine xr_is C hN0 hk dX0_set_54 ?_
      refine gk_iload_n C dX0_set_57 rfl ?_
      refine gk_iload_n C dX0_set_58 rfl ?_
      refine xr_st (j := w) C hk rfl (by omega) dX0_set_59 ?_
      refine gk_iload C dX0_set_60 rfl ?_
      exact gk_iret C E dX0_set_62 rfl rfl ⟨_, _, _, rfl, rfl, by rw [if_neg (fun z => z c5), if_neg (fun z => z c15), toNat_nI (by omega), toNat_nI (by omega)], rfl, by rw [if_pos ⟨c5, c15⟩, toNat_nI (by omega), toNat_nI (by omega)]⟩
    · rw [zb_0] at c15
      refine gk_bipush (-2) C dX0_set_18 rfl ?_
      exact gk_iret C E dX0_set_20 rfl rfl ⟨_, _, _, rfl, rfl, by rw [if_neg (fun z => z c5), if_pos c15], rfl, by rw [if_neg (fun z => c15 z.2)]⟩
  · rw [zb_0] at c5
    refine gk_iconst (-1) C dX0_set_8 rfl ?_
    exact gk_iret C E dX0_set_9 rfl rfl ⟨_, _, _, rfl, rfl, by rw [if_pos c5], rfl, by rw [if_neg (fun z => c5 z.1)]⟩
set_option maxHeartbeats 1000000 in
theorem xs_sumP (t : Nat) (l : Launch) (Γ : gk_E) (h : Nat) (ad : Nat → Nat) (ξ : mo_S) (θ : xA) (n : Nat) (τ : sp_T) (rs : va_W) (hn : n ≤ 8) (hv : 0 < n → ¬ θ.2.1 = true) (hτ : ∀ k, k < n → xk τ k)  : xo_U t l yX0_sumOf (Cond.code yX0_sumOf cX0_sumOf 4 (some .int)) 4 [.int 1] Γ h ad ξ (xD Γ h (ad 2) θ n τ rs) (.int (sp_sum (sp_pu τ) n)) ξ := by
  refine gk_M.intro (xN_ok t) (by decide) [some (.ref h), some (.int 1), none, none] rfl rfl rfl ?_
  intro κ hl hg hN0 C E
  subst hl hg
  have C : gk_C κ cX0_sumOf "SawLine" 4 0 0 := C
  refine gk_iconst 0 C dX0_sumOf_0 rfl ?_
  refine gk_istore_n C dX0_sumOf_1 rfl rfl ?_
  refine gk_iconst 0 C dX0_sumOf_2 rfl ?_
  refine gk_istore_n C dX0_sumOf_3 rfl rfl ?_
  have L : ∀ k, k ≤ n → gk_G κ 0 0 (xo_W (gk_g κ) h ad ξ ++ xD (gk_g κ) h (ad 2) θ n τ rs) 4 [some (.ref h), some (.int 1), some (.int (sp_sum (sp_pu τ) k)), some (.int (nI k))] [] := by
    refine up_ind (fun k hk ih => ?_)
    refine gk_iload_n C dX0_sumOf_4 rfl ?_
    refine gk_aload_n C dX0_sumOf_5 rfl ?_
    refine xo_g2 C dX0_sumOf_6 ?_
    refine xr_size C hN0 (by decide) rfl dX0_sumOf_9 ?_
    refine gk_icmp_ge 65 C dX0_sumOf_14 (by decide) (fun c14 => ?_) (fun c14 => ?_)
    · obtain rfl : k = n := by have := nI_leT c14 (by omega) (by omega); omega
      refine gk_iload_n C dX0_sumOf_65 rfl ?_
      exact gk_iret C E dX0_sumOf_66 rfl rfl ⟨rfl, rfl⟩
    · have hk : k < n := nI_ngeT c14 (by omega)
      refine gk_iload_n C dX0_sumOf_17 rfl ?_
      refine gk_iload_n C dX0_sumOf_18 rfl ?_
      refine gk_if_eq 41 C dX0_sumOf_19 (by decide) (fun z => by first | exact absurd z (by decide) | exact absurd (by decide) z) (fun _ => ?_)
      refine gk_aload_n C dX0_sumOf_22 rfl ?_
      refine xo_g2 C dX0_sumOf_23 ?_
      refine gk_iload_n C dX0_sumOf_26 rfl ?_
      refine xr_get C hN0 (by decide) hk hn (hv (by omega)) rfl dX0_sumOf_27 ?_
      refine xr_cast C hN0 hk dX0_sumOf_32 ?_
      refine xr_pushes C (by decide) hk (hτ _ hk) rfl dX0_sumOf_35 ?_
      refine gk_goto 57 C dX0_sumOf_38 (by decide) ?_
      refine gk_iadd C dX0_sumOf_57 ?_
      refine gk_istore_n C dX0_sumOf_58 rfl rfl ?_
      refine gk_iinc (nI (k + 1)) C dX0_sumOf_59 rfl (nI_succ k).symm rfl rfl ?_
      refine gk_goto 4 C dX0_sumOf_62 (by decide) ?_
      exact ih hk
  exact L 0 (Nat.zero_le _)
set_option maxHeartbeats 1000000 in
theorem xs_sumT (t : Nat) (l : Launch) (Γ : gk_E) (h : Nat) (ad : Nat → Nat) (ξ : mo_S) (θ : xA) (n : Nat) (τ : sp_T) (rs : va_W) (hn : n ≤ 8) (hv : 0 < n → ¬ θ.2.1 = true) (hτ : ∀ k, k < n → xk τ k)  : xo_U t l yX0_sumOf (Cond.code yX0_sumOf cX0_sumOf 4 (some .int)) 4 [.int 0] Γ h ad ξ (xD Γ h (ad 2) θ n τ rs) (.int (sp_sum (sp_tk τ) n)) ξ := by
  refine gk_M.intro (xN_ok t) (by decide) [some (.ref h), some (.int 0), none, none] rfl rfl rfl ?_
  intro κ hl hg hN0 C E
  subst hl hg
  have C : gk_C κ cX0_sumOf "SawLine" 4 0 0 := C
  refine gk_iconst 0 C dX0_sumOf_0 rfl ?_
  refine gk_istore_n C dX0_sumOf_1 rfl rfl ?_
  refine gk_iconst 0 C dX0_sumOf_2 rfl ?_
  refine gk_istore_n C dX0_sumOf_3 rfl rfl ?_
  have L : ∀ k, k ≤ n → gk_G κ 0 0 (xo_W (gk_g κ) h ad ξ ++ xD (gk_g κ) h (ad 2) θ n τ rs) 4 [some (.ref h), some (.int 0), some (.int (sp_sum (sp_tk τ) k)), some (.int (nI k))] [] := by
    refine up_ind (fun k hk ih => ?_)
    refine gk_iload_n C dX0_sumOf_4 rfl ?_
    refine gk_aload_n C dX0_sumOf_5 rfl ?_
    refine xo_g2 C dX0_sumOf_6 ?_
    refine xr_size C hN0 (by decide) rfl dX0_sumOf_9 ?_
    refine gk_icmp_ge 65 C dX0_sumOf_14 (by decide) (fun c14 => ?_) (fun c14 => ?_)
    · obtain rfl : k = n := by have := nI_leT c14 (by omega) (by omega); omega
      refine gk_iload_n C dX0_sumOf_65 rfl ?_
      exact gk_iret C E dX0_sumOf_66 rfl rfl ⟨rfl, rfl⟩
    · have hk : k < n := nI_ngeT c14 (by omega)
      refine gk_iload_n C dX0_sumOf_17 rfl ?_
      refine gk_iload_n C dX0_sumOf_18 rfl ?_
      refine gk_if_eq 41 C dX0_sumOf_19 (by decide) (fun _ => ?_) (fun z => by first | exact absurd z (rfl : (0 : Int32) = 0) | exact absurd (rfl : (0 : Int32) = 0) z)
      refine gk_aload_n C dX0_sumOf_41 rfl ?_
      refine xo_g2 C dX0_sumOf_42 ?_
      refine gk_iload_n C dX0_sumOf_45 rfl ?_
      refine xr_get C hN0 (by decide) hk hn (hv (by omega)) rfl dX0_sumOf_46 ?_
      refine xr_cast C hN0 hk dX0_sumOf_51 ?_
      refine xr_takes C (by decide) hk (hτ _ hk) rfl dX0_sumOf_54 ?_
      refine gk_iadd C dX0_sumOf_57 ?_
      refine gk_istore_n C dX0_sumOf_58 rfl rfl ?_
      refine gk_iinc (nI (k + 1)) C dX0_sumOf_59 rfl (nI_succ k).symm rfl rfl ?_
      refine gk_goto 4 C dX0_sumOf_62 (by decide) ?_
      exact ih hk
  exact L 0 (Nat.zero_le _)
