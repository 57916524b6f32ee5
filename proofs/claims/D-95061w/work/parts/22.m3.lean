set_option maxRecDepth 100000
set_option maxHeartbeats 1000000 in
theorem mo_ofTooth (l : Launch) (Γ : gk_E) (h : Nat) (ad : Nat → Nat) (σ : mo_S) (n : Nat) (hn : n ≤ 8) (e : σ.1 1 = nI n) (k w : Int32) : mo_U l yX2_ofTooth (Cond.code yX2_ofTooth cX2_ofTooth 3 (some .int)) 2 [.int k, .int w] Γ h ad σ (.int (ap_tooth (mo_t σ) n k w)) σ := by
  refine gk_M.intro gk_N0_ok (by decide) [some (.ref h), some (.int k), some (.int w)] rfl rfl rfl ?_
  intro κ hl hg hN0 C E
  subst hl hg
  have C : gk_C κ cX2_ofTooth "SawLineModel" 2 0 0 := C
  refine gk_aload_n C dX2_ofTooth_0 rfl ?_
  refine gk_iload_n C dX2_ofTooth_1 rfl ?_
  refine mo_cU1 C (mo_noTooth _ _ _ _ _ k n (by omega) e) cv_X2_151 rfl rfl rfl dX2_ofTooth_2 ?_
  refine gk_if_eq 10 C dX2_ofTooth_5 (by decide) (fun c5 => ?_) (fun c5 => ?_)
  · rw [zb_0, Decidable.not_not] at c5
    obtain ⟨k, hk, rfl⟩ := nI_lt_ex c5
    refine gk_iload_n C dX2_ofTooth_10 rfl ?_
    rcases sw7 w with rfl | rfl | rfl | rfl | rfl | rfl | rfl | hsw
    · refine gk_tableIn 52 C dX2_ofTooth_11 (by decide) (by decide) rfl (by decide) ?_
      refine gk_aload_n C dX2_ofTooth_52 rfl ?_
      refine mo_g2 C dX2_ofTooth_53 ?_
      refine gk_iload_n C dX2_ofTooth_56 rfl ?_
      refine mo_l2 C dX2_ofTooth_57 rfl (by omega) ?_
      exact gk_iret C E dX2_ofTooth_58 rfl rfl ⟨vi (by unfold ap_tooth; rw [if_neg (fun z => z c5), toNat_nI (by omega)]; rfl), rfl⟩
    · refine gk_tableIn 59 C dX2_ofTooth_11 (by decide) (by decide) rfl (by decide) ?_
      refine gk_aload_n C dX2_ofTooth_59 rfl ?_
      refine mo_g3 C dX2_ofTooth_60 ?_
      refine gk_iload_n C dX2_ofTooth_63 rfl ?_
      refine mo_l3 C dX2_ofTooth_64 rfl (by omega) ?_
      exact gk_iret C E dX2_ofTooth_65 rfl rfl ⟨vi (by unfold ap_tooth; rw [if_neg (fun z => z c5), toNat_nI (by omega)]; rfl), rfl⟩
    · refine gk_tableIn 66 C dX2_ofTooth_11 (by decide) (by decide) rfl (by decide) ?_
      refine gk_aload_n C dX2_ofTooth_66 rfl ?_
      refine mo_g4 C dX2_ofTooth_67 ?_
      refine gk_iload_n C dX2_ofTooth_70 rfl ?_
      refine mo_l4 C dX2_ofTooth_71 rfl (by omega) ?_
      exact gk_iret C E dX2_ofTooth_72 rfl rfl ⟨vi (by unfold ap_tooth; rw [if_neg (fun z => z c5), toNat_nI (by omega)]; rfl), rfl⟩
    · refine gk_tableIn 73 C dX2_ofTooth_11 (by decide) (by decide) rfl (by decide) ?_
      refine gk_aload_n C dX2_ofTooth_73 rfl ?_
      refine mo_g5 C dX2_ofTooth_74 ?_
      refine gk_iload_n C dX2_ofTooth_77 rfl ?_
      refine mo_l5 C dX2_ofTooth_78 rfl (by omega) ?_
      exact gk_iret C E dX2_ofTooth_79 rfl rfl ⟨vi (by unfold ap_tooth; rw [if_neg (fun z => z c5), toNat_nI (by omega)]; rfl), rfl⟩
    · refine gk_tableIn 80 C dX2_ofTooth_11 (by decide) (by decide) rfl (by decide) ?_
      refine gk_aload_n C dX2_ofTooth_80 rfl ?_
      refine mo_g6 C dX2_ofTooth_81 ?_
      refine gk_iload_n C dX2_ofTooth_84 rfl ?_
      refine mo_l6 C dX2_ofTooth_85 rfl (by omega) ?_
      exact gk_iret C E dX2_ofTooth_86 rfl rfl ⟨vi (by unfold ap_tooth; rw [if_neg (fun z => z c5), toNat_nI (by omega)]; rfl), rfl⟩
    · refine gk_tableIn 87 C dX2_ofTooth_11 (by decide) (by decide) rfl (by decide) ?_
      refine gk_aload_n C dX2_ofTooth_87 rfl ?_
      refine gk_iload_n C dX2_ofTooth_88 rfl ?_
      refine mo_cU1 C (mo_takesOf _ _ _ _ _ k (by omega)) cv_X2_148 rfl rfl rfl dX2_ofTooth_89 ?_
      exact gk_iret C E dX2_ofTooth_92 rfl rfl ⟨vi (by unfold ap_tooth; rw [if_neg (fun z => z c5), toNat_nI (by omega)]; rfl), rfl⟩
    · refine gk_tableIn 93 C dX2_ofTooth_11 (by decide) (by decide) rfl (by decide) ?_
      refine gk_aload_n C dX2_ofTooth_93 rfl ?_
      refine gk_iload_n C dX2_ofTooth_94 rfl ?_
      refine mo_cU1 C (mo_pushOf _ _ _ _ _ k (by omega)) cv_X2_154 rfl rfl rfl dX2_ofTooth_95 ?_
      exact gk_iret C E dX2_ofTooth_98 rfl rfl ⟨vi (by unfold ap_tooth; rw [if_neg (fun z => z c5), toNat_nI (by omega)]; rfl), rfl⟩
    · refine gk_tableOut 99 C dX2_ofTooth_11 hsw (by decide) ?_
      refine gk_bipush (-2) C dX2_ofTooth_99 rfl ?_
      exact gk_iret C E dX2_ofTooth_101 rfl rfl ⟨vi (by have := toNat_nI (j := k) (by omega); unfold ap_tooth; rw [if_neg (fun z => z c5), if_neg (by rintro rfl; revert hsw; decide), if_neg (by rintro rfl; revert hsw; decide), if_neg (by rintro rfl; revert hsw; decide), if_neg (by rintro rfl; revert hsw; decide), if_neg (by rintro rfl; revert hsw; decide), if_neg (by rintro rfl; revert hsw; decide), if_neg (by rintro rfl; revert hsw; decide)]), rfl⟩
  · rw [zb_n] at c5
    refine gk_iconst (-1) C dX2_ofTooth_8 rfl ?_
    exact gk_iret C E dX2_ofTooth_9 rfl rfl ⟨vi (if_pos c5).symm, rfl⟩
set_option maxHeartbeats 1000000 in
theorem mo_ofSaw (l : Launch) (Γ : gk_E) (h : Nat) (ad : Nat → Nat) (σ : mo_S) (n : Nat) (hn : n ≤ 8) (e : σ.1 1 = nI n) (w : Int32) : mo_U l yX2_ofSaw (Cond.code yX2_ofSaw cX2_ofSaw 4 (some .int)) 3 [.int w] Γ h ad σ (.int (ap_saw (mo_t σ) n w)) σ := by
  refine gk_M.intro gk_N0_ok (by decide) [some (.ref h), some (.int w), none, none] rfl rfl rfl ?_
  intro κ hl hg hN0 C E
  subst hl hg
  have C : gk_C κ cX2_ofSaw "SawLineModel" 3 0 0 := C
  refine gk_iload_n C dX2_ofSaw_0 rfl ?_
  refine gk_i2l C dX2_ofSaw_1 ?_
  refine gk_lconst 0 C dX2_ofSaw_2 rfl ?_
  refine gk_ldc2 C q1235 dX2_ofSaw_3 ?_
  refine gk_cP3 C (mo_in3 _ w 0 2 0 2 rfl rfl) cs_X2_105 rfl (Nat.zero_le _) (Nat.zero_le _) rfl dX2_ofSaw_6 ?_
  refine gk_if_ne 15 C dX2_ofSaw_9 (by decide) (fun c9 => ?_) (fun c9 => ?_)
  · rw [zb_n] at c9
    refine gk_aload_n C dX2_ofSaw_15 rfl ?_
    refine mo_g1 C dX2_ofSaw_16 ?_
    rw [e]
    refine gk_if_ne 25 C dX2_ofSaw_19 (by decide) (fun c19 => ?_) (fun c19 => ?_)
    · have c19 : ¬ n = 0 := fun z => c19 (by rw [z]; rfl)
      refine gk_iconst 0 C dX2_ofSaw_25 rfl ?_
      refine gk_istore_n C dX2_ofSaw_26 rfl rfl ?_
      refine gk_iconst 0 C dX2_ofSaw_27 rfl ?_
      refine gk_istore_n C dX2_ofSaw_28 rfl rfl ?_
      have L29 : ∀ k, k ≤ n → gk_G κ 0 0 (mo_W (gk_g κ) h ad σ) 29 [some (.ref h), some (.int w), some (.int (sp_sum (sp_tk (mo_t σ)) k)), some (.int (nI k))] [] := by
        refine up_ind (fun k hk ih => ?_)
        refine gk_iload_n C dX2_ofSaw_29 rfl ?_
        refine gk_aload_n C dX2_ofSaw_30 rfl ?_
        refine mo_g1 C dX2_ofSaw_31 ?_
        rw [e]
        refine gk_icmp_ge 51 C dX2_ofSaw_34 (by decide) (fun c34 => ?_) (fun c34 => ?_)
        · obtain rfl : k = n := by have := nI_leT c34 (by omega) (by omega); omega
          refine gk_iload_n C dX2_ofSaw_51 rfl ?_
          refine gk_if_ne 62 C dX2_ofSaw_52 (by decide) (fun c52 => ?_) (fun c52 => ?_)
          · refine gk_iload_n C dX2_ofSaw_62 rfl ?_
            refine gk_iconst 1 C dX2_ofSaw_63 rfl ?_
            refine gk_icmp_ne 74 C dX2_ofSaw_64 (by decide) (fun c64 => ?_) (fun c64 => ?_)
            · refine gk_iload_n C dX2_ofSaw_74 rfl ?_
              exact gk_iret C E dX2_ofSaw_75 rfl rfl ⟨vi (by unfold ap_saw; rw [if_neg (fun z => z c9), if_neg c19]; first | rw [if_pos c52] | rw [if_neg c52, if_pos c64] | rw [if_neg c52, if_neg c64]), rfl⟩
            · refine gk_aload_n C dX2_ofSaw_67 rfl ?_
              refine mo_cU0 C (mo_kerfNow _ _ _ _ _ k hn e) cv_X2_169 rfl rfl rfl dX2_ofSaw_68 ?_
              refine gk_goto 75 C dX2_ofSaw_71 (by decide) ?_
              exact gk_iret C E dX2_ofSaw_75 rfl rfl ⟨vi (by unfold ap_saw; rw [if_neg (fun z => z c9), if_neg c19]; first | rw [if_pos c52] | rw [if_neg c52, if_pos c64] | rw [if_neg c52, if_neg c64]), rfl⟩
          · refine gk_aload_n C dX2_ofSaw_55 rfl ?_
            refine mo_cU0 C (mo_pushNow _ _ _ _ _ k hn e) cv_X2_165 rfl rfl rfl dX2_ofSaw_56 ?_
            refine gk_goto 75 C dX2_ofSaw_59 (by decide) ?_
            exact gk_iret C E dX2_ofSaw_75 rfl rfl ⟨vi (by unfold ap_saw; rw [if_neg (fun z => z c9), if_neg c19]; first | rw [if_pos c52] | rw [if_neg c52, if_pos c64] | rw [if_neg c52, if_neg c64]), rfl⟩
        · have c34 := nI_ngeT c34 (by omega)
          refine gk_iload_n C dX2_ofSaw_37 rfl ?_
          refine gk_aload_n C dX2_ofSaw_38 rfl ?_
          refine gk_iload_n C dX2_ofSaw_39 rfl ?_
          refine mo_cU1 C (mo_takesOf _ _ _ _ _ k (by omega)) cv_X2_148 rfl rfl rfl dX2_ofSaw_40 ?_
          refine gk_iadd C dX2_ofSaw_43 ?_
          refine gk_istore_n C dX2_ofSaw_44 rfl rfl ?_
          refine gk_iinc (nI (k + 1)) C dX2_ofSaw_45 rfl (nI_succ k).symm rfl rfl ?_
          refine gk_goto 29 C dX2_ofSaw_48 (by decide) ?_
          exact ih (by omega)
      exact L29 0 (Nat.zero_le _)
    · have c19 : n = 0 := (nI_eq (by omega) (by omega)).mp c19
      refine gk_bipush (-3) C dX2_ofSaw_22 rfl ?_
      exact gk_iret C E dX2_ofSaw_24 rfl rfl ⟨vi ((if_neg (fun z => z c9)).trans (if_pos c19)).symm, rfl⟩
  · rw [zb_0] at c9
    refine gk_bipush (-2) C dX2_ofSaw_12 rfl ?_
    exact gk_iret C E dX2_ofSaw_14 rfl rfl ⟨vi (if_pos c9).symm, rfl⟩
/-- the board as the model has it -/
abbrev mo_b (σ : mo_S) : sp_T := fun i => match i with
  | 0 => σ.2 13
  | 1 => σ.2 14
  | 2 => σ.2 15
  | _ => fun _ => 0
set_option maxHeartbeats 1000000 in
theorem mo_ofLine (l : Launch) (Γ : gk_E) (h : Nat) (ad : Nat → Nat) (σ : mo_S) (L : Nat) (hL : L ≤ 24) (eL : σ.1 12 = nI L) (t w : Int32) : mo_U l yX2_ofLine (Cond.code yX2_ofLine cX2_ofLine 3 (some .int)) 2 [.int t, .int w] Γ h ad σ (.int (ap_line (mo_b σ) L t w)) σ := by
  refine gk_M.intro gk_N0_ok (by decide) [some (.ref h), some (.int t), some (.int w)] rfl rfl rfl ?_
  intro κ hl hg hN0 C E
  subst hl hg
  have C : gk_C κ cX2_ofLine "SawLineModel" 2 0 0 := C
  refine gk_aload_n C dX2_ofLine_0 rfl ?_
  refine gk_iload_n C dX2_ofLine_1 rfl ?_
  refine mo_cU1 C (mo_noLine _ _ _ _ _ t L (by omega) eL) cv_X2_180 rfl rfl rfl dX2_ofLine_2 ?_
  refine gk_if_eq 10 C dX2_ofLine_5 (by decide) (fun c5 => ?_) (fun c5 => ?_)
  · rw [zb_0, Decidable.not_not] at c5
    obtain ⟨t, ht, rfl⟩ := nI_lt_ex c5
    refine gk_iload_n C dX2_ofLine_10 rfl ?_
    refine gk_if_ne 23 C dX2_ofLine_11 (by decide) (fun c11 => ?_) (fun c11 => ?_)
    · refine gk_iload_n C dX2_ofLine_23 rfl ?_
      refine gk_iconst 1 C dX2_ofLine_24 rfl ?_
      refine gk_icmp_ne 37 C dX2_ofLine_25 (by decide) (fun c25 => ?_) (fun c25 => ?_)
      · refine gk_iload_n C dX2_ofLine_37 rfl ?_
        refine gk_iconst 2 C dX2_ofLine_38 rfl ?_
        refine gk_icmp_ne 51 C dX2_ofLine_39 (by decide) (fun c39 => ?_) (fun c39 => ?_)
        · refine gk_bipush (-2) C dX2_ofLine_51 rfl ?_
          exact gk_iret C E dX2_ofLine_53 rfl rfl ⟨vi (by unfold ap_line; rw [if_neg (fun z => z c5), toNat_nI (by omega)]; first | (rw [if_pos c11]; done) | (rw [if_pos c11]; rfl) | (rw [if_neg c11, if_pos c25]; rfl) | (rw [if_neg c11, if_neg c25, if_pos c39]; rfl) | rw [if_neg c11, if_neg c25, if_neg c39]), rfl⟩
        · refine gk_aload_n C dX2_ofLine_42 rfl ?_
          refine mo_g15 C dX2_ofLine_43 ?_
          refine gk_iload_n C dX2_ofLine_46 rfl ?_
          refine mo_l15 C dX2_ofLine_47 rfl (by omega) ?_
          refine gk_goto 53 C dX2_ofLine_48 (by decide) ?_
          exact gk_iret C E dX2_ofLine_53 rfl rfl ⟨vi (by unfold ap_line; rw [if_neg (fun z => z c5), toNat_nI (by omega)]; first | (rw [if_pos c11]; done) | (rw [if_pos c11]; rfl) | (rw [if_neg c11, if_pos c25]; rfl) | (rw [if_neg c11, if_neg c25, if_pos c39]; rfl) | rw [if_neg c11, if_neg c25, if_neg c39]), rfl⟩
      · refine gk_aload_n C dX2_ofLine_28 rfl ?_
        refine mo_g14 C dX2_ofLine_29 ?_
        refine gk_iload_n C dX2_ofLine_32 rfl ?_
        refine mo_l14 C dX2_ofLine_33 rfl (by omega) ?_
        refine gk_goto 53 C dX2_ofLine_34 (by decide) ?_
        exact gk_iret C E dX2_ofLine_53 rfl rfl ⟨vi (by unfold ap_line; rw [if_neg (fun z => z c5), toNat_nI (by omega)]; first | (rw [if_pos c11]; done) | (rw [if_pos c11]; rfl) | (rw [if_neg c11, if_pos c25]; rfl) | (rw [if_neg c11, if_neg c25, if_pos c39]; rfl) | rw [if_neg c11, if_neg c25, if_neg c39]), rfl⟩
    · refine gk_aload_n C dX2_ofLine_14 rfl ?_
      refine mo_g13 C dX2_ofLine_15 ?_
      refine gk_iload_n C dX2_ofLine_18 rfl ?_
      refine mo_l13 C dX2_ofLine_19 rfl (by omega) ?_
      refine gk_goto 53 C dX2_ofLine_20 (by decide) ?_
      exact gk_iret C E dX2_ofLine_53 rfl rfl ⟨vi (by unfold ap_line; rw [if_neg (fun z => z c5), toNat_nI (by omega)]; first | (rw [if_pos c11]; done) | (rw [if_pos c11]; rfl) | (rw [if_neg c11, if_pos c25]; rfl) | (rw [if_neg c11, if_neg c25, if_pos c39]; rfl) | rw [if_neg c11, if_neg c25, if_neg c39]), rfl⟩
  · rw [zb_n] at c5
    refine gk_iconst (-1) C dX2_ofLine_8 rfl ?_
    exact gk_iret C E dX2_ofLine_9 rfl rfl ⟨vi (if_pos c5).symm, rfl⟩
set_option maxHeartbeats 1000000 in
theorem mo_hand (l : Launch) (Γ : gk_E) (h : Nat) (ad : Nat → Nat) (σ : mo_S) (a b c : Int32) : mo_U l yX2_hand (Cond.code yX2_hand cX2_hand 4 (some .int)) 2 [.int a, .int b, .int c] Γ h ad σ (.int (if ap_hand a b c then 1 else -2)) (if ap_hand a b c then mo_i (mo_i (mo_i σ 16 a) 17 b) 18 c else σ) := by
  refine gk_M.intro gk_N0_ok (by decide) [some (.ref h), some (.int a), some (.int b), some (.int c)] rfl rfl rfl ?_
  intro κ hl hg hN0 C E
  subst hl hg
  have C : gk_C κ cX2_hand "SawLineModel" 2 0 0 := C
  refine gk_iload_n C dX2_hand_0 rfl ?_
  refine gk_i2l C dX2_hand_1 ?_
  refine gk_ldc2 C q1315 dX2_hand_2 ?_
  refine gk_ldc2 C q1254 dX2_hand_5 ?_
  refine gk_cP3 C (mo_in3 _ a (-9) 9 (-9) 9 rfl rfl) cs_X2_105 rfl (Nat.zero_le _) (Nat.zero_le _) rfl dX2_hand_8 ?_
  refine gk_if_eq 38 C dX2_hand_11 (by decide) (fun c11 => ?_) (fun c11 => ?_)
  · rw [zb_0] at c11
    refine gk_bipush (-2) C dX2_hand_38 rfl ?_
    exact gk_iret C E dX2_hand_40 rfl rfl ⟨by first | exact vi (if_neg (fun z => c11 z.1)).symm | exact vi (if_neg (fun z => c23 z.2.1)).symm | exact vi (if_neg (fun z => c35 z.2.2)).symm, by first | rw [if_neg (fun z => c11 z.1)] | rw [if_neg (fun z => c23 z.2.1)] | rw [if_neg (fun z => c35 z.2.2)]⟩
  · rw [zb_n] at c11
    refine gk_iload_n C dX2_hand_14 rfl ?_
    refine gk_i2l C dX2_hand_15 ?_
    refine gk_lconst 0 C dX2_hand_16 rfl ?_
    refine gk_ldc2 C q1254 dX2_hand_17 ?_
    refine gk_cP3 C (mo_in3 _ b 0 9 0 9 rfl rfl) cs_X2_105 rfl (Nat.zero_le _) (Nat.zero_le _) rfl dX2_hand_20 ?_
    refine gk_if_eq 38 C dX2_hand_23 (by decide) (fun c23 => ?_) (fun c23 => ?_)
    · rw [zb_0] at c23
      refine gk_bipush (-2) C dX2_hand_38 rfl ?_
      exact gk_iret C E dX2_hand_40 rfl rfl ⟨by first | exact vi (if_neg (fun z => c11 z.1)).symm | exact vi (if_neg (fun z => c23 z.2.1)).symm | exact vi (if_neg (fun z => c35 z.2.2)).symm, by first | rw [if_neg (fun z => c11 z.1)] | rw [if_neg (fun z => c23 z.2.1)] | rw [if_neg (fun z => c35 z.2.2)]⟩
    · rw [zb_n] at c23
      refine gk_iload_n C dX2_hand_26 rfl ?_
      refine gk_i2l C dX2_hand_27 ?_
      refine gk_lconst 0 C dX2_hand_28 rfl ?_
      refine gk_ldc2 C q1316 dX2_hand_29 ?_
      refine gk_cP3 C (mo_in3 _ c 0 5 0 5 rfl rfl) cs_X2_105 rfl (Nat.zero_le _) (Nat.zero_le _) rfl dX2_hand_32 ?_
      refine gk_if_ne 41 C dX2_hand_35 (by decide) (fun c35 => ?_) (fun c35 => ?_)
      · rw [zb_n] at c35
        refine gk_aload_n C dX2_hand_41 rfl ?_
        refine gk_iload_n C dX2_hand_42 rfl ?_
        refine mo_p16 C dX2_hand_43 ?_
        refine gk_aload_n C dX2_hand_46 rfl ?_
        refine gk_iload_n C dX2_hand_47 rfl ?_
        refine mo_p17 C dX2_hand_48 ?_
        refine gk_aload_n C dX2_hand_51 rfl ?_
        refine gk_iload_n C dX2_hand_52 rfl ?_
        refine mo_p18 C dX2_hand_53 ?_
        refine gk_iconst 1 C dX2_hand_56 rfl ?_
        exact gk_iret C E dX2_hand_57 rfl rfl ⟨vi (if_pos ⟨c11, c23, c35⟩).symm, by rw [if_pos ⟨c11, c23, c35⟩]⟩
      · rw [zb_0] at c35
        refine gk_bipush (-2) C dX2_hand_38 rfl ?_
        exact gk_iret C E dX2_hand_40 rfl rfl ⟨by first | exact vi (if_neg (fun z => c11 z.1)).symm | exact vi (if_neg (fun z => c23 z.2.1)).symm | exact vi (if_neg (fun z => c35 z.2.2)).symm, by first | rw [if_neg (fun z => c11 z.1)] | rw [if_neg (fun z => c23 z.2.1)] | rw [if_neg (fun z => c35 z.2.2)]⟩
set_option maxHeartbeats 1000000 in
theorem mo_ofHand (l : Launch) (Γ : gk_E) (h : Nat) (ad : Nat → Nat) (σ : mo_S) (w : Int32) : mo_U l yX2_ofHand (Cond.code yX2_ofHand cX2_ofHand 2 (some .int)) 0 [.int w] Γ h ad σ (.int (if w = 0 then σ.1 16 else if w = 1 then σ.1 17 else if w = 2 then σ.1 18 else -2)) σ := by
  refine gk_M.intro gk_N0_ok (by decide) [some (.ref h), some (.int w)] rfl rfl rfl ?_
  intro κ hl hg hN0 C E
  subst hl hg
  have C : gk_C κ cX2_ofHand "SawLineModel" 0 0 0 := C
  refine gk_iload_n C dX2_ofHand_0 rfl ?_
  refine gk_if_ne 11 C dX2_ofHand_1 (by decide) (fun c1 => ?_) (fun c1 => ?_)
  · refine gk_iload_n C dX2_ofHand_11 rfl ?_
    refine gk_iconst 1 C dX2_ofHand_12 rfl ?_
    refine gk_icmp_ne 23 C dX2_ofHand_13 (by decide) (fun c13 => ?_) (fun c13 => ?_)
    · refine gk_iload_n C dX2_ofHand_23 rfl ?_
      refine gk_iconst 2 C dX2_ofHand_24 rfl ?_
      refine gk_icmp_ne 35 C dX2_ofHand_25 (by decide) (fun c25 => ?_) (fun c25 => ?_)
      · refine gk_bipush (-2) C dX2_ofHand_35 rfl ?_
        exact gk_iret C E dX2_ofHand_37 rfl rfl ⟨vi (by first | rw [if_pos c1] | rw [if_neg c1, if_pos c13] | rw [if_neg c1, if_neg c13, if_pos c25] | rw [if_neg c1, if_neg c13, if_neg c25]), rfl⟩
      · refine gk_aload_n C dX2_ofHand_28 rfl ?_
        refine mo_g18 C dX2_ofHand_29 ?_
        refine gk_goto 37 C dX2_ofHand_32 (by decide) ?_
        exact gk_iret C E dX2_ofHand_37 rfl rfl ⟨vi (by first | rw [if_pos c1] | rw [if_neg c1, if_pos c13] | rw [if_neg c1, if_neg c13, if_pos c25] | rw [if_neg c1, if_neg c13, if_neg c25]), rfl⟩
    · refine gk_aload_n C dX2_ofHand_16 rfl ?_
      refine mo_g17 C dX2_ofHand_17 ?_
      refine gk_goto 37 C dX2_ofHand_20 (by decide) ?_
      exact gk_iret C E dX2_ofHand_37 rfl rfl ⟨vi (by first | rw [if_pos c1] | rw [if_neg c1, if_pos c13] | rw [if_neg c1, if_neg c13, if_pos c25] | rw [if_neg c1, if_neg c13, if_neg c25]), rfl⟩
  · refine gk_aload_n C dX2_ofHand_4 rfl ?_
    refine mo_g16 C dX2_ofHand_5 ?_
    refine gk_goto 37 C dX2_ofHand_8 (by decide) ?_
    exact gk_iret C E dX2_ofHand_37 rfl rfl ⟨vi (by first | rw [if_pos c1] | rw [if_neg c1, if_pos c13] | rw [if_neg c1, if_neg c13, if_pos c25] | rw [if_neg c1, if_neg c13, if_neg c25]), rfl⟩
set_option maxHeartbeats 1000000 in
theorem mo_fence (l : Launch) (Γ : gk_E) (h : Nat) (ad : Nat → Nat) (σ : mo_S) (v : Int32) : mo_U l yX2_fence (Cond.code yX2_fence cX2_fence 3 (some .int)) 2 [.int v] Γ h ad σ (.int (if 0 ≤ v.toInt ∧ v.toInt ≤ 99 then σ.1 19 else -2)) (if 0 ≤ v.toInt ∧ v.toInt ≤ 99 then mo_i σ 19 v else σ) := by
  refine gk_M.intro gk_N0_ok (by decide) [some (.ref h), some (.int v), none] rfl rfl rfl ?_
  intro κ hl hg hN0 C E
  subst hl hg
  have C : gk_C κ cX2_fence "SawLineModel" 2 0 0 := C
  refine gk_iload_n C dX2_fence_0 rfl ?_
  refine gk_i2l C dX2_fence_1 ?_
  refine gk_lconst 0 C dX2_fence_2 rfl ?_
  refine gk_ldc2 C q1325 dX2_fence_3 ?_
  refine gk_cP3 C (mo_in3 _ v 0 99 0 99 rfl rfl) cs_X2_105 rfl (Nat.zero_le _) (Nat.zero_le _) rfl dX2_fence_6 ?_
  refine gk_if_ne 15 C dX2_fence_9 (by decide) (fun c9 => ?_) (fun c9 => ?_)
  · rw [zb_n] at c9
    refine gk_aload_n C dX2_fence_15 rfl ?_
    refine mo_g19 C dX2_fence_16 ?_
    refine gk_istore_n C dX2_fence_19 rfl rfl ?_
    refine gk_aload_n C dX2_fence_20 rfl ?_
    refine gk_iload_n C dX2_fence_21 rfl ?_
    refine mo_p19 C dX2_fence_22 ?_
    refine gk_iload_n C dX2_fence_25 rfl ?_
    exact gk_iret C E dX2_fence_26 rfl rfl ⟨by first | exact vi (if_pos c9).symm | exact vi (if_neg c9).symm, by first | rw [if_pos c9] | rw [if_neg c9]⟩
  · rw [zb_0] at c9
    refine gk_bipush (-2) C dX2_fence_12 rfl ?_
    exact gk_iret C E dX2_fence_14 rfl rfl ⟨by first | exact vi (if_pos c9).symm | exact vi (if_neg c9).symm, by first | rw [if_pos c9] | rw [if_neg c9]⟩
/-- the model with its cut's words set -/
def mo_st (σ : mo_S) (o : Int32) (P H : Nat → Int32) (f : Int32) : mo_S := (va_up (va_up σ.1 20 o) 23 f, va_up (va_up σ.2 21 P) 22 H)
theorem va_up_id {α : Type} (f : Nat → α) (k : Nat) : va_up f k (f k) = f := by
  funext j; unfold va_up; split
  · rename_i h; rw [h]
  · rfl
theorem va_up_up {α : Type} (f : Nat → α) (k : Nat) (x y : α) : va_up (va_up f k x) k y = va_up f k y := by
  funext j; unfold va_up; split <;> rfl
theorem va_up_cm {α : Type} (f : Nat → α) (k j : Nat) (x y : α) (h : k ≠ j) : va_up (va_up f k x) j y = va_up (va_up f j y) k x := by
  funext i; unfold va_up; split
  · rename_i h1; rw [if_neg (by rw [h1]; exact fun z => h z.symm)]
  · rfl
theorem mo_st_0 (σ : mo_S) : mo_i (mo_i σ 20 0) 23 0 = mo_st σ 0 (σ.2 21) (σ.2 22) 0 := by
  unfold mo_st mo_i; rw [va_up_id, va_up_id]
theorem mo_st_20 (σ : mo_S) (o : Int32) (P H : Nat → Int32) (f v : Int32) : mo_i (mo_st σ o P H f) 20 v = mo_st σ v P H f := by
  unfold mo_st mo_i; dsimp only; rw [va_up_cm _ 23 20 _ _ (by decide), va_up_up]
theorem mo_st_23 (σ : mo_S) (o : Int32) (P H : Nat → Int32) (f v : Int32) : mo_i (mo_st σ o P H f) 23 v = mo_st σ o P H v := by
  unfold mo_st mo_i; dsimp only; rw [va_up_up]
theorem mo_st_21 (σ : mo_S) (o : Int32) (P H : Nat → Int32) (f v : Int32) (j : Nat) : mo_a (mo_st σ o P H f) 21 j v = mo_st σ o (upd P j v) H f := by
  have e : (mo_st σ o P H f).2 21 = P := rfl
  unfold mo_a; rw [e]; unfold mo_st; dsimp only; rw [va_up_cm _ 22 21 _ _ (by decide), va_up_up]
theorem mo_st_22 (σ : mo_S) (o : Int32) (P H : Nat → Int32) (f v : Int32) (j : Nat) : mo_a (mo_st σ o P H f) 22 j v = mo_st σ o P (upd H j v) f := by
  have e : (mo_st σ o P H f).2 22 = H := rfl
  unfold mo_a; rw [e]; unfold mo_st; dsimp only; rw [va_up_up]
/-- what the model's cut is done with; how many strokes it has; the model behind it -/
abbrev mo_e (σ : mo_S) (n lt : Nat) : ct_E := (sp_sum (sp_pu (mo_t σ)) n, σ.1 16, σ.1 17, σ.1 19, lt, mo_b σ)
def mo_sn (σ : mo_S) (n L : Nat) : Nat := if n = 0 then 0 else st_n (σ.2 15) (sp_kf (mo_t σ) n) L 0
abbrev mo_ct (σ : mo_S) (n lt t : Nat) := ct (mo_e σ n lt) (σ.2 21) (σ.2 22) t
def mo_cutS (σ : mo_S) (n L lt : Nat) : mo_S := mo_st σ (nI (mo_sn σ n L)) (mo_ct σ n lt (mo_sn σ n L)).1 (mo_ct σ n lt (mo_sn σ n L)).2.1 (mo_ct σ n lt (mo_sn σ n L)).2.2.2.2
set_option maxHeartbeats 4000000 in
theorem mo_cut (l : Launch) (Γ : gk_E) (h : Nat) (ad : Nat → Nat) (σ : mo_S) (n : Nat) (hn : n ≤ 8) (e : σ.1 1 = nI n) (L : Nat) (hL : L ≤ 24) (eL : σ.1 12 = nI L) (lt : Nat) (hlt : lt ≤ 5) (eT : σ.1 18 = nI lt) (hH : ∀ t, t < L → ¬ 10 * σ.2 13 t = 0) : mo_V l yX2_cut (Cond.code yX2_cut cX2_cut 8 none) 3 [] Γ h ad σ (mo_cutS σ n L lt) := by
  refine gk_M.intro gk_N0_ok (by decide) [some (.ref h), none, none, none, none, none, none, none] rfl rfl rfl ?_
  intro κ hl hg hN0 C E
  subst hl hg
  have C : gk_C κ cX2_cut "SawLineModel" 3 0 0 := C
  refine gk_aload_n C dX2_cut_0 rfl ?_
  refine mo_cU0 C (mo_pushNow _ _ _ _ _ n hn e) cv_X2_165 rfl rfl rfl dX2_cut_1 ?_
  refine gk_istore_n C dX2_cut_4 rfl rfl ?_
  refine gk_aload_n C dX2_cut_5 rfl ?_
  refine mo_cU0 C (mo_kerfNow _ _ _ _ _ n hn e) cv_X2_169 rfl rfl rfl dX2_cut_6 ?_
  refine gk_istore_n C dX2_cut_9 rfl rfl ?_
  refine gk_iconst 0 C dX2_cut_10 rfl ?_
  refine gk_istore_n C dX2_cut_11 rfl rfl ?_
  refine gk_iconst 0 C dX2_cut_12 rfl ?_
  refine gk_istore C dX2_cut_13 rfl rfl ?_
  refine gk_aload_n C dX2_cut_15 rfl ?_
  refine gk_iconst 0 C dX2_cut_16 rfl ?_
  refine mo_p20 C dX2_cut_17 ?_
  refine gk_aload_n C dX2_cut_20 rfl ?_
  refine gk_iconst 0 C dX2_cut_21 rfl ?_
  refine mo_p23 C dX2_cut_22 ?_
  refine gk_iconst 0 C dX2_cut_25 rfl ?_
  refine gk_istore C dX2_cut_26 rfl rfl ?_
  have L28 : ∀ t, t ≤ L → ((if n = 0 then 0 else st_n (σ.2 15) (sp_kf (mo_t σ) n) (L - t) t) = mo_sn σ n L ∧ (n = 0 → t = 0)) → gk_G κ 0 0 (mo_W (gk_g κ) h ad (mo_st σ (nI t) (mo_ct σ n lt t).1 (mo_ct σ n lt t).2.1 (mo_ct σ n lt t).2.2.2.2)) 28 [some (.ref h), some (.int (sp_sum (sp_pu (mo_t σ)) n)), some (.int (sp_kf (mo_t σ) n)), some (.int (mo_ct σ n lt t).2.2.1), some (.int (mo_ct σ n lt t).2.2.2.1), some (.int (nI t)), none, none] [] := by
    refine up_ind (fun t ht ih => ?_)
    rintro ⟨hS, hz⟩
    rw [show mo_ct σ n lt (t + 1) = ct_n (mo_e σ n lt) t (mo_ct σ n lt t) from rfl] at ih
    generalize hr : mo_ct σ n lt t = r at ih ⊢
    refine gk_iload C dX2_cut_28 rfl ?_
    refine gk_aload_n C dX2_cut_30 rfl ?_
    refine mo_g12 C dX2_cut_31 ?_
    refine gk_eqv eL ?_
    refine gk_icmp_ge 244 C dX2_cut_34 (by decide) (fun c34 => ?_) (fun c34 => ?_)
    · have hS : mo_sn σ n L = t := by
        have z : t = L := by have := nI_leT c34 (by omega) (by omega); omega
        rw [← hS, show L - t = 0 by omega]; split
        · rename_i z; rw [hz z]
        · rfl
      exact gk_vret C E dX2_cut_244 rfl rfl ⟨rfl, by unfold mo_cutS; rw [hS, hr]⟩
    · have c34 := nI_ngeT c34 (by omega)
      refine gk_aload_n C dX2_cut_37 rfl ?_
      refine mo_g1 C dX2_cut_38 ?_
      refine gk_eqv e ?_
      refine gk_if_le 244 C dX2_cut_41 (by decide) (fun c41 => ?_) (fun c41 => ?_)
      · have c41 : n = 0 := by have := nI_leT (b := 0) c41 (by omega) (by omega); omega
        have hS : mo_sn σ n L = t := by rw [hz c41]; exact if_pos c41
        exact gk_vret C E dX2_cut_244 rfl rfl ⟨rfl, by unfold mo_cutS; rw [hS, hr]⟩
      · have c41 : ¬ n = 0 := fun z => c41 (by rw [z]; exact nI_le (a := 0) (b := 0) (by omega) (by omega))
        refine gk_aload_n C dX2_cut_44 rfl ?_
        refine mo_g15 C dX2_cut_45 ?_
        refine gk_iload C dX2_cut_48 rfl ?_
        refine mo_l15 C dX2_cut_50 rfl (by omega) ?_
        refine gk_eqv (y := σ.2 15 t) rfl ?_
        refine gk_iload_n C dX2_cut_51 rfl ?_
        refine gk_icmp_gt 244 C dX2_cut_52 (by decide) (fun c52 => ?_) (fun c52 => ?_)
        · have hS : mo_sn σ n L = t := by
            rw [← hS, if_neg c41, show L - t = L - t - 1 + 1 by omega]
            exact if_neg (Int32.not_le.mpr c52)
          exact gk_vret C E dX2_cut_244 rfl rfl ⟨rfl, by unfold mo_cutS; rw [hS, hr]⟩
        · refine gk_iload C dX2_cut_55 rfl ?_
          refine gk_iconst 1 C dX2_cut_57 rfl ?_
          refine gk_isub C dX2_cut_58 ?_
          refine gk_aload_n C dX2_cut_59 rfl ?_
          refine mo_g18 C dX2_cut_60 ?_
          refine gk_eqv eT ?_
          refine gk_isub C dX2_cut_63 ?_
          refine gk_istore C dX2_cut_64 rfl rfl ?_
          refine gk_iload C dX2_cut_66 rfl ?_
          refine gk_jn1 (ct_w (mo_e σ n lt) (r).1 t) 82 ?_ (fun K82 => ?_)
          · refine gk_istore C dX2_cut_82 rfl rfl ?_
            refine gk_iload C dX2_cut_84 rfl ?_
            refine gk_iload_n C dX2_cut_86 rfl ?_
            refine gk_bipush 10 C dX2_cut_87 rfl ?_
            refine gk_aload_n C dX2_cut_89 rfl ?_
            refine mo_g13 C dX2_cut_90 ?_
            refine gk_iload C dX2_cut_93 rfl ?_
            refine mo_l13 C dX2_cut_95 rfl (by omega) ?_
            refine gk_imul C dX2_cut_96 ?_
            refine gk_idiv C dX2_cut_97 (hH t c34) ?_
            refine gk_aload_n C dX2_cut_98 rfl ?_
            refine mo_g14 C dX2_cut_99 ?_
            refine gk_iload C dX2_cut_102 rfl ?_
            refine mo_l14 C dX2_cut_104 rfl (by omega) ?_
            refine gk_iadd C dX2_cut_105 ?_
            refine gk_aload_n C dX2_cut_106 rfl ?_
            refine mo_g16 C dX2_cut_107 ?_
            refine gk_iadd C dX2_cut_110 ?_
            refine gk_aload_n C dX2_cut_111 rfl ?_
            refine mo_g17 C dX2_cut_112 ?_
            refine gk_iload C dX2_cut_115 rfl ?_
            refine gk_imul C dX2_cut_117 ?_
            refine gk_bipush 8 C dX2_cut_118 rfl ?_
            refine gk_idiv C dX2_cut_120 (by decide) ?_
            refine gk_isub C dX2_cut_121 ?_
            refine gk_iadd C dX2_cut_122 ?_
            refine gk_eqv (y := (ct_h (mo_e σ n lt) (r).1 (r).2.2.2.1 t)) rfl ?_
            refine gk_istore C dX2_cut_123 rfl rfl ?_
            refine gk_iload C dX2_cut_125 rfl ?_
            refine gk_bipush 99 C dX2_cut_127 rfl ?_
            refine gk_jn2 (ct_b (ct_h (mo_e σ n lt) (r).1 (r).2.2.2.1 t)) 151 ?_ (fun K151 => ?_)
            · refine gk_istore C dX2_cut_151 rfl rfl ?_
              refine gk_fg 6 (gk_fg 7 ?_)
              refine gk_iload_n C dX2_cut_153 rfl ?_
              refine gk_iload C dX2_cut_154 rfl ?_
              refine gk_iadd C dX2_cut_156 ?_
              refine gk_istore_n C dX2_cut_157 rfl rfl ?_
              refine gk_aload_n C dX2_cut_158 rfl ?_
              refine mo_g19 C dX2_cut_159 ?_
              refine gk_jnO1 ([some (.ref h), some (.int (sp_sum (sp_pu (mo_t σ)) n)), some (.int (sp_kf (mo_t σ) n)), some (.int (ct_s (mo_e σ n lt) (r).1 (r).2.2.1 (r).2.2.2.1 t).1), some (.int (ct_s (mo_e σ n lt) (r).1 (r).2.2.1 (r).2.2.2.1 t).2), some (.int (nI t)), none, none]) 196 ?_ (fun K196 => ?_)
              · refine gk_aload_n C dX2_cut_196 rfl ?_
                refine mo_g21 C dX2_cut_197 ?_
                refine gk_iload C dX2_cut_200 rfl ?_
                refine gk_iload_n C dX2_cut_202 rfl ?_
                refine mo_s21 C dX2_cut_203 rfl (by omega) ?_
                rw [mo_st_21]
                refine gk_aload_n C dX2_cut_204 rfl ?_
                refine mo_g22 C dX2_cut_205 ?_
                refine gk_iload C dX2_cut_208 rfl ?_
                refine gk_iload C dX2_cut_210 rfl ?_
                refine mo_s22 C dX2_cut_212 rfl (by omega) ?_
                rw [mo_st_22]
                refine gk_aload_n C dX2_cut_213 rfl ?_
                refine gk_aload_n C dX2_cut_214 rfl ?_
                refine mo_g23 C dX2_cut_215 ?_
                refine gk_iload_n C dX2_cut_218 rfl ?_
                refine gk_cP1 C (mo_size _ _) cs_X2_207 rfl (Nat.zero_le _) (Nat.zero_le _) rfl dX2_cut_219 ?_
                refine gk_cP2 C (mo_greater _ _ _) cs_X2_161 rfl (Nat.zero_le _) (Nat.zero_le _) rfl dX2_cut_222 ?_
                refine mo_p23 C dX2_cut_225 ?_
                rw [mo_st_23]
                refine gk_aload_n C dX2_cut_228 rfl ?_
                refine gk_dup C dX2_cut_229 rfl ?_
                refine mo_g20 C dX2_cut_230 ?_
                refine gk_iconst 1 C dX2_cut_233 rfl ?_
                refine gk_iadd C dX2_cut_234 ?_
                refine gk_eqv (nI_1 t) ?_
                refine mo_p20 C dX2_cut_235 ?_
                rw [mo_st_20]
                refine gk_iinc (nI (t + 1)) C dX2_cut_238 rfl (nI_succ t).symm rfl rfl ?_
                refine gk_goto 28 C dX2_cut_241 (by decide) ?_
                refine gk_fg 6 (gk_fg 7 (ih c34 ⟨?_, fun z => absurd z c41⟩))
                rw [← hS, if_neg c41, if_neg c41, show L - t = L - (t + 1) + 1 by omega]
                exact (if_pos (Int32.not_lt.mp c52)).symm
              · refine gk_if_le 196 C dX2_cut_162 (by decide) (fun c162 => ?_) (fun c162 => ?_)
                · have hs := ct_s_n (e := mo_e σ n lt) (P := r.1) (pl := r.2.2.1) (hd := r.2.2.2.1) (t := t) (fun z => Int32.not_lt.mpr c162 z.1)
                  rw [hs] at K196
                  exact K196
                · refine gk_iload_n C dX2_cut_165 rfl ?_
                  refine gk_cP1 C (mo_size _ _) cs_X2_207 rfl (Nat.zero_le _) (Nat.zero_le _) rfl dX2_cut_166 ?_
                  refine gk_aload_n C dX2_cut_169 rfl ?_
                  refine mo_g19 C dX2_cut_170 ?_
                  refine gk_icmp_le 196 C dX2_cut_173 (by decide) (fun c173 => ?_) (fun c173 => ?_)
                  · have hs := ct_s_n (e := mo_e σ n lt) (P := r.1) (pl := r.2.2.1) (hd := r.2.2.2.1) (t := t) (fun z => Int32.not_lt.mpr c173 z.2)
                    rw [hs] at K196
                    exact K196
                  · have hs := ct_s_y (e := mo_e σ n lt) (P := r.1) (pl := r.2.2.1) (hd := r.2.2.2.1) (t := t) ⟨Int32.not_le.mp c162, Int32.not_le.mp c173⟩
                    refine gk_iload_n C dX2_cut_176 rfl ?_
                    refine gk_if_le 187 C dX2_cut_177 (by decide) (fun c177 => ?_) (fun c177 => ?_)
                    · rw [if_pos c177] at hs
                      refine gk_aload_n C dX2_cut_187 rfl ?_
                      refine mo_g19 C dX2_cut_188 ?_
                      refine gk_ineg C dX2_cut_191 ?_
                      refine gk_istore_n C dX2_cut_192 rfl rfl ?_
                      refine gk_iconst 0 C dX2_cut_193 rfl ?_
                      refine gk_istore C dX2_cut_194 rfl rfl ?_
                      rw [hs] at K196
                      exact K196
                    · rw [if_neg c177] at hs
                      refine gk_aload_n C dX2_cut_180 rfl ?_
                      refine mo_g19 C dX2_cut_181 ?_
                      refine gk_goto 192 C dX2_cut_184 (by decide) ?_
                      refine gk_istore_n C dX2_cut_192 rfl rfl ?_
                      refine gk_iconst 0 C dX2_cut_193 rfl ?_
                      refine gk_istore C dX2_cut_194 rfl rfl ?_
                      rw [hs] at K196
                      exact K196
            · refine gk_icmp_le 137 C dX2_cut_129 (by decide) (fun c129 => ?_) (fun c129 => ?_)
              · refine gk_iload C dX2_cut_137 rfl ?_
                refine gk_bipush (-99) C dX2_cut_139 rfl ?_
                refine gk_icmp_ge 149 C dX2_cut_141 (by decide) (fun c141 => ?_) (fun c141 => ?_)
                · refine gk_iload C dX2_cut_149 rfl ?_
                  exact gk_eqv (by first | exact (if_neg c129).symm | exact ((if_pos c129).trans (if_pos c141)).symm | exact ((if_pos c129).trans (if_neg c141)).symm) K151
                · refine gk_bipush (-99) C dX2_cut_144 rfl ?_
                  refine gk_goto 151 C dX2_cut_146 (by decide) ?_
                  exact gk_eqv (by first | exact (if_neg c129).symm | exact ((if_pos c129).trans (if_pos c141)).symm | exact ((if_pos c129).trans (if_neg c141)).symm) K151
              · refine gk_bipush 99 C dX2_cut_132 rfl ?_
                refine gk_goto 151 C dX2_cut_134 (by decide) ?_
                exact gk_eqv (by first | exact (if_neg c129).symm | exact ((if_pos c129).trans (if_pos c141)).symm | exact ((if_pos c129).trans (if_neg c141)).symm) K151
          · refine gk_if_ge 75 C dX2_cut_68 (by decide) (fun c68 => ?_) (fun c68 => ?_)
            · rw [nI_seen (by omega) (by omega)] at c68
              refine gk_aload_n C dX2_cut_75 rfl ?_
              refine mo_g21 C dX2_cut_76 ?_
              refine gk_iload C dX2_cut_79 rfl ?_
              refine mo_l21 C dX2_cut_81 (nI_sub1 c68) (by omega) ?_
              exact gk_eqv (by first | exact (if_pos c68).symm | exact (if_neg c68).symm) K82
            · rw [nI_seen (by omega) (by omega)] at c68
              refine gk_iconst 0 C dX2_cut_71 rfl ?_
              refine gk_goto 82 C dX2_cut_72 (by decide) ?_
              exact gk_eqv (by first | exact (if_pos c68).symm | exact (if_neg c68).symm) K82
  rw [mo_st_0]
  exact L28 0 (Nat.zero_le _) ⟨rfl, fun _ => rfl⟩
