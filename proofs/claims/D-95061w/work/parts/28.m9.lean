set_option maxRecDepth 100000
set_option maxHeartbeats 1000000 in
theorem mo_doAct0 (l : Launch) (Γ : gk_E) (h : Nat) (ad : Nat → Nat) (σ : mo_S) (k : Nat) (hk : k < 8) : mo_V l yX2_doAct (Cond.code yX2_doAct cX2_doAct 3 none) 0 [.int (nI k), .int 0] Γ h ad σ (mo_ac σ k 0) := by
  refine gk_M.intro gk_N0_ok (by decide) [some (.ref h), some (.int (nI k)), some (.int 0)] rfl rfl rfl ?_
  intro κ hl hg hN0 C E
  subst hl hg
  have C : gk_C κ cX2_doAct "SawLineModel" 0 0 0 := C
  refine gk_iload_n C dX2_doAct_0 rfl ?_
  refine gk_if_ne 27 C dX2_doAct_1 (by decide) (fun z => by first | exact absurd z (by decide) | exact absurd (by decide) z) (fun _ => ?_)
  refine gk_aload_n C dX2_doAct_4 rfl ?_
  refine mo_g6 C dX2_doAct_5 ?_
  refine gk_iload_n C dX2_doAct_8 rfl ?_
  refine gk_dup2 C dX2_doAct_9 rfl rfl ?_
  refine mo_l6 C dX2_doAct_10 rfl hk ?_
  refine gk_iconst 2 C dX2_doAct_11 rfl ?_
  refine gk_iadd C dX2_doAct_12 ?_
  refine mo_s6 C dX2_doAct_13 rfl hk ?_
  refine gk_aload_n C dX2_doAct_14 rfl ?_
  refine mo_g5 C dX2_doAct_15 ?_
  refine gk_iload_n C dX2_doAct_18 rfl ?_
  refine gk_dup2 C dX2_doAct_19 rfl rfl ?_
  refine mo_l5 C dX2_doAct_20 rfl hk ?_
  refine gk_iconst 1 C dX2_doAct_21 rfl ?_
  refine gk_isub C dX2_doAct_22 ?_
  refine mo_s5 C dX2_doAct_23 rfl hk ?_
  refine gk_goto 70 C dX2_doAct_24 (by decide) ?_
  exact gk_vret C E dX2_doAct_70 rfl rfl ⟨rfl, rfl⟩
set_option maxHeartbeats 1000000 in
theorem mo_doAct1 (l : Launch) (Γ : gk_E) (h : Nat) (ad : Nat → Nat) (σ : mo_S) (k : Nat) (hk : k < 8) : mo_V l yX2_doAct (Cond.code yX2_doAct cX2_doAct 3 none) 0 [.int (nI k), .int 1] Γ h ad σ (mo_ac σ k 1) := by
  refine gk_M.intro gk_N0_ok (by decide) [some (.ref h), some (.int (nI k)), some (.int 1)] rfl rfl rfl ?_
  intro κ hl hg hN0 C E
  subst hl hg
  have C : gk_C κ cX2_doAct "SawLineModel" 0 0 0 := C
  refine gk_iload_n C dX2_doAct_0 rfl ?_
  refine gk_if_ne 27 C dX2_doAct_1 (by decide) (fun _ => ?_) (fun z => by first | exact absurd z (by decide) | exact absurd (by decide) z)
  refine gk_iload_n C dX2_doAct_27 rfl ?_
  refine gk_iconst 1 C dX2_doAct_28 rfl ?_
  refine gk_icmp_ne 45 C dX2_doAct_29 (by decide) (fun z => by first | exact absurd z (by decide) | exact absurd (by decide) z) (fun _ => ?_)
  refine gk_aload_n C dX2_doAct_32 rfl ?_
  refine mo_g4 C dX2_doAct_33 ?_
  refine gk_iload_n C dX2_doAct_36 rfl ?_
  refine gk_dup2 C dX2_doAct_37 rfl rfl ?_
  refine mo_l4 C dX2_doAct_38 rfl hk ?_
  refine gk_iconst 1 C dX2_doAct_39 rfl ?_
  refine gk_isub C dX2_doAct_40 ?_
  refine mo_s4 C dX2_doAct_41 rfl hk ?_
  refine gk_goto 70 C dX2_doAct_42 (by decide) ?_
  exact gk_vret C E dX2_doAct_70 rfl rfl ⟨rfl, rfl⟩
set_option maxHeartbeats 1000000 in
theorem mo_doAct2 (l : Launch) (Γ : gk_E) (h : Nat) (ad : Nat → Nat) (σ : mo_S) (k : Nat) (hk : k < 8) : mo_V l yX2_doAct (Cond.code yX2_doAct cX2_doAct 3 none) 0 [.int (nI k), .int 2] Γ h ad σ (mo_ac σ k 2) := by
  refine gk_M.intro gk_N0_ok (by decide) [some (.ref h), some (.int (nI k)), some (.int 2)] rfl rfl rfl ?_
  intro κ hl hg hN0 C E
  subst hl hg
  have C : gk_C κ cX2_doAct "SawLineModel" 0 0 0 := C
  refine gk_iload_n C dX2_doAct_0 rfl ?_
  refine gk_if_ne 27 C dX2_doAct_1 (by decide) (fun _ => ?_) (fun z => by first | exact absurd z (by decide) | exact absurd (by decide) z)
  refine gk_iload_n C dX2_doAct_27 rfl ?_
  refine gk_iconst 1 C dX2_doAct_28 rfl ?_
  refine gk_icmp_ne 45 C dX2_doAct_29 (by decide) (fun _ => ?_) (fun z => by first | exact absurd z (by decide) | exact absurd (by decide) z)
  refine gk_iload_n C dX2_doAct_45 rfl ?_
  refine gk_iconst 2 C dX2_doAct_46 rfl ?_
  refine gk_icmp_ne 63 C dX2_doAct_47 (by decide) (fun z => by first | exact absurd z (by decide) | exact absurd (by decide) z) (fun _ => ?_)
  refine gk_aload_n C dX2_doAct_50 rfl ?_
  refine mo_g4 C dX2_doAct_51 ?_
  refine gk_iload_n C dX2_doAct_54 rfl ?_
  refine gk_dup2 C dX2_doAct_55 rfl rfl ?_
  refine mo_l4 C dX2_doAct_56 rfl hk ?_
  refine gk_iconst 1 C dX2_doAct_57 rfl ?_
  refine gk_iadd C dX2_doAct_58 ?_
  refine mo_s4 C dX2_doAct_59 rfl hk ?_
  refine gk_goto 70 C dX2_doAct_60 (by decide) ?_
  exact gk_vret C E dX2_doAct_70 rfl rfl ⟨rfl, rfl⟩
set_option maxHeartbeats 1000000 in
theorem mo_doAct3 (l : Launch) (Γ : gk_E) (h : Nat) (ad : Nat → Nat) (σ : mo_S) (k : Nat) (hk : k < 8) : mo_V l yX2_doAct (Cond.code yX2_doAct cX2_doAct 3 none) 0 [.int (nI k), .int 3] Γ h ad σ (mo_ac σ k 3) := by
  refine gk_M.intro gk_N0_ok (by decide) [some (.ref h), some (.int (nI k)), some (.int 3)] rfl rfl rfl ?_
  intro κ hl hg hN0 C E
  subst hl hg
  have C : gk_C κ cX2_doAct "SawLineModel" 0 0 0 := C
  refine gk_iload_n C dX2_doAct_0 rfl ?_
  refine gk_if_ne 27 C dX2_doAct_1 (by decide) (fun _ => ?_) (fun z => by first | exact absurd z (by decide) | exact absurd (by decide) z)
  refine gk_iload_n C dX2_doAct_27 rfl ?_
  refine gk_iconst 1 C dX2_doAct_28 rfl ?_
  refine gk_icmp_ne 45 C dX2_doAct_29 (by decide) (fun _ => ?_) (fun z => by first | exact absurd z (by decide) | exact absurd (by decide) z)
  refine gk_iload_n C dX2_doAct_45 rfl ?_
  refine gk_iconst 2 C dX2_doAct_46 rfl ?_
  refine gk_icmp_ne 63 C dX2_doAct_47 (by decide) (fun _ => ?_) (fun z => by first | exact absurd z (by decide) | exact absurd (by decide) z)
  refine gk_aload_n C dX2_doAct_63 rfl ?_
  refine mo_g5 C dX2_doAct_64 ?_
  refine gk_iload_n C dX2_doAct_67 rfl ?_
  refine gk_iconst 0 C dX2_doAct_68 rfl ?_
  refine mo_s5 C dX2_doAct_69 rfl hk ?_
  exact gk_vret C E dX2_doAct_70 rfl rfl ⟨rfl, rfl⟩
theorem mo_doAct (l : Launch) (Γ : gk_E) (h : Nat) (ad : Nat → Nat) (σ : mo_S) (k : Nat) (hk : k < 8) (a : Nat) (ha : a ≤ 3) : mo_V l yX2_doAct (Cond.code yX2_doAct cX2_doAct 3 none) 0 [.int (nI k), .int (nI a)] Γ h ad σ (mo_ac σ k a) := by
  rcases (show a = 0 ∨ a = 1 ∨ a = 2 ∨ a = 3 by omega) with rfl | rfl | rfl | rfl
  · exact mo_doAct0 l Γ h ad σ k hk
  · exact mo_doAct1 l Γ h ad σ k hk
  · exact mo_doAct2 l Γ h ad σ k hk
  · exact mo_doAct3 l Γ h ad σ k hk
set_option maxHeartbeats 1000000 in
theorem mo_keep (l : Launch) (Γ : gk_E) (h : Nat) (ad : Nat → Nat) (σ : mo_S) (k : Nat) (hk : k < 8) (a : Nat) (ha : a ≤ 3) : mo_V l yX2_keep (Cond.code yX2_keep cX2_keep 3 none) 0 [.int (nI k), .int (nI a)] Γ h ad σ (mo_a (mo_a (mo_a σ 38 a (σ.2 4 k)) 38 (a + 1) (σ.2 5 k)) 38 (a + 2) (σ.2 6 k)) := by
  refine gk_M.intro gk_N0_ok (by decide) [some (.ref h), some (.int (nI k)), some (.int (nI a))] rfl rfl rfl ?_
  intro κ hl hg hN0 C E
  subst hl hg
  have C : gk_C κ cX2_keep "SawLineModel" 0 0 0 := C
  refine gk_aload_n C dX2_keep_0 rfl ?_
  refine mo_g38 C dX2_keep_1 ?_
  refine gk_iload_n C dX2_keep_4 rfl ?_
  refine gk_aload_n C dX2_keep_5 rfl ?_
  refine mo_g4 C dX2_keep_6 ?_
  refine gk_iload_n C dX2_keep_9 rfl ?_
  refine mo_l4 C dX2_keep_10 rfl (by omega) ?_
  refine mo_s38 C dX2_keep_11 rfl (by omega) ?_
  refine gk_aload_n C dX2_keep_12 rfl ?_
  refine mo_g38 C dX2_keep_13 ?_
  refine gk_iload_n C dX2_keep_16 rfl ?_
  refine gk_iconst 1 C dX2_keep_17 rfl ?_
  refine gk_iadd C dX2_keep_18 ?_
  refine gk_aload_n C dX2_keep_19 rfl ?_
  refine mo_g5 C dX2_keep_20 ?_
  refine gk_iload_n C dX2_keep_23 rfl ?_
  refine mo_l5 C dX2_keep_24 rfl (by omega) ?_
  refine mo_s38 C dX2_keep_25 (nI_1 a) (by omega) ?_
  refine gk_aload_n C dX2_keep_26 rfl ?_
  refine mo_g38 C dX2_keep_27 ?_
  refine gk_iload_n C dX2_keep_30 rfl ?_
  refine gk_iconst 2 C dX2_keep_31 rfl ?_
  refine gk_iadd C dX2_keep_32 ?_
  refine gk_aload_n C dX2_keep_33 rfl ?_
  refine mo_g6 C dX2_keep_34 ?_
  refine gk_iload_n C dX2_keep_37 rfl ?_
  refine mo_l6 C dX2_keep_38 rfl (by omega) ?_
  refine mo_s38 C dX2_keep_39 (nI_add a 2) (by omega) ?_
  exact gk_vret C E dX2_keep_40 rfl rfl ⟨rfl, rfl⟩
set_option maxHeartbeats 1000000 in
theorem mo_putBack (l : Launch) (Γ : gk_E) (h : Nat) (ad : Nat → Nat) (σ : mo_S) (k : Nat) (hk : k < 8) (a : Nat) (ha : a ≤ 3) : mo_V l yX2_putBack (Cond.code yX2_putBack cX2_putBack 3 none) 0 [.int (nI k), .int (nI a)] Γ h ad σ (mo_a (mo_a (mo_a σ 4 k (σ.2 38 a)) 5 k (σ.2 38 (a + 1))) 6 k (σ.2 38 (a + 2))) := by
  refine gk_M.intro gk_N0_ok (by decide) [some (.ref h), some (.int (nI k)), some (.int (nI a))] rfl rfl rfl ?_
  intro κ hl hg hN0 C E
  subst hl hg
  have C : gk_C κ cX2_putBack "SawLineModel" 0 0 0 := C
  refine gk_aload_n C dX2_putBack_0 rfl ?_
  refine mo_g4 C dX2_putBack_1 ?_
  refine gk_iload_n C dX2_putBack_4 rfl ?_
  refine gk_aload_n C dX2_putBack_5 rfl ?_
  refine mo_g38 C dX2_putBack_6 ?_
  refine gk_iload_n C dX2_putBack_9 rfl ?_
  refine mo_l38 C dX2_putBack_10 rfl (by omega) ?_
  refine mo_s4 C dX2_putBack_11 rfl (by omega) ?_
  refine gk_aload_n C dX2_putBack_12 rfl ?_
  refine mo_g5 C dX2_putBack_13 ?_
  refine gk_iload_n C dX2_putBack_16 rfl ?_
  refine gk_aload_n C dX2_putBack_17 rfl ?_
  refine mo_g38 C dX2_putBack_18 ?_
  refine gk_iload_n C dX2_putBack_21 rfl ?_
  refine gk_iconst 1 C dX2_putBack_22 rfl ?_
  refine gk_iadd C dX2_putBack_23 ?_
  refine mo_l38 C dX2_putBack_24 (nI_1 a) (by omega) ?_
  refine mo_s5 C dX2_putBack_25 rfl (by omega) ?_
  refine gk_aload_n C dX2_putBack_26 rfl ?_
  refine mo_g6 C dX2_putBack_27 ?_
  refine gk_iload_n C dX2_putBack_30 rfl ?_
  refine gk_aload_n C dX2_putBack_31 rfl ?_
  refine mo_g38 C dX2_putBack_32 ?_
  refine gk_iload_n C dX2_putBack_35 rfl ?_
  refine gk_iconst 2 C dX2_putBack_36 rfl ?_
  refine gk_iadd C dX2_putBack_37 ?_
  refine mo_l38 C dX2_putBack_38 (nI_add a 2) (by omega) ?_
  refine mo_s6 C dX2_putBack_39 rfl (by omega) ?_
  exact gk_vret C E dX2_putBack_40 rfl rfl ⟨rfl, rfl⟩
set_option maxHeartbeats 1000000 in
theorem mo_act (l : Launch) (Γ : gk_E) (h : Nat) (ad : Nat → Nat) (σ : mo_S) (n : Nat) (hn : n ≤ 8) (e : σ.1 1 = nI n) (k a : Int32) : mo_U l yX2_act (Cond.code yX2_act cX2_act 3 (some .int)) 2 [.int k, .int a] Γ h ad σ (.int (if ¬ (0 ≤ k.toInt ∧ k.toInt < n) then -1 else if ¬ (0 ≤ a.toInt ∧ a.toInt ≤ 3) then -2 else if ac_ok (mo_t σ) k.toInt.toNat a.toInt.toNat = true then 1 else 0)) (if (0 ≤ k.toInt ∧ k.toInt < n) ∧ (0 ≤ a.toInt ∧ a.toInt ≤ 3) ∧ ac_ok (mo_t σ) k.toInt.toNat a.toInt.toNat = true then mo_ac σ k.toInt.toNat a.toInt.toNat else σ) := by
  refine gk_M.intro gk_N0_ok (by decide) [some (.ref h), some (.int k), some (.int a)] rfl rfl rfl ?_
  intro κ hl hg hN0 C E
  subst hl hg
  have C : gk_C κ cX2_act "SawLineModel" 2 0 0 := C
  refine gk_aload_n C dX2_act_0 rfl ?_
  refine gk_iload_n C dX2_act_1 rfl ?_
  refine mo_cU1 C (mo_noTooth _ _ _ _ _ k n (by omega) e) cv_X2_151 rfl rfl rfl dX2_act_2 ?_
  refine gk_if_eq 10 C dX2_act_5 (by decide) (fun c5 => ?_) (fun c5 => ?_)
  · rw [zb_0, Decidable.not_not] at c5
    obtain ⟨k, hk, rfl⟩ := nI_lt_ex c5
    refine gk_iload_n C dX2_act_10 rfl ?_
    refine gk_i2l C dX2_act_11 ?_
    refine gk_lconst 0 C dX2_act_12 rfl ?_
    refine gk_ldc2 C q1227 dX2_act_13 ?_
    refine gk_cP3 C (mo_in3 _ a 0 3 0 3 rfl rfl) cs_X2_105 rfl (Nat.zero_le _) (Nat.zero_le _) rfl dX2_act_16 ?_
    refine gk_if_ne 25 C dX2_act_19 (by decide) (fun c19 => ?_) (fun c19 => ?_)
    · rw [zb_n] at c19
      obtain ⟨a, ha, rfl⟩ := nI_btw (x := a) (n := 3) c19.1 c19.2
      refine gk_aload_n C dX2_act_25 rfl ?_
      refine gk_iload_n C dX2_act_26 rfl ?_
      refine gk_iload_n C dX2_act_27 rfl ?_
      refine mo_cU2 C (mo_mayBe _ _ _ _ _ k (by omega) a ha) cv_X2_243 rfl rfl rfl dX2_act_28 ?_
      refine gk_if_ne 36 C dX2_act_31 (by decide) (fun c31 => ?_) (fun c31 => ?_)
      · rw [zb_n] at c31
        refine gk_aload_n C dX2_act_36 rfl ?_
        refine gk_iload_n C dX2_act_37 rfl ?_
        refine gk_iload_n C dX2_act_38 rfl ?_
        refine mo_cV2 C (mo_doAct _ _ _ _ _ k (by omega) a ha) cv_X2_246 rfl rfl rfl dX2_act_39 ?_
        refine gk_iconst 1 C dX2_act_42 rfl ?_
        exact gk_iret C E dX2_act_43 rfl rfl ⟨vi (by rw [if_neg (show ¬ ¬ _ from fun z => z c5), if_neg (show ¬ ¬ _ from fun z => z c19), toNat_nI (by omega), toNat_nI (by omega), if_pos c31]), by rw [if_pos ⟨c5, c19, by rw [toNat_nI (by omega), toNat_nI (by omega)]; exact c31⟩, toNat_nI (by omega), toNat_nI (by omega)]⟩
      · rw [zb_0] at c31
        refine gk_iconst 0 C dX2_act_34 rfl ?_
        exact gk_iret C E dX2_act_35 rfl rfl ⟨vi (by rw [if_neg (show ¬ ¬ _ from fun z => z c5), if_neg (show ¬ ¬ _ from fun z => z c19), toNat_nI (by omega), toNat_nI (by omega), if_neg c31]), by rw [if_neg (fun z => c31 (by have := z.2.2; rwa [toNat_nI (by omega), toNat_nI (by omega)] at this))]⟩
    · rw [zb_0] at c19
      refine gk_bipush (-2) C dX2_act_22 rfl ?_
      exact gk_iret C E dX2_act_24 rfl rfl ⟨vi ((if_neg (show ¬ ¬ _ from fun z => z c5)).trans (if_pos c19)).symm, by rw [if_neg (fun z => c19 z.2.1)]⟩
  · rw [zb_n] at c5
    refine gk_iconst (-1) C dX2_act_8 rfl ?_
    exact gk_iret C E dX2_act_9 rfl rfl ⟨vi (if_pos c5).symm, by rw [if_neg (fun z => c5 z.1)]⟩
def mo_bs (σ : mo_S) (s : lo_R) : mo_S := mo_i (mo_i (mo_i (mo_i σ 34 s.1) 35 s.2.1) 36 s.2.2.1) 37 s.2.2.2
abbrev mo_bst (σ : mo_S) : lo_R := (σ.1 34, σ.1 35, σ.1 36, σ.1 37)
theorem mo_bs_id (σ : mo_S) : mo_bs σ (mo_bst σ) = σ := by unfold mo_bs; rw [mo_i_id, mo_i_id, mo_i_id, mo_i_id]
set_option maxHeartbeats 4000000 in
theorem mo_look (l : Launch) (Γ : gk_E) (h : Nat) (ad : Nat → Nat) (σ : mo_S) (n : Nat) (hn : n ≤ 8) (e : σ.1 1 = nI n) (L : Nat) (hL : L ≤ 24) (eL : σ.1 12 = nI L) (lt : Nat) (hlt : lt ≤ 5) (eT : σ.1 18 = nI lt) (hH : ∀ t, t < L → ¬ 10 * σ.2 13 t = 0) (mm co mn a b : Int32) : mo_Y l yX2_look (Cond.code yX2_look cX2_look 7 none) 4 [.int mm, .int co, .int mn, .int a, .int b] Γ h ad σ (fun σ1 => mo_j (mo_bs σ (lo_k (cf_ok (mo_c σ n L lt) (mo_t σ) mm) co mn a b (mo_bst σ))) σ1) := by
  refine gk_M.intro gk_N0_ok (by decide) [some (.ref h), some (.int mm), some (.int co), some (.int mn), some (.int a), some (.int b), none] rfl rfl rfl ?_
  intro κ hl hg hN0 C E
  subst hl hg
  have C : gk_C κ cX2_look "SawLineModel" 4 0 0 := C
  refine gk_aload_n C dX2_look_0 rfl ?_
  refine mo_cV0 C (mo_cut _ _ _ _ _ n hn e L hL eL lt hlt eT hH) cv_X2_210 rfl rfl rfl dX2_look_1 ?_
  have hsn := mo_sn_le σ n L
  refine gk_aload_n C dX2_look_4 rfl ?_
  refine mo_g34 C dX2_look_5 ?_
  refine gk_eqv (y := σ.1 34) rfl ?_
  refine gk_jn1 (zb (σ.1 34 < 0 ∨ co < σ.1 34 ∨ (co = σ.1 34 ∧ mn < σ.1 35))) 40 ?_ (fun K40 => ?_)
  · refine gk_istore C dX2_look_40 rfl rfl ?_
    refine gk_aload_n C dX2_look_42 rfl ?_
    refine mo_g20 C dX2_look_43 ?_
    refine gk_eqv (y := nI (mo_sn σ n L)) rfl ?_
    refine gk_aload_n C dX2_look_46 rfl ?_
    refine mo_g12 C dX2_look_47 ?_
    refine gk_eqv eL ?_
    refine gk_icmp_ne 88 C dX2_look_50 (by decide) (fun c50 => ?_) (fun c50 => ?_)
    · have c50 : ¬ cf_n (mo_c σ n L lt) (mo_t σ) = L := fun z => c50 (congrArg nI z)
      have hR : mo_j (mo_bs σ (lo_k (cf_ok (mo_c σ n L lt) (mo_t σ) mm) co mn a b (mo_bst σ))) (mo_cutS σ n L lt) := by rw [show lo_k (cf_ok (mo_c σ n L lt) (mo_t σ) mm) co mn a b (mo_bst σ) = mo_bst σ from if_neg (fun z => by have := z.1; unfold cf_ok at this; rw [Bool.and_eq_true] at this; exact c50 (of_decide_eq_true this.1)), mo_bs_id]; exact mo_j.cut σ n L lt
      exact gk_vret C E dX2_look_88 rfl rfl ⟨_, rfl, rfl, by first | exact hR | exact hR _ _ _ _⟩
    · have c50 : cf_n (mo_c σ n L lt) (mo_t σ) = L := (nI_eq (a := mo_sn σ n L) (by omega) (by omega)).mp c50
      refine gk_aload_n C dX2_look_53 rfl ?_
      refine mo_g23 C dX2_look_54 ?_
      rw [mo_cutO]
      refine gk_eqv (y := cf_o (mo_c σ n L lt) (mo_t σ)) rfl ?_
      refine gk_iload_n C dX2_look_57 rfl ?_
      refine gk_icmp_gt 88 C dX2_look_58 (by decide) (fun c58 => ?_) (fun c58 => ?_)
      · have hR : mo_j (mo_bs σ (lo_k (cf_ok (mo_c σ n L lt) (mo_t σ) mm) co mn a b (mo_bst σ))) (mo_cutS σ n L lt) := by rw [show lo_k (cf_ok (mo_c σ n L lt) (mo_t σ) mm) co mn a b (mo_bst σ) = mo_bst σ from if_neg (fun z => by have := z.1; unfold cf_ok at this; rw [Bool.and_eq_true] at this; exact Int32.not_le.mpr c58 (of_decide_eq_true this.2)), mo_bs_id]; exact mo_j.cut σ n L lt
        exact gk_vret C E dX2_look_88 rfl rfl ⟨_, rfl, rfl, by first | exact hR | exact hR _ _ _ _⟩
      · refine gk_iload C dX2_look_61 rfl ?_
        refine gk_if_eq 88 C dX2_look_63 (by decide) (fun c63 => ?_) (fun c63 => ?_)
        · rw [zb_0] at c63
          have hR : mo_j (mo_bs σ (lo_k (cf_ok (mo_c σ n L lt) (mo_t σ) mm) co mn a b (mo_bst σ))) (mo_cutS σ n L lt) := by rw [show lo_k (cf_ok (mo_c σ n L lt) (mo_t σ) mm) co mn a b (mo_bst σ) = mo_bst σ from if_neg (fun z => c63 z.2), mo_bs_id]; exact mo_j.cut σ n L lt
          exact gk_vret C E dX2_look_88 rfl rfl ⟨_, rfl, rfl, by first | exact hR | exact hR _ _ _ _⟩
        · rw [zb_n] at c63
          refine gk_aload_n C dX2_look_66 rfl ?_
          refine gk_iload_n C dX2_look_67 rfl ?_
          refine mo_p34 C dX2_look_68 ?_
          refine gk_aload_n C dX2_look_71 rfl ?_
          refine gk_iload_n C dX2_look_72 rfl ?_
          refine mo_p35 C dX2_look_73 ?_
          refine gk_aload_n C dX2_look_76 rfl ?_
          refine gk_iload C dX2_look_77 rfl ?_
          refine mo_p36 C dX2_look_79 ?_
          refine gk_aload_n C dX2_look_82 rfl ?_
          refine gk_iload C dX2_look_83 rfl ?_
          refine mo_p37 C dX2_look_85 ?_
          unfold mo_cutS
          rw [mo_st_i _ _ _ _ _ _ _ (by decide) (by decide), mo_st_i _ _ _ _ _ _ _ (by decide) (by decide), mo_st_i _ _ _ _ _ _ _ (by decide) (by decide), mo_st_i _ _ _ _ _ _ _ (by decide) (by decide)]
          have hk : lo_k (cf_ok (mo_c σ n L lt) (mo_t σ) mm) co mn a b (mo_bst σ) = (co, mn, a, b) := if_pos ⟨by unfold cf_ok; rw [Bool.and_eq_true]; exact ⟨decide_eq_true c50, decide_eq_true (Int32.not_lt.mp c58)⟩, c63⟩
          have hR := fun o P H f => show mo_j (mo_bs σ (lo_k (cf_ok (mo_c σ n L lt) (mo_t σ) mm) co mn a b (mo_bst σ))) (mo_st (mo_i (mo_i (mo_i (mo_i σ 34 co) 35 mn) 36 a) 37 b) o P H f) from by rw [hk]; exact ⟨_, _, _, _, rfl⟩
          exact gk_vret C E dX2_look_88 rfl rfl ⟨_, rfl, rfl, by first | exact hR | exact hR _ _ _ _⟩
  · refine gk_if_lt 35 C dX2_look_8 (by decide) (fun c8 => ?_) (fun c8 => ?_)
    · have h1 : (σ.1 34 < 0 ∨ co < σ.1 34 ∨ (co = σ.1 34 ∧ mn < σ.1 35)) := Or.inl c8
      refine gk_iconst 1 C dX2_look_35 rfl ?_
      refine gk_goto 40 C dX2_look_36 (by decide) ?_
      exact gk_eqv (by first | exact (zb_t h1).symm | exact (zb_f h1).symm) K40
    · refine gk_iload_n C dX2_look_11 rfl ?_
      refine gk_aload_n C dX2_look_12 rfl ?_
      refine mo_g34 C dX2_look_13 ?_
      refine gk_eqv (y := σ.1 34) rfl ?_
      refine gk_icmp_lt 35 C dX2_look_16 (by decide) (fun c16 => ?_) (fun c16 => ?_)
      · have h1 : (σ.1 34 < 0 ∨ co < σ.1 34 ∨ (co = σ.1 34 ∧ mn < σ.1 35)) := Or.inr (Or.inl c16)
        refine gk_iconst 1 C dX2_look_35 rfl ?_
        refine gk_goto 40 C dX2_look_36 (by decide) ?_
        exact gk_eqv (by first | exact (zb_t h1).symm | exact (zb_f h1).symm) K40
      · refine gk_iload_n C dX2_look_19 rfl ?_
        refine gk_aload_n C dX2_look_20 rfl ?_
        refine mo_g34 C dX2_look_21 ?_
        refine gk_eqv (y := σ.1 34) rfl ?_
        refine gk_icmp_ne 39 C dX2_look_24 (by decide) (fun c24 => ?_) (fun c24 => ?_)
        · have h1 : ¬ (σ.1 34 < 0 ∨ co < σ.1 34 ∨ (co = σ.1 34 ∧ mn < σ.1 35)) := fun z => z.elim c8 (fun z => z.elim c16 (fun z => c24 z.1))
          refine gk_iconst 0 C dX2_look_39 rfl ?_
          exact gk_eqv (by first | exact (zb_t h1).symm | exact (zb_f h1).symm) K40
        · refine gk_iload_n C dX2_look_27 rfl ?_
          refine gk_aload_n C dX2_look_28 rfl ?_
          refine mo_g35 C dX2_look_29 ?_
          refine gk_eqv (y := σ.1 35) rfl ?_
          refine gk_icmp_ge 39 C dX2_look_32 (by decide) (fun c32 => ?_) (fun c32 => ?_)
          · have h1 : ¬ (σ.1 34 < 0 ∨ co < σ.1 34 ∨ (co = σ.1 34 ∧ mn < σ.1 35)) := fun z => z.elim c8 (fun z => z.elim c16 (fun z => Int32.not_lt.mpr c32 z.2))
            refine gk_iconst 0 C dX2_look_39 rfl ?_
            exact gk_eqv (by first | exact (zb_t h1).symm | exact (zb_f h1).symm) K40
          · have h1 : (σ.1 34 < 0 ∨ co < σ.1 34 ∨ (co = σ.1 34 ∧ mn < σ.1 35)) := Or.inr (Or.inr ⟨c24, Int32.not_le.mp c32⟩)
            refine gk_iconst 1 C dX2_look_35 rfl ?_
            refine gk_goto 40 C dX2_look_36 (by decide) ?_
            exact gk_eqv (by first | exact (zb_t h1).symm | exact (zb_f h1).symm) K40
