set_option maxRecDepth 100000
set_option maxHeartbeats 1000000 in
theorem mo_change0 (l : Launch) (Γ : gk_E) (h : Nat) (ad : Nat → Nat) (σ : mo_S) (k : Nat) (hk : k < 8) (v : Int32) : mo_U l yX2_change (Cond.code yX2_change cX2_change 5 (some .int)) 0 [.int (nI k), .int 0, .int v] Γ h ad σ (.int (σ.2 4 k)) (mo_a σ 4 k v) := by
  refine gk_M.intro gk_N0_ok (by decide) [some (.ref h), some (.int (nI k)), some (.int 0), some (.int v), none] rfl rfl rfl ?_
  intro κ hl hg hN0 C E
  subst hl hg
  have C : gk_C κ cX2_change "SawLineModel" 0 0 0 := C
  refine gk_iload_n C dX2_change_0 rfl ?_
  refine gk_if_ne 13 C dX2_change_1 (by decide) (fun z => by first | exact absurd z (by decide) | exact absurd (by decide) z) (fun _ => ?_)
  refine gk_aload_n C dX2_change_4 rfl ?_
  refine mo_g4 C dX2_change_5 ?_
  refine gk_iload_n C dX2_change_8 rfl ?_
  refine mo_l4 C dX2_change_9 rfl (by omega) ?_
  refine gk_goto 33 C dX2_change_10 (by decide) ?_
  refine gk_istore C dX2_change_33 rfl rfl ?_
  refine gk_iload_n C dX2_change_35 rfl ?_
  refine gk_if_ne 49 C dX2_change_36 (by decide) (fun z => by first | exact absurd z (by decide) | exact absurd (by decide) z) (fun _ => ?_)
  refine gk_aload_n C dX2_change_39 rfl ?_
  refine mo_g4 C dX2_change_40 ?_
  refine gk_iload_n C dX2_change_43 rfl ?_
  refine gk_iload_n C dX2_change_44 rfl ?_
  refine mo_s4 C dX2_change_45 rfl (by omega) ?_
  refine gk_goto 71 C dX2_change_46 (by decide) ?_
  refine gk_iload C dX2_change_71 rfl ?_
  exact gk_iret C E dX2_change_73 rfl rfl ⟨rfl, rfl⟩
set_option maxHeartbeats 1000000 in
theorem mo_change1 (l : Launch) (Γ : gk_E) (h : Nat) (ad : Nat → Nat) (σ : mo_S) (k : Nat) (hk : k < 8) (v : Int32) : mo_U l yX2_change (Cond.code yX2_change cX2_change 5 (some .int)) 0 [.int (nI k), .int 1, .int v] Γ h ad σ (.int (σ.2 5 k)) (mo_a σ 5 k v) := by
  refine gk_M.intro gk_N0_ok (by decide) [some (.ref h), some (.int (nI k)), some (.int 1), some (.int v), none] rfl rfl rfl ?_
  intro κ hl hg hN0 C E
  subst hl hg
  have C : gk_C κ cX2_change "SawLineModel" 0 0 0 := C
  refine gk_iload_n C dX2_change_0 rfl ?_
  refine gk_if_ne 13 C dX2_change_1 (by decide) (fun _ => ?_) (fun z => by first | exact absurd z (by decide) | exact absurd (by decide) z)
  refine gk_iload_n C dX2_change_13 rfl ?_
  refine gk_iconst 1 C dX2_change_14 rfl ?_
  refine gk_icmp_ne 27 C dX2_change_15 (by decide) (fun z => by first | exact absurd z (by decide) | exact absurd (by decide) z) (fun _ => ?_)
  refine gk_aload_n C dX2_change_18 rfl ?_
  refine mo_g5 C dX2_change_19 ?_
  refine gk_iload_n C dX2_change_22 rfl ?_
  refine mo_l5 C dX2_change_23 rfl (by omega) ?_
  refine gk_goto 33 C dX2_change_24 (by decide) ?_
  refine gk_istore C dX2_change_33 rfl rfl ?_
  refine gk_iload_n C dX2_change_35 rfl ?_
  refine gk_if_ne 49 C dX2_change_36 (by decide) (fun _ => ?_) (fun z => by first | exact absurd z (by decide) | exact absurd (by decide) z)
  refine gk_iload_n C dX2_change_49 rfl ?_
  refine gk_iconst 1 C dX2_change_50 rfl ?_
  refine gk_icmp_ne 64 C dX2_change_51 (by decide) (fun z => by first | exact absurd z (by decide) | exact absurd (by decide) z) (fun _ => ?_)
  refine gk_aload_n C dX2_change_54 rfl ?_
  refine mo_g5 C dX2_change_55 ?_
  refine gk_iload_n C dX2_change_58 rfl ?_
  refine gk_iload_n C dX2_change_59 rfl ?_
  refine mo_s5 C dX2_change_60 rfl (by omega) ?_
  refine gk_goto 71 C dX2_change_61 (by decide) ?_
  refine gk_iload C dX2_change_71 rfl ?_
  exact gk_iret C E dX2_change_73 rfl rfl ⟨rfl, rfl⟩
set_option maxHeartbeats 1000000 in
theorem mo_change2 (l : Launch) (Γ : gk_E) (h : Nat) (ad : Nat → Nat) (σ : mo_S) (k : Nat) (hk : k < 8) (v : Int32) : mo_U l yX2_change (Cond.code yX2_change cX2_change 5 (some .int)) 0 [.int (nI k), .int 2, .int v] Γ h ad σ (.int (σ.2 6 k)) (mo_a σ 6 k v) := by
  refine gk_M.intro gk_N0_ok (by decide) [some (.ref h), some (.int (nI k)), some (.int 2), some (.int v), none] rfl rfl rfl ?_
  intro κ hl hg hN0 C E
  subst hl hg
  have C : gk_C κ cX2_change "SawLineModel" 0 0 0 := C
  refine gk_iload_n C dX2_change_0 rfl ?_
  refine gk_if_ne 13 C dX2_change_1 (by decide) (fun _ => ?_) (fun z => by first | exact absurd z (by decide) | exact absurd (by decide) z)
  refine gk_iload_n C dX2_change_13 rfl ?_
  refine gk_iconst 1 C dX2_change_14 rfl ?_
  refine gk_icmp_ne 27 C dX2_change_15 (by decide) (fun _ => ?_) (fun z => by first | exact absurd z (by decide) | exact absurd (by decide) z)
  refine gk_aload_n C dX2_change_27 rfl ?_
  refine mo_g6 C dX2_change_28 ?_
  refine gk_iload_n C dX2_change_31 rfl ?_
  refine mo_l6 C dX2_change_32 rfl (by omega) ?_
  refine gk_istore C dX2_change_33 rfl rfl ?_
  refine gk_iload_n C dX2_change_35 rfl ?_
  refine gk_if_ne 49 C dX2_change_36 (by decide) (fun _ => ?_) (fun z => by first | exact absurd z (by decide) | exact absurd (by decide) z)
  refine gk_iload_n C dX2_change_49 rfl ?_
  refine gk_iconst 1 C dX2_change_50 rfl ?_
  refine gk_icmp_ne 64 C dX2_change_51 (by decide) (fun _ => ?_) (fun z => by first | exact absurd z (by decide) | exact absurd (by decide) z)
  refine gk_aload_n C dX2_change_64 rfl ?_
  refine mo_g6 C dX2_change_65 ?_
  refine gk_iload_n C dX2_change_68 rfl ?_
  refine gk_iload_n C dX2_change_69 rfl ?_
  refine mo_s6 C dX2_change_70 rfl (by omega) ?_
  refine gk_iload C dX2_change_71 rfl ?_
  exact gk_iret C E dX2_change_73 rfl rfl ⟨rfl, rfl⟩
theorem mo_change (l : Launch) (Γ : gk_E) (h : Nat) (ad : Nat → Nat) (σ : mo_S) (k : Nat) (hk : k < 8) (w : Nat) (hw : w ≤ 2) (v : Int32) : mo_U l yX2_change (Cond.code yX2_change cX2_change 5 (some .int)) 0 [.int (nI k), .int (nI w), .int v] Γ h ad σ (.int (σ.2 (w + 4) k)) (mo_a σ (w + 4) k v) := by
  rcases (show w = 0 ∨ w = 1 ∨ w = 2 by omega) with rfl | rfl | rfl
  · exact mo_change0 l Γ h ad σ k hk v
  · exact mo_change1 l Γ h ad σ k hk v
  · exact mo_change2 l Γ h ad σ k hk v
set_option maxHeartbeats 1000000 in
theorem mo_set (l : Launch) (Γ : gk_E) (h : Nat) (ad : Nat → Nat) (σ : mo_S) (n : Nat) (hn : n ≤ 8) (e : σ.1 1 = nI n) (k w v : Int32) : mo_U l yX2_set (Cond.code yX2_set cX2_set 4 (some .int)) 2 [.int k, .int w, .int v] Γ h ad σ (.int (if ¬ (0 ≤ k.toInt ∧ k.toInt < n) then -1 else if (0 ≤ w.toInt ∧ w.toInt ≤ 2) ∧ (0 ≤ v.toInt ∧ v.toInt ≤ 9) then σ.2 (w.toInt.toNat + 4) k.toInt.toNat else -2)) (if (0 ≤ k.toInt ∧ k.toInt < n) ∧ (0 ≤ w.toInt ∧ w.toInt ≤ 2) ∧ (0 ≤ v.toInt ∧ v.toInt ≤ 9) then mo_a σ (w.toInt.toNat + 4) k.toInt.toNat v else σ) := by
  refine gk_M.intro gk_N0_ok (by decide) [some (.ref h), some (.int k), some (.int w), some (.int v)] rfl rfl rfl ?_
  intro κ hl hg hN0 C E
  subst hl hg
  have C : gk_C κ cX2_set "SawLineModel" 2 0 0 := C
  refine gk_aload_n C dX2_set_0 rfl ?_
  refine gk_iload_n C dX2_set_1 rfl ?_
  refine mo_cU1 C (mo_noTooth _ _ _ _ _ k n (by omega) e) cv_X2_151 rfl rfl rfl dX2_set_2 ?_
  refine gk_if_eq 10 C dX2_set_5 (by decide) (fun c5 => ?_) (fun c5 => ?_)
  · rw [zb_0, Decidable.not_not] at c5
    refine gk_iload_n C dX2_set_10 rfl ?_
    refine gk_i2l C dX2_set_11 ?_
    refine gk_lconst 0 C dX2_set_12 rfl ?_
    refine gk_ldc2 C q1235 dX2_set_13 ?_
    refine gk_cP3 C (mo_in3 _ w 0 2 0 2 rfl rfl) cs_X2_105 rfl (Nat.zero_le _) (Nat.zero_le _) rfl dX2_set_16 ?_
    refine gk_if_eq 44 C dX2_set_19 (by decide) (fun c19 => ?_) (fun c19 => ?_)
    · rw [zb_0] at c19
      refine gk_bipush (-2) C dX2_set_44 rfl ?_
      exact gk_iret C E dX2_set_46 rfl rfl ⟨by first | exact vi (if_pos c5).symm | exact vi ((if_neg (fun z => z c5)).trans (if_neg (fun z => c19 z.1))).symm | exact vi ((if_neg (fun z => z c5)).trans (if_neg (fun z => c31 z.2))).symm | (rw [if_neg (fun z => z c5), if_pos ⟨c19, c31⟩, nI_ti (by omega), nI_ti (by omega)]; rfl), by first | rw [if_neg (fun z => c5 z.1)] | rw [if_neg (fun z => c19 z.2.1)] | rw [if_neg (fun z => c31 z.2.2)] | (rw [if_pos ⟨c5, c19, c31⟩, nI_ti (by omega), nI_ti (by omega)]; rfl)⟩
    · rw [zb_n] at c19
      refine gk_iload_n C dX2_set_22 rfl ?_
      refine gk_i2l C dX2_set_23 ?_
      refine gk_lconst 0 C dX2_set_24 rfl ?_
      refine gk_ldc2 C q1254 dX2_set_25 ?_
      refine gk_cP3 C (mo_in3 _ v 0 9 0 9 rfl rfl) cs_X2_105 rfl (Nat.zero_le _) (Nat.zero_le _) rfl dX2_set_28 ?_
      refine gk_if_eq 44 C dX2_set_31 (by decide) (fun c31 => ?_) (fun c31 => ?_)
      · rw [zb_0] at c31
        refine gk_bipush (-2) C dX2_set_44 rfl ?_
        exact gk_iret C E dX2_set_46 rfl rfl ⟨by first | exact vi (if_pos c5).symm | exact vi ((if_neg (fun z => z c5)).trans (if_neg (fun z => c19 z.1))).symm | exact vi ((if_neg (fun z => z c5)).trans (if_neg (fun z => c31 z.2))).symm | (rw [if_neg (fun z => z c5), if_pos ⟨c19, c31⟩, nI_ti (by omega), nI_ti (by omega)]; rfl), by first | rw [if_neg (fun z => c5 z.1)] | rw [if_neg (fun z => c19 z.2.1)] | rw [if_neg (fun z => c31 z.2.2)] | (rw [if_pos ⟨c5, c19, c31⟩, nI_ti (by omega), nI_ti (by omega)]; rfl)⟩
      · rw [zb_n] at c31
        obtain ⟨j, hj, rfl⟩ : ∃ j : Nat, j < n ∧ k = nI j := by
          obtain ⟨j, h1, h2⟩ := nI_btw (x := k) (n := n - 1) (by omega) (by omega)
          exact ⟨j, by omega, h2⟩
        obtain ⟨w, hw, rfl⟩ := nI_btw (x := w) (n := 2) c19.1 c19.2
        refine gk_aload_n C dX2_set_34 rfl ?_
        refine gk_iload_n C dX2_set_35 rfl ?_
        refine gk_iload_n C dX2_set_36 rfl ?_
        refine gk_iload_n C dX2_set_37 rfl ?_
        refine mo_cU3 C (mo_change _ _ _ _ _ j (by omega) w hw v) cv_X2_157 rfl rfl rfl dX2_set_38 ?_
        refine gk_goto 46 C dX2_set_41 (by decide) ?_
        exact gk_iret C E dX2_set_46 rfl rfl ⟨by first | exact vi (if_pos c5).symm | exact vi ((if_neg (fun z => z c5)).trans (if_neg (fun z => c19 z.1))).symm | exact vi ((if_neg (fun z => z c5)).trans (if_neg (fun z => c31 z.2))).symm | (rw [if_neg (fun z => z c5), if_pos ⟨c19, c31⟩, nI_ti (by omega), nI_ti (by omega)]; rfl), by first | rw [if_neg (fun z => c5 z.1)] | rw [if_neg (fun z => c19 z.2.1)] | rw [if_neg (fun z => c31 z.2.2)] | (rw [if_pos ⟨c5, c19, c31⟩, nI_ti (by omega), nI_ti (by omega)]; rfl)⟩
  · rw [zb_n] at c5
    refine gk_iconst (-1) C dX2_set_8 rfl ?_
    exact gk_iret C E dX2_set_9 rfl rfl ⟨by first | exact vi (if_pos c5).symm | exact vi ((if_neg (fun z => z c5)).trans (if_neg (fun z => c19 z.1))).symm | exact vi ((if_neg (fun z => z c5)).trans (if_neg (fun z => c31 z.2))).symm | (rw [if_neg (fun z => z c5), if_pos ⟨c19, c31⟩, nI_ti (by omega), nI_ti (by omega)]; rfl), by first | rw [if_neg (fun z => c5 z.1)] | rw [if_neg (fun z => c19 z.2.1)] | rw [if_neg (fun z => c31 z.2.2)] | (rw [if_pos ⟨c5, c19, c31⟩, nI_ti (by omega), nI_ti (by omega)]; rfl)⟩
set_option maxHeartbeats 1000000 in
theorem mo_pushNow (l : Launch) (Γ : gk_E) (h : Nat) (ad : Nat → Nat) (σ : mo_S) (n : Nat) (hn : n ≤ 8) (e : σ.1 1 = nI n) : mo_U l yX2_pushNow (Cond.code yX2_pushNow cX2_pushNow 3 (some .int)) 2 [] Γ h ad σ (.int (sp_sum (sp_pu (mo_t σ)) n)) σ := by
  refine gk_M.intro gk_N0_ok (by decide) [some (.ref h), none, none] rfl rfl rfl ?_
  intro κ hl hg hN0 C E
  subst hl hg
  have C : gk_C κ cX2_pushNow "SawLineModel" 2 0 0 := C
  refine gk_iconst 0 C dX2_pushNow_0 rfl ?_
  refine gk_istore_n C dX2_pushNow_1 rfl rfl ?_
  refine gk_iconst 0 C dX2_pushNow_2 rfl ?_
  refine gk_istore_n C dX2_pushNow_3 rfl rfl ?_
  have L4 : ∀ k, k ≤ n → gk_G κ 0 0 (mo_W (gk_g κ) h ad σ) 4 [some (.ref h), some (.int (sp_sum (sp_pu (mo_t σ)) k)), some (.int (nI k))] [] := by
    refine up_ind (fun k hk ih => ?_)
    refine gk_iload_n C dX2_pushNow_4 rfl ?_
    refine gk_aload_n C dX2_pushNow_5 rfl ?_
    refine mo_g1 C dX2_pushNow_6 ?_
    rw [e]
    refine gk_icmp_ge 26 C dX2_pushNow_9 (by decide) (fun c9 => ?_) (fun c9 => ?_)
    · obtain rfl : k = n := by have := nI_leT c9 (by omega) (by omega); omega
      refine gk_iload_n C dX2_pushNow_26 rfl ?_
      exact gk_iret C E dX2_pushNow_27 rfl rfl ⟨rfl, rfl⟩
    · have c9 := nI_ngeT c9 (by omega)
      refine gk_iload_n C dX2_pushNow_12 rfl ?_
      refine gk_aload_n C dX2_pushNow_13 rfl ?_
      refine gk_iload_n C dX2_pushNow_14 rfl ?_
      refine mo_cU1 C (mo_pushOf _ _ _ _ _ k (by omega)) cv_X2_154 rfl rfl rfl dX2_pushNow_15 ?_
      refine gk_iadd C dX2_pushNow_18 ?_
      refine gk_istore_n C dX2_pushNow_19 rfl rfl ?_
      refine gk_iinc (nI (k + 1)) C dX2_pushNow_20 rfl (nI_succ k).symm rfl rfl ?_
      refine gk_goto 4 C dX2_pushNow_23 (by decide) ?_
      exact ih (by omega)
  exact L4 0 (Nat.zero_le _)
set_option maxHeartbeats 1000000 in
theorem mo_kerfNow (l : Launch) (Γ : gk_E) (h : Nat) (ad : Nat → Nat) (σ : mo_S) (n : Nat) (hn : n ≤ 8) (e : σ.1 1 = nI n) : mo_U l yX2_kerfNow (Cond.code yX2_kerfNow cX2_kerfNow 5 (some .int)) 1 [] Γ h ad σ (.int (sp_kf (mo_t σ) n)) σ := by
  refine gk_M.intro gk_N0_ok (by decide) [some (.ref h), none, none, none, none] rfl rfl rfl ?_
  intro κ hl hg hN0 C E
  subst hl hg
  have C : gk_C κ cX2_kerfNow "SawLineModel" 1 0 0 := C
  refine gk_iconst 0 C dX2_kerfNow_0 rfl ?_
  refine gk_istore_n C dX2_kerfNow_1 rfl rfl ?_
  refine gk_iconst 0 C dX2_kerfNow_2 rfl ?_
  refine gk_istore_n C dX2_kerfNow_3 rfl rfl ?_
  refine gk_iconst 0 C dX2_kerfNow_4 rfl ?_
  refine gk_istore_n C dX2_kerfNow_5 rfl rfl ?_
  have L6 : ∀ k, k ≤ n → gk_G κ 0 0 (mo_W (gk_g κ) h ad σ) 6 [some (.ref h), some (.int (sp_kl (mo_t σ) k)), some (.int (sp_kr (mo_t σ) k)), some (.int (nI k)), none] [] := by
    refine up_ind (fun k hk ih => ?_)
    refine gk_iload_n C dX2_kerfNow_6 rfl ?_
    refine gk_aload_n C dX2_kerfNow_7 rfl ?_
    refine mo_g1 C dX2_kerfNow_8 ?_
    rw [e]
    refine gk_icmp_ge 93 C dX2_kerfNow_11 (by decide) (fun c11 => ?_) (fun c11 => ?_)
    · obtain rfl : k = n := by have := nI_leT c11 (by omega) (by omega); omega
      refine gk_iconst 1 C dX2_kerfNow_93 rfl ?_
      refine gk_iload_n C dX2_kerfNow_94 rfl ?_
      refine gk_iadd C dX2_kerfNow_95 ?_
      refine gk_iload_n C dX2_kerfNow_96 rfl ?_
      refine gk_iadd C dX2_kerfNow_97 ?_
      exact gk_iret C E dX2_kerfNow_98 rfl rfl ⟨rfl, rfl⟩
    · have c11 := nI_ngeT c11 (by omega)
      refine gk_aload_n C dX2_kerfNow_14 rfl ?_
      refine gk_iload_n C dX2_kerfNow_15 rfl ?_
      refine mo_cU1 C (mo_takesOf _ _ _ _ _ k (by omega)) cv_X2_148 rfl rfl rfl dX2_kerfNow_16 ?_
      refine gk_jn1 (zb (0 < sp_tk (mo_t σ) k)) 27 ?_ (fun K27 => ?_)
      · refine gk_istore C dX2_kerfNow_27 rfl rfl ?_
        refine gk_iload C dX2_kerfNow_29 rfl ?_
        refine gk_jn1 (sp_kl (mo_t σ) (k + 1)) 57 ?_ (fun K57 => ?_)
        · refine gk_istore_n C dX2_kerfNow_57 rfl rfl ?_
          refine gk_iload C dX2_kerfNow_58 rfl ?_
          refine gk_jn1 (sp_kr (mo_t σ) (k + 1)) 86 ?_ (fun K86 => ?_)
          · refine gk_istore_n C dX2_kerfNow_86 rfl rfl ?_
            refine gk_iinc (nI (k + 1)) C dX2_kerfNow_87 rfl (nI_succ k).symm rfl rfl ?_
            refine gk_goto 6 C dX2_kerfNow_90 (by decide) ?_
            exact gk_fg 4 (ih (by omega))
          · refine gk_if_eq 85 C dX2_kerfNow_60 (by decide) (fun c60 => ?_) (fun c60 => ?_)
            · rw [zb_0] at c60
              refine gk_iload_n C dX2_kerfNow_85 rfl ?_
              exact gk_eqv (by first | exact (if_neg (fun z => c60 z.1)).symm | exact (if_neg (fun z => Int32.not_lt.mpr c69 z.2)).symm | exact (if_pos ⟨c60, Int32.not_le.mp c69⟩).symm) K86
            · rw [zb_n] at c60
              refine gk_aload_n C dX2_kerfNow_63 rfl ?_
              refine mo_g3 C dX2_kerfNow_64 ?_
              refine gk_iload_n C dX2_kerfNow_67 rfl ?_
              refine mo_l3 C dX2_kerfNow_68 rfl (by omega) ?_
              refine gk_if_le 85 C dX2_kerfNow_69 (by decide) (fun c69 => ?_) (fun c69 => ?_)
              · refine gk_iload_n C dX2_kerfNow_85 rfl ?_
                exact gk_eqv (by first | exact (if_neg (fun z => c60 z.1)).symm | exact (if_neg (fun z => Int32.not_lt.mpr c69 z.2)).symm | exact (if_pos ⟨c60, Int32.not_le.mp c69⟩).symm) K86
              · refine gk_iload_n C dX2_kerfNow_72 rfl ?_
                refine gk_aload_n C dX2_kerfNow_73 rfl ?_
                refine mo_g4 C dX2_kerfNow_74 ?_
                refine gk_iload_n C dX2_kerfNow_77 rfl ?_
                refine mo_l4 C dX2_kerfNow_78 rfl (by omega) ?_
                refine gk_cP2 C (mo_greater _ _ _) cs_X2_161 rfl (Nat.zero_le _) (Nat.zero_le _) rfl dX2_kerfNow_79 ?_
                refine gk_goto 86 C dX2_kerfNow_82 (by decide) ?_
                exact gk_eqv (by first | exact (if_neg (fun z => c60 z.1)).symm | exact (if_neg (fun z => Int32.not_lt.mpr c69 z.2)).symm | exact (if_pos ⟨c60, Int32.not_le.mp c69⟩).symm) K86
        · refine gk_if_eq 56 C dX2_kerfNow_31 (by decide) (fun c31 => ?_) (fun c31 => ?_)
          · rw [zb_0] at c31
            refine gk_iload_n C dX2_kerfNow_56 rfl ?_
            exact gk_eqv (by first | exact (if_neg (fun z => c31 z.1)).symm | exact (if_neg (fun z => Int32.not_lt.mpr c40 z.2)).symm | exact (if_pos ⟨c31, Int32.not_le.mp c40⟩).symm) K57
          · rw [zb_n] at c31
            refine gk_aload_n C dX2_kerfNow_34 rfl ?_
            refine mo_g3 C dX2_kerfNow_35 ?_
            refine gk_iload_n C dX2_kerfNow_38 rfl ?_
            refine mo_l3 C dX2_kerfNow_39 rfl (by omega) ?_
            refine gk_if_ge 56 C dX2_kerfNow_40 (by decide) (fun c40 => ?_) (fun c40 => ?_)
            · refine gk_iload_n C dX2_kerfNow_56 rfl ?_
              exact gk_eqv (by first | exact (if_neg (fun z => c31 z.1)).symm | exact (if_neg (fun z => Int32.not_lt.mpr c40 z.2)).symm | exact (if_pos ⟨c31, Int32.not_le.mp c40⟩).symm) K57
            · refine gk_iload_n C dX2_kerfNow_43 rfl ?_
              refine gk_aload_n C dX2_kerfNow_44 rfl ?_
              refine mo_g4 C dX2_kerfNow_45 ?_
              refine gk_iload_n C dX2_kerfNow_48 rfl ?_
              refine mo_l4 C dX2_kerfNow_49 rfl (by omega) ?_
              refine gk_cP2 C (mo_greater _ _ _) cs_X2_161 rfl (Nat.zero_le _) (Nat.zero_le _) rfl dX2_kerfNow_50 ?_
              refine gk_goto 57 C dX2_kerfNow_53 (by decide) ?_
              exact gk_eqv (by first | exact (if_neg (fun z => c31 z.1)).symm | exact (if_neg (fun z => Int32.not_lt.mpr c40 z.2)).symm | exact (if_pos ⟨c31, Int32.not_le.mp c40⟩).symm) K57
      · refine gk_if_le 26 C dX2_kerfNow_19 (by decide) (fun c19 => ?_) (fun c19 => ?_)
        · refine gk_iconst 0 C dX2_kerfNow_26 rfl ?_
          exact gk_eqv (by first | exact (zb_f (Int32.not_lt.mpr c19)).symm | exact (zb_t (Int32.not_le.mp c19)).symm) K27
        · refine gk_iconst 1 C dX2_kerfNow_22 rfl ?_
          refine gk_goto 27 C dX2_kerfNow_23 (by decide) ?_
          exact gk_eqv (by first | exact (zb_f (Int32.not_lt.mpr c19)).symm | exact (zb_t (Int32.not_le.mp c19)).symm) K27
  exact L6 0 (Nat.zero_le _)
