set_option maxRecDepth 100000
set_option maxHeartbeats 1000000 in
theorem mo_noCell (l : Launch) (Γ : gk_E) (h : Nat) (ad : Nat → Nat) (σ : mo_S) (hS : ∀ j, j < 4 → σ.2 41 j < 0 ∨ ∃ s, s ≤ 80 ∧ σ.2 41 j = nI s) (k : Nat) (hk : k < 4) (i : Int32) : mo_U l yX2_noCell (Cond.code yX2_noCell cX2_noCell 3 (some .int)) 1 [.int (nI k), .int i] Γ h ad σ (.int (if σ.2 41 k < 0 then 1 else if 0 ≤ i.toInt ∧ i.toInt < (σ.2 41 k).toInt then 0 else 3)) σ := by
  refine gk_M.intro gk_N0_ok (by decide) [some (.ref h), some (.int (nI k)), some (.int i)] rfl rfl rfl ?_
  intro κ hl hg hN0 C E
  subst hl hg
  have C : gk_C κ cX2_noCell "SawLineModel" 1 0 0 := C
  refine gk_aload_n C dX2_noCell_0 rfl ?_
  refine mo_g41 C dX2_noCell_1 ?_
  refine gk_iload_n C dX2_noCell_4 rfl ?_
  refine mo_l41 C dX2_noCell_5 rfl (by omega) ?_
  refine gk_if_ge 13 C dX2_noCell_6 (by decide) (fun c6 => ?_) (fun c6 => ?_)
  · have c6 := Int32.not_lt.mpr c6
    obtain ⟨s, hs, es⟩ := (hS k hk).resolve_left c6
    refine gk_iload_n C dX2_noCell_13 rfl ?_
    refine gk_i2l C dX2_noCell_14 ?_
    refine gk_lconst 0 C dX2_noCell_15 rfl ?_
    refine gk_aload_n C dX2_noCell_16 rfl ?_
    refine mo_g41 C dX2_noCell_17 ?_
    refine gk_iload_n C dX2_noCell_20 rfl ?_
    refine mo_l41 C dX2_noCell_21 rfl (by omega) ?_
    rw [es]
    refine gk_i2l C dX2_noCell_22 ?_
    refine gk_lconst 1 C dX2_noCell_23 rfl ?_
    refine gk_lsub C dX2_noCell_24 ?_
    refine gk_cP3 C (mo_inN _ i s (by omega)) cs_X2_105 rfl (Nat.zero_le _) (Nat.zero_le _) rfl dX2_noCell_25 ?_
    refine gk_if_eq 35 C dX2_noCell_28 (by decide) (fun c28 => ?_) (fun c28 => ?_)
    · rw [zb_0] at c28
      refine gk_iconst 3 C dX2_noCell_35 rfl ?_
      exact gk_iret C E dX2_noCell_36 rfl rfl ⟨by first | exact vi (if_pos c6).symm | exact vi ((if_neg c6).trans (if_pos (by rw [es, nI_ti (by omega)]; exact c28))).symm | exact vi ((if_neg c6).trans (if_neg (by rw [es, nI_ti (by omega)]; exact c28))).symm, rfl⟩
    · rw [zb_n] at c28
      refine gk_iconst 0 C dX2_noCell_31 rfl ?_
      refine gk_goto 36 C dX2_noCell_32 (by decide) ?_
      exact gk_iret C E dX2_noCell_36 rfl rfl ⟨by first | exact vi (if_pos c6).symm | exact vi ((if_neg c6).trans (if_pos (by rw [es, nI_ti (by omega)]; exact c28))).symm | exact vi ((if_neg c6).trans (if_neg (by rw [es, nI_ti (by omega)]; exact c28))).symm, rfl⟩
  · have c6 := Int32.not_le.mp c6
    refine gk_iconst 1 C dX2_noCell_9 rfl ?_
    refine gk_goto 36 C dX2_noCell_10 (by decide) ?_
    exact gk_iret C E dX2_noCell_36 rfl rfl ⟨by first | exact vi (if_pos c6).symm | exact vi ((if_neg c6).trans (if_pos (by rw [es, nI_ti (by omega)]; exact c28))).symm | exact vi ((if_neg c6).trans (if_neg (by rw [es, nI_ti (by omega)]; exact c28))).symm, rfl⟩
/-- a sheet made: length, lane, zeros -/
def mo_sh (σ : mo_S) (k : Nat) (la : Int32) (n : Nat) : mo_S := (σ.1, va_up (va_up (va_up σ.2 41 (upd (σ.2 41) k (nI n))) 42 (upd (σ.2 42) k la)) 43 (sh_z (σ.2 43) (80 * k) n))
def mo_sd (σ : mo_S) (d : Nat → Int32) : mo_S := (σ.1, va_up σ.2 43 d)
theorem mo_sd_a (σ : mo_S) (d : Nat → Int32) (j : Nat) (v : Int32) : mo_a (mo_sd σ d) 43 j v = mo_sd σ (upd d j v) := by
  have e : (mo_sd σ d).2 43 = d := rfl
  unfold mo_a; rw [e]; unfold mo_sd; dsimp only; rw [va_up_up]
theorem mo_sd_id (σ : mo_S) : mo_sd σ (σ.2 43) = σ := by unfold mo_sd; rw [va_up_id]
set_option maxHeartbeats 4000000 in
theorem mo_sheet (l : Launch) (Γ : gk_E) (h : Nat) (ad : Nat → Nat) (σ : mo_S) (k la n : Int32) : mo_U l yX2_sheet (Cond.code yX2_sheet cX2_sheet 5 (some .int)) 2 [.int k, .int la, .int n] Γ h ad σ (.int (if (sh_c k la n) = 0 then 1 else ba_v (sh_c k la n))) (mo_i (if (sh_c k la n) = 0 then mo_sh σ k.toInt.toNat la n.toInt.toNat else σ) 0 (ba_f (sh_c k la n))) := by
  refine gk_M.intro gk_N0_ok (by decide) [some (.ref h), some (.int k), some (.int la), some (.int n), none] rfl rfl rfl ?_
  intro κ hl hg hN0 C E
  subst hl hg
  have C : gk_C κ cX2_sheet "SawLineModel" 2 0 0 := C
  refine gk_iload_n C dX2_sheet_0 rfl ?_
  refine gk_cP1 C (mo_noSheet _ k) cs_X2_95 rfl (Nat.zero_le _) (Nat.zero_le _) rfl dX2_sheet_1 ?_
  refine gk_if_eq 13 C dX2_sheet_4 (by decide) (fun c4 => ?_) (fun c4 => ?_)
  · rw [zb_0, Decidable.not_not] at c4
    obtain ⟨k, hk, rfl⟩ := nI_btw (x := k) (n := 3) c4.1 c4.2
    have hkt : (nI k).toInt.toNat = k := toNat_nI (by omega)
    refine gk_iload_n C dX2_sheet_13 rfl ?_
    refine gk_i2l C dX2_sheet_14 ?_
    refine gk_lconst 0 C dX2_sheet_15 rfl ?_
    refine gk_ldc2 C q1235 dX2_sheet_16 ?_
    refine gk_cP3 C (mo_in3 _ la 0 2 0 2 rfl rfl) cs_X2_105 rfl (Nat.zero_le _) (Nat.zero_le _) rfl dX2_sheet_19 ?_
    refine gk_if_eq 31 C dX2_sheet_22 (by decide) (fun c22 => ?_) (fun c22 => ?_)
    · rw [zb_0] at c22
      have hc : (sh_c (nI k) la n) = 2 := (if_neg (show ¬ ¬ _ from fun z => z c4)).trans (if_pos (Or.inl c22))
      refine gk_aload_n C dX2_sheet_31 rfl ?_
      refine gk_bipush (-2) C dX2_sheet_32 rfl ?_
      refine mo_cU1 C (mo_refused _ _ _ _ _ _) cv_X2_99 rfl rfl rfl dX2_sheet_34 ?_
      exact gk_iret C E dX2_sheet_37 rfl rfl ⟨vi (by rw [hc]; rfl), by rw [hc]; rfl⟩
    · rw [zb_n] at c22
      refine gk_iload_n C dX2_sheet_25 rfl ?_
      refine gk_bipush 80 C dX2_sheet_26 rfl ?_
      refine gk_icmp_le 38 C dX2_sheet_28 (by decide) (fun c28 => ?_) (fun c28 => ?_)
      · have c28 := nI_le80 c28
        refine gk_iload_n C dX2_sheet_38 rfl ?_
        refine gk_if_ge 48 C dX2_sheet_39 (by decide) (fun c39 => ?_) (fun c39 => ?_)
        · rw [Int32.le_iff_toInt_le, Int32.toInt_zero] at c39
          obtain ⟨n, hn, rfl⟩ := nI_btw (x := n) (n := 80) c39 c28
          have hc : (sh_c (nI k) la (nI n)) = 0 := (if_neg (show ¬ ¬ _ from fun z => z c4)).trans ((if_neg (fun z => z.elim (fun z => z c22) (fun z => by omega))).trans (if_neg (by omega)))
          refine gk_aload_n C dX2_sheet_48 rfl ?_
          refine mo_g41 C dX2_sheet_49 ?_
          refine gk_iload_n C dX2_sheet_52 rfl ?_
          refine gk_iload_n C dX2_sheet_53 rfl ?_
          refine mo_s41 C dX2_sheet_54 rfl (by omega) ?_
          refine gk_aload_n C dX2_sheet_55 rfl ?_
          refine mo_g42 C dX2_sheet_56 ?_
          refine gk_iload_n C dX2_sheet_59 rfl ?_
          refine gk_iload_n C dX2_sheet_60 rfl ?_
          refine mo_s42 C dX2_sheet_61 rfl (by omega) ?_
          refine gk_iconst 0 C dX2_sheet_62 rfl ?_
          refine gk_istore C dX2_sheet_63 rfl rfl ?_
          have L65 : ∀ i, i ≤ n → gk_G κ 0 0 (mo_W (gk_g κ) h ad (mo_sd (mo_a (mo_a σ 41 k (nI n)) 42 k la) (sh_z (σ.2 43) (80 * k) i))) 65 [some (.ref h), some (.int (nI k)), some (.int la), some (.int (nI n)), some (.int (nI i))] [] := by
            refine up_ind (fun i hi ih => ?_)
            refine gk_iload C dX2_sheet_65 rfl ?_
            refine gk_iload_n C dX2_sheet_67 rfl ?_
            refine gk_icmp_ge 90 C dX2_sheet_68 (by decide) (fun c68 => ?_) (fun c68 => ?_)
            · obtain rfl : i = n := by have := nI_leT c68 (by omega) (by omega); omega
              refine gk_aload_n C dX2_sheet_90 rfl ?_
              refine gk_iconst 1 C dX2_sheet_91 rfl ?_
              refine mo_cU1 C (mo_refused _ _ _ _ _ _) cv_X2_99 rfl rfl rfl dX2_sheet_92 ?_
              exact gk_iret C E dX2_sheet_95 rfl rfl ⟨vi (by rw [hc]; rfl), by rw [hc, if_pos rfl, hkt, toNat_nI (by omega)]; rfl⟩
            · have c68 := nI_ngeT c68 (by omega)
              refine gk_aload_n C dX2_sheet_71 rfl ?_
              refine mo_g43 C dX2_sheet_72 ?_
              refine gk_bipush 80 C dX2_sheet_75 rfl ?_
              refine gk_iload_n C dX2_sheet_77 rfl ?_
              refine gk_imul C dX2_sheet_78 ?_
              refine gk_iload C dX2_sheet_79 rfl ?_
              refine gk_iadd C dX2_sheet_81 ?_
              refine gk_iconst 0 C dX2_sheet_82 rfl ?_
              refine mo_s43 C dX2_sheet_83 (nI_ma 80 k i) (by omega) ?_
              rw [mo_sd_a, sh_zs]
              refine gk_iinc (nI (i + 1)) C dX2_sheet_84 rfl (nI_succ i).symm rfl rfl ?_
              refine gk_goto 65 C dX2_sheet_87 (by decide) ?_
              exact ih c68
          have h0 := L65 0 (Nat.zero_le _)
          rw [sh_z0, show σ.2 43 = (mo_a (mo_a σ 41 k (nI n)) 42 k la).2 43 from rfl, mo_sd_id] at h0
          exact h0
        · rw [Int32.le_iff_toInt_le, Int32.toInt_zero] at c39
          have hc : (sh_c (nI k) la n) = 5 := (if_neg (show ¬ ¬ _ from fun z => z c4)).trans ((if_neg (fun z => z.elim (fun z => z c22) (fun z => by omega))).trans (if_pos (by omega)))
          refine gk_aload_n C dX2_sheet_42 rfl ?_
          refine gk_iconst 4 C dX2_sheet_43 rfl ?_
          refine mo_cU1 C (mo_failed _ _ _ _ _ _) cv_X2_109 rfl rfl rfl dX2_sheet_44 ?_
          exact gk_iret C E dX2_sheet_47 rfl rfl ⟨vi (by rw [hc]; rfl), by rw [hc]; rfl⟩
      · have hc : (sh_c (nI k) la n) = 2 := (if_neg (show ¬ ¬ _ from fun z => z c4)).trans (if_pos (Or.inr (nI_gt80 c28)))
        refine gk_aload_n C dX2_sheet_31 rfl ?_
        refine gk_bipush (-2) C dX2_sheet_32 rfl ?_
        refine mo_cU1 C (mo_refused _ _ _ _ _ _) cv_X2_99 rfl rfl rfl dX2_sheet_34 ?_
        exact gk_iret C E dX2_sheet_37 rfl rfl ⟨vi (by rw [hc]; rfl), by rw [hc]; rfl⟩
  · rw [zb_n] at c4
    have hc : (sh_c k la n) = 1 := if_pos c4
    refine gk_aload_n C dX2_sheet_7 rfl ?_
    refine gk_iconst (-1) C dX2_sheet_8 rfl ?_
    refine mo_cU1 C (mo_refused _ _ _ _ _ _) cv_X2_99 rfl rfl rfl dX2_sheet_9 ?_
    exact gk_iret C E dX2_sheet_12 rfl rfl ⟨vi (by rw [hc]; rfl), by rw [hc]; rfl⟩
set_option maxHeartbeats 1000000 in
theorem mo_lose (l : Launch) (Γ : gk_E) (h : Nat) (ad : Nat → Nat) (σ : mo_S) (k : Int32) : mo_U l yX2_lose (Cond.code yX2_lose cX2_lose 3 (some .int)) 2 [.int k] Γ h ad σ (.int (if ¬ (0 ≤ k.toInt ∧ k.toInt ≤ 3) then -1 else if σ.2 41 k.toInt.toNat < 0 then 0 else 1)) (if ¬ (0 ≤ k.toInt ∧ k.toInt ≤ 3) then σ else mo_a σ 41 k.toInt.toNat (-1)) := by
  refine gk_M.intro gk_N0_ok (by decide) [some (.ref h), some (.int k), none] rfl rfl rfl ?_
  intro κ hl hg hN0 C E
  subst hl hg
  have C : gk_C κ cX2_lose "SawLineModel" 2 0 0 := C
  refine gk_iload_n C dX2_lose_0 rfl ?_
  refine gk_cP1 C (mo_noSheet _ k) cs_X2_95 rfl (Nat.zero_le _) (Nat.zero_le _) rfl dX2_lose_1 ?_
  refine gk_if_eq 9 C dX2_lose_4 (by decide) (fun c4 => ?_) (fun c4 => ?_)
  · rw [zb_0, Decidable.not_not] at c4
    obtain ⟨k, hk, rfl⟩ := nI_btw (x := k) (n := 3) c4.1 c4.2
    have hkt : (nI k).toInt.toNat = k := toNat_nI (by omega)
    refine gk_aload_n C dX2_lose_9 rfl ?_
    refine mo_g41 C dX2_lose_10 ?_
    refine gk_iload_n C dX2_lose_13 rfl ?_
    refine mo_l41 C dX2_lose_14 rfl (by omega) ?_
    refine gk_jn1 (if σ.2 41 k < 0 then (0 : Int32) else 1) 23 ?_ (fun K23 => ?_)
    · refine gk_istore_n C dX2_lose_23 rfl rfl ?_
      refine gk_aload_n C dX2_lose_24 rfl ?_
      refine mo_g41 C dX2_lose_25 ?_
      refine gk_iload_n C dX2_lose_28 rfl ?_
      refine gk_iconst (-1) C dX2_lose_29 rfl ?_
      refine mo_s41 C dX2_lose_30 rfl (by omega) ?_
      refine gk_iload_n C dX2_lose_31 rfl ?_
      exact gk_iret C E dX2_lose_32 rfl rfl ⟨vi (by rw [if_neg (show ¬ ¬ _ from fun z => z c4), hkt]), by rw [if_neg (show ¬ ¬ _ from fun z => z c4), hkt]⟩
    · refine gk_if_ge 22 C dX2_lose_15 (by decide) (fun c15 => ?_) (fun c15 => ?_)
      · refine gk_iconst 1 C dX2_lose_22 rfl ?_
        exact gk_eqv (by first | exact (if_neg (Int32.not_lt.mpr c15)).symm | exact (if_pos (Int32.not_le.mp c15)).symm) K23
      · refine gk_iconst 0 C dX2_lose_18 rfl ?_
        refine gk_goto 23 C dX2_lose_19 (by decide) ?_
        exact gk_eqv (by first | exact (if_neg (Int32.not_lt.mpr c15)).symm | exact (if_pos (Int32.not_le.mp c15)).symm) K23
  · rw [zb_n] at c4
    refine gk_iconst (-1) C dX2_lose_7 rfl ?_
    exact gk_iret C E dX2_lose_8 rfl rfl ⟨vi (if_pos c4).symm, by rw [if_pos c4]⟩
set_option maxHeartbeats 4000000 in
theorem mo_put (l : Launch) (Γ : gk_E) (h : Nat) (ad : Nat → Nat) (σ : mo_S) (hS : ∀ j, j < 4 → σ.2 41 j < 0 ∨ ∃ s, s ≤ 80 ∧ σ.2 41 j = nI s) (k i v : Int32) : mo_U l yX2_put (Cond.code yX2_put cX2_put 4 (some .int)) 2 [.int k, .int i, .int v] Γ h ad σ (.int (if (pu_c (σ.2 41) k i) = 0 then 1 else ba_v (pu_c (σ.2 41) k i))) (mo_i (if (pu_c (σ.2 41) k i) = 0 then mo_a σ 43 (80 * k.toInt.toNat + i.toInt.toNat) (sh_n (σ.2 42 k.toInt.toNat) v) else σ) 0 (ba_f (pu_c (σ.2 41) k i))) := by
  refine gk_M.intro gk_N0_ok (by decide) [some (.ref h), some (.int k), some (.int i), some (.int v)] rfl rfl rfl ?_
  intro κ hl hg hN0 C E
  subst hl hg
  have C : gk_C κ cX2_put "SawLineModel" 2 0 0 := C
  refine gk_iload_n C dX2_put_0 rfl ?_
  refine gk_cP1 C (mo_noSheet _ k) cs_X2_95 rfl (Nat.zero_le _) (Nat.zero_le _) rfl dX2_put_1 ?_
  refine gk_if_eq 13 C dX2_put_4 (by decide) (fun c4 => ?_) (fun c4 => ?_)
  · rw [zb_0, Decidable.not_not] at c4
    obtain ⟨k, hk, rfl⟩ := nI_btw (x := k) (n := 3) c4.1 c4.2
    have hkt : (nI k).toInt.toNat = k := toNat_nI (by omega)
    have hc : (pu_c (σ.2 41) (nI k) i) = _ := if_neg (show ¬ ¬ _ from fun z => z c4)
    rw [hkt] at hc
    refine gk_aload_n C dX2_put_13 rfl ?_
    refine gk_iload_n C dX2_put_14 rfl ?_
    refine gk_iload_n C dX2_put_15 rfl ?_
    refine mo_cU2 C (mo_noCell _ _ _ _ _ hS k (by omega) i) cv_X2_300 rfl rfl rfl dX2_put_16 ?_
    refine gk_if_le 33 C dX2_put_19 (by decide) (fun c19 => ?_) (fun c19 => ?_)
    · have hn0 : σ.2 41 k < 0 → False := fun z => by rw [if_pos z] at c19; revert c19; decide
      have hb : 0 ≤ i.toInt ∧ i.toInt < (σ.2 41 k).toInt := Decidable.byContradiction fun z => by
        rw [if_neg hn0, if_neg z] at c19; revert c19; decide
      rw [if_neg hn0, if_pos hb] at hc
      obtain ⟨s, hs, es⟩ := (hS k (by omega)).resolve_left hn0
      rw [es, nI_ti (by omega)] at hb
      obtain ⟨i, hi, rfl⟩ := nI_lt_ex hb
      have hit : (nI i).toInt.toNat = i := toNat_nI (by omega)
      refine gk_aload_n C dX2_put_33 rfl ?_
      refine mo_g43 C dX2_put_34 ?_
      refine gk_bipush 80 C dX2_put_37 rfl ?_
      refine gk_iload_n C dX2_put_39 rfl ?_
      refine gk_imul C dX2_put_40 ?_
      refine gk_iload_n C dX2_put_41 rfl ?_
      refine gk_iadd C dX2_put_42 ?_
      refine gk_aload_n C dX2_put_43 rfl ?_
      refine mo_g42 C dX2_put_44 ?_
      refine gk_iload_n C dX2_put_47 rfl ?_
      refine mo_l42 C dX2_put_48 rfl (by omega) ?_
      refine gk_jn1 (sh_n (σ.2 42 k) v) 73 ?_ (fun K73 => ?_)
      · refine mo_s43 C dX2_put_73 (nI_ma 80 k i) (by omega) ?_
        refine gk_aload_n C dX2_put_74 rfl ?_
        refine gk_iconst 1 C dX2_put_75 rfl ?_
        refine mo_cU1 C (mo_refused _ _ _ _ _ _) cv_X2_99 rfl rfl rfl dX2_put_76 ?_
        exact gk_iret C E dX2_put_79 rfl rfl ⟨vi (by rw [hc]; rfl), by rw [hc, if_pos rfl, hkt, hit]; rfl⟩
      · refine gk_if_ne 57 C dX2_put_49 (by decide) (fun c49 => ?_) (fun c49 => ?_)
        · refine gk_aload_n C dX2_put_57 rfl ?_
          refine mo_g42 C dX2_put_58 ?_
          refine gk_iload_n C dX2_put_61 rfl ?_
          refine mo_l42 C dX2_put_62 rfl (by omega) ?_
          refine gk_iconst 1 C dX2_put_63 rfl ?_
          refine gk_icmp_ne 72 C dX2_put_64 (by decide) (fun c64 => ?_) (fun c64 => ?_)
          · refine gk_iload_n C dX2_put_72 rfl ?_
            exact gk_eqv (by first | exact (if_pos c49).symm | exact ((if_neg c49).trans (if_pos c64)).symm | exact ((if_neg c49).trans (if_neg c64)).symm) K73
          · refine gk_iload_n C dX2_put_67 rfl ?_
            refine gk_i2s C dX2_put_68 ?_
            refine gk_goto 73 C dX2_put_69 (by decide) ?_
            exact gk_eqv (by first | exact (if_pos c49).symm | exact ((if_neg c49).trans (if_pos c64)).symm | exact ((if_neg c49).trans (if_neg c64)).symm) K73
        · refine gk_iload_n C dX2_put_52 rfl ?_
          refine gk_i2b C dX2_put_53 ?_
          refine gk_goto 73 C dX2_put_54 (by decide) ?_
          exact gk_eqv (by first | exact (if_pos c49).symm | exact ((if_neg c49).trans (if_pos c64)).symm | exact ((if_neg c49).trans (if_neg c64)).symm) K73
    · refine gk_aload_n C dX2_put_22 rfl ?_
      refine gk_aload_n C dX2_put_23 rfl ?_
      refine gk_iload_n C dX2_put_24 rfl ?_
      refine gk_iload_n C dX2_put_25 rfl ?_
      refine mo_cU2 C (mo_noCell _ _ _ _ _ hS k (by omega) i) cv_X2_300 rfl rfl rfl dX2_put_26 ?_
      refine mo_cU1 C (mo_failed _ _ _ _ _ _) cv_X2_109 rfl rfl rfl dX2_put_29 ?_
      rcases (show σ.2 41 k < 0 ∨ ¬ σ.2 41 k < 0 from Decidable.em _) with z | z
      · rw [if_pos z] at hc
        rw [show (if σ.2 41 k < 0 then (1 : Int32) else if 0 ≤ i.toInt ∧ i.toInt < (σ.2 41 k).toInt then 0 else 3) = 1 from if_pos z]
        exact gk_iret C E dX2_put_32 rfl rfl ⟨vi (by rw [hc]; rfl), by rw [hc]; rfl⟩
      have z2 : ¬ (0 ≤ i.toInt ∧ i.toInt < (σ.2 41 k).toInt) := fun z2 => c19 (by rw [if_neg z, if_pos z2]; decide)
      rw [if_neg z, if_neg z2] at hc
      rw [show (if σ.2 41 k < 0 then (1 : Int32) else if 0 ≤ i.toInt ∧ i.toInt < (σ.2 41 k).toInt then 0 else 3) = 3 from (if_neg z).trans (if_neg z2)]
      exact gk_iret C E dX2_put_32 rfl rfl ⟨vi (by rw [hc]; rfl), by rw [hc]; rfl⟩
  · rw [zb_n] at c4
    have hc : (pu_c (σ.2 41) k i) = 1 := if_pos c4
    refine gk_aload_n C dX2_put_7 rfl ?_
    refine gk_iconst (-1) C dX2_put_8 rfl ?_
    refine mo_cU1 C (mo_refused _ _ _ _ _ _) cv_X2_99 rfl rfl rfl dX2_put_9 ?_
    exact gk_iret C E dX2_put_12 rfl rfl ⟨vi (by rw [hc]; rfl), by rw [hc]; rfl⟩
set_option maxHeartbeats 4000000 in
theorem mo_cell (l : Launch) (Γ : gk_E) (h : Nat) (ad : Nat → Nat) (σ : mo_S) (hS : ∀ j, j < 4 → σ.2 41 j < 0 ∨ ∃ s, s ≤ 80 ∧ σ.2 41 j = nI s) (k i la : Int32) : mo_U l yX2_cell (Cond.code yX2_cell cX2_cell 4 (some .long)) 2 [.int k, .int i, .int la] Γ h ad σ (.long (if (ce_c (σ.2 41) (σ.2 42) k i la) = 0 then (σ.2 43 (80 * k.toInt.toNat + i.toInt.toNat)).toInt64 else -9223372036854775808)) (mo_i σ 0 (ba_f (ce_c (σ.2 41) (σ.2 42) k i la))) := by
  refine gk_M.intro gk_N0_ok (by decide) [some (.ref h), some (.int k), some (.int i), some (.int la)] rfl rfl rfl ?_
  intro κ hl hg hN0 C E
  subst hl hg
  have C : gk_C κ cX2_cell "SawLineModel" 2 0 0 := C
  refine gk_aload_n C dX2_cell_0 rfl ?_
  refine gk_iconst 0 C dX2_cell_1 rfl ?_
  refine mo_p0 C dX2_cell_2 ?_
  refine gk_iload_n C dX2_cell_5 rfl ?_
  refine gk_cP1 C (mo_noSheet _ k) cs_X2_95 rfl (Nat.zero_le _) (Nat.zero_le _) rfl dX2_cell_6 ?_
  refine gk_if_ne 24 C dX2_cell_9 (by decide) (fun c9 => ?_) (fun c9 => ?_)
  · rw [zb_n] at c9
    have hc : (ce_c (σ.2 41) (σ.2 42) k i la) = 1 := if_pos (fun z => c9 z.1)
    refine gk_cP0 C (mo_lost _) cs_X2_91 rfl (Nat.zero_le _) (Nat.zero_le _) rfl dX2_cell_24 ?_
    exact gk_lret C E dX2_cell_27 rfl rfl ⟨vl (by rw [hc]; rfl), by rw [hc]; rfl⟩
  · rw [zb_0, Decidable.not_not] at c9
    refine gk_iload_n C dX2_cell_12 rfl ?_
    refine gk_i2l C dX2_cell_13 ?_
    refine gk_lconst 0 C dX2_cell_14 rfl ?_
    refine gk_ldc2 C q1235 dX2_cell_15 ?_
    refine gk_cP3 C (mo_in3 _ la 0 2 0 2 rfl rfl) cs_X2_105 rfl (Nat.zero_le _) (Nat.zero_le _) rfl dX2_cell_18 ?_
    refine gk_if_ne 28 C dX2_cell_21 (by decide) (fun c21 => ?_) (fun c21 => ?_)
    · rw [zb_n] at c21
      obtain ⟨k, hk, rfl⟩ := nI_btw (x := k) (n := 3) c9.1 c9.2
      have hkt : (nI k).toInt.toNat = k := toNat_nI (by omega)
      have hc : (ce_c (σ.2 41) (σ.2 42) (nI k) i la) = _ := if_neg (show ¬ ¬ _ from fun z => z ⟨c9, c21⟩)
      rw [hkt] at hc
      refine gk_aload_n C dX2_cell_28 rfl ?_
      refine mo_g41 C dX2_cell_29 ?_
      refine gk_iload_n C dX2_cell_32 rfl ?_
      refine mo_l41 C dX2_cell_33 rfl (by omega) ?_
      refine gk_eqv (y := σ.2 41 k) rfl ?_
      refine gk_if_lt 53 C dX2_cell_34 (by decide) (fun c34 => ?_) (fun c34 => ?_)
      · rw [if_neg (fun z => Int32.not_le.mpr c34 z.1)] at hc
        refine gk_aload_n C dX2_cell_53 rfl ?_
        refine gk_iload_n C dX2_cell_54 rfl ?_
        refine gk_iload_n C dX2_cell_55 rfl ?_
        refine mo_cU2 C (mo_noCell _ _ _ _ (mo_i σ 0 0) hS k (by omega) i) cv_X2_300 rfl rfl rfl dX2_cell_56 ?_
        refine gk_eqv (y := (if σ.2 41 k < 0 then (1 : Int32) else if 0 ≤ i.toInt ∧ i.toInt < (σ.2 41 k).toInt then 0 else 3)) rfl ?_
        refine gk_if_le 75 C dX2_cell_59 (by decide) (fun c59 => ?_) (fun c59 => ?_)
        · have hn0 : σ.2 41 k < 0 → False := fun z => by rw [if_pos z] at c59; revert c59; decide
          have hb : 0 ≤ i.toInt ∧ i.toInt < (σ.2 41 k).toInt := Decidable.byContradiction fun z => by
            rw [if_neg hn0, if_neg z] at c59; revert c59; decide
          rw [if_neg hn0, if_pos hb] at hc
          obtain ⟨s, hs, es⟩ := (hS k (by omega)).resolve_left hn0
          rw [es, nI_ti (by omega)] at hb
          obtain ⟨i, hi, rfl⟩ := nI_lt_ex hb
          have hit : (nI i).toInt.toNat = i := toNat_nI (by omega)
          refine gk_aload_n C dX2_cell_75 rfl ?_
          refine mo_g43 C dX2_cell_76 ?_
          refine gk_bipush 80 C dX2_cell_79 rfl ?_
          refine gk_iload_n C dX2_cell_81 rfl ?_
          refine gk_imul C dX2_cell_82 ?_
          refine gk_iload_n C dX2_cell_83 rfl ?_
          refine gk_iadd C dX2_cell_84 ?_
          refine mo_l43 C dX2_cell_85 (nI_ma 80 k i) (by omega) ?_
          refine gk_eqv (y := σ.2 43 (80 * k + i)) rfl ?_
          have hv : (if ce_c (σ.2 41) (σ.2 42) (nI k) (nI i) la = 0 then (σ.2 43 (80 * (nI k).toInt.toNat + (nI i).toInt.toNat)).toInt64 else -9223372036854775808) = (σ.2 43 (80 * k + i)).toInt64 := by rw [hc, if_pos rfl, hkt, hit]
          refine gk_i2l C dX2_cell_86 ?_
          exact gk_lret C E dX2_cell_87 rfl rfl ⟨by first | exact vl hv.symm | exact vl (by rw [hc]; rfl), by rw [hc]; rfl⟩
        · refine gk_aload_n C dX2_cell_62 rfl ?_
          refine gk_aload_n C dX2_cell_63 rfl ?_
          refine gk_iload_n C dX2_cell_64 rfl ?_
          refine gk_iload_n C dX2_cell_65 rfl ?_
          refine mo_cU2 C (mo_noCell _ _ _ _ (mo_i σ 0 0) hS k (by omega) i) cv_X2_300 rfl rfl rfl dX2_cell_66 ?_
          refine gk_eqv (y := (if σ.2 41 k < 0 then (1 : Int32) else if 0 ≤ i.toInt ∧ i.toInt < (σ.2 41 k).toInt then 0 else 3)) rfl ?_
          refine mo_cU1 C (mo_failedLong _ _ _ _ _ _) cv_X2_303 rfl rfl rfl dX2_cell_69 ?_
          rw [mo_i_i]
          rcases (show σ.2 41 k < 0 ∨ ¬ σ.2 41 k < 0 from Decidable.em _) with z | z
          · rw [if_pos z] at hc
            rw [show (if σ.2 41 k < 0 then (1 : Int32) else if 0 ≤ i.toInt ∧ i.toInt < (σ.2 41 k).toInt then 0 else 3) = 1 from if_pos z]
            refine gk_goto 87 C dX2_cell_72 (by decide) ?_
            exact gk_lret C E dX2_cell_87 rfl rfl ⟨vl (by rw [hc]; rfl), by rw [hc]; rfl⟩
          have z2 : ¬ (0 ≤ i.toInt ∧ i.toInt < (σ.2 41 k).toInt) := fun z2 => c59 (by rw [if_neg z, if_pos z2]; decide)
          rw [if_neg z, if_neg z2] at hc
          rw [show (if σ.2 41 k < 0 then (1 : Int32) else if 0 ≤ i.toInt ∧ i.toInt < (σ.2 41 k).toInt then 0 else 3) = 3 from (if_neg z).trans (if_neg z2)]
          refine gk_goto 87 C dX2_cell_72 (by decide) ?_
          exact gk_lret C E dX2_cell_87 rfl rfl ⟨by first | exact vl hv.symm | exact vl (by rw [hc]; rfl), by rw [hc]; rfl⟩
      · refine gk_aload_n C dX2_cell_37 rfl ?_
        refine mo_g42 C dX2_cell_38 ?_
        refine gk_iload_n C dX2_cell_41 rfl ?_
        refine mo_l42 C dX2_cell_42 rfl (by omega) ?_
        refine gk_eqv (y := σ.2 42 k) rfl ?_
        refine gk_iload_n C dX2_cell_43 rfl ?_
        refine gk_icmp_eq 53 C dX2_cell_44 (by decide) (fun c44 => ?_) (fun c44 => ?_)
        · rw [if_neg (fun z => z.2 c44)] at hc
          refine gk_aload_n C dX2_cell_53 rfl ?_
          refine gk_iload_n C dX2_cell_54 rfl ?_
          refine gk_iload_n C dX2_cell_55 rfl ?_
          refine mo_cU2 C (mo_noCell _ _ _ _ (mo_i σ 0 0) hS k (by omega) i) cv_X2_300 rfl rfl rfl dX2_cell_56 ?_
          refine gk_eqv (y := (if σ.2 41 k < 0 then (1 : Int32) else if 0 ≤ i.toInt ∧ i.toInt < (σ.2 41 k).toInt then 0 else 3)) rfl ?_
          refine gk_if_le 75 C dX2_cell_59 (by decide) (fun c59 => ?_) (fun c59 => ?_)
          · have hn0 : σ.2 41 k < 0 → False := fun z => by rw [if_pos z] at c59; revert c59; decide
            have hb : 0 ≤ i.toInt ∧ i.toInt < (σ.2 41 k).toInt := Decidable.byContradiction fun z => by
              rw [if_neg hn0, if_neg z] at c59; revert c59; decide
            rw [if_neg hn0, if_pos hb] at hc
            obtain ⟨s, hs, es⟩ := (hS k (by omega)).resolve_left hn0
            rw [es, nI_ti (by omega)] at hb
            obtain ⟨i, hi, rfl⟩ := nI_lt_ex hb
            have hit : (nI i).toInt.toNat = i := toNat_nI (by omega)
            refine gk_aload_n C dX2_cell_75 rfl ?_
            refine mo_g43 C dX2_cell_76 ?_
            refine gk_bipush 80 C dX2_cell_79 rfl ?_
            refine gk_iload_n C dX2_cell_81 rfl ?_
            refine gk_imul C dX2_cell_82 ?_
            refine gk_iload_n C dX2_cell_83 rfl ?_
            refine gk_iadd C dX2_cell_84 ?_
            refine mo_l43 C dX2_cell_85 (nI_ma 80 k i) (by omega) ?_
            refine gk_eqv (y := σ.2 43 (80 * k + i)) rfl ?_
            have hv : (if ce_c (σ.2 41) (σ.2 42) (nI k) (nI i) la = 0 then (σ.2 43 (80 * (nI k).toInt.toNat + (nI i).toInt.toNat)).toInt64 else -9223372036854775808) = (σ.2 43 (80 * k + i)).toInt64 := by rw [hc, if_pos rfl, hkt, hit]
            refine gk_i2l C dX2_cell_86 ?_
            exact gk_lret C E dX2_cell_87 rfl rfl ⟨by first | exact vl hv.symm | exact vl (by rw [hc]; rfl), by rw [hc]; rfl⟩
          · refine gk_aload_n C dX2_cell_62 rfl ?_
            refine gk_aload_n C dX2_cell_63 rfl ?_
            refine gk_iload_n C dX2_cell_64 rfl ?_
            refine gk_iload_n C dX2_cell_65 rfl ?_
            refine mo_cU2 C (mo_noCell _ _ _ _ (mo_i σ 0 0) hS k (by omega) i) cv_X2_300 rfl rfl rfl dX2_cell_66 ?_
            refine gk_eqv (y := (if σ.2 41 k < 0 then (1 : Int32) else if 0 ≤ i.toInt ∧ i.toInt < (σ.2 41 k).toInt then 0 else 3)) rfl ?_
            refine mo_cU1 C (mo_failedLong _ _ _ _ _ _) cv_X2_303 rfl rfl rfl dX2_cell_69 ?_
            rw [mo_i_i]
            rcases (show σ.2 41 k < 0 ∨ ¬ σ.2 41 k < 0 from Decidable.em _) with z | z
            · rw [if_pos z] at hc
              rw [show (if σ.2 41 k < 0 then (1 : Int32) else if 0 ≤ i.toInt ∧ i.toInt < (σ.2 41 k).toInt then 0 else 3) = 1 from if_pos z]
              refine gk_goto 87 C dX2_cell_72 (by decide) ?_
              exact gk_lret C E dX2_cell_87 rfl rfl ⟨vl (by rw [hc]; rfl), by rw [hc]; rfl⟩
            have z2 : ¬ (0 ≤ i.toInt ∧ i.toInt < (σ.2 41 k).toInt) := fun z2 => c59 (by rw [if_neg z, if_pos z2]; decide)
            rw [if_neg z, if_neg z2] at hc
            rw [show (if σ.2 41 k < 0 then (1 : Int32) else if 0 ≤ i.toInt ∧ i.toInt < (σ.2 41 k).toInt then 0 else 3) = 3 from (if_neg z).trans (if_neg z2)]
            refine gk_goto 87 C dX2_cell_72 (by decide) ?_
            exact gk_lret C E dX2_cell_87 rfl rfl ⟨by first | exact vl hv.symm | exact vl (by rw [hc]; rfl), by rw [hc]; rfl⟩
        · rw [if_pos ⟨Int32.not_lt.mp c34, c44⟩] at hc
          refine gk_aload_n C dX2_cell_47 rfl ?_
          refine gk_iconst 2 C dX2_cell_48 rfl ?_
          refine mo_cU1 C (mo_failedLong _ _ _ _ _ _) cv_X2_303 rfl rfl rfl dX2_cell_49 ?_
          exact gk_lret C E dX2_cell_52 rfl rfl ⟨vl (by rw [hc]; rfl), by rw [hc, mo_i_i]; rfl⟩
    · rw [zb_0] at c21
      have hc : (ce_c (σ.2 41) (σ.2 42) k i la) = 1 := if_pos (fun z => c21 z.2)
      refine gk_cP0 C (mo_lost _) cs_X2_91 rfl (Nat.zero_le _) (Nat.zero_le _) rfl dX2_cell_24 ?_
      exact gk_lret C E dX2_cell_27 rfl rfl ⟨vl (by rw [hc]; rfl), by rw [hc]; rfl⟩
