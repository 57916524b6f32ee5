set_option maxRecDepth 100000
theorem mo_sn_le (σ : mo_S) (n L : Nat) : mo_sn σ n L ≤ L := by
  unfold mo_sn
  split
  · omega
  · have := st_n_le (σ.2 15) (sp_kf (mo_t σ) n) L 0
    omega
/-- where the model's cut is behind a stroke, and whither it heads -/
theorem mo_cutP (σ : mo_S) (n L lt j : Nat) (hj : j < mo_sn σ n L) : (mo_cutS σ n L lt).2 21 j = (ct0 (mo_e σ n lt) (mo_sn σ n L)).1 j := (ct_same _ _ _ _).1 j hj
theorem mo_cutH (σ : mo_S) (n L lt j : Nat) (hj : j < mo_sn σ n L) : (mo_cutS σ n L lt).2 22 j = (ct0 (mo_e σ n lt) (mo_sn σ n L)).2.1 j := (ct_same _ _ _ _).2.1 j hj
theorem mo_cutO (σ : mo_S) (n L lt : Nat) : (mo_cutS σ n L lt).1 23 = (ct0 (mo_e σ n lt) (mo_sn σ n L)).2.2.2.2 := congrArg (fun z => z.2.2) (ct_same _ _ _ _).2.2
set_option maxHeartbeats 1000000 in
theorem mo_isUncut (l : Launch) (Γ : gk_E) (h : Nat) (ad : Nat → Nat) (σ : mo_S) (n : Nat) (hn : n ≤ 8) (e : σ.1 1 = nI n) (L : Nat) (hL : L ≤ 24) (eL : σ.1 12 = nI L) (lt : Nat) (hlt : lt ≤ 5) (eT : σ.1 18 = nI lt) (hH : ∀ t, t < L → ¬ 10 * σ.2 13 t = 0) (t : Nat) (ht : t < 2 ^ 31) : mo_U l yX2_isUncut (Cond.code yX2_isUncut cX2_isUncut 2 (some .boolean)) 4 [.int (nI t)] Γ h ad σ (.int (zb (mo_sn σ n L ≤ t))) (mo_cutS σ n L lt) := by
  refine gk_M.intro gk_N0_ok (by decide) [some (.ref h), some (.int (nI t))] rfl rfl rfl ?_
  intro κ hl hg hN0 C E
  subst hl hg
  have C : gk_C κ cX2_isUncut "SawLineModel" 4 0 0 := C
  refine gk_aload_n C dX2_isUncut_0 rfl ?_
  refine mo_cV0 C (mo_cut _ _ _ _ _ n hn e L hL eL lt hlt eT hH) cv_X2_210 rfl rfl rfl dX2_isUncut_1 ?_
  refine gk_iload_n C dX2_isUncut_4 rfl ?_
  refine gk_aload_n C dX2_isUncut_5 rfl ?_
  refine mo_g20 C dX2_isUncut_6 ?_
  refine gk_eqv (y := nI (mo_sn σ n L)) rfl ?_
  have hsn := mo_sn_le σ n L
  refine gk_icmp_lt 16 C dX2_isUncut_9 (by decide) (fun c9 => ?_) (fun c9 => ?_)
  · have c9 := nI_ltT c9 ht (by omega)
    refine gk_iconst 0 C dX2_isUncut_16 rfl ?_
    exact gk_zret C E dX2_isUncut_17 rfl rfl (by first | exact narrow_b1 | exact narrow_b0 | exact zb_nb) ⟨by first | exact vi (zb_f (by omega)).symm | exact vi (zb_t (by omega)).symm, rfl⟩
  · have c9 := nI_nltT c9 (by omega)
    refine gk_iconst 1 C dX2_isUncut_12 rfl ?_
    refine gk_goto 17 C dX2_isUncut_13 (by decide) ?_
    exact gk_zret C E dX2_isUncut_17 rfl rfl (by first | exact narrow_b1 | exact narrow_b0 | exact zb_nb) ⟨by first | exact vi (zb_f (by omega)).symm | exact vi (zb_t (by omega)).symm, rfl⟩
set_option maxHeartbeats 1000000 in
theorem mo_where (l : Launch) (Γ : gk_E) (h : Nat) (ad : Nat → Nat) (σ : mo_S) (n : Nat) (hn : n ≤ 8) (e : σ.1 1 = nI n) (L : Nat) (hL : L ≤ 24) (eL : σ.1 12 = nI L) (lt : Nat) (hlt : lt ≤ 5) (eT : σ.1 18 = nI lt) (hH : ∀ t, t < L → ¬ 10 * σ.2 13 t = 0) (t : Int32) : mo_U l yX2_where (Cond.code yX2_where cX2_where 2 (some .long)) 5 [.int t] Γ h ad σ (.long (if 0 ≤ t.toInt ∧ t.toInt < mo_sn σ n L then ((ct0 (mo_e σ n lt) (mo_sn σ n L)).1 t.toInt.toNat).toInt64 else -9223372036854775808)) (if 0 ≤ t.toInt ∧ t.toInt < L then mo_cutS σ n L lt else σ) := by
  refine gk_M.intro gk_N0_ok (by decide) [some (.ref h), some (.int t)] rfl rfl rfl ?_
  intro κ hl hg hN0 C E
  subst hl hg
  have C : gk_C κ cX2_where "SawLineModel" 5 0 0 := C
  refine gk_aload_n C dX2_where_0 rfl ?_
  refine gk_iload_n C dX2_where_1 rfl ?_
  refine mo_cU1 C (mo_noLine _ _ _ _ _ t L (by omega) eL) cv_X2_180 rfl rfl rfl dX2_where_2 ?_
  refine gk_if_ne 16 C dX2_where_5 (by decide) (fun c5 => ?_) (fun c5 => ?_)
  · rw [zb_n] at c5
    have hsn := mo_sn_le σ n L
    refine gk_cP0 C (mo_lost _) cs_X2_91 rfl (Nat.zero_le _) (Nat.zero_le _) rfl dX2_where_16 ?_
    refine gk_goto 29 C dX2_where_19 (by decide) ?_
    exact gk_lret C E dX2_where_29 rfl rfl ⟨by first | exact vl (if_neg (fun z => c5 ⟨z.1, by omega⟩)).symm | (refine vl ?_; rw [if_neg (by rw [nI_ti (by omega)]; omega)]) | (refine vl ?_; rw [if_pos (by rw [nI_ti (by omega)]; omega), toNat_nI (by omega)]), by first | rw [if_pos c5] | rw [if_neg c5]⟩
  · rw [zb_0, Decidable.not_not] at c5
    have hsn := mo_sn_le σ n L
    obtain ⟨t, ht, rfl⟩ := nI_lt_ex c5
    refine gk_aload_n C dX2_where_8 rfl ?_
    refine gk_iload_n C dX2_where_9 rfl ?_
    refine mo_cU1 C (mo_isUncut _ _ _ _ _ n hn e L hL eL lt hlt eT hH t (by omega)) cv_X2_213 rfl rfl rfl dX2_where_10 ?_
    refine gk_if_eq 22 C dX2_where_13 (by decide) (fun c13 => ?_) (fun c13 => ?_)
    · rw [zb_0] at c13
      refine gk_aload_n C dX2_where_22 rfl ?_
      refine mo_g21 C dX2_where_23 ?_
      refine gk_iload_n C dX2_where_26 rfl ?_
      refine mo_l21 C dX2_where_27 rfl (by omega) ?_
      rw [mo_cutP σ n L lt t (by omega)]
      refine gk_i2l C dX2_where_28 ?_
      exact gk_lret C E dX2_where_29 rfl rfl ⟨by first | exact vl (if_neg (fun z => c5 ⟨z.1, by omega⟩)).symm | (refine vl ?_; rw [if_neg (by rw [nI_ti (by omega)]; omega)]) | (refine vl ?_; rw [if_pos (by rw [nI_ti (by omega)]; omega), toNat_nI (by omega)]), by first | rw [if_pos c5] | rw [if_neg c5]⟩
    · rw [zb_n] at c13
      refine gk_cP0 C (mo_lost _) cs_X2_91 rfl (Nat.zero_le _) (Nat.zero_le _) rfl dX2_where_16 ?_
      refine gk_goto 29 C dX2_where_19 (by decide) ?_
      exact gk_lret C E dX2_where_29 rfl rfl ⟨by first | exact vl (if_neg (fun z => c5 ⟨z.1, by omega⟩)).symm | (refine vl ?_; rw [if_neg (by rw [nI_ti (by omega)]; omega)]) | (refine vl ?_; rw [if_pos (by rw [nI_ti (by omega)]; omega), toNat_nI (by omega)]), by first | rw [if_pos c5] | rw [if_neg c5]⟩
set_option maxHeartbeats 1000000 in
theorem mo_heading (l : Launch) (Γ : gk_E) (h : Nat) (ad : Nat → Nat) (σ : mo_S) (n : Nat) (hn : n ≤ 8) (e : σ.1 1 = nI n) (L : Nat) (hL : L ≤ 24) (eL : σ.1 12 = nI L) (lt : Nat) (hlt : lt ≤ 5) (eT : σ.1 18 = nI lt) (hH : ∀ t, t < L → ¬ 10 * σ.2 13 t = 0) (t : Int32) : mo_U l yX2_heading (Cond.code yX2_heading cX2_heading 2 (some .long)) 5 [.int t] Γ h ad σ (.long (if 0 ≤ t.toInt ∧ t.toInt < mo_sn σ n L then ((ct0 (mo_e σ n lt) (mo_sn σ n L)).2.1 t.toInt.toNat).toInt64 else -9223372036854775808)) (if 0 ≤ t.toInt ∧ t.toInt < L then mo_cutS σ n L lt else σ) := by
  refine gk_M.intro gk_N0_ok (by decide) [some (.ref h), some (.int t)] rfl rfl rfl ?_
  intro κ hl hg hN0 C E
  subst hl hg
  have C : gk_C κ cX2_heading "SawLineModel" 5 0 0 := C
  refine gk_aload_n C dX2_heading_0 rfl ?_
  refine gk_iload_n C dX2_heading_1 rfl ?_
  refine mo_cU1 C (mo_noLine _ _ _ _ _ t L (by omega) eL) cv_X2_180 rfl rfl rfl dX2_heading_2 ?_
  refine gk_if_ne 16 C dX2_heading_5 (by decide) (fun c5 => ?_) (fun c5 => ?_)
  · rw [zb_n] at c5
    have hsn := mo_sn_le σ n L
    refine gk_cP0 C (mo_lost _) cs_X2_91 rfl (Nat.zero_le _) (Nat.zero_le _) rfl dX2_heading_16 ?_
    refine gk_goto 29 C dX2_heading_19 (by decide) ?_
    exact gk_lret C E dX2_heading_29 rfl rfl ⟨by first | exact vl (if_neg (fun z => c5 ⟨z.1, by omega⟩)).symm | (refine vl ?_; rw [if_neg (by rw [nI_ti (by omega)]; omega)]) | (refine vl ?_; rw [if_pos (by rw [nI_ti (by omega)]; omega), toNat_nI (by omega)]), by first | rw [if_pos c5] | rw [if_neg c5]⟩
  · rw [zb_0, Decidable.not_not] at c5
    have hsn := mo_sn_le σ n L
    obtain ⟨t, ht, rfl⟩ := nI_lt_ex c5
    refine gk_aload_n C dX2_heading_8 rfl ?_
    refine gk_iload_n C dX2_heading_9 rfl ?_
    refine mo_cU1 C (mo_isUncut _ _ _ _ _ n hn e L hL eL lt hlt eT hH t (by omega)) cv_X2_213 rfl rfl rfl dX2_heading_10 ?_
    refine gk_if_eq 22 C dX2_heading_13 (by decide) (fun c13 => ?_) (fun c13 => ?_)
    · rw [zb_0] at c13
      refine gk_aload_n C dX2_heading_22 rfl ?_
      refine mo_g22 C dX2_heading_23 ?_
      refine gk_iload_n C dX2_heading_26 rfl ?_
      refine mo_l22 C dX2_heading_27 rfl (by omega) ?_
      rw [mo_cutH σ n L lt t (by omega)]
      refine gk_i2l C dX2_heading_28 ?_
      exact gk_lret C E dX2_heading_29 rfl rfl ⟨by first | exact vl (if_neg (fun z => c5 ⟨z.1, by omega⟩)).symm | (refine vl ?_; rw [if_neg (by rw [nI_ti (by omega)]; omega)]) | (refine vl ?_; rw [if_pos (by rw [nI_ti (by omega)]; omega), toNat_nI (by omega)]), by first | rw [if_pos c5] | rw [if_neg c5]⟩
    · rw [zb_n] at c13
      refine gk_cP0 C (mo_lost _) cs_X2_91 rfl (Nat.zero_le _) (Nat.zero_le _) rfl dX2_heading_16 ?_
      refine gk_goto 29 C dX2_heading_19 (by decide) ?_
      exact gk_lret C E dX2_heading_29 rfl rfl ⟨by first | exact vl (if_neg (fun z => c5 ⟨z.1, by omega⟩)).symm | (refine vl ?_; rw [if_neg (by rw [nI_ti (by omega)]; omega)]) | (refine vl ?_; rw [if_pos (by rw [nI_ti (by omega)]; omega), toNat_nI (by omega)]), by first | rw [if_pos c5] | rw [if_neg c5]⟩
set_option maxHeartbeats 1000000 in
theorem mo_off (l : Launch) (Γ : gk_E) (h : Nat) (ad : Nat → Nat) (σ : mo_S) (n : Nat) (hn : n ≤ 8) (e : σ.1 1 = nI n) (L : Nat) (hL : L ≤ 24) (eL : σ.1 12 = nI L) (lt : Nat) (hlt : lt ≤ 5) (eT : σ.1 18 = nI lt) (hH : ∀ t, t < L → ¬ 10 * σ.2 13 t = 0) : mo_U l yX2_off (Cond.code yX2_off cX2_off 1 (some .int)) 4 [] Γ h ad σ (.int (if n = 0 ∨ L = 0 then -3 else (ct0 (mo_e σ n lt) (mo_sn σ n L)).2.2.2.2)) (if n = 0 ∨ L = 0 then σ else mo_cutS σ n L lt) := by
  refine gk_M.intro gk_N0_ok (by decide) [some (.ref h)] rfl rfl rfl ?_
  intro κ hl hg hN0 C E
  subst hl hg
  have C : gk_C κ cX2_off "SawLineModel" 4 0 0 := C
  refine gk_aload_n C dX2_off_0 rfl ?_
  refine mo_cU0 C (mo_isBare _ _ _ _ _) cv_X2_216 rfl rfl rfl dX2_off_1 ?_
  rw [zb_iff (Q := n = 0 ∨ L = 0) (by rw [e, eL]; exact or_congr (nI_eq (b := 0) (by omega) (by omega)) (nI_eq (b := 0) (by omega) (by omega)))]
  refine gk_if_eq 10 C dX2_off_4 (by decide) (fun c4 => ?_) (fun c4 => ?_)
  · rw [zb_0] at c4
    refine gk_aload_n C dX2_off_10 rfl ?_
    refine mo_cV0 C (mo_cut _ _ _ _ _ n hn e L hL eL lt hlt eT hH) cv_X2_210 rfl rfl rfl dX2_off_11 ?_
    refine gk_aload_n C dX2_off_14 rfl ?_
    refine mo_g23 C dX2_off_15 ?_
    rw [mo_cutO]
    exact gk_iret C E dX2_off_18 rfl rfl ⟨by first | exact vi (if_pos c4).symm | exact vi (if_neg c4).symm, by first | rw [if_pos c4] | rw [if_neg c4]⟩
  · rw [zb_n] at c4
    refine gk_bipush (-3) C dX2_off_7 rfl ?_
    exact gk_iret C E dX2_off_9 rfl rfl ⟨by first | exact vi (if_pos c4).symm | exact vi (if_neg c4).symm, by first | rw [if_pos c4] | rw [if_neg c4]⟩
set_option maxHeartbeats 1000000 in
theorem mo_pinched (l : Launch) (Γ : gk_E) (h : Nat) (ad : Nat → Nat) (σ : mo_S) (n : Nat) (hn : n ≤ 8) (e : σ.1 1 = nI n) (L : Nat) (hL : L ≤ 24) (eL : σ.1 12 = nI L) (lt : Nat) (hlt : lt ≤ 5) (eT : σ.1 18 = nI lt) (hH : ∀ t, t < L → ¬ 10 * σ.2 13 t = 0) : mo_U l yX2_pinched (Cond.code yX2_pinched cX2_pinched 1 (some .int)) 4 [] Γ h ad σ (.int (if n = 0 ∨ L = 0 then -3 else if mo_sn σ n L < L then nI (mo_sn σ n L) else -9)) (if n = 0 ∨ L = 0 then σ else mo_cutS σ n L lt) := by
  refine gk_M.intro gk_N0_ok (by decide) [some (.ref h)] rfl rfl rfl ?_
  intro κ hl hg hN0 C E
  subst hl hg
  have C : gk_C κ cX2_pinched "SawLineModel" 4 0 0 := C
  refine gk_aload_n C dX2_pinched_0 rfl ?_
  refine mo_cU0 C (mo_isBare _ _ _ _ _) cv_X2_216 rfl rfl rfl dX2_pinched_1 ?_
  rw [zb_iff (Q := n = 0 ∨ L = 0) (by rw [e, eL]; exact or_congr (nI_eq (b := 0) (by omega) (by omega)) (nI_eq (b := 0) (by omega) (by omega)))]
  refine gk_if_eq 10 C dX2_pinched_4 (by decide) (fun c4 => ?_) (fun c4 => ?_)
  · rw [zb_0] at c4
    refine gk_aload_n C dX2_pinched_10 rfl ?_
    refine mo_cV0 C (mo_cut _ _ _ _ _ n hn e L hL eL lt hlt eT hH) cv_X2_210 rfl rfl rfl dX2_pinched_11 ?_
    refine gk_aload_n C dX2_pinched_14 rfl ?_
    refine mo_g20 C dX2_pinched_15 ?_
    refine gk_eqv (y := nI (mo_sn σ n L)) rfl ?_
    have hsn := mo_sn_le σ n L
    refine gk_aload_n C dX2_pinched_18 rfl ?_
    refine mo_g12 C dX2_pinched_19 ?_
    refine gk_eqv eL ?_
    refine gk_icmp_ge 32 C dX2_pinched_22 (by decide) (fun c22 => ?_) (fun c22 => ?_)
    · have c22 := nI_leT c22 (by omega) (by omega)
      refine gk_bipush (-9) C dX2_pinched_32 rfl ?_
      exact gk_iret C E dX2_pinched_34 rfl rfl ⟨by first | exact vi ((if_neg c4).trans (if_pos c22)).symm | exact vi ((if_neg c4).trans (if_neg (by omega))).symm, by rw [if_neg c4]⟩
    · have c22 := nI_ngeT c22 (by omega)
      refine gk_aload_n C dX2_pinched_25 rfl ?_
      refine mo_g20 C dX2_pinched_26 ?_
      refine gk_eqv (y := nI (mo_sn σ n L)) rfl ?_
      refine gk_goto 34 C dX2_pinched_29 (by decide) ?_
      exact gk_iret C E dX2_pinched_34 rfl rfl ⟨by first | exact vi ((if_neg c4).trans (if_pos c22)).symm | exact vi ((if_neg c4).trans (if_neg (by omega))).symm, by rw [if_neg c4]⟩
  · rw [zb_n] at c4
    refine gk_bipush (-3) C dX2_pinched_7 rfl ?_
    exact gk_iret C E dX2_pinched_9 rfl rfl ⟨vi (if_pos c4).symm, by rw [if_pos c4]⟩
set_option maxHeartbeats 4000000 in
theorem mo_marks (l : Launch) (Γ : gk_E) (h : Nat) (ad : Nat → Nat) (σ : mo_S) (n : Nat) (hn : n ≤ 8) (e : σ.1 1 = nI n) (L : Nat) (hL : L ≤ 24) (eL : σ.1 12 = nI L) (lt : Nat) (hlt : lt ≤ 5) (eT : σ.1 18 = nI lt) (hH : ∀ t, t < L → ¬ 10 * σ.2 13 t = 0) (t : Int32) : mo_U l yX2_marks (Cond.code yX2_marks cX2_marks 6 (some .int)) 5 [.int t] Γ h ad σ (.int (if ¬ (0 ≤ t.toInt ∧ t.toInt < L) then -1 else if t.toInt < mo_sn σ n L then sp_mks (mo_t σ) n else -3)) (if 0 ≤ t.toInt ∧ t.toInt < L then mo_cutS σ n L lt else σ) := by
  refine gk_M.intro gk_N0_ok (by decide) [some (.ref h), some (.int t), none, none, none, none] rfl rfl rfl ?_
  intro κ hl hg hN0 C E
  subst hl hg
  have C : gk_C κ cX2_marks "SawLineModel" 5 0 0 := C
  refine gk_aload_n C dX2_marks_0 rfl ?_
  refine gk_iload_n C dX2_marks_1 rfl ?_
  refine mo_cU1 C (mo_noLine _ _ _ _ _ t L (by omega) eL) cv_X2_180 rfl rfl rfl dX2_marks_2 ?_
  refine gk_if_eq 10 C dX2_marks_5 (by decide) (fun c5 => ?_) (fun c5 => ?_)
  · rw [zb_0, Decidable.not_not] at c5
    have hsn := mo_sn_le σ n L
    obtain ⟨t, ht, rfl⟩ := nI_lt_ex c5
    refine gk_aload_n C dX2_marks_10 rfl ?_
    refine gk_iload_n C dX2_marks_11 rfl ?_
    refine mo_cU1 C (mo_isUncut _ _ _ _ _ n hn e L hL eL lt hlt eT hH t (by omega)) cv_X2_213 rfl rfl rfl dX2_marks_12 ?_
    refine gk_if_eq 21 C dX2_marks_15 (by decide) (fun c15 => ?_) (fun c15 => ?_)
    · rw [zb_0] at c15
      refine gk_iconst 0 C dX2_marks_21 rfl ?_
      refine gk_istore_n C dX2_marks_22 rfl rfl ?_
      refine gk_iconst 0 C dX2_marks_23 rfl ?_
      refine gk_istore_n C dX2_marks_24 rfl rfl ?_
      have L25 : ∀ k, k ≤ n → gk_G κ 0 0 (mo_W (gk_g κ) h ad (mo_cutS σ n L lt)) 25 [some (.ref h), some (.int (nI t)), some (.int (sp_sum (fun k => zb (sp_fx (mo_t σ) k k = true)) k)), some (.int (nI k)), none, none] [] := by
        refine up_ind (fun k hk ih => ?_)
        refine gk_iload_n C dX2_marks_25 rfl ?_
        refine gk_aload_n C dX2_marks_26 rfl ?_
        refine mo_g1 C dX2_marks_27 ?_
        refine gk_eqv e ?_
        refine gk_icmp_ge 119 C dX2_marks_30 (by decide) (fun c30 => ?_) (fun c30 => ?_)
        · obtain rfl : k = n := by have := nI_leT c30 (by omega) (by omega); omega
          refine gk_iload_n C dX2_marks_119 rfl ?_
          exact gk_iret C E dX2_marks_120 rfl rfl ⟨vi ((if_neg (fun z => z c5)).trans (if_pos (by rw [nI_ti (by omega)]; omega))).symm, by rw [if_pos c5]⟩
        · have c30 := nI_ngeT c30 (by omega)
          refine gk_aload_n C dX2_marks_33 rfl ?_
          refine gk_iload_n C dX2_marks_34 rfl ?_
          refine mo_cU1 C (mo_takesOf _ _ _ _ _ k (by omega)) cv_X2_148 rfl rfl rfl dX2_marks_35 ?_
          refine gk_eqv (y := sp_tk (mo_t σ) k) rfl ?_
          refine gk_jn1 (zb (sp_fx (mo_t σ) k 0 = true)) 46 ?_ (fun K46 => ?_)
          · refine gk_istore C dX2_marks_46 rfl rfl ?_
            refine gk_iconst 0 C dX2_marks_48 rfl ?_
            refine gk_istore C dX2_marks_49 rfl rfl ?_
            have L51 : ∀ x, x ≤ k → gk_G κ 0 0 (mo_W (gk_g κ) h ad (mo_cutS σ n L lt)) 51 [some (.ref h), some (.int (nI t)), some (.int (sp_sum (fun k => zb (sp_fx (mo_t σ) k k = true)) k)), some (.int (nI k)), some (.int (zb (sp_fx (mo_t σ) k x = true))), some (.int (nI x))] [] := by
              refine up_ind (fun x hx ihx => ?_)
              refine gk_iload C dX2_marks_51 rfl ?_
              refine gk_iload_n C dX2_marks_53 rfl ?_
              refine gk_icmp_ge 100 C dX2_marks_54 (by decide) (fun c54 => ?_) (fun c54 => ?_)
              · obtain rfl : x = k := by have := nI_leT c54 (by omega) (by omega); omega
                refine gk_iload_n C dX2_marks_100 rfl ?_
                refine gk_iload C dX2_marks_101 rfl ?_
                refine gk_jn1 (zb (sp_fx (mo_t σ) x x = true)) 111 ?_ (fun K111 => ?_)
                · refine gk_iadd C dX2_marks_111 ?_
                  refine gk_istore_n C dX2_marks_112 rfl rfl ?_
                  refine gk_iinc (nI (x + 1)) C dX2_marks_113 rfl (nI_succ x).symm rfl rfl ?_
                  refine gk_goto 25 C dX2_marks_116 (by decide) ?_
                  exact gk_fg 4 (gk_fg 5 (ih (by omega)))
                · refine gk_if_eq 110 C dX2_marks_103 (by decide) (fun c103 => ?_) (fun c103 => ?_)
                  · refine gk_iconst 0 C dX2_marks_110 rfl ?_
                    exact gk_eqv (by first | exact c103.symm | exact (zb_t (zb_n.mp c103)).symm) K111
                  · refine gk_iconst 1 C dX2_marks_106 rfl ?_
                    refine gk_goto 111 C dX2_marks_107 (by decide) ?_
                    exact gk_eqv (by first | exact c103.symm | exact (zb_t (zb_n.mp c103)).symm) K111
              · have c54 := nI_ngeT c54 (by omega)
                refine gk_iload C dX2_marks_57 rfl ?_
                refine gk_jn1 (zb (sp_fx (mo_t σ) k (x + 1) = true)) 92 ?_ (fun K92 => ?_)
                · refine gk_istore C dX2_marks_92 rfl rfl ?_
                  refine gk_iinc (nI (x + 1)) C dX2_marks_94 rfl (nI_succ x).symm rfl rfl ?_
                  refine gk_goto 51 C dX2_marks_97 (by decide) ?_
                  exact ihx (by omega)
                · refine gk_if_eq 91 C dX2_marks_59 (by decide) (fun c59 => ?_) (fun c59 => ?_)
                  · rw [zb_0] at c59
                    have h1 : ¬ sp_fx (mo_t σ) k (x + 1) = true := fun z => c59 (by unfold sp_fx at z; rw [Bool.and_eq_true] at z; exact z.1)
                    refine gk_iconst 0 C dX2_marks_91 rfl ?_
                    exact gk_eqv (by first | exact (zb_f h1).symm | exact (zb_t h1).symm) K92
                  · rw [zb_n] at c59
                    refine gk_aload_n C dX2_marks_62 rfl ?_
                    refine gk_iload C dX2_marks_63 rfl ?_
                    refine mo_cU1 C (mo_takesOf _ _ _ _ _ x (by omega)) cv_X2_148 rfl rfl rfl dX2_marks_65 ?_
                    refine gk_eqv (y := sp_tk (mo_t σ) x) rfl ?_
                    refine gk_if_le 87 C dX2_marks_68 (by decide) (fun c68 => ?_) (fun c68 => ?_)
                    · have h1 : sp_fx (mo_t σ) k (x + 1) = true := by unfold sp_fx; rw [c59, Bool.true_and, decide_eq_false (Int32.not_lt.mpr c68)]; rfl
                      refine gk_iconst 1 C dX2_marks_87 rfl ?_
                      refine gk_goto 92 C dX2_marks_88 (by decide) ?_
                      exact gk_eqv (by first | exact (zb_f h1).symm | exact (zb_t h1).symm) K92
                    · refine gk_aload_n C dX2_marks_71 rfl ?_
                      refine gk_iload C dX2_marks_72 rfl ?_
                      refine gk_iconst 0 C dX2_marks_74 rfl ?_
                      refine mo_cU2 C (mo_markOf _ _ _ _ _ x (by omega) 0) cv_X2_220 rfl rfl rfl dX2_marks_75 ?_
                      refine gk_eqv (y := sp_mk (mo_t σ) x) (Int32.zero_add _) ?_
                      refine gk_aload_n C dX2_marks_78 rfl ?_
                      refine gk_iload_n C dX2_marks_79 rfl ?_
                      refine gk_iconst 0 C dX2_marks_80 rfl ?_
                      refine mo_cU2 C (mo_markOf _ _ _ _ _ k (by omega) 0) cv_X2_220 rfl rfl rfl dX2_marks_81 ?_
                      refine gk_eqv (y := sp_mk (mo_t σ) k) (Int32.zero_add _) ?_
                      refine gk_icmp_eq 91 C dX2_marks_84 (by decide) (fun c84 => ?_) (fun c84 => ?_)
                      · have h1 : ¬ sp_fx (mo_t σ) k (x + 1) = true := by unfold sp_fx; rw [c59, Bool.true_and, decide_eq_true (Int32.not_le.mp c68), decide_eq_true c84]; decide
                        refine gk_iconst 0 C dX2_marks_91 rfl ?_
                        exact gk_eqv (by first | exact (zb_f h1).symm | exact (zb_t h1).symm) K92
                      · have h1 : sp_fx (mo_t σ) k (x + 1) = true := by unfold sp_fx; rw [c59, Bool.true_and, decide_eq_false c84, Bool.and_false]; rfl
                        refine gk_iconst 1 C dX2_marks_87 rfl ?_
                        refine gk_goto 92 C dX2_marks_88 (by decide) ?_
                        exact gk_eqv (by first | exact (zb_f h1).symm | exact (zb_t h1).symm) K92
            exact L51 0 (Nat.zero_le _)
          · refine gk_if_le 45 C dX2_marks_38 (by decide) (fun c38 => ?_) (fun c38 => ?_)
            · refine gk_iconst 0 C dX2_marks_45 rfl ?_
              exact gk_eqv (by first | exact (zb_f (by unfold sp_fx; rw [decide_eq_true_eq]; exact Int32.not_lt.mpr c38)).symm | exact (zb_t (by unfold sp_fx; rw [decide_eq_true_eq]; exact Int32.not_le.mp c38)).symm) K46
            · refine gk_iconst 1 C dX2_marks_41 rfl ?_
              refine gk_goto 46 C dX2_marks_42 (by decide) ?_
              exact gk_eqv (by first | exact (zb_f (by unfold sp_fx; rw [decide_eq_true_eq]; exact Int32.not_lt.mpr c38)).symm | exact (zb_t (by unfold sp_fx; rw [decide_eq_true_eq]; exact Int32.not_le.mp c38)).symm) K46
      exact L25 0 (Nat.zero_le _)
    · rw [zb_n] at c15
      refine gk_bipush (-3) C dX2_marks_18 rfl ?_
      exact gk_iret C E dX2_marks_20 rfl rfl ⟨vi ((if_neg (fun z => z c5)).trans (if_neg (by rw [nI_ti (by omega)]; omega))).symm, by rw [if_pos c5]⟩
  · rw [zb_n] at c5
    refine gk_iconst (-1) C dX2_marks_8 rfl ?_
    exact gk_iret C E dX2_marks_9 rfl rfl ⟨vi (if_pos c5).symm, by rw [if_neg c5]⟩
set_option maxHeartbeats 4000000 in
theorem mo_which (l : Launch) (Γ : gk_E) (h : Nat) (ad : Nat → Nat) (σ : mo_S) (n : Nat) (hn : n ≤ 8) (e : σ.1 1 = nI n) (L : Nat) (hL : L ≤ 24) (eL : σ.1 12 = nI L) (lt : Nat) (hlt : lt ≤ 5) (eT : σ.1 18 = nI lt) (hH : ∀ t, t < L → ¬ 10 * σ.2 13 t = 0) (t p : Int32) : mo_U l yX2_which (Cond.code yX2_which cX2_which 5 (some .int)) 5 [.int t, .int p] Γ h ad σ (.int (if ¬ (0 ≤ t.toInt ∧ t.toInt < L) then -1 else if t.toInt < mo_sn σ n L then sp_wh (mo_t σ) ((ct0 (mo_e σ n lt) (mo_sn σ n L)).1 t.toInt.toNat) p n else -3)) (if 0 ≤ t.toInt ∧ t.toInt < L then mo_cutS σ n L lt else σ) := by
  refine gk_M.intro gk_N0_ok (by decide) [some (.ref h), some (.int t), some (.int p), none, none] rfl rfl rfl ?_
  intro κ hl hg hN0 C E
  subst hl hg
  have C : gk_C κ cX2_which "SawLineModel" 5 0 0 := C
  refine gk_aload_n C dX2_which_0 rfl ?_
  refine gk_iload_n C dX2_which_1 rfl ?_
  refine mo_cU1 C (mo_noLine _ _ _ _ _ t L (by omega) eL) cv_X2_180 rfl rfl rfl dX2_which_2 ?_
  refine gk_if_eq 10 C dX2_which_5 (by decide) (fun c5 => ?_) (fun c5 => ?_)
  · rw [zb_0, Decidable.not_not] at c5
    have hsn := mo_sn_le σ n L
    obtain ⟨t, ht, rfl⟩ := nI_lt_ex c5
    refine gk_aload_n C dX2_which_10 rfl ?_
    refine gk_iload_n C dX2_which_11 rfl ?_
    refine mo_cU1 C (mo_isUncut _ _ _ _ _ n hn e L hL eL lt hlt eT hH t (by omega)) cv_X2_213 rfl rfl rfl dX2_which_12 ?_
    refine gk_if_eq 21 C dX2_which_15 (by decide) (fun c15 => ?_) (fun c15 => ?_)
    · rw [zb_0] at c15
      refine gk_iconst 0 C dX2_which_21 rfl ?_
      refine gk_istore_n C dX2_which_22 rfl rfl ?_
      refine gk_iconst 0 C dX2_which_23 rfl ?_
      refine gk_istore C dX2_which_24 rfl rfl ?_
      have L26 : ∀ k, k ≤ n → gk_G κ 0 0 (mo_W (gk_g κ) h ad (mo_cutS σ n L lt)) 26 [some (.ref h), some (.int (nI t)), some (.int p), some (.int (sp_wh (mo_t σ) ((ct0 (mo_e σ n lt) (mo_sn σ n L)).1 t) p k)), some (.int (nI k))] [] := by
        have hpl := mo_cutP σ n L lt t (by omega)
        refine up_ind (fun k hk ih => ?_)
        refine gk_iload C dX2_which_26 rfl ?_
        refine gk_aload_n C dX2_which_28 rfl ?_
        refine mo_g1 C dX2_which_29 ?_
        refine gk_eqv e ?_
        refine gk_icmp_ge 77 C dX2_which_32 (by decide) (fun c32 => ?_) (fun c32 => ?_)
        · obtain rfl : k = n := by have := nI_leT c32 (by omega) (by omega); omega
          refine gk_iload_n C dX2_which_77 rfl ?_
          exact gk_iret C E dX2_which_78 rfl rfl ⟨by refine vi ?_; rw [if_neg (fun z => z c5), if_pos (by rw [nI_ti (by omega)]; omega), toNat_nI (by omega)], by rw [if_pos c5]⟩
        · have c32 := nI_ngeT c32 (by omega)
          refine gk_iload_n C dX2_which_35 rfl ?_
          refine gk_aload_n C dX2_which_36 rfl ?_
          refine gk_iload C dX2_which_37 rfl ?_
          refine mo_cU1 C (mo_takesOf _ _ _ _ _ k (by omega)) cv_X2_148 rfl rfl rfl dX2_which_39 ?_
          refine gk_eqv (y := sp_tk (mo_t σ) k) rfl ?_
          refine gk_jn1 (if 0 < sp_tk (mo_t σ) k ∧ (ct0 (mo_e σ n lt) (mo_sn σ n L)).1 t + sp_mk (mo_t σ) k = p then 1 <<< (nI k &&& 31) else 0) 69 ?_ (fun K69 => ?_)
          · refine gk_ior C dX2_which_69 ?_
            refine gk_istore_n C dX2_which_70 rfl rfl ?_
            refine gk_iinc (nI (k + 1)) C dX2_which_71 rfl (nI_succ k).symm rfl rfl ?_
            refine gk_goto 26 C dX2_which_74 (by decide) ?_
            exact ih (by omega)
          · refine gk_if_le 68 C dX2_which_42 (by decide) (fun c42 => ?_) (fun c42 => ?_)
            · have h1 : ¬ (0 < sp_tk (mo_t σ) k ∧ (ct0 (mo_e σ n lt) (mo_sn σ n L)).1 t + sp_mk (mo_t σ) k = p) := fun z => Int32.not_lt.mpr c42 z.1
              refine gk_iconst 0 C dX2_which_68 rfl ?_
              exact gk_eqv (by first | exact (if_neg h1).symm | exact (if_pos h1).symm) K69
            · refine gk_aload_n C dX2_which_45 rfl ?_
              refine gk_iload C dX2_which_46 rfl ?_
              refine gk_aload_n C dX2_which_48 rfl ?_
              refine mo_g21 C dX2_which_49 ?_
              refine gk_iload_n C dX2_which_52 rfl ?_
              refine mo_l21 C dX2_which_53 rfl (by omega) ?_
              refine gk_eqv hpl ?_
              refine mo_cU2 C (mo_markOf _ _ _ _ _ k (by omega) _) cv_X2_220 rfl rfl rfl dX2_which_54 ?_
              refine gk_iload_n C dX2_which_57 rfl ?_
              refine gk_icmp_ne 68 C dX2_which_58 (by decide) (fun c58 => ?_) (fun c58 => ?_)
              · have h1 : ¬ (0 < sp_tk (mo_t σ) k ∧ (ct0 (mo_e σ n lt) (mo_sn σ n L)).1 t + sp_mk (mo_t σ) k = p) := fun z => c58 z.2
                refine gk_iconst 0 C dX2_which_68 rfl ?_
                exact gk_eqv (by first | exact (if_neg h1).symm | exact (if_pos h1).symm) K69
              · have h1 : 0 < sp_tk (mo_t σ) k ∧ (ct0 (mo_e σ n lt) (mo_sn σ n L)).1 t + sp_mk (mo_t σ) k = p := ⟨Int32.not_le.mp c42, c58⟩
                refine gk_iconst 1 C dX2_which_61 rfl ?_
                refine gk_iload C dX2_which_62 rfl ?_
                refine gk_ishl C dX2_which_64 ?_
                refine gk_goto 69 C dX2_which_65 (by decide) ?_
                exact gk_eqv (by first | exact (if_neg h1).symm | exact (if_pos h1).symm) K69
      have hpl := mo_cutP σ n L lt t (by omega)
      generalize hplv : (ct0 (mo_e σ n lt) (mo_sn σ n L)).1 t = pl at hpl
      exact L26 0 (Nat.zero_le _)
    · rw [zb_n] at c15
      refine gk_bipush (-3) C dX2_which_18 rfl ?_
      exact gk_iret C E dX2_which_20 rfl rfl ⟨vi ((if_neg (fun z => z c5)).trans (if_neg (by rw [nI_ti (by omega)]; omega))).symm, by rw [if_pos c5]⟩
  · rw [zb_n] at c5
    refine gk_iconst (-1) C dX2_which_8 rfl ?_
    exact gk_iret C E dX2_which_9 rfl rfl ⟨vi (if_pos c5).symm, by rw [if_neg c5]⟩
