set_option maxRecDepth 100000
set_option maxHeartbeats 1000000 in
theorem mo_trace (l : Launch) (Γ : gk_E) (h : Nat) (ad : Nat → Nat) (σ : mo_S)  : mo_U l yX2_trace (Cond.code yX2_trace cX2_trace 1 (some .int)) 0 [] Γ h ad σ (.int (σ.1 45)) σ := by
  refine gk_M.intro gk_N0_ok (by decide) [some (.ref h)] rfl rfl rfl ?_
  intro κ hl hg hN0 C E
  subst hl hg
  have C : gk_C κ cX2_trace "SawLineModel" 0 0 0 := C
  refine gk_aload_n C dX2_trace_0 rfl ?_
  refine mo_g45 C dX2_trace_1 ?_
  exact gk_iret C E dX2_trace_4 rfl rfl ⟨rfl, rfl⟩
set_option maxHeartbeats 1000000 in
theorem mo_fault (l : Launch) (Γ : gk_E) (h : Nat) (ad : Nat → Nat) (σ : mo_S)  : mo_U l yX2_fault (Cond.code yX2_fault cX2_fault 1 (some .int)) 0 [] Γ h ad σ (.int (σ.1 0)) σ := by
  refine gk_M.intro gk_N0_ok (by decide) [some (.ref h)] rfl rfl rfl ?_
  intro κ hl hg hN0 C E
  subst hl hg
  have C : gk_C κ cX2_fault "SawLineModel" 0 0 0 := C
  refine gk_aload_n C dX2_fault_0 rfl ?_
  refine mo_g0 C dX2_fault_1 ?_
  exact gk_iret C E dX2_fault_4 rfl rfl ⟨rfl, rfl⟩
set_option maxHeartbeats 1000000 in
theorem mo_many (l : Launch) (Γ : gk_E) (h : Nat) (ad : Nat → Nat) (σ : mo_S) (n : Nat) (hn : n ≤ 8) (e : σ.1 1 = nI n) (L : Nat) (hL : L ≤ 24) (eL : σ.1 12 = nI L) (lt : Nat) (hlt : lt ≤ 5) (eT : σ.1 18 = nI lt) (hH : ∀ t, t < L → ¬ 10 * σ.2 13 t = 0) (m : Nat) (hm : m ≤ 6) (em : σ.1 24 = nI m) (R : Nat) (hR8 : R ≤ 8) (eR : σ.1 28 = nI R) (w : Int32) : mo_U l yX2_many (Cond.code yX2_many cX2_many 2 (some .int)) 4 [.int w] Γ h ad σ (.int (if w = 0 then nI n else if w = 1 then nI L else if w = 2 then nI m else if w = 3 then nI R else if w = 4 then nI (mo_sn σ n L) else -2)) (mo_cutS σ n L lt) := by
  refine gk_M.intro gk_N0_ok (by decide) [some (.ref h), some (.int w)] rfl rfl rfl ?_
  intro κ hl hg hN0 C E
  subst hl hg
  have C : gk_C κ cX2_many "SawLineModel" 4 0 0 := C
  refine gk_aload_n C dX2_many_0 rfl ?_
  refine mo_cV0 C (mo_cut _ _ _ _ _ n hn e L hL eL lt hlt eT hH) cv_X2_210 rfl rfl rfl dX2_many_1 ?_
  refine gk_iload_n C dX2_many_4 rfl ?_
  rcases sw5 w with rfl | rfl | rfl | rfl | rfl | hsw
  · refine gk_tableIn 40 C dX2_many_5 (by decide) (by decide) rfl (by decide) ?_
    refine gk_aload_n C dX2_many_40 rfl ?_
    refine mo_g1 C dX2_many_41 ?_
    refine gk_eqv e ?_
    exact gk_iret C E dX2_many_44 rfl rfl ⟨vi (if_pos rfl).symm, rfl⟩
  · refine gk_tableIn 45 C dX2_many_5 (by decide) (by decide) rfl (by decide) ?_
    refine gk_aload_n C dX2_many_45 rfl ?_
    refine mo_g12 C dX2_many_46 ?_
    refine gk_eqv eL ?_
    exact gk_iret C E dX2_many_49 rfl rfl ⟨vi ((if_neg (by decide)).trans (if_pos rfl)).symm, rfl⟩
  · refine gk_tableIn 50 C dX2_many_5 (by decide) (by decide) rfl (by decide) ?_
    refine gk_aload_n C dX2_many_50 rfl ?_
    refine mo_g24 C dX2_many_51 ?_
    refine gk_eqv em ?_
    exact gk_iret C E dX2_many_54 rfl rfl ⟨vi ((if_neg (by decide)).trans ((if_neg (by decide)).trans (if_pos rfl))).symm, rfl⟩
  · refine gk_tableIn 55 C dX2_many_5 (by decide) (by decide) rfl (by decide) ?_
    refine gk_aload_n C dX2_many_55 rfl ?_
    refine mo_g28 C dX2_many_56 ?_
    refine gk_eqv eR ?_
    exact gk_iret C E dX2_many_59 rfl rfl ⟨vi ((if_neg (by decide)).trans ((if_neg (by decide)).trans ((if_neg (by decide)).trans (if_pos rfl)))).symm, rfl⟩
  · refine gk_tableIn 60 C dX2_many_5 (by decide) (by decide) rfl (by decide) ?_
    refine gk_aload_n C dX2_many_60 rfl ?_
    refine mo_g20 C dX2_many_61 ?_
    refine gk_eqv (y := nI (mo_sn σ n L)) rfl ?_
    exact gk_iret C E dX2_many_64 rfl rfl ⟨vi ((if_neg (by decide)).trans ((if_neg (by decide)).trans ((if_neg (by decide)).trans ((if_neg (by decide)).trans (if_pos rfl))))).symm, rfl⟩
  · refine gk_tableOut 65 C dX2_many_5 hsw (by decide) ?_
    refine gk_bipush (-2) C dX2_many_65 rfl ?_
    exact gk_iret C E dX2_many_67 rfl rfl ⟨vi (by rw [if_neg (by rintro rfl; revert hsw; decide), if_neg (by rintro rfl; revert hsw; decide), if_neg (by rintro rfl; revert hsw; decide), if_neg (by rintro rfl; revert hsw; decide), if_neg (by rintro rfl; revert hsw; decide)]), rfl⟩
set_option maxHeartbeats 1000000 in
theorem mo_tell0 (l : Launch) (Γ : gk_E) (h : Nat) (ad : Nat → Nat) (σ : mo_S) (n : Nat) (hn : n ≤ 8) (e : σ.1 1 = nI n) (k : Nat) (hk : k < n) (hkd : σ.2 2 k = 0) : mo_U l yX2_tell (Cond.code yX2_tell cX2_tell 4 (some .int)) 2 [.int (nI k)] Γ h ad σ (.int (σ.2 6 k)) (mo_i σ 45 (ap_tr (σ.1 45) 1)) := by
  refine gk_M.intro gk_N0_ok (by decide) [some (.ref h), some (.int (nI k)), none, none] rfl rfl rfl ?_
  intro κ hl hg hN0 C E
  subst hl hg
  have C : gk_C κ cX2_tell "SawLineModel" 2 0 0 := C
  refine gk_aload_n C dX2_tell_0 rfl ?_
  refine gk_iload_n C dX2_tell_1 rfl ?_
  refine mo_cU1 C (mo_noTooth _ _ _ _ _ (nI k) n (by omega) e) cv_X2_151 rfl rfl rfl dX2_tell_2 ?_
  refine gk_if_eq 10 C dX2_tell_5 (by decide) (fun _ => ?_) (fun z => by first | exact absurd z (zb_0.mpr (fun z => z ⟨by rw [nI_ti (by omega)]; omega, by rw [nI_ti (by omega)]; omega⟩)) | exact absurd (zb_0.mpr (fun z => z ⟨by rw [nI_ti (by omega)]; omega, by rw [nI_ti (by omega)]; omega⟩)) z)
  refine gk_aload_n C dX2_tell_10 rfl ?_
  refine mo_g2 C dX2_tell_11 ?_
  refine gk_iload_n C dX2_tell_14 rfl ?_
  refine mo_l2 C dX2_tell_15 rfl (by omega) ?_
  refine gk_eqv hkd ?_
  refine gk_istore_n C dX2_tell_16 rfl rfl ?_
  refine gk_iload_n C dX2_tell_17 rfl ?_
  refine gk_iconst 2 C dX2_tell_18 rfl ?_
  refine gk_icmp_ne 27 C dX2_tell_19 (by decide) (fun _ => ?_) (fun z => by first | exact absurd z (by decide) | exact absurd (by decide) z)
  refine gk_iload_n C dX2_tell_27 rfl ?_
  refine gk_if_le 36 C dX2_tell_28 (by decide) (fun _ => ?_) (fun z => by first | exact absurd z (by decide) | exact absurd (by decide) z)
  refine gk_aload_n C dX2_tell_36 rfl ?_
  refine gk_iconst 1 C dX2_tell_37 rfl ?_
  refine mo_cV1 C (mo_traced _ _ _ _ _ _) cv_X2_310 rfl rfl rfl dX2_tell_38 ?_
  refine gk_iload_n C dX2_tell_41 rfl ?_
  refine gk_iconst 2 C dX2_tell_42 rfl ?_
  refine gk_icmp_ne 51 C dX2_tell_43 (by decide) (fun _ => ?_) (fun z => by first | exact absurd z (by decide) | exact absurd (by decide) z)
  refine gk_aload_n C dX2_tell_51 rfl ?_
  refine mo_g6 C dX2_tell_52 ?_
  refine gk_iload_n C dX2_tell_55 rfl ?_
  refine mo_l6 C dX2_tell_56 rfl (by omega) ?_
  refine gk_istore_n C dX2_tell_57 rfl rfl ?_
  refine gk_iload_n C dX2_tell_58 rfl ?_
  refine gk_if_ne 66 C dX2_tell_59 (by decide) (fun z => by first | exact absurd z (by decide) | exact absurd (by decide) z) (fun _ => ?_)
  refine gk_iload_n C dX2_tell_62 rfl ?_
  refine gk_goto 84 C dX2_tell_63 (by decide) ?_
  exact gk_iret C E dX2_tell_84 rfl rfl ⟨rfl, rfl⟩
set_option maxHeartbeats 1000000 in
theorem mo_tell1 (l : Launch) (Γ : gk_E) (h : Nat) (ad : Nat → Nat) (σ : mo_S) (n : Nat) (hn : n ≤ 8) (e : σ.1 1 = nI n) (k : Nat) (hk : k < n) (hkd : σ.2 2 k = 1) : mo_U l yX2_tell (Cond.code yX2_tell cX2_tell 4 (some .int)) 2 [.int (nI k)] Γ h ad σ (.int (σ.2 6 k + 100)) (mo_i σ 45 (ap_tr (ap_tr (σ.1 45) 2) 1)) := by
  refine gk_M.intro gk_N0_ok (by decide) [some (.ref h), some (.int (nI k)), none, none] rfl rfl rfl ?_
  intro κ hl hg hN0 C E
  subst hl hg
  have C : gk_C κ cX2_tell "SawLineModel" 2 0 0 := C
  refine gk_aload_n C dX2_tell_0 rfl ?_
  refine gk_iload_n C dX2_tell_1 rfl ?_
  refine mo_cU1 C (mo_noTooth _ _ _ _ _ (nI k) n (by omega) e) cv_X2_151 rfl rfl rfl dX2_tell_2 ?_
  refine gk_if_eq 10 C dX2_tell_5 (by decide) (fun _ => ?_) (fun z => by first | exact absurd z (zb_0.mpr (fun z => z ⟨by rw [nI_ti (by omega)]; omega, by rw [nI_ti (by omega)]; omega⟩)) | exact absurd (zb_0.mpr (fun z => z ⟨by rw [nI_ti (by omega)]; omega, by rw [nI_ti (by omega)]; omega⟩)) z)
  refine gk_aload_n C dX2_tell_10 rfl ?_
  refine mo_g2 C dX2_tell_11 ?_
  refine gk_iload_n C dX2_tell_14 rfl ?_
  refine mo_l2 C dX2_tell_15 rfl (by omega) ?_
  refine gk_eqv hkd ?_
  refine gk_istore_n C dX2_tell_16 rfl rfl ?_
  refine gk_iload_n C dX2_tell_17 rfl ?_
  refine gk_iconst 2 C dX2_tell_18 rfl ?_
  refine gk_icmp_ne 27 C dX2_tell_19 (by decide) (fun _ => ?_) (fun z => by first | exact absurd z (by decide) | exact absurd (by decide) z)
  refine gk_iload_n C dX2_tell_27 rfl ?_
  refine gk_if_le 36 C dX2_tell_28 (by decide) (fun z => by first | exact absurd z (by decide) | exact absurd (by decide) z) (fun _ => ?_)
  refine gk_aload_n C dX2_tell_31 rfl ?_
  refine gk_iconst 2 C dX2_tell_32 rfl ?_
  refine mo_cV1 C (mo_traced _ _ _ _ _ _) cv_X2_310 rfl rfl rfl dX2_tell_33 ?_
  refine gk_aload_n C dX2_tell_36 rfl ?_
  refine gk_iconst 1 C dX2_tell_37 rfl ?_
  refine mo_cV1 C (mo_traced _ _ _ _ _ _) cv_X2_310 rfl rfl rfl dX2_tell_38 ?_
  refine gk_iload_n C dX2_tell_41 rfl ?_
  refine gk_iconst 2 C dX2_tell_42 rfl ?_
  refine gk_icmp_ne 51 C dX2_tell_43 (by decide) (fun _ => ?_) (fun z => by first | exact absurd z (by decide) | exact absurd (by decide) z)
  refine gk_aload_n C dX2_tell_51 rfl ?_
  refine mo_g6 C dX2_tell_52 ?_
  refine gk_iload_n C dX2_tell_55 rfl ?_
  refine mo_l6 C dX2_tell_56 rfl (by omega) ?_
  refine gk_istore_n C dX2_tell_57 rfl rfl ?_
  refine gk_iload_n C dX2_tell_58 rfl ?_
  refine gk_if_ne 66 C dX2_tell_59 (by decide) (fun _ => ?_) (fun z => by first | exact absurd z (by decide) | exact absurd (by decide) z)
  refine gk_iload_n C dX2_tell_66 rfl ?_
  refine gk_iconst 1 C dX2_tell_67 rfl ?_
  refine gk_icmp_ne 78 C dX2_tell_68 (by decide) (fun z => by first | exact absurd z (by decide) | exact absurd (by decide) z) (fun _ => ?_)
  refine gk_iload_n C dX2_tell_71 rfl ?_
  refine gk_bipush 100 C dX2_tell_72 rfl ?_
  refine gk_iadd C dX2_tell_74 ?_
  refine gk_goto 84 C dX2_tell_75 (by decide) ?_
  exact gk_iret C E dX2_tell_84 rfl rfl ⟨rfl, by rw [mo_i_i]; rfl⟩
set_option maxHeartbeats 1000000 in
theorem mo_tell2 (l : Launch) (Γ : gk_E) (h : Nat) (ad : Nat → Nat) (σ : mo_S) (n : Nat) (hn : n ≤ 8) (e : σ.1 1 = nI n) (k : Nat) (hk : k < n) (hkd : σ.2 2 k = 2) : mo_U l yX2_tell (Cond.code yX2_tell cX2_tell 4 (some .int)) 2 [.int (nI k)] Γ h ad σ (.int (2 * σ.2 6 k + 100)) (mo_i σ 45 (ap_tr (ap_tr (ap_tr (ap_tr (σ.1 45) 3) 2) 1) 1)) := by
  refine gk_M.intro gk_N0_ok (by decide) [some (.ref h), some (.int (nI k)), none, none] rfl rfl rfl ?_
  intro κ hl hg hN0 C E
  subst hl hg
  have C : gk_C κ cX2_tell "SawLineModel" 2 0 0 := C
  refine gk_aload_n C dX2_tell_0 rfl ?_
  refine gk_iload_n C dX2_tell_1 rfl ?_
  refine mo_cU1 C (mo_noTooth _ _ _ _ _ (nI k) n (by omega) e) cv_X2_151 rfl rfl rfl dX2_tell_2 ?_
  refine gk_if_eq 10 C dX2_tell_5 (by decide) (fun _ => ?_) (fun z => by first | exact absurd z (zb_0.mpr (fun z => z ⟨by rw [nI_ti (by omega)]; omega, by rw [nI_ti (by omega)]; omega⟩)) | exact absurd (zb_0.mpr (fun z => z ⟨by rw [nI_ti (by omega)]; omega, by rw [nI_ti (by omega)]; omega⟩)) z)
  refine gk_aload_n C dX2_tell_10 rfl ?_
  refine mo_g2 C dX2_tell_11 ?_
  refine gk_iload_n C dX2_tell_14 rfl ?_
  refine mo_l2 C dX2_tell_15 rfl (by omega) ?_
  refine gk_eqv hkd ?_
  refine gk_istore_n C dX2_tell_16 rfl rfl ?_
  refine gk_iload_n C dX2_tell_17 rfl ?_
  refine gk_iconst 2 C dX2_tell_18 rfl ?_
  refine gk_icmp_ne 27 C dX2_tell_19 (by decide) (fun z => by first | exact absurd z (by decide) | exact absurd (by decide) z) (fun _ => ?_)
  refine gk_aload_n C dX2_tell_22 rfl ?_
  refine gk_iconst 3 C dX2_tell_23 rfl ?_
  refine mo_cV1 C (mo_traced _ _ _ _ _ _) cv_X2_310 rfl rfl rfl dX2_tell_24 ?_
  refine gk_iload_n C dX2_tell_27 rfl ?_
  refine gk_if_le 36 C dX2_tell_28 (by decide) (fun z => by first | exact absurd z (by decide) | exact absurd (by decide) z) (fun _ => ?_)
  refine gk_aload_n C dX2_tell_31 rfl ?_
  refine gk_iconst 2 C dX2_tell_32 rfl ?_
  refine mo_cV1 C (mo_traced _ _ _ _ _ _) cv_X2_310 rfl rfl rfl dX2_tell_33 ?_
  refine gk_aload_n C dX2_tell_36 rfl ?_
  refine gk_iconst 1 C dX2_tell_37 rfl ?_
  refine mo_cV1 C (mo_traced _ _ _ _ _ _) cv_X2_310 rfl rfl rfl dX2_tell_38 ?_
  refine gk_iload_n C dX2_tell_41 rfl ?_
  refine gk_iconst 2 C dX2_tell_42 rfl ?_
  refine gk_icmp_ne 51 C dX2_tell_43 (by decide) (fun z => by first | exact absurd z (by decide) | exact absurd (by decide) z) (fun _ => ?_)
  refine gk_aload_n C dX2_tell_46 rfl ?_
  refine gk_iconst 1 C dX2_tell_47 rfl ?_
  refine mo_cV1 C (mo_traced _ _ _ _ _ _) cv_X2_310 rfl rfl rfl dX2_tell_48 ?_
  refine gk_aload_n C dX2_tell_51 rfl ?_
  refine mo_g6 C dX2_tell_52 ?_
  refine gk_iload_n C dX2_tell_55 rfl ?_
  refine mo_l6 C dX2_tell_56 rfl (by omega) ?_
  refine gk_istore_n C dX2_tell_57 rfl rfl ?_
  refine gk_iload_n C dX2_tell_58 rfl ?_
  refine gk_if_ne 66 C dX2_tell_59 (by decide) (fun _ => ?_) (fun z => by first | exact absurd z (by decide) | exact absurd (by decide) z)
  refine gk_iload_n C dX2_tell_66 rfl ?_
  refine gk_iconst 1 C dX2_tell_67 rfl ?_
  refine gk_icmp_ne 78 C dX2_tell_68 (by decide) (fun _ => ?_) (fun z => by first | exact absurd z (by decide) | exact absurd (by decide) z)
  refine gk_iconst 2 C dX2_tell_78 rfl ?_
  refine gk_iload_n C dX2_tell_79 rfl ?_
  refine gk_imul C dX2_tell_80 ?_
  refine gk_bipush 100 C dX2_tell_81 rfl ?_
  refine gk_iadd C dX2_tell_83 ?_
  exact gk_iret C E dX2_tell_84 rfl rfl ⟨rfl, by rw [mo_i_i, mo_i_i, mo_i_i]; rfl⟩
set_option maxHeartbeats 1000000 in
theorem mo_tellN (l : Launch) (Γ : gk_E) (h : Nat) (ad : Nat → Nat) (σ : mo_S) (n : Nat) (hn : n ≤ 8) (e : σ.1 1 = nI n) (k : Int32) (hk : ¬ (0 ≤ k.toInt ∧ k.toInt < n)) : mo_U l yX2_tell (Cond.code yX2_tell cX2_tell 4 (some .int)) 2 [.int k] Γ h ad σ (.int (-1)) σ := by
  refine gk_M.intro gk_N0_ok (by decide) [some (.ref h), some (.int k), none, none] rfl rfl rfl ?_
  intro κ hl hg hN0 C E
  subst hl hg
  have C : gk_C κ cX2_tell "SawLineModel" 2 0 0 := C
  refine gk_aload_n C dX2_tell_0 rfl ?_
  refine gk_iload_n C dX2_tell_1 rfl ?_
  refine mo_cU1 C (mo_noTooth _ _ _ _ _ k n (by omega) e) cv_X2_151 rfl rfl rfl dX2_tell_2 ?_
  refine gk_if_eq 10 C dX2_tell_5 (by decide) (fun z => by first | exact absurd z (zb_n.mpr hk) | exact absurd (zb_n.mpr hk) z) (fun _ => ?_)
  refine gk_iconst (-1) C dX2_tell_8 rfl ?_
  exact gk_iret C E dX2_tell_9 rfl rfl ⟨rfl, rfl⟩
set_option maxHeartbeats 1000000 in
theorem mo_joint (l : Launch) (Γ : gk_E) (h : Nat) (ad : Nat → Nat) (σ : mo_S) (n : Nat) (hn : n ≤ 8) (e : σ.1 1 = nI n) (k : Int32) : mo_U l yX2_joint (Cond.code yX2_joint cX2_joint 2 (some .int)) 2 [.int k] Γ h ad σ (.int (if ¬ (0 ≤ k.toInt ∧ k.toInt < n) then -1 else if σ.2 2 k.toInt.toNat = 2 then 70 else k)) (if ¬ (0 ≤ k.toInt ∧ k.toInt < n) then σ else mo_i σ 45 (ap_tr (σ.1 45) (if σ.2 2 k.toInt.toNat = 2 then 5 else 4))) := by
  refine gk_M.intro gk_N0_ok (by decide) [some (.ref h), some (.int k)] rfl rfl rfl ?_
  intro κ hl hg hN0 C E
  subst hl hg
  have C : gk_C κ cX2_joint "SawLineModel" 2 0 0 := C
  refine gk_aload_n C dX2_joint_0 rfl ?_
  refine gk_iload_n C dX2_joint_1 rfl ?_
  refine mo_cU1 C (mo_noTooth _ _ _ _ _ k n (by omega) e) cv_X2_151 rfl rfl rfl dX2_joint_2 ?_
  refine gk_if_eq 10 C dX2_joint_5 (by decide) (fun c5 => ?_) (fun c5 => ?_)
  · rw [zb_0, Decidable.not_not] at c5
    obtain ⟨k, hk, rfl⟩ := nI_lt_ex c5
    refine gk_aload_n C dX2_joint_10 rfl ?_
    refine gk_aload_n C dX2_joint_11 rfl ?_
    refine mo_g2 C dX2_joint_12 ?_
    refine gk_iload_n C dX2_joint_15 rfl ?_
    refine mo_l2 C dX2_joint_16 rfl (by omega) ?_
    refine gk_iconst 2 C dX2_joint_17 rfl ?_
    refine gk_jn2 (if σ.2 2 k = 2 then (5 : Int32) else 4) 26 ?_ (fun K26 => ?_)
    · refine mo_cV1 C (mo_traced _ _ _ _ _ _) cv_X2_310 rfl rfl rfl dX2_joint_26 ?_
      refine gk_aload_n C dX2_joint_29 rfl ?_
      refine mo_g2 C dX2_joint_30 ?_
      refine gk_iload_n C dX2_joint_33 rfl ?_
      refine mo_l2 C dX2_joint_34 rfl (by omega) ?_
      refine gk_eqv (y := σ.2 2 k) rfl ?_
      refine gk_iconst 2 C dX2_joint_35 rfl ?_
      refine gk_icmp_ne 44 C dX2_joint_36 (by decide) (fun c36 => ?_) (fun c36 => ?_)
      · refine gk_iload_n C dX2_joint_44 rfl ?_
        exact gk_iret C E dX2_joint_45 rfl rfl ⟨vi (by rw [if_neg (show ¬ ¬ _ from fun z => z c5), toNat_nI (by omega)]; first | rw [if_pos c36] | rw [if_neg c36]), by rw [if_neg (show ¬ ¬ _ from fun z => z c5), toNat_nI (by omega)]; rfl⟩
      · refine gk_bipush 70 C dX2_joint_39 rfl ?_
        refine gk_goto 45 C dX2_joint_41 (by decide) ?_
        exact gk_iret C E dX2_joint_45 rfl rfl ⟨vi (by rw [if_neg (show ¬ ¬ _ from fun z => z c5), toNat_nI (by omega)]; first | rw [if_pos c36] | rw [if_neg c36]), by rw [if_neg (show ¬ ¬ _ from fun z => z c5), toNat_nI (by omega)]; rfl⟩
    · refine gk_icmp_ne 25 C dX2_joint_18 (by decide) (fun c18 => ?_) (fun c18 => ?_)
      · refine gk_iconst 4 C dX2_joint_25 rfl ?_
        exact gk_eqv (by first | exact (if_neg c18).symm | exact (if_pos c18).symm) K26
      · refine gk_iconst 5 C dX2_joint_21 rfl ?_
        refine gk_goto 26 C dX2_joint_22 (by decide) ?_
        exact gk_eqv (by first | exact (if_neg c18).symm | exact (if_pos c18).symm) K26
  · rw [zb_n] at c5
    refine gk_iconst (-1) C dX2_joint_8 rfl ?_
    exact gk_iret C E dX2_joint_9 rfl rfl ⟨vi (if_pos c5).symm, by rw [if_pos c5]⟩
set_option maxHeartbeats 1000000 in
theorem mo_as (l : Launch) (Γ : gk_E) (h : Nat) (ad : Nat → Nat) (σ : mo_S) (n : Nat) (hn : n ≤ 8) (e : σ.1 1 = nI n) (k w : Int32) : mo_U l yX2_as (Cond.code yX2_as cX2_as 3 (some .int)) 2 [.int k, .int w] Γ h ad σ (.int (if ¬ (0 ≤ k.toInt ∧ k.toInt < n) then -1 else if ¬ (0 ≤ w.toInt ∧ w.toInt ≤ 2) then -2 else if w ≤ σ.2 2 k.toInt.toNat then 1 else -12)) (mo_i σ 0 (if (0 ≤ k.toInt ∧ k.toInt < n) ∧ (0 ≤ w.toInt ∧ w.toInt ≤ 2) ∧ ¬ w ≤ σ.2 2 k.toInt.toNat then 2 else 0)) := by
  refine gk_M.intro gk_N0_ok (by decide) [some (.ref h), some (.int k), some (.int w)] rfl rfl rfl ?_
  intro κ hl hg hN0 C E
  subst hl hg
  have C : gk_C κ cX2_as "SawLineModel" 2 0 0 := C
  refine gk_aload_n C dX2_as_0 rfl ?_
  refine gk_iload_n C dX2_as_1 rfl ?_
  refine mo_cU1 C (mo_noTooth _ _ _ _ _ k n (by omega) e) cv_X2_151 rfl rfl rfl dX2_as_2 ?_
  refine gk_if_eq 14 C dX2_as_5 (by decide) (fun c5 => ?_) (fun c5 => ?_)
  · rw [zb_0, Decidable.not_not] at c5
    obtain ⟨k, hk, rfl⟩ := nI_lt_ex c5
    refine gk_iload_n C dX2_as_14 rfl ?_
    refine gk_i2l C dX2_as_15 ?_
    refine gk_lconst 0 C dX2_as_16 rfl ?_
    refine gk_ldc2 C q1235 dX2_as_17 ?_
    refine gk_cP3 C (mo_in3 _ w 0 2 0 2 rfl rfl) cs_X2_105 rfl (Nat.zero_le _) (Nat.zero_le _) rfl dX2_as_20 ?_
    refine gk_if_ne 33 C dX2_as_23 (by decide) (fun c23 => ?_) (fun c23 => ?_)
    · rw [zb_n] at c23
      refine gk_aload_n C dX2_as_33 rfl ?_
      refine mo_g2 C dX2_as_34 ?_
      refine gk_iload_n C dX2_as_37 rfl ?_
      refine mo_l2 C dX2_as_38 rfl (by omega) ?_
      refine gk_iload_n C dX2_as_39 rfl ?_
      refine gk_icmp_lt 51 C dX2_as_40 (by decide) (fun c40 => ?_) (fun c40 => ?_)
      · have c40 := Int32.not_le.mpr c40
        refine gk_aload_n C dX2_as_51 rfl ?_
        refine gk_iconst 2 C dX2_as_52 rfl ?_
        refine mo_cU1 C (mo_failed _ _ _ _ _ _) cv_X2_109 rfl rfl rfl dX2_as_53 ?_
        exact gk_iret C E dX2_as_56 rfl rfl ⟨vi (by rw [if_neg (show ¬ ¬ _ from fun z => z c5), if_neg (show ¬ ¬ _ from fun z => z c23), toNat_nI (by omega)]; first | rw [if_pos c40] | (rw [if_neg c40]; rfl)), by first | rw [if_neg (fun z => z.2.2 (by rw [toNat_nI (by omega)]; exact c40))] | rw [if_pos ⟨c5, c23, by rw [toNat_nI (by omega)]; exact c40⟩]⟩
      · have c40 := Int32.not_lt.mp c40
        refine gk_aload_n C dX2_as_43 rfl ?_
        refine gk_iconst 1 C dX2_as_44 rfl ?_
        refine mo_cU1 C (mo_refused _ _ _ _ _ _) cv_X2_99 rfl rfl rfl dX2_as_45 ?_
        refine gk_goto 56 C dX2_as_48 (by decide) ?_
        exact gk_iret C E dX2_as_56 rfl rfl ⟨vi (by rw [if_neg (show ¬ ¬ _ from fun z => z c5), if_neg (show ¬ ¬ _ from fun z => z c23), toNat_nI (by omega)]; first | rw [if_pos c40] | (rw [if_neg c40]; rfl)), by first | rw [if_neg (fun z => z.2.2 (by rw [toNat_nI (by omega)]; exact c40))] | rw [if_pos ⟨c5, c23, by rw [toNat_nI (by omega)]; exact c40⟩]⟩
    · rw [zb_0] at c23
      refine gk_aload_n C dX2_as_26 rfl ?_
      refine gk_bipush (-2) C dX2_as_27 rfl ?_
      refine mo_cU1 C (mo_refused _ _ _ _ _ _) cv_X2_99 rfl rfl rfl dX2_as_29 ?_
      exact gk_iret C E dX2_as_32 rfl rfl ⟨vi ((if_neg (show ¬ ¬ _ from fun z => z c5)).trans (if_pos c23)).symm, by rw [if_neg (fun z => c23 z.2.1)]⟩
  · rw [zb_n] at c5
    refine gk_aload_n C dX2_as_8 rfl ?_
    refine gk_iconst (-1) C dX2_as_9 rfl ?_
    refine mo_cU1 C (mo_refused _ _ _ _ _ _) cv_X2_99 rfl rfl rfl dX2_as_10 ?_
    exact gk_iret C E dX2_as_13 rfl rfl ⟨vi (if_pos c5).symm, by rw [if_neg (fun z => c5 z.1)]⟩
set_option maxHeartbeats 1000000 in
theorem mo_isBeyond (l : Launch) (i n a : Int32) : gk_P l yX2_isBeyond (Cond.code yX2_isBeyond cX2_isBeyond 4 (some .boolean)) 0 [.int i, .long n.toInt64, .int a] (.int (zb (i.toInt < 0 ∨ n.toInt < 0 ∨ a.toInt < i.toInt + n.toInt))) := by
  intro Γ
  refine gk_M.intro gk_N0_ok (by decide) [some (.int i), some (.long n.toInt64), none, some (.int a)] rfl rfl rfl ?_
  intro κ hl hg hN0 C E
  subst hl hg
  have C : gk_C κ cX2_isBeyond "SawLineModel" 0 0 0 := C
  refine gk_iload_n C dX2_isBeyond_0 rfl ?_
  refine gk_if_lt 20 C dX2_isBeyond_1 (by decide) (fun c1 => ?_) (fun c1 => ?_)
  · rw [Int32.lt_iff_toInt_lt, Int32.toInt_zero] at c1
    refine gk_iconst 1 C dX2_isBeyond_20 rfl ?_
    refine gk_goto 25 C dX2_isBeyond_21 (by decide) ?_
    exact gk_zret C E dX2_isBeyond_25 rfl rfl (by first | exact narrow_b1 | exact narrow_b0 | exact zb_nb) ⟨by first | exact vi (zb_t (by omega)).symm | exact vi (zb_f (by omega)).symm, rfl⟩
  · rw [Int32.lt_iff_toInt_lt, Int32.toInt_zero] at c1
    refine gk_lload_n C dX2_isBeyond_4 rfl ?_
    refine gk_lconst 0 C dX2_isBeyond_5 rfl ?_
    refine gk_lcmp C dX2_isBeyond_6 ?_
    refine gk_if_lt 20 C dX2_isBeyond_7 (by decide) (fun c7 => ?_) (fun c7 => ?_)
    · rw [lg_cmp_lt, Int64.lt_iff_toInt_lt, i64_i, Int64.toInt_zero] at c7
      refine gk_iconst 1 C dX2_isBeyond_20 rfl ?_
      refine gk_goto 25 C dX2_isBeyond_21 (by decide) ?_
      exact gk_zret C E dX2_isBeyond_25 rfl rfl (by first | exact narrow_b1 | exact narrow_b0 | exact zb_nb) ⟨by first | exact vi (zb_t (by omega)).symm | exact vi (zb_f (by omega)).symm, rfl⟩
    · rw [lg_cmp_lt, Int64.lt_iff_toInt_lt, i64_i, Int64.toInt_zero] at c7
      refine gk_iload_n C dX2_isBeyond_10 rfl ?_
      refine gk_i2l C dX2_isBeyond_11 ?_
      refine gk_lload_n C dX2_isBeyond_12 rfl ?_
      refine gk_ladd C dX2_isBeyond_13 ?_
      refine gk_iload_n C dX2_isBeyond_14 rfl ?_
      refine gk_i2l C dX2_isBeyond_15 ?_
      refine gk_lcmp C dX2_isBeyond_16 ?_
      refine gk_if_le 24 C dX2_isBeyond_17 (by decide) (fun c17 => ?_) (fun c17 => ?_)
      · rw [lg_cmp_le, Int64.le_iff_toInt_le, i64_add, i64_i] at c17
        refine gk_iconst 0 C dX2_isBeyond_24 rfl ?_
        exact gk_zret C E dX2_isBeyond_25 rfl rfl (by first | exact narrow_b1 | exact narrow_b0 | exact zb_nb) ⟨by first | exact vi (zb_t (by omega)).symm | exact vi (zb_f (by omega)).symm, rfl⟩
      · rw [lg_cmp_le, Int64.le_iff_toInt_le, i64_add, i64_i] at c17
        refine gk_iconst 1 C dX2_isBeyond_20 rfl ?_
        refine gk_goto 25 C dX2_isBeyond_21 (by decide) ?_
        exact gk_zret C E dX2_isBeyond_25 rfl rfl (by first | exact narrow_b1 | exact narrow_b0 | exact zb_nb) ⟨by first | exact vi (zb_t (by omega)).symm | exact vi (zb_f (by omega)).symm, rfl⟩
set_option maxHeartbeats 4000000 in
theorem mo_barred (l : Launch) (Γ : gk_E) (h : Nat) (ad : Nat → Nat) (σ : mo_S) (k la i n : Int32) : mo_U l yX2_barred (Cond.code yX2_barred cX2_barred 6 (some .int)) 2 [.int k, .int la, .int i, .long n.toInt64] Γ h ad σ (.int (ba_v (ba_c (σ.2 41) (σ.2 42) k la i n))) (if (ba_c (σ.2 41) (σ.2 42) k la i n) = 0 then σ else mo_i σ 0 (ba_f (ba_c (σ.2 41) (σ.2 42) k la i n))) := by
  refine gk_M.intro gk_N0_ok (by decide) [some (.ref h), some (.int k), some (.int la), some (.int i), some (.long n.toInt64), none] rfl rfl rfl ?_
  intro κ hl hg hN0 C E
  subst hl hg
  have C : gk_C κ cX2_barred "SawLineModel" 2 0 0 := C
  refine gk_iload_n C dX2_barred_0 rfl ?_
  refine gk_cP1 C (mo_noSheet _ k) cs_X2_95 rfl (Nat.zero_le _) (Nat.zero_le _) rfl dX2_barred_1 ?_
  refine gk_if_eq 13 C dX2_barred_4 (by decide) (fun c4 => ?_) (fun c4 => ?_)
  · rw [zb_0, Decidable.not_not] at c4
    obtain ⟨k, hk, rfl⟩ := nI_btw (x := k) (n := 3) c4.1 c4.2
    have hkt : (nI k).toInt.toNat = k := toNat_nI (by omega)
    refine gk_iload_n C dX2_barred_13 rfl ?_
    refine gk_i2l C dX2_barred_14 ?_
    refine gk_lconst 0 C dX2_barred_15 rfl ?_
    refine gk_ldc2 C q1235 dX2_barred_16 ?_
    refine gk_cP3 C (mo_in3 _ la 0 2 0 2 rfl rfl) cs_X2_105 rfl (Nat.zero_le _) (Nat.zero_le _) rfl dX2_barred_19 ?_
    refine gk_if_ne 32 C dX2_barred_22 (by decide) (fun c22 => ?_) (fun c22 => ?_)
    · rw [zb_n] at c22
      have hc : (ba_c (σ.2 41) (σ.2 42) (nI k) la i n) = _ := (if_neg (show ¬ ¬ _ from fun z => z c4)).trans (if_neg (show ¬ ¬ _ from fun z => z c22))
      rw [hkt] at hc
      refine gk_aload_n C dX2_barred_32 rfl ?_
      refine mo_g41 C dX2_barred_33 ?_
      refine gk_iload_n C dX2_barred_36 rfl ?_
      refine mo_l41 C dX2_barred_37 rfl (by omega) ?_
      refine gk_if_lt 57 C dX2_barred_38 (by decide) (fun c38 => ?_) (fun c38 => ?_)
      · rw [if_neg (fun z => Int32.not_le.mpr c38 z.1)] at hc
        refine gk_aload_n C dX2_barred_57 rfl ?_
        refine mo_g41 C dX2_barred_58 ?_
        refine gk_iload_n C dX2_barred_61 rfl ?_
        refine mo_l41 C dX2_barred_62 rfl (by omega) ?_
        refine gk_if_ge 72 C dX2_barred_63 (by decide) (fun c63 => ?_) (fun c63 => ?_)
        · rw [if_neg (Int32.not_lt.mpr c63)] at hc
          refine gk_lload C dX2_barred_72 rfl ?_
          refine gk_lconst 0 C dX2_barred_74 rfl ?_
          refine gk_lcmp C dX2_barred_75 ?_
          refine gk_if_ge 85 C dX2_barred_76 (by decide) (fun c76 => ?_) (fun c76 => ?_)
          · rw [lg_cmp_ge, Int64.le_iff_toInt_le, i64_i, Int64.toInt_zero] at c76
            rw [if_neg (by omega)] at hc
            refine gk_iload_n C dX2_barred_85 rfl ?_
            refine gk_lload C dX2_barred_86 rfl ?_
            refine gk_aload_n C dX2_barred_88 rfl ?_
            refine mo_g41 C dX2_barred_89 ?_
            refine gk_iload_n C dX2_barred_92 rfl ?_
            refine mo_l41 C dX2_barred_93 rfl (by omega) ?_
            refine gk_cP3 C (mo_isBeyond _ i n _) cs_X2_112 rfl (Nat.zero_le _) (Nat.zero_le _) rfl dX2_barred_94 ?_
            refine gk_if_eq 108 C dX2_barred_97 (by decide) (fun c97 => ?_) (fun c97 => ?_)
            · rw [zb_0] at c97
              rw [if_neg c97] at hc
              refine gk_iconst 0 C dX2_barred_108 rfl ?_
              exact gk_iret C E dX2_barred_109 rfl rfl ⟨vi (by rw [hc]; rfl), by rw [hc]; rfl⟩
            · rw [zb_n] at c97
              rw [if_pos c97] at hc
              refine gk_aload_n C dX2_barred_100 rfl ?_
              refine gk_iconst 3 C dX2_barred_101 rfl ?_
              refine mo_cU1 C (mo_failed _ _ _ _ _ _) cv_X2_109 rfl rfl rfl dX2_barred_102 ?_
              refine gk_goto 109 C dX2_barred_105 (by decide) ?_
              exact gk_iret C E dX2_barred_109 rfl rfl ⟨vi (by rw [hc]; rfl), by rw [hc]; rfl⟩
          · rw [lg_cmp_ge, Int64.le_iff_toInt_le, i64_i, Int64.toInt_zero] at c76
            rw [if_pos (by omega)] at hc
            refine gk_aload_n C dX2_barred_79 rfl ?_
            refine gk_iconst 4 C dX2_barred_80 rfl ?_
            refine mo_cU1 C (mo_failed _ _ _ _ _ _) cv_X2_109 rfl rfl rfl dX2_barred_81 ?_
            exact gk_iret C E dX2_barred_84 rfl rfl ⟨vi (by rw [hc]; rfl), by rw [hc]; rfl⟩
        · rw [if_pos (Int32.not_le.mp c63)] at hc
          refine gk_aload_n C dX2_barred_66 rfl ?_
          refine gk_iconst 1 C dX2_barred_67 rfl ?_
          refine mo_cU1 C (mo_failed _ _ _ _ _ _) cv_X2_109 rfl rfl rfl dX2_barred_68 ?_
          exact gk_iret C E dX2_barred_71 rfl rfl ⟨vi (by rw [hc]; rfl), by rw [hc]; rfl⟩
      · refine gk_aload_n C dX2_barred_41 rfl ?_
        refine mo_g42 C dX2_barred_42 ?_
        refine gk_iload_n C dX2_barred_45 rfl ?_
        refine mo_l42 C dX2_barred_46 rfl (by omega) ?_
        refine gk_iload_n C dX2_barred_47 rfl ?_
        refine gk_icmp_eq 57 C dX2_barred_48 (by decide) (fun c48 => ?_) (fun c48 => ?_)
        · rw [if_neg (fun z => z.2 c48)] at hc
          refine gk_aload_n C dX2_barred_57 rfl ?_
          refine mo_g41 C dX2_barred_58 ?_
          refine gk_iload_n C dX2_barred_61 rfl ?_
          refine mo_l41 C dX2_barred_62 rfl (by omega) ?_
          refine gk_if_ge 72 C dX2_barred_63 (by decide) (fun c63 => ?_) (fun c63 => ?_)
          · rw [if_neg (Int32.not_lt.mpr c63)] at hc
            refine gk_lload C dX2_barred_72 rfl ?_
            refine gk_lconst 0 C dX2_barred_74 rfl ?_
            refine gk_lcmp C dX2_barred_75 ?_
            refine gk_if_ge 85 C dX2_barred_76 (by decide) (fun c76 => ?_) (fun c76 => ?_)
            · rw [lg_cmp_ge, Int64.le_iff_toInt_le, i64_i, Int64.toInt_zero] at c76
              rw [if_neg (by omega)] at hc
              refine gk_iload_n C dX2_barred_85 rfl ?_
              refine gk_lload C dX2_barred_86 rfl ?_
              refine gk_aload_n C dX2_barred_88 rfl ?_
              refine mo_g41 C dX2_barred_89 ?_
              refine gk_iload_n C dX2_barred_92 rfl ?_
              refine mo_l41 C dX2_barred_93 rfl (by omega) ?_
              refine gk_cP3 C (mo_isBeyond _ i n _) cs_X2_112 rfl (Nat.zero_le _) (Nat.zero_le _) rfl dX2_barred_94 ?_
              refine gk_if_eq 108 C dX2_barred_97 (by decide) (fun c97 => ?_) (fun c97 => ?_)
              · rw [zb_0] at c97
                rw [if_neg c97] at hc
                refine gk_iconst 0 C dX2_barred_108 rfl ?_
                exact gk_iret C E dX2_barred_109 rfl rfl ⟨vi (by rw [hc]; rfl), by rw [hc]; rfl⟩
              · rw [zb_n] at c97
                rw [if_pos c97] at hc
                refine gk_aload_n C dX2_barred_100 rfl ?_
                refine gk_iconst 3 C dX2_barred_101 rfl ?_
                refine mo_cU1 C (mo_failed _ _ _ _ _ _) cv_X2_109 rfl rfl rfl dX2_barred_102 ?_
                refine gk_goto 109 C dX2_barred_105 (by decide) ?_
                exact gk_iret C E dX2_barred_109 rfl rfl ⟨vi (by rw [hc]; rfl), by rw [hc]; rfl⟩
            · rw [lg_cmp_ge, Int64.le_iff_toInt_le, i64_i, Int64.toInt_zero] at c76
              rw [if_pos (by omega)] at hc
              refine gk_aload_n C dX2_barred_79 rfl ?_
              refine gk_iconst 4 C dX2_barred_80 rfl ?_
              refine mo_cU1 C (mo_failed _ _ _ _ _ _) cv_X2_109 rfl rfl rfl dX2_barred_81 ?_
              exact gk_iret C E dX2_barred_84 rfl rfl ⟨vi (by rw [hc]; rfl), by rw [hc]; rfl⟩
          · rw [if_pos (Int32.not_le.mp c63)] at hc
            refine gk_aload_n C dX2_barred_66 rfl ?_
            refine gk_iconst 1 C dX2_barred_67 rfl ?_
            refine mo_cU1 C (mo_failed _ _ _ _ _ _) cv_X2_109 rfl rfl rfl dX2_barred_68 ?_
            exact gk_iret C E dX2_barred_71 rfl rfl ⟨vi (by rw [hc]; rfl), by rw [hc]; rfl⟩
        · rw [if_pos ⟨Int32.not_lt.mp c38, c48⟩] at hc
          refine gk_aload_n C dX2_barred_51 rfl ?_
          refine gk_iconst 2 C dX2_barred_52 rfl ?_
          refine mo_cU1 C (mo_failed _ _ _ _ _ _) cv_X2_109 rfl rfl rfl dX2_barred_53 ?_
          exact gk_iret C E dX2_barred_56 rfl rfl ⟨vi (by rw [hc]; rfl), by rw [hc]; rfl⟩
    · rw [zb_0] at c22
      have hc : (ba_c (σ.2 41) (σ.2 42) (nI k) la i n) = 2 := (if_neg (show ¬ ¬ _ from fun z => z c4)).trans (if_pos c22)
      refine gk_aload_n C dX2_barred_25 rfl ?_
      refine gk_bipush (-2) C dX2_barred_26 rfl ?_
      refine mo_cU1 C (mo_refused _ _ _ _ _ _) cv_X2_99 rfl rfl rfl dX2_barred_28 ?_
      exact gk_iret C E dX2_barred_31 rfl rfl ⟨vi (by rw [hc]; rfl), by rw [hc]; rfl⟩
  · rw [zb_n] at c4
    have hc : (ba_c (σ.2 41) (σ.2 42) k la i n) = 1 := if_pos c4
    refine gk_aload_n C dX2_barred_7 rfl ?_
    refine gk_iconst (-1) C dX2_barred_8 rfl ?_
    refine mo_cU1 C (mo_refused _ _ _ _ _ _) cv_X2_99 rfl rfl rfl dX2_barred_9 ?_
    exact gk_iret C E dX2_barred_12 rfl rfl ⟨vi (by rw [hc]; rfl), by rw [hc]; rfl⟩
