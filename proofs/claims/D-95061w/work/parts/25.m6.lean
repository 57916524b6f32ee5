set_option maxRecDepth 100000
set_option maxHeartbeats 1000000 in
theorem mo_flaw (l : Launch) (Γ : gk_E) (h : Nat) (ad : Nat → Nat) (σ : mo_S) (n : Nat) (hn : n ≤ 8) (e : σ.1 1 = nI n) (m : Nat) (hm : m ≤ 6) (em : σ.1 24 = nI m) (k w v : Int32) : mo_U l yX2_flaw (Cond.code yX2_flaw cX2_flaw 4 (some .int)) 2 [.int k, .int w, .int v] Γ h ad σ (.int (if ¬ (0 ≤ k.toInt ∧ k.toInt < n) then -1 else if ¬ ((0 ≤ w.toInt ∧ w.toInt ≤ 2) ∧ (0 ≤ v.toInt ∧ v.toInt ≤ 9)) then -2 else if m = 6 then -4 else nI m)) (if (0 ≤ k.toInt ∧ k.toInt < n) ∧ ((0 ≤ w.toInt ∧ w.toInt ≤ 2) ∧ (0 ≤ v.toInt ∧ v.toInt ≤ 9)) ∧ ¬ m = 6 then mo_i (mo_a (mo_a (mo_a σ 25 m k) 26 m w) 27 m v) 24 (nI (m + 1)) else σ) := by
  refine gk_M.intro gk_N0_ok (by decide) [some (.ref h), some (.int k), some (.int w), some (.int v)] rfl rfl rfl ?_
  intro κ hl hg hN0 C E
  subst hl hg
  have C : gk_C κ cX2_flaw "SawLineModel" 2 0 0 := C
  refine gk_aload_n C dX2_flaw_0 rfl ?_
  refine gk_iload_n C dX2_flaw_1 rfl ?_
  refine mo_cU1 C (mo_noTooth _ _ _ _ _ k n (by omega) e) cv_X2_151 rfl rfl rfl dX2_flaw_2 ?_
  refine gk_if_eq 10 C dX2_flaw_5 (by decide) (fun c5 => ?_) (fun c5 => ?_)
  · rw [zb_0, Decidable.not_not] at c5
    refine gk_iload_n C dX2_flaw_10 rfl ?_
    refine gk_i2l C dX2_flaw_11 ?_
    refine gk_lconst 0 C dX2_flaw_12 rfl ?_
    refine gk_ldc2 C q1235 dX2_flaw_13 ?_
    refine gk_cP3 C (mo_in3 _ w 0 2 0 2 rfl rfl) cs_X2_105 rfl (Nat.zero_le _) (Nat.zero_le _) rfl dX2_flaw_16 ?_
    refine gk_if_eq 34 C dX2_flaw_19 (by decide) (fun c19 => ?_) (fun c19 => ?_)
    · rw [zb_0] at c19
      refine gk_bipush (-2) C dX2_flaw_34 rfl ?_
      exact gk_iret C E dX2_flaw_36 rfl rfl ⟨vi (by rw [if_neg (fun z => z c5)]; first | rw [if_pos (fun z => c19 z.1)] | rw [if_pos (fun z => c31 z.2)]), by first | rw [if_neg (fun z => c19 z.2.1.1)] | rw [if_neg (fun z => c31 z.2.1.2)]⟩
    · rw [zb_n] at c19
      refine gk_iload_n C dX2_flaw_22 rfl ?_
      refine gk_i2l C dX2_flaw_23 ?_
      refine gk_lconst 0 C dX2_flaw_24 rfl ?_
      refine gk_ldc2 C q1254 dX2_flaw_25 ?_
      refine gk_cP3 C (mo_in3 _ v 0 9 0 9 rfl rfl) cs_X2_105 rfl (Nat.zero_le _) (Nat.zero_le _) rfl dX2_flaw_28 ?_
      refine gk_if_ne 37 C dX2_flaw_31 (by decide) (fun c31 => ?_) (fun c31 => ?_)
      · rw [zb_n] at c31
        refine gk_aload_n C dX2_flaw_37 rfl ?_
        refine mo_g24 C dX2_flaw_38 ?_
        refine gk_bipush 6 C dX2_flaw_41 rfl ?_
        rw [em]
        refine gk_icmp_ne 49 C dX2_flaw_43 (by decide) (fun c43 => ?_) (fun c43 => ?_)
        · have c43 : ¬ m = 6 := fun z => c43 (by rw [z]; rfl)
          refine gk_aload_n C dX2_flaw_49 rfl ?_
          refine mo_g25 C dX2_flaw_50 ?_
          refine gk_aload_n C dX2_flaw_53 rfl ?_
          refine mo_g24 C dX2_flaw_54 ?_
          refine gk_iload_n C dX2_flaw_57 rfl ?_
          refine mo_s25 C dX2_flaw_58 em (by omega) ?_
          refine gk_aload_n C dX2_flaw_59 rfl ?_
          refine mo_g26 C dX2_flaw_60 ?_
          refine gk_aload_n C dX2_flaw_63 rfl ?_
          refine mo_g24 C dX2_flaw_64 ?_
          refine gk_iload_n C dX2_flaw_67 rfl ?_
          refine mo_s26 C dX2_flaw_68 em (by omega) ?_
          refine gk_aload_n C dX2_flaw_69 rfl ?_
          refine mo_g27 C dX2_flaw_70 ?_
          refine gk_aload_n C dX2_flaw_73 rfl ?_
          refine mo_g24 C dX2_flaw_74 ?_
          refine gk_iload_n C dX2_flaw_77 rfl ?_
          refine mo_s27 C dX2_flaw_78 em (by omega) ?_
          refine gk_aload_n C dX2_flaw_79 rfl ?_
          refine gk_dup C dX2_flaw_80 rfl ?_
          refine mo_g24 C dX2_flaw_81 ?_
          refine gk_iconst 1 C dX2_flaw_84 rfl ?_
          refine gk_iadd C dX2_flaw_85 ?_
          refine gk_eqv (y := nI (m + 1)) ((congrArg (· + 1) em).trans (nI_1 m)) ?_
          refine mo_p24 C dX2_flaw_86 ?_
          refine gk_aload_n C dX2_flaw_89 rfl ?_
          refine mo_g24 C dX2_flaw_90 ?_
          refine gk_iconst 1 C dX2_flaw_93 rfl ?_
          refine gk_isub C dX2_flaw_94 ?_
          refine gk_eqv (y := nI m) (nI_pred m) ?_
          exact gk_iret C E dX2_flaw_95 rfl rfl ⟨vi (by rw [if_neg (fun z => z c5), if_neg (fun z => z ⟨c19, c31⟩), if_neg c43]), by rw [if_pos ⟨c5, ⟨c19, c31⟩, c43⟩]⟩
        · have c43 : m = 6 := (nI_eq (b := 6) (by omega) (by omega)).mp c43
          refine gk_bipush (-4) C dX2_flaw_46 rfl ?_
          exact gk_iret C E dX2_flaw_48 rfl rfl ⟨vi (by rw [if_neg (fun z => z c5), if_neg (fun z => z ⟨c19, c31⟩), if_pos c43]), by rw [if_neg (fun z => z.2.2 c43)]⟩
      · rw [zb_0] at c31
        refine gk_bipush (-2) C dX2_flaw_34 rfl ?_
        exact gk_iret C E dX2_flaw_36 rfl rfl ⟨vi (by rw [if_neg (fun z => z c5)]; first | rw [if_pos (fun z => c19 z.1)] | rw [if_pos (fun z => c31 z.2)]), by first | rw [if_neg (fun z => c19 z.2.1.1)] | rw [if_neg (fun z => c31 z.2.1.2)]⟩
  · rw [zb_n] at c5
    refine gk_iconst (-1) C dX2_flaw_8 rfl ?_
    exact gk_iret C E dX2_flaw_9 rfl rfl ⟨vi (if_pos c5).symm, by rw [if_neg (fun z => c5 z.1)]⟩
set_option maxHeartbeats 1000000 in
theorem mo_ofFlaw (l : Launch) (Γ : gk_E) (h : Nat) (ad : Nat → Nat) (σ : mo_S) (m : Nat) (hm : m ≤ 6) (em : σ.1 24 = nI m) (q w : Int32) : mo_U l yX2_ofFlaw (Cond.code yX2_ofFlaw cX2_ofFlaw 3 (some .int)) 2 [.int q, .int w] Γ h ad σ (.int (if ¬ (0 ≤ q.toInt ∧ q.toInt < m) then -1 else if w = 0 then σ.2 25 q.toInt.toNat else if w = 1 then σ.2 26 q.toInt.toNat else if w = 2 then σ.2 27 q.toInt.toNat else -2)) σ := by
  refine gk_M.intro gk_N0_ok (by decide) [some (.ref h), some (.int q), some (.int w)] rfl rfl rfl ?_
  intro κ hl hg hN0 C E
  subst hl hg
  have C : gk_C κ cX2_ofFlaw "SawLineModel" 2 0 0 := C
  refine gk_aload_n C dX2_ofFlaw_0 rfl ?_
  refine gk_iload_n C dX2_ofFlaw_1 rfl ?_
  refine mo_cU1 C (mo_noFlaw _ _ _ _ _ q m (by omega) em) cv_X2_225 rfl rfl rfl dX2_ofFlaw_2 ?_
  refine gk_if_eq 10 C dX2_ofFlaw_5 (by decide) (fun c5 => ?_) (fun c5 => ?_)
  · rw [zb_0, Decidable.not_not] at c5
    obtain ⟨q, hq, rfl⟩ := nI_lt_ex c5
    refine gk_iload_n C dX2_ofFlaw_10 rfl ?_
    refine gk_if_ne 23 C dX2_ofFlaw_11 (by decide) (fun c11 => ?_) (fun c11 => ?_)
    · refine gk_iload_n C dX2_ofFlaw_23 rfl ?_
      refine gk_iconst 1 C dX2_ofFlaw_24 rfl ?_
      refine gk_icmp_ne 37 C dX2_ofFlaw_25 (by decide) (fun c25 => ?_) (fun c25 => ?_)
      · refine gk_iload_n C dX2_ofFlaw_37 rfl ?_
        refine gk_iconst 2 C dX2_ofFlaw_38 rfl ?_
        refine gk_icmp_ne 51 C dX2_ofFlaw_39 (by decide) (fun c39 => ?_) (fun c39 => ?_)
        · refine gk_bipush (-2) C dX2_ofFlaw_51 rfl ?_
          exact gk_iret C E dX2_ofFlaw_53 rfl rfl ⟨vi (by rw [if_neg (fun z => z c5), toNat_nI (by omega)]; first | rw [if_pos c11] | rw [if_neg c11, if_pos c25] | rw [if_neg c11, if_neg c25, if_pos c39] | rw [if_neg c11, if_neg c25, if_neg c39]), rfl⟩
        · refine gk_aload_n C dX2_ofFlaw_42 rfl ?_
          refine mo_g27 C dX2_ofFlaw_43 ?_
          refine gk_iload_n C dX2_ofFlaw_46 rfl ?_
          refine mo_l27 C dX2_ofFlaw_47 rfl (by omega) ?_
          refine gk_goto 53 C dX2_ofFlaw_48 (by decide) ?_
          exact gk_iret C E dX2_ofFlaw_53 rfl rfl ⟨vi (by rw [if_neg (fun z => z c5), toNat_nI (by omega)]; first | rw [if_pos c11] | rw [if_neg c11, if_pos c25] | rw [if_neg c11, if_neg c25, if_pos c39] | rw [if_neg c11, if_neg c25, if_neg c39]), rfl⟩
      · refine gk_aload_n C dX2_ofFlaw_28 rfl ?_
        refine mo_g26 C dX2_ofFlaw_29 ?_
        refine gk_iload_n C dX2_ofFlaw_32 rfl ?_
        refine mo_l26 C dX2_ofFlaw_33 rfl (by omega) ?_
        refine gk_goto 53 C dX2_ofFlaw_34 (by decide) ?_
        exact gk_iret C E dX2_ofFlaw_53 rfl rfl ⟨vi (by rw [if_neg (fun z => z c5), toNat_nI (by omega)]; first | rw [if_pos c11] | rw [if_neg c11, if_pos c25] | rw [if_neg c11, if_neg c25, if_pos c39] | rw [if_neg c11, if_neg c25, if_neg c39]), rfl⟩
    · refine gk_aload_n C dX2_ofFlaw_14 rfl ?_
      refine mo_g25 C dX2_ofFlaw_15 ?_
      refine gk_iload_n C dX2_ofFlaw_18 rfl ?_
      refine mo_l25 C dX2_ofFlaw_19 rfl (by omega) ?_
      refine gk_goto 53 C dX2_ofFlaw_20 (by decide) ?_
      exact gk_iret C E dX2_ofFlaw_53 rfl rfl ⟨vi (by rw [if_neg (fun z => z c5), toNat_nI (by omega)]; first | rw [if_pos c11] | rw [if_neg c11, if_pos c25] | rw [if_neg c11, if_neg c25, if_pos c39] | rw [if_neg c11, if_neg c25, if_neg c39]), rfl⟩
  · rw [zb_n] at c5
    refine gk_iconst (-1) C dX2_ofFlaw_8 rfl ?_
    exact gk_iret C E dX2_ofFlaw_9 rfl rfl ⟨vi (if_pos c5).symm, rfl⟩
set_option maxHeartbeats 1000000 in
theorem mo_reading (l : Launch) (Γ : gk_E) (h : Nat) (ad : Nat → Nat) (σ : mo_S) (L : Nat) (hL : L ≤ 24) (eL : σ.1 12 = nI L) (R : Nat) (hR8 : R ≤ 8) (eR : σ.1 28 = nI R) (t p : Int32) : mo_U l yX2_reading (Cond.code yX2_reading cX2_reading 3 (some .int)) 2 [.int t, .int p] Γ h ad σ (.int (if ¬ (0 ≤ t.toInt ∧ t.toInt < L) then -1 else if R = 8 then -4 else nI R)) (if (0 ≤ t.toInt ∧ t.toInt < L) ∧ ¬ R = 8 then mo_i (mo_a (mo_a σ 29 R t) 30 R p) 28 (nI (R + 1)) else σ) := by
  refine gk_M.intro gk_N0_ok (by decide) [some (.ref h), some (.int t), some (.int p)] rfl rfl rfl ?_
  intro κ hl hg hN0 C E
  subst hl hg
  have C : gk_C κ cX2_reading "SawLineModel" 2 0 0 := C
  refine gk_aload_n C dX2_reading_0 rfl ?_
  refine gk_iload_n C dX2_reading_1 rfl ?_
  refine mo_cU1 C (mo_noLine _ _ _ _ _ t L (by omega) eL) cv_X2_180 rfl rfl rfl dX2_reading_2 ?_
  refine gk_if_eq 10 C dX2_reading_5 (by decide) (fun c5 => ?_) (fun c5 => ?_)
  · rw [zb_0, Decidable.not_not] at c5
    refine gk_aload_n C dX2_reading_10 rfl ?_
    refine mo_g28 C dX2_reading_11 ?_
    refine gk_bipush 8 C dX2_reading_14 rfl ?_
    rw [eR]
    refine gk_icmp_ne 22 C dX2_reading_16 (by decide) (fun c16 => ?_) (fun c16 => ?_)
    · have c16 : ¬ R = 8 := fun z => c16 (by rw [z]; rfl)
      refine gk_aload_n C dX2_reading_22 rfl ?_
      refine mo_g29 C dX2_reading_23 ?_
      refine gk_aload_n C dX2_reading_26 rfl ?_
      refine mo_g28 C dX2_reading_27 ?_
      refine gk_iload_n C dX2_reading_30 rfl ?_
      refine mo_s29 C dX2_reading_31 eR (by omega) ?_
      refine gk_aload_n C dX2_reading_32 rfl ?_
      refine mo_g30 C dX2_reading_33 ?_
      refine gk_aload_n C dX2_reading_36 rfl ?_
      refine mo_g28 C dX2_reading_37 ?_
      refine gk_iload_n C dX2_reading_40 rfl ?_
      refine mo_s30 C dX2_reading_41 eR (by omega) ?_
      refine gk_aload_n C dX2_reading_42 rfl ?_
      refine gk_dup C dX2_reading_43 rfl ?_
      refine mo_g28 C dX2_reading_44 ?_
      refine gk_iconst 1 C dX2_reading_47 rfl ?_
      refine gk_iadd C dX2_reading_48 ?_
      refine gk_eqv (y := nI (R + 1)) ((congrArg (· + 1) eR).trans (nI_1 R)) ?_
      refine mo_p28 C dX2_reading_49 ?_
      refine gk_aload_n C dX2_reading_52 rfl ?_
      refine mo_g28 C dX2_reading_53 ?_
      refine gk_iconst 1 C dX2_reading_56 rfl ?_
      refine gk_isub C dX2_reading_57 ?_
      refine gk_eqv (y := nI R) (nI_pred R) ?_
      exact gk_iret C E dX2_reading_58 rfl rfl ⟨vi (by rw [if_neg (fun z => z c5), if_neg c16]), by rw [if_pos ⟨c5, c16⟩]⟩
    · have c16 : R = 8 := (nI_eq (b := 8) (by omega) (by omega)).mp c16
      refine gk_bipush (-4) C dX2_reading_19 rfl ?_
      exact gk_iret C E dX2_reading_21 rfl rfl ⟨vi (by rw [if_neg (fun z => z c5), if_pos c16]), by rw [if_neg (fun z => z.2 c16)]⟩
  · rw [zb_n] at c5
    refine gk_iconst (-1) C dX2_reading_8 rfl ?_
    exact gk_iret C E dX2_reading_9 rfl rfl ⟨vi (if_pos c5).symm, by rw [if_neg (fun z => c5 z.1)]⟩
set_option maxHeartbeats 1000000 in
theorem mo_back (l : Launch) (Γ : gk_E) (h : Nat) (ad : Nat → Nat) (σ : mo_S) (R : Nat) (hR8 : R ≤ 8) (eR : σ.1 28 = nI R) (k : Int32) : mo_U l yX2_back (Cond.code yX2_back cX2_back 2 (some .int)) 2 [.int k] Γ h ad σ (.int (if 0 ≤ k.toInt ∧ k.toInt ≤ R then nI R - k else -2)) (if 0 ≤ k.toInt ∧ k.toInt ≤ R then mo_i σ 28 (nI R - k) else σ) := by
  refine gk_M.intro gk_N0_ok (by decide) [some (.ref h), some (.int k)] rfl rfl rfl ?_
  intro κ hl hg hN0 C E
  subst hl hg
  have C : gk_C κ cX2_back "SawLineModel" 2 0 0 := C
  refine gk_iload_n C dX2_back_0 rfl ?_
  refine gk_i2l C dX2_back_1 ?_
  refine gk_lconst 0 C dX2_back_2 rfl ?_
  refine gk_aload_n C dX2_back_3 rfl ?_
  refine mo_g28 C dX2_back_4 ?_
  rw [eR]
  refine gk_i2l C dX2_back_7 ?_
  refine gk_cP3 C (mo_in3 _ k 0 (nI R).toInt64 0 R rfl (by rw [i64_i, nI_ti (by omega)])) cs_X2_105 rfl (Nat.zero_le _) (Nat.zero_le _) rfl dX2_back_8 ?_
  refine gk_if_ne 17 C dX2_back_11 (by decide) (fun c11 => ?_) (fun c11 => ?_)
  · rw [zb_n] at c11
    refine gk_aload_n C dX2_back_17 rfl ?_
    refine gk_dup C dX2_back_18 rfl ?_
    refine mo_g28 C dX2_back_19 ?_
    rw [eR]
    refine gk_iload_n C dX2_back_22 rfl ?_
    refine gk_isub C dX2_back_23 ?_
    refine mo_p28 C dX2_back_24 ?_
    refine gk_aload_n C dX2_back_27 rfl ?_
    refine mo_g28 C dX2_back_28 ?_
    exact gk_iret C E dX2_back_31 rfl rfl ⟨by first | exact vi (if_pos c11).symm | exact vi (if_neg c11).symm, by first | rw [if_pos c11] | rw [if_neg c11]⟩
  · rw [zb_0] at c11
    refine gk_bipush (-2) C dX2_back_14 rfl ?_
    exact gk_iret C E dX2_back_16 rfl rfl ⟨by first | exact vi (if_pos c11).symm | exact vi (if_neg c11).symm, by first | rw [if_pos c11] | rw [if_neg c11]⟩
set_option maxHeartbeats 4000000 in
theorem mo_doesFit (l : Launch) (Γ : gk_E) (h : Nat) (ad : Nat → Nat) (σ : mo_S) (n : Nat) (hn : n ≤ 8) (e : σ.1 1 = nI n) (L : Nat) (hL : L ≤ 24) (eL : σ.1 12 = nI L) (lt : Nat) (hlt : lt ≤ 5) (eT : σ.1 18 = nI lt) (hH : ∀ t, t < L → ¬ 10 * σ.2 13 t = 0) (R : Nat) (hR8 : R ≤ 8) (eR : σ.1 28 = nI R) (hR : ∀ x, x < R → ∃ t, t < L ∧ σ.2 29 x = nI t) : mo_U l yX2_doesFit (Cond.code yX2_doesFit cX2_doesFit 3 (some .boolean)) 4 [] Γ h ad σ (.int (zb (cf_ft (mo_c σ n L lt) (mo_t σ) (σ.2 29) (σ.2 30) R = true))) (mo_cutS σ n L lt) := by
  refine gk_M.intro gk_N0_ok (by decide) [some (.ref h), none, none] rfl rfl rfl ?_
  intro κ hl hg hN0 C E
  subst hl hg
  have C : gk_C κ cX2_doesFit "SawLineModel" 4 0 0 := C
  refine gk_aload_n C dX2_doesFit_0 rfl ?_
  refine mo_cV0 C (mo_cut _ _ _ _ _ n hn e L hL eL lt hlt eT hH) cv_X2_210 rfl rfl rfl dX2_doesFit_1 ?_
  refine gk_iconst 1 C dX2_doesFit_4 rfl ?_
  refine gk_istore_n C dX2_doesFit_5 rfl rfl ?_
  refine gk_iconst 0 C dX2_doesFit_6 rfl ?_
  refine gk_istore_n C dX2_doesFit_7 rfl rfl ?_
  have L8 : ∀ x, x ≤ R → gk_G κ 0 0 (mo_W (gk_g κ) h ad (mo_cutS σ n L lt)) 8 [some (.ref h), some (.int (zb (cf_ft (mo_c σ n L lt) (mo_t σ) (σ.2 29) (σ.2 30) x = true))), some (.int (nI x))] [] := by
    refine up_ind (fun x hx ih => ?_)
    refine gk_iload_n C dX2_doesFit_8 rfl ?_
    refine gk_aload_n C dX2_doesFit_9 rfl ?_
    refine mo_g28 C dX2_doesFit_10 ?_
    refine gk_eqv eR ?_
    refine gk_icmp_ge 65 C dX2_doesFit_13 (by decide) (fun c13 => ?_) (fun c13 => ?_)
    · obtain rfl : x = R := by have := nI_leT c13 (by omega) (by omega); omega
      refine gk_iload_n C dX2_doesFit_65 rfl ?_
      exact gk_zret C E dX2_doesFit_66 rfl rfl zb_nb ⟨rfl, rfl⟩
    · have c13 := nI_ngeT c13 (by omega)
      obtain ⟨t, htL, ht⟩ := hR x c13
      have hsn := mo_sn_le σ n L
      have hft : cf_ft (mo_c σ n L lt) (mo_t σ) (σ.2 29) (σ.2 30) (x + 1) = (cf_ft (mo_c σ n L lt) (mo_t σ) (σ.2 29) (σ.2 30) x && (decide (σ.2 29 x < nI (mo_sn σ n L)) && decide (cf_p (mo_c σ n L lt) (mo_t σ) (σ.2 29 x).toInt.toNat = σ.2 30 x))) := rfl
      refine gk_iload_n C dX2_doesFit_16 rfl ?_
      refine gk_jn1 (zb (cf_ft (mo_c σ n L lt) (mo_t σ) (σ.2 29) (σ.2 30) (x + 1) = true)) 58 ?_ (fun K58 => ?_)
      · refine gk_istore_n C dX2_doesFit_58 rfl rfl ?_
        refine gk_iinc (nI (x + 1)) C dX2_doesFit_59 rfl (nI_succ x).symm rfl rfl ?_
        refine gk_goto 8 C dX2_doesFit_62 (by decide) ?_
        exact ih c13
      · refine gk_if_eq 57 C dX2_doesFit_17 (by decide) (fun c17 => ?_) (fun c17 => ?_)
        · rw [zb_0] at c17
          have h1 : ¬ cf_ft (mo_c σ n L lt) (mo_t σ) (σ.2 29) (σ.2 30) (x + 1) = true := by rw [hft, Bool.and_eq_true]; exact fun z => c17 z.1
          refine gk_iconst 0 C dX2_doesFit_57 rfl ?_
          exact gk_eqv (by first | exact (zb_f h1).symm | exact (zb_t h1).symm) K58
        · rw [zb_n] at c17
          refine gk_aload_n C dX2_doesFit_20 rfl ?_
          refine mo_g29 C dX2_doesFit_21 ?_
          refine gk_iload_n C dX2_doesFit_24 rfl ?_
          refine mo_l29 C dX2_doesFit_25 rfl (by omega) ?_
          refine gk_eqv (y := σ.2 29 x) rfl ?_
          refine gk_aload_n C dX2_doesFit_26 rfl ?_
          refine mo_g20 C dX2_doesFit_27 ?_
          refine gk_eqv (y := nI (mo_sn σ n L)) rfl ?_
          refine gk_icmp_ge 57 C dX2_doesFit_30 (by decide) (fun c30 => ?_) (fun c30 => ?_)
          · have h1 : ¬ cf_ft (mo_c σ n L lt) (mo_t σ) (σ.2 29) (σ.2 30) (x + 1) = true := by rw [hft, Bool.and_eq_true, Bool.and_eq_true, decide_eq_true_eq]; exact fun z => Int32.not_lt.mpr c30 z.2.1
            refine gk_iconst 0 C dX2_doesFit_57 rfl ?_
            exact gk_eqv (by first | exact (zb_f h1).symm | exact (zb_t h1).symm) K58
          · have c30b : t < mo_sn σ n L := nI_ltT (by rw [← ht]; exact Int32.not_le.mp c30) (by omega) (by omega)
            refine gk_aload_n C dX2_doesFit_33 rfl ?_
            refine mo_g21 C dX2_doesFit_34 ?_
            refine gk_aload_n C dX2_doesFit_37 rfl ?_
            refine mo_g29 C dX2_doesFit_38 ?_
            refine gk_iload_n C dX2_doesFit_41 rfl ?_
            refine mo_l29 C dX2_doesFit_42 rfl (by omega) ?_
            refine gk_eqv (y := nI t) ht ?_
            refine mo_l21 C dX2_doesFit_43 rfl (by omega) ?_
            refine gk_eqv (y := cf_p (mo_c σ n L lt) (mo_t σ) (σ.2 29 x).toInt.toNat) (by rw [ht, toNat_nI (by omega)]; exact mo_cutP σ n L lt t c30b) ?_
            refine gk_aload_n C dX2_doesFit_44 rfl ?_
            refine mo_g30 C dX2_doesFit_45 ?_
            refine gk_iload_n C dX2_doesFit_48 rfl ?_
            refine mo_l30 C dX2_doesFit_49 rfl (by omega) ?_
            refine gk_eqv (y := σ.2 30 x) rfl ?_
            refine gk_icmp_ne 57 C dX2_doesFit_50 (by decide) (fun c50 => ?_) (fun c50 => ?_)
            · have h1 : ¬ cf_ft (mo_c σ n L lt) (mo_t σ) (σ.2 29) (σ.2 30) (x + 1) = true := by rw [hft, Bool.and_eq_true, Bool.and_eq_true, decide_eq_true_eq, decide_eq_true_eq]; exact fun z => c50 z.2.2
              refine gk_iconst 0 C dX2_doesFit_57 rfl ?_
              exact gk_eqv (by first | exact (zb_f h1).symm | exact (zb_t h1).symm) K58
            · have h1 : cf_ft (mo_c σ n L lt) (mo_t σ) (σ.2 29) (σ.2 30) (x + 1) = true := by rw [hft, c17, decide_eq_true (Int32.not_le.mp c30), decide_eq_true c50]; rfl
              refine gk_iconst 1 C dX2_doesFit_53 rfl ?_
              refine gk_goto 58 C dX2_doesFit_54 (by decide) ?_
              exact gk_eqv (by first | exact (zb_f h1).symm | exact (zb_t h1).symm) K58
  exact L8 0 (Nat.zero_le _)
theorem mo_a_hi (σ : mo_S) (w k : Nat) (hw : w ≤ 2) (v : Int32) (j : Nat) (hj : 7 ≤ j) : (mo_a σ (w + 4) k v).2 j = σ.2 j := by
  show va_up σ.2 (w + 4) _ j = σ.2 j
  unfold va_up
  rw [if_neg (by omega)]
theorem mo_t_ch (σ : mo_S) (w k : Nat) (hw : w ≤ 2) (v : Int32) : mo_t (mo_a σ (w + 4) k v) = sp_ch (mo_t σ) k w v := by
  funext i j
  rcases (show w = 0 ∨ w = 1 ∨ w = 2 by omega) with rfl | rfl | rfl
  · match i with
    | 0 => rfl
    | 1 => rfl
    | 2 => unfold sp_ch; simp only [true_and]; rfl
    | 3 => rfl
    | 4 => rfl
    | i + 5 => unfold sp_ch; rw [if_neg (by omega)]; rfl
  · match i with
    | 0 => rfl
    | 1 => rfl
    | 2 => rfl
    | 3 => unfold sp_ch; simp only [true_and]; rfl
    | 4 => rfl
    | i + 5 => unfold sp_ch; rw [if_neg (by omega)]; rfl
  · match i with
    | 0 => rfl
    | 1 => rfl
    | 2 => rfl
    | 3 => rfl
    | 4 => unfold sp_ch; simp only [true_and]; rfl
    | i + 5 => unfold sp_ch; rw [if_neg (by omega)]; rfl
theorem mo_b_ch (σ : mo_S) (w k : Nat) (hw : w ≤ 2) (v : Int32) : mo_b (mo_a σ (w + 4) k v) = mo_b σ := by
  unfold mo_b
  rw [mo_a_hi σ w k hw v 13 (by decide), mo_a_hi σ w k hw v 14 (by decide), mo_a_hi σ w k hw v 15 (by decide)]
theorem mo_c_ch (σ : mo_S) (w k : Nat) (hw : w ≤ 2) (v : Int32) (n L lt : Nat) : mo_c (mo_a σ (w + 4) k v) n L lt = mo_c σ n L lt := by
  unfold mo_c
  rw [mo_b_ch σ w k hw v]
  rfl
/-- a change taken back behind a cut -/
theorem mo_undo (σ : mo_S) (w k : Nat) (hw : w ≤ 2) (v : Int32) (o : Int32) (P H : Nat → Int32) (f : Int32) : mo_a (mo_st (mo_a σ (w + 4) k v) o P H f) (w + 4) k (σ.2 (w + 4) k) = mo_st σ o P H f := by
  rw [mo_st_a _ _ _ _ _ _ _ _ (by omega) (by omega), mo_a_a, mo_a_id]
set_option maxHeartbeats 4000000 in
theorem mo_doFit0 (l : Launch) (Γ : gk_E) (h : Nat) (ad : Nat → Nat) (σ : mo_S) (n : Nat) (hn : n ≤ 8) (e : σ.1 1 = nI n) (L : Nat) (hL : L ≤ 24) (eL : σ.1 12 = nI L) (lt : Nat) (hlt : lt ≤ 5) (eT : σ.1 18 = nI lt) (hH : ∀ t, t < L → ¬ 10 * σ.2 13 t = 0) (R : Nat) (hR8 : R ≤ 8) (eR : σ.1 28 = nI R) (hR : ∀ x, x < R → ∃ t, t < L ∧ σ.2 29 x = nI t) (m : Nat) (hm : m ≤ 6) (em : σ.1 24 = nI m) (hF : ∀ q, q < m → ∃ k w, k < n ∧ w ≤ 2 ∧ σ.2 25 q = nI k ∧ σ.2 26 q = nI w) : mo_X l yX2_doFit (Cond.code yX2_doFit cX2_doFit 6 (some .boolean)) 5 [.int (-9), .int (-9)] Γ h ad σ (fun v σ1 => v = .int (zb (cf_ft (mo_c σ n L lt) (mo_t σ) (σ.2 29) (σ.2 30) R = true)) ∧ mo_j σ σ1) := by
  refine gk_M.intro gk_N0_ok (by decide) [some (.ref h), some (.int (-9)), some (.int (-9)), none, none, none] rfl rfl rfl ?_
  intro κ hl hg hN0 C E
  subst hl hg
  have C : gk_C κ cX2_doFit "SawLineModel" 5 0 0 := C
  have h13 : σ.2 13 = σ.2 13 := rfl
  have h29 : σ.2 29 = σ.2 29 := rfl
  have h30 : σ.2 30 = σ.2 30 := rfl
  have htau : mo_t σ = (mo_t σ) := by
    rfl
  have hc : mo_c σ n L lt = mo_c σ n L lt := by rfl
  refine gk_iload_n C dX2_doFit_0 rfl ?_
  refine gk_if_ge 8 C dX2_doFit_1 (by decide) (fun z => by first | exact absurd z (by decide) | exact absurd (by decide) z) (fun _ => ?_)
  refine gk_iconst 0 C dX2_doFit_4 rfl ?_
  refine gk_goto 30 C dX2_doFit_5 (by decide) ?_
  refine gk_istore_n C dX2_doFit_30 rfl rfl ?_
  refine gk_iload_n C dX2_doFit_31 rfl ?_
  refine gk_if_ge 39 C dX2_doFit_32 (by decide) (fun z => by first | exact absurd z (by decide) | exact absurd (by decide) z) (fun _ => ?_)
  refine gk_iconst 0 C dX2_doFit_35 rfl ?_
  refine gk_goto 61 C dX2_doFit_36 (by decide) ?_
  refine gk_istore C dX2_doFit_61 rfl rfl ?_
  refine gk_aload_n C dX2_doFit_63 rfl ?_
  refine mo_cU0 C (mo_doesFit _ _ _ _ σ n hn e L hL eL lt hlt eT (by rw [h13]; exact hH) R hR8 eR (by rw [h29]; exact hR)) cv_X2_228 rfl rfl rfl dX2_doFit_64 ?_
  rw [hc, htau, h29, h30]
  refine gk_istore C dX2_doFit_67 rfl rfl ?_
  refine gk_iload_n C dX2_doFit_69 rfl ?_
  refine gk_if_lt 92 C dX2_doFit_70 (by decide) (fun _ => ?_) (fun z => by first | exact absurd z (by decide) | exact absurd (by decide) z)
  refine gk_iload_n C dX2_doFit_92 rfl ?_
  refine gk_if_lt 114 C dX2_doFit_93 (by decide) (fun _ => ?_) (fun z => by first | exact absurd z (by decide) | exact absurd (by decide) z)
  refine gk_iload C dX2_doFit_114 rfl ?_
  exact gk_zret C E dX2_doFit_116 rfl rfl zb_nb ⟨_, _, rfl, rfl, rfl, ⟨_, _, _, _, rfl⟩⟩
set_option maxHeartbeats 4000000 in
theorem mo_doFit1 (l : Launch) (Γ : gk_E) (h : Nat) (ad : Nat → Nat) (σ : mo_S) (n : Nat) (hn : n ≤ 8) (e : σ.1 1 = nI n) (L : Nat) (hL : L ≤ 24) (eL : σ.1 12 = nI L) (lt : Nat) (hlt : lt ≤ 5) (eT : σ.1 18 = nI lt) (hH : ∀ t, t < L → ¬ 10 * σ.2 13 t = 0) (R : Nat) (hR8 : R ≤ 8) (eR : σ.1 28 = nI R) (hR : ∀ x, x < R → ∃ t, t < L ∧ σ.2 29 x = nI t) (m : Nat) (hm : m ≤ 6) (em : σ.1 24 = nI m) (hF : ∀ q, q < m → ∃ k w, k < n ∧ w ≤ 2 ∧ σ.2 25 q = nI k ∧ σ.2 26 q = nI w) (q : Nat) (hq : q < m) : mo_X l yX2_doFit (Cond.code yX2_doFit cX2_doFit 6 (some .boolean)) 5 [.int (nI q), .int (-9)] Γ h ad σ (fun v σ1 => v = .int (zb (cf_ft (mo_c σ n L lt) (sp_fl (σ.2 25) (σ.2 26) (σ.2 27) (mo_t σ) q) (σ.2 29) (σ.2 30) R = true)) ∧ mo_j σ σ1) := by
  refine gk_M.intro gk_N0_ok (by decide) [some (.ref h), some (.int (nI q)), some (.int (-9)), none, none, none] rfl rfl rfl ?_
  intro κ hl hg hN0 C E
  subst hl hg
  have C : gk_C κ cX2_doFit "SawLineModel" 5 0 0 := C
  obtain ⟨k1, w1, hk1, hw1, e1, f1⟩ := hF q hq
  have h13 : (mo_a σ (w1 + 4) k1 (σ.2 27 q)).2 13 = σ.2 13 := (mo_a_hi σ w1 k1 hw1 (σ.2 27 q) 13 (by decide))
  have h29 : (mo_a σ (w1 + 4) k1 (σ.2 27 q)).2 29 = σ.2 29 := (mo_a_hi σ w1 k1 hw1 (σ.2 27 q) 29 (by decide))
  have h30 : (mo_a σ (w1 + 4) k1 (σ.2 27 q)).2 30 = σ.2 30 := (mo_a_hi σ w1 k1 hw1 (σ.2 27 q) 30 (by decide))
  have htau : mo_t (mo_a σ (w1 + 4) k1 (σ.2 27 q)) = (sp_fl (σ.2 25) (σ.2 26) (σ.2 27) (mo_t σ) q) := by
    rw [mo_t_ch σ w1 k1 hw1 (σ.2 27 q)]
    unfold sp_fl
    rw [e1, f1, toNat_nI (by omega), toNat_nI (by omega)]
  have hc : mo_c (mo_a σ (w1 + 4) k1 (σ.2 27 q)) n L lt = mo_c σ n L lt := by rw [mo_c_ch σ w1 k1 hw1 (σ.2 27 q)]
  refine gk_iload_n C dX2_doFit_0 rfl ?_
  refine gk_if_ge 8 C dX2_doFit_1 (by decide) (fun _ => ?_) (fun z => by first | exact absurd z (nI_pos' (by omega)) | exact absurd (nI_pos' (by omega)) z)
  refine gk_aload_n C dX2_doFit_8 rfl ?_
  refine gk_aload_n C dX2_doFit_9 rfl ?_
  refine mo_g25 C dX2_doFit_10 ?_
  refine gk_iload_n C dX2_doFit_13 rfl ?_
  refine mo_l25 C dX2_doFit_14 rfl (by omega) ?_
  refine gk_eqv e1 ?_
  refine gk_aload_n C dX2_doFit_15 rfl ?_
  refine mo_g26 C dX2_doFit_16 ?_
  refine gk_iload_n C dX2_doFit_19 rfl ?_
  refine mo_l26 C dX2_doFit_20 rfl (by omega) ?_
  refine gk_eqv f1 ?_
  refine gk_aload_n C dX2_doFit_21 rfl ?_
  refine mo_g27 C dX2_doFit_22 ?_
  refine gk_iload_n C dX2_doFit_25 rfl ?_
  refine mo_l27 C dX2_doFit_26 rfl (by omega) ?_
  refine mo_cU3 C (mo_change _ _ _ _ _ k1 (by omega) w1 hw1 _) cv_X2_157 rfl rfl rfl dX2_doFit_27 ?_
  refine gk_istore_n C dX2_doFit_30 rfl rfl ?_
  refine gk_iload_n C dX2_doFit_31 rfl ?_
  refine gk_if_ge 39 C dX2_doFit_32 (by decide) (fun z => by first | exact absurd z (by decide) | exact absurd (by decide) z) (fun _ => ?_)
  refine gk_iconst 0 C dX2_doFit_35 rfl ?_
  refine gk_goto 61 C dX2_doFit_36 (by decide) ?_
  refine gk_istore C dX2_doFit_61 rfl rfl ?_
  refine gk_aload_n C dX2_doFit_63 rfl ?_
  refine mo_cU0 C (mo_doesFit _ _ _ _ (mo_a σ (w1 + 4) k1 (σ.2 27 q)) n hn e L hL eL lt hlt eT (by rw [h13]; exact hH) R hR8 eR (by rw [h29]; exact hR)) cv_X2_228 rfl rfl rfl dX2_doFit_64 ?_
  rw [hc, htau, h29, h30]
  refine gk_istore C dX2_doFit_67 rfl rfl ?_
  refine gk_iload_n C dX2_doFit_69 rfl ?_
  refine gk_if_lt 92 C dX2_doFit_70 (by decide) (fun _ => ?_) (fun z => by first | exact absurd z (by decide) | exact absurd (by decide) z)
  refine gk_iload_n C dX2_doFit_92 rfl ?_
  refine gk_if_lt 114 C dX2_doFit_93 (by decide) (fun z => by first | exact absurd z (nI_pos (by omega)) | exact absurd (nI_pos (by omega)) z) (fun _ => ?_)
  refine gk_aload_n C dX2_doFit_96 rfl ?_
  refine gk_aload_n C dX2_doFit_97 rfl ?_
  refine mo_g25 C dX2_doFit_98 ?_
  refine gk_iload_n C dX2_doFit_101 rfl ?_
  refine mo_l25 C dX2_doFit_102 rfl (by omega) ?_
  refine gk_eqv ((congrFun (mo_a_hi σ w1 k1 hw1 (σ.2 27 q) 25 (by decide)) q).trans e1) ?_
  refine gk_aload_n C dX2_doFit_103 rfl ?_
  refine mo_g26 C dX2_doFit_104 ?_
  refine gk_iload_n C dX2_doFit_107 rfl ?_
  refine mo_l26 C dX2_doFit_108 rfl (by omega) ?_
  refine gk_eqv ((congrFun (mo_a_hi σ w1 k1 hw1 (σ.2 27 q) 26 (by decide)) q).trans f1) ?_
  refine gk_iload_n C dX2_doFit_109 rfl ?_
  refine mo_cU3 C (mo_change _ _ _ _ _ k1 (by omega) w1 hw1 _) cv_X2_157 rfl rfl rfl dX2_doFit_110 ?_
  unfold mo_cutS
  rw [mo_undo σ w1 k1 hw1 (σ.2 27 q)]
  refine gk_pop C dX2_doFit_113 rfl ?_
  refine gk_iload C dX2_doFit_114 rfl ?_
  exact gk_zret C E dX2_doFit_116 rfl rfl zb_nb ⟨_, _, rfl, rfl, rfl, ⟨_, _, _, _, rfl⟩⟩
set_option maxHeartbeats 4000000 in
theorem mo_doFit2 (l : Launch) (Γ : gk_E) (h : Nat) (ad : Nat → Nat) (σ : mo_S) (n : Nat) (hn : n ≤ 8) (e : σ.1 1 = nI n) (L : Nat) (hL : L ≤ 24) (eL : σ.1 12 = nI L) (lt : Nat) (hlt : lt ≤ 5) (eT : σ.1 18 = nI lt) (hH : ∀ t, t < L → ¬ 10 * σ.2 13 t = 0) (R : Nat) (hR8 : R ≤ 8) (eR : σ.1 28 = nI R) (hR : ∀ x, x < R → ∃ t, t < L ∧ σ.2 29 x = nI t) (m : Nat) (hm : m ≤ 6) (em : σ.1 24 = nI m) (hF : ∀ q, q < m → ∃ k w, k < n ∧ w ≤ 2 ∧ σ.2 25 q = nI k ∧ σ.2 26 q = nI w) (q : Nat) (hq : q < m) (r : Nat) (hr : r < m) : mo_X l yX2_doFit (Cond.code yX2_doFit cX2_doFit 6 (some .boolean)) 5 [.int (nI q), .int (nI r)] Γ h ad σ (fun v σ1 => v = .int (zb (cf_ft (mo_c σ n L lt) (sp_fl (σ.2 25) (σ.2 26) (σ.2 27) (sp_fl (σ.2 25) (σ.2 26) (σ.2 27) (mo_t σ) q) r) (σ.2 29) (σ.2 30) R = true)) ∧ mo_j σ σ1) := by
  refine gk_M.intro gk_N0_ok (by decide) [some (.ref h), some (.int (nI q)), some (.int (nI r)), none, none, none] rfl rfl rfl ?_
  intro κ hl hg hN0 C E
  subst hl hg
  have C : gk_C κ cX2_doFit "SawLineModel" 5 0 0 := C
  obtain ⟨k1, w1, hk1, hw1, e1, f1⟩ := hF q hq
  obtain ⟨k2, w2, hk2, hw2, e2, f2⟩ := hF r hr
  have h13 : (mo_a (mo_a σ (w1 + 4) k1 (σ.2 27 q)) (w2 + 4) k2 (σ.2 27 r)).2 13 = σ.2 13 := ((mo_a_hi (mo_a σ (w1 + 4) k1 (σ.2 27 q)) w2 k2 hw2 (σ.2 27 r) 13 (by decide)).trans (mo_a_hi σ w1 k1 hw1 (σ.2 27 q) 13 (by decide)))
  have h29 : (mo_a (mo_a σ (w1 + 4) k1 (σ.2 27 q)) (w2 + 4) k2 (σ.2 27 r)).2 29 = σ.2 29 := ((mo_a_hi (mo_a σ (w1 + 4) k1 (σ.2 27 q)) w2 k2 hw2 (σ.2 27 r) 29 (by decide)).trans (mo_a_hi σ w1 k1 hw1 (σ.2 27 q) 29 (by decide)))
  have h30 : (mo_a (mo_a σ (w1 + 4) k1 (σ.2 27 q)) (w2 + 4) k2 (σ.2 27 r)).2 30 = σ.2 30 := ((mo_a_hi (mo_a σ (w1 + 4) k1 (σ.2 27 q)) w2 k2 hw2 (σ.2 27 r) 30 (by decide)).trans (mo_a_hi σ w1 k1 hw1 (σ.2 27 q) 30 (by decide)))
  have htau : mo_t (mo_a (mo_a σ (w1 + 4) k1 (σ.2 27 q)) (w2 + 4) k2 (σ.2 27 r)) = (sp_fl (σ.2 25) (σ.2 26) (σ.2 27) (sp_fl (σ.2 25) (σ.2 26) (σ.2 27) (mo_t σ) q) r) := by
    rw [mo_t_ch (mo_a σ (w1 + 4) k1 (σ.2 27 q)) w2 k2 hw2 (σ.2 27 r), mo_t_ch σ w1 k1 hw1 (σ.2 27 q)]
    unfold sp_fl
    rw [e1, f1, toNat_nI (by omega), toNat_nI (by omega)]
    rw [e2, f2, toNat_nI (by omega), toNat_nI (by omega)]
  have hc : mo_c (mo_a (mo_a σ (w1 + 4) k1 (σ.2 27 q)) (w2 + 4) k2 (σ.2 27 r)) n L lt = mo_c σ n L lt := by rw [mo_c_ch (mo_a σ (w1 + 4) k1 (σ.2 27 q)) w2 k2 hw2 (σ.2 27 r), mo_c_ch σ w1 k1 hw1 (σ.2 27 q)]
  refine gk_iload_n C dX2_doFit_0 rfl ?_
  refine gk_if_ge 8 C dX2_doFit_1 (by decide) (fun _ => ?_) (fun z => by first | exact absurd z (nI_pos' (by omega)) | exact absurd (nI_pos' (by omega)) z)
  refine gk_aload_n C dX2_doFit_8 rfl ?_
  refine gk_aload_n C dX2_doFit_9 rfl ?_
  refine mo_g25 C dX2_doFit_10 ?_
  refine gk_iload_n C dX2_doFit_13 rfl ?_
  refine mo_l25 C dX2_doFit_14 rfl (by omega) ?_
  refine gk_eqv e1 ?_
  refine gk_aload_n C dX2_doFit_15 rfl ?_
  refine mo_g26 C dX2_doFit_16 ?_
  refine gk_iload_n C dX2_doFit_19 rfl ?_
  refine mo_l26 C dX2_doFit_20 rfl (by omega) ?_
  refine gk_eqv f1 ?_
  refine gk_aload_n C dX2_doFit_21 rfl ?_
  refine mo_g27 C dX2_doFit_22 ?_
  refine gk_iload_n C dX2_doFit_25 rfl ?_
  refine mo_l27 C dX2_doFit_26 rfl (by omega) ?_
  refine mo_cU3 C (mo_change _ _ _ _ _ k1 (by omega) w1 hw1 _) cv_X2_157 rfl rfl rfl dX2_doFit_27 ?_
  refine gk_istore_n C dX2_doFit_30 rfl rfl ?_
  refine gk_iload_n C dX2_doFit_31 rfl ?_
  refine gk_if_ge 39 C dX2_doFit_32 (by decide) (fun _ => ?_) (fun z => by first | exact absurd z (nI_pos' (by omega)) | exact absurd (nI_pos' (by omega)) z)
  refine gk_aload_n C dX2_doFit_39 rfl ?_
  refine gk_aload_n C dX2_doFit_40 rfl ?_
  refine mo_g25 C dX2_doFit_41 ?_
  refine gk_iload_n C dX2_doFit_44 rfl ?_
  refine mo_l25 C dX2_doFit_45 rfl (by omega) ?_
  refine gk_eqv ((congrFun (mo_a_hi σ w1 k1 hw1 (σ.2 27 q) 25 (by decide)) r).trans e2) ?_
  refine gk_aload_n C dX2_doFit_46 rfl ?_
  refine mo_g26 C dX2_doFit_47 ?_
  refine gk_iload_n C dX2_doFit_50 rfl ?_
  refine mo_l26 C dX2_doFit_51 rfl (by omega) ?_
  refine gk_eqv ((congrFun (mo_a_hi σ w1 k1 hw1 (σ.2 27 q) 26 (by decide)) r).trans f2) ?_
  refine gk_aload_n C dX2_doFit_52 rfl ?_
  refine mo_g27 C dX2_doFit_53 ?_
  refine gk_iload_n C dX2_doFit_56 rfl ?_
  refine mo_l27 C dX2_doFit_57 rfl (by omega) ?_
  refine gk_eqv (y := σ.2 27 r) (congrFun (mo_a_hi σ w1 k1 hw1 (σ.2 27 q) 27 (by decide)) r) ?_
  refine mo_cU3 C (mo_change _ _ _ _ _ k2 (by omega) w2 hw2 _) cv_X2_157 rfl rfl rfl dX2_doFit_58 ?_
  refine gk_istore C dX2_doFit_61 rfl rfl ?_
  refine gk_aload_n C dX2_doFit_63 rfl ?_
  refine mo_cU0 C (mo_doesFit _ _ _ _ (mo_a (mo_a σ (w1 + 4) k1 (σ.2 27 q)) (w2 + 4) k2 (σ.2 27 r)) n hn e L hL eL lt hlt eT (by rw [h13]; exact hH) R hR8 eR (by rw [h29]; exact hR)) cv_X2_228 rfl rfl rfl dX2_doFit_64 ?_
  rw [hc, htau, h29, h30]
  refine gk_istore C dX2_doFit_67 rfl rfl ?_
  refine gk_iload_n C dX2_doFit_69 rfl ?_
  refine gk_if_lt 92 C dX2_doFit_70 (by decide) (fun z => by first | exact absurd z (nI_pos (by omega)) | exact absurd (nI_pos (by omega)) z) (fun _ => ?_)
  refine gk_aload_n C dX2_doFit_73 rfl ?_
  refine gk_aload_n C dX2_doFit_74 rfl ?_
  refine mo_g25 C dX2_doFit_75 ?_
  refine gk_iload_n C dX2_doFit_78 rfl ?_
  refine mo_l25 C dX2_doFit_79 rfl (by omega) ?_
  refine gk_eqv ((congrFun ((mo_a_hi (mo_a σ (w1 + 4) k1 (σ.2 27 q)) w2 k2 hw2 (σ.2 27 r) 25 (by decide)).trans (mo_a_hi σ w1 k1 hw1 (σ.2 27 q) 25 (by decide))) r).trans e2) ?_
  refine gk_aload_n C dX2_doFit_80 rfl ?_
  refine mo_g26 C dX2_doFit_81 ?_
  refine gk_iload_n C dX2_doFit_84 rfl ?_
  refine mo_l26 C dX2_doFit_85 rfl (by omega) ?_
  refine gk_eqv ((congrFun ((mo_a_hi (mo_a σ (w1 + 4) k1 (σ.2 27 q)) w2 k2 hw2 (σ.2 27 r) 26 (by decide)).trans (mo_a_hi σ w1 k1 hw1 (σ.2 27 q) 26 (by decide))) r).trans f2) ?_
  refine gk_iload C dX2_doFit_86 rfl ?_
  refine mo_cU3 C (mo_change _ _ _ _ _ k2 (by omega) w2 hw2 _) cv_X2_157 rfl rfl rfl dX2_doFit_88 ?_
  unfold mo_cutS
  rw [mo_undo (mo_a σ (w1 + 4) k1 (σ.2 27 q)) w2 k2 hw2 (σ.2 27 r)]
  refine gk_pop C dX2_doFit_91 rfl ?_
  refine gk_iload_n C dX2_doFit_92 rfl ?_
  refine gk_if_lt 114 C dX2_doFit_93 (by decide) (fun z => by first | exact absurd z (nI_pos (by omega)) | exact absurd (nI_pos (by omega)) z) (fun _ => ?_)
  refine gk_aload_n C dX2_doFit_96 rfl ?_
  refine gk_aload_n C dX2_doFit_97 rfl ?_
  refine mo_g25 C dX2_doFit_98 ?_
  refine gk_iload_n C dX2_doFit_101 rfl ?_
  refine mo_l25 C dX2_doFit_102 rfl (by omega) ?_
  refine gk_eqv ((congrFun (mo_a_hi σ w1 k1 hw1 (σ.2 27 q) 25 (by decide)) q).trans e1) ?_
  refine gk_aload_n C dX2_doFit_103 rfl ?_
  refine mo_g26 C dX2_doFit_104 ?_
  refine gk_iload_n C dX2_doFit_107 rfl ?_
  refine mo_l26 C dX2_doFit_108 rfl (by omega) ?_
  refine gk_eqv ((congrFun (mo_a_hi σ w1 k1 hw1 (σ.2 27 q) 26 (by decide)) q).trans f1) ?_
  refine gk_iload_n C dX2_doFit_109 rfl ?_
  refine mo_cU3 C (mo_change _ _ _ _ _ k1 (by omega) w1 hw1 _) cv_X2_157 rfl rfl rfl dX2_doFit_110 ?_
  rw [mo_undo σ w1 k1 hw1 (σ.2 27 q)]
  refine gk_pop C dX2_doFit_113 rfl ?_
  refine gk_iload C dX2_doFit_114 rfl ?_
  exact gk_zret C E dX2_doFit_116 rfl rfl zb_nb ⟨_, _, rfl, rfl, rfl, ⟨_, _, _, _, rfl⟩⟩
