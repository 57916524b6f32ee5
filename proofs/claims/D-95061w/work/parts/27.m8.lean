set_option maxRecDepth 100000
/-- the same but for the cut's own words and those about likely flaws -/
def mo_j2 (σ σ1 : mo_S) : Prop := ∃ p : lk_R, mo_j (mo_lk σ p) σ1
theorem mo_lk_id (σ : mo_S) : mo_lk σ (σ.1 31, σ.1 32, σ.2 33) = σ := by unfold mo_lk; rw [va_up_id, va_up_id, va_up_id]
theorem mo_j2.rf (σ : mo_S) : mo_j2 σ σ := ⟨_, by rw [mo_lk_id]; exact mo_j.rf σ⟩
set_option maxHeartbeats 4000000 in
theorem mo_likely (l : Launch) (Γ : gk_E) (h : Nat) (ad : Nat → Nat) (σ : mo_S) (n : Nat) (hn : n ≤ 8) (e : σ.1 1 = nI n) (L : Nat) (hL : L ≤ 24) (eL : σ.1 12 = nI L) (lt : Nat) (hlt : lt ≤ 5) (eT : σ.1 18 = nI lt) (hH : ∀ t, t < L → ¬ 10 * σ.2 13 t = 0) (R : Nat) (hR8 : R ≤ 8) (eR : σ.1 28 = nI R) (hR : ∀ x, x < R → ∃ t, t < L ∧ σ.2 29 x = nI t) (m : Nat) (hm : m ≤ 6) (em : σ.1 24 = nI m) (hF : ∀ q, q < m → ∃ k w, k < n ∧ w ≤ 2 ∧ σ.2 25 q = nI k ∧ σ.2 26 q = nI w) (w : Int32) : mo_X l yX2_likely (Cond.code yX2_likely cX2_likely 2 (some .int)) 7 [.int w] Γ h ad σ (fun v σ1 => v = .int (if ¬ (0 ≤ w.toInt ∧ w.toInt ≤ 1) then -2 else if n = 0 ∨ L = 0 then -3 else if w = 0 then (mo_lkr σ n L lt R m).1 else (mo_lkr σ n L lt R m).2.1) ∧ mo_j2 σ σ1) := by
  refine gk_M.intro gk_N0_ok (by decide) [some (.ref h), some (.int w)] rfl rfl rfl ?_
  intro κ hl hg hN0 C E
  subst hl hg
  have C : gk_C κ cX2_likely "SawLineModel" 7 0 0 := C
  refine gk_iload_n C dX2_likely_0 rfl ?_
  refine gk_i2l C dX2_likely_1 ?_
  refine gk_lconst 0 C dX2_likely_2 rfl ?_
  refine gk_lconst 1 C dX2_likely_3 rfl ?_
  refine gk_cP3 C (mo_in3 _ w 0 1 0 1 rfl rfl) cs_X2_105 rfl (Nat.zero_le _) (Nat.zero_le _) rfl dX2_likely_4 ?_
  refine gk_if_ne 13 C dX2_likely_7 (by decide) (fun c7 => ?_) (fun c7 => ?_)
  · rw [zb_n] at c7
    refine gk_aload_n C dX2_likely_13 rfl ?_
    refine mo_cU0 C (mo_isBare _ _ _ _ _) cv_X2_216 rfl rfl rfl dX2_likely_14 ?_
    rw [zb_iff (Q := n = 0 ∨ L = 0) (by rw [e, eL]; exact or_congr (nI_eq (b := 0) (by omega) (by omega)) (nI_eq (b := 0) (by omega) (by omega)))]
    refine gk_if_eq 23 C dX2_likely_17 (by decide) (fun c17 => ?_) (fun c17 => ?_)
    · rw [zb_0] at c17
      refine gk_aload_n C dX2_likely_23 rfl ?_
      refine mo_cY0 C (mo_layLikely _ _ _ _ _ n hn e L hL eL lt hlt eT hH R hR8 eR hR m hm em hF) cv_X2_240 rfl rfl rfl dX2_likely_24 ?_
      rintro σ9 ⟨o, P, H, f, rfl⟩
      refine gk_iload_n C dX2_likely_27 rfl ?_
      refine gk_if_ne 38 C dX2_likely_28 (by decide) (fun c28 => ?_) (fun c28 => ?_)
      · have h1 : (if w = 0 then (mo_lkr σ n L lt R m).1 else (mo_lkr σ n L lt R m).2.1) = (mo_lkr σ n L lt R m).2.1 := if_neg c28
        refine gk_aload_n C dX2_likely_38 rfl ?_
        refine mo_g32 C dX2_likely_39 ?_
        refine gk_eqv (y := (mo_lkr σ n L lt R m).2.1) rfl ?_
        exact gk_iret C E dX2_likely_42 rfl rfl ⟨_, _, rfl, rfl, congrArg Value.int ((if_neg (show ¬ ¬ _ from fun z => z c7)).trans ((if_neg c17).trans h1)).symm, _, ⟨_, _, _, _, rfl⟩⟩
      · have h1 : (if w = 0 then (mo_lkr σ n L lt R m).1 else (mo_lkr σ n L lt R m).2.1) = (mo_lkr σ n L lt R m).1 := if_pos c28
        refine gk_aload_n C dX2_likely_31 rfl ?_
        refine mo_g31 C dX2_likely_32 ?_
        refine gk_eqv (y := (mo_lkr σ n L lt R m).1) rfl ?_
        refine gk_goto 42 C dX2_likely_35 (by decide) ?_
        exact gk_iret C E dX2_likely_42 rfl rfl ⟨_, _, rfl, rfl, congrArg Value.int ((if_neg (show ¬ ¬ _ from fun z => z c7)).trans ((if_neg c17).trans h1)).symm, _, ⟨_, _, _, _, rfl⟩⟩
    · rw [zb_n] at c17
      refine gk_bipush (-3) C dX2_likely_20 rfl ?_
      exact gk_iret C E dX2_likely_22 rfl rfl ⟨_, _, rfl, rfl, congrArg Value.int ((if_neg (show ¬ ¬ _ from fun z => z c7)).trans (if_pos c17)).symm, mo_j2.rf σ⟩
  · rw [zb_0] at c7
    refine gk_bipush (-2) C dX2_likely_10 rfl ?_
    exact gk_iret C E dX2_likely_12 rfl rfl ⟨_, _, rfl, rfl, congrArg Value.int (if_pos c7).symm, mo_j2.rf σ⟩
set_option maxHeartbeats 4000000 in
theorem mo_each (l : Launch) (Γ : gk_E) (h : Nat) (ad : Nat → Nat) (σ : mo_S) (n : Nat) (hn : n ≤ 8) (e : σ.1 1 = nI n) (L : Nat) (hL : L ≤ 24) (eL : σ.1 12 = nI L) (lt : Nat) (hlt : lt ≤ 5) (eT : σ.1 18 = nI lt) (hH : ∀ t, t < L → ¬ 10 * σ.2 13 t = 0) (R : Nat) (hR8 : R ≤ 8) (eR : σ.1 28 = nI R) (hR : ∀ x, x < R → ∃ t, t < L ∧ σ.2 29 x = nI t) (m : Nat) (hm : m ≤ 6) (em : σ.1 24 = nI m) (hF : ∀ q, q < m → ∃ k w, k < n ∧ w ≤ 2 ∧ σ.2 25 q = nI k ∧ σ.2 26 q = nI w) (q : Int32) : mo_X l yX2_each (Cond.code yX2_each cX2_each 2 (some .int)) 7 [.int q] Γ h ad σ (fun v σ1 => v = .int (if ¬ (0 ≤ q.toInt ∧ q.toInt < m) then -1 else if n = 0 ∨ L = 0 then -3 else (mo_lkr σ n L lt R m).2.2 q.toInt.toNat) ∧ mo_j2 σ σ1) := by
  refine gk_M.intro gk_N0_ok (by decide) [some (.ref h), some (.int q)] rfl rfl rfl ?_
  intro κ hl hg hN0 C E
  subst hl hg
  have C : gk_C κ cX2_each "SawLineModel" 7 0 0 := C
  refine gk_aload_n C dX2_each_0 rfl ?_
  refine gk_iload_n C dX2_each_1 rfl ?_
  refine mo_cU1 C (mo_noFlaw _ _ _ _ _ q m (by omega) em) cv_X2_225 rfl rfl rfl dX2_each_2 ?_
  refine gk_if_eq 10 C dX2_each_5 (by decide) (fun c5 => ?_) (fun c5 => ?_)
  · rw [zb_0, Decidable.not_not] at c5
    obtain ⟨q, hq, rfl⟩ := nI_lt_ex c5
    refine gk_aload_n C dX2_each_10 rfl ?_
    refine mo_cU0 C (mo_isBare _ _ _ _ _) cv_X2_216 rfl rfl rfl dX2_each_11 ?_
    rw [zb_iff (Q := n = 0 ∨ L = 0) (by rw [e, eL]; exact or_congr (nI_eq (b := 0) (by omega) (by omega)) (nI_eq (b := 0) (by omega) (by omega)))]
    refine gk_if_eq 20 C dX2_each_14 (by decide) (fun c14 => ?_) (fun c14 => ?_)
    · rw [zb_0] at c14
      refine gk_aload_n C dX2_each_20 rfl ?_
      refine mo_cY0 C (mo_layLikely _ _ _ _ _ n hn e L hL eL lt hlt eT hH R hR8 eR hR m hm em hF) cv_X2_240 rfl rfl rfl dX2_each_21 ?_
      rintro σ9 ⟨o, P, H, f, rfl⟩
      refine gk_aload_n C dX2_each_24 rfl ?_
      refine mo_g33 C dX2_each_25 ?_
      refine gk_iload_n C dX2_each_28 rfl ?_
      refine mo_l33 C dX2_each_29 rfl (by omega) ?_
      refine gk_eqv (y := (mo_lkr σ n L lt R m).2.2 q) rfl ?_
      exact gk_iret C E dX2_each_30 rfl rfl ⟨_, _, rfl, rfl, congrArg Value.int (by rw [if_neg (show ¬ ¬ _ from fun z => z c5), if_neg c14, toNat_nI (by omega)]), _, ⟨_, _, _, _, rfl⟩⟩
    · rw [zb_n] at c14
      refine gk_bipush (-3) C dX2_each_17 rfl ?_
      exact gk_iret C E dX2_each_19 rfl rfl ⟨_, _, rfl, rfl, congrArg Value.int ((if_neg (show ¬ ¬ _ from fun z => z c5)).trans (if_pos c14)).symm, mo_j2.rf σ⟩
  · rw [zb_n] at c5
    refine gk_iconst (-1) C dX2_each_8 rfl ?_
    exact gk_iret C E dX2_each_9 rfl rfl ⟨_, _, rfl, rfl, congrArg Value.int (if_pos c5).symm, mo_j2.rf σ⟩
set_option maxHeartbeats 1000000 in
theorem mo_mayBe0 (l : Launch) (Γ : gk_E) (h : Nat) (ad : Nat → Nat) (σ : mo_S) (k : Nat) (hk : k < 8) : mo_U l yX2_mayBe (Cond.code yX2_mayBe cX2_mayBe 3 (some .boolean)) 0 [.int (nI k), .int 0] Γ h ad σ (.int (zb (ac_ok (mo_t σ) k 0 = true))) σ := by
  refine gk_M.intro gk_N0_ok (by decide) [some (.ref h), some (.int (nI k)), some (.int 0)] rfl rfl rfl ?_
  intro κ hl hg hN0 C E
  subst hl hg
  have C : gk_C κ cX2_mayBe "SawLineModel" 0 0 0 := C
  refine gk_iload_n C dX2_mayBe_0 rfl ?_
  refine gk_tableIn 28 C dX2_mayBe_1 (by decide) (by decide) rfl (by decide) ?_
  refine gk_aload_n C dX2_mayBe_28 rfl ?_
  refine mo_g6 C dX2_mayBe_29 ?_
  refine gk_iload_n C dX2_mayBe_32 rfl ?_
  refine mo_l6 C dX2_mayBe_33 rfl (by omega) ?_
  refine gk_bipush 8 C dX2_mayBe_34 rfl ?_
  refine gk_icmp_ge 52 C dX2_mayBe_36 (by decide) (fun c36 => ?_) (fun c36 => ?_)
  · have h0 : ¬ (σ.2 6 k < 8) := Int32.not_lt.mpr c36
    have hz : ¬ ac_ok (mo_t σ) k 0 = true := fun z => h0 (of_decide_eq_true (Bool.and_eq_true _ _ ▸ z : _ ∧ _).1)
    refine gk_iconst 0 C dX2_mayBe_52 rfl ?_
    exact gk_zret C E dX2_mayBe_53 rfl rfl (by first | exact narrow_b1 | exact narrow_b0 | exact zb_nb) ⟨by first | exact vi (zb_f hz).symm | exact vi (zb_t hz).symm, rfl⟩
  · have h0 : σ.2 6 k < 8 := Int32.not_le.mp c36
    refine gk_aload_n C dX2_mayBe_39 rfl ?_
    refine mo_g5 C dX2_mayBe_40 ?_
    refine gk_iload_n C dX2_mayBe_43 rfl ?_
    refine mo_l5 C dX2_mayBe_44 rfl (by omega) ?_
    refine gk_if_le 52 C dX2_mayBe_45 (by decide) (fun c45 => ?_) (fun c45 => ?_)
    · have h1 : ¬ (0 < σ.2 5 k) := Int32.not_lt.mpr c45
      have hz : ¬ ac_ok (mo_t σ) k 0 = true := fun z => h1 (of_decide_eq_true (Bool.and_eq_true _ _ ▸ z : _ ∧ _).2)
      refine gk_iconst 0 C dX2_mayBe_52 rfl ?_
      exact gk_zret C E dX2_mayBe_53 rfl rfl (by first | exact narrow_b1 | exact narrow_b0 | exact zb_nb) ⟨by first | exact vi (zb_f hz).symm | exact vi (zb_t hz).symm, rfl⟩
    · have h1 : 0 < σ.2 5 k := Int32.not_le.mp c45
      have hz : ac_ok (mo_t σ) k 0 = true := by show (_ && _) = true; rw [Bool.and_eq_true]; exact ⟨decide_eq_true h0, decide_eq_true h1⟩
      refine gk_iconst 1 C dX2_mayBe_48 rfl ?_
      refine gk_goto 53 C dX2_mayBe_49 (by decide) ?_
      exact gk_zret C E dX2_mayBe_53 rfl rfl (by first | exact narrow_b1 | exact narrow_b0 | exact zb_nb) ⟨by first | exact vi (zb_f hz).symm | exact vi (zb_t hz).symm, rfl⟩
set_option maxHeartbeats 1000000 in
theorem mo_mayBe1 (l : Launch) (Γ : gk_E) (h : Nat) (ad : Nat → Nat) (σ : mo_S) (k : Nat) (hk : k < 8) : mo_U l yX2_mayBe (Cond.code yX2_mayBe cX2_mayBe 3 (some .boolean)) 0 [.int (nI k), .int 1] Γ h ad σ (.int (zb (ac_ok (mo_t σ) k 1 = true))) σ := by
  refine gk_M.intro gk_N0_ok (by decide) [some (.ref h), some (.int (nI k)), some (.int 1)] rfl rfl rfl ?_
  intro κ hl hg hN0 C E
  subst hl hg
  have C : gk_C κ cX2_mayBe "SawLineModel" 0 0 0 := C
  refine gk_iload_n C dX2_mayBe_0 rfl ?_
  refine gk_tableIn 54 C dX2_mayBe_1 (by decide) (by decide) rfl (by decide) ?_
  refine gk_aload_n C dX2_mayBe_54 rfl ?_
  refine mo_g2 C dX2_mayBe_55 ?_
  refine gk_iload_n C dX2_mayBe_58 rfl ?_
  refine mo_l2 C dX2_mayBe_59 rfl (by omega) ?_
  refine gk_if_le 76 C dX2_mayBe_60 (by decide) (fun c60 => ?_) (fun c60 => ?_)
  · have h0 : ¬ (0 < σ.2 2 k) := Int32.not_lt.mpr c60
    have hz : ¬ ac_ok (mo_t σ) k 1 = true := fun z => h0 (of_decide_eq_true (Bool.and_eq_true _ _ ▸ z : _ ∧ _).1)
    refine gk_iconst 0 C dX2_mayBe_76 rfl ?_
    exact gk_zret C E dX2_mayBe_77 rfl rfl (by first | exact narrow_b1 | exact narrow_b0 | exact zb_nb) ⟨by first | exact vi (zb_f hz).symm | exact vi (zb_t hz).symm, rfl⟩
  · have h0 : 0 < σ.2 2 k := Int32.not_le.mp c60
    refine gk_aload_n C dX2_mayBe_63 rfl ?_
    refine mo_g4 C dX2_mayBe_64 ?_
    refine gk_iload_n C dX2_mayBe_67 rfl ?_
    refine mo_l4 C dX2_mayBe_68 rfl (by omega) ?_
    refine gk_if_le 76 C dX2_mayBe_69 (by decide) (fun c69 => ?_) (fun c69 => ?_)
    · have h1 : ¬ (0 < σ.2 4 k) := Int32.not_lt.mpr c69
      have hz : ¬ ac_ok (mo_t σ) k 1 = true := fun z => h1 (of_decide_eq_true (Bool.and_eq_true _ _ ▸ z : _ ∧ _).2)
      refine gk_iconst 0 C dX2_mayBe_76 rfl ?_
      exact gk_zret C E dX2_mayBe_77 rfl rfl (by first | exact narrow_b1 | exact narrow_b0 | exact zb_nb) ⟨by first | exact vi (zb_f hz).symm | exact vi (zb_t hz).symm, rfl⟩
    · have h1 : 0 < σ.2 4 k := Int32.not_le.mp c69
      have hz : ac_ok (mo_t σ) k 1 = true := by show (_ && _) = true; rw [Bool.and_eq_true]; exact ⟨decide_eq_true h0, decide_eq_true h1⟩
      refine gk_iconst 1 C dX2_mayBe_72 rfl ?_
      refine gk_goto 77 C dX2_mayBe_73 (by decide) ?_
      exact gk_zret C E dX2_mayBe_77 rfl rfl (by first | exact narrow_b1 | exact narrow_b0 | exact zb_nb) ⟨by first | exact vi (zb_f hz).symm | exact vi (zb_t hz).symm, rfl⟩
set_option maxHeartbeats 1000000 in
theorem mo_mayBe2 (l : Launch) (Γ : gk_E) (h : Nat) (ad : Nat → Nat) (σ : mo_S) (k : Nat) (hk : k < 8) : mo_U l yX2_mayBe (Cond.code yX2_mayBe cX2_mayBe 3 (some .boolean)) 0 [.int (nI k), .int 2] Γ h ad σ (.int (zb (ac_ok (mo_t σ) k 2 = true))) σ := by
  refine gk_M.intro gk_N0_ok (by decide) [some (.ref h), some (.int (nI k)), some (.int 2)] rfl rfl rfl ?_
  intro κ hl hg hN0 C E
  subst hl hg
  have C : gk_C κ cX2_mayBe "SawLineModel" 0 0 0 := C
  refine gk_iload_n C dX2_mayBe_0 rfl ?_
  refine gk_tableIn 78 C dX2_mayBe_1 (by decide) (by decide) rfl (by decide) ?_
  refine gk_aload_n C dX2_mayBe_78 rfl ?_
  refine mo_g2 C dX2_mayBe_79 ?_
  refine gk_iload_n C dX2_mayBe_82 rfl ?_
  refine mo_l2 C dX2_mayBe_83 rfl (by omega) ?_
  refine gk_if_le 102 C dX2_mayBe_84 (by decide) (fun c84 => ?_) (fun c84 => ?_)
  · have h0 : ¬ (0 < σ.2 2 k) := Int32.not_lt.mpr c84
    have hz : ¬ ac_ok (mo_t σ) k 2 = true := fun z => h0 (of_decide_eq_true (Bool.and_eq_true _ _ ▸ z : _ ∧ _).1)
    refine gk_iconst 0 C dX2_mayBe_102 rfl ?_
    exact gk_zret C E dX2_mayBe_103 rfl rfl (by first | exact narrow_b1 | exact narrow_b0 | exact zb_nb) ⟨by first | exact vi (zb_f hz).symm | exact vi (zb_t hz).symm, rfl⟩
  · have h0 : 0 < σ.2 2 k := Int32.not_le.mp c84
    refine gk_aload_n C dX2_mayBe_87 rfl ?_
    refine mo_g4 C dX2_mayBe_88 ?_
    refine gk_iload_n C dX2_mayBe_91 rfl ?_
    refine mo_l4 C dX2_mayBe_92 rfl (by omega) ?_
    refine gk_bipush 9 C dX2_mayBe_93 rfl ?_
    refine gk_icmp_ge 102 C dX2_mayBe_95 (by decide) (fun c95 => ?_) (fun c95 => ?_)
    · have h1 : ¬ (σ.2 4 k < 9) := Int32.not_lt.mpr c95
      have hz : ¬ ac_ok (mo_t σ) k 2 = true := fun z => h1 (of_decide_eq_true (Bool.and_eq_true _ _ ▸ z : _ ∧ _).2)
      refine gk_iconst 0 C dX2_mayBe_102 rfl ?_
      exact gk_zret C E dX2_mayBe_103 rfl rfl (by first | exact narrow_b1 | exact narrow_b0 | exact zb_nb) ⟨by first | exact vi (zb_f hz).symm | exact vi (zb_t hz).symm, rfl⟩
    · have h1 : σ.2 4 k < 9 := Int32.not_le.mp c95
      have hz : ac_ok (mo_t σ) k 2 = true := by show (_ && _) = true; rw [Bool.and_eq_true]; exact ⟨decide_eq_true h0, decide_eq_true h1⟩
      refine gk_iconst 1 C dX2_mayBe_98 rfl ?_
      refine gk_goto 103 C dX2_mayBe_99 (by decide) ?_
      exact gk_zret C E dX2_mayBe_103 rfl rfl (by first | exact narrow_b1 | exact narrow_b0 | exact zb_nb) ⟨by first | exact vi (zb_f hz).symm | exact vi (zb_t hz).symm, rfl⟩
set_option maxHeartbeats 1000000 in
theorem mo_mayBe3 (l : Launch) (Γ : gk_E) (h : Nat) (ad : Nat → Nat) (σ : mo_S) (k : Nat) (hk : k < 8) : mo_U l yX2_mayBe (Cond.code yX2_mayBe cX2_mayBe 3 (some .boolean)) 0 [.int (nI k), .int 3] Γ h ad σ (.int (zb (ac_ok (mo_t σ) k 3 = true))) σ := by
  refine gk_M.intro gk_N0_ok (by decide) [some (.ref h), some (.int (nI k)), some (.int 3)] rfl rfl rfl ?_
  intro κ hl hg hN0 C E
  subst hl hg
  have C : gk_C κ cX2_mayBe "SawLineModel" 0 0 0 := C
  refine gk_iload_n C dX2_mayBe_0 rfl ?_
  refine gk_tableOut 104 C dX2_mayBe_1 (by decide) (by decide) ?_
  refine gk_aload_n C dX2_mayBe_104 rfl ?_
  refine mo_g5 C dX2_mayBe_105 ?_
  refine gk_iload_n C dX2_mayBe_108 rfl ?_
  refine mo_l5 C dX2_mayBe_109 rfl (by omega) ?_
  refine gk_if_le 117 C dX2_mayBe_110 (by decide) (fun c110 => ?_) (fun c110 => ?_)
  · have h0 : ¬ (0 < σ.2 5 k) := Int32.not_lt.mpr c110
    have hz : ¬ ac_ok (mo_t σ) k 3 = true := fun z => h0 (of_decide_eq_true z)
    refine gk_iconst 0 C dX2_mayBe_117 rfl ?_
    exact gk_zret C E dX2_mayBe_118 rfl rfl (by first | exact narrow_b1 | exact narrow_b0 | exact zb_nb) ⟨by first | exact vi (zb_f hz).symm | exact vi (zb_t hz).symm, rfl⟩
  · have h0 : 0 < σ.2 5 k := Int32.not_le.mp c110
    have hz : ac_ok (mo_t σ) k 3 = true := decide_eq_true h0
    refine gk_iconst 1 C dX2_mayBe_113 rfl ?_
    refine gk_goto 118 C dX2_mayBe_114 (by decide) ?_
    exact gk_zret C E dX2_mayBe_118 rfl rfl (by first | exact narrow_b1 | exact narrow_b0 | exact zb_nb) ⟨by first | exact vi (zb_f hz).symm | exact vi (zb_t hz).symm, rfl⟩
theorem mo_mayBe (l : Launch) (Γ : gk_E) (h : Nat) (ad : Nat → Nat) (σ : mo_S) (k : Nat) (hk : k < 8) (a : Nat) (ha : a ≤ 3) : mo_U l yX2_mayBe (Cond.code yX2_mayBe cX2_mayBe 3 (some .boolean)) 0 [.int (nI k), .int (nI a)] Γ h ad σ (.int (zb (ac_ok (mo_t σ) k a = true))) σ := by
  rcases (show a = 0 ∨ a = 1 ∨ a = 2 ∨ a = 3 by omega) with rfl | rfl | rfl | rfl
  · exact mo_mayBe0 l Γ h ad σ k hk
  · exact mo_mayBe1 l Γ h ad σ k hk
  · exact mo_mayBe2 l Γ h ad σ k hk
  · exact mo_mayBe3 l Γ h ad σ k hk
/-- what an act does to the model -/
def mo_ac (σ : mo_S) (k : Nat) : Nat → mo_S
  | 0 => mo_a (mo_a σ 6 k (σ.2 6 k + 2)) 5 k (σ.2 5 k - 1)
  | 1 => mo_a σ 4 k (σ.2 4 k - 1)
  | 2 => mo_a σ 4 k (σ.2 4 k + 1)
  | _ => mo_a σ 5 k 0
