set_option maxRecDepth 100000
set_option maxHeartbeats 1000000 in
theorem mo_in (l : Launch) (v a b : Int64) : gk_P l yX2_in (Cond.code yX2_in cX2_in 6 (some .boolean)) 0 [.long v, .long a, .long b] (.int (zb (a.toInt ≤ v.toInt ∧ v.toInt ≤ b.toInt))) := by
  intro Γ
  refine gk_M.intro gk_N0_ok (by decide) [some (.long v), none, some (.long a), none, some (.long b), none] rfl rfl rfl ?_
  intro κ hl hg hN0 C E
  subst hl hg
  have C : gk_C κ cX2_in "SawLineModel" 0 0 0 := C
  refine gk_lload_n C dX2_in_0 rfl ?_
  refine gk_lload_n C dX2_in_1 rfl ?_
  refine gk_lcmp C dX2_in_2 ?_
  refine gk_if_lt 17 C dX2_in_3 (by decide) (fun c3 => ?_) (fun c3 => ?_)
  · rw [lg_cmp_lt, Int64.lt_iff_toInt_lt] at c3
    refine gk_iconst 0 C dX2_in_17 rfl ?_
    exact gk_zret C E dX2_in_18 rfl rfl (by first | exact narrow_b1 | exact narrow_b0 | exact zb_nb) ⟨by first | rw [zb_t (by omega)] | rw [zb_f (by omega)], rfl⟩
  · rw [lg_cmp_lt, Int64.lt_iff_toInt_lt] at c3
    refine gk_lload_n C dX2_in_6 rfl ?_
    refine gk_lload C dX2_in_7 rfl ?_
    refine gk_lcmp C dX2_in_9 ?_
    refine gk_if_gt 17 C dX2_in_10 (by decide) (fun c10 => ?_) (fun c10 => ?_)
    · rw [lg_cmp_gt, Int64.lt_iff_toInt_lt] at c10
      refine gk_iconst 0 C dX2_in_17 rfl ?_
      exact gk_zret C E dX2_in_18 rfl rfl (by first | exact narrow_b1 | exact narrow_b0 | exact zb_nb) ⟨by first | rw [zb_t (by omega)] | rw [zb_f (by omega)], rfl⟩
    · rw [lg_cmp_gt, Int64.lt_iff_toInt_lt] at c10
      refine gk_iconst 1 C dX2_in_13 rfl ?_
      refine gk_goto 18 C dX2_in_14 (by decide) ?_
      exact gk_zret C E dX2_in_18 rfl rfl (by first | exact narrow_b1 | exact narrow_b0 | exact zb_nb) ⟨by first | rw [zb_t (by omega)] | rw [zb_f (by omega)], rfl⟩
theorem mo_in3 (l : Launch) (x : Int32) (a b : Int64) (A B : Int) (ha : a.toInt = A) (hb : b.toInt = B) : gk_P l yX2_in (Cond.code yX2_in cX2_in 6 (some .boolean)) 0 [.long x.toInt64, .long a, .long b] (.int (zb (A ≤ x.toInt ∧ x.toInt ≤ B))) := by
  have h := mo_in l x.toInt64 a b
  rw [zb_iff (Q := A ≤ x.toInt ∧ x.toInt ≤ B) (by rw [ha, hb, i64_i])] at h
  exact h
theorem i64_pred {n : Nat} (h : n < 2 ^ 31) : ((nI n).toInt64 - 1).toInt = (n : Int) - 1 := by
  rw [nI_l h]
  rw [Int64.toInt_sub, lN_toInt h]
  simp only [Int64.toInt_one]
  rw [Int.bmod_def]
  omega
/-- x < n, as 'in (x, 0, n - 1)' says it -/
theorem mo_inN (l : Launch) (x : Int32) (n : Nat) (hn : n < 2 ^ 31) : gk_P l yX2_in (Cond.code yX2_in cX2_in 6 (some .boolean)) 0 [.long x.toInt64, .long 0, .long ((nI n).toInt64 - 1)] (.int (zb (0 ≤ x.toInt ∧ x.toInt < n))) := by
  have h := mo_in l x.toInt64 0 ((nI n).toInt64 - 1)
  rw [zb_iff (Q := 0 ≤ x.toInt ∧ x.toInt < n) (by rw [i64_pred hn, i64_i, Int64.toInt_zero]; omega)] at h
  exact h
set_option maxHeartbeats 1000000 in
theorem mo_lost (l : Launch)  : gk_P l yX2_lost (Cond.code yX2_lost cX2_lost 0 (some .long)) 0 [] (.long (-9223372036854775808)) := by
  intro Γ
  refine gk_M.intro gk_N0_ok (by decide) [] rfl rfl rfl ?_
  intro κ hl hg hN0 C E
  subst hl hg
  have C : gk_C κ cX2_lost "SawLineModel" 0 0 0 := C
  refine gk_ldc2 C q1344 dX2_lost_0 ?_
  exact gk_lret C E dX2_lost_3 rfl rfl ⟨rfl, rfl⟩
set_option maxHeartbeats 1000000 in
theorem mo_greater (l : Launch) (a b : Int32) : gk_P l yX2_greater (Cond.code yX2_greater cX2_greater 2 (some .int)) 0 [.int a, .int b] (.int (sp_gr a b)) := by
  intro Γ
  refine gk_M.intro gk_N0_ok (by decide) [some (.int a), some (.int b)] rfl rfl rfl ?_
  intro κ hl hg hN0 C E
  subst hl hg
  have C : gk_C κ cX2_greater "SawLineModel" 0 0 0 := C
  refine gk_iload_n C dX2_greater_0 rfl ?_
  refine gk_iload_n C dX2_greater_1 rfl ?_
  refine gk_icmp_le 9 C dX2_greater_2 (by decide) (fun c2 => ?_) (fun c2 => ?_)
  · refine gk_iload_n C dX2_greater_9 rfl ?_
    exact gk_iret C E dX2_greater_10 rfl rfl ⟨by simp [sp_gr, c2], rfl⟩
  · refine gk_iload_n C dX2_greater_5 rfl ?_
    refine gk_goto 10 C dX2_greater_6 (by decide) ?_
    exact gk_iret C E dX2_greater_10 rfl rfl ⟨by simp [sp_gr, c2], rfl⟩
set_option maxHeartbeats 1000000 in
theorem mo_size (l : Launch) (a : Int32) : gk_P l yX2_size (Cond.code yX2_size cX2_size 1 (some .int)) 0 [.int a] (.int (sp_sz a)) := by
  intro Γ
  refine gk_M.intro gk_N0_ok (by decide) [some (.int a)] rfl rfl rfl ?_
  intro κ hl hg hN0 C E
  subst hl hg
  have C : gk_C κ cX2_size "SawLineModel" 0 0 0 := C
  refine gk_iload_n C dX2_size_0 rfl ?_
  refine gk_if_ge 9 C dX2_size_1 (by decide) (fun c1 => ?_) (fun c1 => ?_)
  · refine gk_iload_n C dX2_size_9 rfl ?_
    exact gk_iret C E dX2_size_10 rfl rfl ⟨by simp [sp_sz, c1], rfl⟩
  · refine gk_iload_n C dX2_size_4 rfl ?_
    refine gk_ineg C dX2_size_5 ?_
    refine gk_goto 10 C dX2_size_6 (by decide) ?_
    exact gk_iret C E dX2_size_10 rfl rfl ⟨by simp [sp_sz, c1], rfl⟩
set_option maxHeartbeats 1000000 in
theorem mo_costOf (l : Launch) (a : Int32) : gk_P l yX2_costOf (Cond.code yX2_costOf cX2_costOf 1 (some .int)) 0 [.int a] (.int (if a = 0 then 2 else if a = 3 then 4 else 1)) := by
  intro Γ
  refine gk_M.intro gk_N0_ok (by decide) [some (.int a)] rfl rfl rfl ?_
  intro κ hl hg hN0 C E
  subst hl hg
  have C : gk_C κ cX2_costOf "SawLineModel" 0 0 0 := C
  refine gk_iload_n C dX2_costOf_0 rfl ?_
  refine gk_if_ne 8 C dX2_costOf_1 (by decide) (fun c1 => ?_) (fun c1 => ?_)
  · refine gk_iload_n C dX2_costOf_8 rfl ?_
    refine gk_iconst 3 C dX2_costOf_9 rfl ?_
    refine gk_icmp_ne 17 C dX2_costOf_10 (by decide) (fun c10 => ?_) (fun c10 => ?_)
    · refine gk_iconst 1 C dX2_costOf_17 rfl ?_
      exact gk_iret C E dX2_costOf_18 rfl rfl ⟨by simp_all, rfl⟩
    · refine gk_iconst 4 C dX2_costOf_13 rfl ?_
      refine gk_goto 18 C dX2_costOf_14 (by decide) ?_
      exact gk_iret C E dX2_costOf_18 rfl rfl ⟨by simp_all, rfl⟩
  · refine gk_iconst 2 C dX2_costOf_4 rfl ?_
    refine gk_goto 18 C dX2_costOf_5 (by decide) ?_
    exact gk_iret C E dX2_costOf_18 rfl rfl ⟨by simp_all, rfl⟩
set_option maxHeartbeats 1000000 in
theorem mo_sideBy (l : Launch) (a : Int32) : gk_P l yX2_sideBy (Cond.code yX2_sideBy cX2_sideBy 1 (some .int)) 0 [.int a] (.int (if a = 108 then -1 else if a = 99 then 0 else if a = 114 then 1 else -9)) := by
  intro Γ
  refine gk_M.intro gk_N0_ok (by decide) [some (.int a)] rfl rfl rfl ?_
  intro κ hl hg hN0 C E
  subst hl hg
  have C : gk_C κ cX2_sideBy "SawLineModel" 0 0 0 := C
  refine gk_iload_n C dX2_sideBy_0 rfl ?_
  refine gk_bipush 108 C dX2_sideBy_1 rfl ?_
  refine gk_icmp_ne 10 C dX2_sideBy_3 (by decide) (fun c3 => ?_) (fun c3 => ?_)
  · refine gk_iload_n C dX2_sideBy_10 rfl ?_
    refine gk_bipush 99 C dX2_sideBy_11 rfl ?_
    refine gk_icmp_ne 20 C dX2_sideBy_13 (by decide) (fun c13 => ?_) (fun c13 => ?_)
    · refine gk_iload_n C dX2_sideBy_20 rfl ?_
      refine gk_bipush 114 C dX2_sideBy_21 rfl ?_
      refine gk_icmp_ne 30 C dX2_sideBy_23 (by decide) (fun c23 => ?_) (fun c23 => ?_)
      · refine gk_bipush (-9) C dX2_sideBy_30 rfl ?_
        exact gk_iret C E dX2_sideBy_32 rfl rfl ⟨by simp_all, rfl⟩
      · refine gk_iconst 1 C dX2_sideBy_26 rfl ?_
        refine gk_goto 32 C dX2_sideBy_27 (by decide) ?_
        exact gk_iret C E dX2_sideBy_32 rfl rfl ⟨by simp_all, rfl⟩
    · refine gk_iconst 0 C dX2_sideBy_16 rfl ?_
      refine gk_goto 32 C dX2_sideBy_17 (by decide) ?_
      exact gk_iret C E dX2_sideBy_32 rfl rfl ⟨by simp_all, rfl⟩
  · refine gk_iconst (-1) C dX2_sideBy_6 rfl ?_
    refine gk_goto 32 C dX2_sideBy_7 (by decide) ?_
    exact gk_iret C E dX2_sideBy_32 rfl rfl ⟨by simp_all, rfl⟩
set_option maxHeartbeats 1000000 in
theorem mo_noSheet (l : Launch) (a : Int32) : gk_P l yX2_noSheet (Cond.code yX2_noSheet cX2_noSheet 1 (some .boolean)) 1 [.int a] (.int (zb (¬ (0 ≤ a.toInt ∧ a.toInt ≤ 3)))) := by
  intro Γ
  refine gk_M.intro gk_N0_ok (by decide) [some (.int a)] rfl rfl rfl ?_
  intro κ hl hg hN0 C E
  subst hl hg
  have C : gk_C κ cX2_noSheet "SawLineModel" 1 0 0 := C
  refine gk_iload_n C dX2_noSheet_0 rfl ?_
  refine gk_i2l C dX2_noSheet_1 ?_
  refine gk_lconst 0 C dX2_noSheet_2 rfl ?_
  refine gk_ldc2 C q1227 dX2_noSheet_3 ?_
  refine gk_cP3 C (mo_in3 _ a 0 3 0 3 rfl rfl) cs_X2_105 rfl (Nat.zero_le _) (Nat.zero_le _) rfl dX2_noSheet_6 ?_
  refine gk_if_ne 16 C dX2_noSheet_9 (by decide) (fun c9 => ?_) (fun c9 => ?_)
  · rw [zb_n] at c9
    refine gk_iconst 0 C dX2_noSheet_16 rfl ?_
    exact gk_zret C E dX2_noSheet_17 rfl rfl (by first | exact narrow_b1 | exact narrow_b0 | exact zb_nb) ⟨by first | rw [zb_t (by omega)] | rw [zb_f (by omega)], rfl⟩
  · rw [zb_0] at c9
    refine gk_iconst 1 C dX2_noSheet_12 rfl ?_
    refine gk_goto 17 C dX2_noSheet_13 (by decide) ?_
    exact gk_zret C E dX2_noSheet_17 rfl rfl (by first | exact narrow_b1 | exact narrow_b0 | exact zb_nb) ⟨by first | rw [zb_t (by omega)] | rw [zb_f (by omega)], rfl⟩
set_option maxHeartbeats 1000000 in
theorem mo_refused (l : Launch) (Γ : gk_E) (h : Nat) (ad : Nat → Nat) (σ : mo_S) (a : Int32) : mo_U l yX2_refused (Cond.code yX2_refused cX2_refused 2 (some .int)) 0 [.int a] Γ h ad σ (.int a) (mo_i σ 0 0) := by
  refine gk_M.intro gk_N0_ok (by decide) [some (.ref h), some (.int a)] rfl rfl rfl ?_
  intro κ hl hg hN0 C E
  subst hl hg
  have C : gk_C κ cX2_refused "SawLineModel" 0 0 0 := C
  refine gk_aload_n C dX2_refused_0 rfl ?_
  refine gk_iconst 0 C dX2_refused_1 rfl ?_
  refine mo_p0 C dX2_refused_2 ?_
  refine gk_iload_n C dX2_refused_5 rfl ?_
  exact gk_iret C E dX2_refused_6 rfl rfl ⟨rfl, rfl⟩
set_option maxHeartbeats 1000000 in
theorem mo_failed (l : Launch) (Γ : gk_E) (h : Nat) (ad : Nat → Nat) (σ : mo_S) (a : Int32) : mo_U l yX2_failed (Cond.code yX2_failed cX2_failed 2 (some .int)) 0 [.int a] Γ h ad σ (.int (-10 - a)) (mo_i σ 0 a) := by
  refine gk_M.intro gk_N0_ok (by decide) [some (.ref h), some (.int a)] rfl rfl rfl ?_
  intro κ hl hg hN0 C E
  subst hl hg
  have C : gk_C κ cX2_failed "SawLineModel" 0 0 0 := C
  refine gk_aload_n C dX2_failed_0 rfl ?_
  refine gk_iload_n C dX2_failed_1 rfl ?_
  refine mo_p0 C dX2_failed_2 ?_
  refine gk_bipush (-10) C dX2_failed_5 rfl ?_
  refine gk_iload_n C dX2_failed_7 rfl ?_
  refine gk_isub C dX2_failed_8 ?_
  exact gk_iret C E dX2_failed_9 rfl rfl ⟨rfl, rfl⟩
set_option maxHeartbeats 1000000 in
theorem mo_failedLong (l : Launch) (Γ : gk_E) (h : Nat) (ad : Nat → Nat) (σ : mo_S) (a : Int32) : mo_U l yX2_failedLong (Cond.code yX2_failedLong cX2_failedLong 2 (some .long)) 1 [.int a] Γ h ad σ (.long (-9223372036854775808)) (mo_i σ 0 a) := by
  refine gk_M.intro gk_N0_ok (by decide) [some (.ref h), some (.int a)] rfl rfl rfl ?_
  intro κ hl hg hN0 C E
  subst hl hg
  have C : gk_C κ cX2_failedLong "SawLineModel" 1 0 0 := C
  refine gk_aload_n C dX2_failedLong_0 rfl ?_
  refine gk_iload_n C dX2_failedLong_1 rfl ?_
  refine mo_p0 C dX2_failedLong_2 ?_
  refine gk_cP0 C (mo_lost _) cs_X2_91 rfl (Nat.zero_le _) (Nat.zero_le _) rfl dX2_failedLong_5 ?_
  exact gk_lret C E dX2_failedLong_8 rfl rfl ⟨rfl, rfl⟩
set_option maxHeartbeats 1000000 in
theorem mo_noTooth (l : Launch) (Γ : gk_E) (h : Nat) (ad : Nat → Nat) (σ : mo_S) (x : Int32) (n : Nat) (hn : n < 2 ^ 31) (e : σ.1 1 = nI n) : mo_U l yX2_noTooth (Cond.code yX2_noTooth cX2_noTooth 2 (some .boolean)) 1 [.int x] Γ h ad σ (.int (zb (¬ (0 ≤ x.toInt ∧ x.toInt < n)))) σ := by
  refine gk_M.intro gk_N0_ok (by decide) [some (.ref h), some (.int x)] rfl rfl rfl ?_
  intro κ hl hg hN0 C E
  subst hl hg
  have C : gk_C κ cX2_noTooth "SawLineModel" 1 0 0 := C
  refine gk_iload_n C dX2_noTooth_0 rfl ?_
  refine gk_i2l C dX2_noTooth_1 ?_
  refine gk_lconst 0 C dX2_noTooth_2 rfl ?_
  refine gk_aload_n C dX2_noTooth_3 rfl ?_
  refine mo_g1 C dX2_noTooth_4 ?_
  rw [e]
  refine gk_i2l C dX2_noTooth_7 ?_
  refine gk_lconst 1 C dX2_noTooth_8 rfl ?_
  refine gk_lsub C dX2_noTooth_9 ?_
  refine gk_cP3 C (mo_inN _ x n hn) cs_X2_105 rfl (Nat.zero_le _) (Nat.zero_le _) rfl dX2_noTooth_10 ?_
  refine gk_if_ne 20 C dX2_noTooth_13 (by decide) (fun c13 => ?_) (fun c13 => ?_)
  · rw [zb_n] at c13
    refine gk_iconst 0 C dX2_noTooth_20 rfl ?_
    exact gk_zret C E dX2_noTooth_21 rfl rfl (by first | exact narrow_b1 | exact narrow_b0 | exact zb_nb) ⟨by first | rw [zb_t (by omega)] | rw [zb_f (by omega)], rfl⟩
  · rw [zb_0] at c13
    refine gk_iconst 1 C dX2_noTooth_16 rfl ?_
    refine gk_goto 21 C dX2_noTooth_17 (by decide) ?_
    exact gk_zret C E dX2_noTooth_21 rfl rfl (by first | exact narrow_b1 | exact narrow_b0 | exact zb_nb) ⟨by first | rw [zb_t (by omega)] | rw [zb_f (by omega)], rfl⟩
set_option maxHeartbeats 1000000 in
theorem mo_noLine (l : Launch) (Γ : gk_E) (h : Nat) (ad : Nat → Nat) (σ : mo_S) (x : Int32) (n : Nat) (hn : n < 2 ^ 31) (e : σ.1 12 = nI n) : mo_U l yX2_noLine (Cond.code yX2_noLine cX2_noLine 2 (some .boolean)) 1 [.int x] Γ h ad σ (.int (zb (¬ (0 ≤ x.toInt ∧ x.toInt < n)))) σ := by
  refine gk_M.intro gk_N0_ok (by decide) [some (.ref h), some (.int x)] rfl rfl rfl ?_
  intro κ hl hg hN0 C E
  subst hl hg
  have C : gk_C κ cX2_noLine "SawLineModel" 1 0 0 := C
  refine gk_iload_n C dX2_noLine_0 rfl ?_
  refine gk_i2l C dX2_noLine_1 ?_
  refine gk_lconst 0 C dX2_noLine_2 rfl ?_
  refine gk_aload_n C dX2_noLine_3 rfl ?_
  refine mo_g12 C dX2_noLine_4 ?_
  rw [e]
  refine gk_i2l C dX2_noLine_7 ?_
  refine gk_lconst 1 C dX2_noLine_8 rfl ?_
  refine gk_lsub C dX2_noLine_9 ?_
  refine gk_cP3 C (mo_inN _ x n hn) cs_X2_105 rfl (Nat.zero_le _) (Nat.zero_le _) rfl dX2_noLine_10 ?_
  refine gk_if_ne 20 C dX2_noLine_13 (by decide) (fun c13 => ?_) (fun c13 => ?_)
  · rw [zb_n] at c13
    refine gk_iconst 0 C dX2_noLine_20 rfl ?_
    exact gk_zret C E dX2_noLine_21 rfl rfl (by first | exact narrow_b1 | exact narrow_b0 | exact zb_nb) ⟨by first | rw [zb_t (by omega)] | rw [zb_f (by omega)], rfl⟩
  · rw [zb_0] at c13
    refine gk_iconst 1 C dX2_noLine_16 rfl ?_
    refine gk_goto 21 C dX2_noLine_17 (by decide) ?_
    exact gk_zret C E dX2_noLine_21 rfl rfl (by first | exact narrow_b1 | exact narrow_b0 | exact zb_nb) ⟨by first | rw [zb_t (by omega)] | rw [zb_f (by omega)], rfl⟩
set_option maxHeartbeats 1000000 in
theorem mo_noFlaw (l : Launch) (Γ : gk_E) (h : Nat) (ad : Nat → Nat) (σ : mo_S) (x : Int32) (n : Nat) (hn : n < 2 ^ 31) (e : σ.1 24 = nI n) : mo_U l yX2_noFlaw (Cond.code yX2_noFlaw cX2_noFlaw 2 (some .boolean)) 1 [.int x] Γ h ad σ (.int (zb (¬ (0 ≤ x.toInt ∧ x.toInt < n)))) σ := by
  refine gk_M.intro gk_N0_ok (by decide) [some (.ref h), some (.int x)] rfl rfl rfl ?_
  intro κ hl hg hN0 C E
  subst hl hg
  have C : gk_C κ cX2_noFlaw "SawLineModel" 1 0 0 := C
  refine gk_iload_n C dX2_noFlaw_0 rfl ?_
  refine gk_i2l C dX2_noFlaw_1 ?_
  refine gk_lconst 0 C dX2_noFlaw_2 rfl ?_
  refine gk_aload_n C dX2_noFlaw_3 rfl ?_
  refine mo_g24 C dX2_noFlaw_4 ?_
  rw [e]
  refine gk_i2l C dX2_noFlaw_7 ?_
  refine gk_lconst 1 C dX2_noFlaw_8 rfl ?_
  refine gk_lsub C dX2_noFlaw_9 ?_
  refine gk_cP3 C (mo_inN _ x n hn) cs_X2_105 rfl (Nat.zero_le _) (Nat.zero_le _) rfl dX2_noFlaw_10 ?_
  refine gk_if_ne 20 C dX2_noFlaw_13 (by decide) (fun c13 => ?_) (fun c13 => ?_)
  · rw [zb_n] at c13
    refine gk_iconst 0 C dX2_noFlaw_20 rfl ?_
    exact gk_zret C E dX2_noFlaw_21 rfl rfl (by first | exact narrow_b1 | exact narrow_b0 | exact zb_nb) ⟨by first | rw [zb_t (by omega)] | rw [zb_f (by omega)], rfl⟩
  · rw [zb_0] at c13
    refine gk_iconst 1 C dX2_noFlaw_16 rfl ?_
    refine gk_goto 21 C dX2_noFlaw_17 (by decide) ?_
    exact gk_zret C E dX2_noFlaw_21 rfl rfl (by first | exact narrow_b1 | exact narrow_b0 | exact zb_nb) ⟨by first | rw [zb_t (by omega)] | rw [zb_f (by omega)], rfl⟩
set_option maxHeartbeats 1000000 in
theorem mo_isBare (l : Launch) (Γ : gk_E) (h : Nat) (ad : Nat → Nat) (σ : mo_S)  : mo_U l yX2_isBare (Cond.code yX2_isBare cX2_isBare 1 (some .boolean)) 0 [] Γ h ad σ (.int (zb (σ.1 1 = 0 ∨ σ.1 12 = 0))) σ := by
  refine gk_M.intro gk_N0_ok (by decide) [some (.ref h)] rfl rfl rfl ?_
  intro κ hl hg hN0 C E
  subst hl hg
  have C : gk_C κ cX2_isBare "SawLineModel" 0 0 0 := C
  refine gk_aload_n C dX2_isBare_0 rfl ?_
  refine mo_g1 C dX2_isBare_1 ?_
  refine gk_if_eq 14 C dX2_isBare_4 (by decide) (fun c4 => ?_) (fun c4 => ?_)
  · refine gk_iconst 1 C dX2_isBare_14 rfl ?_
    refine gk_goto 19 C dX2_isBare_15 (by decide) ?_
    exact gk_zret C E dX2_isBare_19 rfl rfl (by first | exact narrow_b1 | exact narrow_b0 | exact zb_nb) ⟨by first | exact vi (zb_t (Or.inl c4)).symm | exact vi (zb_t (Or.inr c11)).symm | exact vi (zb_f (fun z => z.elim c4 c11)).symm, rfl⟩
  · refine gk_aload_n C dX2_isBare_7 rfl ?_
    refine mo_g12 C dX2_isBare_8 ?_
    refine gk_if_ne 18 C dX2_isBare_11 (by decide) (fun c11 => ?_) (fun c11 => ?_)
    · refine gk_iconst 0 C dX2_isBare_18 rfl ?_
      exact gk_zret C E dX2_isBare_19 rfl rfl (by first | exact narrow_b1 | exact narrow_b0 | exact zb_nb) ⟨by first | exact vi (zb_t (Or.inl c4)).symm | exact vi (zb_t (Or.inr c11)).symm | exact vi (zb_f (fun z => z.elim c4 c11)).symm, rfl⟩
    · refine gk_iconst 1 C dX2_isBare_14 rfl ?_
      refine gk_goto 19 C dX2_isBare_15 (by decide) ?_
      exact gk_zret C E dX2_isBare_19 rfl rfl (by first | exact narrow_b1 | exact narrow_b0 | exact zb_nb) ⟨by first | exact vi (zb_t (Or.inl c4)).symm | exact vi (zb_t (Or.inr c11)).symm | exact vi (zb_f (fun z => z.elim c4 c11)).symm, rfl⟩
set_option maxHeartbeats 1000000 in
theorem mo_markOf (l : Launch) (Γ : gk_E) (h : Nat) (ad : Nat → Nat) (σ : mo_S) (k : Nat) (hk : k < 8) (p : Int32) : mo_U l yX2_markOf (Cond.code yX2_markOf cX2_markOf 3 (some .int)) 0 [.int (nI k), .int p] Γ h ad σ (.int (p + σ.2 3 k * σ.2 4 k)) σ := by
  refine gk_M.intro gk_N0_ok (by decide) [some (.ref h), some (.int (nI k)), some (.int p)] rfl rfl rfl ?_
  intro κ hl hg hN0 C E
  subst hl hg
  have C : gk_C κ cX2_markOf "SawLineModel" 0 0 0 := C
  refine gk_iload_n C dX2_markOf_0 rfl ?_
  refine gk_aload_n C dX2_markOf_1 rfl ?_
  refine mo_g3 C dX2_markOf_2 ?_
  refine gk_iload_n C dX2_markOf_5 rfl ?_
  refine mo_l3 C dX2_markOf_6 rfl (by omega) ?_
  refine gk_aload_n C dX2_markOf_7 rfl ?_
  refine mo_g4 C dX2_markOf_8 ?_
  refine gk_iload_n C dX2_markOf_11 rfl ?_
  refine mo_l4 C dX2_markOf_12 rfl (by omega) ?_
  refine gk_imul C dX2_markOf_13 ?_
  refine gk_iadd C dX2_markOf_14 ?_
  exact gk_iret C E dX2_markOf_15 rfl rfl ⟨rfl, rfl⟩
set_option maxHeartbeats 1000000 in
theorem mo_traced (l : Launch) (Γ : gk_E) (h : Nat) (ad : Nat → Nat) (σ : mo_S) (a : Int32) : mo_V l yX2_traced (Cond.code yX2_traced cX2_traced 2 none) 0 [.int a] Γ h ad σ (mo_i σ 45 (31 * σ.1 45 + a)) := by
  refine gk_M.intro gk_N0_ok (by decide) [some (.ref h), some (.int a)] rfl rfl rfl ?_
  intro κ hl hg hN0 C E
  subst hl hg
  have C : gk_C κ cX2_traced "SawLineModel" 0 0 0 := C
  refine gk_aload_n C dX2_traced_0 rfl ?_
  refine gk_bipush 31 C dX2_traced_1 rfl ?_
  refine gk_aload_n C dX2_traced_3 rfl ?_
  refine mo_g45 C dX2_traced_4 ?_
  refine gk_imul C dX2_traced_7 ?_
  refine gk_iload_n C dX2_traced_8 rfl ?_
  refine gk_iadd C dX2_traced_9 ?_
  refine mo_p45 C dX2_traced_10 ?_
  exact gk_vret C E dX2_traced_13 rfl rfl ⟨rfl, rfl⟩
/-- the teeth as the model has them -/
abbrev mo_t (σ : mo_S) : sp_T := fun i => match i with
  | 0 => σ.2 2
  | 1 => σ.2 3
  | 2 => σ.2 4
  | 3 => σ.2 5
  | 4 => σ.2 6
  | _ => fun _ => 0
set_option maxHeartbeats 1000000 in
theorem mo_takesOf (l : Launch) (Γ : gk_E) (h : Nat) (ad : Nat → Nat) (σ : mo_S) (k : Nat) (hk : k < 8) : mo_U l yX2_takesOf (Cond.code yX2_takesOf cX2_takesOf 3 (some .int)) 0 [.int (nI k)] Γ h ad σ (.int (sp_tk (mo_t σ) k)) σ := by
  refine gk_M.intro gk_N0_ok (by decide) [some (.ref h), some (.int (nI k)), none] rfl rfl rfl ?_
  intro κ hl hg hN0 C E
  subst hl hg
  have C : gk_C κ cX2_takesOf "SawLineModel" 0 0 0 := C
  refine gk_aload_n C dX2_takesOf_0 rfl ?_
  refine mo_g5 C dX2_takesOf_1 ?_
  refine gk_iload_n C dX2_takesOf_4 rfl ?_
  refine mo_l5 C dX2_takesOf_5 rfl (by omega) ?_
  refine gk_aload_n C dX2_takesOf_6 rfl ?_
  refine mo_g6 C dX2_takesOf_7 ?_
  refine gk_iload_n C dX2_takesOf_10 rfl ?_
  refine mo_l6 C dX2_takesOf_11 rfl (by omega) ?_
  refine gk_imul C dX2_takesOf_12 ?_
  refine gk_istore_n C dX2_takesOf_13 rfl rfl ?_
  refine gk_iload_n C dX2_takesOf_14 rfl ?_
  refine gk_if_le 34 C dX2_takesOf_15 (by decide) (fun c15 => ?_) (fun c15 => ?_)
  · refine gk_iload_n C dX2_takesOf_34 rfl ?_
    exact gk_iret C E dX2_takesOf_35 rfl rfl ⟨by first | exact vi (if_neg (fun z => Int32.not_lt.mpr c15 z.1)).symm | exact vi (if_neg (fun z => c25 z.2)).symm | exact vi (if_pos ⟨Int32.not_le.mp c15, c25⟩).symm, rfl⟩
  · refine gk_aload_n C dX2_takesOf_18 rfl ?_
    refine mo_g2 C dX2_takesOf_19 ?_
    refine gk_iload_n C dX2_takesOf_22 rfl ?_
    refine mo_l2 C dX2_takesOf_23 rfl (by omega) ?_
    refine gk_iconst 2 C dX2_takesOf_24 rfl ?_
    refine gk_icmp_ne 34 C dX2_takesOf_25 (by decide) (fun c25 => ?_) (fun c25 => ?_)
    · refine gk_iload_n C dX2_takesOf_34 rfl ?_
      exact gk_iret C E dX2_takesOf_35 rfl rfl ⟨by first | exact vi (if_neg (fun z => Int32.not_lt.mpr c15 z.1)).symm | exact vi (if_neg (fun z => c25 z.2)).symm | exact vi (if_pos ⟨Int32.not_le.mp c15, c25⟩).symm, rfl⟩
    · refine gk_iload_n C dX2_takesOf_28 rfl ?_
      refine gk_iconst 2 C dX2_takesOf_29 rfl ?_
      refine gk_iadd C dX2_takesOf_30 ?_
      refine gk_goto 35 C dX2_takesOf_31 (by decide) ?_
      exact gk_iret C E dX2_takesOf_35 rfl rfl ⟨by first | exact vi (if_neg (fun z => Int32.not_lt.mpr c15 z.1)).symm | exact vi (if_neg (fun z => c25 z.2)).symm | exact vi (if_pos ⟨Int32.not_le.mp c15, c25⟩).symm, rfl⟩
set_option maxHeartbeats 1000000 in
theorem mo_pushOf (l : Launch) (Γ : gk_E) (h : Nat) (ad : Nat → Nat) (σ : mo_S) (k : Nat) (hk : k < 8) : mo_U l yX2_pushOf (Cond.code yX2_pushOf cX2_pushOf 2 (some .int)) 1 [.int (nI k)] Γ h ad σ (.int (sp_pu (mo_t σ) k)) σ := by
  refine gk_M.intro gk_N0_ok (by decide) [some (.ref h), some (.int (nI k))] rfl rfl rfl ?_
  intro κ hl hg hN0 C E
  subst hl hg
  have C : gk_C κ cX2_pushOf "SawLineModel" 1 0 0 := C
  refine gk_aload_n C dX2_pushOf_0 rfl ?_
  refine gk_iload_n C dX2_pushOf_1 rfl ?_
  refine mo_cU1 C (mo_takesOf _ _ _ _ _ k hk) cv_X2_148 rfl rfl rfl dX2_pushOf_2 ?_
  refine gk_aload_n C dX2_pushOf_5 rfl ?_
  refine mo_g4 C dX2_pushOf_6 ?_
  refine gk_iload_n C dX2_pushOf_9 rfl ?_
  refine mo_l4 C dX2_pushOf_10 rfl (by omega) ?_
  refine gk_imul C dX2_pushOf_11 ?_
  refine gk_aload_n C dX2_pushOf_12 rfl ?_
  refine mo_g3 C dX2_pushOf_13 ?_
  refine gk_iload_n C dX2_pushOf_16 rfl ?_
  refine mo_l3 C dX2_pushOf_17 rfl (by omega) ?_
  refine gk_imul C dX2_pushOf_18 ?_
  exact gk_iret C E dX2_pushOf_19 rfl rfl ⟨rfl, rfl⟩
