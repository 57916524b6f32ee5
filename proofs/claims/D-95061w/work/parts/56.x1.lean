set_option maxRecDepth 100000
set_option maxHeartbeats 1000000 in
theorem xs_isIn (l : Launch) (v a b : Int64) : gk_P l yX0_isIn (Cond.code yX0_isIn cX0_isIn 6 (some .boolean)) 0 [.long v, .long a, .long b] (.int (zb (a.toInt ≤ v.toInt ∧ v.toInt ≤ b.toInt))) := by
  intro Γ
  refine gk_M.intro gk_N0_ok (by decide) [some (.long v), none, some (.long a), none, some (.long b), none] rfl rfl rfl ?_
  intro κ hl hg hN0 C E
  subst hl hg
  have C : gk_C κ cX0_isIn "SawLine" 0 0 0 := C
  refine gk_lload_n C dX0_isIn_0 rfl ?_
  refine gk_lload_n C dX0_isIn_1 rfl ?_
  refine gk_lcmp C dX0_isIn_2 ?_
  refine gk_if_lt 17 C dX0_isIn_3 (by decide) (fun c3 => ?_) (fun c3 => ?_)
  · rw [lg_cmp_lt, Int64.lt_iff_toInt_lt] at c3
    refine gk_iconst 0 C dX0_isIn_17 rfl ?_
    exact gk_zret C E dX0_isIn_18 rfl rfl (by first | exact narrow_b1 | exact narrow_b0 | exact zb_nb) ⟨by first | rw [zb_t (by omega)] | rw [zb_f (by omega)], rfl⟩
  · rw [lg_cmp_lt, Int64.lt_iff_toInt_lt] at c3
    refine gk_lload_n C dX0_isIn_6 rfl ?_
    refine gk_lload C dX0_isIn_7 rfl ?_
    refine gk_lcmp C dX0_isIn_9 ?_
    refine gk_if_gt 17 C dX0_isIn_10 (by decide) (fun c10 => ?_) (fun c10 => ?_)
    · rw [lg_cmp_gt, Int64.lt_iff_toInt_lt] at c10
      refine gk_iconst 0 C dX0_isIn_17 rfl ?_
      exact gk_zret C E dX0_isIn_18 rfl rfl (by first | exact narrow_b1 | exact narrow_b0 | exact zb_nb) ⟨by first | rw [zb_t (by omega)] | rw [zb_f (by omega)], rfl⟩
    · rw [lg_cmp_gt, Int64.lt_iff_toInt_lt] at c10
      refine gk_iconst 1 C dX0_isIn_13 rfl ?_
      refine gk_goto 18 C dX0_isIn_14 (by decide) ?_
      exact gk_zret C E dX0_isIn_18 rfl rfl (by first | exact narrow_b1 | exact narrow_b0 | exact zb_nb) ⟨by first | rw [zb_t (by omega)] | rw [zb_f (by omega)], rfl⟩
theorem xs_in3 (l : Launch) (x : Int32) (a b : Int64) (A B : Int) (ha : a.toInt = A) (hb : b.toInt = B) : gk_P l yX0_isIn (Cond.code yX0_isIn cX0_isIn 6 (some .boolean)) 0 [.long x.toInt64, .long a, .long b] (.int (zb (A ≤ x.toInt ∧ x.toInt ≤ B))) := by
  have h := xs_isIn l x.toInt64 a b
  rw [zb_iff (Q := A ≤ x.toInt ∧ x.toInt ≤ B) (by rw [ha, hb, i64_i])] at h
  exact h
theorem xs_inN (l : Launch) (x : Int32) (n : Nat) (hn : n < 2 ^ 31) : gk_P l yX0_isIn (Cond.code yX0_isIn cX0_isIn 6 (some .boolean)) 0 [.long x.toInt64, .long 0, .long ((nI n).toInt64 - 1)] (.int (zb (0 ≤ x.toInt ∧ x.toInt < n))) := by
  have h := xs_isIn l x.toInt64 0 ((nI n).toInt64 - 1)
  rw [zb_iff (Q := 0 ≤ x.toInt ∧ x.toInt < n) (by rw [i64_pred hn, i64_i, Int64.toInt_zero]; omega)] at h
  exact h
set_option maxHeartbeats 1000000 in
theorem xs_isNine (l : Launch) (a : Int32) : gk_P l yX0_isNine (Cond.code yX0_isNine cX0_isNine 1 (some .boolean)) 1 [.int a] (.int (zb (0 ≤ a.toInt ∧ a.toInt ≤ 9))) := by
  intro Γ
  refine gk_M.intro gk_N0_ok (by decide) [some (.int a)] rfl rfl rfl ?_
  intro κ hl hg hN0 C E
  subst hl hg
  have C : gk_C κ cX0_isNine "SawLine" 1 0 0 := C
  refine gk_iload_n C dX0_isNine_0 rfl ?_
  refine gk_i2l C dX0_isNine_1 ?_
  refine gk_lconst 0 C dX0_isNine_2 rfl ?_
  refine gk_ldc2 C q695 dX0_isNine_3 ?_
  refine gk_cP3 C (xs_in3 _ a 0 9 0 9 rfl rfl) cs_X0_76 rfl (Nat.zero_le _) (Nat.zero_le _) rfl dX0_isNine_6 ?_
  exact gk_zret C E dX0_isNine_9 rfl rfl (by first | exact narrow_b1 | exact narrow_b0 | exact zb_nb) ⟨rfl, rfl⟩
set_option maxHeartbeats 1000000 in
theorem xs_isTooth (t : Nat) (l : Launch) (Γ : gk_E) (h : Nat) (ad : Nat → Nat) (ξ : mo_S) (θ : xA) (n : Nat) (τ : sp_T) (rs : va_W) (hn : n ≤ 8) (hv : 0 < n → ¬ θ.2.1 = true) (hτ : ∀ k, k < n → xk τ k) (x : Int32) : xo_U t l yX0_isTooth (Cond.code yX0_isTooth cX0_isTooth 2 (some .boolean)) 1 [.int x] Γ h ad ξ (xD Γ h (ad 2) θ n τ rs) (.int (zb (0 ≤ x.toInt ∧ x.toInt < n))) ξ := by
  refine gk_M.intro (xN_ok t) (by decide) [some (.ref h), some (.int x)] rfl rfl rfl ?_
  intro κ hl hg hN0 C E
  subst hl hg
  have C : gk_C κ cX0_isTooth "SawLine" 1 0 0 := C
  refine gk_iload_n C dX0_isTooth_0 rfl ?_
  refine gk_i2l C dX0_isTooth_1 ?_
  refine gk_lconst 0 C dX0_isTooth_2 rfl ?_
  refine gk_aload_n C dX0_isTooth_3 rfl ?_
  refine xo_g2 C dX0_isTooth_4 ?_
  refine xr_size C hN0 (by decide) rfl dX0_isTooth_7 ?_
  refine gk_i2l C dX0_isTooth_12 ?_
  refine gk_lconst 1 C dX0_isTooth_13 rfl ?_
  refine gk_lsub C dX0_isTooth_14 ?_
  refine gk_cP3 C (xs_inN _ x n (by omega)) cs_X0_76 rfl (Nat.zero_le _) (Nat.zero_le _) rfl dX0_isTooth_15 ?_
  exact gk_zret C E dX0_isTooth_18 rfl rfl (by first | exact narrow_b1 | exact narrow_b0 | exact zb_nb) ⟨rfl, rfl⟩
set_option maxHeartbeats 1000000 in
theorem xs_isLine (t : Nat) (l : Launch) (Γ : gk_E) (h : Nat) (ad : Nat → Nat) (ξ : mo_S) (dy : va_W) (x : Int32) (L : Nat) (hL : L < 2 ^ 31) (e : ξ.1 6 = nI L) : xo_U t l yX0_isLine (Cond.code yX0_isLine cX0_isLine 2 (some .boolean)) 1 [.int x] Γ h ad ξ dy (.int (zb (0 ≤ x.toInt ∧ x.toInt < L))) ξ := by
  refine gk_M.intro (xN_ok t) (by decide) [some (.ref h), some (.int x)] rfl rfl rfl ?_
  intro κ hl hg hN0 C E
  subst hl hg
  have C : gk_C κ cX0_isLine "SawLine" 1 0 0 := C
  refine gk_iload_n C dX0_isLine_0 rfl ?_
  refine gk_i2l C dX0_isLine_1 ?_
  refine gk_lconst 0 C dX0_isLine_2 rfl ?_
  refine gk_aload_n C dX0_isLine_3 rfl ?_
  refine xo_g6 C dX0_isLine_4 ?_
  rw [e]
  refine gk_i2l C dX0_isLine_7 ?_
  refine gk_lconst 1 C dX0_isLine_8 rfl ?_
  refine gk_lsub C dX0_isLine_9 ?_
  refine gk_cP3 C (xs_inN _ x L hL) cs_X0_76 rfl (Nat.zero_le _) (Nat.zero_le _) rfl dX0_isLine_10 ?_
  exact gk_zret C E dX0_isLine_13 rfl rfl (by first | exact narrow_b1 | exact narrow_b0 | exact zb_nb) ⟨rfl, rfl⟩
set_option maxHeartbeats 1000000 in
theorem xs_isFlaw (t : Nat) (l : Launch) (Γ : gk_E) (h : Nat) (ad : Nat → Nat) (ξ : mo_S) (dy : va_W) (x : Int32) (L : Nat) (hL : L < 2 ^ 31) (e : ξ.1 19 = nI L) : xo_U t l yX0_isFlaw (Cond.code yX0_isFlaw cX0_isFlaw 2 (some .boolean)) 1 [.int x] Γ h ad ξ dy (.int (zb (0 ≤ x.toInt ∧ x.toInt < L))) ξ := by
  refine gk_M.intro (xN_ok t) (by decide) [some (.ref h), some (.int x)] rfl rfl rfl ?_
  intro κ hl hg hN0 C E
  subst hl hg
  have C : gk_C κ cX0_isFlaw "SawLine" 1 0 0 := C
  refine gk_iload_n C dX0_isFlaw_0 rfl ?_
  refine gk_i2l C dX0_isFlaw_1 ?_
  refine gk_lconst 0 C dX0_isFlaw_2 rfl ?_
  refine gk_aload_n C dX0_isFlaw_3 rfl ?_
  refine xo_g19 C dX0_isFlaw_4 ?_
  rw [e]
  refine gk_i2l C dX0_isFlaw_7 ?_
  refine gk_lconst 1 C dX0_isFlaw_8 rfl ?_
  refine gk_lsub C dX0_isFlaw_9 ?_
  refine gk_cP3 C (xs_inN _ x L hL) cs_X0_76 rfl (Nat.zero_le _) (Nat.zero_le _) rfl dX0_isFlaw_10 ?_
  exact gk_zret C E dX0_isFlaw_13 rfl rfl (by first | exact narrow_b1 | exact narrow_b0 | exact zb_nb) ⟨rfl, rfl⟩
set_option maxHeartbeats 1000000 in
theorem xs_faulty (t : Nat) (l : Launch) (Γ : gk_E) (h : Nat) (ad : Nat → Nat) (ξ : mo_S) (dy : va_W) (a : Int32) : xo_U t l yX0_faulty (Cond.code yX0_faulty cX0_faulty 2 (some .int)) 0 [.int a] Γ h ad ξ dy (.int (-10 - a)) (mo_i ξ 0 a) := by
  refine gk_M.intro (xN_ok t) (by decide) [some (.ref h), some (.int a)] rfl rfl rfl ?_
  intro κ hl hg hN0 C E
  subst hl hg
  have C : gk_C κ cX0_faulty "SawLine" 0 0 0 := C
  refine gk_aload_n C dX0_faulty_0 rfl ?_
  refine gk_iload_n C dX0_faulty_1 rfl ?_
  refine xo_p0 C dX0_faulty_2 ?_
  refine gk_bipush (-10) C dX0_faulty_5 rfl ?_
  refine gk_iload_n C dX0_faulty_7 rfl ?_
  refine gk_isub C dX0_faulty_8 ?_
  exact gk_iret C E dX0_faulty_9 rfl rfl ⟨rfl, rfl⟩
set_option maxHeartbeats 1000000 in
theorem xs_lost (t : Nat) (l : Launch) (Γ : gk_E) (h : Nat) (ad : Nat → Nat) (ξ : mo_S) (dy : va_W) (a : Int32) : xo_U t l yX0_lost (Cond.code yX0_lost cX0_lost 2 (some .long)) 0 [.int a] Γ h ad ξ dy (.long (-9223372036854775808)) (mo_i ξ 0 a) := by
  refine gk_M.intro (xN_ok t) (by decide) [some (.ref h), some (.int a)] rfl rfl rfl ?_
  intro κ hl hg hN0 C E
  subst hl hg
  have C : gk_C κ cX0_lost "SawLine" 0 0 0 := C
  refine gk_aload_n C dX0_lost_0 rfl ?_
  refine gk_iload_n C dX0_lost_1 rfl ?_
  refine xo_p0 C dX0_lost_2 ?_
  refine gk_ldc2 C q785 dX0_lost_5 ?_
  exact gk_lret C E dX0_lost_8 rfl rfl ⟨rfl, rfl⟩
set_option maxHeartbeats 1000000 in
theorem xs_isSheet (l : Launch) (a : Int32) : gk_P l yX0_isSheet (Cond.code yX0_isSheet cX0_isSheet 1 (some .boolean)) 1 [.int a] (.int (zb (0 ≤ a.toInt ∧ a.toInt ≤ 3))) := by
  intro Γ
  refine gk_M.intro gk_N0_ok (by decide) [some (.int a)] rfl rfl rfl ?_
  intro κ hl hg hN0 C E
  subst hl hg
  have C : gk_C κ cX0_isSheet "SawLine" 1 0 0 := C
  refine gk_iload_n C dX0_isSheet_0 rfl ?_
  refine gk_i2l C dX0_isSheet_1 ?_
  refine gk_lconst 0 C dX0_isSheet_2 rfl ?_
  refine gk_ldc2 C q412 dX0_isSheet_3 ?_
  refine gk_cP3 C (xs_in3 _ a 0 3 0 3 rfl rfl) cs_X0_76 rfl (Nat.zero_le _) (Nat.zero_le _) rfl dX0_isSheet_6 ?_
  exact gk_zret C E dX0_isSheet_9 rfl rfl (by first | exact narrow_b1 | exact narrow_b0 | exact zb_nb) ⟨rfl, rfl⟩
set_option maxHeartbeats 1000000 in
theorem xs_isLane (l : Launch) (a : Int32) : gk_P l yX0_isLane (Cond.code yX0_isLane cX0_isLane 1 (some .boolean)) 1 [.int a] (.int (zb (0 ≤ a.toInt ∧ a.toInt ≤ 2))) := by
  intro Γ
  refine gk_M.intro gk_N0_ok (by decide) [some (.int a)] rfl rfl rfl ?_
  intro κ hl hg hN0 C E
  subst hl hg
  have C : gk_C κ cX0_isLane "SawLine" 1 0 0 := C
  refine gk_iload_n C dX0_isLane_0 rfl ?_
  refine gk_i2l C dX0_isLane_1 ?_
  refine gk_lconst 0 C dX0_isLane_2 rfl ?_
  refine gk_ldc2 C q419 dX0_isLane_3 ?_
  refine gk_cP3 C (xs_in3 _ a 0 2 0 2 rfl rfl) cs_X0_76 rfl (Nat.zero_le _) (Nat.zero_le _) rfl dX0_isLane_6 ?_
  exact gk_zret C E dX0_isLane_9 rfl rfl (by first | exact narrow_b1 | exact narrow_b0 | exact zb_nb) ⟨rfl, rfl⟩
set_option maxHeartbeats 1000000 in
theorem xs_isAct (l : Launch) (a : Int32) : gk_P l yX0_isAct (Cond.code yX0_isAct cX0_isAct 1 (some .boolean)) 1 [.int a] (.int (zb (0 ≤ a.toInt ∧ a.toInt ≤ 3))) := by
  intro Γ
  refine gk_M.intro gk_N0_ok (by decide) [some (.int a)] rfl rfl rfl ?_
  intro κ hl hg hN0 C E
  subst hl hg
  have C : gk_C κ cX0_isAct "SawLine" 1 0 0 := C
  refine gk_iload_n C dX0_isAct_0 rfl ?_
  refine gk_i2l C dX0_isAct_1 ?_
  refine gk_lconst 0 C dX0_isAct_2 rfl ?_
  refine gk_ldc2 C q412 dX0_isAct_3 ?_
  refine gk_cP3 C (xs_in3 _ a 0 3 0 3 rfl rfl) cs_X0_76 rfl (Nat.zero_le _) (Nat.zero_le _) rfl dX0_isAct_6 ?_
  exact gk_zret C E dX0_isAct_9 rfl rfl (by first | exact narrow_b1 | exact narrow_b0 | exact zb_nb) ⟨rfl, rfl⟩
set_option maxHeartbeats 1000000 in
theorem xs_costOf (l : Launch) (a : Int32) : gk_P l yX0_costOf (Cond.code yX0_costOf cX0_costOf 1 (some .int)) 0 [.int a] (.int (if a = 0 then 2 else if a = 3 then 4 else 1)) := by
  intro Γ
  refine gk_M.intro gk_N0_ok (by decide) [some (.int a)] rfl rfl rfl ?_
  intro κ hl hg hN0 C E
  subst hl hg
  have C : gk_C κ cX0_costOf "SawLine" 0 0 0 := C
  refine gk_iload_n C dX0_costOf_0 rfl ?_
  refine gk_if_ne 8 C dX0_costOf_1 (by decide) (fun c1 => ?_) (fun c1 => ?_)
  · refine gk_iload_n C dX0_costOf_8 rfl ?_
    refine gk_iconst 3 C dX0_costOf_9 rfl ?_
    refine gk_icmp_ne 17 C dX0_costOf_10 (by decide) (fun c10 => ?_) (fun c10 => ?_)
    · refine gk_iconst 1 C dX0_costOf_17 rfl ?_
      exact gk_iret C E dX0_costOf_18 rfl rfl ⟨by simp_all, rfl⟩
    · refine gk_iconst 4 C dX0_costOf_13 rfl ?_
      refine gk_goto 18 C dX0_costOf_14 (by decide) ?_
      exact gk_iret C E dX0_costOf_18 rfl rfl ⟨by simp_all, rfl⟩
  · refine gk_iconst 2 C dX0_costOf_4 rfl ?_
    refine gk_goto 18 C dX0_costOf_5 (by decide) ?_
    exact gk_iret C E dX0_costOf_18 rfl rfl ⟨by simp_all, rfl⟩
set_option maxHeartbeats 1000000 in
theorem xs_sideOf (l : Launch) (a : Int32) : gk_P l yX0_sideOf (Cond.code yX0_sideOf cX0_sideOf 1 (some .int)) 0 [.int a] (.int (if a = 108 then -1 else if a = 99 then 0 else if a = 114 then 1 else -9)) := by
  intro Γ
  refine gk_M.intro gk_N0_ok (by decide) [some (.int a)] rfl rfl rfl ?_
  intro κ hl hg hN0 C E
  subst hl hg
  have C : gk_C κ cX0_sideOf "SawLine" 0 0 0 := C
  refine gk_iload_n C dX0_sideOf_0 rfl ?_
  refine gk_bipush 108 C dX0_sideOf_1 rfl ?_
  refine gk_icmp_ne 10 C dX0_sideOf_3 (by decide) (fun c3 => ?_) (fun c3 => ?_)
  · refine gk_iload_n C dX0_sideOf_10 rfl ?_
    refine gk_bipush 99 C dX0_sideOf_11 rfl ?_
    refine gk_icmp_ne 20 C dX0_sideOf_13 (by decide) (fun c13 => ?_) (fun c13 => ?_)
    · refine gk_iload_n C dX0_sideOf_20 rfl ?_
      refine gk_bipush 114 C dX0_sideOf_21 rfl ?_
      refine gk_icmp_ne 30 C dX0_sideOf_23 (by decide) (fun c23 => ?_) (fun c23 => ?_)
      · refine gk_bipush (-9) C dX0_sideOf_30 rfl ?_
        exact gk_iret C E dX0_sideOf_32 rfl rfl ⟨by simp_all, rfl⟩
      · refine gk_iconst 1 C dX0_sideOf_26 rfl ?_
        refine gk_goto 32 C dX0_sideOf_27 (by decide) ?_
        exact gk_iret C E dX0_sideOf_32 rfl rfl ⟨by simp_all, rfl⟩
    · refine gk_iconst 0 C dX0_sideOf_16 rfl ?_
      refine gk_goto 32 C dX0_sideOf_17 (by decide) ?_
      exact gk_iret C E dX0_sideOf_32 rfl rfl ⟨by simp_all, rfl⟩
  · refine gk_iconst (-1) C dX0_sideOf_6 rfl ?_
    refine gk_goto 32 C dX0_sideOf_7 (by decide) ?_
    exact gk_iret C E dX0_sideOf_32 rfl rfl ⟨by simp_all, rfl⟩
set_option maxHeartbeats 1000000 in
theorem xs_isPart (l : Launch) (a b : Int32) : gk_P l yX0_isPart (Cond.code yX0_isPart cX0_isPart 2 (some .boolean)) 2 [.int a, .int b] (.int (zb ((0 ≤ a.toInt ∧ a.toInt ≤ 2) ∧ (0 ≤ b.toInt ∧ b.toInt ≤ 9)))) := by
  intro Γ
  refine gk_M.intro gk_N0_ok (by decide) [some (.int a), some (.int b)] rfl rfl rfl ?_
  intro κ hl hg hN0 C E
  subst hl hg
  have C : gk_C κ cX0_isPart "SawLine" 2 0 0 := C
  refine gk_iload_n C dX0_isPart_0 rfl ?_
  refine gk_i2l C dX0_isPart_1 ?_
  refine gk_lconst 0 C dX0_isPart_2 rfl ?_
  refine gk_ldc2 C q419 dX0_isPart_3 ?_
  refine gk_cP3 C (xs_in3 _ a 0 2 0 2 rfl rfl) cs_X0_76 rfl (Nat.zero_le _) (Nat.zero_le _) rfl dX0_isPart_6 ?_
  refine gk_if_eq 23 C dX0_isPart_9 (by decide) (fun c9 => ?_) (fun c9 => ?_)
  · rw [zb_0] at c9
    refine gk_iconst 0 C dX0_isPart_23 rfl ?_
    exact gk_zret C E dX0_isPart_24 rfl rfl (by first | exact narrow_b1 | exact narrow_b0 | exact zb_nb) ⟨by first | rw [zb_t (by omega)] | rw [zb_f (by omega)], rfl⟩
  · rw [zb_n] at c9
    refine gk_iload_n C dX0_isPart_12 rfl ?_
    refine gk_cP1 C (xs_isNine _ b) cs_X0_212 rfl (Nat.zero_le _) (Nat.zero_le _) rfl dX0_isPart_13 ?_
    refine gk_if_eq 23 C dX0_isPart_16 (by decide) (fun c16 => ?_) (fun c16 => ?_)
    · rw [zb_0] at c16
      refine gk_iconst 0 C dX0_isPart_23 rfl ?_
      exact gk_zret C E dX0_isPart_24 rfl rfl (by first | exact narrow_b1 | exact narrow_b0 | exact zb_nb) ⟨by first | rw [zb_t (by omega)] | rw [zb_f (by omega)], rfl⟩
    · rw [zb_n] at c16
      refine gk_iconst 1 C dX0_isPart_19 rfl ?_
      refine gk_goto 24 C dX0_isPart_20 (by decide) ?_
      exact gk_zret C E dX0_isPart_24 rfl rfl (by first | exact narrow_b1 | exact narrow_b0 | exact zb_nb) ⟨by first | rw [zb_t (by omega)] | rw [zb_f (by omega)], rfl⟩
