set_option maxRecDepth 100000
/-- the model while it reads: where it is, how many, the rows read -/
def mo_rd (σ : mo_S) (p m : Nat) (K D Nu : Nat → Int32) : mo_S := (va_up (va_up σ.1 7 (nI p)) 8 (nI m), va_up (va_up (va_up σ.2 9 K) 10 D) 11 Nu)
theorem mo_rd_7 (σ : mo_S) (p m : Nat) (K D Nu : Nat → Int32) (q : Nat) : mo_i (mo_rd σ p m K D Nu) 7 (nI q) = mo_rd σ q m K D Nu := by
  unfold mo_i mo_rd; dsimp only; rw [va_up_cm _ 8 7 _ _ (by decide), va_up_up]
theorem mo_rd_8 (σ : mo_S) (p m : Nat) (K D Nu : Nat → Int32) (q : Nat) : mo_i (mo_rd σ p m K D Nu) 8 (nI q) = mo_rd σ p q K D Nu := by
  unfold mo_i mo_rd; dsimp only; rw [va_up_up]
theorem mo_rd_9 (σ : mo_S) (p m : Nat) (K D Nu : Nat → Int32) (j : Nat) (v : Int32) : mo_a (mo_rd σ p m K D Nu) 9 j v = mo_rd σ p m (upd K j v) D Nu := by
  have e : (mo_rd σ p m K D Nu).2 9 = K := rfl
  unfold mo_a; rw [e]; unfold mo_rd; dsimp only; rw [va_up_cm _ 11 9 _ _ (by decide), va_up_cm _ 10 9 _ _ (by decide), va_up_up]
theorem mo_rd_10 (σ : mo_S) (p m : Nat) (K D Nu : Nat → Int32) (j : Nat) (v : Int32) : mo_a (mo_rd σ p m K D Nu) 10 j v = mo_rd σ p m K (upd D j v) Nu := by
  have e : (mo_rd σ p m K D Nu).2 10 = D := rfl
  unfold mo_a; rw [e]; unfold mo_rd; dsimp only; rw [va_up_cm _ 11 10 _ _ (by decide), va_up_up]
theorem mo_rd_11 (σ : mo_S) (p m : Nat) (K D Nu : Nat → Int32) (j : Nat) (v : Int32) : mo_a (mo_rd σ p m K D Nu) 11 j v = mo_rd σ p m K D (upd Nu j v) := by
  have e : (mo_rd σ p m K D Nu).2 11 = Nu := rfl
  unfold mo_a; rw [e]; unfold mo_rd; dsimp only; rw [va_up_up]
theorem mo_rd_0 (σ : mo_S) : mo_i (mo_i σ 7 0) 8 0 = mo_rd σ 0 0 (σ.2 9) (σ.2 10) (σ.2 11) := by
  unfold mo_i mo_rd; dsimp only; rw [va_up_id, va_up_id, va_up_id]; rfl
set_option maxHeartbeats 4000000 in
theorem mo_readsFigures (l : Launch) (Γ : gk_E) (h : Nat) (ad : Nat → Nat) (σ : mo_S) (p m : Nat) (K D Nu : Nat → Int32) (a N t : Nat) (ht : t < 24) (haN : a + N ≤ 320) (hp : p ≤ 1000) : mo_U l yX2_readsFigures (Cond.code yX2_readsFigures cX2_readsFigures 6 (some .boolean)) 1 [.int (nI a), .int (nI N), .int (nI t)] Γ h ad (mo_rd σ p m K D Nu) (.int (zb ((tx_3 (fun p => σ.2 43 (a + p)) N p) = 3))) (mo_rd σ (p + (tx_3 (fun p => σ.2 43 (a + p)) N p)) m K D (nuU Nu (3 * t) (fun j => tx_d (fun p => σ.2 43 (a + p)) N (p + j)) (tx_3 (fun p => σ.2 43 (a + p)) N p))) := by
  refine gk_M.intro gk_N0_ok (by decide) [some (.ref h), some (.int (nI a)), some (.int (nI N)), some (.int (nI t)), none, none] rfl rfl rfl ?_
  intro κ hl hg hN0 C E
  subst hl hg
  have C : gk_C κ cX2_readsFigures "SawLineModel" 1 0 0 := C
  refine gk_iconst 0 C dX2_readsFigures_0 rfl ?_
  refine gk_istore C dX2_readsFigures_1 rfl rfl ?_
  have L3 : ∀ k, k ≤ 3 → dgs (fun k => tx_ok (fun p => σ.2 43 (a + p)) N (p + k) 0 9) (3 - k) k = (tx_3 (fun p => σ.2 43 (a + p)) N p) → gk_G κ 0 0 (mo_W (gk_g κ) h ad (mo_rd σ (p + k) m K D (nuU Nu (3 * t) (fun j => tx_d (fun p => σ.2 43 (a + p)) N (p + j)) k))) 3 [some (.ref h), some (.int (nI a)), some (.int (nI N)), some (.int (nI t)), some (.int (nI k)), none] [] := by
    refine up_ind (fun k hk ih => ?_)
    intro hD
    refine gk_iload C dX2_readsFigures_3 rfl ?_
    refine gk_iconst 3 C dX2_readsFigures_5 rfl ?_
    refine gk_icmp_ge 82 C dX2_readsFigures_6 (by decide) (fun c6 => ?_) (fun c6 => ?_)
    · obtain rfl : k = 3 := by have := nI_leT (a := 3) c6 (by omega) (by omega); omega
      have hD : (tx_3 (fun p => σ.2 43 (a + p)) N p) = 3 := hD.symm
      refine gk_iconst 1 C dX2_readsFigures_82 rfl ?_
      exact gk_zret C E dX2_readsFigures_83 rfl rfl (by first | exact narrow_b1 | exact narrow_b0 | exact zb_nb) ⟨vi (zb_t hD).symm, by rw [hD]⟩
    · have c6 : k < 3 := nI_ngeT (b := 3) c6 (by omega)
      refine gk_aload_n C dX2_readsFigures_9 rfl ?_
      refine mo_g7 C dX2_readsFigures_10 ?_
      refine gk_eqv (y := nI (p + k)) rfl ?_
      refine gk_iload_n C dX2_readsFigures_13 rfl ?_
      refine gk_jn2 (tx_d (fun p => σ.2 43 (a + p)) N (p + k)) 36 ?_ (fun K36 => ?_)
      · refine gk_istore C dX2_readsFigures_36 rfl rfl ?_
        refine gk_iload C dX2_readsFigures_38 rfl ?_
        refine gk_i2l C dX2_readsFigures_40 ?_
        refine gk_lconst 0 C dX2_readsFigures_41 rfl ?_
        refine gk_ldc2 C q1254 dX2_readsFigures_42 ?_
        refine gk_cP3 C (mo_in3 _ (tx_d (fun p => σ.2 43 (a + p)) N (p + k)) 0 9 0 9 rfl rfl) cs_X2_105 rfl (Nat.zero_le _) (Nat.zero_le _) rfl dX2_readsFigures_45 ?_
        refine gk_if_ne 53 C dX2_readsFigures_48 (by decide) (fun c48 => ?_) (fun c48 => ?_)
        · rw [zb_n] at c48
          have hok : tx_ok (fun p => σ.2 43 (a + p)) N (p + k) 0 9 = true := tx_ok_iff.mpr c48
          refine gk_aload_n C dX2_readsFigures_53 rfl ?_
          refine mo_g11 C dX2_readsFigures_54 ?_
          refine gk_iconst 3 C dX2_readsFigures_57 rfl ?_
          refine gk_iload_n C dX2_readsFigures_58 rfl ?_
          refine gk_imul C dX2_readsFigures_59 ?_
          refine gk_iload C dX2_readsFigures_60 rfl ?_
          refine gk_iadd C dX2_readsFigures_62 ?_
          refine gk_iload C dX2_readsFigures_63 rfl ?_
          refine mo_s11 C dX2_readsFigures_65 (nI_ma 3 t k) (by omega) ?_
          rw [mo_rd_11]
          refine gk_eqw (ws' := mo_W (gk_g κ) h ad (mo_rd σ (p + k) m K D (nuU Nu (3 * t) (fun j => tx_d (fun p => σ.2 43 (a + p)) N (p + j)) (k + 1)))) rfl ?_
          refine gk_aload_n C dX2_readsFigures_66 rfl ?_
          refine gk_dup C dX2_readsFigures_67 rfl ?_
          refine mo_g7 C dX2_readsFigures_68 ?_
          refine gk_eqv (y := nI (p + k)) rfl ?_
          refine gk_iconst 1 C dX2_readsFigures_71 rfl ?_
          refine gk_iadd C dX2_readsFigures_72 ?_
          refine gk_eqv (nI_1 (p + k)) ?_
          refine mo_p7 C dX2_readsFigures_73 ?_
          rw [mo_rd_7]
          refine gk_iinc (nI (k + 1)) C dX2_readsFigures_76 rfl (nI_succ k).symm rfl rfl ?_
          refine gk_goto 3 C dX2_readsFigures_79 (by decide) ?_
          exact gk_fg 5 (ih c6 (by rw [← hD, show 3 - k = 3 - (k + 1) + 1 by omega]; exact (if_pos hok).symm))
        · rw [zb_0] at c48
          have hD : (tx_3 (fun p => σ.2 43 (a + p)) N p) = k := by rw [← hD, show 3 - k = 3 - k - 1 + 1 by omega]; exact if_neg (fun z => c48 (tx_ok_iff.mp z))
          refine gk_iconst 0 C dX2_readsFigures_51 rfl ?_
          exact gk_zret C E dX2_readsFigures_52 rfl rfl (by first | exact narrow_b1 | exact narrow_b0 | exact zb_nb) ⟨vi (zb_f (by omega)).symm, by rw [hD]⟩
      · refine gk_icmp_ge 34 C dX2_readsFigures_14 (by decide) (fun c14 => ?_) (fun c14 => ?_)
        · have c14 := nI_leT c14 (by omega) (by omega)
          refine gk_bipush (-9) C dX2_readsFigures_34 rfl ?_
          exact gk_eqv (by first | exact (if_neg (by omega)).symm | exact (if_pos c14).symm) K36
        · have c14 := nI_ngeT c14 (by omega)
          refine gk_aload_n C dX2_readsFigures_17 rfl ?_
          refine mo_g43 C dX2_readsFigures_18 ?_
          refine gk_iload_n C dX2_readsFigures_21 rfl ?_
          refine gk_aload_n C dX2_readsFigures_22 rfl ?_
          refine mo_g7 C dX2_readsFigures_23 ?_
          refine gk_eqv (y := nI (p + k)) rfl ?_
          refine gk_iadd C dX2_readsFigures_26 ?_
          refine mo_l43 C dX2_readsFigures_27 (nI_add a (p + k)) (by omega) ?_
          refine gk_bipush 48 C dX2_readsFigures_28 rfl ?_
          refine gk_isub C dX2_readsFigures_30 ?_
          refine gk_goto 36 C dX2_readsFigures_31 (by decide) ?_
          exact gk_eqv (by first | exact (if_neg (by omega)).symm | exact (if_pos c14).symm) K36
  exact L3 0 (Nat.zero_le _) rfl
