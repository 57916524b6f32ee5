set_option maxRecDepth 100000
/-- σ with the best s, what is kept K, the cut's words -/
def mo_B (σ : mo_S) (s : lo_R) (K : Nat → Int32) (o : Int32) (P H : Nat → Int32) (f : Int32) : mo_S := mo_st ((mo_bs σ s).1, va_up σ.2 38 K) o P H f
theorem mo_B_a (σ : mo_S) (s : lo_R) (K : Nat → Int32) (o : Int32) (P H : Nat → Int32) (f : Int32) (k j : Nat) (v : Int32) (h1 : k ≠ 21) (h2 : k ≠ 22) (h3 : k ≠ 38) : mo_a (mo_B σ s K o P H f) k j v = mo_B (mo_a σ k j v) s K o P H f := by
  unfold mo_B
  rw [mo_st_a _ _ _ _ _ _ _ _ h1 h2]
  congr 1
  have e : va_up σ.2 38 K k = σ.2 k := by unfold va_up; rw [if_neg h3]
  unfold mo_a
  dsimp only
  rw [e, va_up_cm _ 38 k _ _ (Ne.symm h3)]
  rfl
theorem mo_B_38 (σ : mo_S) (s : lo_R) (K : Nat → Int32) (o : Int32) (P H : Nat → Int32) (f : Int32) (j : Nat) (v : Int32) : mo_a (mo_B σ s K o P H f) 38 j v = mo_B σ s (upd K j v) o P H f := by
  unfold mo_B
  rw [mo_st_a _ _ _ _ _ _ _ _ (by decide) (by decide)]
  congr 1
  have e : va_up σ.2 38 K 38 = K := rfl
  unfold mo_a
  dsimp only
  rw [e, va_up_up]
theorem mo_B_st (σ : mo_S) (s : lo_R) (K : Nat → Int32) (o o' : Int32) (P H P' H' : Nat → Int32) (f f' : Int32) : mo_st (mo_B σ s K o P H f) o' P' H' f' = mo_B σ s K o' P' H' f' := by
  unfold mo_B
  rw [mo_st_st]
theorem mo_bs_bs (σ : mo_S) (s s' : lo_R) : mo_bs (mo_bs σ s) s' = mo_bs σ s' := by
  unfold mo_bs mo_i
  dsimp only
  rw [va_up_cm _ 37 34 _ _ (by decide), va_up_cm _ 36 34 _ _ (by decide), va_up_cm _ 35 34 _ _ (by decide), va_up_up, va_up_cm _ 37 35 _ _ (by decide), va_up_cm _ 36 35 _ _ (by decide), va_up_up, va_up_cm _ 37 36 _ _ (by decide), va_up_up, va_up_up]
theorem mo_bs_st (σ : mo_S) (s : lo_R) (o : Int32) (P H : Nat → Int32) (f : Int32) : mo_bs (mo_st σ o P H f) s = mo_st (mo_bs σ s) o P H f := by
  unfold mo_bs
  rw [mo_st_i _ _ _ _ _ _ _ (by decide) (by decide), mo_st_i _ _ _ _ _ _ _ (by decide) (by decide), mo_st_i _ _ _ _ _ _ _ (by decide) (by decide), mo_st_i _ _ _ _ _ _ _ (by decide) (by decide)]
theorem mo_B_bs (σ : mo_S) (s s' : lo_R) (K : Nat → Int32) (o : Int32) (P H : Nat → Int32) (f : Int32) : mo_bs (mo_B σ s K o P H f) s' = mo_B σ s' K o P H f := by
  unfold mo_B
  rw [mo_bs_st]
  congr 1
  have h := mo_bs_bs σ s s'
  unfold mo_bs mo_i at h ⊢
  dsimp only at h ⊢
  have h1 := congrArg Prod.fst h
  dsimp only at h1
  rw [h1]
theorem mo_B_id (σ : mo_S) : mo_B σ (mo_bst σ) (σ.2 38) (σ.1 20) (σ.2 21) (σ.2 22) (σ.1 23) = σ := by
  unfold mo_B
  rw [mo_bs_id, va_up_id]
  exact mo_st_id σ
theorem mo_ac_B (σ : mo_S) (s : lo_R) (K : Nat → Int32) (o : Int32) (P H : Nat → Int32) (f : Int32) (k a : Nat) (ha : a ≤ 3) : mo_ac (mo_B σ s K o P H f) k a = mo_B (mo_ac σ k a) s K o P H f := by
  rcases (show a = 0 ∨ a = 1 ∨ a = 2 ∨ a = 3 by omega) with rfl | rfl | rfl | rfl
  · show mo_a (mo_a (mo_B σ s K o P H f) 6 k (σ.2 6 k + 2)) 5 k (σ.2 5 k - 1) = _
    rw [mo_B_a _ _ _ _ _ _ _ _ _ _ (by decide) (by decide) (by decide), mo_B_a _ _ _ _ _ _ _ _ _ _ (by decide) (by decide) (by decide)]
    rfl
  · show mo_a (mo_B σ s K o P H f) 4 k (σ.2 4 k - 1) = _
    rw [mo_B_a _ _ _ _ _ _ _ _ _ _ (by decide) (by decide) (by decide)]
    rfl
  · show mo_a (mo_B σ s K o P H f) 4 k (σ.2 4 k + 1) = _
    rw [mo_B_a _ _ _ _ _ _ _ _ _ _ (by decide) (by decide) (by decide)]
    rfl
  · show mo_a (mo_B σ s K o P H f) 5 k 0 = _
    rw [mo_B_a _ _ _ _ _ _ _ _ _ _ (by decide) (by decide) (by decide)]
    rfl
theorem mo_t_ac (σ : mo_S) (k a : Nat) (ha : a ≤ 3) : mo_t (mo_ac σ k a) = ac_t (mo_t σ) k a := by
  rcases (show a = 0 ∨ a = 1 ∨ a = 2 ∨ a = 3 by omega) with rfl | rfl | rfl | rfl
  · show mo_t (mo_a (mo_a σ (2 + 4) k (σ.2 6 k + 2)) (1 + 4) k (σ.2 5 k - 1)) = _
    rw [mo_t_ch _ 1 k (by decide), mo_t_ch _ 2 k (by decide)]
    rfl
  · exact mo_t_ch σ 0 k (by decide) _
  · exact mo_t_ch σ 0 k (by decide) _
  · exact mo_t_ch σ 1 k (by decide) _
theorem mo_ac_hi (σ : mo_S) (k a : Nat) (ha : a ≤ 3) (j : Nat) (hj : 7 ≤ j) : (mo_ac σ k a).2 j = σ.2 j := by
  rcases (show a = 0 ∨ a = 1 ∨ a = 2 ∨ a = 3 by omega) with rfl | rfl | rfl | rfl
  · show (mo_a (mo_a σ (2 + 4) k (σ.2 6 k + 2)) (1 + 4) k (σ.2 5 k - 1)).2 j = _
    rw [mo_a_hi _ 1 k (by decide) _ j hj, mo_a_hi _ 2 k (by decide) _ j hj]
  · exact mo_a_hi σ 0 k (by decide) _ j hj
  · exact mo_a_hi σ 0 k (by decide) _ j hj
  · exact mo_a_hi σ 1 k (by decide) _ j hj
theorem mo_ac_1 (σ : mo_S) (k a : Nat) (ha : a ≤ 3) : (mo_ac σ k a).1 = σ.1 := by
  rcases (show a = 0 ∨ a = 1 ∨ a = 2 ∨ a = 3 by omega) with rfl | rfl | rfl | rfl <;> rfl
theorem mo_b_ac (σ : mo_S) (k a : Nat) (ha : a ≤ 3) : mo_b (mo_ac σ k a) = mo_b σ := by
  unfold mo_b
  rw [mo_ac_hi σ k a ha 13 (by decide), mo_ac_hi σ k a ha 14 (by decide), mo_ac_hi σ k a ha 15 (by decide)]
theorem mo_c_ac (σ : mo_S) (k a : Nat) (ha : a ≤ 3) (n L lt : Nat) : mo_c (mo_ac σ k a) n L lt = mo_c σ n L lt := by
  unfold mo_c
  rw [mo_b_ac σ k a ha, mo_ac_1 σ k a ha]
theorem upd_upd (f : Nat → Int32) (k : Nat) (v w : Int32) : upd (upd f k v) k w = upd f k w := by
  funext j; unfold upd; split <;> rfl
theorem upd_id (f : Nat → Int32) (k : Nat) : upd f k (f k) = f := by
  funext j; unfold upd; split
  · rename_i h; rw [h]
  · rfl
/-- the tooth k as it was, behind an act -/
theorem mo_ac_back (σ : mo_S) (k a : Nat) (ha : a ≤ 3) : mo_a (mo_a (mo_a (mo_ac σ k a) 4 k (σ.2 4 k)) 5 k (σ.2 5 k)) 6 k (σ.2 6 k) = σ := by
  have key : ∀ (x : mo_S) (b c d : Int32), x.1 = σ.1 → (∀ j, j ≠ 4 → j ≠ 5 → j ≠ 6 → x.2 j = σ.2 j) → x.2 4 = upd (σ.2 4) k b → x.2 5 = upd (σ.2 5) k c → x.2 6 = upd (σ.2 6) k d → mo_a (mo_a (mo_a x 4 k (σ.2 4 k)) 5 k (σ.2 5 k)) 6 k (σ.2 6 k) = σ := by
    intro x b c d h1 h2 h4 h5 h6
    obtain ⟨x1, x2⟩ := x
    unfold mo_a
    dsimp only at h1 h2 h4 h5 h6 ⊢
    refine Prod.ext h1 ?_
    funext j
    dsimp only
    unfold va_up
    by_cases e6 : j = 6
    · subst e6
      rw [if_pos rfl, if_neg (by decide), if_neg (by decide), h6, upd_upd, upd_id]
    · rw [if_neg e6]
      by_cases e5 : j = 5
      · subst e5
        rw [if_pos rfl, if_neg (by decide), h5, upd_upd, upd_id]
      · rw [if_neg e5]
        by_cases e4 : j = 4
        · subst e4
          rw [if_pos rfl, h4, upd_upd, upd_id]
        · rw [if_neg e4]
          exact h2 j e4 e5 e6
  rcases (show a = 0 ∨ a = 1 ∨ a = 2 ∨ a = 3 by omega) with rfl | rfl | rfl | rfl
  · refine key _ (σ.2 4 k) (σ.2 5 k - 1) (σ.2 6 k + 2) rfl (fun j h4 h5 h6 => ?_) (upd_id _ _).symm rfl rfl
    show va_up (va_up σ.2 6 _) 5 _ j = _
    unfold va_up
    rw [if_neg h5, if_neg h6]
  · refine key _ (σ.2 4 k - 1) (σ.2 5 k) (σ.2 6 k) rfl (fun j h4 h5 h6 => ?_) rfl (upd_id _ _).symm (upd_id _ _).symm
    show va_up σ.2 4 _ j = _
    unfold va_up
    rw [if_neg h4]
  · refine key _ (σ.2 4 k + 1) (σ.2 5 k) (σ.2 6 k) rfl (fun j h4 h5 h6 => ?_) rfl (upd_id _ _).symm (upd_id _ _).symm
    show va_up σ.2 4 _ j = _
    unfold va_up
    rw [if_neg h4]
  · refine key _ (σ.2 4 k) 0 (σ.2 6 k) rfl (fun j h4 h5 h6 => ?_) (upd_id _ _).symm rfl (upd_id _ _).symm
    show va_up σ.2 5 _ j = _
    unfold va_up
    rw [if_neg h5]
/-- σ but for the best s, what is kept from 3 on, the cut's words -/
def mo_r (σ : mo_S) (s : lo_R) (σ1 : mo_S) : Prop := ∃ (K : Nat → Int32) (o : Int32) (P H : Nat → Int32) (f : Int32), (∀ j, j < 3 → K j = σ.2 38 j) ∧ σ1 = mo_B σ s K o P H f
theorem ac_cE (a : Nat) (ha : a ≤ 3) : (if nI a = 0 then (2 : Int32) else if nI a = 3 then 4 else 1) = ac_c a := by
  rcases (show a = 0 ∨ a = 1 ∨ a = 2 ∨ a = 3 by omega) with rfl | rfl | rfl | rfl <;> rfl
set_option maxHeartbeats 8000000 in
theorem mo_lookFurther (l : Launch) (Γ : gk_E) (h : Nat) (ad : Nat → Nat) (σ : mo_S) (n : Nat) (hn : n ≤ 8) (e : σ.1 1 = nI n) (L : Nat) (hL : L ≤ 24) (eL : σ.1 12 = nI L) (lt : Nat) (hlt : lt ≤ 5) (eT : σ.1 18 = nI lt) (hH : ∀ t, t < L → ¬ 10 * σ.2 13 t = 0) (mm : Int32) (k : Nat) (hk : k < 8) (a : Nat) (ha : a ≤ 3) : mo_Y l yX2_lookFurther (Cond.code yX2_lookFurther cX2_lookFurther 7 none) 5 [.int mm, .int (nI k), .int (nI a)] Γ h ad σ (fun σ1 => mo_r σ (mn_2 (mo_c σ n L lt) (mo_t σ) mm k a (mo_bst σ) (4 * n)) σ1) := by
  refine gk_M.intro gk_N0_ok (by decide) [some (.ref h), some (.int mm), some (.int (nI k)), some (.int (nI a)), none, none, none] rfl rfl rfl ?_
  intro κ hl hg hN0 C E
  subst hl hg
  have C : gk_C κ cX2_lookFurther "SawLineModel" 5 0 0 := C
  refine gk_iconst 0 C dX2_lookFurther_0 rfl ?_
  refine gk_istore C dX2_lookFurther_1 rfl rfl ?_
  have L3 : ∀ x, x ≤ 4 * n → ∀ (K : Nat → Int32) (o : Int32) (P H : Nat → Int32) (f : Int32), (∀ j, j < 3 → K j = σ.2 38 j) → gk_G κ 0 0 (mo_W (gk_g κ) h ad (mo_B σ (mn_2 (mo_c σ n L lt) (mo_t σ) mm k a (mo_bst σ) x) K o P H f)) 3 [some (.ref h), some (.int mm), some (.int (nI k)), some (.int (nI a)), some (.int (nI x)), none, none] [] := by
    refine up_ind (fun x hx ih => ?_)
    intro K o P H f hK
    refine gk_iload C dX2_lookFurther_3 rfl ?_
    refine gk_iconst 4 C dX2_lookFurther_5 rfl ?_
    refine gk_aload_n C dX2_lookFurther_6 rfl ?_
    refine mo_g1 C dX2_lookFurther_7 ?_
    refine gk_eqv e ?_
    refine gk_imul C dX2_lookFurther_10 ?_
    refine gk_eqv (pk_mul 4 n) ?_
    refine gk_icmp_ge 95 C dX2_lookFurther_11 (by decide) (fun c11 => ?_) (fun c11 => ?_)
    · obtain rfl : x = 4 * n := by have := nI_leT c11 (by omega) (by omega); omega
      exact gk_vret C E dX2_lookFurther_95 rfl rfl ⟨_, rfl, rfl, K, o, P, H, f, hK, rfl⟩
    · have c11 := nI_ngeT c11 (by omega)
      have hx4 : x / 4 < 8 := by omega
      have hxm : x % 4 ≤ 3 := by omega
      refine gk_iload C dX2_lookFurther_14 rfl ?_
      refine gk_iconst 4 C dX2_lookFurther_16 rfl ?_
      refine gk_idiv C dX2_lookFurther_17 (by decide) ?_
      refine gk_eqv (pk_div (a := x) (d := 4) (by omega) (by omega) (by omega)) ?_
      refine gk_istore C dX2_lookFurther_18 rfl rfl ?_
      refine gk_iload C dX2_lookFurther_20 rfl ?_
      refine gk_iconst 4 C dX2_lookFurther_22 rfl ?_
      refine gk_irem C dX2_lookFurther_23 (by decide) ?_
      refine gk_eqv (pk_rem (a := x) (d := 4) (by omega) (by omega) (by omega)) ?_
      refine gk_istore C dX2_lookFurther_24 rfl rfl ?_
      refine gk_aload_n C dX2_lookFurther_26 rfl ?_
      refine gk_iload C dX2_lookFurther_27 rfl ?_
      refine gk_iload C dX2_lookFurther_29 rfl ?_
      refine mo_cU2 C (mo_mayBe _ _ _ _ _ (x / 4) hx4 (x % 4) hxm) cv_X2_243 rfl rfl rfl dX2_lookFurther_31 ?_
      refine gk_eqv (y := zb (ac_ok (mo_t σ) (x / 4) (x % 4) = true)) rfl ?_
      refine gk_if_eq 89 C dX2_lookFurther_34 (by decide) (fun c34 => ?_) (fun c34 => ?_)
      · rw [zb_0] at c34
        rw [show (mn_2 (mo_c σ n L lt) (mo_t σ) mm k a (mo_bst σ) x) = (mn_2 (mo_c σ n L lt) (mo_t σ) mm k a (mo_bst σ) (x + 1)) from (if_neg c34).symm]
        have hK2 := hK
        refine gk_iinc (nI (x + 1)) C dX2_lookFurther_89 rfl (nI_succ x).symm rfl rfl ?_
        refine gk_goto 3 C dX2_lookFurther_92 (by decide) ?_
        exact gk_fg 5 (gk_fg 6 (ih c11 _ _ _ _ _ hK2))
      · rw [zb_n] at c34
        have hs : _ = (mn_2 (mo_c σ n L lt) (mo_t σ) mm k a (mo_bst σ) (x + 1)) := (if_pos c34).symm
        generalize (mn_2 (mo_c σ n L lt) (mo_t σ) mm k a (mo_bst σ) x) = s at hs ⊢
        refine gk_aload_n C dX2_lookFurther_37 rfl ?_
        refine gk_iload C dX2_lookFurther_38 rfl ?_
        refine gk_iconst 3 C dX2_lookFurther_40 rfl ?_
        refine mo_cV2 C (mo_keep _ _ _ _ _ (x / 4) hx4 3 (by decide)) cv_X2_262 rfl rfl rfl dX2_lookFurther_41 ?_
        rw [mo_B_38, mo_B_38, mo_B_38]
        refine gk_eqw (ws' := mo_W (gk_g κ) h ad (mo_B σ s (upd (upd (upd K 3 (σ.2 4 (x / 4))) 4 (σ.2 5 (x / 4))) 5 (σ.2 6 (x / 4))) o P H f)) rfl ?_
        have hK2 : ∀ j, j < 3 → (upd (upd (upd K 3 (σ.2 4 (x / 4))) 4 (σ.2 5 (x / 4))) 5 (σ.2 6 (x / 4))) j = σ.2 38 j := fun j hj => by
          unfold upd
          rw [if_neg (by omega), if_neg (by omega), if_neg (by omega)]
          exact hK j hj
        have hk3 : (upd (upd (upd K 3 (σ.2 4 (x / 4))) 4 (σ.2 5 (x / 4))) 5 (σ.2 6 (x / 4))) 3 = σ.2 4 (x / 4) := rfl
        have hk4 : (upd (upd (upd K 3 (σ.2 4 (x / 4))) 4 (σ.2 5 (x / 4))) 5 (σ.2 6 (x / 4))) 4 = σ.2 5 (x / 4) := rfl
        have hk5 : (upd (upd (upd K 3 (σ.2 4 (x / 4))) 4 (σ.2 5 (x / 4))) 5 (σ.2 6 (x / 4))) 5 = σ.2 6 (x / 4) := rfl
        generalize (upd (upd (upd K 3 (σ.2 4 (x / 4))) 4 (σ.2 5 (x / 4))) 5 (σ.2 6 (x / 4))) = K2 at hK2 hk3 hk4 hk5 ⊢
        refine gk_aload_n C dX2_lookFurther_44 rfl ?_
        refine gk_iload C dX2_lookFurther_45 rfl ?_
        refine gk_iload C dX2_lookFurther_47 rfl ?_
        refine mo_cV2 C (mo_doAct _ _ _ _ _ (x / 4) hx4 (x % 4) hxm) cv_X2_246 rfl rfl rfl dX2_lookFurther_49 ?_
        rw [mo_ac_B _ _ _ _ _ _ _ _ _ hxm]
        refine gk_aload_n C dX2_lookFurther_52 rfl ?_
        refine gk_iload_n C dX2_lookFurther_53 rfl ?_
        refine gk_iload_n C dX2_lookFurther_54 rfl ?_
        refine gk_cP1 C (mo_costOf _ _) cs_X2_265 rfl (Nat.zero_le _) (Nat.zero_le _) rfl dX2_lookFurther_55 ?_
        rw [ac_cE a ha]
        refine gk_iload C dX2_lookFurther_58 rfl ?_
        refine gk_cP1 C (mo_costOf _ _) cs_X2_265 rfl (Nat.zero_le _) (Nat.zero_le _) rfl dX2_lookFurther_60 ?_
        rw [ac_cE (x % 4) hxm]
        refine gk_iadd C dX2_lookFurther_63 ?_
        refine gk_iconst 2 C dX2_lookFurther_64 rfl ?_
        refine gk_bipush 10 C dX2_lookFurther_65 rfl ?_
        refine gk_iload_n C dX2_lookFurther_67 rfl ?_
        refine gk_imul C dX2_lookFurther_68 ?_
        refine gk_iload_n C dX2_lookFurther_69 rfl ?_
        refine gk_iadd C dX2_lookFurther_70 ?_
        refine gk_eqv (y := nI (10 * k + a)) ((congrArg (· + nI a) (pk_mul 10 k)).trans (nI_add _ _)) ?_
        refine gk_bipush 10 C dX2_lookFurther_71 rfl ?_
        refine gk_iload C dX2_lookFurther_73 rfl ?_
        refine gk_imul C dX2_lookFurther_75 ?_
        refine gk_iload C dX2_lookFurther_76 rfl ?_
        refine gk_iadd C dX2_lookFurther_78 ?_
        refine gk_eqv (y := nI (10 * (x / 4) + x % 4)) ((congrArg (· + nI (x % 4)) (pk_mul 10 (x / 4))).trans (nI_add _ _)) ?_
        refine mo_cY5 C (mo_look _ _ _ _ (mo_B (mo_ac σ (x / 4) (x % 4)) s K2 o P H f) n hn (by rw [← e]; exact congrFun (mo_ac_1 σ _ _ hxm) 1) L hL (by rw [← eL]; exact congrFun (mo_ac_1 σ _ _ hxm) 12) lt hlt (by rw [← eT]; exact congrFun (mo_ac_1 σ _ _ hxm) 18) (by have := mo_ac_hi σ (x / 4) (x % 4) hxm 13 (by decide); intro t ht; rw [show (mo_B (mo_ac σ (x / 4) (x % 4)) s K2 o P H f).2 13 = σ.2 13 from this]; exact hH t ht) mm _ _ _ _) cv_X2_268 rfl rfl rfl dX2_lookFurther_79 ?_
        rintro σ9 ⟨o2, P2, H2, f2, rfl⟩
        rw [mo_B_bs, mo_B_st]
        rw [show mo_c (mo_B (mo_ac σ (x / 4) (x % 4)) s K2 o P H f) n L lt = mo_c σ n L lt from mo_c_ac σ _ _ hxm n L lt, show mo_t (mo_B (mo_ac σ (x / 4) (x % 4)) s K2 o P H f) = ac_t (mo_t σ) (x / 4) (x % 4) from mo_t_ac σ _ _ hxm, show mo_bst (mo_B (mo_ac σ (x / 4) (x % 4)) s K2 o P H f) = s from rfl, hs]
        refine gk_aload_n C dX2_lookFurther_82 rfl ?_
        refine gk_iload C dX2_lookFurther_83 rfl ?_
        refine gk_iconst 3 C dX2_lookFurther_85 rfl ?_
        refine mo_cV2 C (mo_putBack _ _ _ _ _ (x / 4) hx4 3 (by decide)) cv_X2_272 rfl rfl rfl dX2_lookFurther_86 ?_
        rw [mo_B_a _ _ _ _ _ _ _ _ _ _ (by decide) (by decide) (by decide), mo_B_a _ _ _ _ _ _ _ _ _ _ (by decide) (by decide) (by decide), mo_B_a _ _ _ _ _ _ _ _ _ _ (by decide) (by decide) (by decide)]
        rw [show (mo_B (mo_ac σ (x / 4) (x % 4)) (mn_2 (mo_c σ n L lt) (mo_t σ) mm k a (mo_bst σ) (x + 1)) K2 o2 P2 H2 f2).2 38 3 = σ.2 4 (x / 4) from hk3, show (mo_B (mo_ac σ (x / 4) (x % 4)) (mn_2 (mo_c σ n L lt) (mo_t σ) mm k a (mo_bst σ) (x + 1)) K2 o2 P2 H2 f2).2 38 (3 + 1) = σ.2 5 (x / 4) from hk4, show (mo_B (mo_ac σ (x / 4) (x % 4)) (mn_2 (mo_c σ n L lt) (mo_t σ) mm k a (mo_bst σ) (x + 1)) K2 o2 P2 H2 f2).2 38 (3 + 2) = σ.2 6 (x / 4) from hk5, mo_ac_back σ _ _ hxm]
        refine gk_iinc (nI (x + 1)) C dX2_lookFurther_89 rfl (nI_succ x).symm rfl rfl ?_
        refine gk_goto 3 C dX2_lookFurther_92 (by decide) ?_
        exact gk_fg 5 (gk_fg 6 (ih c11 _ _ _ _ _ hK2))
  have h0 := L3 0 (Nat.zero_le _) (σ.2 38) (σ.1 20) (σ.2 21) (σ.2 22) (σ.1 23) (fun _ _ => rfl)
  rw [show (mn_2 (mo_c σ n L lt) (mo_t σ) mm k a (mo_bst σ) 0) = mo_bst σ from rfl, mo_B_id] at h0
  exact h0
