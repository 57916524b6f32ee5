set_option maxRecDepth 100000
theorem mo_B_B (σ : mo_S) (s s' : lo_R) (K K' : Nat → Int32) (o o' : Int32) (P H P' H' : Nat → Int32) (f f' : Int32) : mo_B (mo_B σ s K o P H f) s' K' o' P' H' f' = mo_B σ s' K' o' P' H' f' := by
  have h1 : mo_B (mo_B σ s K o P H f) s' K' o' P' H' f' = mo_st ((mo_bs (mo_B σ s K o P H f) s').1, va_up (mo_bs (mo_B σ s K o P H f) s').2 38 K') o' P' H' f' := rfl
  rw [h1, mo_B_bs]
  show mo_st (((mo_st ((mo_bs σ s').1, va_up σ.2 38 K) o P H f)).1, va_up (mo_st ((mo_bs σ s').1, va_up σ.2 38 K) o P H f).2 38 K') o' P' H' f' = mo_st ((mo_bs σ s').1, va_up σ.2 38 K') o' P' H' f'
  have h2 : (((mo_st ((mo_bs σ s').1, va_up σ.2 38 K) o P H f)).1, va_up (mo_st ((mo_bs σ s').1, va_up σ.2 38 K) o P H f).2 38 K') = mo_st ((mo_bs σ s').1, va_up σ.2 38 K') o P H f := by
    unfold mo_st
    dsimp only
    rw [va_up_cm _ 22 38 _ _ (by decide), va_up_cm _ 21 38 _ _ (by decide), va_up_up]
  rw [h2, mo_st_st]
theorem mo_bs_B (σ : mo_S) (s : lo_R) : mo_bs σ s = mo_B σ s (σ.2 38) (σ.1 20) (σ.2 21) (σ.2 22) (σ.1 23) := by
  have h : mo_bs (mo_B σ (mo_bst σ) (σ.2 38) (σ.1 20) (σ.2 21) (σ.2 22) (σ.1 23)) s = mo_B σ s (σ.2 38) (σ.1 20) (σ.2 21) (σ.2 22) (σ.1 23) := mo_B_bs _ _ _ _ _ _ _ _
  rwa [mo_B_id] at h
def mo_j3 (σ σ1 : mo_S) : Prop := ∃ (s : lo_R) (K : Nat → Int32) (o : Int32) (P H : Nat → Int32) (f : Int32), σ1 = mo_B σ s K o P H f
theorem mo_j3.rf (σ : mo_S) : mo_j3 σ σ := ⟨_, _, _, _, _, _, (mo_B_id σ).symm⟩
set_option maxHeartbeats 8000000 in
theorem mo_layMend (l : Launch) (Γ : gk_E) (h : Nat) (ad : Nat → Nat) (σ : mo_S) (n : Nat) (hn : n ≤ 8) (e : σ.1 1 = nI n) (L : Nat) (hL : L ≤ 24) (eL : σ.1 12 = nI L) (lt : Nat) (hlt : lt ≤ 5) (eT : σ.1 18 = nI lt) (hH : ∀ t, t < L → ¬ 10 * σ.2 13 t = 0) (mm : Int32) : mo_Y l yX2_layMend (Cond.code yX2_layMend cX2_layMend 5 none) 6 [.int mm] Γ h ad σ (fun σ1 => ∃ (K : Nat → Int32) (o : Int32) (P H : Nat → Int32) (f : Int32), σ1 = mo_B σ (mn (mo_c σ n L lt) (mo_t σ) mm) K o P H f) := by
  refine gk_M.intro gk_N0_ok (by decide) [some (.ref h), some (.int mm), none, none, none] rfl rfl rfl ?_
  intro κ hl hg hN0 C E
  subst hl hg
  have C : gk_C κ cX2_layMend "SawLineModel" 6 0 0 := C
  refine gk_aload_n C dX2_layMend_0 rfl ?_
  refine gk_bipush (-9) C dX2_layMend_1 rfl ?_
  refine mo_p34 C dX2_layMend_3 ?_
  refine gk_aload_n C dX2_layMend_6 rfl ?_
  refine gk_iconst 0 C dX2_layMend_7 rfl ?_
  refine mo_p35 C dX2_layMend_8 ?_
  refine gk_aload_n C dX2_layMend_11 rfl ?_
  refine gk_bipush (-9) C dX2_layMend_12 rfl ?_
  refine mo_p36 C dX2_layMend_14 ?_
  refine gk_aload_n C dX2_layMend_17 rfl ?_
  refine gk_bipush (-9) C dX2_layMend_18 rfl ?_
  refine mo_p37 C dX2_layMend_20 ?_
  refine gk_eqw (ws' := mo_W (gk_g κ) h ad (mo_bs σ (-9, 0, -9, -9))) rfl ?_
  refine gk_aload_n C dX2_layMend_23 rfl ?_
  refine gk_iload_n C dX2_layMend_24 rfl ?_
  refine gk_iconst 0 C dX2_layMend_25 rfl ?_
  refine gk_iconst 0 C dX2_layMend_26 rfl ?_
  refine gk_bipush (-9) C dX2_layMend_27 rfl ?_
  refine gk_bipush (-9) C dX2_layMend_29 rfl ?_
  refine mo_cY5 C (mo_look _ _ _ _ (mo_bs σ (-9, 0, -9, -9)) n hn e L hL eL lt hlt eT hH mm 0 0 (-9) (-9)) cv_X2_268 rfl rfl rfl dX2_layMend_31 ?_
  rintro σ9 ⟨o, P, H, f, rfl⟩
  rw [mo_bs_bs]
  refine gk_eqw (ws' := mo_W (gk_g κ) h ad (mo_st (mo_bs σ (lo_k (cf_ok (mo_c σ n L lt) (mo_t σ) mm) 0 0 (-9) (-9) (-9, 0, -9, -9))) o P H f)) rfl ?_
  rw [mo_bs_B, mo_B_st]
  refine gk_iconst 0 C dX2_layMend_34 rfl ?_
  refine gk_istore_n C dX2_layMend_35 rfl rfl ?_
  have L36 : ∀ x, x ≤ 4 * n → ∀ (K : Nat → Int32) (o : Int32) (P H : Nat → Int32) (f : Int32), gk_G κ 0 0 (mo_W (gk_g κ) h ad (mo_B σ (mn_1 (mo_c σ n L lt) (mo_t σ) mm (lo_k (cf_ok (mo_c σ n L lt) (mo_t σ) mm) 0 0 (-9) (-9) (-9, 0, -9, -9)) x) K o P H f)) 36 [some (.ref h), some (.int mm), some (.int (nI x)), none, none] [] := by
    clear o P H f
    refine up_ind (fun x hx ih => ?_)
    intro K o P H f
    refine gk_iload_n C dX2_layMend_36 rfl ?_
    refine gk_iconst 4 C dX2_layMend_37 rfl ?_
    refine gk_aload_n C dX2_layMend_38 rfl ?_
    refine mo_g1 C dX2_layMend_39 ?_
    refine gk_eqv e ?_
    refine gk_imul C dX2_layMend_42 ?_
    refine gk_eqv (pk_mul 4 n) ?_
    refine gk_icmp_ge 118 C dX2_layMend_43 (by decide) (fun c43 => ?_) (fun c43 => ?_)
    · obtain rfl : x = 4 * n := by have := nI_leT c43 (by omega) (by omega); omega
      exact gk_vret C E dX2_layMend_118 rfl rfl ⟨_, rfl, rfl, K, o, P, H, f, rfl⟩
    · have c43 := nI_ngeT c43 (by omega)
      have hx4 : x / 4 < 8 := by omega
      have hxm : x % 4 ≤ 3 := by omega
      refine gk_iload_n C dX2_layMend_46 rfl ?_
      refine gk_iconst 4 C dX2_layMend_47 rfl ?_
      refine gk_idiv C dX2_layMend_48 (by decide) ?_
      refine gk_eqv (pk_div (a := x) (d := 4) (by omega) (by omega) (by omega)) ?_
      refine gk_istore_n C dX2_layMend_49 rfl rfl ?_
      refine gk_iload_n C dX2_layMend_50 rfl ?_
      refine gk_iconst 4 C dX2_layMend_51 rfl ?_
      refine gk_irem C dX2_layMend_52 (by decide) ?_
      refine gk_eqv (pk_rem (a := x) (d := 4) (by omega) (by omega) (by omega)) ?_
      refine gk_istore C dX2_layMend_53 rfl rfl ?_
      refine gk_aload_n C dX2_layMend_55 rfl ?_
      refine gk_iload_n C dX2_layMend_56 rfl ?_
      refine gk_iload C dX2_layMend_57 rfl ?_
      refine mo_cU2 C (mo_mayBe _ _ _ _ _ (x / 4) hx4 (x % 4) hxm) cv_X2_243 rfl rfl rfl dX2_layMend_59 ?_
      refine gk_eqv (y := zb (ac_ok (mo_t σ) (x / 4) (x % 4) = true)) rfl ?_
      refine gk_if_eq 112 C dX2_layMend_62 (by decide) (fun c62 => ?_) (fun c62 => ?_)
      · rw [zb_0] at c62
        rw [show (mn_1 (mo_c σ n L lt) (mo_t σ) mm (lo_k (cf_ok (mo_c σ n L lt) (mo_t σ) mm) 0 0 (-9) (-9) (-9, 0, -9, -9)) x) = (mn_1 (mo_c σ n L lt) (mo_t σ) mm (lo_k (cf_ok (mo_c σ n L lt) (mo_t σ) mm) 0 0 (-9) (-9) (-9, 0, -9, -9)) (x + 1)) from (if_neg c62).symm]
        refine gk_iinc (nI (x + 1)) C dX2_layMend_112 rfl (nI_succ x).symm rfl rfl ?_
        refine gk_goto 36 C dX2_layMend_115 (by decide) ?_
        exact gk_fg 3 (gk_fg 4 (ih c43 _ _ _ _ _))
      · rw [zb_n] at c62
        have hs : _ = (mn_1 (mo_c σ n L lt) (mo_t σ) mm (lo_k (cf_ok (mo_c σ n L lt) (mo_t σ) mm) 0 0 (-9) (-9) (-9, 0, -9, -9)) (x + 1)) := (if_pos c62).symm
        generalize (mn_1 (mo_c σ n L lt) (mo_t σ) mm (lo_k (cf_ok (mo_c σ n L lt) (mo_t σ) mm) 0 0 (-9) (-9) (-9, 0, -9, -9)) x) = s at hs ⊢
        refine gk_aload_n C dX2_layMend_65 rfl ?_
        refine gk_iload_n C dX2_layMend_66 rfl ?_
        refine gk_iconst 0 C dX2_layMend_67 rfl ?_
        refine mo_cV2 C (mo_keep _ _ _ _ _ (x / 4) hx4 0 (by decide)) cv_X2_262 rfl rfl rfl dX2_layMend_68 ?_
        rw [mo_B_38, mo_B_38, mo_B_38]
        refine gk_eqw (ws' := mo_W (gk_g κ) h ad (mo_B σ s (upd (upd (upd K 0 (σ.2 4 (x / 4))) 1 (σ.2 5 (x / 4))) 2 (σ.2 6 (x / 4))) o P H f)) rfl ?_
        have hk3 : (upd (upd (upd K 0 (σ.2 4 (x / 4))) 1 (σ.2 5 (x / 4))) 2 (σ.2 6 (x / 4))) 0 = σ.2 4 (x / 4) := rfl
        have hk4 : (upd (upd (upd K 0 (σ.2 4 (x / 4))) 1 (σ.2 5 (x / 4))) 2 (σ.2 6 (x / 4))) 1 = σ.2 5 (x / 4) := rfl
        have hk5 : (upd (upd (upd K 0 (σ.2 4 (x / 4))) 1 (σ.2 5 (x / 4))) 2 (σ.2 6 (x / 4))) 2 = σ.2 6 (x / 4) := rfl
        generalize (upd (upd (upd K 0 (σ.2 4 (x / 4))) 1 (σ.2 5 (x / 4))) 2 (σ.2 6 (x / 4))) = K2 at hk3 hk4 hk5 ⊢
        refine gk_aload_n C dX2_layMend_71 rfl ?_
        refine gk_iload_n C dX2_layMend_72 rfl ?_
        refine gk_iload C dX2_layMend_73 rfl ?_
        refine mo_cV2 C (mo_doAct _ _ _ _ _ (x / 4) hx4 (x % 4) hxm) cv_X2_246 rfl rfl rfl dX2_layMend_75 ?_
        rw [mo_ac_B _ _ _ _ _ _ _ _ _ hxm]
        refine gk_aload_n C dX2_layMend_78 rfl ?_
        refine gk_iload_n C dX2_layMend_79 rfl ?_
        refine gk_iload C dX2_layMend_80 rfl ?_
        refine gk_cP1 C (mo_costOf _ _) cs_X2_265 rfl (Nat.zero_le _) (Nat.zero_le _) rfl dX2_layMend_82 ?_
        rw [ac_cE (x % 4) hxm]
        refine gk_iconst 1 C dX2_layMend_85 rfl ?_
        refine gk_bipush 10 C dX2_layMend_86 rfl ?_
        refine gk_iload_n C dX2_layMend_88 rfl ?_
        refine gk_imul C dX2_layMend_89 ?_
        refine gk_iload C dX2_layMend_90 rfl ?_
        refine gk_iadd C dX2_layMend_92 ?_
        refine gk_eqv (y := nI (10 * (x / 4) + x % 4)) ((congrArg (· + nI (x % 4)) (pk_mul 10 (x / 4))).trans (nI_add _ _)) ?_
        refine gk_bipush (-9) C dX2_layMend_93 rfl ?_
        refine mo_cY5 C (mo_look _ _ _ _ (mo_B (mo_ac σ (x / 4) (x % 4)) s K2 o P H f) n hn (by rw [← e]; exact congrFun (mo_ac_1 σ _ _ hxm) 1) L hL (by rw [← eL]; exact congrFun (mo_ac_1 σ _ _ hxm) 12) lt hlt (by rw [← eT]; exact congrFun (mo_ac_1 σ _ _ hxm) 18) (by have := mo_ac_hi σ (x / 4) (x % 4) hxm 13 (by decide); intro t ht; rw [show (mo_B (mo_ac σ (x / 4) (x % 4)) s K2 o P H f).2 13 = σ.2 13 from this]; exact hH t ht) mm _ _ _ _) cv_X2_268 rfl rfl rfl dX2_layMend_95 ?_
        rintro σ9 ⟨o2, P2, H2, f2, rfl⟩
        rw [mo_B_bs, mo_B_st]
        rw [show mo_c (mo_B (mo_ac σ (x / 4) (x % 4)) s K2 o P H f) n L lt = mo_c σ n L lt from mo_c_ac σ _ _ hxm n L lt, show mo_t (mo_B (mo_ac σ (x / 4) (x % 4)) s K2 o P H f) = ac_t (mo_t σ) (x / 4) (x % 4) from mo_t_ac σ _ _ hxm, show mo_bst (mo_B (mo_ac σ (x / 4) (x % 4)) s K2 o P H f) = s from rfl]
        generalize (lo_k (cf_ok (mo_c σ n L lt) (ac_t (mo_t σ) (x / 4) (x % 4)) mm) (ac_c (x % 4)) 1 (nI (10 * (x / 4) + x % 4)) (-9) s) = s1 at hs ⊢
        refine gk_aload_n C dX2_layMend_98 rfl ?_
        refine gk_iload_n C dX2_layMend_99 rfl ?_
        refine gk_iload_n C dX2_layMend_100 rfl ?_
        refine gk_iload C dX2_layMend_101 rfl ?_
        refine mo_cY3 C (mo_lookFurther _ _ _ _ (mo_B (mo_ac σ (x / 4) (x % 4)) s1 K2 o2 P2 H2 f2) n hn (by rw [← e]; exact congrFun (mo_ac_1 σ _ _ hxm) 1) L hL (by rw [← eL]; exact congrFun (mo_ac_1 σ _ _ hxm) 12) lt hlt (by rw [← eT]; exact congrFun (mo_ac_1 σ _ _ hxm) 18) (by have := mo_ac_hi σ (x / 4) (x % 4) hxm 13 (by decide); intro t ht; rw [show (mo_B (mo_ac σ (x / 4) (x % 4)) s1 K2 o2 P2 H2 f2).2 13 = σ.2 13 from this]; exact hH t ht) mm (x / 4) hx4 (x % 4) hxm) cv_X2_275 rfl rfl rfl dX2_layMend_103 ?_
        rintro σ9 ⟨K3, o3, P3, H3, f3, hK3, rfl⟩
        rw [mo_B_B]
        rw [show mo_c (mo_B (mo_ac σ (x / 4) (x % 4)) s1 K2 o2 P2 H2 f2) n L lt = mo_c σ n L lt from mo_c_ac σ _ _ hxm n L lt, show mo_t (mo_B (mo_ac σ (x / 4) (x % 4)) s1 K2 o2 P2 H2 f2) = ac_t (mo_t σ) (x / 4) (x % 4) from mo_t_ac σ _ _ hxm, show mo_bst (mo_B (mo_ac σ (x / 4) (x % 4)) s1 K2 o2 P2 H2 f2) = s1 from rfl, hs]
        have hk3 := (hK3 0 (by decide)).trans hk3
        have hk4 := (hK3 1 (by decide)).trans hk4
        have hk5 := (hK3 2 (by decide)).trans hk5
        refine gk_aload_n C dX2_layMend_106 rfl ?_
        refine gk_iload_n C dX2_layMend_107 rfl ?_
        refine gk_iconst 0 C dX2_layMend_108 rfl ?_
        refine mo_cV2 C (mo_putBack _ _ _ _ _ (x / 4) hx4 0 (by decide)) cv_X2_272 rfl rfl rfl dX2_layMend_109 ?_
        rw [mo_B_a _ _ _ _ _ _ _ _ _ _ (by decide) (by decide) (by decide), mo_B_a _ _ _ _ _ _ _ _ _ _ (by decide) (by decide) (by decide), mo_B_a _ _ _ _ _ _ _ _ _ _ (by decide) (by decide) (by decide)]
        rw [show (mo_B (mo_ac σ (x / 4) (x % 4)) (mn_1 (mo_c σ n L lt) (mo_t σ) mm (lo_k (cf_ok (mo_c σ n L lt) (mo_t σ) mm) 0 0 (-9) (-9) (-9, 0, -9, -9)) (x + 1)) K3 o3 P3 H3 f3).2 38 0 = σ.2 4 (x / 4) from hk3, show (mo_B (mo_ac σ (x / 4) (x % 4)) (mn_1 (mo_c σ n L lt) (mo_t σ) mm (lo_k (cf_ok (mo_c σ n L lt) (mo_t σ) mm) 0 0 (-9) (-9) (-9, 0, -9, -9)) (x + 1)) K3 o3 P3 H3 f3).2 38 (0 + 1) = σ.2 5 (x / 4) from hk4, show (mo_B (mo_ac σ (x / 4) (x % 4)) (mn_1 (mo_c σ n L lt) (mo_t σ) mm (lo_k (cf_ok (mo_c σ n L lt) (mo_t σ) mm) 0 0 (-9) (-9) (-9, 0, -9, -9)) (x + 1)) K3 o3 P3 H3 f3).2 38 (0 + 2) = σ.2 6 (x / 4) from hk5, mo_ac_back σ _ _ hxm]
        refine gk_iinc (nI (x + 1)) C dX2_layMend_112 rfl (nI_succ x).symm rfl rfl ?_
        refine gk_goto 36 C dX2_layMend_115 (by decide) ?_
        exact gk_fg 3 (gk_fg 4 (ih c43 _ _ _ _ _))
  exact L36 0 (Nat.zero_le _) _ _ _ _ _
set_option maxHeartbeats 4000000 in
theorem mo_mend (l : Launch) (Γ : gk_E) (h : Nat) (ad : Nat → Nat) (σ : mo_S) (n : Nat) (hn : n ≤ 8) (e : σ.1 1 = nI n) (L : Nat) (hL : L ≤ 24) (eL : σ.1 12 = nI L) (lt : Nat) (hlt : lt ≤ 5) (eT : σ.1 18 = nI lt) (hH : ∀ t, t < L → ¬ 10 * σ.2 13 t = 0) (mm q : Int32) : mo_X l yX2_mend (Cond.code yX2_mend cX2_mend 3 (some .int)) 7 [.int mm, .int q] Γ h ad σ (fun v σ1 => v = .int (ap_mend (mo_c σ n L lt) (mo_t σ) mm q) ∧ mo_j3 σ σ1) := by
  refine gk_M.intro gk_N0_ok (by decide) [some (.ref h), some (.int mm), some (.int q)] rfl rfl rfl ?_
  intro κ hl hg hN0 C E
  subst hl hg
  have C : gk_C κ cX2_mend "SawLineModel" 7 0 0 := C
  refine gk_iload_n C dX2_mend_0 rfl ?_
  refine gk_i2l C dX2_mend_1 ?_
  refine gk_lconst 0 C dX2_mend_2 rfl ?_
  refine gk_ldc2 C q1433 dX2_mend_3 ?_
  refine gk_cP3 C (mo_in3 _ mm 0 9999 0 9999 rfl rfl) cs_X2_105 rfl (Nat.zero_le _) (Nat.zero_le _) rfl dX2_mend_6 ?_
  refine gk_if_ne 15 C dX2_mend_9 (by decide) (fun c9 => ?_) (fun c9 => ?_)
  · rw [zb_n] at c9
    refine gk_iload_n C dX2_mend_15 rfl ?_
    refine gk_i2l C dX2_mend_16 ?_
    refine gk_ldc2 C q1434 dX2_mend_17 ?_
    refine gk_lconst 1 C dX2_mend_20 rfl ?_
    refine gk_cP3 C (mo_in3 _ q (-2) 1 (-2) 1 rfl rfl) cs_X2_105 rfl (Nat.zero_le _) (Nat.zero_le _) rfl dX2_mend_21 ?_
    refine gk_if_ne 29 C dX2_mend_24 (by decide) (fun c24 => ?_) (fun c24 => ?_)
    · rw [zb_n] at c24
      refine gk_aload_n C dX2_mend_29 rfl ?_
      refine mo_cU0 C (mo_isBare _ _ _ _ _) cv_X2_216 rfl rfl rfl dX2_mend_30 ?_
      rw [zb_iff (Q := n = 0 ∨ L = 0) (by rw [e, eL]; exact or_congr (nI_eq (b := 0) (by omega) (by omega)) (nI_eq (b := 0) (by omega) (by omega)))]
      refine gk_if_eq 39 C dX2_mend_33 (by decide) (fun c33 => ?_) (fun c33 => ?_)
      · rw [zb_0] at c33
        have hv : (ap_mend (mo_c σ n L lt) (mo_t σ) mm q) = (if (mn (mo_c σ n L lt) (mo_t σ) mm).1 < 0 then -9 else if q = -1 then (mn (mo_c σ n L lt) (mo_t σ) mm).1 else if q = -2 then (mn (mo_c σ n L lt) (mo_t σ) mm).2.1 else if q = 0 then (mn (mo_c σ n L lt) (mo_t σ) mm).2.2.1 else (mn (mo_c σ n L lt) (mo_t σ) mm).2.2.2) := by unfold ap_mend; rw [if_neg (show ¬ ¬ _ from fun z => z c9), if_neg (show ¬ ¬ _ from fun z => z c24), if_neg c33]
        refine gk_aload_n C dX2_mend_39 rfl ?_
        refine gk_iload_n C dX2_mend_40 rfl ?_
        refine mo_cY1 C (mo_layMend _ _ _ _ _ n hn e L hL eL lt hlt eT hH mm) cv_X2_283 rfl rfl rfl dX2_mend_41 ?_
        rintro σ9 ⟨K, o, P, H, f, rfl⟩
        refine gk_aload_n C dX2_mend_44 rfl ?_
        refine mo_g34 C dX2_mend_45 ?_
        refine gk_eqv (y := (mn (mo_c σ n L lt) (mo_t σ) mm).1) rfl ?_
        refine gk_if_ge 54 C dX2_mend_48 (by decide) (fun c48 => ?_) (fun c48 => ?_)
        · have c48 := Int32.not_lt.mpr c48
          rw [if_neg c48] at hv
          refine gk_iload_n C dX2_mend_54 rfl ?_
          refine gk_iconst (-1) C dX2_mend_55 rfl ?_
          refine gk_icmp_ne 66 C dX2_mend_56 (by decide) (fun c56 => ?_) (fun c56 => ?_)
          · rw [if_neg c56] at hv
            refine gk_iload_n C dX2_mend_66 rfl ?_
            refine gk_bipush (-2) C dX2_mend_67 rfl ?_
            refine gk_icmp_ne 79 C dX2_mend_69 (by decide) (fun c69 => ?_) (fun c69 => ?_)
            · rw [if_neg c69] at hv
              refine gk_iload_n C dX2_mend_79 rfl ?_
              refine gk_if_ne 90 C dX2_mend_80 (by decide) (fun c80 => ?_) (fun c80 => ?_)
              · rw [if_neg c80] at hv
                refine gk_aload_n C dX2_mend_90 rfl ?_
                refine mo_g37 C dX2_mend_91 ?_
                refine gk_eqv (y := (mn (mo_c σ n L lt) (mo_t σ) mm).2.2.2) rfl ?_
                exact gk_iret C E dX2_mend_94 rfl rfl ⟨_, _, rfl, rfl, congrArg Value.int hv.symm, ⟨_, _, _, _, _, _, rfl⟩⟩
              · rw [if_pos c80] at hv
                refine gk_aload_n C dX2_mend_83 rfl ?_
                refine mo_g36 C dX2_mend_84 ?_
                refine gk_eqv (y := (mn (mo_c σ n L lt) (mo_t σ) mm).2.2.1) rfl ?_
                refine gk_goto 94 C dX2_mend_87 (by decide) ?_
                exact gk_iret C E dX2_mend_94 rfl rfl ⟨_, _, rfl, rfl, congrArg Value.int hv.symm, ⟨_, _, _, _, _, _, rfl⟩⟩
            · rw [if_pos c69] at hv
              refine gk_aload_n C dX2_mend_72 rfl ?_
              refine mo_g35 C dX2_mend_73 ?_
              refine gk_eqv (y := (mn (mo_c σ n L lt) (mo_t σ) mm).2.1) rfl ?_
              refine gk_goto 94 C dX2_mend_76 (by decide) ?_
              exact gk_iret C E dX2_mend_94 rfl rfl ⟨_, _, rfl, rfl, congrArg Value.int hv.symm, ⟨_, _, _, _, _, _, rfl⟩⟩
          · rw [if_pos c56] at hv
            refine gk_aload_n C dX2_mend_59 rfl ?_
            refine mo_g34 C dX2_mend_60 ?_
            refine gk_eqv (y := (mn (mo_c σ n L lt) (mo_t σ) mm).1) rfl ?_
            refine gk_goto 94 C dX2_mend_63 (by decide) ?_
            exact gk_iret C E dX2_mend_94 rfl rfl ⟨_, _, rfl, rfl, congrArg Value.int hv.symm, ⟨_, _, _, _, _, _, rfl⟩⟩
        · rw [if_pos (Int32.not_le.mp c48)] at hv
          refine gk_bipush (-9) C dX2_mend_51 rfl ?_
          exact gk_iret C E dX2_mend_53 rfl rfl ⟨_, _, rfl, rfl, congrArg Value.int hv.symm, ⟨_, _, _, _, _, _, rfl⟩⟩
      · rw [zb_n] at c33
        refine gk_bipush (-3) C dX2_mend_36 rfl ?_
        exact gk_iret C E dX2_mend_38 rfl rfl ⟨_, _, rfl, rfl, congrArg Value.int ((if_neg (show ¬ ¬ _ from fun z => z c9)).trans ((if_neg (show ¬ ¬ _ from fun z => z c24)).trans (if_pos c33))).symm, mo_j3.rf σ⟩
    · rw [zb_0] at c24
      refine gk_iconst (-1) C dX2_mend_27 rfl ?_
      exact gk_iret C E dX2_mend_28 rfl rfl ⟨_, _, rfl, rfl, congrArg Value.int ((if_neg (show ¬ ¬ _ from fun z => z c9)).trans (if_pos c24)).symm, mo_j3.rf σ⟩
  · rw [zb_0] at c9
    refine gk_bipush (-2) C dX2_mend_12 rfl ?_
    exact gk_iret C E dX2_mend_14 rfl rfl ⟨_, _, rfl, rfl, congrArg Value.int (if_pos c9).symm, mo_j3.rf σ⟩
