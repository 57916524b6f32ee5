set_option maxRecDepth 100000
/-- what SawLine's cut is done with -/
abbrev xo_c (ξ : mo_S) (n L lt : Nat) : cf_C := (n, L, lt, ξ.1 10, ξ.1 11, ξ.1 13, xo_b ξ)
/-- the board and the hand are as a cut needs them -/
def xg (ξ : mo_S) (L lt : Nat) : Prop := L ≤ 24 ∧ ξ.1 6 = nI L ∧ lt ≤ 5 ∧ ξ.1 12 = nI lt ∧ ∀ t, t < L → ¬ 10 * ξ.2 7 t = 0
/-- the state behind a cut -/
def xcR (c : cf_C) (τ : sp_T) (ξ ξ1 : mo_S) : Prop := ∃ P H : Nat → Int32, ξ1 = xo_st ξ (nI (cf_n c τ)) P H (cf_o c τ) ∧ (∀ j, j < cf_n c τ → P j = cf_p c τ j) ∧ (∀ j, j < cf_n c τ → H j = cf_h c τ j)
theorem cf_n_le (c : cf_C) (τ : sp_T) : cf_n c τ ≤ c.2.1 := by
  unfold cf_n
  split
  · omega
  · have := st_n_le (c.2.2.2.2.2.2 2) (sp_kf τ c.1) c.2.1 0
    omega
theorem xcR_mk (c : cf_C) (τ : sp_T) (ξ : mo_S) (P0 H0 : Nat → Int32) (k : Nat) (hk : cf_n c τ = k) : xcR c τ ξ (xo_st ξ (nI k) (ct (cf_e c τ) P0 H0 k).1 (ct (cf_e c τ) P0 H0 k).2.1 (ct (cf_e c τ) P0 H0 k).2.2.2.2) := by
  subst hk
  have h := ct_same (cf_e c τ) P0 H0 (cf_n c τ)
  refine ⟨_, _, ?_, fun j hj => h.1 j hj, fun j hj => h.2.1 j hj⟩
  rw [show (ct (cf_e c τ) P0 H0 (cf_n c τ)).2.2.2.2 = cf_o c τ from congrArg (fun z => z.2.2) h.2.2]
theorem ct_pl (e : ct_E) (P0 H0 : Nat → Int32) : ∀ k, (if k = 0 then 0 else (ct e P0 H0 k).1 (k - 1)) = (ct e P0 H0 k).2.2.1 ∧ (if k = 0 then 0 else (ct e P0 H0 k).2.1 (k - 1)) = (ct e P0 H0 k).2.2.2.1
  | 0 => ⟨rfl, rfl⟩
  | k + 1 => ⟨(if_neg (Nat.succ_ne_zero k)).trans (upd_self _ _ _), (if_neg (Nat.succ_ne_zero k)).trans (upd_self _ _ _)⟩
/-- what a call leaves: all but the words for its own use -/
def xki : Nat → Bool
  | 0 => true | 1 => true | 6 => true | 10 => true | 11 => true | 12 => true | 13 => true | 19 => true | 23 => true | _ => false
def xka : Nat → Bool
  | 7 => true | 8 => true | 9 => true | 20 => true | 21 => true | 22 => true | 24 => true | 25 => true | _ => false
def xj (ξ ξ1 : mo_S) : Prop := (∀ k, xki k = true → ξ1.1 k = ξ.1 k) ∧ (∀ k, xka k = true → ξ1.2 k = ξ.2 k)
theorem xj_r (ξ : mo_S) : xj ξ ξ := ⟨fun _ _ => rfl, fun _ _ => rfl⟩
theorem xj_t {a b c : mo_S} (h : xj a b) (k : xj b c) : xj a c := ⟨fun i hi => (k.1 i hi).trans (h.1 i hi), fun i hi => (k.2 i hi).trans (h.2 i hi)⟩
theorem xj_i {ξ ξ1 : mo_S} {k : Nat} {v : Int32} (h : xj ξ ξ1) (hk : xki k = false) : xj ξ (mo_i ξ1 k v) := ⟨fun j hj => by
  show va_up ξ1.1 k v j = _
  unfold va_up
  rw [if_neg (by rintro rfl; rw [hk] at hj; cases hj)]
  exact h.1 j hj, h.2⟩
theorem xj_a {ξ ξ1 : mo_S} {k j : Nat} {v : Int32} (h : xj ξ ξ1) (hk : xka k = false) : xj ξ (mo_a ξ1 k j v) := ⟨h.1, fun i hi => by
  show va_up ξ1.2 k _ i = _
  unfold va_up
  rw [if_neg (by rintro rfl; rw [hk] at hi; cases hi)]
  exact h.2 i hi⟩
theorem xj_s {ξ ξ1 : mo_S} {o f : Int32} {P H : Nat → Int32} (h : xj ξ ξ1) : xj ξ (xo_st ξ1 o P H f) := ⟨fun j hj => by
  show va_up (va_up ξ1.1 14 o) 17 f j = _
  unfold va_up
  rw [if_neg (by rintro rfl; cases hj), if_neg (by rintro rfl; cases hj)]
  exact h.1 j hj, fun i hi => by
  show va_up (va_up ξ1.2 15 P) 16 H i = _
  unfold va_up
  rw [if_neg (by rintro rfl; cases hi), if_neg (by rintro rfl; cases hi)]
  exact h.2 i hi⟩
theorem xcR_j {c : cf_C} {τ : sp_T} {ξ ξ1 : mo_S} (h : xcR c τ ξ ξ1) : xj ξ ξ1 := by
  obtain ⟨P, H, rfl, -, -⟩ := h
  exact xj_s (xj_r ξ)
/-- a call that answers v and leaves all but the words for its own use -/
def xo_J (t : Nat) (l : Launch) (y : MethodName) (cw : Cond) (d : Nat) (av : List Value) (Γ : gk_E) (h : Nat) (ad : Nat → Nat) (ξ : mo_S) (dy : va_W) (v : Value) : Prop := xo_X t l y cw d av Γ h ad ξ dy (fun r ξ1 dy1 => r = v ∧ xj ξ ξ1 ∧ dy1 = dy)
theorem sp_fx_f {τ : sp_T} {k x : Nat} (h : ¬ sp_fx τ k x = true) : ∀ y, x ≤ y → ¬ sp_fx τ k y = true
  | 0, hy => by rw [show x = 0 by omega] at h; exact h
  | y + 1, hy => by
    by_cases e : x = y + 1
    · rw [← e]; exact h
    · intro z
      unfold sp_fx at z
      rw [Bool.and_eq_true] at z
      exact sp_fx_f h y (by omega) z.1
set_option maxHeartbeats 4000000 in
theorem xs_cut (t : Nat) (l : Launch) (Γ : gk_E) (h : Nat) (ad : Nat → Nat) (ξ : mo_S) (θ : xA) (n : Nat) (τ : sp_T) (rs : va_W) (hn : n ≤ 8) (hv : 0 < n → ¬ θ.2.1 = true) (hτ : ∀ k, k < n → xk τ k) (L lt : Nat) (hg : xg ξ L lt) (hn0 : ¬ n = 0) : xo_Y t l yX0_cut (Cond.code yX0_cut cX0_cut 3 none) 5 [] Γ h ad ξ (xD Γ h (ad 2) θ n τ rs) (fun ξ1 dy1 => dy1 = (xD Γ h (ad 2) θ n τ rs) ∧ xcR (xo_c ξ n L lt) τ ξ ξ1) := by
  refine gk_M.intro (xN_ok t) (by decide) [some (.ref h), none, none] rfl rfl rfl ?_
  intro κ hl hg hN0 C E
  subst hl hg
  have C : gk_C κ cX0_cut "SawLine" 5 0 0 := C
  obtain ⟨hL, eL, hlt, eT, hH⟩ := hg
  refine gk_aload_n C dX0_cut_0 rfl ?_
  refine gk_iconst 0 C dX0_cut_1 rfl ?_
  refine xo_p14 C dX0_cut_2 ?_
  refine gk_aload_n C dX0_cut_5 rfl ?_
  refine gk_iconst 0 C dX0_cut_6 rfl ?_
  refine xo_p17 C dX0_cut_7 ?_
  rw [xo_st_0]
  refine gk_aload_n C dX0_cut_10 rfl ?_
  refine gk_iconst 1 C dX0_cut_11 rfl ?_
  refine xo_cU1 C hN0 (xs_sumP t _ _ h ad _ θ n τ rs hn hv hτ) cv_X0_241 rfl rfl rfl dX0_cut_12 ?_
  refine gk_istore_n C dX0_cut_15 rfl rfl ?_
  refine gk_aload_n C dX0_cut_16 rfl ?_
  refine xo_cU0 C hN0 (xs_kerf t _ _ h ad _ θ n τ rs hn hv hτ) cv_X0_238 rfl rfl rfl dX0_cut_17 ?_
  refine gk_istore_n C dX0_cut_20 rfl rfl ?_
  have L21 : ∀ k, k ≤ L → st_n (ξ.2 9) (sp_kf τ n) (L - k) k = (cf_n (xo_c ξ n L lt) τ) → gk_G κ 0 0 (xo_W (gk_g κ) h ad (xo_st ξ (nI k) (ct (cf_e (xo_c ξ n L lt) τ) (ξ.2 15) (ξ.2 16) k).1 (ct (cf_e (xo_c ξ n L lt) τ) (ξ.2 15) (ξ.2 16) k).2.1 (ct (cf_e (xo_c ξ n L lt) τ) (ξ.2 15) (ξ.2 16) k).2.2.2.2) ++ xD (gk_g κ) h (ad 2) θ n τ rs) 21 [some (.ref h), some (.int (sp_sum (sp_pu τ) n)), some (.int (sp_kf τ n))] [] := by
    refine up_ind (fun k hk ih => ?_)
    intro hS
    have hp := ct_pl (cf_e (xo_c ξ n L lt) τ) (ξ.2 15) (ξ.2 16) k
    have hm := xcR_mk (xo_c ξ n L lt) τ ξ (ξ.2 15) (ξ.2 16) k
    rw [show ct (cf_e (xo_c ξ n L lt) τ) (ξ.2 15) (ξ.2 16) (k + 1) = ct_n (cf_e (xo_c ξ n L lt) τ) k (ct (cf_e (xo_c ξ n L lt) τ) (ξ.2 15) (ξ.2 16) k) from rfl] at ih
    generalize ct (cf_e (xo_c ξ n L lt) τ) (ξ.2 15) (ξ.2 16) k = r at ih hp hm ⊢
    refine gk_aload_n C dX0_cut_21 rfl ?_
    refine xo_g14 C dX0_cut_22 ?_
    refine gk_eqv (y := nI k) rfl ?_
    refine gk_aload_n C dX0_cut_25 rfl ?_
    refine xo_g6 C dX0_cut_26 ?_
    refine gk_eqv (y := nI L) eL ?_
    refine gk_icmp_ge 67 C dX0_cut_29 (by decide) (fun c29 => ?_) (fun c29 => ?_)
    · have hE : cf_n (xo_c ξ n L lt) τ = k := by rw [← hS, show L - k = 0 by have := nI_leT c29 (by omega) (by omega); omega]; rfl
      exact gk_vret C E dX0_cut_67 rfl rfl ⟨_, _, rfl, rfl, rfl, hm hE⟩
    · have c29 := nI_ngeT c29 (by omega)
      refine gk_aload_n C dX0_cut_32 rfl ?_
      refine xo_g9 C dX0_cut_33 ?_
      refine gk_aload_n C dX0_cut_36 rfl ?_
      refine xo_g14 C dX0_cut_37 ?_
      refine gk_eqv (y := nI k) rfl ?_
      refine xo_l9 C dX0_cut_40 rfl (by omega) ?_
      refine gk_eqv (y := ξ.2 9 k) rfl ?_
      refine gk_iload_n C dX0_cut_41 rfl ?_
      refine gk_icmp_gt 67 C dX0_cut_42 (by decide) (fun c42 => ?_) (fun c42 => ?_)
      · have hE : cf_n (xo_c ξ n L lt) τ = k := by rw [← hS, show L - k = L - k - 1 + 1 by omega]; exact if_neg (Int32.not_le.mpr c42)
        exact gk_vret C E dX0_cut_67 rfl rfl ⟨_, _, rfl, rfl, rfl, hm hE⟩
      · refine gk_aload_n C dX0_cut_45 rfl ?_
        refine gk_aload_n C dX0_cut_46 rfl ?_
        refine xo_g14 C dX0_cut_47 ?_
        refine gk_eqv (y := nI k) rfl ?_
        refine gk_iload_n C dX0_cut_50 rfl ?_
        refine xo_cV2 C hN0 (xs_goLine t _ _ h ad ξ (xD (gk_g κ) h (ad 2) θ n τ rs) (nI k) r.2.2.2.2 (sp_sum (sp_pu τ) n) r.1 r.2.1 k lt (by omega) hlt eT (hH k c29)) cv_X0_284 rfl rfl rfl dX0_cut_51 ?_
        rw [hp.1, hp.2]
        refine gk_aload_n C dX0_cut_54 rfl ?_
        refine gk_dup C dX0_cut_55 rfl ?_
        refine xo_g14 C dX0_cut_56 ?_
        refine gk_eqv (y := nI k) rfl ?_
        refine gk_iconst 1 C dX0_cut_59 rfl ?_
        refine gk_iadd C dX0_cut_60 ?_
        refine gk_eqv (nI_1 k) ?_
        refine xo_p14 C dX0_cut_61 ?_
        rw [xo_st_14]
        refine gk_goto 21 C dX0_cut_64 (by decide) ?_
        exact ih c29 (by rw [← hS, show L - k = L - (k + 1) + 1 by omega]; exact (if_pos (Int32.not_lt.mp c42)).symm)
  exact L21 0 (Nat.zero_le _) (if_neg hn0).symm
set_option maxHeartbeats 1000000 in
theorem xs_isCut (t : Nat) (l : Launch) (Γ : gk_E) (h : Nat) (ad : Nat → Nat) (ξ : mo_S) (θ : xA) (n : Nat) (τ : sp_T) (rs : va_W) (hn : n ≤ 8) (hv : 0 < n → ¬ θ.2.1 = true) (hτ : ∀ k, k < n → xk τ k) (L lt : Nat) (hg : xg ξ L lt) (x : Int32) : xo_X t l yX0_isCut (Cond.code yX0_isCut cX0_isCut 2 (some .boolean)) 6 [.int x] Γ h ad ξ (xD Γ h (ad 2) θ n τ rs) (fun v ξ1 dy1 => dy1 = (xD Γ h (ad 2) θ n τ rs) ∧ v = .int (zb (0 ≤ x.toInt ∧ x.toInt < (cf_n (xo_c ξ n L lt) τ))) ∧ xj ξ ξ1 ∧ ((0 ≤ x.toInt ∧ x.toInt < (cf_n (xo_c ξ n L lt) τ)) → xcR (xo_c ξ n L lt) τ ξ ξ1)) := by
  refine gk_M.intro (xN_ok t) (by decide) [some (.ref h), some (.int x)] rfl rfl rfl ?_
  intro κ hl hg hN0 C E
  subst hl hg
  have C : gk_C κ cX0_isCut "SawLine" 6 0 0 := C
  refine gk_aload_n C dX0_isCut_0 rfl ?_
  refine xo_cU0 C hN0 (xs_isAll t _ _ h ad _ θ n τ rs hn hv hτ L (by have := hg.1; omega) hg.2.1) cv_X0_288 rfl rfl rfl dX0_isCut_1 ?_
  refine gk_if_eq 15 C dX0_isCut_4 (by decide) (fun c4 => ?_) (fun c4 => ?_)
  · rw [zb_0, Decidable.not_not] at c4
    have h0 : ¬ (0 ≤ x.toInt ∧ x.toInt < (cf_n (xo_c ξ n L lt) τ)) := by
      rintro ⟨h1, h2⟩
      have := cf_n_le (xo_c ξ n L lt) τ
      rcases c4 with z | z
      · have e0 : (cf_n (xo_c ξ n L lt) τ) = 0 := if_pos z
        omega
      · dsimp only at this
        omega
    refine gk_iconst 0 C dX0_isCut_15 rfl ?_
    exact gk_zret C E dX0_isCut_16 rfl rfl (by first | exact narrow_b1 | exact narrow_b0 | exact zb_nb) ⟨_, _, _, rfl, rfl, rfl, by rw [zb_f h0], xj_r _, fun z => absurd z h0⟩
  · rw [zb_n] at c4
    have hn0 : ¬ n = 0 := fun z => c4 (Or.inl z)
    refine gk_aload_n C dX0_isCut_7 rfl ?_
    refine gk_iload_n C dX0_isCut_8 rfl ?_
    refine xo_cU1 C hN0 (xs_isLine t _ _ h ad _ _ x L (by have := hg.1; omega) hg.2.1) cv_X0_254 rfl rfl rfl dX0_isCut_9 ?_
    refine gk_if_ne 17 C dX0_isCut_12 (by decide) (fun c12 => ?_) (fun c12 => ?_)
    · rw [zb_n] at c12
      obtain ⟨x, hx, rfl⟩ := nI_lt_ex c12
      refine gk_aload_n C dX0_isCut_17 rfl ?_
      refine xo_cY0 C hN0 (xs_cut t _ _ h ad _ θ n τ rs hn hv hτ L lt hg hn0) cv_X0_291 rfl rfl rfl dX0_isCut_18 ?_
      rintro ξ1 _ ⟨rfl, hc⟩
      have hc0 := hc
      obtain ⟨P, H, rfl, hP, hH⟩ := hc0
      have hle : (cf_n (xo_c ξ n L lt) τ) ≤ L := cf_n_le (xo_c ξ n L lt) τ
      have hL := hg.1
      refine gk_iload_n C dX0_isCut_21 rfl ?_
      refine gk_aload_n C dX0_isCut_22 rfl ?_
      refine xo_g14 C dX0_isCut_23 ?_
      refine gk_eqv (y := nI (cf_n (xo_c ξ n L lt) τ)) rfl ?_
      refine gk_icmp_ge 33 C dX0_isCut_26 (by decide) (fun c26 => ?_) (fun c26 => ?_)
      · have c26 := nI_leT c26 (by omega) (by omega)
        have h0 : ¬ (0 ≤ (nI x).toInt ∧ (nI x).toInt < (cf_n (xo_c ξ n L lt) τ)) := by rw [nI_ti (by omega)]; omega
        refine gk_iconst 0 C dX0_isCut_33 rfl ?_
        exact gk_zret C E dX0_isCut_34 rfl rfl (by first | exact narrow_b1 | exact narrow_b0 | exact zb_nb) ⟨_, _, _, rfl, rfl, rfl, by first | rw [zb_f h0] | rw [zb_t h0], xcR_j hc, fun _ => hc⟩
      · have c26 := nI_ngeT c26 (by omega)
        have h0 : (0 ≤ (nI x).toInt ∧ (nI x).toInt < (cf_n (xo_c ξ n L lt) τ)) := by rw [nI_ti (by omega)]; omega
        refine gk_iconst 1 C dX0_isCut_29 rfl ?_
        refine gk_goto 34 C dX0_isCut_30 (by decide) ?_
        exact gk_zret C E dX0_isCut_34 rfl rfl (by first | exact narrow_b1 | exact narrow_b0 | exact zb_nb) ⟨_, _, _, rfl, rfl, rfl, by first | rw [zb_f h0] | rw [zb_t h0], xcR_j hc, fun _ => hc⟩
    · rw [zb_0] at c12
      have h0 : ¬ (0 ≤ x.toInt ∧ x.toInt < (cf_n (xo_c ξ n L lt) τ)) := fun z => c12 ⟨z.1, by have := cf_n_le (xo_c ξ n L lt) τ; dsimp only at this; omega⟩
      refine gk_iconst 0 C dX0_isCut_15 rfl ?_
      exact gk_zret C E dX0_isCut_16 rfl rfl (by first | exact narrow_b1 | exact narrow_b0 | exact zb_nb) ⟨_, _, _, rfl, rfl, rfl, by rw [zb_f h0], xj_r _, fun z => absurd z h0⟩
set_option maxHeartbeats 1000000 in
theorem xs_where (t : Nat) (l : Launch) (Γ : gk_E) (h : Nat) (ad : Nat → Nat) (ξ : mo_S) (θ : xA) (n : Nat) (τ : sp_T) (rs : va_W) (hn : n ≤ 8) (hv : 0 < n → ¬ θ.2.1 = true) (hτ : ∀ k, k < n → xk τ k) (L lt : Nat) (hg : xg ξ L lt) (x : Int32) : xo_J t l yX0_where (Cond.code yX0_where cX0_where 2 (some .long)) 7 [.int x] Γ h ad ξ (xD Γ h (ad 2) θ n τ rs) (.long (if 0 ≤ x.toInt ∧ x.toInt < (cf_n (xo_c ξ n L lt) τ) then (cf_p (xo_c ξ n L lt) τ x.toInt.toNat).toInt64 else -9223372036854775808)) := by
  refine gk_M.intro (xN_ok t) (by decide) [some (.ref h), some (.int x)] rfl rfl rfl ?_
  intro κ hl hg hN0 C E
  subst hl hg
  have C : gk_C κ cX0_where "SawLine" 7 0 0 := C
  refine gk_aload_n C dX0_where_0 rfl ?_
  refine gk_iload_n C dX0_where_1 rfl ?_
  refine xo_cX1 C hN0 (xs_isCut t _ _ h ad _ θ n τ rs hn hv hτ L lt hg x) cv_X0_294 rfl rfl rfl dX0_where_2 ?_
  rintro _ ξ1 _ ⟨rfl, rfl, hj, hc⟩
  refine gk_if_eq 18 C dX0_where_5 (by decide) (fun c5 => ?_) (fun c5 => ?_)
  · rw [zb_0] at c5
    refine gk_ldc2 C q785 dX0_where_18 ?_
    exact gk_lret C E dX0_where_21 rfl rfl ⟨_, _, _, rfl, rfl, by first | rw [if_neg c5] | rw [if_pos c5, toNat_nI (by omega)], hj, rfl⟩
  · rw [zb_n] at c5
    have hN := c5.2
    obtain ⟨P, H, rfl, hP, hH⟩ := hc c5
    have hle : (cf_n (xo_c ξ n L lt) τ) ≤ L := cf_n_le (xo_c ξ n L lt) τ
    have hL := hg.1
    obtain ⟨x, hx, rfl⟩ := nI_lt_ex c5
    refine gk_aload_n C dX0_where_8 rfl ?_
    refine xo_g15 C dX0_where_9 ?_
    refine gk_iload_n C dX0_where_12 rfl ?_
    refine xo_l15 C dX0_where_13 rfl (by omega) ?_
    refine gk_eqv (y := cf_p (xo_c ξ n L lt) τ x) (hP x hx) ?_
    refine gk_i2l C dX0_where_14 ?_
    refine gk_goto 21 C dX0_where_15 (by decide) ?_
    exact gk_lret C E dX0_where_21 rfl rfl ⟨_, _, _, rfl, rfl, by first | rw [if_neg c5] | rw [if_pos c5, toNat_nI (by omega)], hj, rfl⟩
set_option maxHeartbeats 1000000 in
theorem xs_heading (t : Nat) (l : Launch) (Γ : gk_E) (h : Nat) (ad : Nat → Nat) (ξ : mo_S) (θ : xA) (n : Nat) (τ : sp_T) (rs : va_W) (hn : n ≤ 8) (hv : 0 < n → ¬ θ.2.1 = true) (hτ : ∀ k, k < n → xk τ k) (L lt : Nat) (hg : xg ξ L lt) (x : Int32) : xo_J t l yX0_heading (Cond.code yX0_heading cX0_heading 2 (some .long)) 7 [.int x] Γ h ad ξ (xD Γ h (ad 2) θ n τ rs) (.long (if 0 ≤ x.toInt ∧ x.toInt < (cf_n (xo_c ξ n L lt) τ) then (cf_h (xo_c ξ n L lt) τ x.toInt.toNat).toInt64 else -9223372036854775808)) := by
  refine gk_M.intro (xN_ok t) (by decide) [some (.ref h), some (.int x)] rfl rfl rfl ?_
  intro κ hl hg hN0 C E
  subst hl hg
  have C : gk_C κ cX0_heading "SawLine" 7 0 0 := C
  refine gk_aload_n C dX0_heading_0 rfl ?_
  refine gk_iload_n C dX0_heading_1 rfl ?_
  refine xo_cX1 C hN0 (xs_isCut t _ _ h ad _ θ n τ rs hn hv hτ L lt hg x) cv_X0_294 rfl rfl rfl dX0_heading_2 ?_
  rintro _ ξ1 _ ⟨rfl, rfl, hj, hc⟩
  refine gk_if_eq 18 C dX0_heading_5 (by decide) (fun c5 => ?_) (fun c5 => ?_)
  · rw [zb_0] at c5
    refine gk_ldc2 C q785 dX0_heading_18 ?_
    exact gk_lret C E dX0_heading_21 rfl rfl ⟨_, _, _, rfl, rfl, by first | rw [if_neg c5] | rw [if_pos c5, toNat_nI (by omega)], hj, rfl⟩
  · rw [zb_n] at c5
    have hN := c5.2
    obtain ⟨P, H, rfl, hP, hH⟩ := hc c5
    have hle : (cf_n (xo_c ξ n L lt) τ) ≤ L := cf_n_le (xo_c ξ n L lt) τ
    have hL := hg.1
    obtain ⟨x, hx, rfl⟩ := nI_lt_ex c5
    refine gk_aload_n C dX0_heading_8 rfl ?_
    refine xo_g16 C dX0_heading_9 ?_
    refine gk_iload_n C dX0_heading_12 rfl ?_
    refine xo_l16 C dX0_heading_13 rfl (by omega) ?_
    refine gk_eqv (y := cf_h (xo_c ξ n L lt) τ x) (hH x hx) ?_
    refine gk_i2l C dX0_heading_14 ?_
    refine gk_goto 21 C dX0_heading_15 (by decide) ?_
    exact gk_lret C E dX0_heading_21 rfl rfl ⟨_, _, _, rfl, rfl, by first | rw [if_neg c5] | rw [if_pos c5, toNat_nI (by omega)], hj, rfl⟩
set_option maxHeartbeats 1000000 in
theorem xs_off (t : Nat) (l : Launch) (Γ : gk_E) (h : Nat) (ad : Nat → Nat) (ξ : mo_S) (θ : xA) (n : Nat) (τ : sp_T) (rs : va_W) (hn : n ≤ 8) (hv : 0 < n → ¬ θ.2.1 = true) (hτ : ∀ k, k < n → xk τ k) (L lt : Nat) (hg : xg ξ L lt) : xo_J t l yX0_off (Cond.code yX0_off cX0_off 1 (some .int)) 6 [] Γ h ad ξ (xD Γ h (ad 2) θ n τ rs) (.int (if n = 0 ∨ L = 0 then -3 else cf_o (xo_c ξ n L lt) τ)) := by
  refine gk_M.intro (xN_ok t) (by decide) [some (.ref h)] rfl rfl rfl ?_
  intro κ hl hg hN0 C E
  subst hl hg
  have C : gk_C κ cX0_off "SawLine" 6 0 0 := C
  refine gk_aload_n C dX0_off_0 rfl ?_
  refine xo_cU0 C hN0 (xs_isAll t _ _ h ad _ θ n τ rs hn hv hτ L (by have := hg.1; omega) hg.2.1) cv_X0_288 rfl rfl rfl dX0_off_1 ?_
  refine gk_if_ne 10 C dX0_off_4 (by decide) (fun c4 => ?_) (fun c4 => ?_)
  · rw [zb_n] at c4
    have hn0 : ¬ n = 0 := fun z => c4 (Or.inl z)
    refine gk_aload_n C dX0_off_10 rfl ?_
    refine xo_cY0 C hN0 (xs_cut t _ _ h ad _ θ n τ rs hn hv hτ L lt hg hn0) cv_X0_291 rfl rfl rfl dX0_off_11 ?_
    rintro ξ1 _ ⟨rfl, hc⟩
    have hj := xcR_j hc
    obtain ⟨P, H, rfl, hP, hH⟩ := hc
    have hle : (cf_n (xo_c ξ n L lt) τ) ≤ L := cf_n_le (xo_c ξ n L lt) τ
    have hL := hg.1
    refine gk_aload_n C dX0_off_14 rfl ?_
    refine xo_g17 C dX0_off_15 ?_
    refine gk_eqv (y := cf_o (xo_c ξ n L lt) τ) rfl ?_
    exact gk_iret C E dX0_off_18 rfl rfl ⟨_, _, _, rfl, rfl, by rw [if_neg c4], hj, rfl⟩
  · rw [zb_0, Decidable.not_not] at c4
    refine gk_bipush (-3) C dX0_off_7 rfl ?_
    exact gk_iret C E dX0_off_9 rfl rfl ⟨_, _, _, rfl, rfl, by rw [if_pos c4], xj_r _, rfl⟩
set_option maxHeartbeats 1000000 in
theorem xs_pinched (t : Nat) (l : Launch) (Γ : gk_E) (h : Nat) (ad : Nat → Nat) (ξ : mo_S) (θ : xA) (n : Nat) (τ : sp_T) (rs : va_W) (hn : n ≤ 8) (hv : 0 < n → ¬ θ.2.1 = true) (hτ : ∀ k, k < n → xk τ k) (L lt : Nat) (hg : xg ξ L lt) : xo_J t l yX0_pinched (Cond.code yX0_pinched cX0_pinched 1 (some .int)) 6 [] Γ h ad ξ (xD Γ h (ad 2) θ n τ rs) (.int (if n = 0 ∨ L = 0 then -3 else if (cf_n (xo_c ξ n L lt) τ) < L then nI (cf_n (xo_c ξ n L lt) τ) else -9)) := by
  refine gk_M.intro (xN_ok t) (by decide) [some (.ref h)] rfl rfl rfl ?_
  intro κ hl hg hN0 C E
  subst hl hg
  have C : gk_C κ cX0_pinched "SawLine" 6 0 0 := C
  refine gk_aload_n C dX0_pinched_0 rfl ?_
  refine xo_cU0 C hN0 (xs_isAll t _ _ h ad _ θ n τ rs hn hv hτ L (by have := hg.1; omega) hg.2.1) cv_X0_288 rfl rfl rfl dX0_pinched_1 ?_
  refine gk_if_ne 10 C dX0_pinched_4 (by decide) (fun c4 => ?_) (fun c4 => ?_)
  · rw [zb_n] at c4
    have hn0 : ¬ n = 0 := fun z => c4 (Or.inl z)
    refine gk_aload_n C dX0_pinched_10 rfl ?_
    refine xo_cY0 C hN0 (xs_cut t _ _ h ad _ θ n τ rs hn hv hτ L lt hg hn0) cv_X0_291 rfl rfl rfl dX0_pinched_11 ?_
    rintro ξ1 _ ⟨rfl, hc⟩
    have hj := xcR_j hc
    obtain ⟨P, H, rfl, hP, hH⟩ := hc
    have hle : (cf_n (xo_c ξ n L lt) τ) ≤ L := cf_n_le (xo_c ξ n L lt) τ
    have hL := hg.1
    refine gk_aload_n C dX0_pinched_14 rfl ?_
    refine xo_g14 C dX0_pinched_15 ?_
    refine gk_eqv (y := nI (cf_n (xo_c ξ n L lt) τ)) rfl ?_
    refine gk_aload_n C dX0_pinched_18 rfl ?_
    refine xo_g6 C dX0_pinched_19 ?_
    refine gk_eqv (y := nI L) hg.2.1 ?_
    refine gk_icmp_ge 32 C dX0_pinched_22 (by decide) (fun c22 => ?_) (fun c22 => ?_)
    · have c22 := nI_leT c22 (by omega) (by omega)
      refine gk_bipush (-9) C dX0_pinched_32 rfl ?_
      exact gk_iret C E dX0_pinched_34 rfl rfl ⟨_, _, _, rfl, rfl, by rw [if_neg c4]; first | rw [if_pos c22] | rw [if_neg (by omega)], hj, rfl⟩
    · have c22 := nI_ngeT c22 (by omega)
      refine gk_aload_n C dX0_pinched_25 rfl ?_
      refine xo_g14 C dX0_pinched_26 ?_
      refine gk_eqv (y := nI (cf_n (xo_c ξ n L lt) τ)) rfl ?_
      refine gk_goto 34 C dX0_pinched_29 (by decide) ?_
      exact gk_iret C E dX0_pinched_34 rfl rfl ⟨_, _, _, rfl, rfl, by rw [if_neg c4]; first | rw [if_pos c22] | rw [if_neg (by omega)], hj, rfl⟩
  · rw [zb_0, Decidable.not_not] at c4
    refine gk_bipush (-3) C dX0_pinched_7 rfl ?_
    exact gk_iret C E dX0_pinched_9 rfl rfl ⟨_, _, _, rfl, rfl, by rw [if_pos c4], xj_r _, rfl⟩
set_option maxHeartbeats 1000000 in
theorem xs_strokesNow (t : Nat) (l : Launch) (Γ : gk_E) (h : Nat) (ad : Nat → Nat) (ξ : mo_S) (θ : xA) (n : Nat) (τ : sp_T) (rs : va_W) (hn : n ≤ 8) (hv : 0 < n → ¬ θ.2.1 = true) (hτ : ∀ k, k < n → xk τ k) (L lt : Nat) (hg : xg ξ L lt) : xo_J t l yX0_strokesNow (Cond.code yX0_strokesNow cX0_strokesNow 1 (some .int)) 6 [] Γ h ad ξ (xD Γ h (ad 2) θ n τ rs) (.int (nI (if L = 0 then 0 else (cf_n (xo_c ξ n L lt) τ)))) := by
  refine gk_M.intro (xN_ok t) (by decide) [some (.ref h)] rfl rfl rfl ?_
  intro κ hl hg hN0 C E
  subst hl hg
  have C : gk_C κ cX0_strokesNow "SawLine" 6 0 0 := C
  refine gk_aload_n C dX0_strokesNow_0 rfl ?_
  refine xo_cU0 C hN0 (xs_isAll t _ _ h ad _ θ n τ rs hn hv hτ L (by have := hg.1; omega) hg.2.1) cv_X0_288 rfl rfl rfl dX0_strokesNow_1 ?_
  refine gk_if_ne 9 C dX0_strokesNow_4 (by decide) (fun c4 => ?_) (fun c4 => ?_)
  · rw [zb_n] at c4
    have hn0 : ¬ n = 0 := fun z => c4 (Or.inl z)
    refine gk_aload_n C dX0_strokesNow_9 rfl ?_
    refine xo_cY0 C hN0 (xs_cut t _ _ h ad _ θ n τ rs hn hv hτ L lt hg hn0) cv_X0_291 rfl rfl rfl dX0_strokesNow_10 ?_
    rintro ξ1 _ ⟨rfl, hc⟩
    have hj := xcR_j hc
    obtain ⟨P, H, rfl, hP, hH⟩ := hc
    have hle : (cf_n (xo_c ξ n L lt) τ) ≤ L := cf_n_le (xo_c ξ n L lt) τ
    have hL := hg.1
    refine gk_aload_n C dX0_strokesNow_13 rfl ?_
    refine xo_g14 C dX0_strokesNow_14 ?_
    refine gk_eqv (y := nI (cf_n (xo_c ξ n L lt) τ)) rfl ?_
    exact gk_iret C E dX0_strokesNow_17 rfl rfl ⟨_, _, _, rfl, rfl, by rw [if_neg (fun z => c4 (Or.inr z))], hj, rfl⟩
  · rw [zb_0, Decidable.not_not] at c4
    refine gk_iconst 0 C dX0_strokesNow_7 rfl ?_
    exact gk_iret C E dX0_strokesNow_8 rfl rfl ⟨_, _, _, rfl, rfl, by rcases c4 with z | z; · rw [show (cf_n (xo_c ξ n L lt) τ) = 0 from if_pos z, ite_self]; rfl; · rw [if_pos z]; rfl, xj_r _, rfl⟩
set_option maxHeartbeats 1000000 in
theorem xs_many (t : Nat) (l : Launch) (Γ : gk_E) (h : Nat) (ad : Nat → Nat) (ξ : mo_S) (θ : xA) (n : Nat) (τ : sp_T) (rs : va_W) (hn : n ≤ 8) (hv : 0 < n → ¬ θ.2.1 = true) (hτ : ∀ k, k < n → xk τ k) (L lt : Nat) (hg : xg ξ L lt) (m R : Nat) (em : ξ.1 19 = nI m) (eR : ξ.1 23 = nI R) (w : Int32) : xo_J t l yX0_many (Cond.code yX0_many cX0_many 2 (some .int)) 7 [.int w] Γ h ad ξ (xD Γ h (ad 2) θ n τ rs) (.int (if w = 0 then nI n else if w = 1 then nI L else if w = 2 then nI m else if w = 3 then nI R else if w = 4 then nI (cf_n (xo_c ξ n L lt) τ) else -2)) := by
  refine gk_M.intro (xN_ok t) (by decide) [some (.ref h), some (.int w)] rfl rfl rfl ?_
  intro κ hl hg hN0 C E
  subst hl hg
  have C : gk_C κ cX0_many "SawLine" 7 0 0 := C
  refine gk_iload_n C dX0_many_0 rfl ?_
  rcases sw5 w with rfl | rfl | rfl | rfl | rfl | hsw
  · refine gk_tableIn 36 C dX0_many_1 (by decide) (by decide) rfl (by decide) ?_
    refine gk_aload_n C dX0_many_36 rfl ?_
    refine xo_g2 C dX0_many_37 ?_
    refine xr_size C hN0 (by decide) rfl dX0_many_40 ?_
    exact gk_iret C E dX0_many_45 rfl rfl ⟨_, _, _, rfl, rfl, rfl, xj_r _, rfl⟩
  · refine gk_tableIn 46 C dX0_many_1 (by decide) (by decide) rfl (by decide) ?_
    refine gk_aload_n C dX0_many_46 rfl ?_
    refine xo_g6 C dX0_many_47 ?_
    refine gk_eqv (y := nI L) hg.2.1 ?_
    exact gk_iret C E dX0_many_50 rfl rfl ⟨_, _, _, rfl, rfl, rfl, xj_r _, rfl⟩
  · refine gk_tableIn 51 C dX0_many_1 (by decide) (by decide) rfl (by decide) ?_
    refine gk_aload_n C dX0_many_51 rfl ?_
    refine xo_g19 C dX0_many_52 ?_
    refine gk_eqv (y := nI m) em ?_
    exact gk_iret C E dX0_many_55 rfl rfl ⟨_, _, _, rfl, rfl, rfl, xj_r _, rfl⟩
  · refine gk_tableIn 56 C dX0_many_1 (by decide) (by decide) rfl (by decide) ?_
    refine gk_aload_n C dX0_many_56 rfl ?_
    refine xo_g23 C dX0_many_57 ?_
    refine gk_eqv (y := nI R) eR ?_
    exact gk_iret C E dX0_many_60 rfl rfl ⟨_, _, _, rfl, rfl, rfl, xj_r _, rfl⟩
  · refine gk_tableIn 61 C dX0_many_1 (by decide) (by decide) rfl (by decide) ?_
    refine gk_aload_n C dX0_many_61 rfl ?_
    refine xo_cX0 C hN0 (xs_strokesNow t _ _ h ad _ θ n τ rs hn hv hτ L lt hg) cv_X0_449 rfl rfl rfl dX0_many_62 ?_
    rintro _ ξ1 _ ⟨rfl, hj, rfl⟩
    have hz : (if L = 0 then 0 else (cf_n (xo_c ξ n L lt) τ)) = (cf_n (xo_c ξ n L lt) τ) := by
      split
      · rename_i z; have := cf_n_le (xo_c ξ n L lt) τ; dsimp only at this; omega
      · rfl
    rw [hz]
    exact gk_iret C E dX0_many_65 rfl rfl ⟨_, _, _, rfl, rfl, rfl, hj, rfl⟩
  · refine gk_tableOut 66 C dX0_many_1 hsw (by decide) ?_
    refine gk_bipush (-2) C dX0_many_66 rfl ?_
    exact gk_iret C E dX0_many_68 rfl rfl ⟨_, _, _, rfl, rfl, by rw [if_neg (by rintro rfl; revert hsw; decide), if_neg (by rintro rfl; revert hsw; decide), if_neg (by rintro rfl; revert hsw; decide), if_neg (by rintro rfl; revert hsw; decide), if_neg (by rintro rfl; revert hsw; decide)], xj_r _, rfl⟩
set_option maxHeartbeats 1000000 in
theorem xs_isFirst (t : Nat) (l : Launch) (Γ : gk_E) (h : Nat) (ad : Nat → Nat) (ξ : mo_S) (θ : xA) (n : Nat) (τ : sp_T) (rs : va_W) (hn : n ≤ 8) (hv : 0 < n → ¬ θ.2.1 = true) (hτ : ∀ k, k < n → xk τ k) (k : Nat) (hk : k < n) : xo_U t l yX0_isFirst (Cond.code yX0_isFirst cX0_isFirst 4 (some .boolean)) 4 [.int (nI k)] Γ h ad ξ (xD Γ h (ad 2) θ n τ rs) (.int (zb (sp_fx τ k k = true))) ξ := by
  refine gk_M.intro (xN_ok t) (by decide) [some (.ref h), some (.int (nI k)), none, none] rfl rfl rfl ?_
  intro κ hl hg hN0 C E
  subst hl hg
  have C : gk_C κ cX0_isFirst "SawLine" 4 0 0 := C
  refine gk_aload_n C dX0_isFirst_0 rfl ?_
  refine xo_g2 C dX0_isFirst_1 ?_
  refine gk_iload_n C dX0_isFirst_4 rfl ?_
  refine xr_get C hN0 (by decide) hk hn (hv (by omega)) rfl dX0_isFirst_5 ?_
  refine xr_cast C hN0 hk dX0_isFirst_10 ?_
  refine xr_isCutting C (by decide) hk (hτ _ hk) rfl dX0_isFirst_13 ?_
  refine gk_eqv (zb_iff (Q := sp_fx τ k 0 = true) (by unfold sp_fx; exact decide_eq_true_eq.symm)) ?_
  refine gk_istore_n C dX0_isFirst_16 rfl rfl ?_
  refine gk_iconst 0 C dX0_isFirst_17 rfl ?_
  refine gk_istore_n C dX0_isFirst_18 rfl rfl ?_
  have L19 : ∀ x, x ≤ k → gk_G κ 0 0 (xo_W (gk_g κ) h ad ξ ++ xD (gk_g κ) h (ad 2) θ n τ rs) 19 [some (.ref h), some (.int (nI k)), some (.int (zb (sp_fx τ k x = true))), some (.int (nI x))] [] := by
    refine up_ind (fun x hx ih => ?_)
    refine gk_iload_n C dX0_isFirst_19 rfl ?_
    refine gk_iload_n C dX0_isFirst_20 rfl ?_
    refine gk_icmp_ge 94 C dX0_isFirst_21 (by decide) (fun c21 => ?_) (fun c21 => ?_)
    · have he : x = k := by have := nI_leT c21 (by omega) (by omega); omega
      refine gk_iload_n C dX0_isFirst_94 rfl ?_
      exact gk_zret C E dX0_isFirst_95 rfl rfl (by first | exact narrow_b1 | exact narrow_b0 | exact zb_nb) ⟨by first | (rw [he]; done) | exact vi ((zb_f c25).trans (zb_f (sp_fx_f c25 k hx)).symm), rfl⟩
    · have c21 := nI_ngeT c21 (by omega)
      have hkx : x < n := by omega
      refine gk_iload_n C dX0_isFirst_24 rfl ?_
      refine gk_if_eq 94 C dX0_isFirst_25 (by decide) (fun c25 => ?_) (fun c25 => ?_)
      · rw [zb_0] at c25
        refine gk_iload_n C dX0_isFirst_94 rfl ?_
        exact gk_zret C E dX0_isFirst_95 rfl rfl (by first | exact narrow_b1 | exact narrow_b0 | exact zb_nb) ⟨by first | (rw [he]; done) | exact vi ((zb_f c25).trans (zb_f (sp_fx_f c25 k hx)).symm), rfl⟩
      · rw [zb_n] at c25
        refine gk_aload_n C dX0_isFirst_28 rfl ?_
        refine xo_g2 C dX0_isFirst_29 ?_
        refine gk_iload_n C dX0_isFirst_32 rfl ?_
        refine xr_get C hN0 (by decide) hkx hn (hv (by omega)) rfl dX0_isFirst_33 ?_
        refine xr_cast C hN0 hkx dX0_isFirst_38 ?_
        refine xr_isCutting C (by decide) hkx (hτ _ hkx) rfl dX0_isFirst_41 ?_
        refine gk_jn1 (zb (sp_fx τ k (x + 1) = true)) 87 ?_ (fun K87 => ?_)
        · refine gk_istore_n C dX0_isFirst_87 rfl rfl ?_
          refine gk_iinc (nI (x + 1)) C dX0_isFirst_88 rfl (nI_succ x).symm rfl rfl ?_
          refine gk_goto 19 C dX0_isFirst_91 (by decide) ?_
          exact ih c21
        · refine gk_if_eq 82 C dX0_isFirst_44 (by decide) (fun c44 => ?_) (fun c44 => ?_)
          · rw [zb_0] at c44
            have h1 : sp_fx τ k (x + 1) = true := by unfold sp_fx; rw [c25, decide_eq_false c44]; rfl
            refine gk_iconst 1 C dX0_isFirst_82 rfl ?_
            refine gk_goto 87 C dX0_isFirst_83 (by decide) ?_
            exact gk_eqv (by first | exact (zb_f h1).symm | exact (zb_t h1).symm) K87
          · rw [zb_n] at c44
            refine gk_aload_n C dX0_isFirst_47 rfl ?_
            refine xo_g2 C dX0_isFirst_48 ?_
            refine gk_iload_n C dX0_isFirst_51 rfl ?_
            refine xr_get C hN0 (by decide) hkx hn (hv (by omega)) rfl dX0_isFirst_52 ?_
            refine xr_cast C hN0 hkx dX0_isFirst_57 ?_
            refine xr_mark C (by decide) hkx (hτ _ hkx) rfl dX0_isFirst_60 ?_
            refine gk_aload_n C dX0_isFirst_63 rfl ?_
            refine xo_g2 C dX0_isFirst_64 ?_
            refine gk_iload_n C dX0_isFirst_67 rfl ?_
            refine xr_get C hN0 (by decide) hk hn (hv (by omega)) rfl dX0_isFirst_68 ?_
            refine xr_cast C hN0 hk dX0_isFirst_73 ?_
            refine xr_mark C (by decide) hk (hτ _ hk) rfl dX0_isFirst_76 ?_
            refine gk_icmp_eq 86 C dX0_isFirst_79 (by decide) (fun c79 => ?_) (fun c79 => ?_)
            · have h1 : ¬ sp_fx τ k (x + 1) = true := by unfold sp_fx; rw [c25, decide_eq_true c44, decide_eq_true c79]; decide
              refine gk_iconst 0 C dX0_isFirst_86 rfl ?_
              exact gk_eqv (by first | exact (zb_f h1).symm | exact (zb_t h1).symm) K87
            · have h1 : sp_fx τ k (x + 1) = true := by unfold sp_fx; rw [c25, decide_eq_false c79, Bool.and_false]; rfl
              refine gk_iconst 1 C dX0_isFirst_82 rfl ?_
              refine gk_goto 87 C dX0_isFirst_83 (by decide) ?_
              exact gk_eqv (by first | exact (zb_f h1).symm | exact (zb_t h1).symm) K87
  exact L19 0 (Nat.zero_le _)
set_option maxHeartbeats 1000000 in
theorem xs_marks (t : Nat) (l : Launch) (Γ : gk_E) (h : Nat) (ad : Nat → Nat) (ξ : mo_S) (θ : xA) (n : Nat) (τ : sp_T) (rs : va_W) (hn : n ≤ 8) (hv : 0 < n → ¬ θ.2.1 = true) (hτ : ∀ k, k < n → xk τ k) (L lt : Nat) (hg : xg ξ L lt) (x : Int32) : xo_J t l yX0_marks (Cond.code yX0_marks cX0_marks 4 (some .int)) 7 [.int x] Γ h ad ξ (xD Γ h (ad 2) θ n τ rs) (.int (if ¬ (0 ≤ x.toInt ∧ x.toInt < L) then -1 else if x.toInt < (cf_n (xo_c ξ n L lt) τ) then sp_mks τ n else -3)) := by
  refine gk_M.intro (xN_ok t) (by decide) [some (.ref h), some (.int x), none, none] rfl rfl rfl ?_
  intro κ hl hg hN0 C E
  subst hl hg
  have C : gk_C κ cX0_marks "SawLine" 7 0 0 := C
  refine gk_aload_n C dX0_marks_0 rfl ?_
  refine gk_iload_n C dX0_marks_1 rfl ?_
  refine xo_cU1 C hN0 (xs_isLine t _ _ h ad _ _ x L (by have := hg.1; omega) hg.2.1) cv_X0_254 rfl rfl rfl dX0_marks_2 ?_
  refine gk_if_ne 10 C dX0_marks_5 (by decide) (fun c5 => ?_) (fun c5 => ?_)
  · rw [zb_n] at c5
    refine gk_aload_n C dX0_marks_10 rfl ?_
    refine gk_iload_n C dX0_marks_11 rfl ?_
    refine xo_cX1 C hN0 (xs_isCut t _ _ h ad _ θ n τ rs hn hv hτ L lt hg x) cv_X0_294 rfl rfl rfl dX0_marks_12 ?_
    rintro _ ξ1 _ ⟨rfl, rfl, hj, hc⟩
    refine gk_if_ne 21 C dX0_marks_15 (by decide) (fun c15 => ?_) (fun c15 => ?_)
    · rw [zb_n] at c15
      have hN := c15.2
      obtain ⟨P, H, rfl, hP, hH⟩ := hc c15
      have hle : (cf_n (xo_c ξ n L lt) τ) ≤ L := cf_n_le (xo_c ξ n L lt) τ
      have hL := hg.1
      obtain ⟨x, hx, rfl⟩ := nI_lt_ex c15
      refine gk_iconst 0 C dX0_marks_21 rfl ?_
      refine gk_istore_n C dX0_marks_22 rfl rfl ?_
      refine gk_iconst 0 C dX0_marks_23 rfl ?_
      refine gk_istore_n C dX0_marks_24 rfl rfl ?_
      have L25 : ∀ k, k ≤ n → gk_G κ 0 0 (xo_W (gk_g κ) h ad (xo_st ξ (nI (cf_n (xo_c ξ n L lt) τ)) P H (cf_o (xo_c ξ n L lt) τ)) ++ xD (gk_g κ) h (ad 2) θ n τ rs) 25 [some (.ref h), some (.int (nI x)), some (.int (sp_sum (fun k => zb (sp_fx τ k k = true)) k)), some (.int (nI k))] [] := by
        refine up_ind (fun k hk ih => ?_)
        refine gk_iload_n C dX0_marks_25 rfl ?_
        refine gk_aload_n C dX0_marks_26 rfl ?_
        refine xo_g2 C dX0_marks_27 ?_
        refine xr_size C hN0 (by decide) rfl dX0_marks_30 ?_
        refine gk_icmp_ge 60 C dX0_marks_35 (by decide) (fun c35 => ?_) (fun c35 => ?_)
        · obtain rfl : k = n := by have := nI_leT c35 (by omega) (by omega); omega
          refine gk_iload_n C dX0_marks_60 rfl ?_
          exact gk_iret C E dX0_marks_61 rfl rfl ⟨_, _, _, rfl, rfl, by rw [if_neg (fun z => z c5), if_pos hN], hj, rfl⟩
        · have c35 : k < n := nI_ngeT c35 (by omega)
          refine gk_iload_n C dX0_marks_38 rfl ?_
          refine gk_aload_n C dX0_marks_39 rfl ?_
          refine gk_iload_n C dX0_marks_40 rfl ?_
          refine xo_cU1 C hN0 (xs_isFirst t _ _ h ad _ θ n τ rs hn hv hτ k c35) cv_X0_297 rfl rfl rfl dX0_marks_41 ?_
          refine gk_jn1 (zb (sp_fx τ k k = true)) 52 ?_ (fun K52 => ?_)
          · refine gk_iadd C dX0_marks_52 ?_
            refine gk_istore_n C dX0_marks_53 rfl rfl ?_
            refine gk_iinc (nI (k + 1)) C dX0_marks_54 rfl (nI_succ k).symm rfl rfl ?_
            refine gk_goto 25 C dX0_marks_57 (by decide) ?_
            exact ih c35
          · refine gk_if_eq 51 C dX0_marks_44 (by decide) (fun c44 => ?_) (fun c44 => ?_)
            · refine gk_iconst 0 C dX0_marks_51 rfl ?_
              exact gk_eqv (by first | exact c44.symm | (rw [zb_n] at c44; exact (zb_t c44).symm)) K52
            · refine gk_iconst 1 C dX0_marks_47 rfl ?_
              refine gk_goto 52 C dX0_marks_48 (by decide) ?_
              exact gk_eqv (by first | exact c44.symm | (rw [zb_n] at c44; exact (zb_t c44).symm)) K52
      exact L25 0 (Nat.zero_le _)
    · rw [zb_0] at c15
      refine gk_bipush (-3) C dX0_marks_18 rfl ?_
      exact gk_iret C E dX0_marks_20 rfl rfl ⟨_, _, _, rfl, rfl, by rw [if_neg (fun z => z c5), if_neg (fun z => c15 ⟨c5.1, z⟩)], hj, rfl⟩
  · rw [zb_0] at c5
    refine gk_iconst (-1) C dX0_marks_8 rfl ?_
    exact gk_iret C E dX0_marks_9 rfl rfl ⟨_, _, _, rfl, rfl, by rw [if_pos c5], xj_r _, rfl⟩
set_option maxHeartbeats 1000000 in
theorem xs_which (t : Nat) (l : Launch) (Γ : gk_E) (h : Nat) (ad : Nat → Nat) (ξ : mo_S) (θ : xA) (n : Nat) (τ : sp_T) (rs : va_W) (hn : n ≤ 8) (hv : 0 < n → ¬ θ.2.1 = true) (hτ : ∀ k, k < n → xk τ k) (L lt : Nat) (hg : xg ξ L lt) (x p : Int32) : xo_J t l yX0_which (Cond.code yX0_which cX0_which 5 (some .int)) 7 [.int x, .int p] Γ h ad ξ (xD Γ h (ad 2) θ n τ rs) (.int (if ¬ (0 ≤ x.toInt ∧ x.toInt < L) then -1 else if x.toInt < (cf_n (xo_c ξ n L lt) τ) then sp_wh τ (cf_p (xo_c ξ n L lt) τ x.toInt.toNat) p n else -3)) := by
  refine gk_M.intro (xN_ok t) (by decide) [some (.ref h), some (.int x), some (.int p), none, none] rfl rfl rfl ?_
  intro κ hl hg hN0 C E
  subst hl hg
  have C : gk_C κ cX0_which "SawLine" 7 0 0 := C
  refine gk_aload_n C dX0_which_0 rfl ?_
  refine gk_iload_n C dX0_which_1 rfl ?_
  refine xo_cU1 C hN0 (xs_isLine t _ _ h ad _ _ x L (by have := hg.1; omega) hg.2.1) cv_X0_254 rfl rfl rfl dX0_which_2 ?_
  refine gk_if_ne 10 C dX0_which_5 (by decide) (fun c5 => ?_) (fun c5 => ?_)
  · rw [zb_n] at c5
    refine gk_aload_n C dX0_which_10 rfl ?_
    refine gk_iload_n C dX0_which_11 rfl ?_
    refine xo_cX1 C hN0 (xs_isCut t _ _ h ad _ θ n τ rs hn hv hτ L lt hg x) cv_X0_294 rfl rfl rfl dX0_which_12 ?_
    rintro _ ξ1 _ ⟨rfl, rfl, hj, hc⟩
    refine gk_if_ne 21 C dX0_which_15 (by decide) (fun c15 => ?_) (fun c15 => ?_)
    · rw [zb_n] at c15
      have hN := c15.2
      obtain ⟨P, H, rfl, hP, hH⟩ := hc c15
      have hle : (cf_n (xo_c ξ n L lt) τ) ≤ L := cf_n_le (xo_c ξ n L lt) τ
      have hL := hg.1
      obtain ⟨x, hx, rfl⟩ := nI_lt_ex c15
      refine gk_iconst 0 C dX0_which_21 rfl ?_
      refine gk_istore_n C dX0_which_22 rfl rfl ?_
      refine gk_iconst 0 C dX0_which_23 rfl ?_
      refine gk_istore C dX0_which_24 rfl rfl ?_
      have L26 : ∀ k, k ≤ n → gk_G κ 0 0 (xo_W (gk_g κ) h ad (xo_st ξ (nI (cf_n (xo_c ξ n L lt) τ)) P H (cf_o (xo_c ξ n L lt) τ)) ++ xD (gk_g κ) h (ad 2) θ n τ rs) 26 [some (.ref h), some (.int (nI x)), some (.int p), some (.int (sp_wh τ (cf_p (xo_c ξ n L lt) τ x) p k)), some (.int (nI k))] [] := by
        refine up_ind (fun k hk ih => ?_)
        refine gk_iload C dX0_which_26 rfl ?_
        refine gk_aload_n C dX0_which_28 rfl ?_
        refine xo_g2 C dX0_which_29 ?_
        refine xr_size C hN0 (by decide) rfl dX0_which_32 ?_
        refine gk_icmp_ge 105 C dX0_which_37 (by decide) (fun c37 => ?_) (fun c37 => ?_)
        · obtain rfl : k = n := by have := nI_leT c37 (by omega) (by omega); omega
          refine gk_iload_n C dX0_which_105 rfl ?_
          exact gk_iret C E dX0_which_106 rfl rfl ⟨_, _, _, rfl, rfl, by rw [if_neg (fun z => z c5), if_pos hN, toNat_nI (by omega)], hj, rfl⟩
        · have c37 : k < n := nI_ngeT c37 (by omega)
          refine gk_iload_n C dX0_which_40 rfl ?_
          refine gk_aload_n C dX0_which_41 rfl ?_
          refine xo_g2 C dX0_which_42 ?_
          refine gk_iload C dX0_which_45 rfl ?_
          refine xr_get C hN0 (by decide) c37 hn (hv (by omega)) rfl dX0_which_47 ?_
          refine xr_cast C hN0 c37 dX0_which_52 ?_
          refine xr_isCutting C (by decide) c37 (hτ _ c37) rfl dX0_which_55 ?_
          refine gk_jn1 ((if 0 < sp_tk τ k ∧ cf_p (xo_c ξ n L lt) τ x + sp_mk τ k = p then 1 <<< (nI k &&& 31) else 0)) 97 ?_ (fun K97 => ?_)
          · refine gk_ior C dX0_which_97 ?_
            refine gk_istore_n C dX0_which_98 rfl rfl ?_
            refine gk_iinc (nI (k + 1)) C dX0_which_99 rfl (nI_succ k).symm rfl rfl ?_
            refine gk_goto 26 C dX0_which_102 (by decide) ?_
            exact ih c37
          · refine gk_if_eq 96 C dX0_which_58 (by decide) (fun c58 => ?_) (fun c58 => ?_)
            · rw [zb_0] at c58
              have h1 : ¬ (0 < sp_tk τ k ∧ cf_p (xo_c ξ n L lt) τ x + sp_mk τ k = p) := fun z => c58 z.1
              refine gk_iconst 0 C dX0_which_96 rfl ?_
              exact gk_eqv (by first | exact (if_pos h1).symm | exact (if_neg h1).symm) K97
            · rw [zb_n] at c58
              refine gk_aload_n C dX0_which_61 rfl ?_
              refine xo_g15 C dX0_which_62 ?_
              refine gk_iload_n C dX0_which_65 rfl ?_
              refine xo_l15 C dX0_which_66 rfl (by omega) ?_
              refine gk_eqv (y := cf_p (xo_c ξ n L lt) τ x) (hP x hx) ?_
              refine gk_aload_n C dX0_which_67 rfl ?_
              refine xo_g2 C dX0_which_68 ?_
              refine gk_iload C dX0_which_71 rfl ?_
              refine xr_get C hN0 (by decide) c37 hn (hv (by omega)) rfl dX0_which_73 ?_
              refine xr_cast C hN0 c37 dX0_which_78 ?_
              refine xr_mark C (by decide) c37 (hτ _ c37) rfl dX0_which_81 ?_
              refine gk_iadd C dX0_which_84 ?_
              refine gk_iload_n C dX0_which_85 rfl ?_
              refine gk_icmp_ne 96 C dX0_which_86 (by decide) (fun c86 => ?_) (fun c86 => ?_)
              · have h1 : ¬ (0 < sp_tk τ k ∧ cf_p (xo_c ξ n L lt) τ x + sp_mk τ k = p) := fun z => c86 z.2
                refine gk_iconst 0 C dX0_which_96 rfl ?_
                exact gk_eqv (by first | exact (if_pos h1).symm | exact (if_neg h1).symm) K97
              · have h1 : 0 < sp_tk τ k ∧ cf_p (xo_c ξ n L lt) τ x + sp_mk τ k = p := ⟨c58, c86⟩
                refine gk_iconst 1 C dX0_which_89 rfl ?_
                refine gk_iload C dX0_which_90 rfl ?_
                refine gk_ishl C dX0_which_92 ?_
                refine gk_goto 97 C dX0_which_93 (by decide) ?_
                exact gk_eqv (by first | exact (if_pos h1).symm | exact (if_neg h1).symm) K97
      exact L26 0 (Nat.zero_le _)
    · rw [zb_0] at c15
      refine gk_bipush (-3) C dX0_which_18 rfl ?_
      exact gk_iret C E dX0_which_20 rfl rfl ⟨_, _, _, rfl, rfl, by rw [if_neg (fun z => z c5), if_neg (fun z => c15 ⟨c5.1, z⟩)], hj, rfl⟩
  · rw [zb_0] at c5
    refine gk_iconst (-1) C dX0_which_8 rfl ?_
    exact gk_iret C E dX0_which_9 rfl rfl ⟨_, _, _, rfl, rfl, by rw [if_pos c5], xj_r _, rfl⟩
