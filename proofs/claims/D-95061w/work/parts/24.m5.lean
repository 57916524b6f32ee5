set_option maxRecDepth 100000
abbrev mo_c (σ : mo_S) (n L lt : Nat) : cf_C := (n, L, lt, σ.1 16, σ.1 17, σ.1 19, mo_b σ)
/-- the same but for the cut's own words -/
def mo_j (σ σ1 : mo_S) : Prop := ∃ (o : Int32) (P H : Nat → Int32) (f : Int32), σ1 = mo_st σ o P H f
theorem mo_st_id (σ : mo_S) : mo_st σ (σ.1 20) (σ.2 21) (σ.2 22) (σ.1 23) = σ := by
  unfold mo_st
  rw [va_up_id, va_up_id, va_up_id, va_up_id]
theorem mo_j.rf (σ : mo_S) : mo_j σ σ := ⟨_, _, _, _, (mo_st_id σ).symm⟩
theorem mo_j.cut (σ : mo_S) (n L lt : Nat) : mo_j σ (mo_cutS σ n L lt) := ⟨_, _, _, _, rfl⟩
theorem mo_st_st (σ : mo_S) (o o' : Int32) (P P' H H' : Nat → Int32) (f f' : Int32) : mo_st (mo_st σ o P H f) o' P' H' f' = mo_st σ o' P' H' f' := by
  unfold mo_st
  dsimp only
  rw [va_up_cm _ 23 20 _ _ (by decide), va_up_up, va_up_up, va_up_cm _ 22 21 _ _ (by decide), va_up_up, va_up_up]
theorem mo_j.tr {a b c : mo_S} (h : mo_j a b) (h2 : mo_j b c) : mo_j a c := by
  obtain ⟨o, P, H, f, rfl⟩ := h
  obtain ⟨o', P', H', f', rfl⟩ := h2
  exact ⟨o', P', H', f', mo_st_st _ _ _ _ _ _ _ _ _⟩
theorem mo_st_i (σ : mo_S) (o : Int32) (P H : Nat → Int32) (f : Int32) (k : Nat) (v : Int32) (h1 : k ≠ 20) (h2 : k ≠ 23) : mo_i (mo_st σ o P H f) k v = mo_st (mo_i σ k v) o P H f := by
  unfold mo_st mo_i
  dsimp only
  rw [va_up_cm _ 23 k _ _ (Ne.symm h2), va_up_cm _ 20 k _ _ (Ne.symm h1)]
theorem mo_st_a (σ : mo_S) (o : Int32) (P H : Nat → Int32) (f : Int32) (k j : Nat) (v : Int32) (h1 : k ≠ 21) (h2 : k ≠ 22) : mo_a (mo_st σ o P H f) k j v = mo_st (mo_a σ k j v) o P H f := by
  have e : (mo_st σ o P H f).2 k = σ.2 k := by
    show va_up (va_up σ.2 21 P) 22 H k = σ.2 k
    unfold va_up
    rw [if_neg h2, if_neg h1]
  unfold mo_a
  rw [e]
  unfold mo_st
  dsimp only
  rw [va_up_cm _ 22 k _ _ (Ne.symm h2), va_up_cm _ 21 k _ _ (Ne.symm h1)]
theorem mo_i_i (σ : mo_S) (k : Nat) (v w : Int32) : mo_i (mo_i σ k v) k w = mo_i σ k w := by
  unfold mo_i; dsimp only; rw [va_up_up]
theorem mo_i_id (σ : mo_S) (k : Nat) : mo_i σ k (σ.1 k) = σ := by
  unfold mo_i; rw [va_up_id]
theorem mo_a_a (σ : mo_S) (k j : Nat) (v w : Int32) : mo_a (mo_a σ k j v) k j w = mo_a σ k j w := by
  unfold mo_a
  dsimp only
  rw [va_up_up]
  congr 2
  rw [show va_up σ.2 k (upd (σ.2 k) j v) k = upd (σ.2 k) j v from by unfold va_up; rw [if_pos rfl]]
  funext i
  unfold upd
  split <;> rfl
theorem mo_a_id (σ : mo_S) (k j : Nat) : mo_a σ k j (σ.2 k j) = σ := by
  unfold mo_a
  rw [show upd (σ.2 k) j (σ.2 k j) = σ.2 k from by funext i; unfold upd; split; rename_i z; rw [z]; rfl, va_up_id]
set_option maxHeartbeats 4000000 in
theorem mo_strL (l : Launch) (Γ : gk_E) (h : Nat) (ad : Nat → Nat) (σ : mo_S) (n : Nat) (hn : n ≤ 8) (e : σ.1 1 = nI n) (L : Nat) (hL : L ≤ 24) (eL : σ.1 12 = nI L) (lt : Nat) (hlt : lt ≤ 5) (eT : σ.1 18 = nI lt) (hH : ∀ t, t < L → ¬ 10 * σ.2 13 t = 0) (w : Nat) (hw : w = 0 ∨ w = 2) (hB : ¬ (n = 0 ∨ L = 0)) : mo_X l yX2_straightest (Cond.code yX2_straightest cX2_straightest 8 (some .int)) 4 [.int (nI w)] Γ h ad σ (fun v σ1 => v = .int (if w = 0 then (sg (fun x => cf_o (cf_ln (mo_c σ n L lt) (sg_l x)) (mo_t σ)) sg_l 19).1 else (sg (fun x => cf_o (cf_ln (mo_c σ n L lt) (sg_l x)) (mo_t σ)) sg_l 19).2) ∧ mo_j σ σ1) := by
  refine gk_M.intro gk_N0_ok (by decide) [some (.ref h), some (.int (nI w)), none, none, none, none, none, none] rfl rfl rfl ?_
  intro κ hl hg hN0 C E
  subst hl hg
  have C : gk_C κ cX2_straightest "SawLineModel" 4 0 0 := C
  refine gk_iload_n C dX2_straightest_0 rfl ?_
  refine gk_i2l C dX2_straightest_1 ?_
  refine gk_lconst 0 C dX2_straightest_2 rfl ?_
  refine gk_ldc2 C q1227 dX2_straightest_3 ?_
  refine gk_cP3 C (mo_in3 _ (nI w) 0 3 0 3 rfl rfl) cs_X2_105 rfl (Nat.zero_le _) (Nat.zero_le _) rfl dX2_straightest_6 ?_
  refine gk_if_ne 15 C dX2_straightest_9 (by decide) (fun _ => ?_) (fun z => by first | exact absurd z (zb_n.mpr (by rw [nI_ti (by omega)]; omega)) | exact absurd (zb_n.mpr (by rw [nI_ti (by omega)]; omega)) z)
  refine gk_aload_n C dX2_straightest_15 rfl ?_
  refine mo_cU0 C (mo_isBare _ _ _ _ _) cv_X2_216 rfl rfl rfl dX2_straightest_16 ?_
  rw [zb_iff (Q := n = 0 ∨ L = 0) (by rw [e, eL]; exact or_congr (nI_eq (b := 0) (by omega) (by omega)) (nI_eq (b := 0) (by omega) (by omega)))]
  refine gk_if_eq 25 C dX2_straightest_19 (by decide) (fun _ => ?_) (fun z => by first | exact absurd z (zb_0.mpr hB) | exact absurd (zb_0.mpr hB) z)
  refine gk_iload_n C dX2_straightest_25 rfl ?_
  refine gk_iconst 2 C dX2_straightest_26 rfl ?_
  refine gk_irem C dX2_straightest_27 (by decide) ?_
  refine gk_eqv (y := 0) (by rcases hw with rfl | rfl <;> decide) ?_
  refine gk_if_ne 35 C dX2_straightest_28 (by decide) (fun z => by first | exact absurd z (by decide) | exact absurd (by decide) z) (fun _ => ?_)
  refine gk_iconst 1 C dX2_straightest_31 rfl ?_
  refine gk_goto 36 C dX2_straightest_32 (by decide) ?_
  refine gk_istore_n C dX2_straightest_36 rfl rfl ?_
  refine gk_iload_n C dX2_straightest_37 rfl ?_
  refine gk_if_eq 48 C dX2_straightest_38 (by decide) (fun z => by first | exact absurd z (by decide) | exact absurd (by decide) z) (fun _ => ?_)
  refine gk_aload_n C dX2_straightest_41 rfl ?_
  refine mo_g16 C dX2_straightest_42 ?_
  refine gk_goto 52 C dX2_straightest_45 (by decide) ?_
  refine gk_istore_n C dX2_straightest_52 rfl rfl ?_
  refine gk_iconst 0 C dX2_straightest_53 rfl ?_
  refine gk_istore C dX2_straightest_54 rfl rfl ?_
  refine gk_bipush (-9) C dX2_straightest_56 rfl ?_
  refine gk_istore C dX2_straightest_58 rfl rfl ?_
  refine gk_iconst 0 C dX2_straightest_60 rfl ?_
  refine gk_istore C dX2_straightest_61 rfl rfl ?_
  have L63 : ∀ x, x ≤ 19 → ∀ σ1 : mo_S, (∃ (v : Int32), mo_j (mo_i σ 16 v) σ1) → gk_G κ 0 0 (mo_W (gk_g κ) h ad σ1) 63 [some (.ref h), some (.int (nI w)), some (.int 1), some (.int (σ.1 16)), some (.int (sg (fun x => cf_o (cf_ln (mo_c σ n L lt) (sg_l x)) (mo_t σ)) sg_l x).1), some (.int (sg (fun x => cf_o (cf_ln (mo_c σ n L lt) (sg_l x)) (mo_t σ)) sg_l x).2), some (.int (nI x)), none] [] := by
    refine up_ind (fun x hx ih => ?_)
    rintro σ1 ⟨v, o, P, H, f, rfl⟩
    refine gk_iload C dX2_straightest_63 rfl ?_
    refine gk_iload_n C dX2_straightest_65 rfl ?_
    refine gk_if_eq 74 C dX2_straightest_66 (by decide) (fun z => by first | exact absurd z (by decide) | exact absurd (by decide) z) (fun _ => ?_)
    refine gk_bipush 19 C dX2_straightest_69 rfl ?_
    refine gk_goto 76 C dX2_straightest_71 (by decide) ?_
    refine gk_icmp_ge 165 C dX2_straightest_76 (by decide) (fun c76 => ?_) (fun c76 => ?_)
    · obtain rfl : x = 19 := by have := nI_leT (b := x) (a := 19) c76 (by omega) (by omega); omega
      refine gk_iload_n C dX2_straightest_165 rfl ?_
      refine gk_if_eq 177 C dX2_straightest_166 (by decide) (fun z => by first | exact absurd z (by decide) | exact absurd (by decide) z) (fun _ => ?_)
      refine gk_aload_n C dX2_straightest_169 rfl ?_
      refine gk_iload_n C dX2_straightest_170 rfl ?_
      refine mo_p16 C dX2_straightest_171 ?_
      rw [mo_st_i _ _ _ _ _ _ _ (by decide) (by decide), mo_i_i, mo_i_id]
      refine gk_goto 182 C dX2_straightest_174 (by decide) ?_
      refine gk_iload_n C dX2_straightest_182 rfl ?_
      refine gk_iconst 2 C dX2_straightest_183 rfl ?_
      refine gk_icmp_ge 192 C dX2_straightest_184 (by decide) (fun c184 => ?_) (fun c184 => ?_)
      · have hfin : (sg (fun x => cf_o (cf_ln (mo_c σ n L lt) (sg_l x)) (mo_t σ)) sg_l 19).2 = (if w = 0 then (sg (fun x => cf_o (cf_ln (mo_c σ n L lt) (sg_l x)) (mo_t σ)) sg_l 19).1 else (sg (fun x => cf_o (cf_ln (mo_c σ n L lt) (sg_l x)) (mo_t σ)) sg_l 19).2) := (if_neg (fun z => absurd c184 (by rw [z]; decide))).symm
        refine gk_iload C dX2_straightest_192 rfl ?_
        exact gk_iret C E dX2_straightest_194 rfl rfl ⟨_, _, rfl, rfl, congrArg Value.int hfin, ⟨_, _, _, _, rfl⟩⟩
      · have hfin : (sg (fun x => cf_o (cf_ln (mo_c σ n L lt) (sg_l x)) (mo_t σ)) sg_l 19).1 = (if w = 0 then (sg (fun x => cf_o (cf_ln (mo_c σ n L lt) (sg_l x)) (mo_t σ)) sg_l 19).1 else (sg (fun x => cf_o (cf_ln (mo_c σ n L lt) (sg_l x)) (mo_t σ)) sg_l 19).2) := (if_pos (hw.elim (fun z => z) (fun z => absurd (show (2 : Int32) ≤ nI w by rw [z]; decide) c184))).symm
        refine gk_iload C dX2_straightest_187 rfl ?_
        refine gk_goto 194 C dX2_straightest_189 (by decide) ?_
        exact gk_iret C E dX2_straightest_194 rfl rfl ⟨_, _, rfl, rfl, congrArg Value.int hfin, ⟨_, _, _, _, rfl⟩⟩
    · have c76 : x < 19 := nI_ngeT (b := 19) c76 (by omega)
      refine gk_iload_n C dX2_straightest_79 rfl ?_
      refine gk_if_ne 88 C dX2_straightest_80 (by decide) (fun _ => ?_) (fun z => by first | exact absurd z (by decide) | exact absurd (by decide) z)
      refine gk_iload C dX2_straightest_88 rfl ?_
      refine gk_iconst 2 C dX2_straightest_90 rfl ?_
      refine gk_irem C dX2_straightest_91 (by decide) ?_
      refine gk_eqv (pk_rem (a := x) (d := 2) (by omega) (by omega) (by omega)) ?_
      refine gk_iconst 1 C dX2_straightest_92 rfl ?_
      refine gk_jn2 (sg_l x) 110 ?_ (fun K110 => ?_)
      · refine gk_istore C dX2_straightest_110 rfl rfl ?_
        refine gk_iload_n C dX2_straightest_112 rfl ?_
        refine gk_if_eq 125 C dX2_straightest_113 (by decide) (fun z => by first | exact absurd z (by decide) | exact absurd (by decide) z) (fun _ => ?_)
        refine gk_aload_n C dX2_straightest_116 rfl ?_
        refine gk_iload C dX2_straightest_117 rfl ?_
        refine mo_p16 C dX2_straightest_119 ?_
        rw [mo_st_i _ _ _ _ _ _ _ (by decide) (by decide), mo_i_i]
        refine gk_goto 131 C dX2_straightest_122 (by decide) ?_
        refine gk_aload_n C dX2_straightest_131 rfl ?_
        refine mo_cV0 C (mo_cut _ _ _ _ (mo_st (mo_i σ 16 (sg_l x)) o P H f) n hn e L hL eL lt hlt eT hH) cv_X2_210 rfl rfl rfl dX2_straightest_132 ?_
        refine gk_iload C dX2_straightest_135 rfl ?_
        refine gk_jnO1 ([some (.ref h), some (.int (nI w)), some (.int 1), some (.int (σ.1 16)), some (.int (sg (fun x => cf_o (cf_ln (mo_c σ n L lt) (sg_l x)) (mo_t σ)) sg_l (x + 1)).1), some (.int (sg (fun x => cf_o (cf_ln (mo_c σ n L lt) (sg_l x)) (mo_t σ)) sg_l (x + 1)).2), some (.int (nI x)), some (.int (sg_l x))]) 159 ?_ (fun K159 => ?_)
        · refine gk_iinc (nI (x + 1)) C dX2_straightest_159 rfl (nI_succ x).symm rfl rfl ?_
          refine gk_goto 63 C dX2_straightest_162 (by decide) ?_
          exact gk_fg 7 (ih c76 _ ⟨sg_l x, mo_j.tr ⟨_, _, _, _, rfl⟩ (mo_j.cut _ n L lt)⟩)
        · refine gk_if_lt 149 C dX2_straightest_137 (by decide) (fun c137 => ?_) (fun c137 => ?_)
          · have hs : (sg (fun x => cf_o (cf_ln (mo_c σ n L lt) (sg_l x)) (mo_t σ)) sg_l (x + 1)) = (sg_l x, (fun x => cf_o (cf_ln (mo_c σ n L lt) (sg_l x)) (mo_t σ)) x) := if_pos (Or.inl c137)
            refine gk_iload C dX2_straightest_149 rfl ?_
            refine gk_istore C dX2_straightest_151 rfl rfl ?_
            refine gk_aload_n C dX2_straightest_153 rfl ?_
            refine mo_g23 C dX2_straightest_154 ?_
            rw [mo_cutO]
            refine gk_eqv (y := (fun x => cf_o (cf_ln (mo_c σ n L lt) (sg_l x)) (mo_t σ)) x) rfl ?_
            refine gk_istore C dX2_straightest_157 rfl rfl ?_
            rw [hs] at K159
            exact K159
          · refine gk_aload_n C dX2_straightest_140 rfl ?_
            refine mo_g23 C dX2_straightest_141 ?_
            rw [mo_cutO]
            refine gk_eqv (y := (fun x => cf_o (cf_ln (mo_c σ n L lt) (sg_l x)) (mo_t σ)) x) rfl ?_
            refine gk_iload C dX2_straightest_144 rfl ?_
            refine gk_icmp_ge 159 C dX2_straightest_146 (by decide) (fun c146 => ?_) (fun c146 => ?_)
            · have hs : (sg (fun x => cf_o (cf_ln (mo_c σ n L lt) (sg_l x)) (mo_t σ)) sg_l (x + 1)) = (sg (fun x => cf_o (cf_ln (mo_c σ n L lt) (sg_l x)) (mo_t σ)) sg_l x) := if_neg (fun z => z.elim c137 (Int32.not_lt.mpr c146))
              rw [hs] at K159
              exact K159
            · have hs : (sg (fun x => cf_o (cf_ln (mo_c σ n L lt) (sg_l x)) (mo_t σ)) sg_l (x + 1)) = (sg_l x, (fun x => cf_o (cf_ln (mo_c σ n L lt) (sg_l x)) (mo_t σ)) x) := if_pos (Or.inr (Int32.not_le.mp c146))
              refine gk_iload C dX2_straightest_149 rfl ?_
              refine gk_istore C dX2_straightest_151 rfl rfl ?_
              refine gk_aload_n C dX2_straightest_153 rfl ?_
              refine mo_g23 C dX2_straightest_154 ?_
              rw [mo_cutO]
              refine gk_eqv (y := (fun x => cf_o (cf_ln (mo_c σ n L lt) (sg_l x)) (mo_t σ)) x) rfl ?_
              refine gk_istore C dX2_straightest_157 rfl rfl ?_
              rw [hs] at K159
              exact K159
      · refine gk_icmp_ne 106 C dX2_straightest_93 (by decide) (fun c93 => ?_) (fun c93 => ?_)
        · have c93 : ¬ x % 2 = 1 := fun z => c93 (by rw [z]; rfl)
          refine gk_iload C dX2_straightest_106 rfl ?_
          refine gk_iconst 2 C dX2_straightest_108 rfl ?_
          refine gk_idiv C dX2_straightest_109 (by decide) ?_
          exact gk_eqv (by first | exact (if_neg c93).symm | exact (if_pos c93).symm) K110
        · have c93 : x % 2 = 1 := (nI_eq (b := 1) (by omega) (by omega)).mp c93
          refine gk_iload C dX2_straightest_96 rfl ?_
          refine gk_iconst 1 C dX2_straightest_98 rfl ?_
          refine gk_iadd C dX2_straightest_99 ?_
          refine gk_ineg C dX2_straightest_100 ?_
          refine gk_iconst 2 C dX2_straightest_101 rfl ?_
          refine gk_idiv C dX2_straightest_102 (by decide) ?_
          refine gk_goto 110 C dX2_straightest_103 (by decide) ?_
          exact gk_eqv (by first | exact (if_neg c93).symm | exact (if_pos c93).symm) K110
  exact L63 0 (Nat.zero_le _) σ ⟨σ.1 16, by rw [mo_i_id]; exact mo_j.rf σ⟩
set_option maxHeartbeats 4000000 in
theorem mo_strS (l : Launch) (Γ : gk_E) (h : Nat) (ad : Nat → Nat) (σ : mo_S) (n : Nat) (hn : n ≤ 8) (e : σ.1 1 = nI n) (L : Nat) (hL : L ≤ 24) (eL : σ.1 12 = nI L) (lt : Nat) (hlt : lt ≤ 5) (eT : σ.1 18 = nI lt) (hH : ∀ t, t < L → ¬ 10 * σ.2 13 t = 0) (w : Nat) (hw : w = 1 ∨ w = 3) (hB : ¬ (n = 0 ∨ L = 0)) : mo_X l yX2_straightest (Cond.code yX2_straightest cX2_straightest 8 (some .int)) 4 [.int (nI w)] Γ h ad σ (fun v σ1 => v = .int (if w = 1 then (sg (fun x => cf_o (cf_ss (mo_c σ n L lt) (nI x)) (mo_t σ)) nI 10).1 else (sg (fun x => cf_o (cf_ss (mo_c σ n L lt) (nI x)) (mo_t σ)) nI 10).2) ∧ mo_j σ σ1) := by
  refine gk_M.intro gk_N0_ok (by decide) [some (.ref h), some (.int (nI w)), none, none, none, none, none, none] rfl rfl rfl ?_
  intro κ hl hg hN0 C E
  subst hl hg
  have C : gk_C κ cX2_straightest "SawLineModel" 4 0 0 := C
  refine gk_iload_n C dX2_straightest_0 rfl ?_
  refine gk_i2l C dX2_straightest_1 ?_
  refine gk_lconst 0 C dX2_straightest_2 rfl ?_
  refine gk_ldc2 C q1227 dX2_straightest_3 ?_
  refine gk_cP3 C (mo_in3 _ (nI w) 0 3 0 3 rfl rfl) cs_X2_105 rfl (Nat.zero_le _) (Nat.zero_le _) rfl dX2_straightest_6 ?_
  refine gk_if_ne 15 C dX2_straightest_9 (by decide) (fun _ => ?_) (fun z => by first | exact absurd z (zb_n.mpr (by rw [nI_ti (by omega)]; omega)) | exact absurd (zb_n.mpr (by rw [nI_ti (by omega)]; omega)) z)
  refine gk_aload_n C dX2_straightest_15 rfl ?_
  refine mo_cU0 C (mo_isBare _ _ _ _ _) cv_X2_216 rfl rfl rfl dX2_straightest_16 ?_
  rw [zb_iff (Q := n = 0 ∨ L = 0) (by rw [e, eL]; exact or_congr (nI_eq (b := 0) (by omega) (by omega)) (nI_eq (b := 0) (by omega) (by omega)))]
  refine gk_if_eq 25 C dX2_straightest_19 (by decide) (fun _ => ?_) (fun z => by first | exact absurd z (zb_0.mpr hB) | exact absurd (zb_0.mpr hB) z)
  refine gk_iload_n C dX2_straightest_25 rfl ?_
  refine gk_iconst 2 C dX2_straightest_26 rfl ?_
  refine gk_irem C dX2_straightest_27 (by decide) ?_
  refine gk_eqv (y := 1) (by rcases hw with rfl | rfl <;> decide) ?_
  refine gk_if_ne 35 C dX2_straightest_28 (by decide) (fun _ => ?_) (fun z => by first | exact absurd z (by decide) | exact absurd (by decide) z)
  refine gk_iconst 0 C dX2_straightest_35 rfl ?_
  refine gk_istore_n C dX2_straightest_36 rfl rfl ?_
  refine gk_iload_n C dX2_straightest_37 rfl ?_
  refine gk_if_eq 48 C dX2_straightest_38 (by decide) (fun _ => ?_) (fun z => by first | exact absurd z (by decide) | exact absurd (by decide) z)
  refine gk_aload_n C dX2_straightest_48 rfl ?_
  refine mo_g17 C dX2_straightest_49 ?_
  refine gk_istore_n C dX2_straightest_52 rfl rfl ?_
  refine gk_iconst 0 C dX2_straightest_53 rfl ?_
  refine gk_istore C dX2_straightest_54 rfl rfl ?_
  refine gk_bipush (-9) C dX2_straightest_56 rfl ?_
  refine gk_istore C dX2_straightest_58 rfl rfl ?_
  refine gk_iconst 0 C dX2_straightest_60 rfl ?_
  refine gk_istore C dX2_straightest_61 rfl rfl ?_
  have L63 : ∀ x, x ≤ 10 → ∀ σ1 : mo_S, (∃ (v : Int32), mo_j (mo_i σ 17 v) σ1) → gk_G κ 0 0 (mo_W (gk_g κ) h ad σ1) 63 [some (.ref h), some (.int (nI w)), some (.int 0), some (.int (σ.1 17)), some (.int (sg (fun x => cf_o (cf_ss (mo_c σ n L lt) (nI x)) (mo_t σ)) nI x).1), some (.int (sg (fun x => cf_o (cf_ss (mo_c σ n L lt) (nI x)) (mo_t σ)) nI x).2), some (.int (nI x)), none] [] := by
    refine up_ind (fun x hx ih => ?_)
    rintro σ1 ⟨v, o, P, H, f, rfl⟩
    refine gk_iload C dX2_straightest_63 rfl ?_
    refine gk_iload_n C dX2_straightest_65 rfl ?_
    refine gk_if_eq 74 C dX2_straightest_66 (by decide) (fun _ => ?_) (fun z => by first | exact absurd z (by decide) | exact absurd (by decide) z)
    refine gk_bipush 10 C dX2_straightest_74 rfl ?_
    refine gk_icmp_ge 165 C dX2_straightest_76 (by decide) (fun c76 => ?_) (fun c76 => ?_)
    · obtain rfl : x = 10 := by have := nI_leT (b := x) (a := 10) c76 (by omega) (by omega); omega
      refine gk_iload_n C dX2_straightest_165 rfl ?_
      refine gk_if_eq 177 C dX2_straightest_166 (by decide) (fun _ => ?_) (fun z => by first | exact absurd z (by decide) | exact absurd (by decide) z)
      refine gk_aload_n C dX2_straightest_177 rfl ?_
      refine gk_iload_n C dX2_straightest_178 rfl ?_
      refine mo_p17 C dX2_straightest_179 ?_
      rw [mo_st_i _ _ _ _ _ _ _ (by decide) (by decide), mo_i_i, mo_i_id]
      refine gk_iload_n C dX2_straightest_182 rfl ?_
      refine gk_iconst 2 C dX2_straightest_183 rfl ?_
      refine gk_icmp_ge 192 C dX2_straightest_184 (by decide) (fun c184 => ?_) (fun c184 => ?_)
      · have hfin : (sg (fun x => cf_o (cf_ss (mo_c σ n L lt) (nI x)) (mo_t σ)) nI 10).2 = (if w = 1 then (sg (fun x => cf_o (cf_ss (mo_c σ n L lt) (nI x)) (mo_t σ)) nI 10).1 else (sg (fun x => cf_o (cf_ss (mo_c σ n L lt) (nI x)) (mo_t σ)) nI 10).2) := (if_neg (fun z => absurd c184 (by rw [z]; decide))).symm
        refine gk_iload C dX2_straightest_192 rfl ?_
        exact gk_iret C E dX2_straightest_194 rfl rfl ⟨_, _, rfl, rfl, congrArg Value.int hfin, ⟨_, _, _, _, rfl⟩⟩
      · have hfin : (sg (fun x => cf_o (cf_ss (mo_c σ n L lt) (nI x)) (mo_t σ)) nI 10).1 = (if w = 1 then (sg (fun x => cf_o (cf_ss (mo_c σ n L lt) (nI x)) (mo_t σ)) nI 10).1 else (sg (fun x => cf_o (cf_ss (mo_c σ n L lt) (nI x)) (mo_t σ)) nI 10).2) := (if_pos (hw.elim (fun z => z) (fun z => absurd (show (2 : Int32) ≤ nI w by rw [z]; decide) c184))).symm
        refine gk_iload C dX2_straightest_187 rfl ?_
        refine gk_goto 194 C dX2_straightest_189 (by decide) ?_
        exact gk_iret C E dX2_straightest_194 rfl rfl ⟨_, _, rfl, rfl, congrArg Value.int hfin, ⟨_, _, _, _, rfl⟩⟩
    · have c76 : x < 10 := nI_ngeT (b := 10) c76 (by omega)
      refine gk_iload_n C dX2_straightest_79 rfl ?_
      refine gk_if_ne 88 C dX2_straightest_80 (by decide) (fun z => by first | exact absurd z (by decide) | exact absurd (by decide) z) (fun _ => ?_)
      refine gk_iload C dX2_straightest_83 rfl ?_
      refine gk_goto 110 C dX2_straightest_85 (by decide) ?_
      refine gk_istore C dX2_straightest_110 rfl rfl ?_
      refine gk_iload_n C dX2_straightest_112 rfl ?_
      refine gk_if_eq 125 C dX2_straightest_113 (by decide) (fun _ => ?_) (fun z => by first | exact absurd z (by decide) | exact absurd (by decide) z)
      refine gk_aload_n C dX2_straightest_125 rfl ?_
      refine gk_iload C dX2_straightest_126 rfl ?_
      refine mo_p17 C dX2_straightest_128 ?_
      rw [mo_st_i _ _ _ _ _ _ _ (by decide) (by decide), mo_i_i]
      refine gk_aload_n C dX2_straightest_131 rfl ?_
      refine mo_cV0 C (mo_cut _ _ _ _ (mo_st (mo_i σ 17 (nI x)) o P H f) n hn e L hL eL lt hlt eT hH) cv_X2_210 rfl rfl rfl dX2_straightest_132 ?_
      refine gk_iload C dX2_straightest_135 rfl ?_
      refine gk_jnO1 ([some (.ref h), some (.int (nI w)), some (.int 0), some (.int (σ.1 17)), some (.int (sg (fun x => cf_o (cf_ss (mo_c σ n L lt) (nI x)) (mo_t σ)) nI (x + 1)).1), some (.int (sg (fun x => cf_o (cf_ss (mo_c σ n L lt) (nI x)) (mo_t σ)) nI (x + 1)).2), some (.int (nI x)), some (.int (nI x))]) 159 ?_ (fun K159 => ?_)
      · refine gk_iinc (nI (x + 1)) C dX2_straightest_159 rfl (nI_succ x).symm rfl rfl ?_
        refine gk_goto 63 C dX2_straightest_162 (by decide) ?_
        exact gk_fg 7 (ih c76 _ ⟨nI x, mo_j.tr ⟨_, _, _, _, rfl⟩ (mo_j.cut _ n L lt)⟩)
      · refine gk_if_lt 149 C dX2_straightest_137 (by decide) (fun c137 => ?_) (fun c137 => ?_)
        · have hs : (sg (fun x => cf_o (cf_ss (mo_c σ n L lt) (nI x)) (mo_t σ)) nI (x + 1)) = (nI x, (fun x => cf_o (cf_ss (mo_c σ n L lt) (nI x)) (mo_t σ)) x) := if_pos (Or.inl c137)
          refine gk_iload C dX2_straightest_149 rfl ?_
          refine gk_istore C dX2_straightest_151 rfl rfl ?_
          refine gk_aload_n C dX2_straightest_153 rfl ?_
          refine mo_g23 C dX2_straightest_154 ?_
          rw [mo_cutO]
          refine gk_eqv (y := (fun x => cf_o (cf_ss (mo_c σ n L lt) (nI x)) (mo_t σ)) x) rfl ?_
          refine gk_istore C dX2_straightest_157 rfl rfl ?_
          rw [hs] at K159
          exact K159
        · refine gk_aload_n C dX2_straightest_140 rfl ?_
          refine mo_g23 C dX2_straightest_141 ?_
          rw [mo_cutO]
          refine gk_eqv (y := (fun x => cf_o (cf_ss (mo_c σ n L lt) (nI x)) (mo_t σ)) x) rfl ?_
          refine gk_iload C dX2_straightest_144 rfl ?_
          refine gk_icmp_ge 159 C dX2_straightest_146 (by decide) (fun c146 => ?_) (fun c146 => ?_)
          · have hs : (sg (fun x => cf_o (cf_ss (mo_c σ n L lt) (nI x)) (mo_t σ)) nI (x + 1)) = (sg (fun x => cf_o (cf_ss (mo_c σ n L lt) (nI x)) (mo_t σ)) nI x) := if_neg (fun z => z.elim c137 (Int32.not_lt.mpr c146))
            rw [hs] at K159
            exact K159
          · have hs : (sg (fun x => cf_o (cf_ss (mo_c σ n L lt) (nI x)) (mo_t σ)) nI (x + 1)) = (nI x, (fun x => cf_o (cf_ss (mo_c σ n L lt) (nI x)) (mo_t σ)) x) := if_pos (Or.inr (Int32.not_le.mp c146))
            refine gk_iload C dX2_straightest_149 rfl ?_
            refine gk_istore C dX2_straightest_151 rfl rfl ?_
            refine gk_aload_n C dX2_straightest_153 rfl ?_
            refine mo_g23 C dX2_straightest_154 ?_
            rw [mo_cutO]
            refine gk_eqv (y := (fun x => cf_o (cf_ss (mo_c σ n L lt) (nI x)) (mo_t σ)) x) rfl ?_
            refine gk_istore C dX2_straightest_157 rfl rfl ?_
            rw [hs] at K159
            exact K159
  exact L63 0 (Nat.zero_le _) σ ⟨σ.1 17, by rw [mo_i_id]; exact mo_j.rf σ⟩
set_option maxHeartbeats 1000000 in
theorem mo_str0 (l : Launch) (Γ : gk_E) (h : Nat) (ad : Nat → Nat) (σ : mo_S) (n : Nat) (hn : n ≤ 8) (e : σ.1 1 = nI n) (L : Nat) (hL : L ≤ 24) (eL : σ.1 12 = nI L) (lt : Nat) (hlt : lt ≤ 5) (eT : σ.1 18 = nI lt) (hH : ∀ t, t < L → ¬ 10 * σ.2 13 t = 0) (w : Int32) (hB : ¬ (0 ≤ w.toInt ∧ w.toInt ≤ 3) ∨ (n = 0 ∨ L = 0)) : mo_U l yX2_straightest (Cond.code yX2_straightest cX2_straightest 8 (some .int)) 4 [.int w] Γ h ad σ (.int (if ¬ (0 ≤ w.toInt ∧ w.toInt ≤ 3) then -2 else -3)) σ := by
  refine gk_M.intro gk_N0_ok (by decide) [some (.ref h), some (.int w), none, none, none, none, none, none] rfl rfl rfl ?_
  intro κ hl hg hN0 C E
  subst hl hg
  have C : gk_C κ cX2_straightest "SawLineModel" 4 0 0 := C
  refine gk_iload_n C dX2_straightest_0 rfl ?_
  refine gk_i2l C dX2_straightest_1 ?_
  refine gk_lconst 0 C dX2_straightest_2 rfl ?_
  refine gk_ldc2 C q1227 dX2_straightest_3 ?_
  refine gk_cP3 C (mo_in3 _ w 0 3 0 3 rfl rfl) cs_X2_105 rfl (Nat.zero_le _) (Nat.zero_le _) rfl dX2_straightest_6 ?_
  refine gk_if_ne 15 C dX2_straightest_9 (by decide) (fun c9 => ?_) (fun c9 => ?_)
  · rw [zb_n] at c9
    refine gk_aload_n C dX2_straightest_15 rfl ?_
    refine mo_cU0 C (mo_isBare _ _ _ _ _) cv_X2_216 rfl rfl rfl dX2_straightest_16 ?_
    rw [zb_iff (Q := n = 0 ∨ L = 0) (by rw [e, eL]; exact or_congr (nI_eq (b := 0) (by omega) (by omega)) (nI_eq (b := 0) (by omega) (by omega)))]
    refine gk_if_eq 25 C dX2_straightest_19 (by decide) (fun z => by first | exact absurd z (zb_n.mpr (hB.resolve_left (fun z => z c9))) | exact absurd (zb_n.mpr (hB.resolve_left (fun z => z c9))) z) (fun _ => ?_)
    refine gk_bipush (-3) C dX2_straightest_22 rfl ?_
    exact gk_iret C E dX2_straightest_24 rfl rfl ⟨vi (if_neg (fun z => z c9)).symm, rfl⟩
  · rw [zb_0] at c9
    refine gk_bipush (-2) C dX2_straightest_12 rfl ?_
    exact gk_iret C E dX2_straightest_14 rfl rfl ⟨vi (if_pos c9).symm, rfl⟩
theorem mo_X.mono {l : Launch} {y : MethodName} {cw : Cond} {d : Nat} {av : List Value} {Γ : gk_E} {h : Nat} {ad : Nat → Nat} {σ : mo_S} {post post' : Value → mo_S → Prop} (hX : mo_X l y cw d av Γ h ad σ post) (hp : ∀ v σ1, post v σ1 → post' v σ1) : mo_X l y cw d av Γ h ad σ post' := fun sz => gk_post (hX sz) (fun r ws q => by obtain ⟨v, σ1, q1, q2, q3⟩ := q; exact ⟨v, σ1, q1, q2, hp _ _ q3⟩)
theorem mo_U.X {l : Launch} {y : MethodName} {cw : Cond} {d : Nat} {av : List Value} {Γ : gk_E} {h : Nat} {ad : Nat → Nat} {σ σ1 : mo_S} {v : Value} {post : Value → mo_S → Prop} (hU : mo_U l y cw d av Γ h ad σ v σ1) (hp : post v σ1) : mo_X l y cw d av Γ h ad σ post := fun sz => gk_post (hU sz) (fun r ws q => by obtain ⟨rfl, rfl⟩ := q; exact ⟨_, _, rfl, rfl, hp⟩)
theorem mo_straightest (l : Launch) (Γ : gk_E) (h : Nat) (ad : Nat → Nat) (σ : mo_S) (n : Nat) (hn : n ≤ 8) (e : σ.1 1 = nI n) (L : Nat) (hL : L ≤ 24) (eL : σ.1 12 = nI L) (lt : Nat) (hlt : lt ≤ 5) (eT : σ.1 18 = nI lt) (hH : ∀ t, t < L → ¬ 10 * σ.2 13 t = 0) (w : Int32) : mo_X l yX2_straightest (Cond.code yX2_straightest cX2_straightest 8 (some .int)) 4 [.int w] Γ h ad σ (fun v σ1 => v = .int (ap_str (mo_c σ n L lt) (mo_t σ) w) ∧ mo_j σ σ1) := by
  have up : ∀ {a b : Value} {s1 : mo_S}, a = b → mo_U l yX2_straightest (Cond.code yX2_straightest cX2_straightest 8 (some .int)) 4 [.int w] Γ h ad σ a s1 → mo_j σ s1 → mo_X l yX2_straightest (Cond.code yX2_straightest cX2_straightest 8 (some .int)) 4 [.int w] Γ h ad σ (fun v σ1 => v = b ∧ mo_j σ σ1) := by
    intro a b s1 e1 hU hj sz
    refine gk_post (hU sz) ?_
    rintro r ws ⟨rfl, rfl⟩
    exact ⟨_, _, rfl, rfl, e1, hj⟩
  by_cases hw : 0 ≤ w.toInt ∧ w.toInt ≤ 3
  · by_cases hB : n = 0 ∨ L = 0
    · refine up ?_ (mo_str0 l Γ h ad σ n hn e L hL eL lt hlt eT hH w (Or.inr hB)) (mo_j.rf σ)
      unfold ap_str
      rw [if_neg (fun z => z hw), if_neg (fun z => z hw), if_pos hB]
    · obtain ⟨j, hj, rfl⟩ := nI_btw (x := w) (n := 3) hw.1 hw.2
      rcases (show j = 0 ∨ j = 1 ∨ j = 2 ∨ j = 3 by omega) with rfl | rfl | rfl | rfl
      · refine mo_X.mono (mo_strL l Γ h ad σ n hn e L hL eL lt hlt eT hH 0 (Or.inl rfl) hB) (fun v σ1 q => ⟨q.1.trans (congrArg Value.int ?_), q.2⟩)
        refine (if_pos rfl).trans ?_
        unfold ap_str
        rw [if_neg (show ¬ ¬ _ from fun z => z hw), if_neg hB, if_pos (by decide)]
      · refine mo_X.mono (mo_strS l Γ h ad σ n hn e L hL eL lt hlt eT hH 1 (Or.inl rfl) hB) (fun v σ1 q => ⟨q.1.trans (congrArg Value.int ?_), q.2⟩)
        refine (if_pos rfl).trans ?_
        unfold ap_str
        rw [if_neg (show ¬ ¬ _ from fun z => z hw), if_neg hB, if_neg (by decide), if_pos (by decide)]
      · refine mo_X.mono (mo_strL l Γ h ad σ n hn e L hL eL lt hlt eT hH 2 (Or.inr rfl) hB) (fun v σ1 q => ⟨q.1.trans (congrArg Value.int ?_), q.2⟩)
        refine (if_neg (by decide)).trans ?_
        unfold ap_str
        rw [if_neg (show ¬ ¬ _ from fun z => z hw), if_neg hB, if_neg (by decide), if_neg (by decide), if_pos (by decide)]
      · refine mo_X.mono (mo_strS l Γ h ad σ n hn e L hL eL lt hlt eT hH 3 (Or.inr rfl) hB) (fun v σ1 q => ⟨q.1.trans (congrArg Value.int ?_), q.2⟩)
        refine (if_neg (by decide)).trans ?_
        unfold ap_str
        rw [if_neg (show ¬ ¬ _ from fun z => z hw), if_neg hB, if_neg (by decide), if_neg (by decide), if_neg (by decide)]
  · refine up ?_ (mo_str0 l Γ h ad σ n hn e L hL eL lt hlt eT hH w (Or.inl hw)) (mo_j.rf σ)
    unfold ap_str
    rw [if_pos hw, if_pos hw]
