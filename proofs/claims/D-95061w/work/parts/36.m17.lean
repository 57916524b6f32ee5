set_option maxRecDepth 100000
theorem ba_0 {sz ln : Nat → Int32} {k la i n : Int32} (h : ba_c sz ln k la i n = 0) : (0 ≤ k.toInt ∧ k.toInt ≤ 3) ∧ (0 ≤ la.toInt ∧ la.toInt ≤ 2) ∧ ¬ sz k.toInt.toNat < 0 ∧ ln k.toInt.toNat = la ∧ 0 ≤ n.toInt ∧ 0 ≤ i.toInt ∧ i.toInt + n.toInt ≤ (sz k.toInt.toNat).toInt := by
  unfold ba_c at h
  split at h
  · cases h
  · rename_i h1
    split at h
    · cases h
    · rename_i h2
      split at h
      · cases h
      · rename_i h3
        split at h
        · cases h
        · rename_i h4
          split at h
          · cases h
          · rename_i h5
            split at h
            · cases h
            · rename_i h6
              refine ⟨Decidable.not_not.mp h1, Decidable.not_not.mp h2, h4, ?_, by omega, by omega, by omega⟩
              exact Decidable.byContradiction fun z => h3 ⟨Int32.not_lt.mp h4, z⟩
/-- the first m by f, the others by g -/
def cp_u (f g : Nat → Int32) (m : Nat) : Nat → Int32 := fun j => if j < m then f j else g j
theorem cp_u0 (f g : Nat → Int32) : cp_u f g 0 = g := by funext j; unfold cp_u; rw [if_neg (by omega)]
theorem cp_us (f g : Nat → Int32) (m : Nat) : upd (cp_u f g m) m (f m) = cp_u f g (m + 1) := by
  funext j; unfold upd cp_u
  by_cases h : j = m
  · rw [if_pos h, if_pos (by omega), h]
  · rw [if_neg h]
    by_cases h2 : j < m
    · rw [if_pos h2, if_pos (by omega)]
    · rw [if_neg h2, if_neg (by omega)]
theorem cp_uc {f f' g : Nat → Int32} {m : Nat} (h : ∀ j, j < m → f j = f' j) : cp_u f g m = cp_u f' g m := by
  funext j; unfold cp_u; split
  · exact h j ‹_›
  · rfl
/-- the model with its teeth's rows set -/
def mo_tt (σ : mo_S) (a b c d e : Nat → Int32) : mo_S := (σ.1, va_up (va_up (va_up (va_up (va_up σ.2 2 a) 3 b) 4 c) 5 d) 6 e)
theorem mo_tt_2 (σ : mo_S) (a b c d e : Nat → Int32) (j : Nat) (v : Int32) : mo_a (mo_tt σ a b c d e) 2 j v = mo_tt σ (upd a j v) b c d e := by
  have z : (mo_tt σ a b c d e).2 2 = a := rfl
  unfold mo_a; rw [z]; unfold mo_tt; dsimp only
  rw [va_up_cm _ 6 2 _ _ (by decide), va_up_cm _ 5 2 _ _ (by decide), va_up_cm _ 4 2 _ _ (by decide), va_up_cm _ 3 2 _ _ (by decide), va_up_up]
theorem mo_tt_3 (σ : mo_S) (a b c d e : Nat → Int32) (j : Nat) (v : Int32) : mo_a (mo_tt σ a b c d e) 3 j v = mo_tt σ a (upd b j v) c d e := by
  have z : (mo_tt σ a b c d e).2 3 = b := rfl
  unfold mo_a; rw [z]; unfold mo_tt; dsimp only
  rw [va_up_cm _ 6 3 _ _ (by decide), va_up_cm _ 5 3 _ _ (by decide), va_up_cm _ 4 3 _ _ (by decide), va_up_up]
theorem mo_tt_4 (σ : mo_S) (a b c d e : Nat → Int32) (j : Nat) (v : Int32) : mo_a (mo_tt σ a b c d e) 4 j v = mo_tt σ a b (upd c j v) d e := by
  have z : (mo_tt σ a b c d e).2 4 = c := rfl
  unfold mo_a; rw [z]; unfold mo_tt; dsimp only
  rw [va_up_cm _ 6 4 _ _ (by decide), va_up_cm _ 5 4 _ _ (by decide), va_up_up]
theorem mo_tt_5 (σ : mo_S) (a b c d e : Nat → Int32) (j : Nat) (v : Int32) : mo_a (mo_tt σ a b c d e) 5 j v = mo_tt σ a b c (upd d j v) e := by
  have z : (mo_tt σ a b c d e).2 5 = d := rfl
  unfold mo_a; rw [z]; unfold mo_tt; dsimp only
  rw [va_up_cm _ 6 5 _ _ (by decide), va_up_up]
theorem mo_tt_6 (σ : mo_S) (a b c d e : Nat → Int32) (j : Nat) (v : Int32) : mo_a (mo_tt σ a b c d e) 6 j v = mo_tt σ a b c d (upd e j v) := by
  have z : (mo_tt σ a b c d e).2 6 = e := rfl
  unfold mo_a; rw [z]; unfold mo_tt; dsimp only; rw [va_up_up]
theorem mo_tt_id (σ : mo_S) : mo_tt σ (σ.2 2) (σ.2 3) (σ.2 4) (σ.2 5) (σ.2 6) = σ := by
  unfold mo_tt; rw [va_up_id, va_up_id, va_up_id, va_up_id, va_up_id]
/-- the model behind a saw that was read: m teeth by T -/
def mo_sawS (σ : mo_S) (m : Nat) (T : sp_T) : mo_S := mo_tt (mo_i (mo_i (mo_i (mo_i σ 1 (nI m)) 24 0) 28 0) 0 0) (cp_u (T 0) (σ.2 2) m) (cp_u (T 1) (σ.2 3) m) (cp_u (T 2) (σ.2 4) m) (cp_u (T 3) (σ.2 5) m) (cp_u (T 4) (σ.2 6) m)
/-- a text of a sheet -/
abbrev mo_x (σ : mo_S) (k i : Int32) : Nat → Int32 := fun p => σ.2 43 (80 * k.toInt.toNat + i.toInt.toNat + p)
theorem rs_m (x : Nat → Int32) (N : Nat) : ∀ f p m T, f + m = 10 → m ≤ 8 → (rs x N f p m T).2.2.1 ≤ 8 := by
  intro f
  induction f with
  | zero => intro p m T h1 h2; exact h2
  | succ f ih =>
    intro p m T h1 h2
    rw [rs_eq]
    split
    · exact h2
    · split
      · exact h2
      · rename_i h3 h4
        have h5 : m < 8 := by
          rcases Nat.lt_or_ge m 8 with z | z
          · exact z
          · exact absurd ⟨by omega, Or.inl (by omega)⟩ h4
        generalize (if 0 < m then p + 1 else p) = q
        unfold rs2
        split
        · exact h2
        · split
          · exact h2
          · exact ih _ _ _ (by omega) (by omega)
set_option maxHeartbeats 8000000 in
theorem mo_saw (l : Launch) (Γ : gk_E) (h : Nat) (ad : Nat → Nat) (σ : mo_S) (hS : ∀ j, j < 4 → σ.2 41 j < 0 ∨ ∃ s, s ≤ 80 ∧ σ.2 41 j = nI s) (k la i n : Int32) (c : Nat) (hcc : (ba_c (σ.2 41) (σ.2 42) k la i n) = c) (R : rs_R) (hRR : (rs (mo_x σ k i) n.toInt.toNat 10 0 0 (fun _ _ => 0)) = R) : mo_X l yX2_saw (Cond.code yX2_saw cX2_saw 7 (some .int)) 3 [.int k, .int la, .int i, .int n] Γ h ad σ (fun v σ1 => v = .int (if c = 0 then (if R.1 = true then nI R.2.2.1 else -100 - nI R.2.1) else ba_v c) ∧ (∃ (p m9 : Nat) (K D Nu : Nat → Int32), σ1 = (if c = 0 then (if R.1 = true then mo_sawS (mo_rd σ p m9 K D Nu) R.2.2.1 R.2.2.2 else mo_i (mo_rd σ p m9 K D Nu) 0 0) else mo_i σ 0 (ba_f c)))) := by
  refine gk_M.intro gk_N0_ok (by decide) [some (.ref h), some (.int k), some (.int la), some (.int i), some (.int n), none, none] rfl rfl rfl ?_
  intro κ hl hg hN0 C E
  subst hl hg
  have C : gk_C κ cX2_saw "SawLineModel" 3 0 0 := C
  refine gk_aload_n C dX2_saw_0 rfl ?_
  refine gk_iload_n C dX2_saw_1 rfl ?_
  refine gk_iload_n C dX2_saw_2 rfl ?_
  refine gk_iload_n C dX2_saw_3 rfl ?_
  refine gk_iload C dX2_saw_4 rfl ?_
  refine gk_i2l C dX2_saw_6 ?_
  refine mo_cU4 C (mo_barred _ _ _ _ _ k la i n) cv_X2_134 rfl rfl rfl dX2_saw_7 ?_
  rw [hcc]
  refine gk_istore C dX2_saw_10 rfl rfl ?_
  refine gk_iload C dX2_saw_12 rfl ?_
  refine gk_if_ge 20 C dX2_saw_14 (by decide) (fun c14 => ?_) (fun c14 => ?_)
  · obtain rfl : c = 0 := Decidable.byContradiction fun z => absurd c14 (Int32.not_le.mpr (ba_neg z))
    rw [if_pos rfl]
    obtain ⟨hk, hla, hsz, hln, hn0, hi0, hin⟩ := ba_0 hcc
    obtain ⟨k, hk3, rfl⟩ := nI_btw (x := k) (n := 3) hk.1 hk.2
    have hkt : (nI k).toInt.toNat = k := toNat_nI (by omega)
    rw [hkt] at hsz hin hln
    obtain ⟨s, hs, es⟩ := (hS k (by omega)).resolve_left hsz
    rw [es, nI_ti (by omega)] at hin
    obtain ⟨n, hn80, rfl⟩ := nI_btw (x := n) (n := 80) hn0 (by omega)
    obtain ⟨i, hi80, rfl⟩ := nI_btw (x := i) (n := 80) hi0 (by omega)
    have hnt : (nI n).toInt.toNat = n := toNat_nI (by omega)
    have hit : (nI i).toInt.toNat = i := toNat_nI (by omega)
    rw [nI_ti (by omega), nI_ti (by omega)] at hin
    have hm8 := rs_m (mo_x σ (nI k) (nI i)) (nI n).toInt.toNat 10 0 0 (fun _ _ => 0) rfl (by omega)
    rw [hRR] at hm8
    rw [hnt, show mo_x σ (nI k) (nI i) = (fun p => σ.2 43 (80 * k + i + p)) from by unfold mo_x; rw [hkt, hit]] at hRR
    simp only [↓reduceIte] at E
    refine gk_aload_n C dX2_saw_20 rfl ?_
    refine gk_bipush 80 C dX2_saw_21 rfl ?_
    refine gk_iload_n C dX2_saw_23 rfl ?_
    refine gk_imul C dX2_saw_24 ?_
    refine gk_iload_n C dX2_saw_25 rfl ?_
    refine gk_iadd C dX2_saw_26 ?_
    refine gk_eqv (nI_ma 80 k i) ?_
    refine gk_iload C dX2_saw_27 rfl ?_
    refine mo_cX2 C (mo_readsSaw _ _ _ _ _ (80 * k + i) n (by omega)) cv_X2_138 rfl rfl rfl dX2_saw_29 ?_
    rintro v9 σ9 ⟨rfl, K, D, Nu, rfl, hrel⟩
    rw [hRR] at hrel ⊢
    clear hRR
    obtain ⟨okR, p9, m, T⟩ := R
    dsimp only at E hrel hm8 ⊢
    refine gk_if_ne 47 C dX2_saw_32 (by decide) (fun c32 => ?_) (fun c32 => ?_)
    · rw [zb_n] at c32
      subst c32
      refine gk_aload_n C dX2_saw_47 rfl ?_
      refine gk_aload_n C dX2_saw_48 rfl ?_
      refine mo_g8 C dX2_saw_49 ?_
      refine gk_eqv (y := nI m) rfl ?_
      refine mo_p1 C dX2_saw_52 ?_
      refine gk_iconst 0 C dX2_saw_55 rfl ?_
      refine gk_istore C dX2_saw_56 rfl rfl ?_
      have L58 : ∀ x, x ≤ m → gk_G κ 0 0 (mo_W (gk_g κ) h ad (mo_tt (mo_i (mo_rd σ p9 m K D Nu) 1 (nI m)) (cp_u K (σ.2 2) x) (cp_u D (σ.2 3) x) (cp_u (fun j => Nu (3 * j)) (σ.2 4) x) (cp_u (fun j => Nu (3 * j + 1)) (σ.2 5) x) (cp_u (fun j => Nu (3 * j + 2)) (σ.2 6) x))) 58 [some (.ref h), some (.int (nI k)), some (.int la), some (.int (nI i)), some (.int (nI n)), some (.int (ba_v 0)), some (.int (nI x))] [] := by
        refine up_ind (fun x hx ih => ?_)
        refine gk_iload C dX2_saw_58 rfl ?_
        refine gk_aload_n C dX2_saw_60 rfl ?_
        refine mo_g1 C dX2_saw_61 ?_
        refine gk_eqv (y := nI m) rfl ?_
        refine gk_icmp_ge 153 C dX2_saw_64 (by decide) (fun c64 => ?_) (fun c64 => ?_)
        · obtain rfl : x = m := by have := nI_leT c64 (by omega) (by omega); omega
          refine gk_aload_n C dX2_saw_153 rfl ?_
          refine gk_iconst 0 C dX2_saw_154 rfl ?_
          refine mo_p24 C dX2_saw_155 ?_
          refine gk_aload_n C dX2_saw_158 rfl ?_
          refine gk_iconst 0 C dX2_saw_159 rfl ?_
          refine mo_p28 C dX2_saw_160 ?_
          refine gk_aload_n C dX2_saw_163 rfl ?_
          refine gk_aload_n C dX2_saw_164 rfl ?_
          refine mo_g1 C dX2_saw_165 ?_
          refine gk_eqv (y := nI x) rfl ?_
          refine mo_cU1 C (mo_refused _ _ _ _ _ _) cv_X2_99 rfl rfl rfl dX2_saw_168 ?_
          exact gk_iret C E dX2_saw_171 rfl rfl ⟨_, _, rfl, rfl, rfl, p9, x, K, D, Nu, by rw [cp_uc (g := σ.2 2) (fun j hj => (hrel j hj).1), cp_uc (g := σ.2 3) (fun j hj => (hrel j hj).2.1), cp_uc (g := σ.2 4) (fun j hj => (hrel j hj).2.2.1), cp_uc (g := σ.2 5) (fun j hj => (hrel j hj).2.2.2.1), cp_uc (g := σ.2 6) (fun j hj => (hrel j hj).2.2.2.2)]; rfl⟩
        · have c64 := nI_ngeT c64 (by omega)
          refine gk_aload_n C dX2_saw_67 rfl ?_
          refine mo_g2 C dX2_saw_68 ?_
          refine gk_iload C dX2_saw_71 rfl ?_
          refine gk_aload_n C dX2_saw_73 rfl ?_
          refine mo_g9 C dX2_saw_74 ?_
          refine gk_iload C dX2_saw_77 rfl ?_
          refine mo_l9 C dX2_saw_79 rfl (by omega) ?_
          refine mo_s2 C dX2_saw_80 rfl (by omega) ?_
          rw [mo_tt_2]
          refine gk_aload_n C dX2_saw_81 rfl ?_
          refine mo_g3 C dX2_saw_82 ?_
          refine gk_iload C dX2_saw_85 rfl ?_
          refine gk_aload_n C dX2_saw_87 rfl ?_
          refine mo_g10 C dX2_saw_88 ?_
          refine gk_iload C dX2_saw_91 rfl ?_
          refine mo_l10 C dX2_saw_93 rfl (by omega) ?_
          refine mo_s3 C dX2_saw_94 rfl (by omega) ?_
          rw [mo_tt_3]
          refine gk_aload_n C dX2_saw_95 rfl ?_
          refine mo_g4 C dX2_saw_96 ?_
          refine gk_iload C dX2_saw_99 rfl ?_
          refine gk_aload_n C dX2_saw_101 rfl ?_
          refine mo_g11 C dX2_saw_102 ?_
          refine gk_iconst 3 C dX2_saw_105 rfl ?_
          refine gk_iload C dX2_saw_106 rfl ?_
          refine gk_imul C dX2_saw_108 ?_
          refine mo_l11 C dX2_saw_109 (pk_mul 3 x) (by omega) ?_
          refine mo_s4 C dX2_saw_110 rfl (by omega) ?_
          rw [mo_tt_4]
          refine gk_aload_n C dX2_saw_111 rfl ?_
          refine mo_g5 C dX2_saw_112 ?_
          refine gk_iload C dX2_saw_115 rfl ?_
          refine gk_aload_n C dX2_saw_117 rfl ?_
          refine mo_g11 C dX2_saw_118 ?_
          refine gk_iconst 3 C dX2_saw_121 rfl ?_
          refine gk_iload C dX2_saw_122 rfl ?_
          refine gk_imul C dX2_saw_124 ?_
          refine gk_iconst 1 C dX2_saw_125 rfl ?_
          refine gk_iadd C dX2_saw_126 ?_
          refine mo_l11 C dX2_saw_127 (nI_ma 3 x 1) (by omega) ?_
          refine mo_s5 C dX2_saw_128 rfl (by omega) ?_
          rw [mo_tt_5]
          refine gk_aload_n C dX2_saw_129 rfl ?_
          refine mo_g6 C dX2_saw_130 ?_
          refine gk_iload C dX2_saw_133 rfl ?_
          refine gk_aload_n C dX2_saw_135 rfl ?_
          refine mo_g11 C dX2_saw_136 ?_
          refine gk_iconst 3 C dX2_saw_139 rfl ?_
          refine gk_iload C dX2_saw_140 rfl ?_
          refine gk_imul C dX2_saw_142 ?_
          refine gk_iconst 2 C dX2_saw_143 rfl ?_
          refine gk_iadd C dX2_saw_144 ?_
          refine mo_l11 C dX2_saw_145 (nI_ma 3 x 2) (by omega) ?_
          refine mo_s6 C dX2_saw_146 rfl (by omega) ?_
          rw [mo_tt_6]
          refine gk_eqw (ws' := mo_W (gk_g κ) h ad (mo_tt (mo_i (mo_rd σ p9 m K D Nu) 1 (nI m)) (cp_u K (σ.2 2) (x + 1)) (cp_u D (σ.2 3) (x + 1)) (cp_u (fun j => Nu (3 * j)) (σ.2 4) (x + 1)) (cp_u (fun j => Nu (3 * j + 1)) (σ.2 5) (x + 1)) (cp_u (fun j => Nu (3 * j + 2)) (σ.2 6) (x + 1)))) (by rw [← cp_us K, ← cp_us D, ← cp_us (fun j => Nu (3 * j)), ← cp_us (fun j => Nu (3 * j + 1)), ← cp_us (fun j => Nu (3 * j + 2))]; rfl) ?_
          refine gk_iinc (nI (x + 1)) C dX2_saw_147 rfl (nI_succ x).symm rfl rfl ?_
          refine gk_goto 58 C dX2_saw_150 (by decide) ?_
          exact ih c64
      have h0 := L58 0 (Nat.zero_le _)
      rw [cp_u0, cp_u0, cp_u0, cp_u0, cp_u0, show mo_tt (mo_i (mo_rd σ p9 m K D Nu) 1 (nI m)) (σ.2 2) (σ.2 3) (σ.2 4) (σ.2 5) (σ.2 6) = mo_i (mo_rd σ p9 m K D Nu) 1 (nI m) from mo_tt_id (mo_i (mo_rd σ p9 m K D Nu) 1 (nI m))] at h0
      exact h0
    · rw [zb_0, Bool.not_eq_true] at c32
      subst c32
      refine gk_aload_n C dX2_saw_35 rfl ?_
      refine gk_bipush (-100) C dX2_saw_36 rfl ?_
      refine gk_aload_n C dX2_saw_38 rfl ?_
      refine mo_g7 C dX2_saw_39 ?_
      refine gk_eqv (y := nI p9) rfl ?_
      refine gk_isub C dX2_saw_42 ?_
      refine mo_cU1 C (mo_refused _ _ _ _ _ _) cv_X2_99 rfl rfl rfl dX2_saw_43 ?_
      exact gk_iret C E dX2_saw_46 rfl rfl ⟨_, _, rfl, rfl, rfl, _, _, _, _, _, rfl⟩
  · have hc : ¬ c = 0 := fun z => c14 (by rw [z]; decide)
    rw [if_neg hc]
    refine gk_iload C dX2_saw_17 rfl ?_
    exact gk_iret C E dX2_saw_19 rfl rfl ⟨_, _, rfl, rfl, by rw [if_neg hc], 0, 0, σ.2 9, σ.2 10, σ.2 11, by rw [if_neg hc]⟩
