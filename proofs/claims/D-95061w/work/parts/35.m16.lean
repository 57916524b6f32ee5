set_option maxRecDepth 100000
theorem fu_ind {P : Nat → Prop} (h0 : P 0) (hs : ∀ f, P f → P (f + 1)) : ∀ f, P f
  | 0 => h0
  | f + 1 => hs f (fu_ind h0 hs f)
def rd_ok (T : sp_T) (m : Nat) (K D Nu : Nat → Int32) : Prop := ∀ j, j < m → K j = T 0 j ∧ D j = T 1 j ∧ Nu (3 * j) = T 2 j ∧ Nu (3 * j + 1) = T 3 j ∧ Nu (3 * j + 2) = T 4 j
theorem rd_keep {T : sp_T} {m : Nat} {K D Nu Nu' : Nat → Int32} (h : rd_ok T m K D Nu) (hn : ∀ j, j < 3 * m → Nu' j = Nu j) : rd_ok T m K D Nu' := fun j hj => by
  obtain ⟨h1, h2, h3, h4, h5⟩ := h j hj
  exact ⟨h1, h2, (hn _ (by omega)).trans h3, (hn _ (by omega)).trans h4, (hn _ (by omega)).trans h5⟩
theorem rd_step {T : sp_T} {m : Nat} {K D Nu Nu' : Nat → Int32} {kd sd b h e : Int32} (hr : rd_ok T m K D Nu) (hn : ∀ j, j < 3 * m → Nu' j = Nu j) (hb : Nu' (3 * m) = b) (hh : Nu' (3 * m + 1) = h) (he : Nu' (3 * m + 2) = e) : rd_ok (tx_t T m kd sd b h e) (m + 1) (upd K m kd) (upd D m sd) Nu' := fun j hj => by
  by_cases hjm : j = m
  · subst hjm
    unfold upd tx_t
    simp only [if_true]
    exact ⟨trivial, trivial, hb, hh, he⟩
  · obtain ⟨h1, h2, h3, h4, h5⟩ := hr j (by omega)
    unfold upd tx_t
    simp only [if_neg hjm]
    exact ⟨h1, h2, (hn _ (by omega)).trans h3, (hn _ (by omega)).trans h4, (hn _ (by omega)).trans h5⟩
set_option maxHeartbeats 8000000 in
theorem mo_readsSaw (l : Launch) (Γ : gk_E) (h : Nat) (ad : Nat → Nat) (σ : mo_S) (a N : Nat) (haN : a + N ≤ 320) : mo_X l yX2_readsSaw (Cond.code yX2_readsSaw cX2_readsSaw 5 (some .boolean)) 2 [.int (nI a), .int (nI N)] Γ h ad σ (fun v σ1 => v = .int (zb ((rs (fun p => σ.2 43 (a + p)) N 10 0 0 (fun _ _ => 0)).1 = true)) ∧ ∃ K D Nu, σ1 = mo_rd σ (rs (fun p => σ.2 43 (a + p)) N 10 0 0 (fun _ _ => 0)).2.1 (rs (fun p => σ.2 43 (a + p)) N 10 0 0 (fun _ _ => 0)).2.2.1 K D Nu ∧ rd_ok (rs (fun p => σ.2 43 (a + p)) N 10 0 0 (fun _ _ => 0)).2.2.2 (rs (fun p => σ.2 43 (a + p)) N 10 0 0 (fun _ _ => 0)).2.2.1 K D Nu) := by
  refine gk_M.intro gk_N0_ok (by decide) [some (.ref h), some (.int (nI a)), some (.int (nI N)), none, none] rfl rfl rfl ?_
  intro κ hl hg hN0 C E
  subst hl hg
  have C : gk_C κ cX2_readsSaw "SawLineModel" 2 0 0 := C
  have E : gk_End κ (some .boolean) (fun r ws => ∃ (v : Value) (σ1 : mo_S), r = some v ∧ ws = mo_W (gk_g κ) h ad σ1 ∧ (v = .int (zb ((rs (fun p => σ.2 43 (a + p)) N 10 0 0 (fun _ _ => 0)).1 = true)) ∧ ∃ K D Nu, σ1 = mo_rd σ (rs (fun p => σ.2 43 (a + p)) N 10 0 0 (fun _ _ => 0)).2.1 (rs (fun p => σ.2 43 (a + p)) N 10 0 0 (fun _ _ => 0)).2.2.1 K D Nu ∧ rd_ok (rs (fun p => σ.2 43 (a + p)) N 10 0 0 (fun _ _ => 0)).2.2.2 (rs (fun p => σ.2 43 (a + p)) N 10 0 0 (fun _ _ => 0)).2.2.1 K D Nu)) 0 0 := E
  have L10 : ∀ (R : rs_R), gk_End κ (some .boolean) (fun r ws => ∃ (v : Value) (σ1 : mo_S), r = some v ∧ ws = mo_W (gk_g κ) h ad σ1 ∧ (v = .int (zb (R.1 = true)) ∧ ∃ K D Nu, σ1 = mo_rd σ R.2.1 R.2.2.1 K D Nu ∧ rd_ok R.2.2.2 R.2.2.1 K D Nu)) 0 0 → ∀ (f p m : Nat) (T : sp_T) (K D Nu : Nat → Int32), f + m = 10 → m ≤ 8 → p ≤ N → rd_ok T m K D Nu → rs (fun p => σ.2 43 (a + p)) N f p m T = R → gk_G κ 0 0 (mo_W (gk_g κ) h ad (mo_rd σ p m K D Nu)) 10 [some (.ref h), some (.int (nI a)), some (.int (nI N)), none, none] [] := by
    intro R E
    refine fu_ind (fun p m T K D Nu h1 h2 => absurd h1 (by omega)) (fun f ih => ?_)
    intro p m T K D Nu hfm hm8 hpN hrel hR
    rw [rs_eq] at hR
    have K69 : ∀ q, q ≤ N → m < 8 → rs2 (fun p => σ.2 43 (a + p)) N f q m T = R → gk_G κ 0 0 (mo_W (gk_g κ) h ad (mo_rd σ q m K D Nu)) 69 [some (.ref h), some (.int (nI a)), some (.int (nI N)), none, none] [] := by
      clear hR
      intro q hqN hm8 hR
      refine gk_aload_n C dX2_readsSaw_69 rfl ?_
      refine mo_g7 C dX2_readsSaw_70 ?_
      refine gk_eqv (y := nI q) rfl ?_
      refine gk_iload_n C dX2_readsSaw_73 rfl ?_
      refine gk_jn2 ((tx_s (fun p => σ.2 43 (a + p)) N q)) 96 ?_ (fun K96 => ?_)
      · refine gk_istore_n C dX2_readsSaw_96 rfl rfl ?_
        refine gk_iload_n C dX2_readsSaw_97 rfl ?_
        refine gk_bipush (-9) C dX2_readsSaw_98 rfl ?_
        refine gk_icmp_ne 105 C dX2_readsSaw_100 (by decide) (fun c100 => ?_) (fun c100 => ?_)
        · have hqN := tx_slt c100
          unfold rs2 at hR
          rw [if_neg c100] at hR
          refine gk_aload_n C dX2_readsSaw_105 rfl ?_
          refine gk_dup C dX2_readsSaw_106 rfl ?_
          refine mo_g7 C dX2_readsSaw_107 ?_
          refine gk_eqv (y := nI q) rfl ?_
          refine gk_iconst 1 C dX2_readsSaw_110 rfl ?_
          refine gk_iadd C dX2_readsSaw_111 ?_
          refine gk_eqv (nI_1 q) ?_
          refine mo_p7 C dX2_readsSaw_112 ?_
          rw [mo_rd_7]
          refine gk_aload_n C dX2_readsSaw_115 rfl ?_
          refine gk_iload_n C dX2_readsSaw_116 rfl ?_
          refine gk_iload_n C dX2_readsSaw_117 rfl ?_
          refine gk_aload_n C dX2_readsSaw_118 rfl ?_
          refine mo_g8 C dX2_readsSaw_119 ?_
          refine gk_eqv (y := nI m) rfl ?_
          refine mo_cU3 C (mo_readsFigures _ _ _ _ σ (q + 1) m K D Nu a N m (by omega) haN (by omega)) cv_X2_130 rfl rfl rfl dX2_readsSaw_122 ?_
          refine gk_if_ne 130 C dX2_readsSaw_125 (by decide) (fun c125 => ?_) (fun c125 => ?_)
          · rw [zb_n] at c125
            rw [if_neg (fun z => z c125)] at hR
            rw [c125]
            refine gk_eqw (ws' := mo_W (gk_g κ) h ad (mo_rd σ (q + 4) m K D (nuU Nu (3 * m) (fun j => tx_d (fun p => σ.2 43 (a + p)) N (q + 1 + j)) 3))) rfl ?_
            refine gk_iload_n C dX2_readsSaw_130 rfl ?_
            refine gk_jn1 (zb ((tx_h (fun p => σ.2 43 (a + p)) N (q + 4) (tx_s (fun p => σ.2 43 (a + p)) N q)) = true)) 163 ?_ (fun K163 => ?_)
            · refine gk_istore C dX2_readsSaw_163 rfl rfl ?_
              refine gk_aload_n C dX2_readsSaw_165 rfl ?_
              refine gk_dup C dX2_readsSaw_166 rfl ?_
              refine mo_g7 C dX2_readsSaw_167 ?_
              refine gk_eqv (y := nI (q + 4)) rfl ?_
              refine gk_iload C dX2_readsSaw_170 rfl ?_
              refine gk_jn1 (zb ((tx_h (fun p => σ.2 43 (a + p)) N (q + 4) (tx_s (fun p => σ.2 43 (a + p)) N q)) = true)) 180 ?_ (fun K180 => ?_)
              · refine gk_iadd C dX2_readsSaw_180 ?_
                refine gk_eqv (y := nI (q + 4 + (if (tx_h (fun p => σ.2 43 (a + p)) N (q + 4) (tx_s (fun p => σ.2 43 (a + p)) N q)) = true then 1 else 0))) (by unfold zb; split; exact nI_1 (q + 4); exact nI_add (q + 4) 0) ?_
                refine mo_p7 C dX2_readsSaw_181 ?_
                rw [mo_rd_7]
                refine gk_aload_n C dX2_readsSaw_184 rfl ?_
                refine mo_g10 C dX2_readsSaw_185 ?_
                refine gk_aload_n C dX2_readsSaw_188 rfl ?_
                refine mo_g8 C dX2_readsSaw_189 ?_
                refine gk_eqv (y := nI m) rfl ?_
                refine gk_iload_n C dX2_readsSaw_192 rfl ?_
                refine mo_s10 C dX2_readsSaw_193 rfl (by omega) ?_
                rw [mo_rd_10]
                refine gk_aload_n C dX2_readsSaw_194 rfl ?_
                refine mo_g9 C dX2_readsSaw_195 ?_
                refine gk_aload_n C dX2_readsSaw_198 rfl ?_
                refine mo_g8 C dX2_readsSaw_199 ?_
                refine gk_eqv (y := nI m) rfl ?_
                refine gk_iload_n C dX2_readsSaw_202 rfl ?_
                refine gk_jn1 (if (tx_s (fun p => σ.2 43 (a + p)) N q) = 0 then (0 : Int32) else if (tx_h (fun p => σ.2 43 (a + p)) N (q + 4) (tx_s (fun p => σ.2 43 (a + p)) N q)) = true then 2 else 1) 220 ?_ (fun K220 => ?_)
                · refine mo_s9 C dX2_readsSaw_220 rfl (by omega) ?_
                  rw [mo_rd_9]
                  refine gk_aload_n C dX2_readsSaw_221 rfl ?_
                  refine gk_dup C dX2_readsSaw_222 rfl ?_
                  refine mo_g8 C dX2_readsSaw_223 ?_
                  refine gk_eqv (y := nI m) rfl ?_
                  refine gk_iconst 1 C dX2_readsSaw_226 rfl ?_
                  refine gk_iadd C dX2_readsSaw_227 ?_
                  refine gk_eqv (nI_1 m) ?_
                  refine mo_p8 C dX2_readsSaw_228 ?_
                  rw [mo_rd_8]
                  refine gk_goto 10 C dX2_readsSaw_231 (by decide) ?_
                  refine gk_fg 3 (gk_fg 4 (ih _ (m + 1) _ _ _ _ (by omega) (by omega) ?_ (rd_step hrel (fun j hj => nuU_lo _ _ _ _ j hj) (nuU_in _ _ _ 3 0 (by omega)) (nuU_in _ _ _ 3 1 (by omega)) (nuU_in _ _ _ 3 2 (by omega))) hR))
                  have h3 := tx_lt (by decide) (dgs_ok (fun k => tx_ok (fun p => σ.2 43 (a + p)) N (q + 1 + k) 0 9) 3 0 2 (by omega) (by show 2 < tx_3 (fun p => σ.2 43 (a + p)) N (q + 1); omega))
                  split
                  · rename_i z
                    unfold tx_h at z
                    rw [Bool.and_eq_true, Bool.and_eq_true, decide_eq_true_eq, decide_eq_true_eq] at z
                    omega
                  · omega
                · refine gk_if_ne 210 C dX2_readsSaw_203 (by decide) (fun c203 => ?_) (fun c203 => ?_)
                  · refine gk_iload C dX2_readsSaw_210 rfl ?_
                    refine gk_if_eq 219 C dX2_readsSaw_212 (by decide) (fun c212 => ?_) (fun c212 => ?_)
                    · rw [zb_0] at c212
                      refine gk_iconst 1 C dX2_readsSaw_219 rfl ?_
                      exact gk_eqv (by first | exact (if_pos c203).symm | exact ((if_neg c203).trans (if_neg c212)).symm | exact ((if_neg c203).trans (if_pos c212)).symm) K220
                    · rw [zb_n] at c212
                      refine gk_iconst 2 C dX2_readsSaw_215 rfl ?_
                      refine gk_goto 220 C dX2_readsSaw_216 (by decide) ?_
                      exact gk_eqv (by first | exact (if_pos c203).symm | exact ((if_neg c203).trans (if_neg c212)).symm | exact ((if_neg c203).trans (if_pos c212)).symm) K220
                  · refine gk_iconst 0 C dX2_readsSaw_206 rfl ?_
                    refine gk_goto 220 C dX2_readsSaw_207 (by decide) ?_
                    exact gk_eqv (by first | exact (if_pos c203).symm | exact ((if_neg c203).trans (if_neg c212)).symm | exact ((if_neg c203).trans (if_pos c212)).symm) K220
              · refine gk_if_eq 179 C dX2_readsSaw_172 (by decide) (fun c172 => ?_) (fun c172 => ?_)
                · refine gk_iconst 0 C dX2_readsSaw_179 rfl ?_
                  exact gk_eqv (by first | exact c172.symm | exact (zb_t (zb_n.mp c172)).symm) K180
                · refine gk_iconst 1 C dX2_readsSaw_175 rfl ?_
                  refine gk_goto 180 C dX2_readsSaw_176 (by decide) ?_
                  exact gk_eqv (by first | exact c172.symm | exact (zb_t (zb_n.mp c172)).symm) K180
            · refine gk_if_eq 162 C dX2_readsSaw_131 (by decide) (fun c131 => ?_) (fun c131 => ?_)
              · have h1 : ¬ (tx_h (fun p => σ.2 43 (a + p)) N (q + 4) (tx_s (fun p => σ.2 43 (a + p)) N q)) = true := by unfold tx_h; rw [c131, decide_eq_false (fun z => z rfl), Bool.false_and]; decide
                refine gk_iconst 0 C dX2_readsSaw_162 rfl ?_
                exact gk_eqv (by first | exact (zb_f h1).symm | exact (zb_t h1).symm) K163
              · refine gk_aload_n C dX2_readsSaw_134 rfl ?_
                refine mo_g7 C dX2_readsSaw_135 ?_
                refine gk_eqv (y := nI (q + 4)) rfl ?_
                refine gk_iload_n C dX2_readsSaw_138 rfl ?_
                refine gk_icmp_ge 162 C dX2_readsSaw_139 (by decide) (fun c139 => ?_) (fun c139 => ?_)
                · have c139 := nI_leT c139 (by omega) (by omega)
                  have h1 : ¬ (tx_h (fun p => σ.2 43 (a + p)) N (q + 4) (tx_s (fun p => σ.2 43 (a + p)) N q)) = true := by unfold tx_h; rw [decide_eq_false (show ¬ q + 4 < N by omega), Bool.false_and, Bool.and_false]; decide
                  refine gk_iconst 0 C dX2_readsSaw_162 rfl ?_
                  exact gk_eqv (by first | exact (zb_f h1).symm | exact (zb_t h1).symm) K163
                · have c139 := nI_ngeT c139 (by omega)
                  refine gk_aload_n C dX2_readsSaw_142 rfl ?_
                  refine mo_g43 C dX2_readsSaw_143 ?_
                  refine gk_iload_n C dX2_readsSaw_146 rfl ?_
                  refine gk_aload_n C dX2_readsSaw_147 rfl ?_
                  refine mo_g7 C dX2_readsSaw_148 ?_
                  refine gk_eqv (y := nI (q + 4)) rfl ?_
                  refine gk_iadd C dX2_readsSaw_151 ?_
                  refine mo_l43 C dX2_readsSaw_152 (nI_add a (q + 4)) (by omega) ?_
                  refine gk_eqv (y := (fun p => σ.2 43 (a + p)) (q + 4)) rfl ?_
                  refine gk_bipush 104 C dX2_readsSaw_153 rfl ?_
                  refine gk_icmp_ne 162 C dX2_readsSaw_155 (by decide) (fun c155 => ?_) (fun c155 => ?_)
                  · have h1 : ¬ (tx_h (fun p => σ.2 43 (a + p)) N (q + 4) (tx_s (fun p => σ.2 43 (a + p)) N q)) = true := by unfold tx_h; rw [decide_eq_false c155, Bool.and_false, Bool.and_false]; decide
                    refine gk_iconst 0 C dX2_readsSaw_162 rfl ?_
                    exact gk_eqv (by first | exact (zb_f h1).symm | exact (zb_t h1).symm) K163
                  · have h1 : (tx_h (fun p => σ.2 43 (a + p)) N (q + 4) (tx_s (fun p => σ.2 43 (a + p)) N q)) = true := by unfold tx_h; rw [decide_eq_true c131, decide_eq_true c139, decide_eq_true c155]; rfl
                    refine gk_iconst 1 C dX2_readsSaw_158 rfl ?_
                    refine gk_goto 163 C dX2_readsSaw_159 (by decide) ?_
                    exact gk_eqv (by first | exact (zb_f h1).symm | exact (zb_t h1).symm) K163
          · rw [zb_0] at c125
            rw [if_pos c125] at hR
            refine gk_iconst 0 C dX2_readsSaw_128 rfl ?_
            exact gk_zret C E dX2_readsSaw_129 rfl rfl (by first | exact narrow_b1 | exact narrow_b0 | exact zb_nb) ⟨_, _, rfl, rfl, by rw [← hR]; rfl, _, _, _, by rw [← hR], by rw [← hR]; exact rd_keep hrel (fun j hj => nuU_lo _ _ _ _ j hj)⟩
        · unfold rs2 at hR
          rw [if_pos c100] at hR
          refine gk_iconst 0 C dX2_readsSaw_103 rfl ?_
          exact gk_zret C E dX2_readsSaw_104 rfl rfl (by first | exact narrow_b1 | exact narrow_b0 | exact zb_nb) ⟨_, _, rfl, rfl, by rw [← hR]; rfl, _, _, _, by rw [← hR], by rw [← hR]; exact hrel⟩
      · refine gk_icmp_ge 94 C dX2_readsSaw_74 (by decide) (fun c74 => ?_) (fun c74 => ?_)
        · have c74 := nI_leT c74 (by omega) (by omega)
          refine gk_bipush (-9) C dX2_readsSaw_94 rfl ?_
          exact gk_eqv (by first | exact (if_neg (by omega)).symm | exact (if_pos c74).symm) K96
        · have c74 := nI_ngeT c74 (by omega)
          refine gk_aload_n C dX2_readsSaw_77 rfl ?_
          refine mo_g43 C dX2_readsSaw_78 ?_
          refine gk_iload_n C dX2_readsSaw_81 rfl ?_
          refine gk_aload_n C dX2_readsSaw_82 rfl ?_
          refine mo_g7 C dX2_readsSaw_83 ?_
          refine gk_eqv (y := nI q) rfl ?_
          refine gk_iadd C dX2_readsSaw_86 ?_
          refine mo_l43 C dX2_readsSaw_87 (nI_add a q) (by omega) ?_
          refine gk_cP1 C (mo_sideBy _ _) cs_X2_127 rfl (Nat.zero_le _) (Nat.zero_le _) rfl dX2_readsSaw_88 ?_
          refine gk_goto 96 C dX2_readsSaw_91 (by decide) ?_
          exact gk_eqv (by first | exact (if_neg (by omega)).symm | exact (if_pos c74).symm) K96
    have K25 : (m = 0 ∨ p < N) → gk_G κ 0 0 (mo_W (gk_g κ) h ad (mo_rd σ p m K D Nu)) 25 [some (.ref h), some (.int (nI a)), some (.int (nI N)), none, none] [] := by
      intro hor
      rw [if_neg (fun z => z hor)] at hR
      refine gk_aload_n C dX2_readsSaw_25 rfl ?_
      refine mo_g8 C dX2_readsSaw_26 ?_
      refine gk_eqv (y := nI m) rfl ?_
      refine gk_if_le 69 C dX2_readsSaw_29 (by decide) (fun c29 => ?_) (fun c29 => ?_)
      · have c29 : m = 0 := by have := nI_leT (b := 0) c29 (by omega) (by omega); omega
        first | exact K69 (p + 1) (by omega) (by omega) hR | exact K69 p hpN (by omega) (by rwa [if_neg (fun z => absurd z.1 (by omega)), if_neg (show ¬ 0 < m by omega)] at hR)
      · have c29 : 0 < m := by rcases Nat.eq_zero_or_pos m with z | z; exact absurd (by rw [z]; exact nI_le (a := 0) (b := 0) (by omega) (by omega)) c29; exact z
        have hpl : p < N := hor.resolve_left (by omega)
        refine gk_aload_n C dX2_readsSaw_32 rfl ?_
        refine mo_g8 C dX2_readsSaw_33 ?_
        refine gk_eqv (y := nI m) rfl ?_
        refine gk_bipush 8 C dX2_readsSaw_36 rfl ?_
        refine gk_icmp_eq 57 C dX2_readsSaw_38 (by decide) (fun c38 => ?_) (fun c38 => ?_)
        · have c38 : m = 8 := (nI_eq (b := 8) (by omega) (by omega)).mp c38
          rw [if_pos ⟨c29, Or.inl c38⟩] at hR
          refine gk_iconst 0 C dX2_readsSaw_57 rfl ?_
          exact gk_zret C E dX2_readsSaw_58 rfl rfl (by first | exact narrow_b1 | exact narrow_b0 | exact zb_nb) ⟨_, _, rfl, rfl, by rw [← hR]; rfl, _, _, _, by rw [← hR], by rw [← hR]; exact hrel⟩
        · have c38 : ¬ m = 8 := fun z => c38 (by rw [z]; rfl)
          refine gk_aload_n C dX2_readsSaw_41 rfl ?_
          refine mo_g43 C dX2_readsSaw_42 ?_
          refine gk_iload_n C dX2_readsSaw_45 rfl ?_
          refine gk_aload_n C dX2_readsSaw_46 rfl ?_
          refine mo_g7 C dX2_readsSaw_47 ?_
          refine gk_eqv (y := nI p) rfl ?_
          refine gk_iadd C dX2_readsSaw_50 ?_
          refine mo_l43 C dX2_readsSaw_51 (nI_add a p) (by omega) ?_
          refine gk_bipush 59 C dX2_readsSaw_52 rfl ?_
          refine gk_icmp_eq 59 C dX2_readsSaw_54 (by decide) (fun c54 => ?_) (fun c54 => ?_)
          · rw [if_neg (fun z => z.2.elim c38 (fun z => z c54)), if_pos c29] at hR
            refine gk_aload_n C dX2_readsSaw_59 rfl ?_
            refine gk_dup C dX2_readsSaw_60 rfl ?_
            refine mo_g7 C dX2_readsSaw_61 ?_
            refine gk_eqv (y := nI p) rfl ?_
            refine gk_iconst 1 C dX2_readsSaw_64 rfl ?_
            refine gk_iadd C dX2_readsSaw_65 ?_
            refine gk_eqv (nI_1 p) ?_
            refine mo_p7 C dX2_readsSaw_66 ?_
            rw [mo_rd_7]
            first | exact K69 (p + 1) (by omega) (by omega) hR | exact K69 p hpN (by omega) (by rwa [if_neg (fun z => absurd z.1 (by omega)), if_neg (show ¬ 0 < m by omega)] at hR)
          · rw [if_pos ⟨c29, Or.inr c54⟩] at hR
            refine gk_iconst 0 C dX2_readsSaw_57 rfl ?_
            exact gk_zret C E dX2_readsSaw_58 rfl rfl (by first | exact narrow_b1 | exact narrow_b0 | exact zb_nb) ⟨_, _, rfl, rfl, by rw [← hR]; rfl, _, _, _, by rw [← hR], by rw [← hR]; exact hrel⟩
    refine gk_aload_n C dX2_readsSaw_10 rfl ?_
    refine mo_g8 C dX2_readsSaw_11 ?_
    refine gk_eqv (y := nI m) rfl ?_
    refine gk_if_eq 25 C dX2_readsSaw_14 (by decide) (fun c14 => ?_) (fun c14 => ?_)
    · have c14 : m = 0 := (nI_eq (b := 0) (by omega) (by omega)).mp c14
      first | exact K25 (Or.inl c14) | exact K25 (Or.inr c22)
    · have c14 : ¬ m = 0 := fun z => c14 (by rw [z]; rfl)
      refine gk_aload_n C dX2_readsSaw_17 rfl ?_
      refine mo_g7 C dX2_readsSaw_18 ?_
      refine gk_eqv (y := nI p) rfl ?_
      refine gk_iload_n C dX2_readsSaw_21 rfl ?_
      refine gk_icmp_ge 234 C dX2_readsSaw_22 (by decide) (fun c22 => ?_) (fun c22 => ?_)
      · have c22 := nI_leT c22 (by omega) (by omega)
        rw [if_pos (fun z => z.elim c14 (by omega))] at hR
        refine gk_iconst 1 C dX2_readsSaw_234 rfl ?_
        exact gk_zret C E dX2_readsSaw_235 rfl rfl (by first | exact narrow_b1 | exact narrow_b0 | exact zb_nb) ⟨_, _, rfl, rfl, by rw [← hR]; rfl, _, _, _, by rw [← hR], by rw [← hR]; exact hrel⟩
      · have c22 := nI_ngeT c22 (by omega)
        first | exact K25 (Or.inl c14) | exact K25 (Or.inr c22)
  refine gk_aload_n C dX2_readsSaw_0 rfl ?_
  refine gk_iconst 0 C dX2_readsSaw_1 rfl ?_
  refine mo_p7 C dX2_readsSaw_2 ?_
  refine gk_aload_n C dX2_readsSaw_5 rfl ?_
  refine gk_iconst 0 C dX2_readsSaw_6 rfl ?_
  refine mo_p8 C dX2_readsSaw_7 ?_
  rw [mo_rd_0]
  exact L10 _ E 10 0 0 _ _ _ _ rfl (by omega) (by omega) (fun j hj => absurd hj (Nat.not_lt_zero j)) rfl
