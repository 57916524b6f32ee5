set_option maxRecDepth 100000
theorem dn_ind {P : Nat → Prop} (h : ∀ e, (∀ e', e = e' + 1 → P e') → P e) : ∀ e, P e
  | 0 => h 0 (fun _ z => by omega)
  | e + 1 => h (e + 1) (fun e' z => by rw [show e' = e by omega]; exact dn_ind h e)
theorem nI_s2 {s : Nat} (h : 2 ≤ s) : nI s - 2 = nI (s - 2) := pk_sub (a := s) (b := 2) h
theorem nI_s1 {s : Nat} (h : 1 ≤ s) : nI s - 1 = nI (s - 1) := pk_sub (a := s) (b := 1) h
set_option maxHeartbeats 8000000 in
theorem mo_costOfOrder (l : Launch) (Γ : gk_E) (h : Nat) (ad : Nat → Nat) (σ : mo_S) (s o : Nat) (hs2 : 2 ≤ s) (hs7 : s ≤ 7) (ho : o < 2 ^ 31) : mo_U l yX2_costOfOrder (Cond.code yX2_costOfOrder cX2_costOfOrder 9 (some .int)) 1 [.int (nI o), .int (nI s)] Γ h ad σ (.int (co (σ.2 39) s o (s - 1) 0 0 0)) σ := by
  refine gk_M.intro gk_N0_ok (by decide) [some (.ref h), some (.int (nI o)), some (.int (nI s)), none, none, none, none, none, none] rfl rfl rfl ?_
  intro κ hl hg hN0 C E
  subst hl hg
  have C : gk_C κ cX2_costOfOrder "SawLineModel" 1 0 0 := C
  refine gk_iconst 0 C dX2_costOfOrder_0 rfl ?_
  refine gk_istore_n C dX2_costOfOrder_1 rfl rfl ?_
  refine gk_iconst 0 C dX2_costOfOrder_2 rfl ?_
  refine gk_istore C dX2_costOfOrder_3 rfl rfl ?_
  refine gk_iconst 0 C dX2_costOfOrder_5 rfl ?_
  refine gk_istore C dX2_costOfOrder_6 rfl rfl ?_
  have L8 : ∀ q, q ≤ s - 1 → ∀ (d sum : Int32), co (σ.2 39) s o (s - 1 - q) q d sum = co (σ.2 39) s o (s - 1) 0 0 0 → gk_G κ 0 0 (mo_W (gk_g κ) h ad σ) 8 [some (.ref h), some (.int (nI o)), some (.int (nI s)), some (.int d), some (.int sum), some (.int (nI q)), none, none, none] [] := by
    refine up_ind (fun q hq ih => ?_)
    intro d sum hR
    refine gk_iload C dX2_costOfOrder_8 rfl ?_
    refine gk_iload_n C dX2_costOfOrder_10 rfl ?_
    refine gk_iconst 1 C dX2_costOfOrder_11 rfl ?_
    refine gk_isub C dX2_costOfOrder_12 ?_
    refine gk_eqv (nI_s1 (by omega)) ?_
    refine gk_icmp_ge 167 C dX2_costOfOrder_13 (by decide) (fun c13 => ?_) (fun c13 => ?_)
    · have c13 := nI_leT c13 (by omega) (by omega)
      rw [show s - 1 - q = 0 by omega] at hR
      refine gk_iload C dX2_costOfOrder_167 rfl ?_
      exact gk_iret C E dX2_costOfOrder_169 rfl rfl ⟨vi hR, rfl⟩
    · have c13 := nI_ngeT c13 (by omega)
      refine gk_iload_n C dX2_costOfOrder_16 rfl ?_
      refine gk_iload_n C dX2_costOfOrder_17 rfl ?_
      refine gk_iconst 1 C dX2_costOfOrder_18 rfl ?_
      refine gk_isub C dX2_costOfOrder_19 ?_
      refine gk_eqv (nI_s1 (by omega)) ?_
      refine gk_iload C dX2_costOfOrder_20 rfl ?_
      refine gk_cP3 C (mo_cutIn _ (nI o) (s - 1) q c13 (by omega)) cs_X2_287 rfl (Nat.zero_le _) (Nat.zero_le _) rfl dX2_costOfOrder_22 ?_
      refine gk_eqv (ci_n ho _) ?_
      have hce : (o / 7 ^ (s - 1 - (q + 1)) % 7) = o / 7 ^ (s - 1 - 1 - q) % 7 := by rw [show s - 1 - (q + 1) = s - 1 - 1 - q by omega]
      have hc7 : o / 7 ^ (s - 1 - 1 - q) % 7 < 7 := Nat.mod_lt _ (by decide)
      generalize o / 7 ^ (s - 1 - 1 - q) % 7 = c at hce hc7 ⊢
      have hR2 : (if s - 2 < (o / 7 ^ (s - 1 - (q + 1)) % 7) ∨ (d >>> (nI (o / 7 ^ (s - 1 - (q + 1)) % 7) &&& 31)) &&& 1 = 1 then -9 else co (σ.2 39) s o (s - 1 - (q + 1)) (q + 1) (d ||| (1 <<< (nI (o / 7 ^ (s - 1 - (q + 1)) % 7) &&& 31))) (sum + df (σ.2 39) s d (o / 7 ^ (s - 1 - (q + 1)) % 7))) = _ := (show s - 1 - q = s - 1 - (q + 1) + 1 by omega) ▸ hR
      rw [hce] at hR2
      refine gk_istore C dX2_costOfOrder_25 rfl rfl ?_
      refine gk_iload C dX2_costOfOrder_27 rfl ?_
      refine gk_iload_n C dX2_costOfOrder_29 rfl ?_
      refine gk_iconst 2 C dX2_costOfOrder_30 rfl ?_
      refine gk_isub C dX2_costOfOrder_31 ?_
      refine gk_eqv (nI_s2 hs2) ?_
      refine gk_icmp_gt 45 C dX2_costOfOrder_32 (by decide) (fun c32 => ?_) (fun c32 => ?_)
      · have c32 := nI_ltT c32 (by omega) (by omega)
        rw [if_pos (Or.inl c32)] at hR2
        refine gk_bipush (-9) C dX2_costOfOrder_45 rfl ?_
        exact gk_iret C E dX2_costOfOrder_47 rfl rfl ⟨vi hR2, rfl⟩
      · have c32 : c ≤ s - 2 := by rcases Nat.lt_or_ge (s - 2) c with z | z; exact absurd (nI_lt z (by omega)) c32; exact z
        refine gk_iload_n C dX2_costOfOrder_35 rfl ?_
        refine gk_iload C dX2_costOfOrder_36 rfl ?_
        refine gk_ishr C dX2_costOfOrder_38 ?_
        refine gk_iconst 1 C dX2_costOfOrder_39 rfl ?_
        refine gk_iand C dX2_costOfOrder_40 ?_
        refine gk_iconst 1 C dX2_costOfOrder_41 rfl ?_
        refine gk_icmp_ne 48 C dX2_costOfOrder_42 (by decide) (fun c42 => ?_) (fun c42 => ?_)
        · have K144 : gk_G κ 0 0 (mo_W (gk_g κ) h ad σ) 144 [some (.ref h), some (.int (nI o)), some (.int (nI s)), some (.int d), some (.int sum), some (.int (nI q)), some (.int (nI c)), some (.int ((dl (σ.2 39) d c) - dr (σ.2 39) d (s - 2 - c) (c + 1))), none] [] := by
            refine gk_iload C dX2_costOfOrder_144 rfl ?_
            refine gk_iload C dX2_costOfOrder_146 rfl ?_
            refine gk_cP1 C (mo_size _ _) cs_X2_207 rfl (Nat.zero_le _) (Nat.zero_le _) rfl dX2_costOfOrder_148 ?_
            refine gk_iadd C dX2_costOfOrder_151 ?_
            refine gk_istore C dX2_costOfOrder_152 rfl rfl ?_
            refine gk_iload_n C dX2_costOfOrder_154 rfl ?_
            refine gk_iconst 1 C dX2_costOfOrder_155 rfl ?_
            refine gk_iload C dX2_costOfOrder_156 rfl ?_
            refine gk_ishl C dX2_costOfOrder_158 ?_
            refine gk_ior C dX2_costOfOrder_159 ?_
            refine gk_istore_n C dX2_costOfOrder_160 rfl rfl ?_
            refine gk_iinc (nI (q + 1)) C dX2_costOfOrder_161 rfl (nI_succ q).symm rfl rfl ?_
            refine gk_goto 8 C dX2_costOfOrder_164 (by decide) ?_
            refine gk_fg 6 (gk_fg 7 (ih (by omega) _ _ ?_))
            rw [← hR, show s - 1 - q = s - 1 - (q + 1) + 1 by omega]
            show _ = (if s - 2 < o / 7 ^ (s - 1 - (q + 1)) % 7 ∨ (d >>> (nI (o / 7 ^ (s - 1 - (q + 1)) % 7) &&& 31)) &&& 1 = 1 then -9 else co (σ.2 39) s o (s - 1 - (q + 1)) (q + 1) (d ||| (1 <<< (nI (o / 7 ^ (s - 1 - (q + 1)) % 7) &&& 31))) (sum + df (σ.2 39) s d (o / 7 ^ (s - 1 - (q + 1)) % 7)))
            rw [hce, if_neg (fun z => z.elim (by omega) c42)]
            rfl
          have K100x : ∀ x, 1 ≤ x → x ≤ s → (x = s ∨ (¬ x = c + 1 ∧ x < s ∧ (d >>> (nI (x - 1) &&& 31)) &&& 1 = 1)) → gk_G κ 0 0 (mo_W (gk_g κ) h ad σ) 100 [some (.ref h), some (.int (nI o)), some (.int (nI s)), some (.int d), some (.int sum), some (.int (nI q)), some (.int (nI c)), some (.int ((dl (σ.2 39) d c) - dr (σ.2 39) d (s - 2 - c) (c + 1))), some (.int (nI x))] [] := by
            intro x hx1 hxs hx
            refine gk_iload C dX2_costOfOrder_100 rfl ?_
            refine gk_iload_n C dX2_costOfOrder_102 rfl ?_
            refine gk_icmp_ge 144 C dX2_costOfOrder_103 (by decide) (fun c103 => ?_) (fun c103 => ?_)
            · exact gk_fg 8 K144
            · have c103 := nI_ngeT c103 (by omega)
              have hx := hx.resolve_left (by omega)
              refine gk_iload C dX2_costOfOrder_106 rfl ?_
              refine gk_iload C dX2_costOfOrder_108 rfl ?_
              refine gk_iconst 1 C dX2_costOfOrder_110 rfl ?_
              refine gk_iadd C dX2_costOfOrder_111 ?_
              refine gk_eqv (nI_1 c) ?_
              refine gk_icmp_eq 126 C dX2_costOfOrder_112 (by decide) (fun z => by first | exact absurd z (fun z => hx.1 ((nI_eq (by omega) (by omega)).mp z)) | exact absurd (fun z => hx.1 ((nI_eq (by omega) (by omega)).mp z)) z) (fun _ => ?_)
              refine gk_iload_n C dX2_costOfOrder_115 rfl ?_
              refine gk_iload C dX2_costOfOrder_116 rfl ?_
              refine gk_iconst 1 C dX2_costOfOrder_118 rfl ?_
              refine gk_isub C dX2_costOfOrder_119 ?_
              refine gk_eqv (nI_s1 hx1) ?_
              refine gk_ishr C dX2_costOfOrder_120 ?_
              refine gk_iconst 1 C dX2_costOfOrder_121 rfl ?_
              refine gk_iand C dX2_costOfOrder_122 ?_
              refine gk_if_ne 144 C dX2_costOfOrder_123 (by decide) (fun _ => ?_) (fun z => by first | exact absurd z (show ¬ _ from by rw [hx.2.2]; decide) | exact absurd (show ¬ _ from by rw [hx.2.2]; decide) z)
              exact gk_fg 8 K144
          have L100 : ∀ (e x : Nat) (acc : Int32), x + e = s - 1 → c + 1 ≤ x → (x = c + 1 ∨ ¬ (d >>> (nI (x - 1) &&& 31)) &&& 1 = 1) → acc - dr (σ.2 39) d e x = ((dl (σ.2 39) d c) - dr (σ.2 39) d (s - 2 - c) (c + 1)) → gk_G κ 0 0 (mo_W (gk_g κ) h ad σ) 100 [some (.ref h), some (.int (nI o)), some (.int (nI s)), some (.int d), some (.int sum), some (.int (nI q)), some (.int (nI c)), some (.int acc), some (.int (nI x))] [] := by
            refine dn_ind (fun e ihe => ?_)
            intro x acc hxe hxc hxo hT
            refine gk_iload C dX2_costOfOrder_100 rfl ?_
            refine gk_iload_n C dX2_costOfOrder_102 rfl ?_
            refine gk_icmp_ge 144 C dX2_costOfOrder_103 (by decide) (fun z => by first | exact absurd z (nI_ge (by omega) (by omega)) | exact absurd (nI_ge (by omega) (by omega)) z) (fun _ => ?_)
            refine gk_iload C dX2_costOfOrder_106 rfl ?_
            refine gk_iload C dX2_costOfOrder_108 rfl ?_
            refine gk_iconst 1 C dX2_costOfOrder_110 rfl ?_
            refine gk_iadd C dX2_costOfOrder_111 ?_
            refine gk_eqv (nI_1 c) ?_
            refine gk_icmp_eq 126 C dX2_costOfOrder_112 (by decide) (fun c112 => ?_) (fun c112 => ?_)
            · refine gk_iload C dX2_costOfOrder_126 rfl ?_
              refine gk_aload_n C dX2_costOfOrder_128 rfl ?_
              refine mo_g39 C dX2_costOfOrder_129 ?_
              refine gk_iload C dX2_costOfOrder_132 rfl ?_
              refine mo_l39 C dX2_costOfOrder_134 rfl (by omega) ?_
              refine gk_isub C dX2_costOfOrder_135 ?_
              refine gk_istore C dX2_costOfOrder_136 rfl rfl ?_
              refine gk_iinc (nI (x + 1)) C dX2_costOfOrder_138 rfl (nI_succ x).symm rfl rfl ?_
              refine gk_goto 100 C dX2_costOfOrder_141 (by decide) ?_
              rcases e with _ | e
              · rw [show acc - σ.2 39 x = _ from hT]
                exact K100x (x + 1) (by omega) (by omega) (Or.inl (by omega))
              · by_cases hb : (d >>> (nI x &&& 31)) &&& 1 = 1
                · have hT2 : acc - (σ.2 39 x + (if (d >>> (nI x &&& 31)) &&& 1 = 1 then 0 else dr (σ.2 39) d e (x + 1))) = _ := hT
                  rw [if_pos hb, Int32.add_zero] at hT2
                  rw [hT2]
                  exact K100x (x + 1) (by omega) (by omega) (Or.inr ⟨by omega, by omega, by rw [Nat.add_sub_cancel]; exact hb⟩)
                · refine ihe e rfl (x + 1) _ (by omega) (by omega) (Or.inr (by rw [Nat.add_sub_cancel]; exact hb)) ?_
                  have hT2 : acc - (σ.2 39 x + (if (d >>> (nI x &&& 31)) &&& 1 = 1 then 0 else dr (σ.2 39) d e (x + 1))) = _ := hT
                  rw [if_neg hb] at hT2
                  rw [← hT2]
                  grind
            · have c112 : ¬ x = c + 1 := fun z => c112 (by rw [z])
              refine gk_iload_n C dX2_costOfOrder_115 rfl ?_
              refine gk_iload C dX2_costOfOrder_116 rfl ?_
              refine gk_iconst 1 C dX2_costOfOrder_118 rfl ?_
              refine gk_isub C dX2_costOfOrder_119 ?_
              refine gk_eqv (nI_s1 (by omega)) ?_
              refine gk_ishr C dX2_costOfOrder_120 ?_
              refine gk_iconst 1 C dX2_costOfOrder_121 rfl ?_
              refine gk_iand C dX2_costOfOrder_122 ?_
              refine gk_if_ne 144 C dX2_costOfOrder_123 (by decide) (fun c123 => ?_) (fun c123 => ?_)
              · exact absurd ((bt1_ne d (x - 1)).mp c123) (hxo.resolve_left c112)
              · refine gk_iload C dX2_costOfOrder_126 rfl ?_
                refine gk_aload_n C dX2_costOfOrder_128 rfl ?_
                refine mo_g39 C dX2_costOfOrder_129 ?_
                refine gk_iload C dX2_costOfOrder_132 rfl ?_
                refine mo_l39 C dX2_costOfOrder_134 rfl (by omega) ?_
                refine gk_isub C dX2_costOfOrder_135 ?_
                refine gk_istore C dX2_costOfOrder_136 rfl rfl ?_
                refine gk_iinc (nI (x + 1)) C dX2_costOfOrder_138 rfl (nI_succ x).symm rfl rfl ?_
                refine gk_goto 100 C dX2_costOfOrder_141 (by decide) ?_
                rcases e with _ | e
                · rw [show acc - σ.2 39 x = _ from hT]
                  exact K100x (x + 1) (by omega) (by omega) (Or.inl (by omega))
                · by_cases hb : (d >>> (nI x &&& 31)) &&& 1 = 1
                  · have hT2 : acc - (σ.2 39 x + (if (d >>> (nI x &&& 31)) &&& 1 = 1 then 0 else dr (σ.2 39) d e (x + 1))) = _ := hT
                    rw [if_pos hb, Int32.add_zero] at hT2
                    rw [hT2]
                    exact K100x (x + 1) (by omega) (by omega) (Or.inr ⟨by omega, by omega, by rw [Nat.add_sub_cancel]; exact hb⟩)
                  · refine ihe e rfl (x + 1) _ (by omega) (by omega) (Or.inr (by rw [Nat.add_sub_cancel]; exact hb)) ?_
                    have hT2 : acc - (σ.2 39 x + (if (d >>> (nI x &&& 31)) &&& 1 = 1 then 0 else dr (σ.2 39) d e (x + 1))) = _ := hT
                    rw [if_neg hb] at hT2
                    rw [← hT2]
                    grind
          have K94 : gk_G κ 0 0 (mo_W (gk_g κ) h ad σ) 94 [some (.ref h), some (.int (nI o)), some (.int (nI s)), some (.int d), some (.int sum), some (.int (nI q)), some (.int (nI c)), some (.int (dl (σ.2 39) d c)), none] [] := by
            refine gk_iload C dX2_costOfOrder_94 rfl ?_
            refine gk_iconst 1 C dX2_costOfOrder_96 rfl ?_
            refine gk_iadd C dX2_costOfOrder_97 ?_
            refine gk_eqv (nI_1 c) ?_
            refine gk_istore C dX2_costOfOrder_98 rfl rfl ?_
            exact L100 (s - 2 - c) (c + 1) (dl (σ.2 39) d c) (by omega) (Nat.le_refl _) (Or.inl rfl) rfl
          have K55m : gk_G κ 0 0 (mo_W (gk_g κ) h ad σ) 55 [some (.ref h), some (.int (nI o)), some (.int (nI s)), some (.int d), some (.int sum), some (.int (nI q)), some (.int (nI c)), some (.int (dl (σ.2 39) d c)), some (.int (-1))] [] := by
            refine gk_iload C dX2_costOfOrder_55 rfl ?_
            refine gk_if_lt 94 C dX2_costOfOrder_57 (by decide) (fun _ => ?_) (fun z => by first | exact absurd z (by decide) | exact absurd (by decide) z)
            exact gk_fg 8 K94
          have K55b : ∀ x, x < c → (d >>> (nI x &&& 31)) &&& 1 = 1 → gk_G κ 0 0 (mo_W (gk_g κ) h ad σ) 55 [some (.ref h), some (.int (nI o)), some (.int (nI s)), some (.int d), some (.int sum), some (.int (nI q)), some (.int (nI c)), some (.int (dl (σ.2 39) d c)), some (.int (nI x))] [] := by
            intro x hxc hb
            refine gk_iload C dX2_costOfOrder_55 rfl ?_
            refine gk_if_lt 94 C dX2_costOfOrder_57 (by decide) (fun z => by first | exact absurd z (nI_pos (by omega)) | exact absurd (nI_pos (by omega)) z) (fun _ => ?_)
            refine gk_iload C dX2_costOfOrder_60 rfl ?_
            refine gk_iload C dX2_costOfOrder_62 rfl ?_
            refine gk_icmp_eq 76 C dX2_costOfOrder_64 (by decide) (fun z => by first | exact absurd z (fun z => absurd ((nI_eq (by omega) (by omega)).mp z) (by omega)) | exact absurd (fun z => absurd ((nI_eq (by omega) (by omega)).mp z) (by omega)) z) (fun _ => ?_)
            refine gk_iload_n C dX2_costOfOrder_67 rfl ?_
            refine gk_iload C dX2_costOfOrder_68 rfl ?_
            refine gk_ishr C dX2_costOfOrder_70 ?_
            refine gk_iconst 1 C dX2_costOfOrder_71 rfl ?_
            refine gk_iand C dX2_costOfOrder_72 ?_
            refine gk_if_ne 94 C dX2_costOfOrder_73 (by decide) (fun _ => ?_) (fun z => by first | exact absurd z (show ¬ _ from by rw [hb]; decide) | exact absurd (show ¬ _ from by rw [hb]; decide) z)
            exact gk_fg 8 K94
          have L55 : ∀ (x : Nat) (acc : Int32), x ≤ c → (x = c ∨ ¬ (d >>> (nI x &&& 31)) &&& 1 = 1) → acc + dl (σ.2 39) d x = (dl (σ.2 39) d c) → gk_G κ 0 0 (mo_W (gk_g κ) h ad σ) 55 [some (.ref h), some (.int (nI o)), some (.int (nI s)), some (.int d), some (.int sum), some (.int (nI q)), some (.int (nI c)), some (.int acc), some (.int (nI x))] [] := by
            refine dn_ind (fun x ihx => ?_)
            intro acc hxc hxo hT
            refine gk_iload C dX2_costOfOrder_55 rfl ?_
            refine gk_if_lt 94 C dX2_costOfOrder_57 (by decide) (fun z => by first | exact absurd z (nI_pos (by omega)) | exact absurd (nI_pos (by omega)) z) (fun _ => ?_)
            refine gk_iload C dX2_costOfOrder_60 rfl ?_
            refine gk_iload C dX2_costOfOrder_62 rfl ?_
            refine gk_icmp_eq 76 C dX2_costOfOrder_64 (by decide) (fun c64 => ?_) (fun c64 => ?_)
            · refine gk_iload C dX2_costOfOrder_76 rfl ?_
              refine gk_aload_n C dX2_costOfOrder_78 rfl ?_
              refine mo_g39 C dX2_costOfOrder_79 ?_
              refine gk_iload C dX2_costOfOrder_82 rfl ?_
              refine mo_l39 C dX2_costOfOrder_84 rfl (by omega) ?_
              refine gk_iadd C dX2_costOfOrder_85 ?_
              refine gk_istore C dX2_costOfOrder_86 rfl rfl ?_
              rcases x with _ | x
              · rw [show acc + σ.2 39 0 = (dl (σ.2 39) d c) from hT]
                refine gk_iinc (-1) C dX2_costOfOrder_88 rfl rfl rfl rfl ?_
                refine gk_goto 55 C dX2_costOfOrder_91 (by decide) ?_
                exact K55m
              · refine gk_iinc (nI x) C dX2_costOfOrder_88 rfl (pk_m1 x) rfl rfl ?_
                refine gk_goto 55 C dX2_costOfOrder_91 (by decide) ?_
                have hT2 : acc + (σ.2 39 (x + 1) + (if (d >>> (nI x &&& 31)) &&& 1 = 1 then 0 else dl (σ.2 39) d x)) = _ := hT
                by_cases hb : (d >>> (nI x &&& 31)) &&& 1 = 1
                · rw [if_pos hb, Int32.add_zero] at hT2
                  have := K55b x (by omega) hb
                  rw [← hT2] at this
                  exact this
                · rw [if_neg hb] at hT2
                  refine ihx x rfl _ (by omega) (Or.inr hb) ?_
                  rw [← hT2]
                  grind
            · have c64 : ¬ x = c := fun z => c64 (by rw [z])
              refine gk_iload_n C dX2_costOfOrder_67 rfl ?_
              refine gk_iload C dX2_costOfOrder_68 rfl ?_
              refine gk_ishr C dX2_costOfOrder_70 ?_
              refine gk_iconst 1 C dX2_costOfOrder_71 rfl ?_
              refine gk_iand C dX2_costOfOrder_72 ?_
              refine gk_if_ne 94 C dX2_costOfOrder_73 (by decide) (fun c73 => ?_) (fun c73 => ?_)
              · exact absurd ((bt1_ne d x).mp c73) (hxo.resolve_left c64)
              · refine gk_iload C dX2_costOfOrder_76 rfl ?_
                refine gk_aload_n C dX2_costOfOrder_78 rfl ?_
                refine mo_g39 C dX2_costOfOrder_79 ?_
                refine gk_iload C dX2_costOfOrder_82 rfl ?_
                refine mo_l39 C dX2_costOfOrder_84 rfl (by omega) ?_
                refine gk_iadd C dX2_costOfOrder_85 ?_
                refine gk_istore C dX2_costOfOrder_86 rfl rfl ?_
                rcases x with _ | x
                · rw [show acc + σ.2 39 0 = (dl (σ.2 39) d c) from hT]
                  refine gk_iinc (-1) C dX2_costOfOrder_88 rfl rfl rfl rfl ?_
                  refine gk_goto 55 C dX2_costOfOrder_91 (by decide) ?_
                  exact K55m
                · refine gk_iinc (nI x) C dX2_costOfOrder_88 rfl (pk_m1 x) rfl rfl ?_
                  refine gk_goto 55 C dX2_costOfOrder_91 (by decide) ?_
                  have hT2 : acc + (σ.2 39 (x + 1) + (if (d >>> (nI x &&& 31)) &&& 1 = 1 then 0 else dl (σ.2 39) d x)) = _ := hT
                  by_cases hb : (d >>> (nI x &&& 31)) &&& 1 = 1
                  · rw [if_pos hb, Int32.add_zero] at hT2
                    have := K55b x (by omega) hb
                    rw [← hT2] at this
                    exact this
                  · rw [if_neg hb] at hT2
                    refine ihx x rfl _ (by omega) (Or.inr hb) ?_
                    rw [← hT2]
                    grind
          refine gk_iconst 0 C dX2_costOfOrder_48 rfl ?_
          refine gk_istore C dX2_costOfOrder_49 rfl rfl ?_
          refine gk_iload C dX2_costOfOrder_51 rfl ?_
          refine gk_istore C dX2_costOfOrder_53 rfl rfl ?_
          exact L55 c 0 (Nat.le_refl _) (Or.inl rfl) (Int32.zero_add _)
        · rw [if_pos (Or.inr c42)] at hR2
          refine gk_bipush (-9) C dX2_costOfOrder_45 rfl ?_
          exact gk_iret C E dX2_costOfOrder_47 rfl rfl ⟨vi hR2, rfl⟩
  exact L8 0 (Nat.zero_le _) 0 0 rfl
