set_option maxRecDepth 100000
set_option maxHeartbeats 1000000 in
theorem mo_cutIn (l : Launch) (o : Int32) (c q : Nat) (hq : q < c) (hc : c ≤ 6) : gk_P l yX2_cutIn (Cond.code yX2_cutIn cX2_cutIn 5 (some .int)) 0 [.int o, .int (nI c), .int (nI q)] (.int (ci o (c - 1 - q))) := by
  intro Γ
  refine gk_M.intro gk_N0_ok (by decide) [some (.int o), some (.int (nI c)), some (.int (nI q)), none, none] rfl rfl rfl ?_
  intro κ hl hg hN0 C E
  subst hl hg
  have C : gk_C κ cX2_cutIn "SawLineModel" 0 0 0 := C
  refine gk_iload_n C dX2_cutIn_0 rfl ?_
  refine gk_istore_n C dX2_cutIn_1 rfl rfl ?_
  refine gk_iload_n C dX2_cutIn_2 rfl ?_
  refine gk_iconst 1 C dX2_cutIn_3 rfl ?_
  refine gk_isub C dX2_cutIn_4 ?_
  refine gk_eqv (y := nI (c - 1)) (by obtain ⟨u, rfl⟩ : ∃ u, c = u + 1 := ⟨c - 1, by omega⟩; exact nI_pred u) ?_
  refine gk_istore C dX2_cutIn_5 rfl rfl ?_
  have L7 : ∀ j, j ≤ c - 1 - q → gk_G κ 0 0 [] 7 [some (.int o), some (.int (nI c)), some (.int (nI q)), some (.int (dv7 o j)), some (.int (nI (c - 1 - j)))] [] := by
    refine up_ind (fun j hj ih => ?_)
    refine gk_iload C dX2_cutIn_7 rfl ?_
    refine gk_iload_n C dX2_cutIn_9 rfl ?_
    refine gk_icmp_le 24 C dX2_cutIn_10 (by decide) (fun c10 => ?_) (fun c10 => ?_)
    · obtain rfl : j = c - 1 - q := by have := nI_leT c10 (by omega) (by omega); omega
      refine gk_iload_n C dX2_cutIn_24 rfl ?_
      refine gk_bipush 7 C dX2_cutIn_25 rfl ?_
      refine gk_irem C dX2_cutIn_27 (by decide) ?_
      exact gk_iret C E dX2_cutIn_28 rfl rfl ⟨rfl, rfl⟩
    · have c10 : q < c - 1 - j := by rcases Nat.lt_or_ge q (c - 1 - j) with z | z; exact z; exact absurd (nI_le z (by omega)) c10
      refine gk_iload_n C dX2_cutIn_13 rfl ?_
      refine gk_bipush 7 C dX2_cutIn_14 rfl ?_
      refine gk_idiv C dX2_cutIn_16 (by decide) ?_
      refine gk_istore_n C dX2_cutIn_17 rfl rfl ?_
      refine gk_iinc (nI (c - 1 - (j + 1))) C dX2_cutIn_18 rfl (by obtain ⟨u, hu⟩ : ∃ u, c - 1 - j = u + 1 := ⟨c - 1 - j - 1, by omega⟩; rw [hu, show c - 1 - (j + 1) = u by omega]; exact pk_m1 u) rfl rfl ?_
      refine gk_goto 7 C dX2_cutIn_21 (by decide) ?_
      exact ih (by omega)
  exact L7 0 (Nat.zero_le _)
