set_option maxRecDepth 100000
def th_is (x y z : Int32) : Nat → Int32 := fun j => match j with
  | 0 => x
  | 1 => y
  | 2 => z
  | _ => 0
theorem th_is0 (x y z v : Int32) : upd (th_is x y z) 0 v = th_is v y z := by
  funext j; unfold upd; rcases j with _ | _ | _ | j <;> rfl
theorem th_is1 (x y z v : Int32) : upd (th_is x y z) 1 v = th_is x v z := by
  funext j; unfold upd; rcases j with _ | _ | _ | j <;> rfl
theorem th_is2 (x y z v : Int32) : upd (th_is x y z) 2 v = th_is x y v := by
  funext j; unfold upd; rcases j with _ | _ | _ | j <;> rfl
theorem th_isz : (fun _ => 0 : Nat → Int32) = th_is 0 0 0 := by funext j; rcases j with _ | _ | _ | j <;> rfl
set_option maxHeartbeats 1000000 in
theorem th_X3_init_3 (l : Launch) (Γ : gk_E) (h a : Nat) (nm bd ht ed : Int32) : gk_M gk_N0 l yX3_init (Cond.code yX3_init cX3_init 6 none) 0 1 3 [.ref a, .ref h, .int nm, .int bd, .int ht, .int ed] Γ [(a, .inr (3, [.int 0, .null, .null]))] (fun r ws => r = none ∧ ∃ b, ws = [(a, .inr (3, [.int nm, .ref b, .ref h])), (b, .inl (Γ.2 0, 3, .inl (th_is bd ht ed)))]) := by
  refine gk_M.introI gk_N0_ok (by decide) [some (.ref a), some (.ref h), some (.int nm), some (.int bd), some (.int ht), some (.int ed)] rfl rfl rfl ?_
  intro κ hl hg hN0 hnm C E
  subst hl hg
  have C : gk_C κ cX3_init "SawLine$Tooth" 0 1 3 := C
  refine gk_aload_n C dX3_init_0 rfl ?_
  refine gk_aload_n C dX3_init_1 rfl ?_
  refine gk_putFX (ty := .object "SawLine") C in_X3 tyX3 tyX3_ok gx_okX3 hnm 0 rfl rfl 2 (by decide) q492 rfl rfl rfl rfl rfl rfl (Nat.le_of_ble_eq_true rfl) dX3_init_2 ?_
  refine gk_aload_n C dX3_init_5 rfl ?_
  refine gk_objInit C q488 q106 q107 rfl dX3_init_6 ?_
  refine gk_aload_n C dX3_init_9 rfl ?_
  refine gk_iconst 3 C dX3_init_10 rfl ?_
  refine gk_newi (N' := 3) C rfl (by decide) (by decide) (by decide) dX3_init_11 (fun b => ?_)
  rw [th_isz]
  refine gk_putFX (ty := .array .int) C in_X3 tyX3 tyX3_ok gx_okX3 hnm 0 rfl rfl 1 (by decide) q490 rfl rfl rfl rfl rfl rfl (Nat.le_of_ble_eq_true rfl) dX3_init_13 ?_
  refine gk_aload_n C dX3_init_16 rfl ?_
  refine gk_iload_n C dX3_init_17 rfl ?_
  refine gk_putFX (ty := .int) C in_X3 tyX3 tyX3_ok gx_okX3 hnm 0 rfl rfl 0 (by decide) q489 rfl rfl rfl rfl rfl rfl (Nat.le_of_ble_eq_true rfl) dX3_init_18 ?_
  refine gk_eqw (ws' := [(a, .inr (3, [.int nm, .ref b, .ref h])), (b, .inl ((gk_g κ).2 0, 3, .inl (th_is 0 0 0)))]) rfl ?_
  refine gk_aload_n C dX3_init_21 rfl ?_
  refine gk_get C in_X3 0 rfl rfl 1 (by decide) q490 rfl rfl dX3_init_22 ?_
  refine gk_iconst 0 C dX3_init_25 rfl ?_
  refine gk_iload_n C dX3_init_26 rfl ?_
  refine gk_iast C 1 rfl rfl 0 rfl (by decide) rfl dX3_init_27 ?_
  refine gk_eqw (ws' := [(a, .inr (3, [.int nm, .ref b, .ref h])), (b, .inl ((gk_g κ).2 0, 3, .inl (th_is bd 0 0)))]) (by rw [← th_is0 0 0 0 bd]; rfl) ?_
  refine gk_aload_n C dX3_init_28 rfl ?_
  refine gk_get C in_X3 0 rfl rfl 1 (by decide) q490 rfl rfl dX3_init_29 ?_
  refine gk_iconst 1 C dX3_init_32 rfl ?_
  refine gk_iload C dX3_init_33 rfl ?_
  refine gk_iast C 1 rfl rfl 1 rfl (by decide) rfl dX3_init_35 ?_
  refine gk_eqw (ws' := [(a, .inr (3, [.int nm, .ref b, .ref h])), (b, .inl ((gk_g κ).2 0, 3, .inl (th_is bd ht 0)))]) (by rw [← th_is1 bd 0 0 ht]; rfl) ?_
  refine gk_aload_n C dX3_init_36 rfl ?_
  refine gk_get C in_X3 0 rfl rfl 1 (by decide) q490 rfl rfl dX3_init_37 ?_
  refine gk_iconst 2 C dX3_init_40 rfl ?_
  refine gk_iload C dX3_init_41 rfl ?_
  refine gk_iast C 1 rfl rfl 2 rfl (by decide) rfl dX3_init_43 ?_
  refine gk_eqw (ws' := [(a, .inr (3, [.int nm, .ref b, .ref h])), (b, .inl ((gk_g κ).2 0, 3, .inl (th_is bd ht ed)))]) (by rw [← th_is2 bd ht 0 ed]; rfl) ?_
  exact gk_vret C E dX3_init_44 rfl rfl ⟨rfl, b, rfl⟩
set_option maxHeartbeats 1000000 in
theorem th_X3_init_4 (l : Launch) (Γ : gk_E) (h a : Nat) (nm bd ht ed : Int32) : gk_M gk_N0 l yX3_init (Cond.code yX3_init cX3_init 6 none) 0 1 3 [.ref a, .ref h, .int nm, .int bd, .int ht, .int ed] Γ [(a, .inr (4, [.int 0, .null, .null, .int 0, .ref h]))] (fun r ws => r = none ∧ ∃ b, ws = [(a, .inr (4, [.int nm, .ref b, .ref h, .int 0, .ref h])), (b, .inl (Γ.2 0, 3, .inl (th_is bd ht ed)))]) := by
  refine gk_M.introI gk_N0_ok (by decide) [some (.ref a), some (.ref h), some (.int nm), some (.int bd), some (.int ht), some (.int ed)] rfl rfl rfl ?_
  intro κ hl hg hN0 hnm C E
  subst hl hg
  have C : gk_C κ cX3_init "SawLine$Tooth" 0 1 3 := C
  refine gk_aload_n C dX3_init_0 rfl ?_
  refine gk_aload_n C dX3_init_1 rfl ?_
  refine gk_putFX (ty := .object "SawLine") C in_X4 tyX4 tyX4_ok gx_okX4 hnm 0 rfl rfl 2 (by decide) q492 rfl rfl rfl rfl rfl rfl (Nat.le_of_ble_eq_true rfl) dX3_init_2 ?_
  refine gk_aload_n C dX3_init_5 rfl ?_
  refine gk_objInit C q488 q106 q107 rfl dX3_init_6 ?_
  refine gk_aload_n C dX3_init_9 rfl ?_
  refine gk_iconst 3 C dX3_init_10 rfl ?_
  refine gk_newi (N' := 3) C rfl (by decide) (by decide) (by decide) dX3_init_11 (fun b => ?_)
  rw [th_isz]
  refine gk_putFX (ty := .array .int) C in_X4 tyX4 tyX4_ok gx_okX4 hnm 0 rfl rfl 1 (by decide) q490 rfl rfl rfl rfl rfl rfl (Nat.le_of_ble_eq_true rfl) dX3_init_13 ?_
  refine gk_aload_n C dX3_init_16 rfl ?_
  refine gk_iload_n C dX3_init_17 rfl ?_
  refine gk_putFX (ty := .int) C in_X4 tyX4 tyX4_ok gx_okX4 hnm 0 rfl rfl 0 (by decide) q489 rfl rfl rfl rfl rfl rfl (Nat.le_of_ble_eq_true rfl) dX3_init_18 ?_
  refine gk_eqw (ws' := [(a, .inr (4, [.int nm, .ref b, .ref h, .int 0, .ref h])), (b, .inl ((gk_g κ).2 0, 3, .inl (th_is 0 0 0)))]) rfl ?_
  refine gk_aload_n C dX3_init_21 rfl ?_
  refine gk_get C in_X4 0 rfl rfl 1 (by decide) q490 rfl rfl dX3_init_22 ?_
  refine gk_iconst 0 C dX3_init_25 rfl ?_
  refine gk_iload_n C dX3_init_26 rfl ?_
  refine gk_iast C 1 rfl rfl 0 rfl (by decide) rfl dX3_init_27 ?_
  refine gk_eqw (ws' := [(a, .inr (4, [.int nm, .ref b, .ref h, .int 0, .ref h])), (b, .inl ((gk_g κ).2 0, 3, .inl (th_is bd 0 0)))]) (by rw [← th_is0 0 0 0 bd]; rfl) ?_
  refine gk_aload_n C dX3_init_28 rfl ?_
  refine gk_get C in_X4 0 rfl rfl 1 (by decide) q490 rfl rfl dX3_init_29 ?_
  refine gk_iconst 1 C dX3_init_32 rfl ?_
  refine gk_iload C dX3_init_33 rfl ?_
  refine gk_iast C 1 rfl rfl 1 rfl (by decide) rfl dX3_init_35 ?_
  refine gk_eqw (ws' := [(a, .inr (4, [.int nm, .ref b, .ref h, .int 0, .ref h])), (b, .inl ((gk_g κ).2 0, 3, .inl (th_is bd ht 0)))]) (by rw [← th_is1 bd 0 0 ht]; rfl) ?_
  refine gk_aload_n C dX3_init_36 rfl ?_
  refine gk_get C in_X4 0 rfl rfl 1 (by decide) q490 rfl rfl dX3_init_37 ?_
  refine gk_iconst 2 C dX3_init_40 rfl ?_
  refine gk_iload C dX3_init_41 rfl ?_
  refine gk_iast C 1 rfl rfl 2 rfl (by decide) rfl dX3_init_43 ?_
  refine gk_eqw (ws' := [(a, .inr (4, [.int nm, .ref b, .ref h, .int 0, .ref h])), (b, .inl ((gk_g κ).2 0, 3, .inl (th_is bd ht ed)))]) (by rw [← th_is2 bd ht 0 ed]; rfl) ?_
  exact gk_vret C E dX3_init_44 rfl rfl ⟨rfl, b, rfl⟩
set_option maxHeartbeats 1000000 in
theorem th_X3_init_5 (l : Launch) (Γ : gk_E) (h a : Nat) (nm bd ht ed : Int32) : gk_M gk_N0 l yX3_init (Cond.code yX3_init cX3_init 6 none) 0 1 3 [.ref a, .ref h, .int nm, .int bd, .int ht, .int ed] Γ [(a, .inr (5, [.int 0, .null, .null, .int 0, .ref h, .ref h]))] (fun r ws => r = none ∧ ∃ b, ws = [(a, .inr (5, [.int nm, .ref b, .ref h, .int 0, .ref h, .ref h])), (b, .inl (Γ.2 0, 3, .inl (th_is bd ht ed)))]) := by
  refine gk_M.introI gk_N0_ok (by decide) [some (.ref a), some (.ref h), some (.int nm), some (.int bd), some (.int ht), some (.int ed)] rfl rfl rfl ?_
  intro κ hl hg hN0 hnm C E
  subst hl hg
  have C : gk_C κ cX3_init "SawLine$Tooth" 0 1 3 := C
  refine gk_aload_n C dX3_init_0 rfl ?_
  refine gk_aload_n C dX3_init_1 rfl ?_
  refine gk_putFX (ty := .object "SawLine") C in_X5 tyX5 tyX5_ok gx_okX5 hnm 0 rfl rfl 2 (by decide) q492 rfl rfl rfl rfl rfl rfl (Nat.le_of_ble_eq_true rfl) dX3_init_2 ?_
  refine gk_aload_n C dX3_init_5 rfl ?_
  refine gk_objInit C q488 q106 q107 rfl dX3_init_6 ?_
  refine gk_aload_n C dX3_init_9 rfl ?_
  refine gk_iconst 3 C dX3_init_10 rfl ?_
  refine gk_newi (N' := 3) C rfl (by decide) (by decide) (by decide) dX3_init_11 (fun b => ?_)
  rw [th_isz]
  refine gk_putFX (ty := .array .int) C in_X5 tyX5 tyX5_ok gx_okX5 hnm 0 rfl rfl 1 (by decide) q490 rfl rfl rfl rfl rfl rfl (Nat.le_of_ble_eq_true rfl) dX3_init_13 ?_
  refine gk_aload_n C dX3_init_16 rfl ?_
  refine gk_iload_n C dX3_init_17 rfl ?_
  refine gk_putFX (ty := .int) C in_X5 tyX5 tyX5_ok gx_okX5 hnm 0 rfl rfl 0 (by decide) q489 rfl rfl rfl rfl rfl rfl (Nat.le_of_ble_eq_true rfl) dX3_init_18 ?_
  refine gk_eqw (ws' := [(a, .inr (5, [.int nm, .ref b, .ref h, .int 0, .ref h, .ref h])), (b, .inl ((gk_g κ).2 0, 3, .inl (th_is 0 0 0)))]) rfl ?_
  refine gk_aload_n C dX3_init_21 rfl ?_
  refine gk_get C in_X5 0 rfl rfl 1 (by decide) q490 rfl rfl dX3_init_22 ?_
  refine gk_iconst 0 C dX3_init_25 rfl ?_
  refine gk_iload_n C dX3_init_26 rfl ?_
  refine gk_iast C 1 rfl rfl 0 rfl (by decide) rfl dX3_init_27 ?_
  refine gk_eqw (ws' := [(a, .inr (5, [.int nm, .ref b, .ref h, .int 0, .ref h, .ref h])), (b, .inl ((gk_g κ).2 0, 3, .inl (th_is bd 0 0)))]) (by rw [← th_is0 0 0 0 bd]; rfl) ?_
  refine gk_aload_n C dX3_init_28 rfl ?_
  refine gk_get C in_X5 0 rfl rfl 1 (by decide) q490 rfl rfl dX3_init_29 ?_
  refine gk_iconst 1 C dX3_init_32 rfl ?_
  refine gk_iload C dX3_init_33 rfl ?_
  refine gk_iast C 1 rfl rfl 1 rfl (by decide) rfl dX3_init_35 ?_
  refine gk_eqw (ws' := [(a, .inr (5, [.int nm, .ref b, .ref h, .int 0, .ref h, .ref h])), (b, .inl ((gk_g κ).2 0, 3, .inl (th_is bd ht 0)))]) (by rw [← th_is1 bd 0 0 ht]; rfl) ?_
  refine gk_aload_n C dX3_init_36 rfl ?_
  refine gk_get C in_X5 0 rfl rfl 1 (by decide) q490 rfl rfl dX3_init_37 ?_
  refine gk_iconst 2 C dX3_init_40 rfl ?_
  refine gk_iload C dX3_init_41 rfl ?_
  refine gk_iast C 1 rfl rfl 2 rfl (by decide) rfl dX3_init_43 ?_
  refine gk_eqw (ws' := [(a, .inr (5, [.int nm, .ref b, .ref h, .int 0, .ref h, .ref h])), (b, .inl ((gk_g κ).2 0, 3, .inl (th_is bd ht ed)))]) (by rw [← th_is2 bd ht 0 ed]; rfl) ?_
  exact gk_vret C E dX3_init_44 rfl rfl ⟨rfl, b, rfl⟩
theorem okn_X3_init : gk_okn yX3_init 5 := ⟨by decide +kernel, by decide +kernel, by decide +kernel⟩
theorem okn_X4_init : gk_okn yX4_init 6 := ⟨by decide +kernel, by decide +kernel, by decide +kernel⟩
theorem okn_X5_init : gk_okn yX5_init 6 := ⟨by decide +kernel, by decide +kernel, by decide +kernel⟩
set_option maxHeartbeats 1000000 in
theorem th_X4_init_4 (l : Launch) (Γ : gk_E) (h a : Nat) (nm sd bd ht ed : Int32) : gk_M gk_N0 l yX4_init (Cond.code yX4_init cX4_init 7 none) 1 1 3 [.ref a, .ref h, .int nm, .int sd, .int bd, .int ht, .int ed] Γ [(a, .inr (4, [.int 0, .null, .null, .int 0, .null]))] (fun r ws => r = none ∧ ∃ b, ws = [(a, .inr (4, [.int nm, .ref b, .ref h, .int sd, .ref h])), (b, .inl (Γ.2 0, 3, .inl (th_is bd ht ed)))]) := by
  refine gk_M.introI gk_N0_ok (by decide) [some (.ref a), some (.ref h), some (.int nm), some (.int sd), some (.int bd), some (.int ht), some (.int ed)] rfl rfl rfl ?_
  intro κ hl hg hN0 hnm C E
  subst hl hg
  have C : gk_C κ cX4_init "SawLine$Bent" 1 1 3 := C
  refine gk_aload_n C dX4_init_0 rfl ?_
  refine gk_aload_n C dX4_init_1 rfl ?_
  refine gk_putFX (ty := .object "SawLine") C in_X4 tyX4 tyX4_ok gx_okX4 hnm 0 rfl rfl 4 (by decide) q507 rfl rfl rfl rfl rfl rfl (Nat.le_of_ble_eq_true rfl) dX4_init_2 ?_
  refine gk_aload_n C dX4_init_5 rfl ?_
  refine gk_aload_n C dX4_init_6 rfl ?_
  refine gk_iload_n C dX4_init_7 rfl ?_
  refine gk_iload C dX4_init_8 rfl ?_
  refine gk_iload C dX4_init_10 rfl ?_
  refine gk_iload C dX4_init_12 rfl ?_
  refine gk_cI (ce := 0) (sl := 0) (w1 := []) (w2 := []) (wc := [(a, .inr (4, [.int 0, .null, .null, .int 0, .ref h]))]) (As := [.ref h, .int nm, .int bd, .int ht, .int ed]) C (gk_M.up0 (th_X3_init_4 _ _ h a nm bd ht ed)) rfl q487 q90 q505 q486 okn_X3_init rfl rfl (by decide) (by decide) rfl dX4_init_14 (fun r wn hp => ?_)
  obtain ⟨rfl, b, rfl⟩ := hp
  refine gk_aload_n C dX4_init_17 rfl ?_
  refine gk_iload_n C dX4_init_18 rfl ?_
  refine gk_putFX (ty := .int) C in_X4 tyX4 tyX4_ok gx_okX4 hnm 0 rfl rfl 3 (by decide) q506 rfl rfl rfl rfl rfl rfl (Nat.le_of_ble_eq_true rfl) dX4_init_19 ?_
  exact gk_vret C E dX4_init_22 rfl rfl ⟨rfl, b, rfl⟩
set_option maxHeartbeats 1000000 in
theorem th_X4_init_5 (l : Launch) (Γ : gk_E) (h a : Nat) (nm sd bd ht ed : Int32) : gk_M gk_N0 l yX4_init (Cond.code yX4_init cX4_init 7 none) 1 1 3 [.ref a, .ref h, .int nm, .int sd, .int bd, .int ht, .int ed] Γ [(a, .inr (5, [.int 0, .null, .null, .int 0, .null, .ref h]))] (fun r ws => r = none ∧ ∃ b, ws = [(a, .inr (5, [.int nm, .ref b, .ref h, .int sd, .ref h, .ref h])), (b, .inl (Γ.2 0, 3, .inl (th_is bd ht ed)))]) := by
  refine gk_M.introI gk_N0_ok (by decide) [some (.ref a), some (.ref h), some (.int nm), some (.int sd), some (.int bd), some (.int ht), some (.int ed)] rfl rfl rfl ?_
  intro κ hl hg hN0 hnm C E
  subst hl hg
  have C : gk_C κ cX4_init "SawLine$Bent" 1 1 3 := C
  refine gk_aload_n C dX4_init_0 rfl ?_
  refine gk_aload_n C dX4_init_1 rfl ?_
  refine gk_putFX (ty := .object "SawLine") C in_X5 tyX5 tyX5_ok gx_okX5 hnm 0 rfl rfl 4 (by decide) q507 rfl rfl rfl rfl rfl rfl (Nat.le_of_ble_eq_true rfl) dX4_init_2 ?_
  refine gk_aload_n C dX4_init_5 rfl ?_
  refine gk_aload_n C dX4_init_6 rfl ?_
  refine gk_iload_n C dX4_init_7 rfl ?_
  refine gk_iload C dX4_init_8 rfl ?_
  refine gk_iload C dX4_init_10 rfl ?_
  refine gk_iload C dX4_init_12 rfl ?_
  refine gk_cI (ce := 0) (sl := 0) (w1 := []) (w2 := []) (wc := [(a, .inr (5, [.int 0, .null, .null, .int 0, .ref h, .ref h]))]) (As := [.ref h, .int nm, .int bd, .int ht, .int ed]) C (gk_M.up0 (th_X3_init_5 _ _ h a nm bd ht ed)) rfl q487 q90 q505 q486 okn_X3_init rfl rfl (by decide) (by decide) rfl dX4_init_14 (fun r wn hp => ?_)
  obtain ⟨rfl, b, rfl⟩ := hp
  refine gk_aload_n C dX4_init_17 rfl ?_
  refine gk_iload_n C dX4_init_18 rfl ?_
  refine gk_putFX (ty := .int) C in_X5 tyX5 tyX5_ok gx_okX5 hnm 0 rfl rfl 3 (by decide) q506 rfl rfl rfl rfl rfl rfl (Nat.le_of_ble_eq_true rfl) dX4_init_19 ?_
  exact gk_vret C E dX4_init_22 rfl rfl ⟨rfl, b, rfl⟩
set_option maxHeartbeats 1000000 in
theorem th_X5_init_5 (l : Launch) (Γ : gk_E) (h a : Nat) (nm sd bd ht ed : Int32) : gk_M gk_N0 l yX5_init (Cond.code yX5_init cX5_init 7 none) 2 1 3 [.ref a, .ref h, .int nm, .int sd, .int bd, .int ht, .int ed] Γ [(a, .inr (5, [.int 0, .null, .null, .int 0, .null, .null]))] (fun r ws => r = none ∧ ∃ b, ws = [(a, .inr (5, [.int nm, .ref b, .ref h, .int sd, .ref h, .ref h])), (b, .inl (Γ.2 0, 3, .inl (th_is bd ht ed)))]) := by
  refine gk_M.introI gk_N0_ok (by decide) [some (.ref a), some (.ref h), some (.int nm), some (.int sd), some (.int bd), some (.int ht), some (.int ed)] rfl rfl rfl ?_
  intro κ hl hg hN0 hnm C E
  subst hl hg
  have C : gk_C κ cX5_init "SawLine$Hooked" 2 1 3 := C
  refine gk_aload_n C dX5_init_0 rfl ?_
  refine gk_aload_n C dX5_init_1 rfl ?_
  refine gk_putFX (ty := .object "SawLine") C in_X5 tyX5 tyX5_ok gx_okX5 hnm 0 rfl rfl 5 (by decide) q522 rfl rfl rfl rfl rfl rfl (Nat.le_of_ble_eq_true rfl) dX5_init_2 ?_
  refine gk_aload_n C dX5_init_5 rfl ?_
  refine gk_aload_n C dX5_init_6 rfl ?_
  refine gk_iload_n C dX5_init_7 rfl ?_
  refine gk_iload_n C dX5_init_8 rfl ?_
  refine gk_iload C dX5_init_9 rfl ?_
  refine gk_iload C dX5_init_11 rfl ?_
  refine gk_iload C dX5_init_13 rfl ?_
  refine gk_cI (ce := 0) (sl := 0) (w1 := []) (w2 := []) (wc := [(a, .inr (5, [.int 0, .null, .null, .int 0, .null, .ref h]))]) (As := [.ref h, .int nm, .int sd, .int bd, .int ht, .int ed]) C (gk_M.up0 (th_X4_init_5 _ _ h a nm sd bd ht ed)) rfl q504 q91 q521 q503 okn_X4_init rfl rfl (by decide) (by decide) rfl dX5_init_15 (fun r wn hp => ?_)
  obtain ⟨rfl, b, rfl⟩ := hp
  exact gk_vret C E dX5_init_18 rfl rfl ⟨rfl, b, rfl⟩
