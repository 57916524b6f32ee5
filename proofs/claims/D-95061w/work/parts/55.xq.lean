set_option maxRecDepth 100000
/-- a tooth as it may be -/
def xk (τ : sp_T) (k : Nat) : Prop := (τ 0 k = 0 ∧ τ 1 k = 0 ∨ (τ 0 k = 1 ∨ τ 0 k = 2) ∧ (τ 1 k = -1 ∨ τ 1 k = 1)) ∧ ∃ a b c : Nat, a ≤ 9 ∧ b ≤ 9 ∧ c ≤ 9 ∧ τ 2 k = nI a ∧ τ 3 k = nI b ∧ τ 4 k = nI c
theorem xk_c {τ : sp_T} {k : Nat} (h : xk τ k) : (xc (τ 0 k) = 3 ∧ τ 0 k = 0 ∧ τ 1 k = 0) ∨ (xc (τ 0 k) = 4 ∧ τ 0 k = 1) ∨ (xc (τ 0 k) = 5 ∧ τ 0 k = 2) := by
  rcases h.1 with ⟨h1, h2⟩ | ⟨h1 | h1, h2⟩
  · exact Or.inl ⟨by rw [h1]; rfl, h1, h2⟩
  · exact Or.inr (Or.inl ⟨by rw [h1]; rfl, h1⟩)
  · exact Or.inr (Or.inr ⟨by rw [h1]; rfl, h1⟩)
theorem xk_m {τ : sp_T} {k : Nat} (h : xk τ k) : ¬ 0 < τ 3 k * τ 4 k → τ 3 k * τ 4 k = 0 := by
  obtain ⟨-, a, b, c, ha, hb, hc, -, e2, e3⟩ := h
  rw [e2, e3, pk_mul]
  intro hn
  have hbc : b * c ≤ 81 := Nat.mul_le_mul hb hc
  have : ¬ 0 < b * c := fun z => hn (nI_lt (a := 0) z (by omega))
  rw [show b * c = 0 by omega]; rfl
theorem xv_kind {τ : sp_T} {k : Nat} (h : xk τ k) : th_kd (xc (τ 0 k)) = τ 0 k := by
  rcases xk_c h with ⟨e, e1, -⟩ | ⟨e, e1⟩ | ⟨e, e1⟩ <;> rw [e, e1] <;> rfl
theorem xv_side {τ : sp_T} {k : Nat} (h : xk τ k) : th_sd (xc (τ 0 k)) (τ 1 k) = τ 1 k := by
  rcases xk_c h with ⟨e, -, e1⟩ | ⟨e, -⟩ | ⟨e, -⟩ <;> rw [e]
  · rw [e1]; rfl
  · rfl
  · rfl
theorem xv_takes {τ : sp_T} {k : Nat} (h : xk τ k) : th_tk (xc (τ 0 k)) (xt_f τ k) = sp_tk τ k := by
  unfold sp_tk
  rcases xk_c h with ⟨e, e1, -⟩ | ⟨e, e1⟩ | ⟨e, e1⟩ <;> rw [e]
  · rw [if_neg (fun z => absurd (z.2.symm.trans e1) (by decide))]; rfl
  · rw [if_neg (fun z => absurd (z.2.symm.trans e1) (by decide))]; rfl
  · show (if 0 < τ 3 k * τ 4 k then τ 3 k * τ 4 k + 2 else 0) = _
    by_cases hp : 0 < τ 3 k * τ 4 k
    · rw [if_pos hp, if_pos ⟨hp, e1⟩]
    · rw [if_neg hp, if_neg (fun z => hp z.1), xk_m h hp]
theorem xv_mark {τ : sp_T} {k : Nat} (h : xk τ k) : th_sd (xc (τ 0 k)) (τ 1 k) * xt_f τ k 0 = sp_mk τ k := by rw [xv_side h]; rfl
theorem xv_pushes {τ : sp_T} {k : Nat} (h : xk τ k) : th_pu (xc (τ 0 k)) (τ 1 k) (xt_f τ k) = sp_pu τ k := by
  have ht := xv_takes h
  have hm := xv_mark h
  unfold sp_pu
  have e0 : sp_tk τ k * τ 2 k * τ 1 k = sp_tk τ k * sp_mk τ k := by unfold sp_mk; rw [Int32.mul_assoc, Int32.mul_comm (τ 2 k)]
  rw [e0]
  rcases xk_c h with ⟨e, -, e1⟩ | ⟨e, -⟩ | ⟨e, -⟩
  · rw [e]; unfold sp_mk; rw [e1, Int32.zero_mul, Int32.mul_zero]; rfl
  · rw [← ht, ← hm, e]; rfl
  · rw [← ht, ← hm, e]; rfl
theorem xv_isCutting {τ : sp_T} {k : Nat} (h : xk τ k) : zb (0 < th_tk (xc (τ 0 k)) (xt_f τ k)) = zb (0 < sp_tk τ k) := by rw [xv_takes h]
theorem xD_th {Γ : gk_E} {h lo : Nat} {θ : xA} {n : Nat} {τ : sp_T} {rs : va_W} {k : Nat} (hk : k < n) (P : va_W) {ci : Nat} (hc : xc (τ 0 k) = ci) : ∀ q ∈ th_W Γ h (θ.2.2.2.1 k) (θ.2.2.2.2 k) (nI k) (τ 1 k) ci (xt_f τ k), q ∈ P ++ xD Γ h lo θ n τ rs := by
  intro q hq
  subst hc
  rcases List.mem_cons.mp hq with rfl | hq
  · exact List.mem_of_getElem? (xD_o (Γ := Γ) (h := h) (lo := lo) (θ := θ) (τ := τ) (rs := rs) hk P)
  · rw [List.mem_singleton.mp hq]
    exact List.mem_of_getElem? (xD_a (Γ := Γ) (h := h) (lo := lo) (θ := θ) (τ := τ) (rs := rs) hk P)
theorem xr_kind {κ : gk_K} {cc : ByteArray} {D MC MS ce sl pc h lo n : Nat} {θ : xA} {τ : sp_T} {rs Pw : va_W} {os : List (Option Value)} {st : List Value} {k : Nat} (C : gk_C κ cc "SawLine" D MC MS) (hb : ce ≤ MC ∧ sl ≤ MS ∧ 3 < D) (hk : k < n) (hx : xk τ k) (hst : Nat.ble (st.map fun v => v.category).sum 8 = true) (hd : decode cc pc = .ok (.invokevirtual 195, 3)) (kk : gk_G κ ce sl (Pw ++ xD (gk_g κ) h lo θ n τ rs) (pc + 3) os (.int (τ 0 k) :: st)) : gk_G κ ce sl (Pw ++ xD (gk_g κ) h lo θ n τ rs) pc os (.ref (θ.2.2.2.1 k) :: st) := by
  rw [← xv_kind hx] at kk
  have hm := fun ci (hc : xc (τ 0 k) = ci) => xD_th (Γ := gk_g κ) (h := h) (lo := lo) (θ := θ) (n := n) (τ := τ) (rs := rs) hk Pw hc
  rcases xc_3 (τ 0 k) with e | e | e <;> rw [e] at kk
  · exact th_c_X0_195_3 C ⟨hb.1, hb.2.1, by omega⟩ (hm 3 e) hst hd kk
  · exact th_c_X0_195_4 C ⟨hb.1, hb.2.1, by omega⟩ (hm 4 e) hst hd kk
  · exact th_c_X0_195_5 C ⟨hb.1, hb.2.1, by omega⟩ (hm 5 e) hst hd kk
theorem xr_side {κ : gk_K} {cc : ByteArray} {D MC MS ce sl pc h lo n : Nat} {θ : xA} {τ : sp_T} {rs Pw : va_W} {os : List (Option Value)} {st : List Value} {k : Nat} (C : gk_C κ cc "SawLine" D MC MS) (hb : ce ≤ MC ∧ sl ≤ MS ∧ 3 < D) (hk : k < n) (hx : xk τ k) (hst : Nat.ble (st.map fun v => v.category).sum 8 = true) (hd : decode cc pc = .ok (.invokevirtual 198, 3)) (kk : gk_G κ ce sl (Pw ++ xD (gk_g κ) h lo θ n τ rs) (pc + 3) os (.int (τ 1 k) :: st)) : gk_G κ ce sl (Pw ++ xD (gk_g κ) h lo θ n τ rs) pc os (.ref (θ.2.2.2.1 k) :: st) := by
  rw [← xv_side hx] at kk
  have hm := fun ci (hc : xc (τ 0 k) = ci) => xD_th (Γ := gk_g κ) (h := h) (lo := lo) (θ := θ) (n := n) (τ := τ) (rs := rs) hk Pw hc
  rcases xc_3 (τ 0 k) with e | e | e <;> rw [e] at kk
  · exact th_c_X0_198_3 C ⟨hb.1, hb.2.1, by omega⟩ (hm 3 e) hst hd kk
  · exact th_c_X0_198_4 C ⟨hb.1, hb.2.1, by omega⟩ (hm 4 e) hst hd kk
  · exact th_c_X0_198_5 C ⟨hb.1, hb.2.1, by omega⟩ (hm 5 e) hst hd kk
theorem xr_takes {κ : gk_K} {cc : ByteArray} {D MC MS ce sl pc h lo n : Nat} {θ : xA} {τ : sp_T} {rs Pw : va_W} {os : List (Option Value)} {st : List Value} {k : Nat} (C : gk_C κ cc "SawLine" D MC MS) (hb : ce ≤ MC ∧ sl ≤ MS ∧ 3 < D) (hk : k < n) (hx : xk τ k) (hst : Nat.ble (st.map fun v => v.category).sum 8 = true) (hd : decode cc pc = .ok (.invokevirtual 204, 3)) (kk : gk_G κ ce sl (Pw ++ xD (gk_g κ) h lo θ n τ rs) (pc + 3) os (.int (sp_tk τ k) :: st)) : gk_G κ ce sl (Pw ++ xD (gk_g κ) h lo θ n τ rs) pc os (.ref (θ.2.2.2.1 k) :: st) := by
  rw [← xv_takes hx] at kk
  have hm := fun ci (hc : xc (τ 0 k) = ci) => xD_th (Γ := gk_g κ) (h := h) (lo := lo) (θ := θ) (n := n) (τ := τ) (rs := rs) hk Pw hc
  rcases xc_3 (τ 0 k) with e | e | e <;> rw [e] at kk
  · exact th_c_X0_204_3 C ⟨hb.1, hb.2.1, by omega⟩ (hm 3 e) hst hd kk
  · exact th_c_X0_204_4 C ⟨hb.1, hb.2.1, by omega⟩ (hm 4 e) hst hd kk
  · exact th_c_X0_204_5 C ⟨hb.1, hb.2.1, by omega⟩ (hm 5 e) hst hd kk
theorem xr_pushes {κ : gk_K} {cc : ByteArray} {D MC MS ce sl pc h lo n : Nat} {θ : xA} {τ : sp_T} {rs Pw : va_W} {os : List (Option Value)} {st : List Value} {k : Nat} (C : gk_C κ cc "SawLine" D MC MS) (hb : ce ≤ MC ∧ sl ≤ MS ∧ 3 < D) (hk : k < n) (hx : xk τ k) (hst : Nat.ble (st.map fun v => v.category).sum 8 = true) (hd : decode cc pc = .ok (.invokevirtual 207, 3)) (kk : gk_G κ ce sl (Pw ++ xD (gk_g κ) h lo θ n τ rs) (pc + 3) os (.int (sp_pu τ k) :: st)) : gk_G κ ce sl (Pw ++ xD (gk_g κ) h lo θ n τ rs) pc os (.ref (θ.2.2.2.1 k) :: st) := by
  rw [← xv_pushes hx] at kk
  have hm := fun ci (hc : xc (τ 0 k) = ci) => xD_th (Γ := gk_g κ) (h := h) (lo := lo) (θ := θ) (n := n) (τ := τ) (rs := rs) hk Pw hc
  rcases xc_3 (τ 0 k) with e | e | e <;> rw [e] at kk
  · exact th_c_X0_207_3 C ⟨hb.1, hb.2.1, by omega⟩ (hm 3 e) hst hd kk
  · exact th_c_X0_207_4 C ⟨hb.1, hb.2.1, by omega⟩ (hm 4 e) hst hd kk
  · exact th_c_X0_207_5 C ⟨hb.1, hb.2.1, by omega⟩ (hm 5 e) hst hd kk
theorem xr_isCutting {κ : gk_K} {cc : ByteArray} {D MC MS ce sl pc h lo n : Nat} {θ : xA} {τ : sp_T} {rs Pw : va_W} {os : List (Option Value)} {st : List Value} {k : Nat} (C : gk_C κ cc "SawLine" D MC MS) (hb : ce ≤ MC ∧ sl ≤ MS ∧ 3 < D) (hk : k < n) (hx : xk τ k) (hst : Nat.ble (st.map fun v => v.category).sum 8 = true) (hd : decode cc pc = .ok (.invokevirtual 219, 3)) (kk : gk_G κ ce sl (Pw ++ xD (gk_g κ) h lo θ n τ rs) (pc + 3) os (.int (zb (0 < sp_tk τ k)) :: st)) : gk_G κ ce sl (Pw ++ xD (gk_g κ) h lo θ n τ rs) pc os (.ref (θ.2.2.2.1 k) :: st) := by
  rw [← xv_isCutting hx] at kk
  have hm := fun ci (hc : xc (τ 0 k) = ci) => xD_th (Γ := gk_g κ) (h := h) (lo := lo) (θ := θ) (n := n) (τ := τ) (rs := rs) hk Pw hc
  rcases xc_3 (τ 0 k) with e | e | e <;> rw [e] at kk
  · exact th_c_X0_219_3 C ⟨hb.1, hb.2.1, by omega⟩ (hm 3 e) hst hd kk
  · exact th_c_X0_219_4 C ⟨hb.1, hb.2.1, by omega⟩ (hm 4 e) hst hd kk
  · exact th_c_X0_219_5 C ⟨hb.1, hb.2.1, by omega⟩ (hm 5 e) hst hd kk
theorem xr_mark {κ : gk_K} {cc : ByteArray} {D MC MS ce sl pc h lo n : Nat} {θ : xA} {τ : sp_T} {rs Pw : va_W} {os : List (Option Value)} {st : List Value} {k : Nat} (C : gk_C κ cc "SawLine" D MC MS) (hb : ce ≤ MC ∧ sl ≤ MS ∧ 3 < D) (hk : k < n) (hx : xk τ k) (hst : Nat.ble (st.map fun v => v.category).sum 8 = true) (hd : decode cc pc = .ok (.invokevirtual 223, 3)) (kk : gk_G κ ce sl (Pw ++ xD (gk_g κ) h lo θ n τ rs) (pc + 3) os (.int (sp_mk τ k) :: st)) : gk_G κ ce sl (Pw ++ xD (gk_g κ) h lo θ n τ rs) pc os (.ref (θ.2.2.2.1 k) :: st) := by
  rw [← xv_mark hx] at kk
  have hm := fun ci (hc : xc (τ 0 k) = ci) => xD_th (Γ := gk_g κ) (h := h) (lo := lo) (θ := θ) (n := n) (τ := τ) (rs := rs) hk Pw hc
  rcases xc_3 (τ 0 k) with e | e | e <;> rw [e] at kk
  · exact th_c_X0_223_3 C ⟨hb.1, hb.2.1, by omega⟩ (hm 3 e) hst hd kk
  · exact th_c_X0_223_4 C ⟨hb.1, hb.2.1, by omega⟩ (hm 4 e) hst hd kk
  · exact th_c_X0_223_5 C ⟨hb.1, hb.2.1, by omega⟩ (hm 5 e) hst hd kk
