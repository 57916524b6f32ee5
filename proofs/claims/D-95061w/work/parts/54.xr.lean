set_option maxRecDepth 100000
theorem xr_wge : gk_okn ⟨"java/util/List", "get", "(I)Ljava/lang/Object;"⟩ 1 := ⟨by decide +kernel, by decide +kernel, by decide +kernel⟩
theorem xr_wsize : gk_okn ⟨"java/util/List", "size", "()I"⟩ 0 := ⟨by decide +kernel, by decide +kernel, by decide +kernel⟩
theorem xr_size {κ : gk_K} {cc : ByteArray} {D MC MS ce sl pc h lo t n : Nat} {θ : xA} {τ : sp_T} {rs Pw : va_W} {os : List (Option Value)} {st : List Value} (C : gk_C κ cc "SawLine" D MC MS) (hN0 : gk_n κ = xN t) (hb : ce ≤ MC ∧ sl ≤ MS ∧ 0 < D) (hst : Nat.ble (st.map fun v => v.category).sum 8 = true) (hd : decode cc pc = .ok (.invokeinterface 184 1, 5)) (kk : gk_G κ ce sl (Pw ++ xD (gk_g κ) h lo θ n τ rs) (pc + 5) os (.int (nI n) :: st)) : gk_G κ ce sl (Pw ++ xD (gk_g κ) h lo θ n τ rs) pc os (.ref lo :: st) :=
  gk_ro [li_o lo θ.1 θ.2.2.1 (nI n)] (fun q hq => by rw [List.mem_singleton.mp hq]; exact xD_li) (by simp) kk fun w2 kk => gk_cF (w1 := []) (w2 := w2) (As := []) (mc := 0) (ms := 0) C (fun A U H h => by rw [hN0] at h; exact h.1) (gk_M.up0 (li_J2_size _ _ lo θ.1 θ.2.2.1 (nI n))) (lw_F q606 q609 q611 q77 q613) (by decide +kernel) xr_wsize rfl (gk_bltI hb.2.2) hb.1 hb.2.1 ⟨0, 6, _, TJ2, 3, rfl, rfl⟩ hst hd (fun r wn hp => by obtain ⟨rfl, rfl⟩ := hp; exact kk)
theorem xr_wisEmpty : gk_okn ⟨"java/util/List", "isEmpty", "()Z"⟩ 0 := ⟨by decide +kernel, by decide +kernel, by decide +kernel⟩
theorem xr_isEmpty {κ : gk_K} {cc : ByteArray} {D MC MS ce sl pc h lo t n : Nat} {θ : xA} {τ : sp_T} {rs Pw : va_W} {os : List (Option Value)} {st : List Value} (C : gk_C κ cc "SawLine" D MC MS) (hN0 : gk_n κ = xN t) (hb : ce ≤ MC ∧ sl ≤ MS ∧ 0 < D) (hst : Nat.ble (st.map fun v => v.category).sum 8 = true) (hd : decode cc pc = .ok (.invokeinterface 235 1, 5)) (kk : gk_G κ ce sl (Pw ++ xD (gk_g κ) h lo θ n τ rs) (pc + 5) os (.int (zb (nI n = 0)) :: st)) : gk_G κ ce sl (Pw ++ xD (gk_g κ) h lo θ n τ rs) pc os (.ref lo :: st) :=
  gk_ro [li_o lo θ.1 θ.2.2.1 (nI n)] (fun q hq => by rw [List.mem_singleton.mp hq]; exact xD_li) (by simp) kk fun w2 kk => gk_cF (w1 := []) (w2 := w2) (As := []) (mc := 0) (ms := 0) C (fun A U H h => by rw [hN0] at h; exact h.1) (gk_M.up0 (li_J2_isEmpty _ _ lo θ.1 θ.2.2.1 (nI n))) (lw_F q701 q704 q706 q77 q708) (by decide +kernel) xr_wisEmpty rfl (gk_bltI hb.2.2) hb.1 hb.2.1 ⟨0, 6, _, TJ2, 3, rfl, rfl⟩ hst hd (fun r wn hp => by obtain ⟨rfl, rfl⟩ := hp; exact kk)
theorem xr_get {κ : gk_K} {cc : ByteArray} {D MC MS ce sl pc h lo t n : Nat} {θ : xA} {τ : sp_T} {rs Pw : va_W} {os : List (Option Value)} {st : List Value} {k : Nat} (C : gk_C κ cc "SawLine" D MC MS) (hN0 : gk_n κ = xN t) (hb : ce ≤ MC ∧ sl ≤ MS ∧ 2 < D) (hk : k < n) (hn : n ≤ 8) (hv : ¬ θ.2.1 = true) (hst : Nat.ble (st.map fun v => v.category).sum 8 = true) (hd : decode cc pc = .ok (.invokeinterface 191 2, 5)) (kk : gk_G κ ce sl (Pw ++ xD (gk_g κ) h lo θ n τ rs) (pc + 5) os (.ref (θ.2.2.2.1 k) :: st)) : gk_G κ ce sl (Pw ++ xD (gk_g κ) h lo θ n τ rs) pc os (.int (nI k) :: .ref lo :: st) := by
  refine gk_ro2 (a := lo) (b := θ.1) (x := (6, [.int θ.2.2.1, .ref θ.1, .int (nI n)])) (y := ((gk_g κ).2 3, 10, gk_r (xe_f θ.2.2.2.1 n))) (fun q hq => ?_) kk fun w2 kk => gk_cF (w1 := []) (w2 := w2) (As := [.int (nI k)]) (mc := 0) (ms := 0) C (fun A U H h => by rw [hN0] at h; exact h.1) (gk_M.up0 (li_J2_get _ _ lo θ.1 θ.2.2.1 n (xe_f θ.2.2.2.1 n) k (θ.2.2.2.1 k) hk (by omega) (if_pos hk))) (lw_F q615 q618 q620 q77 q622) (by decide +kernel) xr_wge rfl (gk_bltI hb.2.2) hb.1 hb.2.1 ⟨0, 6, _, TJ2, 3, rfl, rfl⟩ hst hd (fun r wn hp => by obtain ⟨rfl, rfl⟩ := hp; exact kk)
  rcases List.mem_cons.mp hq with rfl | h
  · exact xD_li
  · rw [List.mem_singleton.mp h]; exact xD_la hv
theorem xr_cast {κ : gk_K} {cc : ByteArray} {D MC MS ce sl pc h lo t n : Nat} {θ : xA} {τ : sp_T} {rs Pw : va_W} {os : List (Option Value)} {st : List Value} {k : Nat} (C : gk_C κ cc "SawLine" D MC MS) (hN0 : gk_n κ = xN t) (hk : k < n) (hd : decode cc pc = .ok (.checkcast 113, 3)) (kk : gk_G κ ce sl (Pw ++ xD (gk_g κ) h lo θ n τ rs) (pc + 3) os (.ref (θ.2.2.2.1 k) :: st)) : gk_G κ ce sl (Pw ++ xD (gk_g κ) h lo θ n τ rs) pc os (.ref (θ.2.2.2.1 k) :: st) := by
  have he := xD_o (Γ := gk_g κ) (h := h) (lo := lo) (θ := θ) (τ := τ) (rs := rs) hk Pw
  unfold xt_o at he
  generalize hc : xc (τ 0 k) = ci at he
  rcases xc_3 (τ 0 k) with e | e | e <;> rw [hc] at e <;> subst e
  · exact gk_castS C q483 he rfl hd kk
  · exact gk_castY C (fun A U H h => by rw [hN0] at h; exact h.1) q483 he rfl (by decide +kernel) hd kk
  · exact gk_castY C (fun A U H h => by rw [hN0] at h; exact h.1) q483 he rfl (by decide +kernel) hd kk
theorem xr_is {κ : gk_K} {cc : ByteArray} {D MC MS ce sl pc h lo t n : Nat} {θ : xA} {τ : sp_T} {rs Pw : va_W} {os : List (Option Value)} {st : List Value} {k : Nat} (C : gk_C κ cc "SawLine" D MC MS) (hN0 : gk_n κ = xN t) (hk : k < n) (hd : decode cc pc = .ok (.getfield 201, 3)) (kk : gk_G κ ce sl (Pw ++ xD (gk_g κ) h lo θ n τ rs) (pc + 3) os (.ref (θ.2.2.2.2 k) :: st)) : gk_G κ ce sl (Pw ++ xD (gk_g κ) h lo θ n τ rs) pc os (.ref (θ.2.2.2.1 k) :: st) := by
  have he := xD_o (Γ := gk_g κ) (h := h) (lo := lo) (θ := θ) (τ := τ) (rs := rs) hk Pw
  unfold xt_o at he
  generalize hc : xc (τ 0 k) = ci at he
  rcases xc_3 (τ 0 k) with e | e | e <;> rw [hc] at e <;> subst e
  · exact gk_getN C (fun A U H h => by rw [hN0] at h; exact h.1) in_X3 _ he rfl 1 (by decide) (host := "SawLine") (by decide +kernel) rfl rfl hd kk
  · exact gk_getN C (fun A U H h => by rw [hN0] at h; exact h.1) in_X4 _ he rfl 1 (by decide) (host := "SawLine") (by decide +kernel) rfl rfl hd kk
  · exact gk_getN C (fun A U H h => by rw [hN0] at h; exact h.1) in_X5 _ he rfl 1 (by decide) (host := "SawLine") (by decide +kernel) rfl rfl hd kk
theorem xr_ld {κ : gk_K} {cc : ByteArray} {D MC MS ce sl pc h lo n : Nat} {θ : xA} {τ : sp_T} {rs Pw : va_W} {os : List (Option Value)} {st : List Value} {k j : Nat} {i : Int32} (C : gk_C κ cc "SawLine" D MC MS) (hk : k < n) (hi : i = nI j) (hj : j < 3) (hd : decode cc pc = .ok (.iaload, 1)) (kk : gk_G κ ce sl (Pw ++ xD (gk_g κ) h lo θ n τ rs) (pc + 1) os (.int (τ (j + 2) k) :: st)) : gk_G κ ce sl (Pw ++ xD (gk_g κ) h lo θ n τ rs) pc os (.int i :: .ref (θ.2.2.2.2 k) :: st) := by
  refine gk_iald C _ (xD_a hk Pw) rfl j hi hj rfl hd ?_
  have hv : xt_f τ k j = τ (j + 2) k := by
    rcases j with _ | _ | _ | j
    · rfl
    · rfl
    · rfl
    · omega
  rw [hv]; exact kk
theorem xr_st {κ : gk_K} {cc : ByteArray} {D MC MS ce sl pc h lo n : Nat} {θ : xA} {τ : sp_T} {rs Pw : va_W} {os : List (Option Value)} {st : List Value} {k j : Nat} {i v : Int32} (C : gk_C κ cc "SawLine" D MC MS) (hk : k < n) (hi : i = nI j) (hj : j < 3) (hd : decode cc pc = .ok (.iastore, 1)) (kk : gk_G κ ce sl (Pw ++ xD (gk_g κ) h lo θ n (sp_ch τ k j v) rs) (pc + 1) os st) : gk_G κ ce sl (Pw ++ xD (gk_g κ) h lo θ n τ rs) pc os (.int v :: .int i :: .ref (θ.2.2.2.2 k) :: st) := by
  refine gk_iast C _ (xD_a hk Pw) rfl j hi hj rfl hd ?_
  have hf : upd (xt_f τ k) j v = xt_f (sp_ch τ k j v) k := by
    unfold xt_f sp_ch
    rcases j with _ | _ | _ | j
    · rw [th_is0]; simp
    · rw [th_is1]; simp
    · rw [th_is2]; simp
    · omega
  refine gk_eqw ?_ kk
  rw [← xD_s (τ := τ) (τ' := sp_ch τ k j v) hk Pw (fun x => if_neg (by omega)) (fun x => if_neg (by omega)) (fun a b hb => if_neg (fun z => hb z.2)), hf]
  rfl
