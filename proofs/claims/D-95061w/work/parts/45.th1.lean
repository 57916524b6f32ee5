set_option maxRecDepth 100000
/-! TEETH: an object of class 3 (Tooth), 4 (Bent) or 5 (Hooked) and its three numbers -/
def th_l (h b : Nat) (nm sd : Int32) (ci : Nat) : List Value := match ci with
  | 3 => [.int nm, .ref b, .ref h]
  | 4 => [.int nm, .ref b, .ref h, .int sd, .ref h]
  | _ => [.int nm, .ref b, .ref h, .int sd, .ref h, .ref h]
abbrev th_W (Γ : gk_E) (h a b : Nat) (nm sd : Int32) (ci : Nat) (f : Nat → Int32) : va_W := [(a, .inr (ci, th_l h b nm sd ci)), (b, .inl (Γ.2 0, 3, .inl f))]
def th_kd (ci : Nat) : Int32 := match ci with
  | 3 => 0
  | 4 => 1
  | _ => 2
def th_sd (ci : Nat) (sd : Int32) : Int32 := match ci with
  | 3 => 0
  | _ => sd
def th_tk (ci : Nat) (f : Nat → Int32) : Int32 := match ci with
  | 5 => if 0 < f 1 * f 2 then f 1 * f 2 + 2 else 0
  | _ => f 1 * f 2
def th_pu (ci : Nat) (sd : Int32) (f : Nat → Int32) : Int32 := match ci with
  | 3 => 0
  | _ => th_tk ci f * (th_sd ci sd * f 0)
theorem gk_bltI {a b : Nat} (h : a < b) : Nat.blt a b = true := Nat.ble_eq_true_of_le h
theorem gk_ro2 {κ : gk_K} {ce sl pc ce' sl' pc' : Nat} {ws : va_W} {os os' : List (Option Value)} {st st' : List Value} {a b : Nat} {x : Nat × List Value} {y : ClassId × vp_A} (hm : ∀ q ∈ ([(a, .inr x), (b, .inl y)] : va_W), q ∈ ws) (kk : gk_G κ ce' sl' ws pc' os' st') (k : ∀ w2 : va_W, gk_G κ ce' sl' (([(a, .inr x), (b, .inl y)] : va_W) ++ w2) pc' os' st' → gk_G κ ce sl (([(a, .inr x), (b, .inl y)] : va_W) ++ w2) pc os st) : gk_G κ ce sl ws pc os st := by
  refine gk_nodup fun hd => gk_ro _ hm ?_ kk k
  have hab : a ≠ b := fun e => by
    have := gk_inj hd (hm _ List.mem_cons_self) (hm _ (List.mem_cons_of_mem _ List.mem_cons_self)) e
    cases this
  simp [hab]
set_option maxHeartbeats 1000000 in
theorem th_X3_kind_3 (l : Launch) (Γ : gk_E) (h a b : Nat) (nm sd : Int32) (f : Nat → Int32) : gk_M gk_N0 l yX3_kind (Cond.code yX3_kind cX3_kind 1 (some .int)) 0 0 0 [.ref a] Γ (th_W Γ h a b nm sd 3 f) (fun r ws => r = some (.int (th_kd 3)) ∧ ws = th_W Γ h a b nm sd 3 f) := by
  refine gk_M.intro gk_N0_ok (by decide) [some (.ref a)] rfl rfl rfl ?_
  intro κ hl hg hN0 C E
  subst hl hg
  have C : gk_C κ cX3_kind "SawLine$Tooth" 0 0 0 := C
  refine gk_iconst 0 C dX3_kind_0 rfl ?_
  exact gk_iret C E dX3_kind_1 rfl rfl ⟨rfl, rfl⟩
set_option maxHeartbeats 1000000 in
theorem th_X4_kind_4 (l : Launch) (Γ : gk_E) (h a b : Nat) (nm sd : Int32) (f : Nat → Int32) : gk_M gk_N0 l yX4_kind (Cond.code yX4_kind cX4_kind 1 (some .int)) 0 0 0 [.ref a] Γ (th_W Γ h a b nm sd 4 f) (fun r ws => r = some (.int (th_kd 4)) ∧ ws = th_W Γ h a b nm sd 4 f) := by
  refine gk_M.intro gk_N0_ok (by decide) [some (.ref a)] rfl rfl rfl ?_
  intro κ hl hg hN0 C E
  subst hl hg
  have C : gk_C κ cX4_kind "SawLine$Bent" 0 0 0 := C
  refine gk_iconst 1 C dX4_kind_0 rfl ?_
  exact gk_iret C E dX4_kind_1 rfl rfl ⟨rfl, rfl⟩
set_option maxHeartbeats 1000000 in
theorem th_X5_kind_5 (l : Launch) (Γ : gk_E) (h a b : Nat) (nm sd : Int32) (f : Nat → Int32) : gk_M gk_N0 l yX5_kind (Cond.code yX5_kind cX5_kind 1 (some .int)) 0 0 0 [.ref a] Γ (th_W Γ h a b nm sd 5 f) (fun r ws => r = some (.int (th_kd 5)) ∧ ws = th_W Γ h a b nm sd 5 f) := by
  refine gk_M.intro gk_N0_ok (by decide) [some (.ref a)] rfl rfl rfl ?_
  intro κ hl hg hN0 C E
  subst hl hg
  have C : gk_C κ cX5_kind "SawLine$Hooked" 0 0 0 := C
  refine gk_iconst 2 C dX5_kind_0 rfl ?_
  exact gk_iret C E dX5_kind_1 rfl rfl ⟨rfl, rfl⟩
set_option maxHeartbeats 1000000 in
theorem th_X3_side_3 (l : Launch) (Γ : gk_E) (h a b : Nat) (nm sd : Int32) (f : Nat → Int32) : gk_M gk_N0 l yX3_side (Cond.code yX3_side cX3_side 1 (some .int)) 0 0 0 [.ref a] Γ (th_W Γ h a b nm sd 3 f) (fun r ws => r = some (.int (th_sd 3 sd)) ∧ ws = th_W Γ h a b nm sd 3 f) := by
  refine gk_M.intro gk_N0_ok (by decide) [some (.ref a)] rfl rfl rfl ?_
  intro κ hl hg hN0 C E
  subst hl hg
  have C : gk_C κ cX3_side "SawLine$Tooth" 0 0 0 := C
  refine gk_iconst 0 C dX3_side_0 rfl ?_
  exact gk_iret C E dX3_side_1 rfl rfl ⟨rfl, rfl⟩
set_option maxHeartbeats 1000000 in
theorem th_X4_side_4 (l : Launch) (Γ : gk_E) (h a b : Nat) (nm sd : Int32) (f : Nat → Int32) : gk_M gk_N0 l yX4_side (Cond.code yX4_side cX4_side 1 (some .int)) 0 0 0 [.ref a] Γ (th_W Γ h a b nm sd 4 f) (fun r ws => r = some (.int (th_sd 4 sd)) ∧ ws = th_W Γ h a b nm sd 4 f) := by
  refine gk_M.intro gk_N0_ok (by decide) [some (.ref a)] rfl rfl rfl ?_
  intro κ hl hg hN0 C E
  subst hl hg
  have C : gk_C κ cX4_side "SawLine$Bent" 0 0 0 := C
  refine gk_aload_n C dX4_side_0 rfl ?_
  refine gk_get C in_X4 0 rfl rfl 3 (by decide) q506 rfl rfl dX4_side_1 ?_
  exact gk_iret C E dX4_side_4 rfl rfl ⟨rfl, rfl⟩
set_option maxHeartbeats 1000000 in
theorem th_X4_side_5 (l : Launch) (Γ : gk_E) (h a b : Nat) (nm sd : Int32) (f : Nat → Int32) : gk_M gk_N0 l yX4_side (Cond.code yX4_side cX4_side 1 (some .int)) 0 0 0 [.ref a] Γ (th_W Γ h a b nm sd 5 f) (fun r ws => r = some (.int (th_sd 5 sd)) ∧ ws = th_W Γ h a b nm sd 5 f) := by
  refine gk_M.intro gk_N0_ok (by decide) [some (.ref a)] rfl rfl rfl ?_
  intro κ hl hg hN0 C E
  subst hl hg
  have C : gk_C κ cX4_side "SawLine$Bent" 0 0 0 := C
  refine gk_aload_n C dX4_side_0 rfl ?_
  refine gk_get C in_X5 0 rfl rfl 3 (by decide) q506 rfl rfl dX4_side_1 ?_
  exact gk_iret C E dX4_side_4 rfl rfl ⟨rfl, rfl⟩
set_option maxHeartbeats 1000000 in
theorem th_X3_takes_3 (l : Launch) (Γ : gk_E) (h a b : Nat) (nm sd : Int32) (f : Nat → Int32) : gk_M gk_N0 l yX3_takes (Cond.code yX3_takes cX3_takes 1 (some .int)) 0 0 0 [.ref a] Γ (th_W Γ h a b nm sd 3 f) (fun r ws => r = some (.int (th_tk 3 f)) ∧ ws = th_W Γ h a b nm sd 3 f) := by
  refine gk_M.intro gk_N0_ok (by decide) [some (.ref a)] rfl rfl rfl ?_
  intro κ hl hg hN0 C E
  subst hl hg
  have C : gk_C κ cX3_takes "SawLine$Tooth" 0 0 0 := C
  refine gk_aload_n C dX3_takes_0 rfl ?_
  refine gk_get C in_X3 0 rfl rfl 1 (by decide) q490 rfl rfl dX3_takes_1 ?_
  refine gk_iconst 1 C dX3_takes_4 rfl ?_
  refine gk_iald C 1 rfl rfl 1 rfl (by decide) rfl dX3_takes_5 ?_
  refine gk_aload_n C dX3_takes_6 rfl ?_
  refine gk_get C in_X3 0 rfl rfl 1 (by decide) q490 rfl rfl dX3_takes_7 ?_
  refine gk_iconst 2 C dX3_takes_10 rfl ?_
  refine gk_iald C 1 rfl rfl 2 rfl (by decide) rfl dX3_takes_11 ?_
  refine gk_imul C dX3_takes_12 ?_
  exact gk_iret C E dX3_takes_13 rfl rfl ⟨rfl, rfl⟩
set_option maxHeartbeats 1000000 in
theorem th_X3_takes_4 (l : Launch) (Γ : gk_E) (h a b : Nat) (nm sd : Int32) (f : Nat → Int32) : gk_M gk_N0 l yX3_takes (Cond.code yX3_takes cX3_takes 1 (some .int)) 0 0 0 [.ref a] Γ (th_W Γ h a b nm sd 4 f) (fun r ws => r = some (.int (th_tk 4 f)) ∧ ws = th_W Γ h a b nm sd 4 f) := by
  refine gk_M.intro gk_N0_ok (by decide) [some (.ref a)] rfl rfl rfl ?_
  intro κ hl hg hN0 C E
  subst hl hg
  have C : gk_C κ cX3_takes "SawLine$Tooth" 0 0 0 := C
  refine gk_aload_n C dX3_takes_0 rfl ?_
  refine gk_get C in_X4 0 rfl rfl 1 (by decide) q490 rfl rfl dX3_takes_1 ?_
  refine gk_iconst 1 C dX3_takes_4 rfl ?_
  refine gk_iald C 1 rfl rfl 1 rfl (by decide) rfl dX3_takes_5 ?_
  refine gk_aload_n C dX3_takes_6 rfl ?_
  refine gk_get C in_X4 0 rfl rfl 1 (by decide) q490 rfl rfl dX3_takes_7 ?_
  refine gk_iconst 2 C dX3_takes_10 rfl ?_
  refine gk_iald C 1 rfl rfl 2 rfl (by decide) rfl dX3_takes_11 ?_
  refine gk_imul C dX3_takes_12 ?_
  exact gk_iret C E dX3_takes_13 rfl rfl ⟨rfl, rfl⟩
set_option maxHeartbeats 1000000 in
theorem th_X3_takes_5 (l : Launch) (Γ : gk_E) (h a b : Nat) (nm sd : Int32) (f : Nat → Int32) : gk_M gk_N0 l yX3_takes (Cond.code yX3_takes cX3_takes 1 (some .int)) 0 0 0 [.ref a] Γ (th_W Γ h a b nm sd 5 f) (fun r ws => r = some (.int (f 1 * f 2)) ∧ ws = th_W Γ h a b nm sd 5 f) := by
  refine gk_M.intro gk_N0_ok (by decide) [some (.ref a)] rfl rfl rfl ?_
  intro κ hl hg hN0 C E
  subst hl hg
  have C : gk_C κ cX3_takes "SawLine$Tooth" 0 0 0 := C
  refine gk_aload_n C dX3_takes_0 rfl ?_
  refine gk_get C in_X5 0 rfl rfl 1 (by decide) q490 rfl rfl dX3_takes_1 ?_
  refine gk_iconst 1 C dX3_takes_4 rfl ?_
  refine gk_iald C 1 rfl rfl 1 rfl (by decide) rfl dX3_takes_5 ?_
  refine gk_aload_n C dX3_takes_6 rfl ?_
  refine gk_get C in_X5 0 rfl rfl 1 (by decide) q490 rfl rfl dX3_takes_7 ?_
  refine gk_iconst 2 C dX3_takes_10 rfl ?_
  refine gk_iald C 1 rfl rfl 2 rfl (by decide) rfl dX3_takes_11 ?_
  refine gk_imul C dX3_takes_12 ?_
  exact gk_iret C E dX3_takes_13 rfl rfl ⟨rfl, rfl⟩
set_option maxHeartbeats 1000000 in
theorem th_X5_takes_5 (l : Launch) (Γ : gk_E) (h a b : Nat) (nm sd : Int32) (f : Nat → Int32) : gk_M gk_N0 l yX5_takes (Cond.code yX5_takes cX5_takes 2 (some .int)) 1 0 0 [.ref a] Γ (th_W Γ h a b nm sd 5 f) (fun r ws => r = some (.int (th_tk 5 f)) ∧ ws = th_W Γ h a b nm sd 5 f) := by
  refine gk_M.intro gk_N0_ok (by decide) [some (.ref a), none] rfl rfl rfl ?_
  intro κ hl hg hN0 C E
  subst hl hg
  have C : gk_C κ cX5_takes "SawLine$Hooked" 1 0 0 := C
  refine gk_aload_n C dX5_takes_0 rfl ?_
  refine gk_cSX (w1 := []) (w2 := []) (As := []) (mc := 0) (ms := 0) (x := ⟨"SawLine$Bent", "takes", "()I"⟩) C (gk_M.up0 (th_X3_takes_5 _ _ h a b nm sd f)) q661 q662 rfl q530 q515 q654 q90 q664 (by decide) (by decide +kernel) rfl rfl (by decide) (by decide) ⟨0, 5, _, TX5, 6, rfl, rfl⟩ rfl dX5_takes_1 (fun r wn hp => ?_)
  obtain ⟨rfl, rfl⟩ := hp
  refine gk_istore_n C dX5_takes_4 rfl rfl ?_
  refine gk_iload_n C dX5_takes_5 rfl ?_
  refine gk_if_le 15 C dX5_takes_6 (by decide) (fun c6 => ?_) (fun c6 => ?_)
  · have hv : th_tk 5 f = 0 := if_neg (Int32.not_lt.mpr c6)
    refine gk_iconst 0 C dX5_takes_15 rfl ?_
    exact gk_iret C E dX5_takes_16 rfl rfl ⟨by rw [hv], rfl⟩
  · have hv : th_tk 5 f = f 1 * f 2 + 2 := if_pos (Int32.not_le.mp c6)
    refine gk_iload_n C dX5_takes_9 rfl ?_
    refine gk_iconst 2 C dX5_takes_10 rfl ?_
    refine gk_iadd C dX5_takes_11 ?_
    refine gk_goto 16 C dX5_takes_12 (by decide) ?_
    exact gk_iret C E dX5_takes_16 rfl rfl ⟨by rw [hv], rfl⟩
theorem th_w_X3_21_3 : gk_cu "SawLine$Tooth" 21 "SawLine$Tooth" "SawLine$Tooth" ⟨"SawLine$Tooth", "takes", "()I"⟩ yX3_takes cX3_takes 1 (some .int) 0 := ⟨Or.inl ⟨lw_U q720 q656 q655 q654 q90 q664, rfl⟩, ⟨by decide +kernel, by decide +kernel, by decide +kernel⟩, rfl⟩
theorem th_c_X3_21_3 {κ : gk_K} {cc : ByteArray} {D MC MS ce sl pc : Nat} {ws : va_W} {os : List (Option Value)} {st : List Value} {h a b : Nat} {nm sd : Int32} {f : Nat → Int32} (C : gk_C κ cc "SawLine$Tooth" D MC MS) (hb : ce ≤ MC ∧ sl ≤ MS ∧ 0 < D) (hm : ∀ q ∈ th_W (gk_g κ) h a b nm sd 3 f, q ∈ ws) (hst : Nat.ble (st.map fun v => v.category).sum 8 = true) (hd : decode cc pc = .ok (.invokevirtual 21, 3)) (kk : gk_G κ ce sl ws (pc + 3) os (.int (th_tk 3 f) :: st)) : gk_G κ ce sl ws pc os (.ref a :: st) :=
  gk_ro2 hm kk fun w2 kk => gk_cU (w1 := []) (w2 := w2) (As := []) (mc := 0) (ms := 0) C (gk_M.up0 (th_X3_takes_3 (gk_l κ) (gk_g κ) h a b nm sd f)) th_w_X3_21_3 (gk_bltI hb.2.2) hb.1 hb.2.1 ⟨0, 3, _, TX3, 3, rfl, rfl⟩ hst hd (fun r wn hp => by obtain ⟨rfl, rfl⟩ := hp; exact kk)
theorem th_w_X3_25_3 : gk_cu "SawLine$Tooth" 25 "SawLine$Tooth" "SawLine$Tooth" ⟨"SawLine$Tooth", "side", "()I"⟩ yX3_side cX3_side 1 (some .int) 0 := ⟨Or.inl ⟨lw_U q682 q647 q646 q645 q90 q652, rfl⟩, ⟨by decide +kernel, by decide +kernel, by decide +kernel⟩, rfl⟩
theorem th_c_X3_25_3 {κ : gk_K} {cc : ByteArray} {D MC MS ce sl pc : Nat} {ws : va_W} {os : List (Option Value)} {st : List Value} {h a b : Nat} {nm sd : Int32} {f : Nat → Int32} (C : gk_C κ cc "SawLine$Tooth" D MC MS) (hb : ce ≤ MC ∧ sl ≤ MS ∧ 0 < D) (hm : ∀ q ∈ th_W (gk_g κ) h a b nm sd 3 f, q ∈ ws) (hst : Nat.ble (st.map fun v => v.category).sum 8 = true) (hd : decode cc pc = .ok (.invokevirtual 25, 3)) (kk : gk_G κ ce sl ws (pc + 3) os (.int (th_sd 3 sd) :: st)) : gk_G κ ce sl ws pc os (.ref a :: st) :=
  gk_ro2 hm kk fun w2 kk => gk_cU (w1 := []) (w2 := w2) (As := []) (mc := 0) (ms := 0) C (gk_M.up0 (th_X3_side_3 (gk_l κ) (gk_g κ) h a b nm sd f)) th_w_X3_25_3 (gk_bltI hb.2.2) hb.1 hb.2.1 ⟨0, 3, _, TX3, 3, rfl, rfl⟩ hst hd (fun r wn hp => by obtain ⟨rfl, rfl⟩ := hp; exact kk)
theorem th_w_X3_21_4 : gk_cu "SawLine$Tooth" 21 "SawLine$Bent" "SawLine$Tooth" ⟨"SawLine$Tooth", "takes", "()I"⟩ yX3_takes cX3_takes 1 (some .int) 0 := ⟨Or.inl ⟨lw_U q720 q656 q657 q654 q90 q664, rfl⟩, ⟨by decide +kernel, by decide +kernel, by decide +kernel⟩, rfl⟩
theorem th_c_X3_21_4 {κ : gk_K} {cc : ByteArray} {D MC MS ce sl pc : Nat} {ws : va_W} {os : List (Option Value)} {st : List Value} {h a b : Nat} {nm sd : Int32} {f : Nat → Int32} (C : gk_C κ cc "SawLine$Tooth" D MC MS) (hb : ce ≤ MC ∧ sl ≤ MS ∧ 0 < D) (hm : ∀ q ∈ th_W (gk_g κ) h a b nm sd 4 f, q ∈ ws) (hst : Nat.ble (st.map fun v => v.category).sum 8 = true) (hd : decode cc pc = .ok (.invokevirtual 21, 3)) (kk : gk_G κ ce sl ws (pc + 3) os (.int (th_tk 4 f) :: st)) : gk_G κ ce sl ws pc os (.ref a :: st) :=
  gk_ro2 hm kk fun w2 kk => gk_cU (w1 := []) (w2 := w2) (As := []) (mc := 0) (ms := 0) C (gk_M.up0 (th_X3_takes_4 (gk_l κ) (gk_g κ) h a b nm sd f)) th_w_X3_21_4 (gk_bltI hb.2.2) hb.1 hb.2.1 ⟨0, 4, _, TX4, 5, rfl, rfl⟩ hst hd (fun r wn hp => by obtain ⟨rfl, rfl⟩ := hp; exact kk)
theorem th_w_X3_25_4 : gk_cu "SawLine$Tooth" 25 "SawLine$Bent" "SawLine$Tooth" ⟨"SawLine$Tooth", "side", "()I"⟩ yX4_side cX4_side 1 (some .int) 0 := ⟨Or.inr ⟨lw_O q682 q647 q645 q648 q649 q91 q650, _, _, _, q652⟩, ⟨by decide +kernel, by decide +kernel, by decide +kernel⟩, rfl⟩
theorem th_c_X3_25_4 {κ : gk_K} {cc : ByteArray} {D MC MS ce sl pc : Nat} {ws : va_W} {os : List (Option Value)} {st : List Value} {h a b : Nat} {nm sd : Int32} {f : Nat → Int32} (C : gk_C κ cc "SawLine$Tooth" D MC MS) (hb : ce ≤ MC ∧ sl ≤ MS ∧ 0 < D) (hm : ∀ q ∈ th_W (gk_g κ) h a b nm sd 4 f, q ∈ ws) (hst : Nat.ble (st.map fun v => v.category).sum 8 = true) (hd : decode cc pc = .ok (.invokevirtual 25, 3)) (kk : gk_G κ ce sl ws (pc + 3) os (.int (th_sd 4 sd) :: st)) : gk_G κ ce sl ws pc os (.ref a :: st) :=
  gk_ro2 hm kk fun w2 kk => gk_cU (w1 := []) (w2 := w2) (As := []) (mc := 0) (ms := 0) C (gk_M.up0 (th_X4_side_4 (gk_l κ) (gk_g κ) h a b nm sd f)) th_w_X3_25_4 (gk_bltI hb.2.2) hb.1 hb.2.1 ⟨0, 4, _, TX4, 5, rfl, rfl⟩ hst hd (fun r wn hp => by obtain ⟨rfl, rfl⟩ := hp; exact kk)
theorem th_w_X3_21_5 : gk_cu "SawLine$Tooth" 21 "SawLine$Hooked" "SawLine$Tooth" ⟨"SawLine$Tooth", "takes", "()I"⟩ yX5_takes cX5_takes 2 (some .int) 0 := ⟨Or.inr ⟨lw_O q720 q656 q654 q658 q659 q92 q660, _, _, _, q664⟩, ⟨by decide +kernel, by decide +kernel, by decide +kernel⟩, rfl⟩
theorem th_c_X3_21_5 {κ : gk_K} {cc : ByteArray} {D MC MS ce sl pc : Nat} {ws : va_W} {os : List (Option Value)} {st : List Value} {h a b : Nat} {nm sd : Int32} {f : Nat → Int32} (C : gk_C κ cc "SawLine$Tooth" D MC MS) (hb : ce ≤ MC ∧ sl ≤ MS ∧ 1 < D) (hm : ∀ q ∈ th_W (gk_g κ) h a b nm sd 5 f, q ∈ ws) (hst : Nat.ble (st.map fun v => v.category).sum 8 = true) (hd : decode cc pc = .ok (.invokevirtual 21, 3)) (kk : gk_G κ ce sl ws (pc + 3) os (.int (th_tk 5 f) :: st)) : gk_G κ ce sl ws pc os (.ref a :: st) :=
  gk_ro2 hm kk fun w2 kk => gk_cU (w1 := []) (w2 := w2) (As := []) (mc := 0) (ms := 0) C (gk_M.up0 (th_X5_takes_5 (gk_l κ) (gk_g κ) h a b nm sd f)) th_w_X3_21_5 (gk_bltI hb.2.2) hb.1 hb.2.1 ⟨0, 5, _, TX5, 6, rfl, rfl⟩ hst hd (fun r wn hp => by obtain ⟨rfl, rfl⟩ := hp; exact kk)
theorem th_w_X3_25_5 : gk_cu "SawLine$Tooth" 25 "SawLine$Hooked" "SawLine$Tooth" ⟨"SawLine$Tooth", "side", "()I"⟩ yX4_side cX4_side 1 (some .int) 0 := ⟨Or.inr ⟨lw_O q682 q647 q645 q651 q649 q91 q650, _, _, _, q652⟩, ⟨by decide +kernel, by decide +kernel, by decide +kernel⟩, rfl⟩
theorem th_c_X3_25_5 {κ : gk_K} {cc : ByteArray} {D MC MS ce sl pc : Nat} {ws : va_W} {os : List (Option Value)} {st : List Value} {h a b : Nat} {nm sd : Int32} {f : Nat → Int32} (C : gk_C κ cc "SawLine$Tooth" D MC MS) (hb : ce ≤ MC ∧ sl ≤ MS ∧ 0 < D) (hm : ∀ q ∈ th_W (gk_g κ) h a b nm sd 5 f, q ∈ ws) (hst : Nat.ble (st.map fun v => v.category).sum 8 = true) (hd : decode cc pc = .ok (.invokevirtual 25, 3)) (kk : gk_G κ ce sl ws (pc + 3) os (.int (th_sd 5 sd) :: st)) : gk_G κ ce sl ws pc os (.ref a :: st) :=
  gk_ro2 hm kk fun w2 kk => gk_cU (w1 := []) (w2 := w2) (As := []) (mc := 0) (ms := 0) C (gk_M.up0 (th_X4_side_5 (gk_l κ) (gk_g κ) h a b nm sd f)) th_w_X3_25_5 (gk_bltI hb.2.2) hb.1 hb.2.1 ⟨0, 5, _, TX5, 6, rfl, rfl⟩ hst hd (fun r wn hp => by obtain ⟨rfl, rfl⟩ := hp; exact kk)
set_option maxHeartbeats 1000000 in
theorem th_X3_isCutting_3 (l : Launch) (Γ : gk_E) (h a b : Nat) (nm sd : Int32) (f : Nat → Int32) : gk_M gk_N0 l yX3_isCutting (Cond.code yX3_isCutting cX3_isCutting 1 (some .boolean)) 2 0 0 [.ref a] Γ (th_W Γ h a b nm sd 3 f) (fun r ws => r = some (.int (zb (0 < th_tk 3 f))) ∧ ws = th_W Γ h a b nm sd 3 f) := by
  refine gk_M.intro gk_N0_ok (by decide) [some (.ref a)] rfl rfl rfl ?_
  intro κ hl hg hN0 C E
  subst hl hg
  have C : gk_C κ cX3_isCutting "SawLine$Tooth" 2 0 0 := C
  refine gk_aload_n C dX3_isCutting_0 rfl ?_
  refine th_c_X3_21_3 C (by decide) (fun q h => h) rfl dX3_isCutting_1 ?_
  refine gk_if_le 11 C dX3_isCutting_4 (by decide) (fun c4 => ?_) (fun c4 => ?_)
  · refine gk_iconst 0 C dX3_isCutting_11 rfl ?_
    exact gk_zret C E dX3_isCutting_12 rfl rfl (by first | exact narrow_b1 | exact narrow_b0 | exact zb_nb) ⟨by first | exact vi (zb_f (Int32.not_lt.mpr c4)).symm | exact vi (zb_t (Int32.not_le.mp c4)).symm, rfl⟩
  · refine gk_iconst 1 C dX3_isCutting_7 rfl ?_
    refine gk_goto 12 C dX3_isCutting_8 (by decide) ?_
    exact gk_zret C E dX3_isCutting_12 rfl rfl (by first | exact narrow_b1 | exact narrow_b0 | exact zb_nb) ⟨by first | exact vi (zb_f (Int32.not_lt.mpr c4)).symm | exact vi (zb_t (Int32.not_le.mp c4)).symm, rfl⟩
set_option maxHeartbeats 1000000 in
theorem th_X3_mark_3 (l : Launch) (Γ : gk_E) (h a b : Nat) (nm sd : Int32) (f : Nat → Int32) : gk_M gk_N0 l yX3_mark (Cond.code yX3_mark cX3_mark 1 (some .int)) 1 0 0 [.ref a] Γ (th_W Γ h a b nm sd 3 f) (fun r ws => r = some (.int (th_sd 3 sd * f 0)) ∧ ws = th_W Γ h a b nm sd 3 f) := by
  refine gk_M.intro gk_N0_ok (by decide) [some (.ref a)] rfl rfl rfl ?_
  intro κ hl hg hN0 C E
  subst hl hg
  have C : gk_C κ cX3_mark "SawLine$Tooth" 1 0 0 := C
  refine gk_aload_n C dX3_mark_0 rfl ?_
  refine th_c_X3_25_3 C (by decide) (fun q h => h) rfl dX3_mark_1 ?_
  refine gk_aload_n C dX3_mark_4 rfl ?_
  refine gk_get C in_X3 0 rfl rfl 1 (by decide) q490 rfl rfl dX3_mark_5 ?_
  refine gk_iconst 0 C dX3_mark_8 rfl ?_
  refine gk_iald C 1 rfl rfl 0 rfl (by decide) rfl dX3_mark_9 ?_
  refine gk_imul C dX3_mark_10 ?_
  exact gk_iret C E dX3_mark_11 rfl rfl ⟨rfl, rfl⟩
set_option maxHeartbeats 1000000 in
theorem th_X3_isCutting_4 (l : Launch) (Γ : gk_E) (h a b : Nat) (nm sd : Int32) (f : Nat → Int32) : gk_M gk_N0 l yX3_isCutting (Cond.code yX3_isCutting cX3_isCutting 1 (some .boolean)) 2 0 0 [.ref a] Γ (th_W Γ h a b nm sd 4 f) (fun r ws => r = some (.int (zb (0 < th_tk 4 f))) ∧ ws = th_W Γ h a b nm sd 4 f) := by
  refine gk_M.intro gk_N0_ok (by decide) [some (.ref a)] rfl rfl rfl ?_
  intro κ hl hg hN0 C E
  subst hl hg
  have C : gk_C κ cX3_isCutting "SawLine$Tooth" 2 0 0 := C
  refine gk_aload_n C dX3_isCutting_0 rfl ?_
  refine th_c_X3_21_4 C (by decide) (fun q h => h) rfl dX3_isCutting_1 ?_
  refine gk_if_le 11 C dX3_isCutting_4 (by decide) (fun c4 => ?_) (fun c4 => ?_)
  · refine gk_iconst 0 C dX3_isCutting_11 rfl ?_
    exact gk_zret C E dX3_isCutting_12 rfl rfl (by first | exact narrow_b1 | exact narrow_b0 | exact zb_nb) ⟨by first | exact vi (zb_f (Int32.not_lt.mpr c4)).symm | exact vi (zb_t (Int32.not_le.mp c4)).symm, rfl⟩
  · refine gk_iconst 1 C dX3_isCutting_7 rfl ?_
    refine gk_goto 12 C dX3_isCutting_8 (by decide) ?_
    exact gk_zret C E dX3_isCutting_12 rfl rfl (by first | exact narrow_b1 | exact narrow_b0 | exact zb_nb) ⟨by first | exact vi (zb_f (Int32.not_lt.mpr c4)).symm | exact vi (zb_t (Int32.not_le.mp c4)).symm, rfl⟩
set_option maxHeartbeats 1000000 in
theorem th_X3_mark_4 (l : Launch) (Γ : gk_E) (h a b : Nat) (nm sd : Int32) (f : Nat → Int32) : gk_M gk_N0 l yX3_mark (Cond.code yX3_mark cX3_mark 1 (some .int)) 1 0 0 [.ref a] Γ (th_W Γ h a b nm sd 4 f) (fun r ws => r = some (.int (th_sd 4 sd * f 0)) ∧ ws = th_W Γ h a b nm sd 4 f) := by
  refine gk_M.intro gk_N0_ok (by decide) [some (.ref a)] rfl rfl rfl ?_
  intro κ hl hg hN0 C E
  subst hl hg
  have C : gk_C κ cX3_mark "SawLine$Tooth" 1 0 0 := C
  refine gk_aload_n C dX3_mark_0 rfl ?_
  refine th_c_X3_25_4 C (by decide) (fun q h => h) rfl dX3_mark_1 ?_
  refine gk_aload_n C dX3_mark_4 rfl ?_
  refine gk_get C in_X4 0 rfl rfl 1 (by decide) q490 rfl rfl dX3_mark_5 ?_
  refine gk_iconst 0 C dX3_mark_8 rfl ?_
  refine gk_iald C 1 rfl rfl 0 rfl (by decide) rfl dX3_mark_9 ?_
  refine gk_imul C dX3_mark_10 ?_
  exact gk_iret C E dX3_mark_11 rfl rfl ⟨rfl, rfl⟩
set_option maxHeartbeats 1000000 in
theorem th_X3_isCutting_5 (l : Launch) (Γ : gk_E) (h a b : Nat) (nm sd : Int32) (f : Nat → Int32) : gk_M gk_N0 l yX3_isCutting (Cond.code yX3_isCutting cX3_isCutting 1 (some .boolean)) 2 0 0 [.ref a] Γ (th_W Γ h a b nm sd 5 f) (fun r ws => r = some (.int (zb (0 < th_tk 5 f))) ∧ ws = th_W Γ h a b nm sd 5 f) := by
  refine gk_M.intro gk_N0_ok (by decide) [some (.ref a)] rfl rfl rfl ?_
  intro κ hl hg hN0 C E
  subst hl hg
  have C : gk_C κ cX3_isCutting "SawLine$Tooth" 2 0 0 := C
  refine gk_aload_n C dX3_isCutting_0 rfl ?_
  refine th_c_X3_21_5 C (by decide) (fun q h => h) rfl dX3_isCutting_1 ?_
  refine gk_if_le 11 C dX3_isCutting_4 (by decide) (fun c4 => ?_) (fun c4 => ?_)
  · refine gk_iconst 0 C dX3_isCutting_11 rfl ?_
    exact gk_zret C E dX3_isCutting_12 rfl rfl (by first | exact narrow_b1 | exact narrow_b0 | exact zb_nb) ⟨by first | exact vi (zb_f (Int32.not_lt.mpr c4)).symm | exact vi (zb_t (Int32.not_le.mp c4)).symm, rfl⟩
  · refine gk_iconst 1 C dX3_isCutting_7 rfl ?_
    refine gk_goto 12 C dX3_isCutting_8 (by decide) ?_
    exact gk_zret C E dX3_isCutting_12 rfl rfl (by first | exact narrow_b1 | exact narrow_b0 | exact zb_nb) ⟨by first | exact vi (zb_f (Int32.not_lt.mpr c4)).symm | exact vi (zb_t (Int32.not_le.mp c4)).symm, rfl⟩
set_option maxHeartbeats 1000000 in
theorem th_X3_mark_5 (l : Launch) (Γ : gk_E) (h a b : Nat) (nm sd : Int32) (f : Nat → Int32) : gk_M gk_N0 l yX3_mark (Cond.code yX3_mark cX3_mark 1 (some .int)) 1 0 0 [.ref a] Γ (th_W Γ h a b nm sd 5 f) (fun r ws => r = some (.int (th_sd 5 sd * f 0)) ∧ ws = th_W Γ h a b nm sd 5 f) := by
  refine gk_M.intro gk_N0_ok (by decide) [some (.ref a)] rfl rfl rfl ?_
  intro κ hl hg hN0 C E
  subst hl hg
  have C : gk_C κ cX3_mark "SawLine$Tooth" 1 0 0 := C
  refine gk_aload_n C dX3_mark_0 rfl ?_
  refine th_c_X3_25_5 C (by decide) (fun q h => h) rfl dX3_mark_1 ?_
  refine gk_aload_n C dX3_mark_4 rfl ?_
  refine gk_get C in_X5 0 rfl rfl 1 (by decide) q490 rfl rfl dX3_mark_5 ?_
  refine gk_iconst 0 C dX3_mark_8 rfl ?_
  refine gk_iald C 1 rfl rfl 0 rfl (by decide) rfl dX3_mark_9 ?_
  refine gk_imul C dX3_mark_10 ?_
  exact gk_iret C E dX3_mark_11 rfl rfl ⟨rfl, rfl⟩
set_option maxHeartbeats 1000000 in
theorem th_X3_pushes_3 (l : Launch) (Γ : gk_E) (h a b : Nat) (nm sd : Int32) (f : Nat → Int32) : gk_M gk_N0 l yX3_pushes (Cond.code yX3_pushes cX3_pushes 1 (some .int)) 0 0 0 [.ref a] Γ (th_W Γ h a b nm sd 3 f) (fun r ws => r = some (.int (th_pu 3 sd f)) ∧ ws = th_W Γ h a b nm sd 3 f) := by
  refine gk_M.intro gk_N0_ok (by decide) [some (.ref a)] rfl rfl rfl ?_
  intro κ hl hg hN0 C E
  subst hl hg
  have C : gk_C κ cX3_pushes "SawLine$Tooth" 0 0 0 := C
  refine gk_iconst 0 C dX3_pushes_0 rfl ?_
  exact gk_iret C E dX3_pushes_1 rfl rfl ⟨rfl, rfl⟩
theorem th_w_X4_17_4 : gk_cu "SawLine$Bent" 17 "SawLine$Bent" "SawLine$Tooth" ⟨"SawLine$Bent", "takes", "()I"⟩ yX3_takes cX3_takes 1 (some .int) 0 := ⟨Or.inl ⟨lw_U q672 q662 q673 q654 q90 q664, rfl⟩, ⟨by decide +kernel, by decide +kernel, by decide +kernel⟩, rfl⟩
theorem th_c_X4_17_4 {κ : gk_K} {cc : ByteArray} {D MC MS ce sl pc : Nat} {ws : va_W} {os : List (Option Value)} {st : List Value} {h a b : Nat} {nm sd : Int32} {f : Nat → Int32} (C : gk_C κ cc "SawLine$Bent" D MC MS) (hb : ce ≤ MC ∧ sl ≤ MS ∧ 0 < D) (hm : ∀ q ∈ th_W (gk_g κ) h a b nm sd 4 f, q ∈ ws) (hst : Nat.ble (st.map fun v => v.category).sum 8 = true) (hd : decode cc pc = .ok (.invokevirtual 17, 3)) (kk : gk_G κ ce sl ws (pc + 3) os (.int (th_tk 4 f) :: st)) : gk_G κ ce sl ws pc os (.ref a :: st) :=
  gk_ro2 hm kk fun w2 kk => gk_cU (w1 := []) (w2 := w2) (As := []) (mc := 0) (ms := 0) C (gk_M.up0 (th_X3_takes_4 (gk_l κ) (gk_g κ) h a b nm sd f)) th_w_X4_17_4 (gk_bltI hb.2.2) hb.1 hb.2.1 ⟨0, 4, _, TX4, 5, rfl, rfl⟩ hst hd (fun r wn hp => by obtain ⟨rfl, rfl⟩ := hp; exact kk)
theorem th_w_X4_21_4 : gk_cu "SawLine$Bent" 21 "SawLine$Bent" "SawLine$Tooth" ⟨"SawLine$Bent", "mark", "()I"⟩ yX3_mark cX3_mark 1 (some .int) 0 := ⟨Or.inl ⟨lw_U q675 q676 q678 q680 q90 q681, rfl⟩, ⟨by decide +kernel, by decide +kernel, by decide +kernel⟩, rfl⟩
theorem th_c_X4_21_4 {κ : gk_K} {cc : ByteArray} {D MC MS ce sl pc : Nat} {ws : va_W} {os : List (Option Value)} {st : List Value} {h a b : Nat} {nm sd : Int32} {f : Nat → Int32} (C : gk_C κ cc "SawLine$Bent" D MC MS) (hb : ce ≤ MC ∧ sl ≤ MS ∧ 1 < D) (hm : ∀ q ∈ th_W (gk_g κ) h a b nm sd 4 f, q ∈ ws) (hst : Nat.ble (st.map fun v => v.category).sum 8 = true) (hd : decode cc pc = .ok (.invokevirtual 21, 3)) (kk : gk_G κ ce sl ws (pc + 3) os (.int (th_sd 4 sd * f 0) :: st)) : gk_G κ ce sl ws pc os (.ref a :: st) :=
  gk_ro2 hm kk fun w2 kk => gk_cU (w1 := []) (w2 := w2) (As := []) (mc := 0) (ms := 0) C (gk_M.up0 (th_X3_mark_4 (gk_l κ) (gk_g κ) h a b nm sd f)) th_w_X4_21_4 (gk_bltI hb.2.2) hb.1 hb.2.1 ⟨0, 4, _, TX4, 5, rfl, rfl⟩ hst hd (fun r wn hp => by obtain ⟨rfl, rfl⟩ := hp; exact kk)
theorem th_w_X4_17_5 : gk_cu "SawLine$Bent" 17 "SawLine$Hooked" "SawLine$Tooth" ⟨"SawLine$Bent", "takes", "()I"⟩ yX5_takes cX5_takes 2 (some .int) 0 := ⟨Or.inr ⟨lw_O q672 q662 q654 q674 q659 q92 q660, _, _, _, q664⟩, ⟨by decide +kernel, by decide +kernel, by decide +kernel⟩, rfl⟩
theorem th_c_X4_17_5 {κ : gk_K} {cc : ByteArray} {D MC MS ce sl pc : Nat} {ws : va_W} {os : List (Option Value)} {st : List Value} {h a b : Nat} {nm sd : Int32} {f : Nat → Int32} (C : gk_C κ cc "SawLine$Bent" D MC MS) (hb : ce ≤ MC ∧ sl ≤ MS ∧ 1 < D) (hm : ∀ q ∈ th_W (gk_g κ) h a b nm sd 5 f, q ∈ ws) (hst : Nat.ble (st.map fun v => v.category).sum 8 = true) (hd : decode cc pc = .ok (.invokevirtual 17, 3)) (kk : gk_G κ ce sl ws (pc + 3) os (.int (th_tk 5 f) :: st)) : gk_G κ ce sl ws pc os (.ref a :: st) :=
  gk_ro2 hm kk fun w2 kk => gk_cU (w1 := []) (w2 := w2) (As := []) (mc := 0) (ms := 0) C (gk_M.up0 (th_X5_takes_5 (gk_l κ) (gk_g κ) h a b nm sd f)) th_w_X4_17_5 (gk_bltI hb.2.2) hb.1 hb.2.1 ⟨0, 5, _, TX5, 6, rfl, rfl⟩ hst hd (fun r wn hp => by obtain ⟨rfl, rfl⟩ := hp; exact kk)
theorem th_w_X4_21_5 : gk_cu "SawLine$Bent" 21 "SawLine$Hooked" "SawLine$Tooth" ⟨"SawLine$Bent", "mark", "()I"⟩ yX3_mark cX3_mark 1 (some .int) 0 := ⟨Or.inl ⟨lw_U q675 q676 q679 q680 q90 q681, rfl⟩, ⟨by decide +kernel, by decide +kernel, by decide +kernel⟩, rfl⟩
theorem th_c_X4_21_5 {κ : gk_K} {cc : ByteArray} {D MC MS ce sl pc : Nat} {ws : va_W} {os : List (Option Value)} {st : List Value} {h a b : Nat} {nm sd : Int32} {f : Nat → Int32} (C : gk_C κ cc "SawLine$Bent" D MC MS) (hb : ce ≤ MC ∧ sl ≤ MS ∧ 1 < D) (hm : ∀ q ∈ th_W (gk_g κ) h a b nm sd 5 f, q ∈ ws) (hst : Nat.ble (st.map fun v => v.category).sum 8 = true) (hd : decode cc pc = .ok (.invokevirtual 21, 3)) (kk : gk_G κ ce sl ws (pc + 3) os (.int (th_sd 5 sd * f 0) :: st)) : gk_G κ ce sl ws pc os (.ref a :: st) :=
  gk_ro2 hm kk fun w2 kk => gk_cU (w1 := []) (w2 := w2) (As := []) (mc := 0) (ms := 0) C (gk_M.up0 (th_X3_mark_5 (gk_l κ) (gk_g κ) h a b nm sd f)) th_w_X4_21_5 (gk_bltI hb.2.2) hb.1 hb.2.1 ⟨0, 5, _, TX5, 6, rfl, rfl⟩ hst hd (fun r wn hp => by obtain ⟨rfl, rfl⟩ := hp; exact kk)
set_option maxHeartbeats 1000000 in
theorem th_X4_pushes_4 (l : Launch) (Γ : gk_E) (h a b : Nat) (nm sd : Int32) (f : Nat → Int32) : gk_M gk_N0 l yX4_pushes (Cond.code yX4_pushes cX4_pushes 1 (some .int)) 2 0 0 [.ref a] Γ (th_W Γ h a b nm sd 4 f) (fun r ws => r = some (.int (th_pu 4 sd f)) ∧ ws = th_W Γ h a b nm sd 4 f) := by
  refine gk_M.intro gk_N0_ok (by decide) [some (.ref a)] rfl rfl rfl ?_
  intro κ hl hg hN0 C E
  subst hl hg
  have C : gk_C κ cX4_pushes "SawLine$Bent" 2 0 0 := C
  refine gk_aload_n C dX4_pushes_0 rfl ?_
  refine th_c_X4_17_4 C (by decide) (fun q h => h) rfl dX4_pushes_1 ?_
  refine gk_aload_n C dX4_pushes_4 rfl ?_
  refine th_c_X4_21_4 C (by decide) (fun q h => h) rfl dX4_pushes_5 ?_
  refine gk_imul C dX4_pushes_8 ?_
  exact gk_iret C E dX4_pushes_9 rfl rfl ⟨rfl, rfl⟩
set_option maxHeartbeats 1000000 in
theorem th_X4_pushes_5 (l : Launch) (Γ : gk_E) (h a b : Nat) (nm sd : Int32) (f : Nat → Int32) : gk_M gk_N0 l yX4_pushes (Cond.code yX4_pushes cX4_pushes 1 (some .int)) 2 0 0 [.ref a] Γ (th_W Γ h a b nm sd 5 f) (fun r ws => r = some (.int (th_pu 5 sd f)) ∧ ws = th_W Γ h a b nm sd 5 f) := by
  refine gk_M.intro gk_N0_ok (by decide) [some (.ref a)] rfl rfl rfl ?_
  intro κ hl hg hN0 C E
  subst hl hg
  have C : gk_C κ cX4_pushes "SawLine$Bent" 2 0 0 := C
  refine gk_aload_n C dX4_pushes_0 rfl ?_
  refine th_c_X4_17_5 C (by decide) (fun q h => h) rfl dX4_pushes_1 ?_
  refine gk_aload_n C dX4_pushes_4 rfl ?_
  refine th_c_X4_21_5 C (by decide) (fun q h => h) rfl dX4_pushes_5 ?_
  refine gk_imul C dX4_pushes_8 ?_
  exact gk_iret C E dX4_pushes_9 rfl rfl ⟨rfl, rfl⟩
theorem th_w_X0_195_3 : gk_cu "SawLine" 195 "SawLine$Tooth" "SawLine$Tooth" ⟨"SawLine$Tooth", "kind", "()I"⟩ yX3_kind cX3_kind 1 (some .int) 0 := ⟨Or.inl ⟨lw_U q633 q636 q635 q634 q90 q643, rfl⟩, ⟨by decide +kernel, by decide +kernel, by decide +kernel⟩, rfl⟩
theorem th_c_X0_195_3 {κ : gk_K} {cc : ByteArray} {D MC MS ce sl pc : Nat} {ws : va_W} {os : List (Option Value)} {st : List Value} {h a b : Nat} {nm sd : Int32} {f : Nat → Int32} (C : gk_C κ cc "SawLine" D MC MS) (hb : ce ≤ MC ∧ sl ≤ MS ∧ 0 < D) (hm : ∀ q ∈ th_W (gk_g κ) h a b nm sd 3 f, q ∈ ws) (hst : Nat.ble (st.map fun v => v.category).sum 8 = true) (hd : decode cc pc = .ok (.invokevirtual 195, 3)) (kk : gk_G κ ce sl ws (pc + 3) os (.int (th_kd 3) :: st)) : gk_G κ ce sl ws pc os (.ref a :: st) :=
  gk_ro2 hm kk fun w2 kk => gk_cU (w1 := []) (w2 := w2) (As := []) (mc := 0) (ms := 0) C (gk_M.up0 (th_X3_kind_3 (gk_l κ) (gk_g κ) h a b nm sd f)) th_w_X0_195_3 (gk_bltI hb.2.2) hb.1 hb.2.1 ⟨0, 3, _, TX3, 3, rfl, rfl⟩ hst hd (fun r wn hp => by obtain ⟨rfl, rfl⟩ := hp; exact kk)
theorem th_w_X0_195_4 : gk_cu "SawLine" 195 "SawLine$Bent" "SawLine$Tooth" ⟨"SawLine$Tooth", "kind", "()I"⟩ yX4_kind cX4_kind 1 (some .int) 0 := ⟨Or.inr ⟨lw_O q633 q636 q634 q637 q638 q91 q639, _, _, _, q643⟩, ⟨by decide +kernel, by decide +kernel, by decide +kernel⟩, rfl⟩
theorem th_c_X0_195_4 {κ : gk_K} {cc : ByteArray} {D MC MS ce sl pc : Nat} {ws : va_W} {os : List (Option Value)} {st : List Value} {h a b : Nat} {nm sd : Int32} {f : Nat → Int32} (C : gk_C κ cc "SawLine" D MC MS) (hb : ce ≤ MC ∧ sl ≤ MS ∧ 0 < D) (hm : ∀ q ∈ th_W (gk_g κ) h a b nm sd 4 f, q ∈ ws) (hst : Nat.ble (st.map fun v => v.category).sum 8 = true) (hd : decode cc pc = .ok (.invokevirtual 195, 3)) (kk : gk_G κ ce sl ws (pc + 3) os (.int (th_kd 4) :: st)) : gk_G κ ce sl ws pc os (.ref a :: st) :=
  gk_ro2 hm kk fun w2 kk => gk_cU (w1 := []) (w2 := w2) (As := []) (mc := 0) (ms := 0) C (gk_M.up0 (th_X4_kind_4 (gk_l κ) (gk_g κ) h a b nm sd f)) th_w_X0_195_4 (gk_bltI hb.2.2) hb.1 hb.2.1 ⟨0, 4, _, TX4, 5, rfl, rfl⟩ hst hd (fun r wn hp => by obtain ⟨rfl, rfl⟩ := hp; exact kk)
theorem th_w_X0_195_5 : gk_cu "SawLine" 195 "SawLine$Hooked" "SawLine$Tooth" ⟨"SawLine$Tooth", "kind", "()I"⟩ yX5_kind cX5_kind 1 (some .int) 0 := ⟨Or.inr ⟨lw_O q633 q636 q634 q640 q641 q92 q642, _, _, _, q643⟩, ⟨by decide +kernel, by decide +kernel, by decide +kernel⟩, rfl⟩
theorem th_c_X0_195_5 {κ : gk_K} {cc : ByteArray} {D MC MS ce sl pc : Nat} {ws : va_W} {os : List (Option Value)} {st : List Value} {h a b : Nat} {nm sd : Int32} {f : Nat → Int32} (C : gk_C κ cc "SawLine" D MC MS) (hb : ce ≤ MC ∧ sl ≤ MS ∧ 0 < D) (hm : ∀ q ∈ th_W (gk_g κ) h a b nm sd 5 f, q ∈ ws) (hst : Nat.ble (st.map fun v => v.category).sum 8 = true) (hd : decode cc pc = .ok (.invokevirtual 195, 3)) (kk : gk_G κ ce sl ws (pc + 3) os (.int (th_kd 5) :: st)) : gk_G κ ce sl ws pc os (.ref a :: st) :=
  gk_ro2 hm kk fun w2 kk => gk_cU (w1 := []) (w2 := w2) (As := []) (mc := 0) (ms := 0) C (gk_M.up0 (th_X5_kind_5 (gk_l κ) (gk_g κ) h a b nm sd f)) th_w_X0_195_5 (gk_bltI hb.2.2) hb.1 hb.2.1 ⟨0, 5, _, TX5, 6, rfl, rfl⟩ hst hd (fun r wn hp => by obtain ⟨rfl, rfl⟩ := hp; exact kk)
theorem th_w_X0_198_3 : gk_cu "SawLine" 198 "SawLine$Tooth" "SawLine$Tooth" ⟨"SawLine$Tooth", "side", "()I"⟩ yX3_side cX3_side 1 (some .int) 0 := ⟨Or.inl ⟨lw_U q644 q647 q646 q645 q90 q652, rfl⟩, ⟨by decide +kernel, by decide +kernel, by decide +kernel⟩, rfl⟩
theorem th_c_X0_198_3 {κ : gk_K} {cc : ByteArray} {D MC MS ce sl pc : Nat} {ws : va_W} {os : List (Option Value)} {st : List Value} {h a b : Nat} {nm sd : Int32} {f : Nat → Int32} (C : gk_C κ cc "SawLine" D MC MS) (hb : ce ≤ MC ∧ sl ≤ MS ∧ 0 < D) (hm : ∀ q ∈ th_W (gk_g κ) h a b nm sd 3 f, q ∈ ws) (hst : Nat.ble (st.map fun v => v.category).sum 8 = true) (hd : decode cc pc = .ok (.invokevirtual 198, 3)) (kk : gk_G κ ce sl ws (pc + 3) os (.int (th_sd 3 sd) :: st)) : gk_G κ ce sl ws pc os (.ref a :: st) :=
  gk_ro2 hm kk fun w2 kk => gk_cU (w1 := []) (w2 := w2) (As := []) (mc := 0) (ms := 0) C (gk_M.up0 (th_X3_side_3 (gk_l κ) (gk_g κ) h a b nm sd f)) th_w_X0_198_3 (gk_bltI hb.2.2) hb.1 hb.2.1 ⟨0, 3, _, TX3, 3, rfl, rfl⟩ hst hd (fun r wn hp => by obtain ⟨rfl, rfl⟩ := hp; exact kk)
theorem th_w_X0_198_4 : gk_cu "SawLine" 198 "SawLine$Bent" "SawLine$Tooth" ⟨"SawLine$Tooth", "side", "()I"⟩ yX4_side cX4_side 1 (some .int) 0 := ⟨Or.inr ⟨lw_O q644 q647 q645 q648 q649 q91 q650, _, _, _, q652⟩, ⟨by decide +kernel, by decide +kernel, by decide +kernel⟩, rfl⟩
theorem th_c_X0_198_4 {κ : gk_K} {cc : ByteArray} {D MC MS ce sl pc : Nat} {ws : va_W} {os : List (Option Value)} {st : List Value} {h a b : Nat} {nm sd : Int32} {f : Nat → Int32} (C : gk_C κ cc "SawLine" D MC MS) (hb : ce ≤ MC ∧ sl ≤ MS ∧ 0 < D) (hm : ∀ q ∈ th_W (gk_g κ) h a b nm sd 4 f, q ∈ ws) (hst : Nat.ble (st.map fun v => v.category).sum 8 = true) (hd : decode cc pc = .ok (.invokevirtual 198, 3)) (kk : gk_G κ ce sl ws (pc + 3) os (.int (th_sd 4 sd) :: st)) : gk_G κ ce sl ws pc os (.ref a :: st) :=
  gk_ro2 hm kk fun w2 kk => gk_cU (w1 := []) (w2 := w2) (As := []) (mc := 0) (ms := 0) C (gk_M.up0 (th_X4_side_4 (gk_l κ) (gk_g κ) h a b nm sd f)) th_w_X0_198_4 (gk_bltI hb.2.2) hb.1 hb.2.1 ⟨0, 4, _, TX4, 5, rfl, rfl⟩ hst hd (fun r wn hp => by obtain ⟨rfl, rfl⟩ := hp; exact kk)
theorem th_w_X0_198_5 : gk_cu "SawLine" 198 "SawLine$Hooked" "SawLine$Tooth" ⟨"SawLine$Tooth", "side", "()I"⟩ yX4_side cX4_side 1 (some .int) 0 := ⟨Or.inr ⟨lw_O q644 q647 q645 q651 q649 q91 q650, _, _, _, q652⟩, ⟨by decide +kernel, by decide +kernel, by decide +kernel⟩, rfl⟩
theorem th_c_X0_198_5 {κ : gk_K} {cc : ByteArray} {D MC MS ce sl pc : Nat} {ws : va_W} {os : List (Option Value)} {st : List Value} {h a b : Nat} {nm sd : Int32} {f : Nat → Int32} (C : gk_C κ cc "SawLine" D MC MS) (hb : ce ≤ MC ∧ sl ≤ MS ∧ 0 < D) (hm : ∀ q ∈ th_W (gk_g κ) h a b nm sd 5 f, q ∈ ws) (hst : Nat.ble (st.map fun v => v.category).sum 8 = true) (hd : decode cc pc = .ok (.invokevirtual 198, 3)) (kk : gk_G κ ce sl ws (pc + 3) os (.int (th_sd 5 sd) :: st)) : gk_G κ ce sl ws pc os (.ref a :: st) :=
  gk_ro2 hm kk fun w2 kk => gk_cU (w1 := []) (w2 := w2) (As := []) (mc := 0) (ms := 0) C (gk_M.up0 (th_X4_side_5 (gk_l κ) (gk_g κ) h a b nm sd f)) th_w_X0_198_5 (gk_bltI hb.2.2) hb.1 hb.2.1 ⟨0, 5, _, TX5, 6, rfl, rfl⟩ hst hd (fun r wn hp => by obtain ⟨rfl, rfl⟩ := hp; exact kk)
theorem th_w_X0_204_3 : gk_cu "SawLine" 204 "SawLine$Tooth" "SawLine$Tooth" ⟨"SawLine$Tooth", "takes", "()I"⟩ yX3_takes cX3_takes 1 (some .int) 0 := ⟨Or.inl ⟨lw_U q653 q656 q655 q654 q90 q664, rfl⟩, ⟨by decide +kernel, by decide +kernel, by decide +kernel⟩, rfl⟩
theorem th_c_X0_204_3 {κ : gk_K} {cc : ByteArray} {D MC MS ce sl pc : Nat} {ws : va_W} {os : List (Option Value)} {st : List Value} {h a b : Nat} {nm sd : Int32} {f : Nat → Int32} (C : gk_C κ cc "SawLine" D MC MS) (hb : ce ≤ MC ∧ sl ≤ MS ∧ 0 < D) (hm : ∀ q ∈ th_W (gk_g κ) h a b nm sd 3 f, q ∈ ws) (hst : Nat.ble (st.map fun v => v.category).sum 8 = true) (hd : decode cc pc = .ok (.invokevirtual 204, 3)) (kk : gk_G κ ce sl ws (pc + 3) os (.int (th_tk 3 f) :: st)) : gk_G κ ce sl ws pc os (.ref a :: st) :=
  gk_ro2 hm kk fun w2 kk => gk_cU (w1 := []) (w2 := w2) (As := []) (mc := 0) (ms := 0) C (gk_M.up0 (th_X3_takes_3 (gk_l κ) (gk_g κ) h a b nm sd f)) th_w_X0_204_3 (gk_bltI hb.2.2) hb.1 hb.2.1 ⟨0, 3, _, TX3, 3, rfl, rfl⟩ hst hd (fun r wn hp => by obtain ⟨rfl, rfl⟩ := hp; exact kk)
theorem th_w_X0_204_4 : gk_cu "SawLine" 204 "SawLine$Bent" "SawLine$Tooth" ⟨"SawLine$Tooth", "takes", "()I"⟩ yX3_takes cX3_takes 1 (some .int) 0 := ⟨Or.inl ⟨lw_U q653 q656 q657 q654 q90 q664, rfl⟩, ⟨by decide +kernel, by decide +kernel, by decide +kernel⟩, rfl⟩
theorem th_c_X0_204_4 {κ : gk_K} {cc : ByteArray} {D MC MS ce sl pc : Nat} {ws : va_W} {os : List (Option Value)} {st : List Value} {h a b : Nat} {nm sd : Int32} {f : Nat → Int32} (C : gk_C κ cc "SawLine" D MC MS) (hb : ce ≤ MC ∧ sl ≤ MS ∧ 0 < D) (hm : ∀ q ∈ th_W (gk_g κ) h a b nm sd 4 f, q ∈ ws) (hst : Nat.ble (st.map fun v => v.category).sum 8 = true) (hd : decode cc pc = .ok (.invokevirtual 204, 3)) (kk : gk_G κ ce sl ws (pc + 3) os (.int (th_tk 4 f) :: st)) : gk_G κ ce sl ws pc os (.ref a :: st) :=
  gk_ro2 hm kk fun w2 kk => gk_cU (w1 := []) (w2 := w2) (As := []) (mc := 0) (ms := 0) C (gk_M.up0 (th_X3_takes_4 (gk_l κ) (gk_g κ) h a b nm sd f)) th_w_X0_204_4 (gk_bltI hb.2.2) hb.1 hb.2.1 ⟨0, 4, _, TX4, 5, rfl, rfl⟩ hst hd (fun r wn hp => by obtain ⟨rfl, rfl⟩ := hp; exact kk)
theorem th_w_X0_204_5 : gk_cu "SawLine" 204 "SawLine$Hooked" "SawLine$Tooth" ⟨"SawLine$Tooth", "takes", "()I"⟩ yX5_takes cX5_takes 2 (some .int) 0 := ⟨Or.inr ⟨lw_O q653 q656 q654 q658 q659 q92 q660, _, _, _, q664⟩, ⟨by decide +kernel, by decide +kernel, by decide +kernel⟩, rfl⟩
theorem th_c_X0_204_5 {κ : gk_K} {cc : ByteArray} {D MC MS ce sl pc : Nat} {ws : va_W} {os : List (Option Value)} {st : List Value} {h a b : Nat} {nm sd : Int32} {f : Nat → Int32} (C : gk_C κ cc "SawLine" D MC MS) (hb : ce ≤ MC ∧ sl ≤ MS ∧ 1 < D) (hm : ∀ q ∈ th_W (gk_g κ) h a b nm sd 5 f, q ∈ ws) (hst : Nat.ble (st.map fun v => v.category).sum 8 = true) (hd : decode cc pc = .ok (.invokevirtual 204, 3)) (kk : gk_G κ ce sl ws (pc + 3) os (.int (th_tk 5 f) :: st)) : gk_G κ ce sl ws pc os (.ref a :: st) :=
  gk_ro2 hm kk fun w2 kk => gk_cU (w1 := []) (w2 := w2) (As := []) (mc := 0) (ms := 0) C (gk_M.up0 (th_X5_takes_5 (gk_l κ) (gk_g κ) h a b nm sd f)) th_w_X0_204_5 (gk_bltI hb.2.2) hb.1 hb.2.1 ⟨0, 5, _, TX5, 6, rfl, rfl⟩ hst hd (fun r wn hp => by obtain ⟨rfl, rfl⟩ := hp; exact kk)
theorem th_w_X0_207_3 : gk_cu "SawLine" 207 "SawLine$Tooth" "SawLine$Tooth" ⟨"SawLine$Tooth", "pushes", "()I"⟩ yX3_pushes cX3_pushes 1 (some .int) 0 := ⟨Or.inl ⟨lw_U q665 q668 q667 q666 q90 q684, rfl⟩, ⟨by decide +kernel, by decide +kernel, by decide +kernel⟩, rfl⟩
theorem th_c_X0_207_3 {κ : gk_K} {cc : ByteArray} {D MC MS ce sl pc : Nat} {ws : va_W} {os : List (Option Value)} {st : List Value} {h a b : Nat} {nm sd : Int32} {f : Nat → Int32} (C : gk_C κ cc "SawLine" D MC MS) (hb : ce ≤ MC ∧ sl ≤ MS ∧ 0 < D) (hm : ∀ q ∈ th_W (gk_g κ) h a b nm sd 3 f, q ∈ ws) (hst : Nat.ble (st.map fun v => v.category).sum 8 = true) (hd : decode cc pc = .ok (.invokevirtual 207, 3)) (kk : gk_G κ ce sl ws (pc + 3) os (.int (th_pu 3 sd f) :: st)) : gk_G κ ce sl ws pc os (.ref a :: st) :=
  gk_ro2 hm kk fun w2 kk => gk_cU (w1 := []) (w2 := w2) (As := []) (mc := 0) (ms := 0) C (gk_M.up0 (th_X3_pushes_3 (gk_l κ) (gk_g κ) h a b nm sd f)) th_w_X0_207_3 (gk_bltI hb.2.2) hb.1 hb.2.1 ⟨0, 3, _, TX3, 3, rfl, rfl⟩ hst hd (fun r wn hp => by obtain ⟨rfl, rfl⟩ := hp; exact kk)
theorem th_w_X0_207_4 : gk_cu "SawLine" 207 "SawLine$Bent" "SawLine$Tooth" ⟨"SawLine$Tooth", "pushes", "()I"⟩ yX4_pushes cX4_pushes 1 (some .int) 0 := ⟨Or.inr ⟨lw_O q665 q668 q666 q669 q670 q91 q671, _, _, _, q684⟩, ⟨by decide +kernel, by decide +kernel, by decide +kernel⟩, rfl⟩
theorem th_c_X0_207_4 {κ : gk_K} {cc : ByteArray} {D MC MS ce sl pc : Nat} {ws : va_W} {os : List (Option Value)} {st : List Value} {h a b : Nat} {nm sd : Int32} {f : Nat → Int32} (C : gk_C κ cc "SawLine" D MC MS) (hb : ce ≤ MC ∧ sl ≤ MS ∧ 2 < D) (hm : ∀ q ∈ th_W (gk_g κ) h a b nm sd 4 f, q ∈ ws) (hst : Nat.ble (st.map fun v => v.category).sum 8 = true) (hd : decode cc pc = .ok (.invokevirtual 207, 3)) (kk : gk_G κ ce sl ws (pc + 3) os (.int (th_pu 4 sd f) :: st)) : gk_G κ ce sl ws pc os (.ref a :: st) :=
  gk_ro2 hm kk fun w2 kk => gk_cU (w1 := []) (w2 := w2) (As := []) (mc := 0) (ms := 0) C (gk_M.up0 (th_X4_pushes_4 (gk_l κ) (gk_g κ) h a b nm sd f)) th_w_X0_207_4 (gk_bltI hb.2.2) hb.1 hb.2.1 ⟨0, 4, _, TX4, 5, rfl, rfl⟩ hst hd (fun r wn hp => by obtain ⟨rfl, rfl⟩ := hp; exact kk)
theorem th_w_X0_207_5 : gk_cu "SawLine" 207 "SawLine$Hooked" "SawLine$Tooth" ⟨"SawLine$Tooth", "pushes", "()I"⟩ yX4_pushes cX4_pushes 1 (some .int) 0 := ⟨Or.inr ⟨lw_O q665 q668 q666 q683 q670 q91 q671, _, _, _, q684⟩, ⟨by decide +kernel, by decide +kernel, by decide +kernel⟩, rfl⟩
theorem th_c_X0_207_5 {κ : gk_K} {cc : ByteArray} {D MC MS ce sl pc : Nat} {ws : va_W} {os : List (Option Value)} {st : List Value} {h a b : Nat} {nm sd : Int32} {f : Nat → Int32} (C : gk_C κ cc "SawLine" D MC MS) (hb : ce ≤ MC ∧ sl ≤ MS ∧ 2 < D) (hm : ∀ q ∈ th_W (gk_g κ) h a b nm sd 5 f, q ∈ ws) (hst : Nat.ble (st.map fun v => v.category).sum 8 = true) (hd : decode cc pc = .ok (.invokevirtual 207, 3)) (kk : gk_G κ ce sl ws (pc + 3) os (.int (th_pu 5 sd f) :: st)) : gk_G κ ce sl ws pc os (.ref a :: st) :=
  gk_ro2 hm kk fun w2 kk => gk_cU (w1 := []) (w2 := w2) (As := []) (mc := 0) (ms := 0) C (gk_M.up0 (th_X4_pushes_5 (gk_l κ) (gk_g κ) h a b nm sd f)) th_w_X0_207_5 (gk_bltI hb.2.2) hb.1 hb.2.1 ⟨0, 5, _, TX5, 6, rfl, rfl⟩ hst hd (fun r wn hp => by obtain ⟨rfl, rfl⟩ := hp; exact kk)
theorem th_w_X0_219_3 : gk_cu "SawLine" 219 "SawLine$Tooth" "SawLine$Tooth" ⟨"SawLine$Tooth", "isCutting", "()Z"⟩ yX3_isCutting cX3_isCutting 1 (some .boolean) 0 := ⟨Or.inl ⟨lw_U q713 q716 q715 q714 q90 q719, rfl⟩, ⟨by decide +kernel, by decide +kernel, by decide +kernel⟩, rfl⟩
theorem th_c_X0_219_3 {κ : gk_K} {cc : ByteArray} {D MC MS ce sl pc : Nat} {ws : va_W} {os : List (Option Value)} {st : List Value} {h a b : Nat} {nm sd : Int32} {f : Nat → Int32} (C : gk_C κ cc "SawLine" D MC MS) (hb : ce ≤ MC ∧ sl ≤ MS ∧ 2 < D) (hm : ∀ q ∈ th_W (gk_g κ) h a b nm sd 3 f, q ∈ ws) (hst : Nat.ble (st.map fun v => v.category).sum 8 = true) (hd : decode cc pc = .ok (.invokevirtual 219, 3)) (kk : gk_G κ ce sl ws (pc + 3) os (.int (zb (0 < th_tk 3 f)) :: st)) : gk_G κ ce sl ws pc os (.ref a :: st) :=
  gk_ro2 hm kk fun w2 kk => gk_cU (w1 := []) (w2 := w2) (As := []) (mc := 0) (ms := 0) C (gk_M.up0 (th_X3_isCutting_3 (gk_l κ) (gk_g κ) h a b nm sd f)) th_w_X0_219_3 (gk_bltI hb.2.2) hb.1 hb.2.1 ⟨0, 3, _, TX3, 3, rfl, rfl⟩ hst hd (fun r wn hp => by obtain ⟨rfl, rfl⟩ := hp; exact kk)
theorem th_w_X0_219_4 : gk_cu "SawLine" 219 "SawLine$Bent" "SawLine$Tooth" ⟨"SawLine$Tooth", "isCutting", "()Z"⟩ yX3_isCutting cX3_isCutting 1 (some .boolean) 0 := ⟨Or.inl ⟨lw_U q713 q716 q717 q714 q90 q719, rfl⟩, ⟨by decide +kernel, by decide +kernel, by decide +kernel⟩, rfl⟩
theorem th_c_X0_219_4 {κ : gk_K} {cc : ByteArray} {D MC MS ce sl pc : Nat} {ws : va_W} {os : List (Option Value)} {st : List Value} {h a b : Nat} {nm sd : Int32} {f : Nat → Int32} (C : gk_C κ cc "SawLine" D MC MS) (hb : ce ≤ MC ∧ sl ≤ MS ∧ 2 < D) (hm : ∀ q ∈ th_W (gk_g κ) h a b nm sd 4 f, q ∈ ws) (hst : Nat.ble (st.map fun v => v.category).sum 8 = true) (hd : decode cc pc = .ok (.invokevirtual 219, 3)) (kk : gk_G κ ce sl ws (pc + 3) os (.int (zb (0 < th_tk 4 f)) :: st)) : gk_G κ ce sl ws pc os (.ref a :: st) :=
  gk_ro2 hm kk fun w2 kk => gk_cU (w1 := []) (w2 := w2) (As := []) (mc := 0) (ms := 0) C (gk_M.up0 (th_X3_isCutting_4 (gk_l κ) (gk_g κ) h a b nm sd f)) th_w_X0_219_4 (gk_bltI hb.2.2) hb.1 hb.2.1 ⟨0, 4, _, TX4, 5, rfl, rfl⟩ hst hd (fun r wn hp => by obtain ⟨rfl, rfl⟩ := hp; exact kk)
theorem th_w_X0_219_5 : gk_cu "SawLine" 219 "SawLine$Hooked" "SawLine$Tooth" ⟨"SawLine$Tooth", "isCutting", "()Z"⟩ yX3_isCutting cX3_isCutting 1 (some .boolean) 0 := ⟨Or.inl ⟨lw_U q713 q716 q718 q714 q90 q719, rfl⟩, ⟨by decide +kernel, by decide +kernel, by decide +kernel⟩, rfl⟩
theorem th_c_X0_219_5 {κ : gk_K} {cc : ByteArray} {D MC MS ce sl pc : Nat} {ws : va_W} {os : List (Option Value)} {st : List Value} {h a b : Nat} {nm sd : Int32} {f : Nat → Int32} (C : gk_C κ cc "SawLine" D MC MS) (hb : ce ≤ MC ∧ sl ≤ MS ∧ 2 < D) (hm : ∀ q ∈ th_W (gk_g κ) h a b nm sd 5 f, q ∈ ws) (hst : Nat.ble (st.map fun v => v.category).sum 8 = true) (hd : decode cc pc = .ok (.invokevirtual 219, 3)) (kk : gk_G κ ce sl ws (pc + 3) os (.int (zb (0 < th_tk 5 f)) :: st)) : gk_G κ ce sl ws pc os (.ref a :: st) :=
  gk_ro2 hm kk fun w2 kk => gk_cU (w1 := []) (w2 := w2) (As := []) (mc := 0) (ms := 0) C (gk_M.up0 (th_X3_isCutting_5 (gk_l κ) (gk_g κ) h a b nm sd f)) th_w_X0_219_5 (gk_bltI hb.2.2) hb.1 hb.2.1 ⟨0, 5, _, TX5, 6, rfl, rfl⟩ hst hd (fun r wn hp => by obtain ⟨rfl, rfl⟩ := hp; exact kk)
theorem th_w_X0_223_3 : gk_cu "SawLine" 223 "SawLine$Tooth" "SawLine$Tooth" ⟨"SawLine$Tooth", "mark", "()I"⟩ yX3_mark cX3_mark 1 (some .int) 0 := ⟨Or.inl ⟨lw_U q721 q1528 q1531 q680 q90 q681, rfl⟩, ⟨by decide +kernel, by decide +kernel, by decide +kernel⟩, rfl⟩
theorem th_c_X0_223_3 {κ : gk_K} {cc : ByteArray} {D MC MS ce sl pc : Nat} {ws : va_W} {os : List (Option Value)} {st : List Value} {h a b : Nat} {nm sd : Int32} {f : Nat → Int32} (C : gk_C κ cc "SawLine" D MC MS) (hb : ce ≤ MC ∧ sl ≤ MS ∧ 1 < D) (hm : ∀ q ∈ th_W (gk_g κ) h a b nm sd 3 f, q ∈ ws) (hst : Nat.ble (st.map fun v => v.category).sum 8 = true) (hd : decode cc pc = .ok (.invokevirtual 223, 3)) (kk : gk_G κ ce sl ws (pc + 3) os (.int (th_sd 3 sd * f 0) :: st)) : gk_G κ ce sl ws pc os (.ref a :: st) :=
  gk_ro2 hm kk fun w2 kk => gk_cU (w1 := []) (w2 := w2) (As := []) (mc := 0) (ms := 0) C (gk_M.up0 (th_X3_mark_3 (gk_l κ) (gk_g κ) h a b nm sd f)) th_w_X0_223_3 (gk_bltI hb.2.2) hb.1 hb.2.1 ⟨0, 3, _, TX3, 3, rfl, rfl⟩ hst hd (fun r wn hp => by obtain ⟨rfl, rfl⟩ := hp; exact kk)
theorem th_w_X0_223_4 : gk_cu "SawLine" 223 "SawLine$Bent" "SawLine$Tooth" ⟨"SawLine$Tooth", "mark", "()I"⟩ yX3_mark cX3_mark 1 (some .int) 0 := ⟨Or.inl ⟨lw_U q721 q1528 q1529 q680 q90 q681, rfl⟩, ⟨by decide +kernel, by decide +kernel, by decide +kernel⟩, rfl⟩
theorem th_c_X0_223_4 {κ : gk_K} {cc : ByteArray} {D MC MS ce sl pc : Nat} {ws : va_W} {os : List (Option Value)} {st : List Value} {h a b : Nat} {nm sd : Int32} {f : Nat → Int32} (C : gk_C κ cc "SawLine" D MC MS) (hb : ce ≤ MC ∧ sl ≤ MS ∧ 1 < D) (hm : ∀ q ∈ th_W (gk_g κ) h a b nm sd 4 f, q ∈ ws) (hst : Nat.ble (st.map fun v => v.category).sum 8 = true) (hd : decode cc pc = .ok (.invokevirtual 223, 3)) (kk : gk_G κ ce sl ws (pc + 3) os (.int (th_sd 4 sd * f 0) :: st)) : gk_G κ ce sl ws pc os (.ref a :: st) :=
  gk_ro2 hm kk fun w2 kk => gk_cU (w1 := []) (w2 := w2) (As := []) (mc := 0) (ms := 0) C (gk_M.up0 (th_X3_mark_4 (gk_l κ) (gk_g κ) h a b nm sd f)) th_w_X0_223_4 (gk_bltI hb.2.2) hb.1 hb.2.1 ⟨0, 4, _, TX4, 5, rfl, rfl⟩ hst hd (fun r wn hp => by obtain ⟨rfl, rfl⟩ := hp; exact kk)
theorem th_w_X0_223_5 : gk_cu "SawLine" 223 "SawLine$Hooked" "SawLine$Tooth" ⟨"SawLine$Tooth", "mark", "()I"⟩ yX3_mark cX3_mark 1 (some .int) 0 := ⟨Or.inl ⟨lw_U q721 q1528 q1530 q680 q90 q681, rfl⟩, ⟨by decide +kernel, by decide +kernel, by decide +kernel⟩, rfl⟩
theorem th_c_X0_223_5 {κ : gk_K} {cc : ByteArray} {D MC MS ce sl pc : Nat} {ws : va_W} {os : List (Option Value)} {st : List Value} {h a b : Nat} {nm sd : Int32} {f : Nat → Int32} (C : gk_C κ cc "SawLine" D MC MS) (hb : ce ≤ MC ∧ sl ≤ MS ∧ 1 < D) (hm : ∀ q ∈ th_W (gk_g κ) h a b nm sd 5 f, q ∈ ws) (hst : Nat.ble (st.map fun v => v.category).sum 8 = true) (hd : decode cc pc = .ok (.invokevirtual 223, 3)) (kk : gk_G κ ce sl ws (pc + 3) os (.int (th_sd 5 sd * f 0) :: st)) : gk_G κ ce sl ws pc os (.ref a :: st) :=
  gk_ro2 hm kk fun w2 kk => gk_cU (w1 := []) (w2 := w2) (As := []) (mc := 0) (ms := 0) C (gk_M.up0 (th_X3_mark_5 (gk_l κ) (gk_g κ) h a b nm sd f)) th_w_X0_223_5 (gk_bltI hb.2.2) hb.1 hb.2.1 ⟨0, 5, _, TX5, 6, rfl, rfl⟩ hst hd (fun r wn hp => by obtain ⟨rfl, rfl⟩ := hp; exact kk)
