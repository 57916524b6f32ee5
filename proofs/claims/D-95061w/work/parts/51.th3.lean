set_option maxRecDepth 100000
/-- SawLine's fields with trace t -/
def tf (F : List Value) (t : Int32) : List Value := F.set 1 (.int t)
theorem tf_1 {F : List Value} (hF : F.length = 37) (t : Int32) : (tf F t)[1]? = some (.int t) := by unfold tf; rw [List.getElem?_set_self (by omega)]
theorem tf_s (F : List Value) (t u : Int32) : (tf F t).set 1 (.int u) = tf F u := by unfold tf; rw [List.set_set]
theorem tf_l {F : List Value} (hF : F.length = 37) (t : Int32) : 1 < (tf F t).length := by unfold tf; rw [List.length_set, hF]; decide
abbrev th_V (Γ : gk_E) (h a b : Nat) (nm sd : Int32) (ci : Nat) (f : Nat → Int32) (F : List Value) (t : Int32) : va_W := (h, .inr (0, tf F t)) :: th_W Γ h a b nm sd ci f
/-- the trace behind tell -/
def th_tt (ci : Nat) (t : Int32) : Int32 := match ci with
  | 3 => ap_tr t 1
  | 4 => ap_tr (ap_tr t 2) 1
  | _ => ap_tr (ap_tr (ap_tr (ap_tr t 3) 2) 1) 1
/-- what tell answers -/
def th_tv (ci : Nat) (f : Nat → Int32) : Int32 := match ci with
  | 3 => f 2
  | 4 => f 2 + 100
  | _ => f 2 + 100 + f 2
theorem okn_begins : gk_okn yX0_begins 1 := ⟨by decide +kernel, by decide +kernel, by decide +kernel⟩
theorem th_begins (l : Launch) (Γ : gk_E) (h : Nat) (F : List Value) (hF : F.length = 37) (t v : Int32) : gk_M gk_N0 l yX0_begins (Cond.code yX0_begins cX0_begins 2 none) 0 0 0 [.ref h, .int v] Γ [(h, .inr (0, tf F t))] (fun r ws => r = none ∧ ws = [(h, .inr (0, tf F (ap_tr t v)))]) := by
  refine gk_M.intro gk_N0_ok (by decide) [some (.ref h), some (.int v)] rfl rfl rfl ?_
  intro κ hl hg hN0 C E
  subst hl hg
  have C : gk_C κ cX0_begins "SawLine" 0 0 0 := C
  refine gk_aload_n C dX0_begins_0 rfl ?_
  refine gk_bipush 31 C dX0_begins_1 rfl ?_
  refine gk_aload_n C dX0_begins_3 rfl ?_
  refine gk_get C in_X0 0 rfl rfl 1 (by decide) q150 rfl (tf_1 hF t) dX0_begins_4 ?_
  refine gk_imul C dX0_begins_7 ?_
  refine gk_iload_n C dX0_begins_8 rfl ?_
  refine gk_iadd C dX0_begins_9 ?_
  refine gk_put (ty := .int) C in_X0 tyX0 tyX0_ok nmX0 0 rfl rfl 1 (by decide) q150 rfl rfl rfl rfl rfl (tf_l hF t) dX0_begins_10 ?_
  exact gk_vret C E dX0_begins_13 rfl rfl ⟨rfl, congrArg (fun x => [(h, Sum.inr (0, x))]) (tf_s F t _)⟩
set_option maxHeartbeats 1000000 in
theorem th_X3_plain_3 (t0 : Nat) (l : Launch) (Γ : gk_E) (h a b : Nat) (nm sd : Int32) (f : Nat → Int32) (F : List Value) (hF : F.length = 37) (t : Int32) : gk_M (xN t0) l yX3_plain (Cond.code yX3_plain cX3_plain 1 (some .int)) 1 0 0 [.ref a] Γ (th_V Γ h a b nm sd 3 f F t) (fun r ws => r = some (.int (f 2)) ∧ ws = th_V Γ h a b nm sd 3 f F (ap_tr t 1)) := by
  refine gk_M.intro (xN_ok t0) (by decide) [some (.ref a)] rfl rfl rfl ?_
  intro κ hl hg hN0 C E
  subst hl hg
  have C : gk_C κ cX3_plain "SawLine$Tooth" 1 0 0 := C
  refine gk_aload_n C dX3_plain_0 rfl ?_
  refine gk_get C in_X3 1 rfl rfl 2 (by decide) q492 rfl rfl dX3_plain_1 ?_
  refine gk_iconst 1 C dX3_plain_4 rfl ?_
  refine gk_cVN (ce := 0) (sl := 0) (C0 := "SawLine") (host := "SawLine") (w1 := []) (w2 := (th_W (gk_g κ) h a b nm sd 3 f)) (wc := [(h, .inr (0, tf F t))]) (As := [.int 1]) C (fun A U H h => by rw [hN0] at h; exact h.1) (gk_M.up0 (th_begins _ _ h F hF t 1)) (by decide +kernel) q994 q74 q993 qs39 okn_begins rfl rfl (Nat.zero_le _) (Nat.zero_le _) ⟨0, 0, _, TX0, 37, rfl, rfl⟩ rfl dX3_plain_5 (fun r wn hp => ?_)
  obtain ⟨rfl, rfl⟩ := hp
  refine gk_eqw (ws' := th_V (gk_g κ) h a b nm sd 3 f F (ap_tr t 1)) rfl ?_
  refine gk_aload_n C dX3_plain_8 rfl ?_
  refine gk_get C in_X3 1 rfl rfl 1 (by decide) q490 rfl rfl dX3_plain_9 ?_
  refine gk_iconst 2 C dX3_plain_12 rfl ?_
  refine gk_iald C 2 rfl rfl 2 rfl (by decide) rfl dX3_plain_13 ?_
  exact gk_iret C E dX3_plain_14 rfl rfl ⟨rfl, rfl⟩
set_option maxHeartbeats 1000000 in
theorem th_X3_plain_4 (t0 : Nat) (l : Launch) (Γ : gk_E) (h a b : Nat) (nm sd : Int32) (f : Nat → Int32) (F : List Value) (hF : F.length = 37) (t : Int32) : gk_M (xN t0) l yX3_plain (Cond.code yX3_plain cX3_plain 1 (some .int)) 1 0 0 [.ref a] Γ (th_V Γ h a b nm sd 4 f F t) (fun r ws => r = some (.int (f 2)) ∧ ws = th_V Γ h a b nm sd 4 f F (ap_tr t 1)) := by
  refine gk_M.intro (xN_ok t0) (by decide) [some (.ref a)] rfl rfl rfl ?_
  intro κ hl hg hN0 C E
  subst hl hg
  have C : gk_C κ cX3_plain "SawLine$Tooth" 1 0 0 := C
  refine gk_aload_n C dX3_plain_0 rfl ?_
  refine gk_get C in_X4 1 rfl rfl 2 (by decide) q492 rfl rfl dX3_plain_1 ?_
  refine gk_iconst 1 C dX3_plain_4 rfl ?_
  refine gk_cVN (ce := 0) (sl := 0) (C0 := "SawLine") (host := "SawLine") (w1 := []) (w2 := (th_W (gk_g κ) h a b nm sd 4 f)) (wc := [(h, .inr (0, tf F t))]) (As := [.int 1]) C (fun A U H h => by rw [hN0] at h; exact h.1) (gk_M.up0 (th_begins _ _ h F hF t 1)) (by decide +kernel) q994 q74 q993 qs39 okn_begins rfl rfl (Nat.zero_le _) (Nat.zero_le _) ⟨0, 0, _, TX0, 37, rfl, rfl⟩ rfl dX3_plain_5 (fun r wn hp => ?_)
  obtain ⟨rfl, rfl⟩ := hp
  refine gk_eqw (ws' := th_V (gk_g κ) h a b nm sd 4 f F (ap_tr t 1)) rfl ?_
  refine gk_aload_n C dX3_plain_8 rfl ?_
  refine gk_get C in_X4 1 rfl rfl 1 (by decide) q490 rfl rfl dX3_plain_9 ?_
  refine gk_iconst 2 C dX3_plain_12 rfl ?_
  refine gk_iald C 2 rfl rfl 2 rfl (by decide) rfl dX3_plain_13 ?_
  exact gk_iret C E dX3_plain_14 rfl rfl ⟨rfl, rfl⟩
set_option maxHeartbeats 1000000 in
theorem th_X3_plain_5 (t0 : Nat) (l : Launch) (Γ : gk_E) (h a b : Nat) (nm sd : Int32) (f : Nat → Int32) (F : List Value) (hF : F.length = 37) (t : Int32) : gk_M (xN t0) l yX3_plain (Cond.code yX3_plain cX3_plain 1 (some .int)) 1 0 0 [.ref a] Γ (th_V Γ h a b nm sd 5 f F t) (fun r ws => r = some (.int (f 2)) ∧ ws = th_V Γ h a b nm sd 5 f F (ap_tr t 1)) := by
  refine gk_M.intro (xN_ok t0) (by decide) [some (.ref a)] rfl rfl rfl ?_
  intro κ hl hg hN0 C E
  subst hl hg
  have C : gk_C κ cX3_plain "SawLine$Tooth" 1 0 0 := C
  refine gk_aload_n C dX3_plain_0 rfl ?_
  refine gk_get C in_X5 1 rfl rfl 2 (by decide) q492 rfl rfl dX3_plain_1 ?_
  refine gk_iconst 1 C dX3_plain_4 rfl ?_
  refine gk_cVN (ce := 0) (sl := 0) (C0 := "SawLine") (host := "SawLine") (w1 := []) (w2 := (th_W (gk_g κ) h a b nm sd 5 f)) (wc := [(h, .inr (0, tf F t))]) (As := [.int 1]) C (fun A U H h => by rw [hN0] at h; exact h.1) (gk_M.up0 (th_begins _ _ h F hF t 1)) (by decide +kernel) q994 q74 q993 qs39 okn_begins rfl rfl (Nat.zero_le _) (Nat.zero_le _) ⟨0, 0, _, TX0, 37, rfl, rfl⟩ rfl dX3_plain_5 (fun r wn hp => ?_)
  obtain ⟨rfl, rfl⟩ := hp
  refine gk_eqw (ws' := th_V (gk_g κ) h a b nm sd 5 f F (ap_tr t 1)) rfl ?_
  refine gk_aload_n C dX3_plain_8 rfl ?_
  refine gk_get C in_X5 1 rfl rfl 1 (by decide) q490 rfl rfl dX3_plain_9 ?_
  refine gk_iconst 2 C dX3_plain_12 rfl ?_
  refine gk_iald C 2 rfl rfl 2 rfl (by decide) rfl dX3_plain_13 ?_
  exact gk_iret C E dX3_plain_14 rfl rfl ⟨rfl, rfl⟩
theorem th_w_X3_34_3 : gk_cu "SawLine$Tooth" 34 "SawLine$Tooth" "SawLine$Tooth" ⟨"SawLine$Tooth", "plain", "()I"⟩ yX3_plain cX3_plain 1 (some .int) 0 := ⟨Or.inl ⟨lw_U q1009 q1533 q1536 q1005 q90 q1006, rfl⟩, ⟨by decide +kernel, by decide +kernel, by decide +kernel⟩, rfl⟩
theorem th_w_X3_34_4 : gk_cu "SawLine$Tooth" 34 "SawLine$Bent" "SawLine$Tooth" ⟨"SawLine$Tooth", "plain", "()I"⟩ yX3_plain cX3_plain 1 (some .int) 0 := ⟨Or.inl ⟨lw_U q1009 q1533 q1534 q1005 q90 q1006, rfl⟩, ⟨by decide +kernel, by decide +kernel, by decide +kernel⟩, rfl⟩
theorem th_w_X3_34_5 : gk_cu "SawLine$Tooth" 34 "SawLine$Hooked" "SawLine$Tooth" ⟨"SawLine$Tooth", "plain", "()I"⟩ yX3_plain cX3_plain 1 (some .int) 0 := ⟨Or.inl ⟨lw_U q1009 q1533 q1535 q1005 q90 q1006, rfl⟩, ⟨by decide +kernel, by decide +kernel, by decide +kernel⟩, rfl⟩
theorem th_w_X5_26_5 : gk_cu "SawLine$Hooked" 26 "SawLine$Hooked" "SawLine$Tooth" ⟨"SawLine$Hooked", "plain", "()I"⟩ yX3_plain cX3_plain 1 (some .int) 0 := ⟨Or.inl ⟨lw_U q1001 q1002 q1004 q1005 q90 q1006, rfl⟩, ⟨by decide +kernel, by decide +kernel, by decide +kernel⟩, rfl⟩
set_option maxHeartbeats 1000000 in
theorem th_X3_tell_3 (t0 : Nat) (l : Launch) (Γ : gk_E) (h a b : Nat) (nm sd : Int32) (f : Nat → Int32) (F : List Value) (hF : F.length = 37) (t : Int32) : gk_M (xN t0) l yX3_tell (Cond.code yX3_tell cX3_tell 1 (some .int)) 2 0 0 [.ref a] Γ (th_V Γ h a b nm sd 3 f F t) (fun r ws => r = some (.int (f 2)) ∧ ws = th_V Γ h a b nm sd 3 f F (ap_tr t 1)) := by
  refine gk_M.intro (xN_ok t0) (by decide) [some (.ref a)] rfl rfl rfl ?_
  intro κ hl hg hN0 C E
  subst hl hg
  have C : gk_C κ cX3_tell "SawLine$Tooth" 2 0 0 := C
  refine gk_aload_n C dX3_tell_0 rfl ?_
  refine gk_cU (ce := 0) (sl := 0) (w1 := []) (w2 := []) (wc := th_V (gk_g κ) h a b nm sd 3 f F t) (As := []) C (by rw [hN0]; exact th_X3_plain_3 t0 _ _ h a b nm sd f F hF t) th_w_X3_34_3 rfl (Nat.zero_le _) (Nat.zero_le _) ⟨1, 3, _, TX3, 3, rfl, rfl⟩ rfl dX3_tell_1 (fun r wn hp => ?_)
  obtain ⟨rfl, rfl⟩ := hp
  refine gk_eqw (ws' := th_V (gk_g κ) h a b nm sd 3 f F (ap_tr t 1)) rfl ?_
  exact gk_iret C E dX3_tell_4 rfl rfl ⟨rfl, rfl⟩
set_option maxHeartbeats 1000000 in
theorem th_X3_tell_4 (t0 : Nat) (l : Launch) (Γ : gk_E) (h a b : Nat) (nm sd : Int32) (f : Nat → Int32) (F : List Value) (hF : F.length = 37) (t : Int32) : gk_M (xN t0) l yX3_tell (Cond.code yX3_tell cX3_tell 1 (some .int)) 2 0 0 [.ref a] Γ (th_V Γ h a b nm sd 4 f F t) (fun r ws => r = some (.int (f 2)) ∧ ws = th_V Γ h a b nm sd 4 f F (ap_tr t 1)) := by
  refine gk_M.intro (xN_ok t0) (by decide) [some (.ref a)] rfl rfl rfl ?_
  intro κ hl hg hN0 C E
  subst hl hg
  have C : gk_C κ cX3_tell "SawLine$Tooth" 2 0 0 := C
  refine gk_aload_n C dX3_tell_0 rfl ?_
  refine gk_cU (ce := 0) (sl := 0) (w1 := []) (w2 := []) (wc := th_V (gk_g κ) h a b nm sd 4 f F t) (As := []) C (by rw [hN0]; exact th_X3_plain_4 t0 _ _ h a b nm sd f F hF t) th_w_X3_34_4 rfl (Nat.zero_le _) (Nat.zero_le _) ⟨1, 4, _, TX4, 5, rfl, rfl⟩ rfl dX3_tell_1 (fun r wn hp => ?_)
  obtain ⟨rfl, rfl⟩ := hp
  refine gk_eqw (ws' := th_V (gk_g κ) h a b nm sd 4 f F (ap_tr t 1)) rfl ?_
  exact gk_iret C E dX3_tell_4 rfl rfl ⟨rfl, rfl⟩
set_option maxHeartbeats 1000000 in
theorem th_X3_tell_5 (t0 : Nat) (l : Launch) (Γ : gk_E) (h a b : Nat) (nm sd : Int32) (f : Nat → Int32) (F : List Value) (hF : F.length = 37) (t : Int32) : gk_M (xN t0) l yX3_tell (Cond.code yX3_tell cX3_tell 1 (some .int)) 2 0 0 [.ref a] Γ (th_V Γ h a b nm sd 5 f F t) (fun r ws => r = some (.int (f 2)) ∧ ws = th_V Γ h a b nm sd 5 f F (ap_tr t 1)) := by
  refine gk_M.intro (xN_ok t0) (by decide) [some (.ref a)] rfl rfl rfl ?_
  intro κ hl hg hN0 C E
  subst hl hg
  have C : gk_C κ cX3_tell "SawLine$Tooth" 2 0 0 := C
  refine gk_aload_n C dX3_tell_0 rfl ?_
  refine gk_cU (ce := 0) (sl := 0) (w1 := []) (w2 := []) (wc := th_V (gk_g κ) h a b nm sd 5 f F t) (As := []) C (by rw [hN0]; exact th_X3_plain_5 t0 _ _ h a b nm sd f F hF t) th_w_X3_34_5 rfl (Nat.zero_le _) (Nat.zero_le _) ⟨1, 5, _, TX5, 6, rfl, rfl⟩ rfl dX3_tell_1 (fun r wn hp => ?_)
  obtain ⟨rfl, rfl⟩ := hp
  refine gk_eqw (ws' := th_V (gk_g κ) h a b nm sd 5 f F (ap_tr t 1)) rfl ?_
  exact gk_iret C E dX3_tell_4 rfl rfl ⟨rfl, rfl⟩
set_option maxHeartbeats 1000000 in
theorem th_X4_tell_4 (t0 : Nat) (l : Launch) (Γ : gk_E) (h a b : Nat) (nm sd : Int32) (f : Nat → Int32) (F : List Value) (hF : F.length = 37) (t : Int32) : gk_M (xN t0) l yX4_tell (Cond.code yX4_tell cX4_tell 1 (some .int)) 3 0 0 [.ref a] Γ (th_V Γ h a b nm sd 4 f F t) (fun r ws => r = some (.int (f 2 + 100)) ∧ ws = th_V Γ h a b nm sd 4 f F (ap_tr (ap_tr t 2) 1)) := by
  refine gk_M.intro (xN_ok t0) (by decide) [some (.ref a)] rfl rfl rfl ?_
  intro κ hl hg hN0 C E
  subst hl hg
  have C : gk_C κ cX4_tell "SawLine$Bent" 3 0 0 := C
  refine gk_aload_n C dX4_tell_0 rfl ?_
  refine gk_get C in_X4 1 rfl rfl 4 (by decide) q507 rfl rfl dX4_tell_1 ?_
  refine gk_iconst 2 C dX4_tell_4 rfl ?_
  refine gk_cVN (ce := 0) (sl := 0) (C0 := "SawLine") (host := "SawLine") (w1 := []) (w2 := (th_W (gk_g κ) h a b nm sd 4 f)) (wc := [(h, .inr (0, tf F t))]) (As := [.int 2]) C (fun A U H h => by rw [hN0] at h; exact h.1) (gk_M.up0 (th_begins _ _ h F hF t 2)) (by decide +kernel) q994 q74 q993 qs39 okn_begins rfl rfl (Nat.zero_le _) (Nat.zero_le _) ⟨0, 0, _, TX0, 37, rfl, rfl⟩ rfl dX4_tell_5 (fun r wn hp => ?_)
  obtain ⟨rfl, rfl⟩ := hp
  refine gk_eqw (ws' := th_V (gk_g κ) h a b nm sd 4 f F (ap_tr t 2)) rfl ?_
  refine gk_aload_n C dX4_tell_8 rfl ?_
  refine gk_cSU (ce := 0) (sl := 0) (C0 := "SawLine$Bent") (w1 := []) (w2 := []) (wc := th_V (gk_g κ) h a b nm sd 4 f F (ap_tr t 2)) (As := []) C (by rw [hN0]; exact th_X3_tell_4 t0 _ _ h a b nm sd f F hF (ap_tr t 2)) (lw_SU q995  q987 q515 q985 q90 q1008) ⟨by decide, by decide +kernel⟩ rfl rfl (Nat.zero_le _) (Nat.zero_le _) ⟨1, 4, _, TX4, 5, rfl, rfl⟩ rfl dX4_tell_9 (fun r wn hp => ?_)
  obtain ⟨rfl, rfl⟩ := hp
  refine gk_eqw (ws' := th_V (gk_g κ) h a b nm sd 4 f F (th_tt 3 (ap_tr t 2))) rfl ?_
  refine gk_bipush 100 C dX4_tell_12 rfl ?_
  refine gk_iadd C dX4_tell_14 ?_
  exact gk_iret C E dX4_tell_15 rfl rfl ⟨rfl, rfl⟩
set_option maxHeartbeats 1000000 in
theorem th_X4_tell_5 (t0 : Nat) (l : Launch) (Γ : gk_E) (h a b : Nat) (nm sd : Int32) (f : Nat → Int32) (F : List Value) (hF : F.length = 37) (t : Int32) : gk_M (xN t0) l yX4_tell (Cond.code yX4_tell cX4_tell 1 (some .int)) 3 0 0 [.ref a] Γ (th_V Γ h a b nm sd 5 f F t) (fun r ws => r = some (.int (f 2 + 100)) ∧ ws = th_V Γ h a b nm sd 5 f F (ap_tr (ap_tr t 2) 1)) := by
  refine gk_M.intro (xN_ok t0) (by decide) [some (.ref a)] rfl rfl rfl ?_
  intro κ hl hg hN0 C E
  subst hl hg
  have C : gk_C κ cX4_tell "SawLine$Bent" 3 0 0 := C
  refine gk_aload_n C dX4_tell_0 rfl ?_
  refine gk_get C in_X5 1 rfl rfl 4 (by decide) q507 rfl rfl dX4_tell_1 ?_
  refine gk_iconst 2 C dX4_tell_4 rfl ?_
  refine gk_cVN (ce := 0) (sl := 0) (C0 := "SawLine") (host := "SawLine") (w1 := []) (w2 := (th_W (gk_g κ) h a b nm sd 5 f)) (wc := [(h, .inr (0, tf F t))]) (As := [.int 2]) C (fun A U H h => by rw [hN0] at h; exact h.1) (gk_M.up0 (th_begins _ _ h F hF t 2)) (by decide +kernel) q994 q74 q993 qs39 okn_begins rfl rfl (Nat.zero_le _) (Nat.zero_le _) ⟨0, 0, _, TX0, 37, rfl, rfl⟩ rfl dX4_tell_5 (fun r wn hp => ?_)
  obtain ⟨rfl, rfl⟩ := hp
  refine gk_eqw (ws' := th_V (gk_g κ) h a b nm sd 5 f F (ap_tr t 2)) rfl ?_
  refine gk_aload_n C dX4_tell_8 rfl ?_
  refine gk_cSU (ce := 0) (sl := 0) (C0 := "SawLine$Hooked") (w1 := []) (w2 := []) (wc := th_V (gk_g κ) h a b nm sd 5 f F (ap_tr t 2)) (As := []) C (by rw [hN0]; exact th_X3_tell_5 t0 _ _ h a b nm sd f F hF (ap_tr t 2)) (lw_SU q995  q987 q515 q985 q90 q1008) ⟨by decide, by decide +kernel⟩ rfl rfl (Nat.zero_le _) (Nat.zero_le _) ⟨1, 5, _, TX5, 6, rfl, rfl⟩ rfl dX4_tell_9 (fun r wn hp => ?_)
  obtain ⟨rfl, rfl⟩ := hp
  refine gk_eqw (ws' := th_V (gk_g κ) h a b nm sd 5 f F (th_tt 3 (ap_tr t 2))) rfl ?_
  refine gk_bipush 100 C dX4_tell_12 rfl ?_
  refine gk_iadd C dX4_tell_14 ?_
  exact gk_iret C E dX4_tell_15 rfl rfl ⟨rfl, rfl⟩
set_option maxHeartbeats 1000000 in
theorem th_X5_tell_5 (t0 : Nat) (l : Launch) (Γ : gk_E) (h a b : Nat) (nm sd : Int32) (f : Nat → Int32) (F : List Value) (hF : F.length = 37) (t : Int32) : gk_M (xN t0) l yX5_tell (Cond.code yX5_tell cX5_tell 1 (some .int)) 4 0 0 [.ref a] Γ (th_V Γ h a b nm sd 5 f F t) (fun r ws => r = some (.int (f 2 + 100 + f 2)) ∧ ws = th_V Γ h a b nm sd 5 f F (th_tt 5 t)) := by
  refine gk_M.intro (xN_ok t0) (by decide) [some (.ref a)] rfl rfl rfl ?_
  intro κ hl hg hN0 C E
  subst hl hg
  have C : gk_C κ cX5_tell "SawLine$Hooked" 4 0 0 := C
  refine gk_aload_n C dX5_tell_0 rfl ?_
  refine gk_get C in_X5 1 rfl rfl 5 (by decide) q522 rfl rfl dX5_tell_1 ?_
  refine gk_iconst 3 C dX5_tell_4 rfl ?_
  refine gk_cVN (ce := 0) (sl := 0) (C0 := "SawLine") (host := "SawLine") (w1 := []) (w2 := (th_W (gk_g κ) h a b nm sd 5 f)) (wc := [(h, .inr (0, tf F t))]) (As := [.int 3]) C (fun A U H h => by rw [hN0] at h; exact h.1) (gk_M.up0 (th_begins _ _ h F hF t 3)) (by decide +kernel) q994 q74 q993 qs39 okn_begins rfl rfl (Nat.zero_le _) (Nat.zero_le _) ⟨0, 0, _, TX0, 37, rfl, rfl⟩ rfl dX5_tell_5 (fun r wn hp => ?_)
  obtain ⟨rfl, rfl⟩ := hp
  refine gk_eqw (ws' := th_V (gk_g κ) h a b nm sd 5 f F (ap_tr t 3)) rfl ?_
  refine gk_aload_n C dX5_tell_8 rfl ?_
  refine gk_cSU (ce := 0) (sl := 0) (C0 := "SawLine$Hooked") (w1 := []) (w2 := []) (wc := th_V (gk_g κ) h a b nm sd 5 f F (ap_tr t 3)) (As := []) C (by rw [hN0]; exact th_X4_tell_5 t0 _ _ h a b nm sd f F hF (ap_tr t 3)) (lw_SU q1000 q1532 q530 q989 q91 q990) ⟨by decide, by decide +kernel⟩ rfl rfl (Nat.zero_le _) (Nat.zero_le _) ⟨1, 5, _, TX5, 6, rfl, rfl⟩ rfl dX5_tell_9 (fun r wn hp => ?_)
  obtain ⟨rfl, rfl⟩ := hp
  refine gk_eqw (ws' := th_V (gk_g κ) h a b nm sd 5 f F (th_tt 4 (ap_tr t 3))) rfl ?_
  refine gk_aload_n C dX5_tell_12 rfl ?_
  refine gk_cU (ce := 0) (sl := 0) (w1 := []) (w2 := []) (wc := th_V (gk_g κ) h a b nm sd 5 f F (th_tt 4 (ap_tr t 3))) (As := []) C (by rw [hN0]; exact th_X3_plain_5 t0 _ _ h a b nm sd f F hF (th_tt 4 (ap_tr t 3))) th_w_X5_26_5 rfl (Nat.zero_le _) (Nat.zero_le _) ⟨1, 5, _, TX5, 6, rfl, rfl⟩ rfl dX5_tell_13 (fun r wn hp => ?_)
  obtain ⟨rfl, rfl⟩ := hp
  refine gk_eqw (ws' := th_V (gk_g κ) h a b nm sd 5 f F (ap_tr (th_tt 4 (ap_tr t 3)) 1)) rfl ?_
  refine gk_iadd C dX5_tell_16 ?_
  exact gk_iret C E dX5_tell_17 rfl rfl ⟨rfl, rfl⟩
set_option maxHeartbeats 1000000 in
theorem th_X3_usual_3 (t0 : Nat) (l : Launch) (Γ : gk_E) (h a b : Nat) (nm sd : Int32) (f : Nat → Int32) (F : List Value) (hF : F.length = 37) (t : Int32) : gk_M (xN t0) l yX3_usual (Cond.code yX3_usual cX3_usual 1 (some .int)) 1 0 0 [.ref a] Γ (th_V Γ h a b nm sd 3 f F t) (fun r ws => r = some (.int (nm)) ∧ ws = th_V Γ h a b nm sd 3 f F (ap_tr t 4)) := by
  refine gk_M.intro (xN_ok t0) (by decide) [some (.ref a)] rfl rfl rfl ?_
  intro κ hl hg hN0 C E
  subst hl hg
  have C : gk_C κ cX3_usual "SawLine$Tooth" 1 0 0 := C
  refine gk_aload_n C dX3_usual_0 rfl ?_
  refine gk_get C in_X3 1 rfl rfl 2 (by decide) q492 rfl rfl dX3_usual_1 ?_
  refine gk_iconst 4 C dX3_usual_4 rfl ?_
  refine gk_cVN (ce := 0) (sl := 0) (C0 := "SawLine") (host := "SawLine") (w1 := []) (w2 := (th_W (gk_g κ) h a b nm sd 3 f)) (wc := [(h, .inr (0, tf F t))]) (As := [.int 4]) C (fun A U H h => by rw [hN0] at h; exact h.1) (gk_M.up0 (th_begins _ _ h F hF t 4)) (by decide +kernel) q994 q74 q993 qs39 okn_begins rfl rfl (Nat.zero_le _) (Nat.zero_le _) ⟨0, 0, _, TX0, 37, rfl, rfl⟩ rfl dX3_usual_5 (fun r wn hp => ?_)
  obtain ⟨rfl, rfl⟩ := hp
  refine gk_eqw (ws' := th_V (gk_g κ) h a b nm sd 3 f F (ap_tr t 4)) rfl ?_
  refine gk_aload_n C dX3_usual_8 rfl ?_
  refine gk_get C in_X3 1 rfl rfl 0 (by decide) q489 rfl rfl dX3_usual_9 ?_
  exact gk_iret C E dX3_usual_12 rfl rfl ⟨rfl, rfl⟩
set_option maxHeartbeats 1000000 in
theorem th_X3_usual_4 (t0 : Nat) (l : Launch) (Γ : gk_E) (h a b : Nat) (nm sd : Int32) (f : Nat → Int32) (F : List Value) (hF : F.length = 37) (t : Int32) : gk_M (xN t0) l yX3_usual (Cond.code yX3_usual cX3_usual 1 (some .int)) 1 0 0 [.ref a] Γ (th_V Γ h a b nm sd 4 f F t) (fun r ws => r = some (.int (nm)) ∧ ws = th_V Γ h a b nm sd 4 f F (ap_tr t 4)) := by
  refine gk_M.intro (xN_ok t0) (by decide) [some (.ref a)] rfl rfl rfl ?_
  intro κ hl hg hN0 C E
  subst hl hg
  have C : gk_C κ cX3_usual "SawLine$Tooth" 1 0 0 := C
  refine gk_aload_n C dX3_usual_0 rfl ?_
  refine gk_get C in_X4 1 rfl rfl 2 (by decide) q492 rfl rfl dX3_usual_1 ?_
  refine gk_iconst 4 C dX3_usual_4 rfl ?_
  refine gk_cVN (ce := 0) (sl := 0) (C0 := "SawLine") (host := "SawLine") (w1 := []) (w2 := (th_W (gk_g κ) h a b nm sd 4 f)) (wc := [(h, .inr (0, tf F t))]) (As := [.int 4]) C (fun A U H h => by rw [hN0] at h; exact h.1) (gk_M.up0 (th_begins _ _ h F hF t 4)) (by decide +kernel) q994 q74 q993 qs39 okn_begins rfl rfl (Nat.zero_le _) (Nat.zero_le _) ⟨0, 0, _, TX0, 37, rfl, rfl⟩ rfl dX3_usual_5 (fun r wn hp => ?_)
  obtain ⟨rfl, rfl⟩ := hp
  refine gk_eqw (ws' := th_V (gk_g κ) h a b nm sd 4 f F (ap_tr t 4)) rfl ?_
  refine gk_aload_n C dX3_usual_8 rfl ?_
  refine gk_get C in_X4 1 rfl rfl 0 (by decide) q489 rfl rfl dX3_usual_9 ?_
  exact gk_iret C E dX3_usual_12 rfl rfl ⟨rfl, rfl⟩
set_option maxHeartbeats 1000000 in
theorem th_X5_joint_5 (t0 : Nat) (l : Launch) (Γ : gk_E) (h a b : Nat) (nm sd : Int32) (f : Nat → Int32) (F : List Value) (hF : F.length = 37) (t : Int32) : gk_M (xN t0) l yX5_joint (Cond.code yX5_joint cX5_joint 1 (some .int)) 1 0 0 [.ref a] Γ (th_V Γ h a b nm sd 5 f F t) (fun r ws => r = some (.int (70)) ∧ ws = th_V Γ h a b nm sd 5 f F (ap_tr t 5)) := by
  refine gk_M.intro (xN_ok t0) (by decide) [some (.ref a)] rfl rfl rfl ?_
  intro κ hl hg hN0 C E
  subst hl hg
  have C : gk_C κ cX5_joint "SawLine$Hooked" 1 0 0 := C
  refine gk_aload_n C dX5_joint_0 rfl ?_
  refine gk_get C in_X5 1 rfl rfl 5 (by decide) q522 rfl rfl dX5_joint_1 ?_
  refine gk_iconst 5 C dX5_joint_4 rfl ?_
  refine gk_cVN (ce := 0) (sl := 0) (C0 := "SawLine") (host := "SawLine") (w1 := []) (w2 := (th_W (gk_g κ) h a b nm sd 5 f)) (wc := [(h, .inr (0, tf F t))]) (As := [.int 5]) C (fun A U H h => by rw [hN0] at h; exact h.1) (gk_M.up0 (th_begins _ _ h F hF t 5)) (by decide +kernel) q994 q74 q993 qs39 okn_begins rfl rfl (Nat.zero_le _) (Nat.zero_le _) ⟨0, 0, _, TX0, 37, rfl, rfl⟩ rfl dX5_joint_5 (fun r wn hp => ?_)
  obtain ⟨rfl, rfl⟩ := hp
  refine gk_eqw (ws' := th_V (gk_g κ) h a b nm sd 5 f F (ap_tr t 5)) rfl ?_
  refine gk_bipush 70 C dX5_joint_8 rfl ?_
  exact gk_iret C E dX5_joint_10 rfl rfl ⟨rfl, rfl⟩
