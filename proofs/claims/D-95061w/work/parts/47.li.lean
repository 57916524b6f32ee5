set_option maxRecDepth 100000
section GK6
variable {κ : gk_K} {cc : ByteArray} {own : String} {D MC MS ce sl pc : Nat} {ws : va_W} {os : List (Option Value)} {st : List Value}
theorem gk_getS {ref Cn : String} {T : u_T} {n ci index a : Nat} {fs : List Value} {v : Value} (C : gk_C κ cc own D MC MS) (hin : ∀ w ∈ u_ws Cn T n, w ∈ lw_all) (q0 : Nat) (he : ws[q0]? = some (a, .inr (ci, fs))) (hc : vwCl[ci]? = some (Cn, T, n)) (k : Nat) (hk : k < n) (hlink : Cond.fieldLink own index ref (T k).2.1 (T k).2.2.1 ∈ lw_all) (hsame : Cond.sameField ref (T k).1 (T k).2.1 (T k).2.2.1 ∈ lw_all) (hv : fs[k]? = some v) (hd : decode cc pc = .ok (.getfield index, 3)) (kk : gk_G κ ce sl ws (pc + 3) os (v :: st)) : gk_G κ ce sl ws pc os (.ref a :: st) := by
  obtain ⟨⟨p, l, e, R, s, m, args, below, meth, c⟩, Γ, A, nL, Q, N⟩ := κ
  obtain ⟨hx, hb, hml, hown, hts, hK, hA, hR, hN0, hNM⟩ := C
  intro H locs ls hP hD hS hL
  exact va_get (ci := ci) (fs := fs) hx hb hts hin hown hK hP q0 he hc k hk (hts _ hlink) (fun x h => u_same (hts _ hsame) x h) hv hd (kk H locs ls hP hD hS hL)
theorem gk_putS {ref Cn : String} {T : u_T} {n ci index a : Nat} {fs : List Value} {v : Value} {ty : FieldType} (C : gk_C κ cc own D MC MS) (hin : ∀ w ∈ u_ws Cn T n, w ∈ lw_all) (ty0 : Nat → FieldType) (hty : ∀ k, k < n → parseFieldDescriptor (T k).2.2.1 = some (ty0 k)) (hnm : ∀ a, a < n → ∀ b, b < n → a ≠ b → (T a).2.1 ≠ (T b).2.1) (q0 : Nat) (he : ws[q0]? = some (a, .inr (ci, fs))) (hc : vwCl[ci]? = some (Cn, T, n)) (k : Nat) (hk : k < n) (hlink : Cond.fieldLink own index ref (T k).2.1 (T k).2.2.1 ∈ lw_all) (hsame : Cond.sameField ref (T k).1 (T k).2.1 (T k).2.2.1 ∈ lw_all) (hfin : (T k).2.2.2 = false) (hdt : parseFieldDescriptor (T k).2.2.1 = some ty) (hn : narrow ty v = v) (hfit : fits ty v = true) (hl : k < fs.length) (hd : decode cc pc = .ok (.putfield index, 3)) (kk : gk_G κ ce sl (ws.set q0 (a, .inr (ci, fs.set k v))) (pc + 3) os st) : gk_G κ ce sl ws pc os (v :: .ref a :: st) := by
  obtain ⟨⟨p, l, e, R, s, m, args, below, meth, c⟩, Γ, A, nL, Q, N⟩ := κ
  obtain ⟨hx, hb, hml, hown, hts, hK, hA, hR, hN0, hNM⟩ := C
  intro H locs ls hP hD hS hL
  exact va_put (ci := ci) (fs := fs) hx hb hts hin ty0 hty hnm hown hK hP hD hS q0 he hc k hk (hts _ hlink) (fun x h => u_same (hts _ hsame) x h) hfin hdt hn hfit hl hd (fun H1 locs1 hP1 hD1 hS1 => kk H1 locs1 ls hP1 hD1 hS1 hL)
end GK6
abbrev li_o (lo ed : Nat) (mc s : Int32) : Nat × va_E := (lo, .inr (6, [.int mc, .ref ed, .int s]))
abbrev li_a (Γ : gk_E) (ed : Nat) (f : Nat → Option Nat) : Nat × va_E := (ed, .inl (Γ.2 3, 10, gk_r f))
theorem cs_J2_66 : gk_cs "java/util/ArrayList" 66 yJ14_copyOf cJ14_copyOf 2 (some (.array (.object "java/lang/Object"))) 2 := ⟨lw_S q562 q563 q94 q564, ⟨by decide +kernel, by decide +kernel, by decide +kernel⟩, rfl⟩
theorem cv_J2_69 : gk_cv "java/util/ArrayList" 69 yJ2_grow_2 cJ2_grow_2 4 (some (.array (.object "java/lang/Object"))) 1 := ⟨lw_V q548 q550 qs10 q77 q551, ⟨by decide +kernel, by decide +kernel, by decide +kernel⟩, rfl⟩
theorem cs_J2_73 : gk_cs "java/util/ArrayList" 73 yJ13_newLength cJ13_newLength 4 (some .int) 3 := ⟨lw_S q552 q553 q93 q554, ⟨by decide +kernel, by decide +kernel, by decide +kernel⟩, rfl⟩
theorem cs_J2_79 : gk_cs "java/util/ArrayList" 79 yJ12_max cJ12_max 2 (some .int) 2 := ⟨lw_S q591 q556 q89 q557, ⟨by decide +kernel, by decide +kernel, by decide +kernel⟩, rfl⟩
theorem cs_J2_118 : gk_cs "java/util/ArrayList" 118 yJ15_checkIndex cJ15_checkIndex 2 (some .int) 2 := ⟨lw_S q623 q624 q96 q625, ⟨by decide +kernel, by decide +kernel, by decide +kernel⟩, rfl⟩
theorem cv_J2_123 : gk_cv "java/util/ArrayList" 123 yJ2_elementData cJ2_elementData 2 (some (.object "java/lang/Object")) 1 := ⟨lw_V q629 q630 q631 q77 q632, ⟨by decide +kernel, by decide +kernel, by decide +kernel⟩, rfl⟩
theorem cv_J2_129 : gk_cv "java/util/ArrayList" 129 yJ2_grow cJ2_grow 1 (some (.array (.object "java/lang/Object"))) 0 := ⟨lw_V q544 q546 qs9 q77 q547, ⟨by decide +kernel, by decide +kernel, by decide +kernel⟩, rfl⟩
theorem cv_J2_131 : gk_cv "java/util/ArrayList" 131 yJ2_add_2 cJ2_add_2 4 none 3 := ⟨lw_V q540 q542 qs8 q77 q543, ⟨by decide +kernel, by decide +kernel, by decide +kernel⟩, rfl⟩
theorem cs_J15_105 : gk_cs "java/util/Objects" 105 yJ16_checkIndex cJ16_checkIndex 3 (some .int) 3 := ⟨lw_S q626 q627 q97 q628, ⟨by decide +kernel, by decide +kernel, by decide +kernel⟩, rfl⟩
theorem gk_max {κ : gk_K} {cc : ByteArray} {own : String} {D MC MS ce sl pc idx : Nat} {ws : va_W} {os : List (Option Value)} {st : List Value} {x y : Int32} (C : gk_C κ cc own D MC MS) (hl : Cond.methodLink own idx Lib.Math.max.name ∈ lw_all) (hmc : ce ≤ MC) (hms : sl ≤ MS) (hst : Nat.ble (st.map fun v => v.category).sum 8 = true) (hd : decode cc pc = .ok (.invokestatic idx, 3)) (kk : gk_G κ ce sl ws (pc + 3) os (.int (if x < y then y else x) :: st)) : gk_G κ ce sl ws pc os (.int y :: .int x :: st) := by
  obtain ⟨⟨p, l, e, R, s, m, args, below, meth, c⟩, Γ, A, nL, Q, N⟩ := κ
  obtain ⟨hx, hb, hml, hown, hts, hK, hA, hR, hN0, hNM⟩ := C
  intro H locs ls hP hD hS hL
  have h8 := Nat.le_of_ble_eq_true hst
  exact va_mmax hx hb (by rw [hml]; exact hL.1.symm) hown (hts _ hl) (hts _ q556) (hts _ q89) (hts _ q557) (by have := hR.1; omega) (by have := hR.2.1; omega) (Nat.le_trans hmc hR.2.2.1) (Nat.le_trans hms hR.2.2.2) hd (kk H locs ls hP hD hS hL)
theorem gk_min {κ : gk_K} {cc : ByteArray} {own : String} {D MC MS ce sl pc idx : Nat} {ws : va_W} {os : List (Option Value)} {st : List Value} {x y : Int32} (C : gk_C κ cc own D MC MS) (hl : Cond.methodLink own idx Lib.Math.min.name ∈ lw_all) (hmc : ce ≤ MC) (hms : sl ≤ MS) (hst : Nat.ble (st.map fun v => v.category).sum 8 = true) (hd : decode cc pc = .ok (.invokestatic idx, 3)) (kk : gk_G κ ce sl ws (pc + 3) os (.int (if y < x then y else x) :: st)) : gk_G κ ce sl ws pc os (.int y :: .int x :: st) := by
  obtain ⟨⟨p, l, e, R, s, m, args, below, meth, c⟩, Γ, A, nL, Q, N⟩ := κ
  obtain ⟨hx, hb, hml, hown, hts, hK, hA, hR, hN0, hNM⟩ := C
  intro H locs ls hP hD hS hL
  have h8 := Nat.le_of_ble_eq_true hst
  exact va_mmin hx hb (by rw [hml]; exact hL.1.symm) hown (hts _ hl) (hts _ q433) (hts _ q89) (hts _ q434) (by have := hR.1; omega) (by have := hR.2.1; omega) (Nat.le_trans hmc hR.2.2.1) (Nat.le_trans hms hR.2.2.2) hd (kk H locs ls hP hD hS hL)
theorem gk_abs {κ : gk_K} {cc : ByteArray} {own : String} {D MC MS ce sl pc idx : Nat} {ws : va_W} {os : List (Option Value)} {st : List Value} {x : Int32} (C : gk_C κ cc own D MC MS) (hl : Cond.methodLink own idx Lib.Math.abs.name ∈ lw_all) (hmc : ce ≤ MC) (hms : sl ≤ MS) (hst : Nat.ble (st.map fun v => v.category).sum 8 = true) (hd : decode cc pc = .ok (.invokestatic idx, 3)) (kk : gk_G κ ce sl ws (pc + 3) os (.int (if 0 ≤ x then x else 0 - x) :: st)) : gk_G κ ce sl ws pc os (.int x :: st) := by
  obtain ⟨⟨p, l, e, R, s, m, args, below, meth, c⟩, Γ, A, nL, Q, N⟩ := κ
  obtain ⟨hx, hb, hml, hown, hts, hK, hA, hR, hN0, hNM⟩ := C
  intro H locs ls hP hD hS hL
  have h8 := Nat.le_of_ble_eq_true hst
  exact va_mabs hx hb (by rw [hml]; exact hL.1.symm) hown (hts _ hl) (hts _ q783) (hts _ q89) (hts _ q784) (by have := hR.1; omega) (by have := hR.2.1; omega) (Nat.le_trans hmc hR.2.2.1) (Nat.le_trans hms hR.2.2.2) hd (kk H locs ls hP hD hS hL)
set_option maxHeartbeats 1000000 in
theorem li_J16_checkIndex (l : Launch) (k n : Nat) (hk : k < n) (hn : n < 2 ^ 31) : gk_P l yJ16_checkIndex (Cond.code yJ16_checkIndex cJ16_checkIndex 3 (some .int)) 0 [.int (nI k), .int (nI n), .null] (.int (nI k)) := by
  intro Γ
  refine gk_M.intro gk_N0_ok (by decide) [some (.int (nI k)), some (.int (nI n)), some (.null)] rfl rfl rfl ?_
  intro κ hl hg hN0 C E
  subst hl hg
  have C : gk_C κ cJ16_checkIndex "jdk/internal/util/Preconditions" 0 0 0 := C
  refine gk_iload_n C dJ16_checkIndex_0 rfl ?_
  refine gk_if_lt 9 C dJ16_checkIndex_1 (by decide) (fun z => by first | exact absurd z (Int32.not_lt.mpr (nI_le (Nat.zero_le _) (by omega))) | exact absurd (Int32.not_lt.mpr (nI_le (Nat.zero_le _) (by omega))) z) (fun _ => ?_)
  refine gk_iload_n C dJ16_checkIndex_4 rfl ?_
  refine gk_iload_n C dJ16_checkIndex_5 rfl ?_
  refine gk_icmp_lt 16 C dJ16_checkIndex_6 (by decide) (fun _ => ?_) (fun z => by first | exact absurd z (nI_lt hk (by omega)) | exact absurd (nI_lt hk (by omega)) z)
  refine gk_iload_n C dJ16_checkIndex_16 rfl ?_
  exact gk_iret C E dJ16_checkIndex_17 rfl rfl ⟨rfl, rfl⟩
set_option maxHeartbeats 1000000 in
theorem li_J15_checkIndex (l : Launch) (k n : Nat) (hk : k < n) (hn : n < 2 ^ 31) : gk_P l yJ15_checkIndex (Cond.code yJ15_checkIndex cJ15_checkIndex 2 (some .int)) 1 [.int (nI k), .int (nI n)] (.int (nI k)) := by
  intro Γ
  refine gk_M.intro gk_N0_ok (by decide) [some (.int (nI k)), some (.int (nI n))] rfl rfl rfl ?_
  intro κ hl hg hN0 C E
  subst hl hg
  have C : gk_C κ cJ15_checkIndex "java/util/Objects" 1 0 0 := C
  refine gk_iload_n C dJ15_checkIndex_0 rfl ?_
  refine gk_iload_n C dJ15_checkIndex_1 rfl ?_
  refine gk_null C dJ15_checkIndex_2 ?_
  refine gk_cP3 C (li_J16_checkIndex _ k n hk hn) cs_J15_105 rfl (Nat.zero_le _) (Nat.zero_le _) rfl dJ15_checkIndex_3 ?_
  exact gk_iret C E dJ15_checkIndex_6 rfl rfl ⟨rfl, rfl⟩
set_option maxHeartbeats 1000000 in
theorem li_J2_size (l : Launch) (Γ : gk_E) (lo ed : Nat) (mc s : Int32) : gk_M gk_N0 l yJ2_size (Cond.code yJ2_size cJ2_size 1 (some .int)) 0 0 0 [.ref lo] Γ [li_o lo ed mc s] (fun r ws => r = some (.int s) ∧ ws = [li_o lo ed mc s]) := by
  refine gk_M.intro gk_N0_ok (by decide) [some (.ref lo)] rfl rfl rfl ?_
  intro κ hl hg hN0 C E
  subst hl hg
  have C : gk_C κ cJ2_size "java/util/ArrayList" 0 0 0 := C
  refine gk_aload_n C dJ2_size_0 rfl ?_
  refine gk_get C in_J2 0 rfl rfl 2 (by decide) q123 rfl rfl dJ2_size_1 ?_
  exact gk_iret C E dJ2_size_4 rfl rfl ⟨rfl, rfl⟩
set_option maxHeartbeats 1000000 in
theorem li_J2_isEmpty (l : Launch) (Γ : gk_E) (lo ed : Nat) (mc s : Int32) : gk_M gk_N0 l yJ2_isEmpty (Cond.code yJ2_isEmpty cJ2_isEmpty 1 (some .boolean)) 0 0 0 [.ref lo] Γ [li_o lo ed mc s] (fun r ws => r = some (.int (zb (s = 0))) ∧ ws = [li_o lo ed mc s]) := by
  refine gk_M.intro gk_N0_ok (by decide) [some (.ref lo)] rfl rfl rfl ?_
  intro κ hl hg hN0 C E
  subst hl hg
  have C : gk_C κ cJ2_isEmpty "java/util/ArrayList" 0 0 0 := C
  refine gk_aload_n C dJ2_isEmpty_0 rfl ?_
  refine gk_get C in_J2 0 rfl rfl 2 (by decide) q123 rfl rfl dJ2_isEmpty_1 ?_
  refine gk_if_ne 11 C dJ2_isEmpty_4 (by decide) (fun c4 => ?_) (fun c4 => ?_)
  · refine gk_iconst 0 C dJ2_isEmpty_11 rfl ?_
    exact gk_zret C E dJ2_isEmpty_12 rfl rfl (by first | exact narrow_b1 | exact narrow_b0 | exact zb_nb) ⟨by first | exact vi (zb_t c4).symm | exact vi (zb_f c4).symm, rfl⟩
  · refine gk_iconst 1 C dJ2_isEmpty_7 rfl ?_
    refine gk_goto 12 C dJ2_isEmpty_8 (by decide) ?_
    exact gk_zret C E dJ2_isEmpty_12 rfl rfl (by first | exact narrow_b1 | exact narrow_b0 | exact zb_nb) ⟨by first | exact vi (zb_t c4).symm | exact vi (zb_f c4).symm, rfl⟩
set_option maxHeartbeats 1000000 in
theorem li_J2_elementData (l : Launch) (Γ : gk_E) (lo ed : Nat) (mc : Int32) (n : Nat) (f : Nat → Option Nat) (k v : Nat) (hk : k < 10) (hv : f k = some v) : gk_M gk_N0 l yJ2_elementData (Cond.code yJ2_elementData cJ2_elementData 2 (some (.object "java/lang/Object"))) 0 0 0 [.ref lo, .int (nI k)] Γ [li_o lo ed mc (nI n), li_a Γ ed f] (fun r ws => r = some (.ref v) ∧ ws = [li_o lo ed mc (nI n), li_a Γ ed f]) := by
  refine gk_M.intro gk_N0_ok (by decide) [some (.ref lo), some (.int (nI k))] rfl rfl rfl ?_
  intro κ hl hg hN0 C E
  subst hl hg
  have C : gk_C κ cJ2_elementData "java/util/ArrayList" 0 0 0 := C
  refine gk_aload_n C dJ2_elementData_0 rfl ?_
  refine gk_get C in_J2 0 rfl rfl 1 (by decide) q122 rfl rfl dJ2_elementData_1 ?_
  refine gk_iload_n C dJ2_elementData_4 rfl ?_
  refine gk_aald (.ref v) C 1 3 rfl rfl k rfl hk rfl (by rw [hv]; rfl) dJ2_elementData_5 ?_
  exact gk_aret C E dJ2_elementData_6 rfl rfl (Or.inl ⟨_, rfl⟩) (Or.inr ⟨_, rfl⟩) ⟨rfl, rfl⟩
set_option maxHeartbeats 1000000 in
theorem li_J2_get (l : Launch) (Γ : gk_E) (lo ed : Nat) (mc : Int32) (n : Nat) (f : Nat → Option Nat) (k v : Nat) (hk : k < n) (hn : n ≤ 10) (hv : f k = some v) : gk_M gk_N0 l yJ2_get (Cond.code yJ2_get cJ2_get 2 (some (.object "java/lang/Object"))) 2 0 0 [.ref lo, .int (nI k)] Γ [li_o lo ed mc (nI n), li_a Γ ed f] (fun r ws => r = some (.ref v) ∧ ws = [li_o lo ed mc (nI n), li_a Γ ed f]) := by
  refine gk_M.intro gk_N0_ok (by decide) [some (.ref lo), some (.int (nI k))] rfl rfl rfl ?_
  intro κ hl hg hN0 C E
  subst hl hg
  have C : gk_C κ cJ2_get "java/util/ArrayList" 2 0 0 := C
  refine gk_iload_n C dJ2_get_0 rfl ?_
  refine gk_aload_n C dJ2_get_1 rfl ?_
  refine gk_get C in_J2 0 rfl rfl 2 (by decide) q123 rfl rfl dJ2_get_2 ?_
  refine gk_cP2 C (li_J15_checkIndex _ k n hk (by omega)) cs_J2_118 rfl (Nat.zero_le _) (Nat.zero_le _) rfl dJ2_get_5 ?_
  refine gk_pop C dJ2_get_8 rfl ?_
  refine gk_aload_n C dJ2_get_9 rfl ?_
  refine gk_iload_n C dJ2_get_10 rfl ?_
  refine gk_cV (w1 := []) (w2 := []) (As := [.int (nI k)]) C (gk_M.up0 (li_J2_elementData _ _ lo ed mc n f k v (by omega) hv)) cv_J2_123 rfl (Nat.zero_le _) (Nat.zero_le _) ⟨0, 6, _, TJ2, 3, rfl, rfl⟩ rfl dJ2_get_11 (fun r wn hp => ?_)
  obtain ⟨rfl, rfl⟩ := hp
  exact gk_aret C E dJ2_get_14 rfl rfl (by first | exact Or.inl ⟨_, rfl⟩ | exact Or.inr ⟨_, rfl⟩) (Or.inr ⟨_, rfl⟩) ⟨rfl, rfl⟩
def li_cl (f : Nat → Option Nat) (k : Nat) : Nat → Option Nat := fun j => if j < k then none else f j
theorem li_cl0 (f : Nat → Option Nat) : li_cl f 0 = f := by funext j; unfold li_cl; rw [if_neg (by omega)]
theorem li_cls (f : Nat → Option Nat) (k : Nat) : va_up (li_cl f k) k none = li_cl f (k + 1) := by
  funext j
  unfold va_up li_cl
  by_cases h : j = k
  · rw [if_pos h, if_pos (by omega)]
  · rw [if_neg h]
    by_cases h2 : j < k
    · rw [if_pos h2, if_pos (by omega)]
    · rw [if_neg h2, if_neg (by omega)]
set_option maxHeartbeats 1000000 in
theorem li_J2_clear (l : Launch) (Γ : gk_E) (lo ed : Nat) (mc : Int32) (n : Nat) (hn : n ≤ 10) (f : Nat → Option Nat) : gk_M gk_N0 l yJ2_clear (Cond.code yJ2_clear cJ2_clear 4 none) 0 0 0 [.ref lo] Γ [li_o lo ed mc (nI n), li_a Γ ed f] (fun r ws => r = none ∧ ws = [li_o lo ed (mc + 1) 0, li_a Γ ed (li_cl f n)]) := by
  refine gk_M.intro gk_N0_ok (by decide) [some (.ref lo), none, none, none] rfl rfl rfl ?_
  intro κ hl hg hN0 C E
  subst hl hg
  have C : gk_C κ cJ2_clear "java/util/ArrayList" 0 0 0 := C
  refine gk_aload_n C dJ2_clear_0 rfl ?_
  refine gk_dup C dJ2_clear_1 rfl ?_
  refine gk_getS C in_J2 0 rfl rfl 0 (by decide) q125 q126 rfl dJ2_clear_2 ?_
  refine gk_iconst 1 C dJ2_clear_5 rfl ?_
  refine gk_iadd C dJ2_clear_6 ?_
  refine gk_putS (ty := .int) C in_J2 tyJ2 tyJ2_ok nmJ2 0 rfl rfl 0 (by decide) q125 q126 rfl rfl rfl rfl (Nat.le_of_ble_eq_true rfl) dJ2_clear_7 ?_
  refine gk_aload_n C dJ2_clear_10 rfl ?_
  refine gk_get C in_J2 0 rfl rfl 1 (by decide) q122 rfl rfl dJ2_clear_11 ?_
  refine gk_astore_n C dJ2_clear_14 rfl rfl ?_
  refine gk_aload_n C dJ2_clear_15 rfl ?_
  refine gk_get C in_J2 0 rfl rfl 2 (by decide) q123 rfl rfl dJ2_clear_16 ?_
  refine gk_istore_n C dJ2_clear_19 rfl rfl ?_
  refine gk_aload_n C dJ2_clear_20 rfl ?_
  refine gk_iconst 0 C dJ2_clear_21 rfl ?_
  refine gk_dup_x1 C dJ2_clear_22 rfl rfl ?_
  refine gk_put (ty := .int) C in_J2 tyJ2 tyJ2_ok nmJ2 0 rfl rfl 2 (by decide) q123 rfl rfl rfl rfl rfl (Nat.le_of_ble_eq_true rfl) dJ2_clear_23 ?_
  refine gk_istore_n C dJ2_clear_26 rfl rfl ?_
  have L : ∀ x, x ≤ n → gk_G κ 0 0 [li_o lo ed (mc + 1) 0, li_a (gk_g κ) ed (li_cl f x)] 27 [some (.ref lo), some (.ref ed), some (.int (nI n)), some (.int (nI x))] [] := by
    refine up_ind (fun x hx ih => ?_)
    refine gk_iload_n C dJ2_clear_27 rfl ?_
    refine gk_iload_n C dJ2_clear_28 rfl ?_
    refine gk_icmp_ge 42 C dJ2_clear_29 (by decide) (fun c29 => ?_) (fun c29 => ?_)
    · obtain rfl : x = n := by have := nI_leT c29 (by omega) (by omega); omega
      exact gk_vret C E dJ2_clear_42 rfl rfl ⟨rfl, rfl⟩
    · have c29 : x < n := nI_ngeT c29 (by omega)
      refine gk_aload_n C dJ2_clear_32 rfl ?_
      refine gk_iload_n C dJ2_clear_33 rfl ?_
      refine gk_null C dJ2_clear_34 ?_
      refine gk_aastN C 1 3 rfl rfl x rfl (by omega) rfl dJ2_clear_35 ?_
      refine gk_eqw (ws' := [li_o lo ed (mc + 1) 0, li_a (gk_g κ) ed (li_cl f (x + 1))]) (by rw [← li_cls]; rfl) ?_
      refine gk_iinc (nI (x + 1)) C dJ2_clear_36 rfl (nI_succ x).symm rfl rfl ?_
      refine gk_goto 27 C dJ2_clear_39 (by decide) ?_
      exact ih c29
  have h0 := L 0 (Nat.zero_le _)
  rw [li_cl0] at h0
  exact h0
set_option maxHeartbeats 1000000 in
theorem li_J2_clear0 (l : Launch) (Γ : gk_E) (lo ed : Nat) (mc : Int32) : gk_M gk_N0 l yJ2_clear (Cond.code yJ2_clear cJ2_clear 4 none) 0 0 0 [.ref lo] Γ [li_o lo ed mc 0] (fun r ws => r = none ∧ ws = [li_o lo ed (mc + 1) 0]) := by
  refine gk_M.intro gk_N0_ok (by decide) [some (.ref lo), none, none, none] rfl rfl rfl ?_
  intro κ hl hg hN0 C E
  subst hl hg
  have C : gk_C κ cJ2_clear "java/util/ArrayList" 0 0 0 := C
  refine gk_aload_n C dJ2_clear_0 rfl ?_
  refine gk_dup C dJ2_clear_1 rfl ?_
  refine gk_getS C in_J2 0 rfl rfl 0 (by decide) q125 q126 rfl dJ2_clear_2 ?_
  refine gk_iconst 1 C dJ2_clear_5 rfl ?_
  refine gk_iadd C dJ2_clear_6 ?_
  refine gk_putS (ty := .int) C in_J2 tyJ2 tyJ2_ok nmJ2 0 rfl rfl 0 (by decide) q125 q126 rfl rfl rfl rfl (Nat.le_of_ble_eq_true rfl) dJ2_clear_7 ?_
  refine gk_aload_n C dJ2_clear_10 rfl ?_
  refine gk_get C in_J2 0 rfl rfl 1 (by decide) q122 rfl rfl dJ2_clear_11 ?_
  refine gk_astore_n C dJ2_clear_14 rfl rfl ?_
  refine gk_aload_n C dJ2_clear_15 rfl ?_
  refine gk_get C in_J2 0 rfl rfl 2 (by decide) q123 rfl rfl dJ2_clear_16 ?_
  refine gk_istore_n C dJ2_clear_19 rfl rfl ?_
  refine gk_aload_n C dJ2_clear_20 rfl ?_
  refine gk_iconst 0 C dJ2_clear_21 rfl ?_
  refine gk_dup_x1 C dJ2_clear_22 rfl rfl ?_
  refine gk_put (ty := .int) C in_J2 tyJ2 tyJ2_ok nmJ2 0 rfl rfl 2 (by decide) q123 rfl rfl rfl rfl rfl (Nat.le_of_ble_eq_true rfl) dJ2_clear_23 ?_
  refine gk_istore_n C dJ2_clear_26 rfl rfl ?_
  refine gk_iload_n C dJ2_clear_27 rfl ?_
  refine gk_iload_n C dJ2_clear_28 rfl ?_
  refine gk_icmp_ge 42 C dJ2_clear_29 (by decide) (fun _ => ?_) (fun z => by first | exact absurd z (Int32.le_refl _) | exact absurd (Int32.le_refl _) z)
  exact gk_vret C E dJ2_clear_42 rfl rfl ⟨rfl, rfl⟩
set_option maxHeartbeats 1000000 in
theorem li_J2_grow_2 (l : Launch) (Γ : gk_E) (t lo : Nat) (mc : Int32) : gk_M (xN t) l yJ2_grow_2 (Cond.code yJ2_grow_2 cJ2_grow_2 4 (some (.array (.object "java/lang/Object")))) 0 1 10 [.ref lo, .int 1] Γ [li_o lo t mc 0] (fun r ws => ∃ q, r = some (.ref q) ∧ ws = [li_o lo q mc 0, li_a Γ q (fun _ => none)]) := by
  refine gk_M.intro (xN_ok t) (by decide) [some (.ref lo), some (.int 1), none, none] rfl rfl rfl ?_
  intro κ hl hg hN0 C E
  subst hl hg
  have C : gk_C κ cJ2_grow_2 "java/util/ArrayList" 0 1 10 := C
  refine gk_aload_n C dJ2_grow_2_0 rfl ?_
  refine gk_get C in_J2 0 rfl rfl 1 (by decide) q122 rfl rfl dJ2_grow_2_1 ?_
  refine gk_lenE C hN0 dJ2_grow_2_4 ?_
  refine gk_istore_n C dJ2_grow_2_5 rfl rfl ?_
  refine gk_iload_n C dJ2_grow_2_6 rfl ?_
  refine gk_if_gt 20 C dJ2_grow_2_7 (by decide) (fun z => absurd z (by decide)) (fun _ => ?_)
  refine gk_aload_n C dJ2_grow_2_10 rfl ?_
  refine gk_get C in_J2 0 rfl rfl 1 (by decide) q122 rfl rfl dJ2_grow_2_11 ?_
  refine gk_getE C hN0 q120 dJ2_grow_2_14 ?_
  refine gk_acmp_eq 45 C dJ2_grow_2_17 (by decide) (fun _ => ?_) (fun z => absurd rfl z)
  refine gk_aload_n C dJ2_grow_2_45 rfl ?_
  refine gk_bipush 10 C dJ2_grow_2_46 rfl ?_
  refine gk_iload_n C dJ2_grow_2_48 rfl ?_
  refine gk_max C q591 (by decide) (by decide) rfl dJ2_grow_2_49 ?_
  refine gk_newqO (N' := 10) C (fun A U H h => by rw [hN0] at h; exact h.1) q592 rfl (by decide) (by decide) (by decide) dJ2_grow_2_52 (fun q => ?_)
  refine gk_dup_x1 C dJ2_grow_2_55 rfl rfl ?_
  refine gk_put (ty := .array (.object "java/lang/Object")) C in_J2 tyJ2 tyJ2_ok nmJ2 0 rfl rfl 1 (by decide) q122 rfl rfl rfl rfl rfl (Nat.le_of_ble_eq_true rfl) dJ2_grow_2_56 ?_
  exact gk_aret C E dJ2_grow_2_59 rfl rfl (Or.inr ⟨_, rfl⟩) (Or.inr ⟨_, rfl⟩) ⟨q, rfl, rfl⟩
set_option maxHeartbeats 1000000 in
theorem li_J2_grow (l : Launch) (Γ : gk_E) (t lo : Nat) (mc : Int32) : gk_M (xN t) l yJ2_grow (Cond.code yJ2_grow cJ2_grow 1 (some (.array (.object "java/lang/Object")))) 1 1 10 [.ref lo] Γ [li_o lo t mc 0] (fun r ws => ∃ q, r = some (.ref q) ∧ ws = [li_o lo q mc 0, li_a Γ q (fun _ => none)]) := by
  refine gk_M.intro (xN_ok t) (by decide) [some (.ref lo)] rfl rfl rfl ?_
  intro κ hl hg hN0 C E
  subst hl hg
  have C : gk_C κ cJ2_grow "java/util/ArrayList" 1 1 10 := C
  refine gk_aload_n C dJ2_grow_0 rfl ?_
  refine gk_aload_n C dJ2_grow_1 rfl ?_
  refine gk_get C in_J2 0 rfl rfl 2 (by decide) q123 rfl rfl dJ2_grow_2 ?_
  refine gk_iconst 1 C dJ2_grow_5 rfl ?_
  refine gk_iadd C dJ2_grow_6 ?_
  refine gk_eqv (y := 1) rfl ?_
  refine gk_cV (ce := 0) (sl := 0) (w1 := []) (w2 := []) (wc := [li_o lo t mc 0]) (As := [.int 1]) C (by rw [hN0]; exact li_J2_grow_2 _ _ t lo mc) cv_J2_69 rfl (by decide) (by decide) ⟨0, 6, _, TJ2, 3, rfl, rfl⟩ rfl dJ2_grow_7 (fun r wn hp => ?_)
  obtain ⟨q, rfl, rfl⟩ := hp
  exact gk_aret C E dJ2_grow_10 rfl rfl (by first | exact Or.inl ⟨_, rfl⟩ | exact Or.inr ⟨_, rfl⟩) (Or.inr ⟨_, rfl⟩) ⟨q, rfl, rfl⟩
set_option maxHeartbeats 1000000 in
theorem li_J2_add_20 (l : Launch) (Γ : gk_E) (t lo : Nat) (mc : Int32) (x ci nf : Nat) (vs : List Value) (C0 : String) (T : u_T) (hc : vwCl[ci]? = some (C0, T, nf)) (hca : (C0, "java/lang/Object") ∈ xCL) : gk_M (xN t) l yJ2_add_2 (Cond.code yJ2_add_2 cJ2_add_2 4 none) 2 1 10 [.ref lo, .ref x, .ref t, .int 0] Γ [li_o lo t mc 0, (x, .inr (ci, vs))] (fun r ws => ∃ q, r = none ∧ ws = [li_o lo q mc 1, li_a Γ q (va_up (fun _ => none) 0 (some x)), (x, .inr (ci, vs))]) := by
  refine gk_M.intro (xN_ok t) (by decide) [some (.ref lo), some (.ref x), some (.ref t), some (.int 0)] rfl rfl rfl ?_
  intro κ hl hg hN0 C E
  subst hl hg
  have C : gk_C κ cJ2_add_2 "java/util/ArrayList" 2 1 10 := C
  refine gk_iload_n C dJ2_add_2_0 rfl ?_
  refine gk_aload_n C dJ2_add_2_1 rfl ?_
  refine gk_lenE C hN0 dJ2_add_2_2 ?_
  refine gk_icmp_ne 11 C dJ2_add_2_3 (by decide) (fun z => absurd rfl z) (fun _ => ?_)
  refine gk_aload_n C dJ2_add_2_6 rfl ?_
  refine gk_cV (ce := 0) (sl := 0) (w1 := []) (w2 := [(x, .inr (ci, vs))]) (wc := [li_o lo t mc 0]) (As := []) C (by rw [hN0]; exact li_J2_grow _ _ t lo mc) cv_J2_129 rfl (by decide) (by decide) ⟨0, 6, _, TJ2, 3, rfl, rfl⟩ rfl dJ2_add_2_7 (fun r wn hp => ?_)
  obtain ⟨q, rfl, rfl⟩ := hp
  refine gk_astore_n C dJ2_add_2_10 rfl rfl ?_
  refine gk_aload_n C dJ2_add_2_11 rfl ?_
  refine gk_iload_n C dJ2_add_2_12 rfl ?_
  refine gk_aload_n C dJ2_add_2_13 rfl ?_
  refine gk_aastO C (fun A U H h => by rw [hN0] at h; exact h.1) 1 3 2 rfl rfl rfl hc hca 0 rfl (by decide) rfl dJ2_add_2_14 ?_
  refine gk_aload_n C dJ2_add_2_15 rfl ?_
  refine gk_iload_n C dJ2_add_2_16 rfl ?_
  refine gk_iconst 1 C dJ2_add_2_17 rfl ?_
  refine gk_iadd C dJ2_add_2_18 ?_
  refine gk_put (ty := .int) C in_J2 tyJ2 tyJ2_ok nmJ2 0 rfl rfl 2 (by decide) q123 rfl rfl rfl rfl rfl (Nat.le_of_ble_eq_true rfl) dJ2_add_2_19 ?_
  exact gk_vret C E dJ2_add_2_22 rfl rfl ⟨q, rfl, rfl⟩
set_option maxHeartbeats 1000000 in
theorem li_J2_add_21 (l : Launch) (Γ : gk_E) (t lo ed n : Nat) (hn : n < 10) (f : Nat → Option Nat) (mc : Int32) (x ci nf : Nat) (vs : List Value) (C0 : String) (T : u_T) (hc : vwCl[ci]? = some (C0, T, nf)) (hca : (C0, "java/lang/Object") ∈ xCL) : gk_M (xN t) l yJ2_add_2 (Cond.code yJ2_add_2 cJ2_add_2 4 none) 2 0 0 [.ref lo, .ref x, .ref ed, .int (nI n)] Γ [li_o lo ed mc (nI n), li_a Γ ed f, (x, .inr (ci, vs))] (fun r ws => r = none ∧ ws = [li_o lo ed mc (nI (n + 1)), li_a Γ ed (va_up f n (some x)), (x, .inr (ci, vs))]) := by
  refine gk_M.intro (xN_ok t) (by decide) [some (.ref lo), some (.ref x), some (.ref ed), some (.int (nI n))] rfl rfl rfl ?_
  intro κ hl hg hN0 C E
  subst hl hg
  have C : gk_C κ cJ2_add_2 "java/util/ArrayList" 2 0 0 := C
  refine gk_iload_n C dJ2_add_2_0 rfl ?_
  refine gk_aload_n C dJ2_add_2_1 rfl ?_
  refine gk_alen (nI 10) C 1 3 rfl rfl rfl dJ2_add_2_2 ?_
  refine gk_icmp_ne 11 C dJ2_add_2_3 (by decide) (fun _ => ?_) (fun z => absurd (nI_leT (a := 10) (b := n) (by rw [z]; exact Int32.le_refl _) (by omega) (by omega)) (by omega))
  refine gk_aload_n C dJ2_add_2_11 rfl ?_
  refine gk_iload_n C dJ2_add_2_12 rfl ?_
  refine gk_aload_n C dJ2_add_2_13 rfl ?_
  refine gk_aastO C (fun A U H h => by rw [hN0] at h; exact h.1) 1 3 2 rfl rfl rfl hc hca n rfl hn rfl dJ2_add_2_14 ?_
  refine gk_aload_n C dJ2_add_2_15 rfl ?_
  refine gk_iload_n C dJ2_add_2_16 rfl ?_
  refine gk_iconst 1 C dJ2_add_2_17 rfl ?_
  refine gk_iadd C dJ2_add_2_18 ?_
  refine gk_eqv (nI_succ n).symm ?_
  refine gk_put (ty := .int) C in_J2 tyJ2 tyJ2_ok nmJ2 0 rfl rfl 2 (by decide) q123 rfl rfl rfl rfl rfl (Nat.le_of_ble_eq_true rfl) dJ2_add_2_19 ?_
  exact gk_vret C E dJ2_add_2_22 rfl rfl ⟨rfl, rfl⟩
set_option maxHeartbeats 1000000 in
theorem li_J2_add0 (l : Launch) (Γ : gk_E) (t lo : Nat) (mc : Int32) (x ci nf : Nat) (vs : List Value) (C0 : String) (T : u_T) (hc : vwCl[ci]? = some (C0, T, nf)) (hca : (C0, "java/lang/Object") ∈ xCL) : gk_M (xN t) l yJ2_add (Cond.code yJ2_add cJ2_add 2 (some .boolean)) 3 1 10 [.ref lo, .ref x] Γ [li_o lo t mc 0, (x, .inr (ci, vs))] (fun r ws => ∃ q, r = some (.int 1) ∧ ws = [li_o lo q (mc + 1) 1, li_a Γ q (va_up (fun _ => none) 0 (some x)), (x, .inr (ci, vs))]) := by
  refine gk_M.intro (xN_ok t) (by decide) [some (.ref lo), some (.ref x)] rfl rfl rfl ?_
  intro κ hl hg hN0 C E
  subst hl hg
  have C : gk_C κ cJ2_add "java/util/ArrayList" 3 1 10 := C
  refine gk_aload_n C dJ2_add_0 rfl ?_
  refine gk_dup C dJ2_add_1 rfl ?_
  refine gk_getS C in_J2 0 rfl rfl 0 (by decide) q125 q126 rfl dJ2_add_2 ?_
  refine gk_iconst 1 C dJ2_add_5 rfl ?_
  refine gk_iadd C dJ2_add_6 ?_
  refine gk_putS (ty := .int) C in_J2 tyJ2 tyJ2_ok nmJ2 0 rfl rfl 0 (by decide) q125 q126 rfl rfl rfl rfl (Nat.le_of_ble_eq_true rfl) dJ2_add_7 ?_
  refine gk_aload_n C dJ2_add_10 rfl ?_
  refine gk_aload_n C dJ2_add_11 rfl ?_
  refine gk_aload_n C dJ2_add_12 rfl ?_
  refine gk_get C in_J2 0 rfl rfl 1 (by decide) q122 rfl rfl dJ2_add_13 ?_
  refine gk_aload_n C dJ2_add_16 rfl ?_
  refine gk_get C in_J2 0 rfl rfl 2 (by decide) q123 rfl rfl dJ2_add_17 ?_
  refine gk_cV (ce := 0) (sl := 0) (w1 := []) (w2 := []) (wc := [li_o lo t (mc + 1) 0, (x, .inr (ci, vs))]) (As := [.ref x, .ref t, .int 0]) C (by rw [hN0]; exact li_J2_add_20 _ _ t lo (mc + 1) x ci nf vs C0 T hc hca) cv_J2_131 rfl (by decide) (by decide) ⟨0, 6, _, TJ2, 3, rfl, rfl⟩ rfl dJ2_add_20 (fun r wn hp => ?_)
  obtain ⟨q, rfl, rfl⟩ := hp
  refine gk_iconst 1 C dJ2_add_23 rfl ?_
  exact gk_zret C E dJ2_add_24 rfl rfl (by first | exact narrow_b1 | exact narrow_b0 | exact zb_nb) ⟨q, rfl, rfl⟩
set_option maxHeartbeats 1000000 in
theorem li_J2_add1 (l : Launch) (Γ : gk_E) (t lo ed n : Nat) (hn : n < 10) (f : Nat → Option Nat) (mc : Int32) (x ci nf : Nat) (vs : List Value) (C0 : String) (T : u_T) (hc : vwCl[ci]? = some (C0, T, nf)) (hca : (C0, "java/lang/Object") ∈ xCL) : gk_M (xN t) l yJ2_add (Cond.code yJ2_add cJ2_add 2 (some .boolean)) 3 0 0 [.ref lo, .ref x] Γ [li_o lo ed mc (nI n), li_a Γ ed f, (x, .inr (ci, vs))] (fun r ws => r = some (.int 1) ∧ ws = [li_o lo ed (mc + 1) (nI (n + 1)), li_a Γ ed (va_up f n (some x)), (x, .inr (ci, vs))]) := by
  refine gk_M.intro (xN_ok t) (by decide) [some (.ref lo), some (.ref x)] rfl rfl rfl ?_
  intro κ hl hg hN0 C E
  subst hl hg
  have C : gk_C κ cJ2_add "java/util/ArrayList" 3 0 0 := C
  refine gk_aload_n C dJ2_add_0 rfl ?_
  refine gk_dup C dJ2_add_1 rfl ?_
  refine gk_getS C in_J2 0 rfl rfl 0 (by decide) q125 q126 rfl dJ2_add_2 ?_
  refine gk_iconst 1 C dJ2_add_5 rfl ?_
  refine gk_iadd C dJ2_add_6 ?_
  refine gk_putS (ty := .int) C in_J2 tyJ2 tyJ2_ok nmJ2 0 rfl rfl 0 (by decide) q125 q126 rfl rfl rfl rfl (Nat.le_of_ble_eq_true rfl) dJ2_add_7 ?_
  refine gk_aload_n C dJ2_add_10 rfl ?_
  refine gk_aload_n C dJ2_add_11 rfl ?_
  refine gk_aload_n C dJ2_add_12 rfl ?_
  refine gk_get C in_J2 0 rfl rfl 1 (by decide) q122 rfl rfl dJ2_add_13 ?_
  refine gk_aload_n C dJ2_add_16 rfl ?_
  refine gk_get C in_J2 0 rfl rfl 2 (by decide) q123 rfl rfl dJ2_add_17 ?_
  refine gk_cV (w1 := []) (w2 := []) (wc := [li_o lo ed (mc + 1) (nI n), li_a (gk_g κ) ed f, (x, .inr (ci, vs))]) (As := [.ref x, .ref ed, .int (nI n)]) C (by rw [hN0]; exact li_J2_add_21 _ _ t lo ed n hn f (mc + 1) x ci nf vs C0 T hc hca) cv_J2_131 rfl (by decide) (by decide) ⟨0, 6, _, TJ2, 3, rfl, rfl⟩ rfl dJ2_add_20 (fun r wn hp => ?_)
  obtain ⟨rfl, rfl⟩ := hp
  refine gk_iconst 1 C dJ2_add_23 rfl ?_
  exact gk_zret C E dJ2_add_24 rfl rfl (by first | exact narrow_b1 | exact narrow_b0 | exact zb_nb) ⟨rfl, rfl⟩
