set_option maxRecDepth 100000
abbrev gk_r (f : Nat → Option Nat) : (Nat → Int32) ⊕ ((Nat → Int64) ⊕ ((Nat → UInt32) ⊕ ((Nat → UInt64) ⊕ (Nat → Option Nat)))) := .inr (.inr (.inr (.inr f)))
section GK5
variable {κ : gk_K} {cc : ByteArray} {own : String} {D MC MS ce sl pc : Nat} {ws : va_W} {os : List (Option Value)} {st : List Value}
theorem gk_eqV {x y : Value} (h : x = y) (k : gk_G κ ce sl ws pc os (y :: st)) : gk_G κ ce sl ws pc os (x :: st) := h ▸ k
theorem gk_aald {a n : Nat} {cA : ClassId} {f : Nat → Option Nat} {i : Int32} {Cn : String} (v : Value) (C : gk_C κ cc own D MC MS) (q0 t0 : Nat) (he : ws[q0]? = some (a, .inl (cA, n, gk_r f))) (ht : (gk_T (gk_g κ))[t0]? = some (cA, .object Cn)) (j : Nat) (hi : i = nI j) (hj : j < n) (hn : Nat.blt n 1000000 = true) (hv : va_rf (f j) = v) (hd : decode cc pc = .ok (.aaload, 1)) (kk : gk_G κ ce sl ws (pc + 1) os (v :: st)) : gk_G κ ce sl ws pc os (.int i :: .ref a :: st) := by
  obtain ⟨⟨p, l, e, R, s, m, args, below, meth, c⟩, Γ, A, nL, Q, N⟩ := κ
  obtain ⟨hx, hb, hml, hown, hts, hK, hA, hR, hN0, hNM⟩ := C
  intro H locs ls hP hD hS hL
  obtain ⟨h1, rfl⟩ := gk_ixin hi hj hn
  subst hv
  exact va_aldq hx hb hK hP q0 t0 he ht h1 hd (kk H locs ls hP hD hS hL)
theorem gk_aastN {a n : Nat} {cA : ClassId} {f : Nat → Option Nat} {i : Int32} {Cn : String} (C : gk_C κ cc own D MC MS) (q0 t0 : Nat) (he : ws[q0]? = some (a, .inl (cA, n, gk_r f))) (ht : (gk_T (gk_g κ))[t0]? = some (cA, .object Cn)) (j : Nat) (hi : i = nI j) (hj : j < n) (hn : Nat.blt n 1000000 = true) (hd : decode cc pc = .ok (.aastore, 1)) (kk : gk_G κ ce sl (ws.set q0 (a, .inl (cA, n, gk_r (va_up f j none)))) (pc + 1) os st) : gk_G κ ce sl ws pc os (.null :: .int i :: .ref a :: st) := by
  obtain ⟨⟨p, l, e, R, s, m, args, below, meth, c⟩, Γ, A, nL, Q, N⟩ := κ
  obtain ⟨hx, hb, hml, hown, hts, hK, hA, hR, hN0, hNM⟩ := C
  intro H locs ls hP hD hS hL
  obtain ⟨h1, rfl⟩ := gk_ixin hi hj hn
  exact va_astqN hx hb hK hP hD hS q0 t0 he ht h1 hd (fun H1 locs1 hP1 hD1 hS1 => kk H1 locs1 ls hP1 hD1 hS1 hL)
theorem gk_aastO {a n v : Nat} {cA : ClassId} {f : Nat → Option Nat} {i : Int32} {Cn C0 : String} {T : u_T} {nf ci : Nat} {vs : List Value} (C : gk_C κ cc own D MC MS) (hNx : ∀ A U H, gk_n κ A U H → xNP U) (q0 t0 qk : Nat) (he : ws[q0]? = some (a, .inl (cA, n, gk_r f))) (ht : (gk_T (gk_g κ))[t0]? = some (cA, .object Cn)) (hv : ws[qk]? = some (v, .inr (ci, vs))) (hc : vwCl[ci]? = some (C0, T, nf)) (hca : (C0, Cn) ∈ xCL) (j : Nat) (hi : i = nI j) (hj : j < n) (hn : Nat.blt n 1000000 = true) (hd : decode cc pc = .ok (.aastore, 1)) (kk : gk_G κ ce sl (ws.set q0 (a, .inl (cA, n, gk_r (va_up f j (some v))))) (pc + 1) os st) : gk_G κ ce sl ws pc os (.ref v :: .int i :: .ref a :: st) := by
  obtain ⟨⟨p, l, e, R, s, m, args, below, meth, c⟩, Γ, A, nL, Q, N⟩ := κ
  obtain ⟨hx, hb, hml, hown, hts, hK, hA, hR, hN0, hNM⟩ := C
  intro H locs ls hP hD hS hL
  obtain ⟨h1, rfl⟩ := gk_ixin hi hj hn
  exact va_astqO hx hb hK hP hD hS q0 t0 qk ci he ht ((hNx _ _ _ hN0).2.2.1 _ hca) hv hc h1 hd (fun H1 locs1 hP1 hD1 hS1 => kk H1 locs1 ls hP1 hD1 hS1 hL)
theorem gk_aast {a n v : Nat} {cA : ClassId} {f : Nat → Option Nat} {i : Int32} {C0 : String} {T : u_T} {nf ci : Nat} {vs : List Value} (C : gk_C κ cc own D MC MS) (q0 t0 qk : Nat) (he : ws[q0]? = some (a, .inl (cA, n, gk_r f))) (ht : (gk_T (gk_g κ))[t0]? = some (cA, .object C0)) (hv : ws[qk]? = some (v, .inr (ci, vs))) (hc : vwCl[ci]? = some (C0, T, nf)) (j : Nat) (hi : i = nI j) (hj : j < n) (hn : Nat.blt n 1000000 = true) (hd : decode cc pc = .ok (.aastore, 1)) (kk : gk_G κ ce sl (ws.set q0 (a, .inl (cA, n, gk_r (va_up f j (some v))))) (pc + 1) os st) : gk_G κ ce sl ws pc os (.ref v :: .int i :: .ref a :: st) := by
  obtain ⟨⟨p, l, e, R, s, m, args, below, meth, c⟩, Γ, A, nL, Q, N⟩ := κ
  obtain ⟨hx, hb, hml, hown, hts, hK, hA, hR, hN0, hNM⟩ := C
  intro H locs ls hP hD hS hL
  obtain ⟨h1, rfl⟩ := gk_ixin hi hj hn
  exact va_astq (r := (C0, T, nf)) hx hb hK hP hD hS q0 t0 qk ci he ht hv hc h1 hd (fun H1 locs1 hP1 hD1 hS1 => kk H1 locs1 ls hP1 hD1 hS1 hL)
theorem gk_newqO {n : Int32} {N' index : Nat} (C : gk_C κ cc own D MC MS) (hNx : ∀ A U H, gk_n κ A U H → xNP U) (hcl : Cond.classLink own index "java/lang/Object" ∈ lw_all) (hn : n = nI N') (hN : N' ≤ 100000) (hmc : ce + 1 ≤ MC) (hms : sl + N' ≤ MS) (hd : decode cc pc = .ok (.anewarray index, 3)) (kk : ∀ q : Nat, gk_G κ (ce + 1) (sl + N') (ws ++ [(q, .inl ((gk_g κ).2 3, N', gk_r (fun _ => none)))]) (pc + 3) os (.ref q :: st)) : gk_G κ ce sl ws pc os (.int n :: st) := by
  obtain ⟨⟨p, l, e, R, s, m, args, below, meth, c⟩, Γ, A, nL, Q, N⟩ := κ
  obtain ⟨hx, hb, hml, hown, hts, hK, hA, hR, hN0, hNM⟩ := C
  intro H locs ls hP hD hS hL
  subst hn
  have hz := gk_nI_nn (N := N') (by omega)
  refine va_newq hx hb hown (hts _ hcl) (hNx _ _ _ hN0).2.2.2.2.2 hK hP hD hS hA hz.1 hz.2 (by omega) (Nat.le_trans hmc hR.2.2.1) (Nat.le_trans hms hR.2.2.2) hd ?_
  intro q cA H1 hK1 hP1 hD1 hS1
  obtain ⟨-, -, -, -, -, e1⟩ := (hK.2 3 (Γ.2 3, .object "java/lang/Object") rfl).2
  obtain ⟨-, -, -, -, -, e2⟩ := (hK1.2 5 (cA, .object "java/lang/Object") rfl).2
  obtain rfl : Γ.2 3 = cA := Option.some.inj (e1.symm.trans e2)
  exact kk q H1 locs ls hP1 hD1 hS1 hL
theorem gk_newqP {n : Int32} {N' index : Nat} (C : gk_C κ cc own D MC MS) (hNx : ∀ A U H, gk_n κ A U H → xNP U) (hcl : Cond.classLink own index "SawLine$Place" ∈ lw_all) (hn : n = nI N') (hN : N' ≤ 100000) (hmc : ce + 1 ≤ MC) (hms : sl + N' ≤ MS) (hd : decode cc pc = .ok (.anewarray index, 3)) (kk : ∀ q : Nat, gk_G κ (ce + 1) (sl + N') (ws ++ [(q, .inl ((gk_g κ).2 4, N', gk_r (fun _ => none)))]) (pc + 3) os (.ref q :: st)) : gk_G κ ce sl ws pc os (.int n :: st) := by
  obtain ⟨⟨p, l, e, R, s, m, args, below, meth, c⟩, Γ, A, nL, Q, N⟩ := κ
  obtain ⟨hx, hb, hml, hown, hts, hK, hA, hR, hN0, hNM⟩ := C
  intro H locs ls hP hD hS hL
  subst hn
  have hz := gk_nI_nn (N := N') (by omega)
  refine va_newq hx hb hown (hts _ hcl) (hNx _ _ _ hN0).2.2.2.2.1 hK hP hD hS hA hz.1 hz.2 (by omega) (Nat.le_trans hmc hR.2.2.1) (Nat.le_trans hms hR.2.2.2) hd ?_
  intro q cA H1 hK1 hP1 hD1 hS1
  obtain ⟨-, -, -, -, -, e1⟩ := (hK.2 4 (Γ.2 4, .object "SawLine$Place") rfl).2
  obtain ⟨-, -, -, -, -, e2⟩ := (hK1.2 5 (cA, .object "SawLine$Place") rfl).2
  obtain rfl : Γ.2 4 = cA := Option.some.inj (e1.symm.trans e2)
  exact kk q H1 locs ls hP1 hD1 hS1 hL
/-- checkcast of an object of the world -/
theorem gk_castY {a index ci q0 nf : Nat} {C0 nm : String} {T : u_T} {vs : List Value} (C : gk_C κ cc own D MC MS) (hNx : ∀ A U H, gk_n κ A U H → xNP U) (hcl : Cond.classLink own index nm ∈ lw_all) (he : ws[q0]? = some (a, .inr (ci, vs))) (hc : vwCl[ci]? = some (C0, T, nf)) (hca : (C0, nm) ∈ xCL) (hd : decode cc pc = .ok (.checkcast index, 3)) (kk : gk_G κ ce sl ws (pc + 3) os (.ref a :: st)) : gk_G κ ce sl ws pc os (.ref a :: st) := by
  obtain ⟨⟨p, l, e, R, s, m, args, below, meth, c⟩, Γ, A, nL, Q, N⟩ := κ
  obtain ⟨hx, hb, hml, hown, hts, hK, hA, hR, hN0, hNM⟩ := C
  intro H locs ls hP hD hS hL
  exact va_castY hx hb hown (hts _ hcl) ((hNx _ _ _ hN0).2.2.1 _ hca) (va_recv hK hP hc he) hd (kk H locs ls hP hD hS hL)
/-- checkcast to an object's own class -/
theorem gk_castS {a index ci q0 nf : Nat} {C0 : String} {T : u_T} {vs : List Value} (C : gk_C κ cc own D MC MS) (hcl : Cond.classLink own index C0 ∈ lw_all) (he : ws[q0]? = some (a, .inr (ci, vs))) (hc : vwCl[ci]? = some (C0, T, nf)) (hd : decode cc pc = .ok (.checkcast index, 3)) (kk : gk_G κ ce sl ws (pc + 3) os (.ref a :: st)) : gk_G κ ce sl ws pc os (.ref a :: st) := by
  obtain ⟨⟨p, l, e, R, s, m, args, below, meth, c⟩, Γ, A, nL, Q, N⟩ := κ
  obtain ⟨hx, hb, hml, hown, hts, hK, hA, hR, hN0, hNM⟩ := C
  intro H locs ls hP hD hS hL
  exact va_castS hx hb hown (hts _ hcl) (hK.1 ci _ hc).2 (va_recv hK hP hc he) hd (kk H locs ls hP hD hS hL)
/-- the empty array of an ArrayList -/
theorem gk_getE {t index : Nat} (C : gk_C κ cc own D MC MS) (hNx : gk_n κ = xN t) (hl : Cond.fieldLink own index "java/util/ArrayList" "DEFAULTCAPACITY_EMPTY_ELEMENTDATA" "[Ljava/lang/Object;" ∈ lw_all) (hd : decode cc pc = .ok (.getstatic index, 3)) (kk : gk_G κ ce sl ws (pc + 3) os (.ref t :: st)) : gk_G κ ce sl ws pc os st := by
  obtain ⟨⟨p, l, e, R, s, m, args, below, meth, c⟩, Γ, A, nL, Q, N⟩ := κ
  obtain ⟨hx, hb, hml, hown, hts, hK, hA, hR, hN0, hNM⟩ := C
  intro H locs ls hP hD hS hL
  have hNx : N = xN t := hNx
  subst hNx
  exact va_gets hx hb hN0.2.1 hS hown (hts _ hl) (fun _ h => h) hd (kk H locs ls hP hD hS hL)
theorem gk_lenE {t : Nat} (C : gk_C κ cc own D MC MS) (hNx : gk_n κ = xN t) (hd : decode cc pc = .ok (.arraylength, 1)) (kk : gk_G κ ce sl ws (pc + 1) os (.int 0 :: st)) : gk_G κ ce sl ws pc os (.ref t :: st) := by
  obtain ⟨⟨p, l, e, R, s, m, args, below, meth, c⟩, Γ, A, nL, Q, N⟩ := κ
  obtain ⟨hx, hb, hml, hown, hts, hK, hA, hR, hN0, hNM⟩ := C
  intro H locs ls hP hD hS hL
  have hNx : N = xN t := hNx
  subst hNx
  exact va_tlen hx hb hN0.2.2 hS rfl hd (kk H locs ls hP hD hS hL)
theorem gk_acmp_eq {x y : Nat} {off : Int} (tgt : Nat) (C : gk_C κ cc own D MC MS) (hd : decode cc pc = .ok (.if_acmp .eq off, 3)) (ht : (pc : Int) + off = (tgt : Int)) (kt : x = y → gk_G κ ce sl ws tgt os st) (kf : ¬ x = y → gk_G κ ce sl ws (pc + 3) os st) : gk_G κ ce sl ws pc os (.ref y :: .ref x :: st) := by
  obtain ⟨⟨p, l, e, R, s, m, args, below, meth, c⟩, Γ, A, nL, Q, N⟩ := κ
  obtain ⟨hx, hb, hml, hown, hts, hK, hA, hR, hN0, hNM⟩ := C
  intro H locs ls hP hD hS hL
  exact lv_acmp_eq (rx := some x) (ry := some y) hx hb hd ht (fun h => kt (Option.some.inj h) H locs ls hP hD hS hL) (fun h => kf (fun z => h (congrArg some z)) H locs ls hP hD hS hL)
end GK5
