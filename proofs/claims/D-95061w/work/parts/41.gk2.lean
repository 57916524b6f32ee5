set_option maxRecDepth 100000
theorem gk_M.introI {N : gk_N} {l : Launch} {y : MethodName} {code : ByteArray} {nL : Nat} {ret : Option FieldType} {d mc ms : Nat} {av : List Value} {Γ : gk_E} {w0 : va_W} {post : Option Value → va_W → Prop} (hN : gk_NM N) (hy : plainName y.cls = true) (os : List (Option Value)) (hn : Nat.ble (lg_sl av).length nL = true) (hos : gk_pairs 0 os = lv_args 0 av) (hol : os.length = nL)
    (h : ∀ κ : gk_K, gk_l κ = l → gk_g κ = Γ → gk_n κ = N → κ.1.2.2.2.2.2.2.2.2.1.name = y.name → gk_C κ code y.cls d mc ms → gk_End κ ret post mc ms → gk_G κ 0 0 w0 0 os []) : gk_M N l y (Cond.code y code nL ret) d mc ms av Γ w0 post := by
  intro sz
  refine Met.ofW (cc := code) (maxL := nL) (ret := ret) hy rfl ?_
  intro p e s m args below meth c s₁ B hml hv
  obtain ⟨rfl, hsz, hP, hK, hD0, hN0⟩ := hv
  have hnm : meth.name = y.name := (name_of_methodNamed B.named B.method).1
  have hts := atoms_spec (ws := Cond.code y code nL ret :: lw_all) B.pre
  have hts : ∀ w ∈ lw_all, w.before _ s = true := fun w h => hts w (List.mem_cons_of_mem _ h)
  subst hsz
  have hl := lv_entry av (n := nL) (Nat.le_of_ble_eq_true hn)
  rw [lg_entry_eq]
  generalize (lg_sl av ++ List.replicate (nL - (lg_sl av).length) Slot.unset).toArray = ls at hl ⊢
  refine h ((p, l, e, (gk_Rm d mc ms), s, m, av.toArray, below, meth, c), Γ, va_A w0 s.heap.size, nL, MQ below (gk_Q Γ post (va_A w0 s.heap.size)) av.toArray s mc ms (va_A w0 s.heap.size), N) rfl rfl rfl hnm ⟨B.exec, B.bytes, hml, findClass_of_methodNamed B.named, hts, hK, fun q h => Or.inr h, ⟨Nat.le_refl _, Nat.le_refl _, Nat.le_refl _, Nat.le_refl _⟩, hN0, hN⟩ ⟨B.returns, B.notSynchronized, rfl⟩ s.heap [] ls hP hD0.self va_S.rf ⟨hl.1, hol, hl.2.1, fun i v hi => ?_⟩
  have := gk_pairs_mem os 0 i v hi
  rw [Nat.zero_add, hos] at this
  exact hl.2.2 (i, v) this
section GK2
variable {κ : gk_K} {cc : ByteArray} {own : String} {D MC MS ce sl pc : Nat} {ws : va_W} {os : List (Option Value)} {st : List Value}
theorem gk_nI_nn {N : Nat} (h : N < 2147483648) : ¬ nI N < 0 ∧ (nI N).toNatClampNeg = N := by
  have e := nI_ti h
  refine ⟨fun z => ?_, ?_⟩
  · rw [Int32.lt_iff_toInt_lt, e, Int32.toInt_zero] at z; omega
  · show (nI N).toInt.toNat = N
    rw [e]; rfl
theorem gk_newi {n : Int32} {N' : Nat} (C : gk_C κ cc own D MC MS) (hn : n = nI N') (hN : N' ≤ 100000) (hmc : ce + 1 ≤ MC) (hms : sl + N' ≤ MS) (hd : decode cc pc = .ok (.newarray .int, 2)) (kk : ∀ q : Nat, gk_G κ (ce + 1) (sl + N') (ws ++ [(q, .inl ((gk_g κ).2 0, N', .inl (fun _ => 0)))]) (pc + 2) os (.ref q :: st)) : gk_G κ ce sl ws pc os (.int n :: st) := by
  obtain ⟨⟨p, l, e, R, s, m, args, below, meth, c⟩, Γ, A, nL, Q, N⟩ := κ
  obtain ⟨hx, hb, hml, hown, hts, hK, hA, hR, hN0, hNM⟩ := C
  intro H locs ls hP hD hS hL
  subst hn
  have hz := gk_nI_nn (N := N') (by omega)
  refine va_newa (atype := .int) (ty := .int) (a0 := (N', .inl (fun _ => 0))) hx hb (hts _ q148) rfl hK hP hD hS hA (fun _ => rfl) hz.1 hz.2 (Nat.le_trans (Nat.mul_le_mul_right _ hN) (by decide)) (Nat.le_trans hmc hR.2.2.1) (Nat.le_trans hms hR.2.2.2) hd ?_
  intro q cA H1 hK1 hP1 hD1 hS1
  have e1 := (hK.2 0 (Γ.2 0, .int) rfl).2
  have e2 := (hK1.2 5 (cA, .int) rfl).2
  obtain rfl : Γ.2 0 = cA := Option.some.inj (e1.symm.trans e2)
  exact kk q H1 locs ls hP1 hD1 hS1 hL
theorem gk_newb {n : Int32} {N' : Nat} (C : gk_C κ cc own D MC MS) (hn : n = nI N') (hN : N' ≤ 100000) (hmc : ce + 1 ≤ MC) (hms : sl + N' ≤ MS) (hd : decode cc pc = .ok (.newarray .byte, 2)) (kk : ∀ q : Nat, gk_G κ (ce + 1) (sl + N') (ws ++ [(q, .inl ((gk_g κ).2 1, N', .inl (fun _ => 0)))]) (pc + 2) os (.ref q :: st)) : gk_G κ ce sl ws pc os (.int n :: st) := by
  obtain ⟨⟨p, l, e, R, s, m, args, below, meth, c⟩, Γ, A, nL, Q, N⟩ := κ
  obtain ⟨hx, hb, hml, hown, hts, hK, hA, hR, hN0, hNM⟩ := C
  intro H locs ls hP hD hS hL
  subst hn
  have hz := gk_nI_nn (N := N') (by omega)
  refine va_newa (atype := .byte) (ty := .byte) (a0 := (N', .inl (fun _ => 0))) hx hb (hts _ q346) rfl hK hP hD hS hA (fun _ => rfl) hz.1 hz.2 (Nat.le_trans (Nat.mul_le_mul_right _ hN) (by decide)) (Nat.le_trans hmc hR.2.2.1) (Nat.le_trans hms hR.2.2.2) hd ?_
  intro q cA H1 hK1 hP1 hD1 hS1
  have e1 := (hK.2 1 (Γ.2 1, .byte) rfl).2
  have e2 := (hK1.2 5 (cA, .byte) rfl).2
  obtain rfl : Γ.2 1 = cA := Option.some.inj (e1.symm.trans e2)
  exact kk q H1 locs ls hP1 hD1 hS1 hL
theorem gk_news {n : Int32} {N' : Nat} (C : gk_C κ cc own D MC MS) (hn : n = nI N') (hN : N' ≤ 100000) (hmc : ce + 1 ≤ MC) (hms : sl + N' ≤ MS) (hd : decode cc pc = .ok (.newarray .short, 2)) (kk : ∀ q : Nat, gk_G κ (ce + 1) (sl + N') (ws ++ [(q, .inl ((gk_g κ).2 2, N', .inl (fun _ => 0)))]) (pc + 2) os (.ref q :: st)) : gk_G κ ce sl ws pc os (.int n :: st) := by
  obtain ⟨⟨p, l, e, R, s, m, args, below, meth, c⟩, Γ, A, nL, Q, N⟩ := κ
  obtain ⟨hx, hb, hml, hown, hts, hK, hA, hR, hN0, hNM⟩ := C
  intro H locs ls hP hD hS hL
  subst hn
  have hz := gk_nI_nn (N := N') (by omega)
  refine va_newa (atype := .short) (ty := .short) (a0 := (N', .inl (fun _ => 0))) hx hb (hts _ q944) rfl hK hP hD hS hA (fun _ => rfl) hz.1 hz.2 (Nat.le_trans (Nat.mul_le_mul_right _ hN) (by decide)) (Nat.le_trans hmc hR.2.2.1) (Nat.le_trans hms hR.2.2.2) hd ?_
  intro q cA H1 hK1 hP1 hD1 hS1
  have e1 := (hK.2 2 (Γ.2 2, .short) rfl).2
  have e2 := (hK1.2 5 (cA, .short) rfl).2
  obtain rfl : Γ.2 2 = cA := Option.some.inj (e1.symm.trans e2)
  exact kk q H1 locs ls hP1 hD1 hS1 hL
theorem gk_new {Cn : String} {T : u_T} {n ci index : Nat} {fs : List Value} (C : gk_C κ cc own D MC MS) (hin : ∀ w ∈ u_ws Cn T n, w ∈ lw_all) (ty0 : Nat → FieldType) (hty : ∀ k, k < n → parseFieldDescriptor (T k).2.2.1 = some (ty0 k)) (hcl : Cond.classLink own index Cn ∈ lw_all) (hinst : Cond.instantiable Cn n ∈ lw_all) (hini : Cond.initialized Cn ∈ lw_all) (hc : vwCl[ci]? = some (Cn, T, n)) (hfs : ∀ j, j < n → defaultValue (ty0 j) = vp_V fs j) (hmc : ce + 1 ≤ MC) (hms : sl + n ≤ MS) (hd : decode cc pc = .ok (.new index, 3)) (kk : ∀ q : Nat, gk_G κ (ce + 1) (sl + n) (ws ++ [(q, .inr (ci, fs))]) (pc + 3) os (.ref q :: st)) : gk_G κ ce sl ws pc os st := by
  obtain ⟨⟨p, l, e, R, s, m, args, below, meth, c⟩, Γ, A, nL, Q, N⟩ := κ
  obtain ⟨hx, hb, hml, hown, hts, hK, hA, hR, hN0, hNM⟩ := C
  intro H locs ls hP hD hS hL
  refine va_new hx hb hts hin ty0 hty hown (hts _ hcl) (hts _ hinst) (hts _ hini) hK hP hD hS hA hc hfs (Nat.le_trans hmc hR.2.2.1) (Nat.le_trans hms hR.2.2.2) hd ?_
  intro q H1 hP1 hD1 hS1
  exact kk q H1 locs ls hP1 hD1 hS1 hL
end GK2
