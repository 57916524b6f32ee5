set_option maxRecDepth 100000
theorem gx_cls {s : State} {O f d : String} {cf kf fi fd} (hi : s.fieldFound? O f d = some (cf, kf, fi, fd)) : s.vm.classes[cf]? = some kf := by
  unfold State.fieldFound? at hi
  simp only [Option.bind_eq_bind, Option.bind_eq_some_iff, Option.pure_def, Option.some.injEq, Prod.mk.injEq] at hi
  obtain ⟨_, _, _, _, ⟨c, i⟩, _, k, hk, fl, _, rfl, rfl, _, _⟩ := hi
  exact hk
def gx_ok (T : u_T) (n : Nat) : Prop := ∀ a, a < n → ∀ b, b < n → a ≠ b → (T a).2.1 ≠ (T b).2.1 ∨ ((T a).2.2.2 = true ∧ (T b).2.2.2 = true ∧ (T a).1 ≠ (T b).1)
theorem gx_okX4 : gx_ok TX4 5 := by unfold gx_ok; decide +kernel
theorem gx_okX5 : gx_ok TX5 6 := by unfold gx_ok; decide +kernel
theorem gx_okX3 : gx_ok TX3 3 := by unfold gx_ok; decide +kernel
theorem gx_apart {args : Array Value} {s : State} {D : va_G} {cl : List vw_C} {tys : List (ClassId × FieldType)} {C : String} {T : u_T} {N ci : Nat} {Ts : List Cond} (hts : ∀ w ∈ Ts, w.before args s = true) (hin : ∀ w ∈ u_ws C T N, w ∈ Ts) (ty : Nat → FieldType) (hty : ∀ k, k < N → parseFieldDescriptor (T k).2.2.1 = some (ty k)) (hnm : gx_ok T N) (hK : va_K D cl tys s) (hc : cl[ci]? = some (C, T, N)) : ∀ x y, x < N → y < N → x ≠ y → (D.2 ci) x ≠ (D.2 ci) y := by
  intro x y hx hy hne
  obtain ⟨hS, hfc, -⟩ := hK.1 ci _ hc
  obtain ⟨ca, ka, _, fa, hia, ea⟩ := hS x hx
  obtain ⟨cb, kb, _, fb, hib, eb⟩ := hS y hy
  rw [← ea, ← eb]
  rcases hnm x hx y hy hne with h | ⟨h1, h2, h3⟩
  · refine u_apart (u_lays hts hin hx) (u_lays hts hin hy) hia hib ?_
    rw [(State.fieldFound?_type hia (hty x hx)).1, (State.fieldFound?_type hib (hty y hy)).1]
    exact h
  · intro hs
    obtain ⟨u, hu, nu, -⟩ := gx_decl (u_lays hts hin hx) hfc hia
    obtain ⟨v, hv, nv, -⟩ := gx_decl (u_lays hts hin hy) hfc hib
    rw [hs] at hu
    cases hu.symm.trans hv
    have l1 := hts _ (hin _ (u_in_lay hx))
    have l2 := hts _ (hin _ (u_in_lay hy))
    unfold u_lay at l1 l2
    rw [if_pos h1] at l1
    rw [if_pos h2] at l2
    obtain ⟨k1, e1, n1⟩ := Vm.findClass_spec (gx_own l1 hia)
    obtain ⟨k2, e2, n2⟩ := Vm.findClass_spec (gx_own l2 hib)
    cases e1.symm.trans (gx_cls hia)
    cases e2.symm.trans (gx_cls hib)
    exact h3 (n1.symm.trans (nu.symm.trans (nv.trans n2)))
section GK7
variable {κ : gk_K} {cc : ByteArray} {own : String} {D MC MS ce sl pc : Nat} {ws : va_W} {os : List (Option Value)} {st : List Value}
theorem gk_putFX {ref Cn : String} {T : u_T} {n ci index a : Nat} {fs : List Value} {v : Value} {ty : FieldType} (C : gk_C κ cc own D MC MS) (hin : ∀ w ∈ u_ws Cn T n, w ∈ lw_all) (ty0 : Nat → FieldType) (hty : ∀ k, k < n → parseFieldDescriptor (T k).2.2.1 = some (ty0 k)) (hnm : gx_ok T n) (hin2 : κ.1.2.2.2.2.2.2.2.2.1.name = "<init>") (q0 : Nat) (he : ws[q0]? = some (a, .inr (ci, fs))) (hc : vwCl[ci]? = some (Cn, T, n)) (k : Nat) (hk : k < n) (hlink : Cond.fieldLink own index ref (T k).2.1 (T k).2.2.1 ∈ lw_all) (href : ref = (T k).1) (hdecl : (T k).1 = own) (hfin : (T k).2.2.2 = true) (hdt : parseFieldDescriptor (T k).2.2.1 = some ty) (hn : narrow ty v = v) (hfit : fits ty v = true) (hl : k < fs.length) (hd : decode cc pc = .ok (.putfield index, 3)) (kk : gk_G κ ce sl (ws.set q0 (a, .inr (ci, fs.set k v))) (pc + 3) os st) : gk_G κ ce sl ws pc os (v :: .ref a :: st) := by
  obtain ⟨⟨p, l, e, R, s, m, args, below, meth, c⟩, Γ, A, nL, Q, N⟩ := κ
  obtain ⟨hx, hb, hml, hown, hts, hK, hA, hR, hN0, hNM⟩ := C
  intro H locs ls hP hD hS hL
  subst href
  have hap := gx_apart hts hin ty0 hty hnm hK hc
  obtain ⟨r, h1, cell, q1, q2, q3, q4⟩ := hP q0 _ he
  have hr : r = (Cn, T, n) := Option.some.inj (h1.symm.trans hc)
  subst hr
  obtain ⟨hSl, hfc, kC, hkC, hkind⟩ := hK.1 ci _ hc
  obtain ⟨cf, kf, fi, f, hi, hsl⟩ := hSl k hk
  have hlay := hts _ (hin _ (u_in_lay hk))
  unfold u_lay at hlay
  rw [if_pos hfin] at hlay
  have hst := (u_facts hfc hkC (u_lays hts hin hk) hi).1
  have hcf : m.cls = cf := by
    have h2 := gx_own hlay hi
    rw [hdecl] at h2
    exact Option.some.inj (hown.symm.trans h2)
  have h6 := u_fits hfc hkC hkind (Or.inr hlay) hi hdt hn hfit
  refine W.putFinK hx hb hown (hts _ hlink) hi hst hcf hin2 (by rw [q2]; exact h6) q1 q3 (by rw [hsl]; exact k2_hasslot (q4 k hk)) rfl rfl hd fun H' e1 e2 e3 => ?_
  rw [hsl] at e1 ⊢
  exact kk H' _ ls (hP.set hD he ⟨_, hc, t_OB.to (V := updV (vp_V fs) k v) ⟨_, e1, q2, q3, t_set q4 hap hk v⟩ (fun j _ => vp_updV_set hl v j)⟩ e3) (hD.set he) (hS.put e2 e3 (hD.2 q0 _ he)) hL
end GK7
