set_option maxRecDepth 100000
set_option maxHeartbeats 1000000 in
theorem li_J0_init (l : Launch) (Γ : gk_E) (lo : Nat) : gk_M gk_N0 l yJ0_init (Cond.code yJ0_init cJ0_init 1 none) 0 0 0 [.ref lo] Γ [] (fun r ws => r = none ∧ ws = []) := by
  refine gk_M.intro gk_N0_ok (by decide) [some (.ref lo)] rfl rfl rfl ?_
  intro κ hl hg hN0 C E
  subst hl hg
  have C : gk_C κ cJ0_init "java/util/AbstractCollection" 0 0 0 := C
  refine gk_aload_n C dJ0_init_0 rfl ?_
  refine gk_objInit C q119 q106 q107 rfl dJ0_init_1 ?_
  exact gk_vret C E dJ0_init_4 rfl rfl ⟨rfl, rfl⟩
set_option maxHeartbeats 1000000 in
theorem li_J1_init (l : Launch) (Γ : gk_E) (lo : Nat) (m0 s0 : Int32) (v0 : Value) : gk_M gk_N0 l yJ1_init (Cond.code yJ1_init cJ1_init 1 none) 1 0 0 [.ref lo] Γ [(lo, .inr (6, [.int m0, v0, .int s0]))] (fun r ws => r = none ∧ ws = [(lo, .inr (6, [.int 0, v0, .int s0]))]) := by
  refine gk_M.intro gk_N0_ok (by decide) [some (.ref lo)] rfl rfl rfl ?_
  intro κ hl hg hN0 C E
  subst hl hg
  have C : gk_C κ cJ1_init "java/util/AbstractList" 1 0 0 := C
  refine gk_aload_n C dJ1_init_0 rfl ?_
  refine gk_cI (ce := 0) (sl := 0) (w1 := []) (w2 := [(lo, .inr (6, [.int m0, v0, .int s0]))]) (wc := []) (As := []) C (gk_M.up0 (li_J0_init _ _ lo)) rfl q118 q75 q116 q117 ⟨by decide +kernel, by decide +kernel, by decide +kernel⟩ rfl rfl (by decide) (by decide) rfl dJ1_init_1 (fun r wn hp => ?_)
  obtain ⟨rfl, rfl⟩ := hp
  refine gk_eqw (ws' := [(lo, .inr (6, [.int m0, v0, .int s0]))]) rfl ?_
  refine gk_aload_n C dJ1_init_4 rfl ?_
  refine gk_iconst 0 C dJ1_init_5 rfl ?_
  refine gk_put (ty := .int) C in_J2 tyJ2 tyJ2_ok nmJ2 0 rfl rfl 0 (by decide) q124 rfl rfl rfl rfl rfl (Nat.le_of_ble_eq_true rfl) dJ1_init_6 ?_
  exact gk_vret C E dJ1_init_9 rfl rfl ⟨rfl, rfl⟩
set_option maxHeartbeats 1000000 in
theorem li_J2_init (l : Launch) (Γ : gk_E) (t lo : Nat) (m0 s0 : Int32) (v0 : Value) : gk_M (xN t) l yJ2_init (Cond.code yJ2_init cJ2_init 1 none) 2 0 0 [.ref lo] Γ [(lo, .inr (6, [.int m0, v0, .int s0]))] (fun r ws => r = none ∧ ws = [li_o lo t 0 s0]) := by
  refine gk_M.intro (xN_ok t) (by decide) [some (.ref lo)] rfl rfl rfl ?_
  intro κ hl hg hN0 C E
  subst hl hg
  have C : gk_C κ cJ2_init "java/util/ArrayList" 2 0 0 := C
  refine gk_aload_n C dJ2_init_0 rfl ?_
  refine gk_cI (ce := 0) (sl := 0) (w1 := []) (w2 := []) (wc := [(lo, .inr (6, [.int m0, v0, .int s0]))]) (As := []) C (gk_M.up0 (li_J1_init _ _ lo m0 s0 v0)) rfl q115 q76 q113 q114 ⟨by decide +kernel, by decide +kernel, by decide +kernel⟩ rfl rfl (by decide) (by decide) rfl dJ2_init_1 (fun r wn hp => ?_)
  obtain ⟨rfl, rfl⟩ := hp
  refine gk_eqw (ws' := [(lo, .inr (6, [.int 0, v0, .int s0]))]) rfl ?_
  refine gk_aload_n C dJ2_init_4 rfl ?_
  refine gk_getE C hN0 q120 dJ2_init_5 ?_
  refine gk_put (ty := .array (.object "java/lang/Object")) C in_J2 tyJ2 tyJ2_ok nmJ2 0 rfl rfl 1 (by decide) q122 rfl rfl rfl rfl rfl (Nat.le_of_ble_eq_true rfl) dJ2_init_8 ?_
  exact gk_vret C E dJ2_init_11 rfl rfl ⟨rfl, rfl⟩
/-- a field by its class and its name: two fields of one name in two classes lie apart too -/
theorem gx_decl {args : Array Value} {s : State} {C O f d : String} (h : (Cond.lays C O f d).before args s = true ∨ (Cond.laysFinal C O f d).before args s = true) {cC : ClassId} (hC : s.vm.findClass C = some cC) {cf kf fi fd} (hi : s.fieldFound? O f d = some (cf, kf, fi, fd)) : ∃ x, Jmm.declares? s.vm fd.slot (cC + 1) cC = some x ∧ x.1.name = kf.name ∧ x.2.name = fd.name := by
  rcases h with h | h
  · obtain ⟨c, k, c', k', i, f0, h1, h2, h3, h4, h5, h6, h7, x, h8, h9, h10, h11⟩ := Cond.lays_spec h
    cases h1.symm.trans hC
    cases h3.symm.trans hi
    exact ⟨x, h8, h9, h10⟩
  · obtain ⟨c, k, c', k', i, f0, h1, h2, h3, h4, h5, h6, h7, h7', x, h8, h9, h10, h11⟩ := Cond.laysFinal_spec h
    cases h1.symm.trans hC
    cases h3.symm.trans hi
    exact ⟨x, h8, h9, h10⟩
theorem gx_own {args : Array Value} {s : State} {C O f d : String} (h : (Cond.laysFinal C O f d).before args s = true) {cf kf fi fd} (hi : s.fieldFound? O f d = some (cf, kf, fi, fd)) : s.vm.findClass O = some cf := by
  obtain ⟨c, k, c', k', i, f0, h1, h2, h3, h4, h5, h6, h7, h7', x, h8, h9, h10, h11⟩ := Cond.laysFinal_spec h
  cases h3.symm.trans hi
  exact h7
