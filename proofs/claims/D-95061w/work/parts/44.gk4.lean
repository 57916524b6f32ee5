set_option maxRecDepth 100000
section GX
variable {p : Program} {l : Launch} {e : Env} {R : Room} {s : State} {m : MethodId} {args : Array Value} {below : List Frame} {meth : Method} {c : Code}
theorem gx_sub {ps t : ClassId} {kp : Class} (hk : s.vm.classes[ps]? = some kp) (hs : kp.super = some t) : s.vm.isSubclass ps t = true := by
  unfold Vm.isSubclass
  obtain ⟨n, hn⟩ : ∃ n, s.vm.classes.size = n + 1 := ⟨s.vm.classes.size - 1, by have := (Array.getElem?_eq_some_iff.mp hk).1; omega⟩
  rw [hn]
  simp [Vm.isSubclassAux, hk, hs]
/-- super.m(..), where m is the superclass's superclass's: x: as it is named; y: as it is found -/
theorem gx_callSU {T : State} {locs : List Loc} {cells slots : Nat} (X : Stand p l e R s m args below meth c T locs cells slots) (hexec : p.tables.exec = Jvm.exec) {own : String} {index : Nat} {x y : MethodName} {bytes : ByteArray} {maxL : Nat} {ret : Option FieldType}
    (hown : s.vm.findClass own = some m.cls) (hlink : (Cond.methodLink own index x).before args s = true) (hsame : (Cond.sameMethod x.cls y.cls x.name x.desc).before args s = true) (hxy : y = ⟨y.cls, x.name, x.desc⟩) (hsup : (Cond.superclass own x.cls).before args s = true) (hsup2 : (Cond.superclass x.cls y.cls).before args s = true)
    (hinst : (Cond.instanceMethod y).before args s = true) (hcode : (Cond.code y bytes maxL ret).before args s = true) (hno : x.name ≠ "<init>")
    {W : Nat} {Pre : Pt → Array Value → Prop} {Post : Pt → Array Value → Option Value → Pt → Prop} (hK : Back l R p e below s args y 3 W Pre Post)
    {b : Addr} {cellB : Cell} {kB : Class} (hcell : T.heap[b]? = some cellB) (hobj : cellB.vm.isStatics = false) (hkB : s.vm.classes[cellB.cls]? = some kB)
    {g : JFrame} (hg : g.method = m) (hsize : g.locals.size = c.maxLocals) {argsL rest : List Value} (hlen : ∀ sig, parseMethodDescriptor x.desc = some sig → argsL.length = sig.parameters.length)
    (hstack : g.stack = argsL.reverse ++ .ref b :: rest) (hW : 2 * g.monitorRoom + (rest.map fun v => v.category).sum ≤ W) (hdg : decode c.code g.pc = .ok (.invokespecial index, 3))
    (hpre : ∀ vm₁, s.WarmedH vm₁ → Pre ⟨T.setVm vm₁, locs, cells, slots⟩ (Value.ref b :: argsL).toArray) :
    ∃ (v : Option Value) (vm₁ : Vm) (B : Pt), s.WarmedH vm₁ ∧ Stand p l e R s m args below meth c B.U B.locs B.cells B.slots ∧ Post ⟨T.setVm vm₁, locs, cells, slots⟩ (Value.ref b :: argsL).toArray v B ∧
      ∀ target, Steps p.tables e below (B.U.setTop { g with pc := g.pc + 3, stack := v.toList ++ rest }) target → Steps p.tables e below (T.setTop g) target := by
  obtain ⟨mk, methM, hnamed, hmethM, hstM, habM⟩ := Cond.instanceMethod_spec hinst
  obtain ⟨methM', cM, hmethM', -, -, -, -, -, -, hsigM⟩ := Cond.code_spec hnamed hcode
  cases hmethM.symm.trans hmethM'
  obtain ⟨ps, dk, kp, hps, hdk, hkp, hsuper, -, -, hnid⟩ := Cond.superclass_spec hown hsup
  obtain ⟨pt, dk2, kp2, hpt, hdk2, hkp2, hsuper2, -, -, -⟩ := Cond.superclass_spec hps hsup2
  have hn : s.methodNamed? ⟨y.cls, x.name, x.desc⟩ = some mk := by rw [← hxy]; exact hnamed
  have hpm : pt = mk.cls := Option.some.inj (hpt.symm.trans (findClass_of_methodNamed hnamed))
  have hsub : s.vm.isSubclass ps mk.cls = true := by rw [← hpm]; exact gx_sub hdk2 hsuper2
  obtain ⟨vm₁, X₁, hstep₁⟩ := X.invokespecialUp hexec hown hlink hsame hn hmethM hstM habM hno hdk hnid hps hsuper hsub (a := b) (cell := cellB) hcell
    (fun z h => by rw [h] at hobj; cases hobj) hkB (g := g) hg (argsL := argsL) (rest := rest) (hlen _ (by rw [hxy] at hsigM; exact hsigM)) hstack hdg
  obtain ⟨v, B, X', hpost, hsteps⟩ := hK m meth c ⟨T.setVm vm₁, locs, cells, slots⟩ { g with stack := rest } (.invokespecial index) mk (Value.ref b :: argsL).toArray X₁ hg hsize hdg hW (X₁.named hnamed) (hpre vm₁ X₁.warmed)
  exact ⟨v, vm₁, B, X₁.warmed, X', hpost, fun target h => hstep₁ _ (by rw [doInvoke_state]; exact hsteps.trans h)⟩
variable {H : Heap} {locs : List Loc} {cells slots : Nat}
theorem gx_runSU {x y : MethodName} {bytes cc : ByteArray} {maxL nL mc ms n index : Nat} {ret : Option FieldType} {ws : List Cond} {rm : Room} {Pc : Array Value → State → Prop} {Qc : Array Value → State → Outcome → State → Prop} {free : Addr → Prop} {Ts : List Cond} {own C : String} {cC : ClassId} {b : Addr} {As rest : List Value} {g : JFrame}
    (hat : ClassAt s C cC) (S : CallFix p m c cc nL s args Ts own) (hM : Met l y ws rm Pc Qc mc ms free) (hl1 : (Cond.methodLink own index x).before args s = true) (hl2 : (Cond.sameMethod x.cls y.cls x.name x.desc).before args s = true) (hxy : y = ⟨y.cls, x.name, x.desc⟩) (hl3 : (Cond.superclass own x.cls).before args s = true) (hl5 : (Cond.superclass x.cls y.cls).before args s = true) (hl4 : (Cond.instanceMethod y).before args s = true) (hini : (Cond.initialized y.cls).before args s = true) (hno : x.name ≠ "<init>")
    (hlen : (parseMethodDescriptor x.desc).map (fun d => d.parameters.length) = some n) (hG : GoodIn Ts ws) (hcw : Cond.code y bytes maxL ret ∈ ws) (hrc : rm.cells = mc) (hrs : rm.slots = ms) (hR : rm.frames + 1 ≤ R.frames ∧ 8 + (maxL + 11) + rm.locals ≤ R.locals) (hp : PreV s H C b Pc As)
    (hg : g.method = m) (hn : As.length = n) (hsize : g.locals.size = nL) (hstack : g.stack = As.reverse ++ .ref b :: rest) (hW : 2 * g.monitorRoom + (rest.map fun v => v.category).sum ≤ 8) (hdg : decode cc g.pc = .ok (.invokespecial index, 3)) (hf : cells + mc ≤ R.cells ∧ slots + ms ≤ R.slots) :
    va_Run p l e R s m args below meth c H locs cells slots mc ms g rest (Qc (Value.ref b :: As).toArray) (free) := by
  obtain ⟨hx, hb, hml, ho, hts⟩ := S
  have hcode := hts _ (hG _ hcw).1
  have hK : Back l R p e below s args y 3 8 (PreOf R mc ms Pc) (PostOf Qc mc ms free) := back_of (bytes := bytes) (maxL := maxL) (ret := ret) hM hp.1 hrc hrs hR.1 hR.2 (pay_in hts hG) hcw (fun a' U hW => word_at hW (Or.inl (by first | rfl | simp [Cond.onTables, Cond.keeps, Cond.steady])) hini)
  obtain ⟨-, ⟨cellB, hcB, hoB, hclB⟩, hPc⟩ := hp
  obtain ⟨hfc, kB, hkB, -⟩ := hat
  cases hfc.symm.trans hclB
  intro T hT X
  obtain ⟨v, vm₁, ⟨U', l2, c2, s2⟩, hW₁, X', ⟨g', mk, t, L, e1, e2, hq, h1, hL, h2, h3⟩, st⟩ := gx_callSU X hx (bytes := bytes) (maxL := maxL) (ret := ret) ho hl1 hl2 hxy hl3 hl5 hl4 hcode hno hK (by rw [hT]; exact hcB) hoB hkB hg (hsize.trans hml.symm) (argsL := As) (rest := rest) (fun sig h => by rw [h] at hlen; exact hn.trans (Option.some.inj hlen).symm) hstack hW (by rw [hb]; exact hdg)
    (fun vm₁ hW₁ => ⟨hf.1, hf.2, hPc (T.setVm vm₁) hT hW₁⟩)
  dsimp only [Pt.U, Pt.locs, Pt.cells, Pt.slots] at X' e1 e2 h1 h2 h3 st
  subst h1; subst h2; subst h3
  exact ⟨v, (T.setVm vm₁).calling g' mk (Value.ref b :: As).toArray, t, U', L, hT, X', hL, e1, e2, hq, st⟩
end GX
section GKD4
variable {κ : gk_K} {cc code : ByteArray} {own C0 : String} {D MC MS ce sl pc idx nLy d mc ms b : Nat} {w1 wc w2 ws : va_W} {os : List (Option Value)} {st As : List Value} {x y : MethodName} {ret : Option FieldType} {post : Option Value → va_W → Prop}
theorem gk_cSX (C : gk_C κ cc own D MC MS) (hM : gk_M (gk_n κ) (gk_l κ) y (Cond.code y code nLy ret) d mc ms (.ref b :: As) (gk_g κ) wc post) (hl1 : Cond.methodLink own idx x ∈ lw_all) (hl2 : Cond.sameMethod x.cls y.cls x.name x.desc ∈ lw_all) (hxy : y = ⟨y.cls, x.name, x.desc⟩) (hl3 : Cond.superclass own x.cls ∈ lw_all) (hl5 : Cond.superclass x.cls y.cls ∈ lw_all) (hl4 : Cond.instanceMethod y ∈ lw_all) (hini : Cond.initialized y.cls ∈ lw_all) (hcw : Cond.code y code nLy ret ∈ lw_all) (hno : x.name ≠ "<init>")
    (hy : (parseMethodDescriptor x.desc).map (fun d => d.parameters.length) = some As.length) (hnL : Nat.ble nLy 45 = true) (hdD : Nat.blt d D = true) (hmc : ce + mc ≤ MC) (hms : sl + ms ≤ MS) (hrc : gk_rc C0 b (w1 ++ (wc ++ w2))) (hst : Nat.ble (st.map fun v => v.category).sum 8 = true) (hd : decode cc pc = .ok (.invokespecial idx, 3))
    (kk : ∀ (r : Option Value) (wn : va_W), post r wn → gk_G κ (ce + mc) (sl + ms) (w1 ++ (wn ++ w2)) (pc + 3) os (r.toList ++ st)) : gk_G κ ce sl (w1 ++ (wc ++ w2)) pc os (As.reverse ++ .ref b :: st) := by
  obtain ⟨⟨p, l, e, R, s, m, args, below, meth, c⟩, Γ, A, nL, Q, N⟩ := κ
  obtain ⟨hx, hb, hml, hown, hts, hK, hA, hR, hN0, hNM⟩ := C
  have hdD := gk_blt hdD
  have hnL := Nat.le_of_ble_eq_true hnL
  obtain ⟨r1, r2, r3, r4⟩ := hR
  intro H locs ls hP hD hS hL
  have hFc := gk_free hD hS hA
  obtain ⟨q, ci, fs, T, n, e1, e2⟩ := hrc
  refine gk_after (gx_runSU (As := As) (rest := st) (hK.1 ci _ e2).2 ⟨hx, hb, hml, hown, hts⟩ (hM H.size) (hts _ hl1) (hts _ hl2) hxy (hts _ hl3) (hts _ hl5) (hts _ hl4) (hts _ hini) hno hy (lw_meth hcw) List.mem_cons_self rfl rfl ⟨by show d + 24 + 1 ≤ _; omega, by show 8 + (nLy + 11) + (64 * d + 12000) ≤ _; omega⟩ ⟨gk_blind hNM, va_recv hK hP e2 e1, fun U hU hW => ⟨rfl, gk_preat hNM hP hD hS hK hA hN0 hU hW⟩⟩ rfl rfl hL.1 rfl (lv_room (Nat.le_of_ble_eq_true hst)) hd ⟨by omega, by omega⟩) hS (fun q _ h => hFc q h) hFc ?_
  intro r wn H1 locs1 hp hP1 hD1 hk1 hS1
  obtain ⟨hP2, hD2⟩ := gk_join hP hD hk1 hFc hP1 hD1
  exact kk r wn hp H1 locs1 ls hP2 hD2 hS1 hL
theorem gk_getN {ref host Cn : String} {T : u_T} {n ci index a : Nat} {fs : List Value} {v : Value} (C : gk_C κ cc own D MC MS) (hNx : ∀ A U H, gk_n κ A U H → xNP U) (hin : ∀ w ∈ u_ws Cn T n, w ∈ lw_all) (q0 : Nat) (he : ws[q0]? = some (a, .inr (ci, fs))) (hc : vwCl[ci]? = some (Cn, T, n)) (k : Nat) (hk : k < n) (hlink : Cond.fieldLinkNest own index ref (T k).2.1 (T k).2.2.1 host ∈ xNL) (href : ref = (T k).1) (hv : fs[k]? = some v) (hd : decode cc pc = .ok (.getfield index, 3)) (kk : gk_G κ ce sl ws (pc + 3) os (v :: st)) : gk_G κ ce sl ws pc os (.ref a :: st) := by
  obtain ⟨⟨p, l, e, R, s, m, args, below, meth, c⟩, Γ, A, nL, Q, N⟩ := κ
  obtain ⟨hx, hb, hml, hown, hts, hK, hA, hR, hN0, hNM⟩ := C
  intro H locs ls hP hD hS hL
  subst href
  exact va_getN (ci := ci) (fs := fs) hx hb hts hin hown hK hP q0 he hc k hk (va_Nw.use rfl ((hNx _ _ _ hN0).2.1 _ hlink)) (fun _ h => h) hv hd (kk H locs ls hP hD hS hL)
end GKD4
