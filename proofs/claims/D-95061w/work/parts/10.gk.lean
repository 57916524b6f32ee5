/-! THE PACKED WALK: gk_G says: from any heap that holds the world ws and any locals that hold os, at pc with the stack st, the machine comes to its end Q. One row an instruction. -/
set_option maxRecDepth 100000
abbrev vwCl : List vw_C := [(RX0, TX0, 37), (RX2, TX2, 46), (RX1, TX1, 1), (RX3, TX3, 3), (RX4, TX4, 5), (RX5, TX5, 6), (RJ2, TJ2, 3)]
/-- the tables' numbers: classes and their slots; array classes: 0 int, 1 byte, 2 short, 3 Object, 4 Place -/
abbrev gk_E : Type := va_G × (Nat → ClassId)
/-- what is carried along beside the world: of the tables, and of cells that are not the world's -/
abbrev gk_N : Type := (Nat → Prop) → State → Heap → Prop
def gk_T (Γ : gk_E) : List (ClassId × FieldType) := [(Γ.2 0, .int), (Γ.2 1, .byte), (Γ.2 2, .short), (Γ.2 3, .object "java/lang/Object"), (Γ.2 4, .object "SawLine$Place")]
abbrev gk_X : Type := Program × Launch × Env × Room × State × MethodId × Array Value × List Frame × Method × Code
abbrev gk_K : Type := gk_X × gk_E × (Nat → Prop) × Nat × (State → Prop) × gk_N
abbrev gk_l (κ : gk_K) : Launch := κ.1.2.1
abbrev gk_g (κ : gk_K) : gk_E := κ.2.1
abbrev gk_n (κ : gk_K) : gk_N := κ.2.2.2.2.2
def gk_NM (N : gk_N) : Prop := (∀ (A : Nat → Prop) (U U' : State) (H : Heap), U.WarmedH U'.vm → N A U H → N A U' H) ∧ (∀ (A : Nat → Prop) (U : State) (H H1 : Heap), H.size ≤ H1.size → (∀ q : Nat, q < H.size → ¬ A q → H1[q]? = H[q]?) → N A U H → N A U H1) ∧ (∀ (A B : Nat → Prop) (U : State) (H : Heap), (∀ q : Nat, q < H.size → B q → A q) → N A U H → N B U H)
theorem gk_blt {a b : Nat} (h : Nat.blt a b = true) : a < b := Nat.le_of_ble_eq_true (n := a + 1) h
def gk_N0 : gk_N := fun _ _ _ => True
theorem gk_N0_ok : gk_NM gk_N0 := ⟨fun _ _ _ _ _ h => h, fun _ _ _ _ _ _ h => h, fun _ _ _ _ _ h => h⟩
/-- the locals: os says what is known of each -/
def gk_L (ls : Array Slot) (nL : Nat) (os : List (Option Value)) : Prop := ls.size = nL ∧ os.length = nL ∧ lv_wf ls ∧ ∀ (i : Nat) (v : Value), os[i]? = some (some v) → ls[i]? = some (.val v)
def gk_G (κ : gk_K) (ce sl : Nat) (ws : va_W) (pc : Nat) (os : List (Option Value)) (st : List Value) : Prop :=
  match κ with
  | ((p, l, e, R, s, m, args, below, meth, c), Γ, A, nL, Q, _) => ∀ (H : Heap) (locs : List Loc) (ls : Array Slot), va_P Γ.1 vwCl ws H → va_D A ws → va_S A s.heap H locs → gk_L ls nL os → W p l e R s m args below meth c H locs ce sl Q (F0 m pc ls st)
/-- what holds all through a method's walk: D: its depth; MC, MS: its cells and slots -/
def gk_C (κ : gk_K) (cc : ByteArray) (own : String) (D MC MS : Nat) : Prop :=
  match κ with
  | ((p, _, _, R, s, m, args, _, _, c), Γ, A, nL, _, N) => p.tables.exec = Jvm.exec ∧ c.code = cc ∧ c.maxLocals = nL ∧ s.vm.findClass own = some m.cls ∧ (∀ w ∈ lw_all, w.before args s = true) ∧ va_K Γ.1 vwCl (gk_T Γ) s ∧ (∀ q : Nat, s.heap.size ≤ q → A q) ∧ (D + 24 ≤ R.frames ∧ 64 * D + 12000 ≤ R.locals ∧ MC ≤ R.cells ∧ MS ≤ R.slots) ∧ N A s s.heap ∧ gk_NM N
def gk_Q (Γ : gk_E) (post : Option Value → va_W → Prop) (A : Nat → Prop) : Array Value → State → Outcome → State → Prop := fun _ st oc t => (∃ (r : Option Value) (ws : va_W), oc = .returned r ∧ post r ws ∧ va_P Γ.1 vwCl ws t.heap ∧ va_K Γ.1 vwCl (gk_T Γ) t ∧ va_D A ws) ∧ va_F A st t
def gk_End (κ : gk_K) (ret : Option FieldType) (post : Option Value → va_W → Prop) (mc ms : Nat) : Prop :=
  match κ with
  | ((_, _, _, _, s, _, args, below, meth, _), Γ, A, _, Q, _) => meth.sig.returnType = ret ∧ meth.locks = false ∧ Q = MQ below (gk_Q Γ post A) args s mc ms A
def gk_Rm (d mc ms : Nat) : Room := { frames := d + 24, cells := mc, slots := ms, locals := 64 * d + 12000 }
def gk_Pre (N : gk_N) (Γ : gk_E) (w0 : va_W) (sz : Nat) (U : State) : Prop := U.heap.size = sz ∧ va_P Γ.1 vwCl w0 U.heap ∧ va_K Γ.1 vwCl (gk_T Γ) U ∧ va_D (fun _ => True) w0 ∧ N (va_A w0 sz) U U.heap
/-- A METHOD's CONTRACT: cw: its code word; d: its depth; av: its arguments; w0: its world; post: its answer and its world behind it -/
def gk_M (N : gk_N) (l : Launch) (y : MethodName) (cw : Cond) (d mc ms : Nat) (av : List Value) (Γ : gk_E) (w0 : va_W) (post : Option Value → va_W → Prop) : Prop :=
  ∀ sz : Nat, Met l y (cw :: lw_all) (gk_Rm d mc ms) (va_Pc av (gk_Pre N Γ w0 sz)) (gk_Q Γ post (va_A w0 sz)) mc ms (va_A w0 sz)
def gk_pairs : Nat → List (Option Value) → List (Nat × Value)
  | _, [] => []
  | i, none :: r => gk_pairs (i + 1) r
  | i, some v :: r => (i, v) :: gk_pairs (i + 1) r
theorem gk_pairs_mem : ∀ (os : List (Option Value)) (k i : Nat) (v : Value), os[i]? = some (some v) → (k + i, v) ∈ gk_pairs k os
  | [], k, i, v, h => by simp at h
  | none :: r, k, 0, v, h => by simp at h
  | some w :: r, k, 0, v, h => by
    simp only [List.getElem?_cons_zero, Option.some.injEq] at h
    subst h
    exact List.mem_cons_self
  | none :: r, k, i + 1, v, h => by
    rw [List.getElem?_cons_succ] at h
    have := gk_pairs_mem r (k + 1) i v h
    rw [show k + (i + 1) = k + 1 + i by omega]
    exact this
  | some w :: r, k, i + 1, v, h => by
    rw [List.getElem?_cons_succ] at h
    have := gk_pairs_mem r (k + 1) i v h
    rw [show k + (i + 1) = k + 1 + i by omega]
    exact List.mem_cons_of_mem _ this
def gk_ok (os : List (Option Value)) : Nat → Bool
  | 0 => true
  | j + 1 => match os[j]? with
    | some (some v) => v.category == 1
    | _ => true
theorem gk_pairs_of : ∀ (os : List (Option Value)) (k : Nat) (q : Nat × Value), q ∈ gk_pairs k os → ∃ i, q.1 = k + i ∧ os[i]? = some (some q.2)
  | [], k, q, h => by simp [gk_pairs] at h
  | none :: r, k, q, h => by
    obtain ⟨i, h1, h2⟩ := gk_pairs_of r (k + 1) q h
    exact ⟨i + 1, by omega, by rw [List.getElem?_cons_succ]; exact h2⟩
  | some w :: r, k, q, h => by
    rcases List.mem_cons.mp h with rfl | h
    · exact ⟨0, rfl, rfl⟩
    · obtain ⟨i, h1, h2⟩ := gk_pairs_of r (k + 1) q h
      exact ⟨i + 1, by omega, by rw [List.getElem?_cons_succ]; exact h2⟩
theorem gk_store {ls : Array Slot} {nL : Nat} {os : List (Option Value)} {i : Nat} {v : Value} (h : gk_L ls nL os) (hi : i < os.length) (hc : v.category = 1) (hk : gk_ok os i = true) : ∃ ls', storeLocals ls i v = some ls' ∧ gk_L ls' nL (os.set i (some v)) := by
  obtain ⟨h1, h2, h3, h4⟩ := h
  have hl : lv_has ls nL (gk_pairs 0 os) := ⟨h1, h3, fun q hq => by
    obtain ⟨j, e1, e2⟩ := gk_pairs_of os 0 q hq
    rw [Nat.zero_add] at e1
    rw [e1]
    exact h4 j q.2 e2⟩
  obtain ⟨ls', e1, e2, e3, e4⟩ := lv_store1 hl (by omega : i < nL) hc
  refine ⟨ls', e1, e2, by simpa using h2, e3, fun j w hj => ?_⟩
  by_cases hji : j = i
  · subst hji
    rw [List.getElem?_set_self hi] at hj
    cases hj
    exact e4 (j, v) List.mem_cons_self
  · rw [List.getElem?_set_ne (Ne.symm hji)] at hj
    refine e4 (j, w) (List.mem_cons_of_mem _ (List.mem_filter.mpr ⟨by have := gk_pairs_mem os 0 j w hj; rwa [Nat.zero_add] at this, ?_⟩))
    simp only [Bool.and_eq_true, Bool.not_eq_true', beq_eq_false_iff_ne, ne_eq, Bool.and_eq_false_iff]
    refine ⟨hji, ?_⟩
    by_cases hj1 : j + 1 = i
    · right
      subst hj1
      simp only [gk_ok, hj, beq_iff_eq] at hk
      omega
    · left
      exact hj1
theorem gk_Pm {D : va_G} {cl : List vw_C} {ws : va_W} {H : Heap} : va_P D cl ws H ↔ ∀ q ∈ ws, va_at D cl q H := by
  constructor
  · intro h q hq
    obtain ⟨i, hi⟩ := List.getElem?_of_mem hq
    exact h i q hi
  · intro h k q hk
    exact h q (List.mem_of_getElem? hk)
theorem gk_Dm {A : Nat → Prop} {ws : va_W} : va_D A ws ↔ (ws.map (fun q => q.1)).Nodup ∧ ∀ q ∈ ws, A q.1 := by
  constructor
  · intro h
    refine ⟨?_, fun q hq => ?_⟩
    · rw [List.nodup_iff_pairwise_ne, List.pairwise_iff_getElem]
      intro i j hi hj hij e
      have hi' : i < ws.length := by simpa using hi
      have hj' : j < ws.length := by simpa using hj
      have := h.1 i j ws[i] ws[j] (List.getElem?_eq_getElem hi') (List.getElem?_eq_getElem hj') (by simpa using e)
      omega
    · obtain ⟨i, hi⟩ := List.getElem?_of_mem hq
      exact h.2 i q hi
  · intro h
    refine ⟨fun i j p q hi hj e => ?_, fun k q hk => h.2 q (List.mem_of_getElem? hk)⟩
    obtain ⟨hi1, hi2⟩ := List.getElem?_eq_some_iff.mp hi
    obtain ⟨hj1, hj2⟩ := List.getElem?_eq_some_iff.mp hj
    have hn := h.1
    rw [List.nodup_iff_pairwise_ne, List.pairwise_iff_getElem] at hn
    rcases Nat.lt_trichotomy i j with g | g | g
    · exact (hn i j (by simpa using hi1) (by simpa using hj1) g (by simp [hi2, hj2, e])).elim
    · exact g
    · exact (hn j i (by simpa using hj1) (by simpa using hi1) g (by simp [hi2, hj2, e])).elim
/-- THE FRAME RULE: a call on the part wc of the world leaves w1 and w2 -/
theorem gk_join {A : Nat → Prop} {D : va_G} {cl : List vw_C} {w1 wc w2 wn : va_W} {H H1 : Heap} (hP : va_P D cl (w1 ++ (wc ++ w2)) H) (hD : va_D A (w1 ++ (wc ++ w2)))
    (hk : ∀ q : Nat, q < H.size → ¬ va_A wc H.size q → H1[q]? = H[q]?) (hF : ∀ q, va_A wc H.size q → A q) (hP1 : va_P D cl wn H1) (hD1 : va_D (va_A wc H.size) wn) : va_P D cl (w1 ++ (wn ++ w2)) H1 ∧ va_D A (w1 ++ (wn ++ w2)) := by
  rw [gk_Pm] at hP hP1
  rw [gk_Dm] at hD hD1
  obtain ⟨hn, hA⟩ := hD
  obtain ⟨hn1, hA1⟩ := hD1
  simp only [List.map_append, List.nodup_append, List.mem_append, List.mem_map] at hn
  obtain ⟨n1, ⟨n2, n3, n4⟩, n5⟩ := hn
  have out : ∀ q : Nat × va_E, q ∈ w1 ∨ q ∈ w2 → ¬ va_A wc H.size q.1 := by
    rintro q hq (⟨k, e, h⟩ | h)
    · have hm := List.mem_of_getElem? h
      rcases hq with hq | hq
      · exact n5 q.1 ⟨q, hq, rfl⟩ q.1 (Or.inl ⟨_, hm, rfl⟩) rfl
      · exact n4 q.1 ⟨_, hm, rfl⟩ q.1 ⟨q, hq, rfl⟩ rfl
    · have := (hP q (by simp only [List.mem_append]; rcases hq with hq | hq; exact Or.inl hq; exact Or.inr (Or.inr hq))).lt
      omega
  have keep : ∀ q : Nat × va_E, q ∈ w1 ∨ q ∈ w2 → va_at D cl q H1 := by
    intro q hq
    have h1 := hP q (by simp only [List.mem_append]; rcases hq with hq | hq; exact Or.inl hq; exact Or.inr (Or.inr hq))
    exact h1.kept (hk q.1 h1.lt (out q hq))
  constructor
  · rw [gk_Pm]
    intro q hq
    simp only [List.mem_append] at hq
    rcases hq with hq | hq | hq
    · exact keep q (Or.inl hq)
    · exact hP1 q hq
    · exact keep q (Or.inr hq)
  · rw [gk_Dm]
    refine ⟨?_, fun q hq => ?_⟩
    · simp only [List.map_append, List.nodup_append, List.mem_append, List.mem_map]
      refine ⟨n1, ⟨hn1, n3, ?_⟩, ?_⟩
      · rintro a ⟨x, hx, rfl⟩ b ⟨y, hy, rfl⟩ e
        exact out y (Or.inr hy) (e ▸ hA1 x hx)
      · rintro a ⟨x, hx, rfl⟩ b (⟨y, hy, rfl⟩ | ⟨y, hy, rfl⟩) e
        · exact out x (Or.inl hx) (e ▸ hA1 y hy)
        · exact n5 x.1 ⟨x, hx, rfl⟩ y.1 (Or.inr ⟨y, hy, rfl⟩) e
    · simp only [List.mem_append] at hq
      rcases hq with hq | hq | hq
      · exact hA q (by simp only [List.mem_append]; exact Or.inl hq)
      · exact hF _ (hA1 q hq)
      · exact hA q (by simp only [List.mem_append]; exact Or.inr (Or.inr hq))
theorem gk_free {A : Nat → Prop} {w1 wc w2 : va_W} {H0 H : Heap} {locs : List Loc} (hD : va_D A (w1 ++ (wc ++ w2))) (hS : va_S A H0 H locs) (hA : ∀ q, H0.size ≤ q → A q) : ∀ q, va_A wc H.size q → A q := by
  rintro q (⟨k, e, h⟩ | h)
  · rw [gk_Dm] at hD
    exact hD.2 (q, e) (by simp only [List.mem_append]; exact Or.inr (Or.inl (List.mem_of_getElem? h)))
  · exact hA q (Nat.le_trans hS.1 h)
theorem gk_sub {A : Nat → Prop} {w1 wc w2 : va_W} (hD : va_D A (w1 ++ (wc ++ w2))) : va_D (fun _ => True) wc := by
  rw [gk_Dm] at hD ⊢
  have hn := hD.1
  simp only [List.map_append, List.nodup_append] at hn
  exact ⟨hn.2.1.1, fun _ _ => trivial⟩
theorem gk_subP {D : va_G} {cl : List vw_C} {w1 wc w2 : va_W} {H : Heap} (hP : va_P D cl (w1 ++ (wc ++ w2)) H) : va_P D cl wc H := by
  rw [gk_Pm] at hP ⊢
  exact fun q hq => hP q (by simp only [List.mem_append]; exact Or.inr (Or.inl hq))
/-- a premise made stronger -/
theorem gk_pre {l : Launch} {y : MethodName} {ws : List Cond} {rm : Room} {Pc Pc' : Array Value → State → Prop} {Qc : Array Value → State → Outcome → State → Prop} {mc ms : Nat} {free : Addr → Prop} (h : Met l y ws rm Pc Qc mc ms free) (hp : ∀ a U, Pc' a U → Pc a U) : Met l y ws rm Pc' Qc mc ms free :=
  fun p e ha hc hk s m args below hf hap hP hK => h p e ha hc hk s m args below hf hap (hp _ _ hP) hK
theorem gk_M.up {N N' : gk_N} {l : Launch} {y : MethodName} {cw : Cond} {d mc ms : Nat} {av : List Value} {Γ : gk_E} {w0 : va_W} {post : Option Value → va_W → Prop} (h : gk_M N l y cw d mc ms av Γ w0 post) (hN : ∀ A U H, N' A U H → N A U H) : gk_M N' l y cw d mc ms av Γ w0 post :=
  fun sz => gk_pre (h sz) (fun _ _ q => ⟨q.1, q.2.1, q.2.2.1, q.2.2.2.1, q.2.2.2.2.1, hN _ _ _ q.2.2.2.2.2⟩)
theorem gk_M.up0 {N : gk_N} {l : Launch} {y : MethodName} {cw : Cond} {d mc ms : Nat} {av : List Value} {Γ : gk_E} {w0 : va_W} {post : Option Value → va_W → Prop} (h : gk_M gk_N0 l y cw d mc ms av Γ w0 post) : gk_M N l y cw d mc ms av Γ w0 post := h.up (fun _ _ _ _ => trivial)
/-- an end made weaker -/
theorem gk_post {l : Launch} {y : MethodName} {ws : List Cond} {rm : Room} {Pc : Array Value → State → Prop} {Γ : gk_E} {A : Nat → Prop} {post post' : Option Value → va_W → Prop} {mc ms : Nat} {free : Addr → Prop} (h : Met l y ws rm Pc (gk_Q Γ post A) mc ms free) (hp : ∀ r ws, post r ws → post' r ws) : Met l y ws rm Pc (gk_Q Γ post' A) mc ms free := by
  intro p e ha hc hk s m args below hf hap hP hK
  obtain ⟨n, o, h1, h2, h3, ⟨⟨r, ws, q1, q2, q3⟩, q4⟩, h5⟩ := h p e ha hc hk s m args below hf hap hP hK
  exact ⟨n, o, h1, h2, h3, ⟨⟨r, ws, q1, hp _ _ q2, q3⟩, q4⟩, h5⟩
/-- a contract's walk -/
theorem gk_M.intro {N : gk_N} {l : Launch} {y : MethodName} {code : ByteArray} {nL : Nat} {ret : Option FieldType} {d mc ms : Nat} {av : List Value} {Γ : gk_E} {w0 : va_W} {post : Option Value → va_W → Prop} (hN : gk_NM N) (hy : plainName y.cls = true) (os : List (Option Value)) (hn : Nat.ble (lg_sl av).length nL = true) (hos : gk_pairs 0 os = lv_args 0 av) (hol : os.length = nL)
    (h : ∀ κ : gk_K, gk_l κ = l → gk_g κ = Γ → gk_n κ = N → gk_C κ code y.cls d mc ms → gk_End κ ret post mc ms → gk_G κ 0 0 w0 0 os []) : gk_M N l y (Cond.code y code nL ret) d mc ms av Γ w0 post := by
  intro sz
  refine Met.ofW (cc := code) (maxL := nL) (ret := ret) hy rfl ?_
  intro p e s m args below meth c s₁ B hml hv
  obtain ⟨rfl, hsz, hP, hK, hD0, hN0⟩ := hv
  have hts := atoms_spec (ws := Cond.code y code nL ret :: lw_all) B.pre
  have hts : ∀ w ∈ lw_all, w.before _ s = true := fun w h => hts w (List.mem_cons_of_mem _ h)
  subst hsz
  have hl := lv_entry av (n := nL) (Nat.le_of_ble_eq_true hn)
  rw [lg_entry_eq]
  generalize (lg_sl av ++ List.replicate (nL - (lg_sl av).length) Slot.unset).toArray = ls at hl ⊢
  refine h ((p, l, e, (gk_Rm d mc ms), s, m, av.toArray, below, meth, c), Γ, va_A w0 s.heap.size, nL, MQ below (gk_Q Γ post (va_A w0 s.heap.size)) av.toArray s mc ms (va_A w0 s.heap.size), N) rfl rfl rfl ⟨B.exec, B.bytes, hml, findClass_of_methodNamed B.named, hts, hK, fun q h => Or.inr h, ⟨Nat.le_refl _, Nat.le_refl _, Nat.le_refl _, Nat.le_refl _⟩, hN0, hN⟩ ⟨B.returns, B.notSynchronized, rfl⟩ s.heap [] ls hP hD0.self va_S.rf ⟨hl.1, hol, hl.2.1, fun i v hi => ?_⟩
  have := gk_pairs_mem os 0 i v hi
  rw [Nat.zero_add, hos] at this
  exact hl.2.2 (i, v) this
section GK
variable {κ : gk_K} {cc : ByteArray} {own : String} {D MC MS ce sl pc : Nat} {ws : va_W} {os : List (Option Value)} {st : List Value}
theorem gk_iconst {n : Int} (v : Int32) (C : gk_C κ cc own D MC MS) (hd : decode cc pc = .ok (.iconst n, 1)) (hv : Int32.ofInt n = v) (k : gk_G κ ce sl ws (pc + 1) (os) (.int v :: st)) : gk_G κ ce sl ws pc os (st) := by
  obtain ⟨⟨p, l, e, R, s, m, args, below, meth, c⟩, Γ, A, nL, Q, N⟩ := κ
  obtain ⟨hx, hb, hml, hown, hts, hK, hA, hR, hN0, hNM⟩ := C
  intro H locs ls hP hD hS hL
  exact lv_iconst (v := v) hx hb hd hv (k H locs ls hP hD hS hL)
theorem gk_bipush {n : Int} (v : Int32) (C : gk_C κ cc own D MC MS) (hd : decode cc pc = .ok (.bipush n, 2)) (hv : (Int8.ofInt n).toInt32 = v) (k : gk_G κ ce sl ws (pc + 2) (os) (.int v :: st)) : gk_G κ ce sl ws pc os (st) := by
  obtain ⟨⟨p, l, e, R, s, m, args, below, meth, c⟩, Γ, A, nL, Q, N⟩ := κ
  obtain ⟨hx, hb, hml, hown, hts, hK, hA, hR, hN0, hNM⟩ := C
  intro H locs ls hP hD hS hL
  exact lv_bipush (v := v) hx hb hd hv (k H locs ls hP hD hS hL)
theorem gk_sipush {n : Int} (v : Int32) (C : gk_C κ cc own D MC MS) (hd : decode cc pc = .ok (.sipush n, 3)) (hv : (Int16.ofInt n).toInt32 = v) (k : gk_G κ ce sl ws (pc + 3) (os) (.int v :: st)) : gk_G κ ce sl ws pc os (st) := by
  obtain ⟨⟨p, l, e, R, s, m, args, below, meth, c⟩, Γ, A, nL, Q, N⟩ := κ
  obtain ⟨hx, hb, hml, hown, hts, hK, hA, hR, hN0, hNM⟩ := C
  intro H locs ls hP hD hS hL
  exact lv_sipush (v := v) hx hb hd hv (k H locs ls hP hD hS hL)
theorem gk_lconst {n : Fin 2} (v : Int64) (C : gk_C κ cc own D MC MS) (hd : decode cc pc = .ok (.lconst n, 1)) (hv : Int64.ofNat (n : Nat) = v) (k : gk_G κ ce sl ws (pc + 1) (os) (.long v :: st)) : gk_G κ ce sl ws pc os (st) := by
  obtain ⟨⟨p, l, e, R, s, m, args, below, meth, c⟩, Γ, A, nL, Q, N⟩ := κ
  obtain ⟨hx, hb, hml, hown, hts, hK, hA, hR, hN0, hNM⟩ := C
  intro H locs ls hP hD hS hL
  exact lv_lconst (v := v) hx hb hd hv (k H locs ls hP hD hS hL)
theorem gk_ldc {index : Nat} {v : Int32} (C : gk_C κ cc own D MC MS) (hw : Jvm.Cond.constant own index v ∈ lw_all) (hd : decode cc pc = .ok (.ldc index, 2)) (k : gk_G κ ce sl ws (pc + 2) (os) (.int v :: st)) : gk_G κ ce sl ws pc os (st) := by
  obtain ⟨⟨p, l, e, R, s, m, args, below, meth, c⟩, Γ, A, nL, Q, N⟩ := κ
  obtain ⟨hx, hb, hml, hown, hts, hK, hA, hR, hN0, hNM⟩ := C
  intro H locs ls hP hD hS hL
  exact lv_ldc hx hb hown (hts _ hw) hd (k H locs ls hP hD hS hL)
theorem gk_ldcw {index : Nat} {v : Int32} (C : gk_C κ cc own D MC MS) (hw : Jvm.Cond.constant own index v ∈ lw_all) (hd : decode cc pc = .ok (.ldc_w index, 3)) (k : gk_G κ ce sl ws (pc + 3) (os) (.int v :: st)) : gk_G κ ce sl ws pc os (st) := by
  obtain ⟨⟨p, l, e, R, s, m, args, below, meth, c⟩, Γ, A, nL, Q, N⟩ := κ
  obtain ⟨hx, hb, hml, hown, hts, hK, hA, hR, hN0, hNM⟩ := C
  intro H locs ls hP hD hS hL
  exact lv_ldcw hx hb hown (hts _ hw) hd (k H locs ls hP hD hS hL)
theorem gk_ldc2 {index : Nat} {v : Int64} (C : gk_C κ cc own D MC MS) (hw : Jvm.Cond.constantLong own index v ∈ lw_all) (hd : decode cc pc = .ok (.ldc2_w index, 3)) (k : gk_G κ ce sl ws (pc + 3) (os) (.long v :: st)) : gk_G κ ce sl ws pc os (st) := by
  obtain ⟨⟨p, l, e, R, s, m, args, below, meth, c⟩, Γ, A, nL, Q, N⟩ := κ
  obtain ⟨hx, hb, hml, hown, hts, hK, hA, hR, hN0, hNM⟩ := C
  intro H locs ls hP hD hS hL
  exact lv_ldc2 hx hb hown (hts _ hw) hd (k H locs ls hP hD hS hL)
theorem gk_null  (C : gk_C κ cc own D MC MS) (hd : decode cc pc = .ok (.aconst_null, 1)) (k : gk_G κ ce sl ws (pc + 1) (os) (.null :: st)) : gk_G κ ce sl ws pc os (st) := by
  obtain ⟨⟨p, l, e, R, s, m, args, below, meth, c⟩, Γ, A, nL, Q, N⟩ := κ
  obtain ⟨hx, hb, hml, hown, hts, hK, hA, hR, hN0, hNM⟩ := C
  intro H locs ls hP hD hS hL
  exact lv_null hx hb hd (k H locs ls hP hD hS hL)
theorem gk_iload_n {i : Fin 4} {x : Int32} (C : gk_C κ cc own D MC MS) (hd : decode cc pc = .ok (.iload_n i, 1)) (hl : os[(i : Nat)]? = some (some (.int x))) (k : gk_G κ ce sl ws (pc + 1) (os) (.int x :: st)) : gk_G κ ce sl ws pc os (st) := by
  obtain ⟨⟨p, l, e, R, s, m, args, below, meth, c⟩, Γ, A, nL, Q, N⟩ := κ
  obtain ⟨hx, hb, hml, hown, hts, hK, hA, hR, hN0, hNM⟩ := C
  intro H locs ls hP hD hS hL
  exact lv_iload_n hx hb hd rfl (hL.2.2.2 _ _ hl) (k H locs ls hP hD hS hL)
theorem gk_iload {i : Nat} {x : Int32} (C : gk_C κ cc own D MC MS) (hd : decode cc pc = .ok (.iload i, 2)) (hl : os[i]? = some (some (.int x))) (k : gk_G κ ce sl ws (pc + 2) (os) (.int x :: st)) : gk_G κ ce sl ws pc os (st) := by
  obtain ⟨⟨p, l, e, R, s, m, args, below, meth, c⟩, Γ, A, nL, Q, N⟩ := κ
  obtain ⟨hx, hb, hml, hown, hts, hK, hA, hR, hN0, hNM⟩ := C
  intro H locs ls hP hD hS hL
  exact lv_iload hx hb hd (hL.2.2.2 _ _ hl) (k H locs ls hP hD hS hL)
theorem gk_lload_n {i : Fin 4} {x : Int64} (C : gk_C κ cc own D MC MS) (hd : decode cc pc = .ok (.lload_n i, 1)) (hl : os[(i : Nat)]? = some (some (.long x))) (k : gk_G κ ce sl ws (pc + 1) (os) (.long x :: st)) : gk_G κ ce sl ws pc os (st) := by
  obtain ⟨⟨p, l, e, R, s, m, args, below, meth, c⟩, Γ, A, nL, Q, N⟩ := κ
  obtain ⟨hx, hb, hml, hown, hts, hK, hA, hR, hN0, hNM⟩ := C
  intro H locs ls hP hD hS hL
  exact lv_lload_n hx hb hd rfl (hL.2.2.2 _ _ hl) (k H locs ls hP hD hS hL)
theorem gk_lload {i : Nat} {x : Int64} (C : gk_C κ cc own D MC MS) (hd : decode cc pc = .ok (.lload i, 2)) (hl : os[i]? = some (some (.long x))) (k : gk_G κ ce sl ws (pc + 2) (os) (.long x :: st)) : gk_G κ ce sl ws pc os (st) := by
  obtain ⟨⟨p, l, e, R, s, m, args, below, meth, c⟩, Γ, A, nL, Q, N⟩ := κ
  obtain ⟨hx, hb, hml, hown, hts, hK, hA, hR, hN0, hNM⟩ := C
  intro H locs ls hP hD hS hL
  exact lv_lload hx hb hd (hL.2.2.2 _ _ hl) (k H locs ls hP hD hS hL)
theorem gk_aload_n {i : Fin 4} {x : Nat} (C : gk_C κ cc own D MC MS) (hd : decode cc pc = .ok (.aload_n i, 1)) (hl : os[(i : Nat)]? = some (some (.ref x))) (k : gk_G κ ce sl ws (pc + 1) (os) (.ref x :: st)) : gk_G κ ce sl ws pc os (st) := by
  obtain ⟨⟨p, l, e, R, s, m, args, below, meth, c⟩, Γ, A, nL, Q, N⟩ := κ
  obtain ⟨hx, hb, hml, hown, hts, hK, hA, hR, hN0, hNM⟩ := C
  intro H locs ls hP hD hS hL
  exact lv_aload_n hx hb hd rfl (hL.2.2.2 _ _ hl) (k H locs ls hP hD hS hL)
theorem gk_aload {i : Nat} {x : Nat} (C : gk_C κ cc own D MC MS) (hd : decode cc pc = .ok (.aload i, 2)) (hl : os[i]? = some (some (.ref x))) (k : gk_G κ ce sl ws (pc + 2) (os) (.ref x :: st)) : gk_G κ ce sl ws pc os (st) := by
  obtain ⟨⟨p, l, e, R, s, m, args, below, meth, c⟩, Γ, A, nL, Q, N⟩ := κ
  obtain ⟨hx, hb, hml, hown, hts, hK, hA, hR, hN0, hNM⟩ := C
  intro H locs ls hP hD hS hL
  exact lv_aload hx hb hd (hL.2.2.2 _ _ hl) (k H locs ls hP hD hS hL)
theorem gk_aload_nN {i : Fin 4} (C : gk_C κ cc own D MC MS) (hd : decode cc pc = .ok (.aload_n i, 1)) (hl : os[(i : Nat)]? = some (some .null)) (k : gk_G κ ce sl ws (pc + 1) (os) (.null :: st)) : gk_G κ ce sl ws pc os (st) := by
  obtain ⟨⟨p, l, e, R, s, m, args, below, meth, c⟩, Γ, A, nL, Q, N⟩ := κ
  obtain ⟨hx, hb, hml, hown, hts, hK, hA, hR, hN0, hNM⟩ := C
  intro H locs ls hP hD hS hL
  exact lv_aload_nN hx hb hd rfl (hL.2.2.2 _ _ hl) (k H locs ls hP hD hS hL)
theorem gk_aloadN {i : Nat} (C : gk_C κ cc own D MC MS) (hd : decode cc pc = .ok (.aload i, 2)) (hl : os[i]? = some (some .null)) (k : gk_G κ ce sl ws (pc + 2) (os) (.null :: st)) : gk_G κ ce sl ws pc os (st) := by
  obtain ⟨⟨p, l, e, R, s, m, args, below, meth, c⟩, Γ, A, nL, Q, N⟩ := κ
  obtain ⟨hx, hb, hml, hown, hts, hK, hA, hR, hN0, hNM⟩ := C
  intro H locs ls hP hD hS hL
  exact lv_aloadN hx hb hd (hL.2.2.2 _ _ hl) (k H locs ls hP hD hS hL)
theorem gk_istore_n {i : Fin 4} {x : Int32} (C : gk_C κ cc own D MC MS) (hd : decode cc pc = .ok (.istore_n i, 1)) (hi : Nat.blt (i : Nat) os.length = true) (hk : gk_ok os i = true) (k : gk_G κ ce sl ws (pc + 1) (os.set i (some (.int x))) st) : gk_G κ ce sl ws pc os (.int x :: st) := by
  obtain ⟨⟨p, l, e, R, s, m, args, below, meth, c⟩, Γ, A, nL, Q, N⟩ := κ
  obtain ⟨hx, hb, hml, hown, hts, hK, hA, hR, hN0, hNM⟩ := C
  intro H locs ls hP hD hS hL
  obtain ⟨ls', e', hL'⟩ := gk_store (v := .int x) hL (gk_blt hi) rfl hk
  intro T hT X
  obtain ⟨t, a, b⟩ := k H locs ls' hP hD hS hL' T hT X
  refine ⟨t, ?_, b⟩
  jvm_step X.here [X.here.top, ↓top_set X.here.top, hx, hb, hd, e']
  exact a
theorem gk_istore {i : Nat} {x : Int32} (C : gk_C κ cc own D MC MS) (hd : decode cc pc = .ok (.istore i, 2)) (hi : Nat.blt (i : Nat) os.length = true) (hk : gk_ok os i = true) (k : gk_G κ ce sl ws (pc + 2) (os.set i (some (.int x))) st) : gk_G κ ce sl ws pc os (.int x :: st) := by
  obtain ⟨⟨p, l, e, R, s, m, args, below, meth, c⟩, Γ, A, nL, Q, N⟩ := κ
  obtain ⟨hx, hb, hml, hown, hts, hK, hA, hR, hN0, hNM⟩ := C
  intro H locs ls hP hD hS hL
  obtain ⟨ls', e', hL'⟩ := gk_store (v := .int x) hL (gk_blt hi) rfl hk
  intro T hT X
  obtain ⟨t, a, b⟩ := k H locs ls' hP hD hS hL' T hT X
  refine ⟨t, ?_, b⟩
  jvm_step X.here [X.here.top, ↓top_set X.here.top, hx, hb, hd, e']
  exact a
theorem gk_astore_n {i : Fin 4} {x : Nat} (C : gk_C κ cc own D MC MS) (hd : decode cc pc = .ok (.astore_n i, 1)) (hi : Nat.blt (i : Nat) os.length = true) (hk : gk_ok os i = true) (k : gk_G κ ce sl ws (pc + 1) (os.set i (some (.ref x))) st) : gk_G κ ce sl ws pc os (.ref x :: st) := by
  obtain ⟨⟨p, l, e, R, s, m, args, below, meth, c⟩, Γ, A, nL, Q, N⟩ := κ
  obtain ⟨hx, hb, hml, hown, hts, hK, hA, hR, hN0, hNM⟩ := C
  intro H locs ls hP hD hS hL
  obtain ⟨ls', e', hL'⟩ := gk_store (v := .ref x) hL (gk_blt hi) rfl hk
  intro T hT X
  obtain ⟨t, a, b⟩ := k H locs ls' hP hD hS hL' T hT X
  refine ⟨t, ?_, b⟩
  jvm_step X.here [X.here.top, ↓top_set X.here.top, hx, hb, hd, e', Value.isRef]
  exact a
theorem gk_astore {i : Nat} {x : Nat} (C : gk_C κ cc own D MC MS) (hd : decode cc pc = .ok (.astore i, 2)) (hi : Nat.blt (i : Nat) os.length = true) (hk : gk_ok os i = true) (k : gk_G κ ce sl ws (pc + 2) (os.set i (some (.ref x))) st) : gk_G κ ce sl ws pc os (.ref x :: st) := by
  obtain ⟨⟨p, l, e, R, s, m, args, below, meth, c⟩, Γ, A, nL, Q, N⟩ := κ
  obtain ⟨hx, hb, hml, hown, hts, hK, hA, hR, hN0, hNM⟩ := C
  intro H locs ls hP hD hS hL
  obtain ⟨ls', e', hL'⟩ := gk_store (v := .ref x) hL (gk_blt hi) rfl hk
  intro T hT X
  obtain ⟨t, a, b⟩ := k H locs ls' hP hD hS hL' T hT X
  refine ⟨t, ?_, b⟩
  jvm_step X.here [X.here.top, ↓top_set X.here.top, hx, hb, hd, e', Value.isRef]
  exact a
theorem gk_astore_nN {i : Fin 4} (C : gk_C κ cc own D MC MS) (hd : decode cc pc = .ok (.astore_n i, 1)) (hi : Nat.blt (i : Nat) os.length = true) (hk : gk_ok os i = true) (k : gk_G κ ce sl ws (pc + 1) (os.set i (some (.null))) st) : gk_G κ ce sl ws pc os (.null :: st) := by
  obtain ⟨⟨p, l, e, R, s, m, args, below, meth, c⟩, Γ, A, nL, Q, N⟩ := κ
  obtain ⟨hx, hb, hml, hown, hts, hK, hA, hR, hN0, hNM⟩ := C
  intro H locs ls hP hD hS hL
  obtain ⟨ls', e', hL'⟩ := gk_store (v := .null) hL (gk_blt hi) rfl hk
  intro T hT X
  obtain ⟨t, a, b⟩ := k H locs ls' hP hD hS hL' T hT X
  refine ⟨t, ?_, b⟩
  jvm_step X.here [X.here.top, ↓top_set X.here.top, hx, hb, hd, e', Value.isRef]
  exact a
theorem gk_astoreN {i : Nat} (C : gk_C κ cc own D MC MS) (hd : decode cc pc = .ok (.astore i, 2)) (hi : Nat.blt (i : Nat) os.length = true) (hk : gk_ok os i = true) (k : gk_G κ ce sl ws (pc + 2) (os.set i (some (.null))) st) : gk_G κ ce sl ws pc os (.null :: st) := by
  obtain ⟨⟨p, l, e, R, s, m, args, below, meth, c⟩, Γ, A, nL, Q, N⟩ := κ
  obtain ⟨hx, hb, hml, hown, hts, hK, hA, hR, hN0, hNM⟩ := C
  intro H locs ls hP hD hS hL
  obtain ⟨ls', e', hL'⟩ := gk_store (v := .null) hL (gk_blt hi) rfl hk
  intro T hT X
  obtain ⟨t, a, b⟩ := k H locs ls' hP hD hS hL' T hT X
  refine ⟨t, ?_, b⟩
  jvm_step X.here [X.here.top, ↓top_set X.here.top, hx, hb, hd, e', Value.isRef]
  exact a
theorem gk_iinc {i : Nat} {n : Int} {x : Int32} (v : Int32) (C : gk_C κ cc own D MC MS) (hd : decode cc pc = .ok (.iinc i n, 3)) (hl : os[i]? = some (some (.int x))) (hv : x + Int32.ofInt n = v) (hi : Nat.blt (i : Nat) os.length = true) (hk : gk_ok os i = true) (k : gk_G κ ce sl ws (pc + 3) (os.set i (some (.int v))) st) : gk_G κ ce sl ws pc os st := by
  obtain ⟨⟨p, l, e, R, s, m, args, below, meth, c⟩, Γ, A, nL, Q, N⟩ := κ
  obtain ⟨hx, hb, hml, hown, hts, hK, hA, hR, hN0, hNM⟩ := C
  subst hv
  intro H locs ls hP hD hS hL
  have hg := hL.2.2.2 _ _ hl
  obtain ⟨ls', e', hL'⟩ := gk_store (v := .int (x + Int32.ofInt n)) hL (gk_blt hi) rfl hk
  intro T hT X
  obtain ⟨t, a, b⟩ := k H locs ls' hP hD hS hL' T hT X
  refine ⟨t, ?_, b⟩
  jvm_step X.here [X.here.top, ↓top_set X.here.top, hx, hb, hd, hg, e']
  exact a
theorem gk_iadd {x y : Int32} (C : gk_C κ cc own D MC MS) (hd : decode cc pc = .ok (.iadd, 1)) (k : gk_G κ ce sl ws (pc + 1) (os) (.int (x + y) :: st)) : gk_G κ ce sl ws pc os (.int y :: .int x :: st) := by
  obtain ⟨⟨p, l, e, R, s, m, args, below, meth, c⟩, Γ, A, nL, Q, N⟩ := κ
  obtain ⟨hx, hb, hml, hown, hts, hK, hA, hR, hN0, hNM⟩ := C
  intro H locs ls hP hD hS hL
  exact lv_iadd hx hb hd (k H locs ls hP hD hS hL)
theorem gk_isub {x y : Int32} (C : gk_C κ cc own D MC MS) (hd : decode cc pc = .ok (.isub, 1)) (k : gk_G κ ce sl ws (pc + 1) (os) (.int (x - y) :: st)) : gk_G κ ce sl ws pc os (.int y :: .int x :: st) := by
  obtain ⟨⟨p, l, e, R, s, m, args, below, meth, c⟩, Γ, A, nL, Q, N⟩ := κ
  obtain ⟨hx, hb, hml, hown, hts, hK, hA, hR, hN0, hNM⟩ := C
  intro H locs ls hP hD hS hL
  exact lv_isub hx hb hd (k H locs ls hP hD hS hL)
theorem gk_imul {x y : Int32} (C : gk_C κ cc own D MC MS) (hd : decode cc pc = .ok (.imul, 1)) (k : gk_G κ ce sl ws (pc + 1) (os) (.int (x * y) :: st)) : gk_G κ ce sl ws pc os (.int y :: .int x :: st) := by
  obtain ⟨⟨p, l, e, R, s, m, args, below, meth, c⟩, Γ, A, nL, Q, N⟩ := κ
  obtain ⟨hx, hb, hml, hown, hts, hK, hA, hR, hN0, hNM⟩ := C
  intro H locs ls hP hD hS hL
  exact lv_imul hx hb hd (k H locs ls hP hD hS hL)
theorem gk_iand {x y : Int32} (C : gk_C κ cc own D MC MS) (hd : decode cc pc = .ok (.iand, 1)) (k : gk_G κ ce sl ws (pc + 1) (os) (.int (x &&& y) :: st)) : gk_G κ ce sl ws pc os (.int y :: .int x :: st) := by
  obtain ⟨⟨p, l, e, R, s, m, args, below, meth, c⟩, Γ, A, nL, Q, N⟩ := κ
  obtain ⟨hx, hb, hml, hown, hts, hK, hA, hR, hN0, hNM⟩ := C
  intro H locs ls hP hD hS hL
  exact lv_iand hx hb hd (k H locs ls hP hD hS hL)
theorem gk_ior {x y : Int32} (C : gk_C κ cc own D MC MS) (hd : decode cc pc = .ok (.ior, 1)) (k : gk_G κ ce sl ws (pc + 1) (os) (.int (x ||| y) :: st)) : gk_G κ ce sl ws pc os (.int y :: .int x :: st) := by
  obtain ⟨⟨p, l, e, R, s, m, args, below, meth, c⟩, Γ, A, nL, Q, N⟩ := κ
  obtain ⟨hx, hb, hml, hown, hts, hK, hA, hR, hN0, hNM⟩ := C
  intro H locs ls hP hD hS hL
  exact lv_ior hx hb hd (k H locs ls hP hD hS hL)
theorem gk_ixor {x y : Int32} (C : gk_C κ cc own D MC MS) (hd : decode cc pc = .ok (.ixor, 1)) (k : gk_G κ ce sl ws (pc + 1) (os) (.int (x ^^^ y) :: st)) : gk_G κ ce sl ws pc os (.int y :: .int x :: st) := by
  obtain ⟨⟨p, l, e, R, s, m, args, below, meth, c⟩, Γ, A, nL, Q, N⟩ := κ
  obtain ⟨hx, hb, hml, hown, hts, hK, hA, hR, hN0, hNM⟩ := C
  intro H locs ls hP hD hS hL
  exact lv_ixor hx hb hd (k H locs ls hP hD hS hL)
theorem gk_ladd {x y : Int64} (C : gk_C κ cc own D MC MS) (hd : decode cc pc = .ok (.ladd, 1)) (k : gk_G κ ce sl ws (pc + 1) (os) (.long (x + y) :: st)) : gk_G κ ce sl ws pc os (.long y :: .long x :: st) := by
  obtain ⟨⟨p, l, e, R, s, m, args, below, meth, c⟩, Γ, A, nL, Q, N⟩ := κ
  obtain ⟨hx, hb, hml, hown, hts, hK, hA, hR, hN0, hNM⟩ := C
  intro H locs ls hP hD hS hL
  exact lv_ladd hx hb hd (k H locs ls hP hD hS hL)
theorem gk_lsub {x y : Int64} (C : gk_C κ cc own D MC MS) (hd : decode cc pc = .ok (.lsub, 1)) (k : gk_G κ ce sl ws (pc + 1) (os) (.long (x - y) :: st)) : gk_G κ ce sl ws pc os (.long y :: .long x :: st) := by
  obtain ⟨⟨p, l, e, R, s, m, args, below, meth, c⟩, Γ, A, nL, Q, N⟩ := κ
  obtain ⟨hx, hb, hml, hown, hts, hK, hA, hR, hN0, hNM⟩ := C
  intro H locs ls hP hD hS hL
  exact lv_lsub hx hb hd (k H locs ls hP hD hS hL)
theorem gk_idiv {x y : Int32} (C : gk_C κ cc own D MC MS) (hd : decode cc pc = .ok (.idiv, 1)) (hne : ¬ y = 0) (k : gk_G κ ce sl ws (pc + 1) (os) (.int (x / y) :: st)) : gk_G κ ce sl ws pc os (.int y :: .int x :: st) := by
  obtain ⟨⟨p, l, e, R, s, m, args, below, meth, c⟩, Γ, A, nL, Q, N⟩ := κ
  obtain ⟨hx, hb, hml, hown, hts, hK, hA, hR, hN0, hNM⟩ := C
  intro H locs ls hP hD hS hL
  exact lv_idiv hx hb hd hne (k H locs ls hP hD hS hL)
theorem gk_irem {x y : Int32} (C : gk_C κ cc own D MC MS) (hd : decode cc pc = .ok (.irem, 1)) (hne : ¬ y = 0) (k : gk_G κ ce sl ws (pc + 1) (os) (.int (x - x / y * y) :: st)) : gk_G κ ce sl ws pc os (.int y :: .int x :: st) := by
  obtain ⟨⟨p, l, e, R, s, m, args, below, meth, c⟩, Γ, A, nL, Q, N⟩ := κ
  obtain ⟨hx, hb, hml, hown, hts, hK, hA, hR, hN0, hNM⟩ := C
  intro H locs ls hP hD hS hL
  exact lv_irem hx hb hd hne (k H locs ls hP hD hS hL)
theorem gk_ineg {x : Int32} (C : gk_C κ cc own D MC MS) (hd : decode cc pc = .ok (.ineg, 1)) (k : gk_G κ ce sl ws (pc + 1) (os) (.int (-x) :: st)) : gk_G κ ce sl ws pc os (.int x :: st) := by
  obtain ⟨⟨p, l, e, R, s, m, args, below, meth, c⟩, Γ, A, nL, Q, N⟩ := κ
  obtain ⟨hx, hb, hml, hown, hts, hK, hA, hR, hN0, hNM⟩ := C
  intro H locs ls hP hD hS hL
  exact lv_ineg hx hb hd (k H locs ls hP hD hS hL)
theorem gk_ishl {x y : Int32} (C : gk_C κ cc own D MC MS) (hd : decode cc pc = .ok (.ishl, 1)) (k : gk_G κ ce sl ws (pc + 1) (os) (.int (x <<< (y &&& 31)) :: st)) : gk_G κ ce sl ws pc os (.int y :: .int x :: st) := by
  obtain ⟨⟨p, l, e, R, s, m, args, below, meth, c⟩, Γ, A, nL, Q, N⟩ := κ
  obtain ⟨hx, hb, hml, hown, hts, hK, hA, hR, hN0, hNM⟩ := C
  intro H locs ls hP hD hS hL
  exact lv_ishl hx hb hd (k H locs ls hP hD hS hL)
theorem gk_ishr {x y : Int32} (C : gk_C κ cc own D MC MS) (hd : decode cc pc = .ok (.ishr, 1)) (k : gk_G κ ce sl ws (pc + 1) (os) (.int (x >>> (y &&& 31)) :: st)) : gk_G κ ce sl ws pc os (.int y :: .int x :: st) := by
  obtain ⟨⟨p, l, e, R, s, m, args, below, meth, c⟩, Γ, A, nL, Q, N⟩ := κ
  obtain ⟨hx, hb, hml, hown, hts, hK, hA, hR, hN0, hNM⟩ := C
  intro H locs ls hP hD hS hL
  exact lv_ishr hx hb hd (k H locs ls hP hD hS hL)
theorem gk_iushr {x y : Int32} (C : gk_C κ cc own D MC MS) (hd : decode cc pc = .ok (.iushr, 1)) (k : gk_G κ ce sl ws (pc + 1) (os) (.int (x.toUInt32 >>> (y.toUInt32 &&& Int32.toUInt32 31)).toInt32 :: st)) : gk_G κ ce sl ws pc os (.int y :: .int x :: st) := by
  obtain ⟨⟨p, l, e, R, s, m, args, below, meth, c⟩, Γ, A, nL, Q, N⟩ := κ
  obtain ⟨hx, hb, hml, hown, hts, hK, hA, hR, hN0, hNM⟩ := C
  intro H locs ls hP hD hS hL
  exact lv_iushr hx hb hd rfl (k H locs ls hP hD hS hL)
theorem gk_i2l {x : Int32} (C : gk_C κ cc own D MC MS) (hd : decode cc pc = .ok (.i2l, 1)) (k : gk_G κ ce sl ws (pc + 1) (os) (.long x.toInt64 :: st)) : gk_G κ ce sl ws pc os (.int x :: st) := by
  obtain ⟨⟨p, l, e, R, s, m, args, below, meth, c⟩, Γ, A, nL, Q, N⟩ := κ
  obtain ⟨hx, hb, hml, hown, hts, hK, hA, hR, hN0, hNM⟩ := C
  intro H locs ls hP hD hS hL
  exact lv_i2l hx hb hd rfl (k H locs ls hP hD hS hL)
theorem gk_i2b {x : Int32} (C : gk_C κ cc own D MC MS) (hd : decode cc pc = .ok (.i2b, 1)) (k : gk_G κ ce sl ws (pc + 1) (os) (.int x.toInt8.toInt32 :: st)) : gk_G κ ce sl ws pc os (.int x :: st) := by
  obtain ⟨⟨p, l, e, R, s, m, args, below, meth, c⟩, Γ, A, nL, Q, N⟩ := κ
  obtain ⟨hx, hb, hml, hown, hts, hK, hA, hR, hN0, hNM⟩ := C
  intro H locs ls hP hD hS hL
  exact lv_i2b hx hb hd rfl (k H locs ls hP hD hS hL)
theorem gk_i2s {x : Int32} (C : gk_C κ cc own D MC MS) (hd : decode cc pc = .ok (.i2s, 1)) (k : gk_G κ ce sl ws (pc + 1) (os) (.int x.toInt16.toInt32 :: st)) : gk_G κ ce sl ws pc os (.int x :: st) := by
  obtain ⟨⟨p, l, e, R, s, m, args, below, meth, c⟩, Γ, A, nL, Q, N⟩ := κ
  obtain ⟨hx, hb, hml, hown, hts, hK, hA, hR, hN0, hNM⟩ := C
  intro H locs ls hP hD hS hL
  exact lv_i2s hx hb hd rfl (k H locs ls hP hD hS hL)
theorem gk_lcmp {x y : Int64} (C : gk_C κ cc own D MC MS) (hd : decode cc pc = .ok (.lcmp, 1)) (k : gk_G κ ce sl ws (pc + 1) (os) (.int (lg_cmp x y) :: st)) : gk_G κ ce sl ws pc os (.long y :: .long x :: st) := by
  obtain ⟨⟨p, l, e, R, s, m, args, below, meth, c⟩, Γ, A, nL, Q, N⟩ := κ
  obtain ⟨hx, hb, hml, hown, hts, hK, hA, hR, hN0, hNM⟩ := C
  intro H locs ls hP hD hS hL
  exact W.lcmp hx hb hd (k H locs ls hP hD hS hL)
theorem gk_dup {v : Value} (C : gk_C κ cc own D MC MS) (hd : decode cc pc = .ok (.dup, 1)) (hc : v.category = 1) (k : gk_G κ ce sl ws (pc + 1) (os) (v :: v :: st)) : gk_G κ ce sl ws pc os (v :: st) := by
  obtain ⟨⟨p, l, e, R, s, m, args, below, meth, c⟩, Γ, A, nL, Q, N⟩ := κ
  obtain ⟨hx, hb, hml, hown, hts, hK, hA, hR, hN0, hNM⟩ := C
  intro H locs ls hP hD hS hL
  exact lv_dup hx hb hd hc (k H locs ls hP hD hS hL)
theorem gk_pop {v : Value} (C : gk_C κ cc own D MC MS) (hd : decode cc pc = .ok (.pop, 1)) (hc : v.category = 1) (k : gk_G κ ce sl ws (pc + 1) (os) (st)) : gk_G κ ce sl ws pc os (v :: st) := by
  obtain ⟨⟨p, l, e, R, s, m, args, below, meth, c⟩, Γ, A, nL, Q, N⟩ := κ
  obtain ⟨hx, hb, hml, hown, hts, hK, hA, hR, hN0, hNM⟩ := C
  intro H locs ls hP hD hS hL
  exact lv_pop hx hb hd hc (k H locs ls hP hD hS hL)
theorem gk_dup_x1 {v w : Value} (C : gk_C κ cc own D MC MS) (hd : decode cc pc = .ok (.dup_x1, 1)) (hc : v.category = 1) (hc2 : w.category = 1) (k : gk_G κ ce sl ws (pc + 1) (os) (v :: w :: v :: st)) : gk_G κ ce sl ws pc os (v :: w :: st) := by
  obtain ⟨⟨p, l, e, R, s, m, args, below, meth, c⟩, Γ, A, nL, Q, N⟩ := κ
  obtain ⟨hx, hb, hml, hown, hts, hK, hA, hR, hN0, hNM⟩ := C
  intro H locs ls hP hD hS hL
  exact lv_dup_x1 hx hb hd hc hc2 (k H locs ls hP hD hS hL)
theorem gk_dup_x2 {v w z : Value} (C : gk_C κ cc own D MC MS) (hd : decode cc pc = .ok (.dup_x2, 1)) (hc : v.category = 1) (hc2 : w.category = 1) (hc3 : z.category = 1) (k : gk_G κ ce sl ws (pc + 1) (os) (v :: w :: z :: v :: st)) : gk_G κ ce sl ws pc os (v :: w :: z :: st) := by
  obtain ⟨⟨p, l, e, R, s, m, args, below, meth, c⟩, Γ, A, nL, Q, N⟩ := κ
  obtain ⟨hx, hb, hml, hown, hts, hK, hA, hR, hN0, hNM⟩ := C
  intro H locs ls hP hD hS hL
  exact lv_dup_x2 hx hb hd hc hc2 hc3 (k H locs ls hP hD hS hL)
theorem gk_dup2 {v w : Value} (C : gk_C κ cc own D MC MS) (hd : decode cc pc = .ok (.dup2, 1)) (hc : v.category = 1) (hc2 : w.category = 1) (k : gk_G κ ce sl ws (pc + 1) (os) (v :: w :: v :: w :: st)) : gk_G κ ce sl ws pc os (v :: w :: st) := by
  obtain ⟨⟨p, l, e, R, s, m, args, below, meth, c⟩, Γ, A, nL, Q, N⟩ := κ
  obtain ⟨hx, hb, hml, hown, hts, hK, hA, hR, hN0, hNM⟩ := C
  intro H locs ls hP hD hS hL
  exact lv_dup2_11 hx hb hd hc hc2 (k H locs ls hP hD hS hL)
theorem gk_if_eq {x : Int32} {off : Int} (tgt : Nat) (C : gk_C κ cc own D MC MS) (hd : decode cc pc = .ok (.ifCond .eq off, 3)) (ht : (pc : Int) + off = (tgt : Int)) (kt : x = 0 → gk_G κ ce sl ws tgt os st) (kf : ¬ x = 0 → gk_G κ ce sl ws (pc + 3) os st) : gk_G κ ce sl ws pc os (.int x :: st) := by
  obtain ⟨⟨p, l, e, R, s, m, args, below, meth, c⟩, Γ, A, nL, Q, N⟩ := κ
  obtain ⟨hx, hb, hml, hown, hts, hK, hA, hR, hN0, hNM⟩ := C
  intro H locs ls hP hD hS hL
  exact lv_if_eq (tgt := tgt) hx hb hd ht (fun q => kt q H locs ls hP hD hS hL) (fun q => kf q H locs ls hP hD hS hL)
theorem gk_icmp_eq {x y : Int32} {off : Int} (tgt : Nat) (C : gk_C κ cc own D MC MS) (hd : decode cc pc = .ok (.if_icmp .eq off, 3)) (ht : (pc : Int) + off = (tgt : Int)) (kt : x = y → gk_G κ ce sl ws tgt os st) (kf : ¬ x = y → gk_G κ ce sl ws (pc + 3) os st) : gk_G κ ce sl ws pc os (.int y :: .int x :: st) := by
  obtain ⟨⟨p, l, e, R, s, m, args, below, meth, c⟩, Γ, A, nL, Q, N⟩ := κ
  obtain ⟨hx, hb, hml, hown, hts, hK, hA, hR, hN0, hNM⟩ := C
  intro H locs ls hP hD hS hL
  exact lv_icmp_eq (tgt := tgt) hx hb hd ht (fun q => kt q H locs ls hP hD hS hL) (fun q => kf q H locs ls hP hD hS hL)
theorem gk_if_ne {x : Int32} {off : Int} (tgt : Nat) (C : gk_C κ cc own D MC MS) (hd : decode cc pc = .ok (.ifCond .ne off, 3)) (ht : (pc : Int) + off = (tgt : Int)) (kt : ¬ x = 0 → gk_G κ ce sl ws tgt os st) (kf : x = 0 → gk_G κ ce sl ws (pc + 3) os st) : gk_G κ ce sl ws pc os (.int x :: st) := by
  obtain ⟨⟨p, l, e, R, s, m, args, below, meth, c⟩, Γ, A, nL, Q, N⟩ := κ
  obtain ⟨hx, hb, hml, hown, hts, hK, hA, hR, hN0, hNM⟩ := C
  intro H locs ls hP hD hS hL
  exact lv_if_ne (tgt := tgt) hx hb hd ht (fun q => kt q H locs ls hP hD hS hL) (fun q => kf q H locs ls hP hD hS hL)
theorem gk_icmp_ne {x y : Int32} {off : Int} (tgt : Nat) (C : gk_C κ cc own D MC MS) (hd : decode cc pc = .ok (.if_icmp .ne off, 3)) (ht : (pc : Int) + off = (tgt : Int)) (kt : ¬ x = y → gk_G κ ce sl ws tgt os st) (kf : x = y → gk_G κ ce sl ws (pc + 3) os st) : gk_G κ ce sl ws pc os (.int y :: .int x :: st) := by
  obtain ⟨⟨p, l, e, R, s, m, args, below, meth, c⟩, Γ, A, nL, Q, N⟩ := κ
  obtain ⟨hx, hb, hml, hown, hts, hK, hA, hR, hN0, hNM⟩ := C
  intro H locs ls hP hD hS hL
  exact lv_icmp_ne (tgt := tgt) hx hb hd ht (fun q => kt q H locs ls hP hD hS hL) (fun q => kf q H locs ls hP hD hS hL)
theorem gk_if_lt {x : Int32} {off : Int} (tgt : Nat) (C : gk_C κ cc own D MC MS) (hd : decode cc pc = .ok (.ifCond .lt off, 3)) (ht : (pc : Int) + off = (tgt : Int)) (kt : x < 0 → gk_G κ ce sl ws tgt os st) (kf : ¬ x < 0 → gk_G κ ce sl ws (pc + 3) os st) : gk_G κ ce sl ws pc os (.int x :: st) := by
  obtain ⟨⟨p, l, e, R, s, m, args, below, meth, c⟩, Γ, A, nL, Q, N⟩ := κ
  obtain ⟨hx, hb, hml, hown, hts, hK, hA, hR, hN0, hNM⟩ := C
  intro H locs ls hP hD hS hL
  exact lv_if_lt (tgt := tgt) hx hb hd ht (fun q => kt q H locs ls hP hD hS hL) (fun q => kf q H locs ls hP hD hS hL)
theorem gk_icmp_lt {x y : Int32} {off : Int} (tgt : Nat) (C : gk_C κ cc own D MC MS) (hd : decode cc pc = .ok (.if_icmp .lt off, 3)) (ht : (pc : Int) + off = (tgt : Int)) (kt : x < y → gk_G κ ce sl ws tgt os st) (kf : ¬ x < y → gk_G κ ce sl ws (pc + 3) os st) : gk_G κ ce sl ws pc os (.int y :: .int x :: st) := by
  obtain ⟨⟨p, l, e, R, s, m, args, below, meth, c⟩, Γ, A, nL, Q, N⟩ := κ
  obtain ⟨hx, hb, hml, hown, hts, hK, hA, hR, hN0, hNM⟩ := C
  intro H locs ls hP hD hS hL
  exact lv_icmp_lt (tgt := tgt) hx hb hd ht (fun q => kt q H locs ls hP hD hS hL) (fun q => kf q H locs ls hP hD hS hL)
theorem gk_if_ge {x : Int32} {off : Int} (tgt : Nat) (C : gk_C κ cc own D MC MS) (hd : decode cc pc = .ok (.ifCond .ge off, 3)) (ht : (pc : Int) + off = (tgt : Int)) (kt : 0 ≤ x → gk_G κ ce sl ws tgt os st) (kf : ¬ 0 ≤ x → gk_G κ ce sl ws (pc + 3) os st) : gk_G κ ce sl ws pc os (.int x :: st) := by
  obtain ⟨⟨p, l, e, R, s, m, args, below, meth, c⟩, Γ, A, nL, Q, N⟩ := κ
  obtain ⟨hx, hb, hml, hown, hts, hK, hA, hR, hN0, hNM⟩ := C
  intro H locs ls hP hD hS hL
  exact lv_if_ge (tgt := tgt) hx hb hd ht (fun q => kt q H locs ls hP hD hS hL) (fun q => kf q H locs ls hP hD hS hL)
theorem gk_icmp_ge {x y : Int32} {off : Int} (tgt : Nat) (C : gk_C κ cc own D MC MS) (hd : decode cc pc = .ok (.if_icmp .ge off, 3)) (ht : (pc : Int) + off = (tgt : Int)) (kt : y ≤ x → gk_G κ ce sl ws tgt os st) (kf : ¬ y ≤ x → gk_G κ ce sl ws (pc + 3) os st) : gk_G κ ce sl ws pc os (.int y :: .int x :: st) := by
  obtain ⟨⟨p, l, e, R, s, m, args, below, meth, c⟩, Γ, A, nL, Q, N⟩ := κ
  obtain ⟨hx, hb, hml, hown, hts, hK, hA, hR, hN0, hNM⟩ := C
  intro H locs ls hP hD hS hL
  exact lv_icmp_ge (tgt := tgt) hx hb hd ht (fun q => kt q H locs ls hP hD hS hL) (fun q => kf q H locs ls hP hD hS hL)
theorem gk_if_gt {x : Int32} {off : Int} (tgt : Nat) (C : gk_C κ cc own D MC MS) (hd : decode cc pc = .ok (.ifCond .gt off, 3)) (ht : (pc : Int) + off = (tgt : Int)) (kt : 0 < x → gk_G κ ce sl ws tgt os st) (kf : ¬ 0 < x → gk_G κ ce sl ws (pc + 3) os st) : gk_G κ ce sl ws pc os (.int x :: st) := by
  obtain ⟨⟨p, l, e, R, s, m, args, below, meth, c⟩, Γ, A, nL, Q, N⟩ := κ
  obtain ⟨hx, hb, hml, hown, hts, hK, hA, hR, hN0, hNM⟩ := C
  intro H locs ls hP hD hS hL
  exact lv_if_gt (tgt := tgt) hx hb hd ht (fun q => kt q H locs ls hP hD hS hL) (fun q => kf q H locs ls hP hD hS hL)
theorem gk_icmp_gt {x y : Int32} {off : Int} (tgt : Nat) (C : gk_C κ cc own D MC MS) (hd : decode cc pc = .ok (.if_icmp .gt off, 3)) (ht : (pc : Int) + off = (tgt : Int)) (kt : y < x → gk_G κ ce sl ws tgt os st) (kf : ¬ y < x → gk_G κ ce sl ws (pc + 3) os st) : gk_G κ ce sl ws pc os (.int y :: .int x :: st) := by
  obtain ⟨⟨p, l, e, R, s, m, args, below, meth, c⟩, Γ, A, nL, Q, N⟩ := κ
  obtain ⟨hx, hb, hml, hown, hts, hK, hA, hR, hN0, hNM⟩ := C
  intro H locs ls hP hD hS hL
  exact lv_icmp_gt (tgt := tgt) hx hb hd ht (fun q => kt q H locs ls hP hD hS hL) (fun q => kf q H locs ls hP hD hS hL)
theorem gk_if_le {x : Int32} {off : Int} (tgt : Nat) (C : gk_C κ cc own D MC MS) (hd : decode cc pc = .ok (.ifCond .le off, 3)) (ht : (pc : Int) + off = (tgt : Int)) (kt : x ≤ 0 → gk_G κ ce sl ws tgt os st) (kf : ¬ x ≤ 0 → gk_G κ ce sl ws (pc + 3) os st) : gk_G κ ce sl ws pc os (.int x :: st) := by
  obtain ⟨⟨p, l, e, R, s, m, args, below, meth, c⟩, Γ, A, nL, Q, N⟩ := κ
  obtain ⟨hx, hb, hml, hown, hts, hK, hA, hR, hN0, hNM⟩ := C
  intro H locs ls hP hD hS hL
  exact lv_if_le (tgt := tgt) hx hb hd ht (fun q => kt q H locs ls hP hD hS hL) (fun q => kf q H locs ls hP hD hS hL)
theorem gk_icmp_le {x y : Int32} {off : Int} (tgt : Nat) (C : gk_C κ cc own D MC MS) (hd : decode cc pc = .ok (.if_icmp .le off, 3)) (ht : (pc : Int) + off = (tgt : Int)) (kt : x ≤ y → gk_G κ ce sl ws tgt os st) (kf : ¬ x ≤ y → gk_G κ ce sl ws (pc + 3) os st) : gk_G κ ce sl ws pc os (.int y :: .int x :: st) := by
  obtain ⟨⟨p, l, e, R, s, m, args, below, meth, c⟩, Γ, A, nL, Q, N⟩ := κ
  obtain ⟨hx, hb, hml, hown, hts, hK, hA, hR, hN0, hNM⟩ := C
  intro H locs ls hP hD hS hL
  exact lv_icmp_le (tgt := tgt) hx hb hd ht (fun q => kt q H locs ls hP hD hS hL) (fun q => kf q H locs ls hP hD hS hL)
theorem gk_goto {off : Int} (tgt : Nat) (C : gk_C κ cc own D MC MS) (hd : decode cc pc = .ok (.goto off, 3)) (ht : (pc : Int) + off = (tgt : Int)) (k : gk_G κ ce sl ws (tgt) (os) (st)) : gk_G κ ce sl ws pc os (st) := by
  obtain ⟨⟨p, l, e, R, s, m, args, below, meth, c⟩, Γ, A, nL, Q, N⟩ := κ
  obtain ⟨hx, hb, hml, hown, hts, hK, hA, hR, hN0, hNM⟩ := C
  intro H locs ls hP hD hS hL
  exact lv_goto (tgt := tgt) hx hb hd ht (k H locs ls hP hD hS hL)
theorem gk_ifnonnull {x : Nat} {off : Int} (tgt : Nat) (C : gk_C κ cc own D MC MS) (hd : decode cc pc = .ok (.ifnonnull off, 3)) (ht : (pc : Int) + off = (tgt : Int)) (k : gk_G κ ce sl ws (tgt) (os) (st)) : gk_G κ ce sl ws pc os (.ref x :: st) := by
  obtain ⟨⟨p, l, e, R, s, m, args, below, meth, c⟩, Γ, A, nL, Q, N⟩ := κ
  obtain ⟨hx, hb, hml, hown, hts, hK, hA, hR, hN0, hNM⟩ := C
  intro H locs ls hP hD hS hL
  exact lv_ifnonnull (tgt := tgt) hx hb hd ht (k H locs ls hP hD hS hL)
theorem gk_ifnull {x : Nat} {off : Int} (C : gk_C κ cc own D MC MS) (hd : decode cc pc = .ok (.ifnull off, 3)) (k : gk_G κ ce sl ws (pc + 3) (os) (st)) : gk_G κ ce sl ws pc os (.ref x :: st) := by
  obtain ⟨⟨p, l, e, R, s, m, args, below, meth, c⟩, Γ, A, nL, Q, N⟩ := κ
  obtain ⟨hx, hb, hml, hown, hts, hK, hA, hR, hN0, hNM⟩ := C
  intro H locs ls hP hD hS hL
  exact lv_ifnull hx hb hd (k H locs ls hP hD hS hL)
theorem gk_ifnullN {off : Int} (tgt : Nat) (C : gk_C κ cc own D MC MS) (hd : decode cc pc = .ok (.ifnull off, 3)) (ht : (pc : Int) + off = (tgt : Int)) (k : gk_G κ ce sl ws (tgt) (os) (st)) : gk_G κ ce sl ws pc os (.null :: st) := by
  obtain ⟨⟨p, l, e, R, s, m, args, below, meth, c⟩, Γ, A, nL, Q, N⟩ := κ
  obtain ⟨hx, hb, hml, hown, hts, hK, hA, hR, hN0, hNM⟩ := C
  intro H locs ls hP hD hS hL
  exact lv_ifnullN (tgt := tgt) hx hb hd ht (k H locs ls hP hD hS hL)
theorem gk_ifnonnullN {off : Int} (C : gk_C κ cc own D MC MS) (hd : decode cc pc = .ok (.ifnonnull off, 3)) (k : gk_G κ ce sl ws (pc + 3) (os) (st)) : gk_G κ ce sl ws pc os (.null :: st) := by
  obtain ⟨⟨p, l, e, R, s, m, args, below, meth, c⟩, Γ, A, nL, Q, N⟩ := κ
  obtain ⟨hx, hb, hml, hown, hts, hK, hA, hR, hN0, hNM⟩ := C
  intro H locs ls hP hD hS hL
  exact lv_ifnonnullN hx hb hd (k H locs ls hP hD hS hL)
theorem gk_tableOut {dflt lo hi : Int} {offs : Array Int} {len : Nat} {x : Int32} (tgt : Nat) (C : gk_C κ cc own D MC MS) (hd : decode cc pc = .ok (.tableswitch dflt lo hi offs, len)) (h : x.toInt < lo ∨ hi < x.toInt) (ht : (pc : Int) + dflt = (tgt : Int)) (k : gk_G κ ce sl ws (tgt) (os) (st)) : gk_G κ ce sl ws pc os (.int x :: st) := by
  obtain ⟨⟨p, l, e, R, s, m, args, below, meth, c⟩, Γ, A, nL, Q, N⟩ := κ
  obtain ⟨hx, hb, hml, hown, hts, hK, hA, hR, hN0, hNM⟩ := C
  intro H locs ls hP hD hS hL
  exact lv_tableOut (tgt := tgt) hx hb hd h ht (k H locs ls hP hD hS hL)
theorem gk_tableIn {dflt lo hi off : Int} {offs : Array Int} {len : Nat} {x : Int32} (tgt : Nat) (C : gk_C κ cc own D MC MS) (hd : decode cc pc = .ok (.tableswitch dflt lo hi offs, len)) (h1 : ¬ x.toInt < lo) (h2 : ¬ hi < x.toInt) (ho : offs[(x.toInt - lo).toNat]? = some off) (ht : (pc : Int) + off = (tgt : Int)) (k : gk_G κ ce sl ws (tgt) (os) (st)) : gk_G κ ce sl ws pc os (.int x :: st) := by
  obtain ⟨⟨p, l, e, R, s, m, args, below, meth, c⟩, Γ, A, nL, Q, N⟩ := κ
  obtain ⟨hx, hb, hml, hown, hts, hK, hA, hR, hN0, hNM⟩ := C
  intro H locs ls hP hD hS hL
  exact lv_tableIn (tgt := tgt) hx hb hd h1 h2 ho ht (k H locs ls hP hD hS hL)
theorem gk_top {x : Int32} (k : ∀ y : Int32, y = x → gk_G κ ce sl ws pc os (.int y :: st)) : gk_G κ ce sl ws pc os (.int x :: st) := k x rfl
theorem gk_eqv {x y : Int32} (h : x = y) (k : gk_G κ ce sl ws pc os (.int y :: st)) : gk_G κ ce sl ws pc os (.int x :: st) := h ▸ k
theorem gk_eqw {ws' : va_W} (h : ws = ws') (k : gk_G κ ce sl ws' pc os st) : gk_G κ ce sl ws pc os st := h ▸ k
theorem gk_jn1 {x : Value} (E : Int32) (pj : Nat) (kJ : gk_G κ ce sl ws pj os (.int E :: st)) (kB : gk_G κ ce sl ws pj os (.int E :: st) → gk_G κ ce sl ws pc os (x :: st)) : gk_G κ ce sl ws pc os (x :: st) := kB kJ
theorem gk_jn2 {x y : Value} (E : Int32) (pj : Nat) (kJ : gk_G κ ce sl ws pj os (.int E :: st)) (kB : gk_G κ ce sl ws pj os (.int E :: st) → gk_G κ ce sl ws pc os (x :: y :: st)) : gk_G κ ce sl ws pc os (x :: y :: st) := kB kJ
theorem gk_jnO1 {x : Value} (os' : List (Option Value)) (pj : Nat) (kJ : gk_G κ ce sl ws pj os' st) (kB : gk_G κ ce sl ws pj os' st → gk_G κ ce sl ws pc os (x :: st)) : gk_G κ ce sl ws pc os (x :: st) := kB kJ
theorem gk_jnO2 {x y : Value} (os' : List (Option Value)) (pj : Nat) (kJ : gk_G κ ce sl ws pj os' st) (kB : gk_G κ ce sl ws pj os' st → gk_G κ ce sl ws pc os (x :: y :: st)) : gk_G κ ce sl ws pc os (x :: y :: st) := kB kJ
theorem gk_jnW1 {x : Value} (ws' : va_W) (pj : Nat) (kJ : gk_G κ ce sl ws' pj os st) (kB : gk_G κ ce sl ws' pj os st → gk_G κ ce sl ws pc os (x :: st)) : gk_G κ ce sl ws pc os (x :: st) := kB kJ
theorem gk_jnW2 {x y : Value} (ws' : va_W) (pj : Nat) (kJ : gk_G κ ce sl ws' pj os st) (kB : gk_G κ ce sl ws' pj os st → gk_G κ ce sl ws pc os (x :: y :: st)) : gk_G κ ce sl ws pc os (x :: y :: st) := kB kJ
theorem gk_widen {ce' sl' : Nat} (h1 : ce ≤ ce') (h2 : sl ≤ sl') (k : gk_G κ ce' sl' ws pc os st) : gk_G κ ce sl ws pc os st := by
  obtain ⟨⟨p, l, e, R, s, m, args, below, meth, c⟩, Γ, A, nL, Q, N⟩ := κ
  intro H locs ls hP hD hS hL
  exact W.widen h1 h2 (k H locs ls hP hD hS hL)
/-- fewer cells of the world, or in another order: by membership -/
theorem gk_less {ws' : va_W} (hm : ∀ q ∈ ws', q ∈ ws) (hn : (ws.map (fun q => q.1)).Nodup → (ws'.map (fun q => q.1)).Nodup) (k : gk_G κ ce sl ws' pc os st) : gk_G κ ce sl ws pc os st := by
  obtain ⟨⟨p, l, e, R, s, m, args, below, meth, c⟩, Γ, A, nL, Q, N⟩ := κ
  intro H locs ls hP hD hS hL
  rw [gk_Pm] at hP
  rw [gk_Dm] at hD
  exact k H locs ls (gk_Pm.mpr fun q hq => hP q (hm q hq)) (gk_Dm.mpr ⟨hn hD.1, fun q hq => hD.2 q (hm q hq)⟩) hS hL
/-- fewer known locals -/
theorem gk_los {os' : List (Option Value)} (hl : os'.length = os.length) (h : ∀ (i : Nat) (v : Value), os'[i]? = some (some v) → os[i]? = some (some v)) (k : gk_G κ ce sl ws pc os' st) : gk_G κ ce sl ws pc os st := by
  obtain ⟨⟨p, l, e, R, s, m, args, below, meth, c⟩, Γ, A, nL, Q, N⟩ := κ
  intro H locs ls hP hD hS hL
  exact k H locs ls hP hD hS ⟨hL.1, hl.trans hL.2.1, hL.2.2.1, fun i v hi => hL.2.2.2 i v (h i v hi)⟩
/-- the local i is forgotten -/
theorem gk_fg (i : Nat) (k : gk_G κ ce sl ws pc (os.set i none) st) : gk_G κ ce sl ws pc os st := gk_los (by simp) (fun j v hj => by
  by_cases hji : j = i
  · subst hji
    rw [List.getElem?_set] at hj
    simp only [if_true] at hj
    split at hj <;> cases hj
  · rwa [List.getElem?_set_ne (Ne.symm hji)] at hj) k
/-- a world's cells are apart: the fact, at hand -/
theorem gk_nodup (k : (ws.map (fun q => q.1)).Nodup → gk_G κ ce sl ws pc os st) : gk_G κ ce sl ws pc os st := by
  obtain ⟨⟨p, l, e, R, s, m, args, below, meth, c⟩, Γ, A, nL, Q, N⟩ := κ
  intro H locs ls hP hD hS hL
  exact k (gk_Dm.mp hD).1 H locs ls hP hD hS hL
theorem gk_iret {v : Int32} {post : Option Value → va_W → Prop} {mc ms : Nat} (C : gk_C κ cc own D MC MS) (E : gk_End κ (some .int) post mc ms) (hd : decode cc pc = .ok (.ireturn, 1)) (hc : Nat.ble ce mc = true) (hs : Nat.ble sl ms = true)  (hp : post (some (.int v)) ws) : gk_G κ ce sl ws pc os [(.int v)] := by
  obtain ⟨⟨p, l, e, R, s, m, args, below, meth, c⟩, Γ, A, nL, Q, N⟩ := κ
  obtain ⟨hx, hb, hml, hown, hts, hK, hA, hR, hN0, hNM⟩ := C
  obtain ⟨hr, hlocks, rfl⟩ := E
  intro H locs ls hP hD hS hL
  refine W.widen (k := mc) (n := ms) (Nat.le_of_ble_eq_true hc) (Nat.le_of_ble_eq_true hs) ?_
  exact W.iret hx hb hr (fun t ht hW => ⟨⟨_, ws, rfl, hp, by rw [ht]; exact hP, va_K.moved hW.alike hK, hD⟩, hS.F ht⟩) hS.2.2 hd
theorem gk_zret {v : Int32} {post : Option Value → va_W → Prop} {mc ms : Nat} (C : gk_C κ cc own D MC MS) (E : gk_End κ (some .boolean) post mc ms) (hd : decode cc pc = .ok (.ireturn, 1)) (hc : Nat.ble ce mc = true) (hs : Nat.ble sl ms = true) (hn : narrow .boolean (.int v) = .int v) (hp : post (some (.int v)) ws) : gk_G κ ce sl ws pc os [(.int v)] := by
  obtain ⟨⟨p, l, e, R, s, m, args, below, meth, c⟩, Γ, A, nL, Q, N⟩ := κ
  obtain ⟨hx, hb, hml, hown, hts, hK, hA, hR, hN0, hNM⟩ := C
  obtain ⟨hr, hlocks, rfl⟩ := E
  intro H locs ls hP hD hS hL
  refine W.widen (k := mc) (n := ms) (Nat.le_of_ble_eq_true hc) (Nat.le_of_ble_eq_true hs) ?_
  exact W.zret hx hb hr hn (fun t ht hW => ⟨⟨_, ws, rfl, hp, by rw [ht]; exact hP, va_K.moved hW.alike hK, hD⟩, hS.F ht⟩) hS.2.2 hd
theorem gk_lret {v : Int64} {post : Option Value → va_W → Prop} {mc ms : Nat} (C : gk_C κ cc own D MC MS) (E : gk_End κ (some .long) post mc ms) (hd : decode cc pc = .ok (.lreturn, 1)) (hc : Nat.ble ce mc = true) (hs : Nat.ble sl ms = true)  (hp : post (some (.long v)) ws) : gk_G κ ce sl ws pc os [(.long v)] := by
  obtain ⟨⟨p, l, e, R, s, m, args, below, meth, c⟩, Γ, A, nL, Q, N⟩ := κ
  obtain ⟨hx, hb, hml, hown, hts, hK, hA, hR, hN0, hNM⟩ := C
  obtain ⟨hr, hlocks, rfl⟩ := E
  intro H locs ls hP hD hS hL
  refine W.widen (k := mc) (n := ms) (Nat.le_of_ble_eq_true hc) (Nat.le_of_ble_eq_true hs) ?_
  exact W.lret hx hb hr (fun t ht hW => ⟨⟨_, ws, rfl, hp, by rw [ht]; exact hP, va_K.moved hW.alike hK, hD⟩, hS.F ht⟩) hS.2.2 hd
theorem gk_vret  {post : Option Value → va_W → Prop} {mc ms : Nat} (C : gk_C κ cc own D MC MS) (E : gk_End κ none post mc ms) (hd : decode cc pc = .ok (.return_, 1)) (hc : Nat.ble ce mc = true) (hs : Nat.ble sl ms = true)  (hp : post (none) ws) : gk_G κ ce sl ws pc os [] := by
  obtain ⟨⟨p, l, e, R, s, m, args, below, meth, c⟩, Γ, A, nL, Q, N⟩ := κ
  obtain ⟨hx, hb, hml, hown, hts, hK, hA, hR, hN0, hNM⟩ := C
  obtain ⟨hr, hlocks, rfl⟩ := E
  intro H locs ls hP hD hS hL
  refine W.widen (k := mc) (n := ms) (Nat.le_of_ble_eq_true hc) (Nat.le_of_ble_eq_true hs) ?_
  exact W.vret hx hb hr (fun t ht hW => ⟨⟨_, ws, rfl, hp, by rw [ht]; exact hP, va_K.moved hW.alike hK, hD⟩, hS.F ht⟩) hS.2.2 hd
theorem gk_aret {v : Value} {rt : FieldType} {post : Option Value → va_W → Prop} {mc ms : Nat} (C : gk_C κ cc own D MC MS) (E : gk_End κ (some rt) post mc ms) (hd : decode cc pc = .ok (.areturn, 1)) (hc : Nat.ble ce mc = true) (hs : Nat.ble sl ms = true) (hrt : (∃ n, rt = .object n) ∨ ∃ t, rt = .array t) (hv : v = .null ∨ ∃ a, v = .ref a) (hp : post (some (v)) ws) : gk_G κ ce sl ws pc os [(v)] := by
  obtain ⟨⟨p, l, e, R, s, m, args, below, meth, c⟩, Γ, A, nL, Q, N⟩ := κ
  obtain ⟨hx, hb, hml, hown, hts, hK, hA, hR, hN0, hNM⟩ := C
  obtain ⟨hr, hlocks, rfl⟩ := E
  intro H locs ls hP hD hS hL
  refine W.widen (k := mc) (n := ms) (Nat.le_of_ble_eq_true hc) (Nat.le_of_ble_eq_true hs) ?_
  exact W.aret hx hb hr hrt hv (fun t ht hW => ⟨⟨_, ws, rfl, hp, by rw [ht]; exact hP, va_K.moved hW.alike hK, hD⟩, hS.F ht⟩) hS.2.2 hd
theorem gk_get {ref Cn : String} {T : u_T} {n ci index a : Nat} {fs : List Value} {v : Value} (C : gk_C κ cc own D MC MS) (hin : ∀ w ∈ u_ws Cn T n, w ∈ lw_all) (q0 : Nat) (he : ws[q0]? = some (a, .inr (ci, fs))) (hc : vwCl[ci]? = some (Cn, T, n)) (k : Nat) (hk : k < n) (hlink : Cond.fieldLink own index ref (T k).2.1 (T k).2.2.1 ∈ lw_all) (href : ref = (T k).1) (hv : fs[k]? = some v) (hd : decode cc pc = .ok (.getfield index, 3)) (kk : gk_G κ ce sl ws (pc + 3) os (v :: st)) : gk_G κ ce sl ws pc os (.ref a :: st) := by
  obtain ⟨⟨p, l, e, R, s, m, args, below, meth, c⟩, Γ, A, nL, Q, N⟩ := κ
  obtain ⟨hx, hb, hml, hown, hts, hK, hA, hR, hN0, hNM⟩ := C
  intro H locs ls hP hD hS hL
  subst href
  exact va_get (ci := ci) (fs := fs) hx hb hts hin hown hK hP q0 he hc k hk (hts _ hlink) (fun _ h => h) hv hd (kk H locs ls hP hD hS hL)
theorem gk_put {ref Cn : String} {T : u_T} {n ci index a : Nat} {fs : List Value} {v : Value} {ty : FieldType} (C : gk_C κ cc own D MC MS) (hin : ∀ w ∈ u_ws Cn T n, w ∈ lw_all) (ty0 : Nat → FieldType) (hty : ∀ k, k < n → parseFieldDescriptor (T k).2.2.1 = some (ty0 k)) (hnm : ∀ a, a < n → ∀ b, b < n → a ≠ b → (T a).2.1 ≠ (T b).2.1) (q0 : Nat) (he : ws[q0]? = some (a, .inr (ci, fs))) (hc : vwCl[ci]? = some (Cn, T, n)) (k : Nat) (hk : k < n) (hlink : Cond.fieldLink own index ref (T k).2.1 (T k).2.2.1 ∈ lw_all) (href : ref = (T k).1) (hfin : (T k).2.2.2 = false) (hdt : parseFieldDescriptor (T k).2.2.1 = some ty) (hn : narrow ty v = v) (hfit : fits ty v = true) (hl : k < fs.length) (hd : decode cc pc = .ok (.putfield index, 3)) (kk : gk_G κ ce sl (ws.set q0 (a, .inr (ci, fs.set k v))) (pc + 3) os st) : gk_G κ ce sl ws pc os (v :: .ref a :: st) := by
  obtain ⟨⟨p, l, e, R, s, m, args, below, meth, c⟩, Γ, A, nL, Q, N⟩ := κ
  obtain ⟨hx, hb, hml, hown, hts, hK, hA, hR, hN0, hNM⟩ := C
  intro H locs ls hP hD hS hL
  subst href
  exact va_put (ci := ci) (fs := fs) hx hb hts hin ty0 hty hnm hown hK hP hD hS q0 he hc k hk (hts _ hlink) (fun _ h => h) hfin hdt hn hfit hl hd (fun H1 locs1 hP1 hD1 hS1 => kk H1 locs1 ls hP1 hD1 hS1 hL)
theorem gk_putF {ref Cn : String} {T : u_T} {n ci index a : Nat} {fs : List Value} {v : Value} {ty : FieldType} (C : gk_C κ cc own D MC MS) (hin : ∀ w ∈ u_ws Cn T n, w ∈ lw_all) (ty0 : Nat → FieldType) (hty : ∀ k, k < n → parseFieldDescriptor (T k).2.2.1 = some (ty0 k)) (hnm : ∀ a, a < n → ∀ b, b < n → a ≠ b → (T a).2.1 ≠ (T b).2.1) (hin2 : κ.1.2.2.2.2.2.2.2.2.1.name = "<init>") (q0 : Nat) (he : ws[q0]? = some (a, .inr (ci, fs))) (hc : vwCl[ci]? = some (Cn, T, n)) (k : Nat) (hk : k < n) (hlink : Cond.fieldLink own index ref (T k).2.1 (T k).2.2.1 ∈ lw_all) (href : ref = (T k).1) (hdecl : (T k).1 = own) (hfin : (T k).2.2.2 = true) (hdt : parseFieldDescriptor (T k).2.2.1 = some ty) (hn : narrow ty v = v) (hfit : fits ty v = true) (hl : k < fs.length) (hd : decode cc pc = .ok (.putfield index, 3)) (kk : gk_G κ ce sl (ws.set q0 (a, .inr (ci, fs.set k v))) (pc + 3) os st) : gk_G κ ce sl ws pc os (v :: .ref a :: st) := by
  obtain ⟨⟨p, l, e, R, s, m, args, below, meth, c⟩, Γ, A, nL, Q, N⟩ := κ
  obtain ⟨hx, hb, hml, hown, hts, hK, hA, hR, hN0, hNM⟩ := C
  intro H locs ls hP hD hS hL
  subst href
  exact va_putF (ci := ci) (fs := fs) hx hb hts hin ty0 hty hnm hown hK hP hD hS q0 he hc k hk (hts _ hlink) (fun _ h => h) hfin hin2 hdecl hdt hn hfit hl hd (fun H1 locs1 hP1 hD1 hS1 => kk H1 locs1 ls hP1 hD1 hS1 hL)
theorem gk_ixin {i : Int32} {j n : Nat} (hi : i = nI j) (hj : j < n) (hn : Nat.blt n 1000000 = true) : vp_in i n ∧ i.toNatClampNeg = j := by
  have h1 := gk_blt hn
  rw [hi]
  exact ⟨vp_in_nI hj (by omega), nI_clamp (by omega)⟩
theorem gk_iald {a n : Nat} {cA : ClassId} {f : Nat → Int32} {i : Int32} (C : gk_C κ cc own D MC MS) (q0 : Nat) (he : ws[q0]? = some (a, .inl (cA, n, .inl f))) (hc : cA = (gk_g κ).2 0) (j : Nat) (hi : i = nI j) (hj : j < n) (hn : Nat.blt n 1000000 = true) (hd : decode cc pc = .ok (.iaload, 1)) (kk : gk_G κ ce sl ws (pc + 1) os (.int (f j) :: st)) : gk_G κ ce sl ws pc os (.int i :: .ref a :: st) := by
  obtain ⟨⟨p, l, e, R, s, m, args, below, meth, c⟩, Γ, A, nL, Q, N⟩ := κ
  obtain ⟨hx, hb, hml, hown, hts, hK, hA, hR, hN0, hNM⟩ := C
  obtain ⟨h1, rfl⟩ := gk_ixin hi hj hn
  intro H locs ls hP hD hS hL
  subst hc
  exact va_iald hx hb hK hP q0 0 he rfl h1 hd (kk H locs ls hP hD hS hL)
theorem gk_bald {a n : Nat} {cA : ClassId} {f : Nat → Int32} {i : Int32} (C : gk_C κ cc own D MC MS) (q0 : Nat) (he : ws[q0]? = some (a, .inl (cA, n, .inl f))) (hc : cA = (gk_g κ).2 1) (j : Nat) (hi : i = nI j) (hj : j < n) (hn : Nat.blt n 1000000 = true) (hd : decode cc pc = .ok (.baload, 1)) (kk : gk_G κ ce sl ws (pc + 1) os (.int (f j) :: st)) : gk_G κ ce sl ws pc os (.int i :: .ref a :: st) := by
  obtain ⟨⟨p, l, e, R, s, m, args, below, meth, c⟩, Γ, A, nL, Q, N⟩ := κ
  obtain ⟨hx, hb, hml, hown, hts, hK, hA, hR, hN0, hNM⟩ := C
  obtain ⟨h1, rfl⟩ := gk_ixin hi hj hn
  intro H locs ls hP hD hS hL
  subst hc
  exact va_bald hx hb hK hP q0 1 he rfl h1 hd (kk H locs ls hP hD hS hL)
theorem gk_sald {a n : Nat} {cA : ClassId} {f : Nat → Int32} {i : Int32} (C : gk_C κ cc own D MC MS) (q0 : Nat) (he : ws[q0]? = some (a, .inl (cA, n, .inl f))) (hc : cA = (gk_g κ).2 2) (j : Nat) (hi : i = nI j) (hj : j < n) (hn : Nat.blt n 1000000 = true) (hd : decode cc pc = .ok (.saload, 1)) (kk : gk_G κ ce sl ws (pc + 1) os (.int (f j) :: st)) : gk_G κ ce sl ws pc os (.int i :: .ref a :: st) := by
  obtain ⟨⟨p, l, e, R, s, m, args, below, meth, c⟩, Γ, A, nL, Q, N⟩ := κ
  obtain ⟨hx, hb, hml, hown, hts, hK, hA, hR, hN0, hNM⟩ := C
  obtain ⟨h1, rfl⟩ := gk_ixin hi hj hn
  intro H locs ls hP hD hS hL
  subst hc
  exact va_sald hx hb hK hP q0 2 he rfl h1 hd (kk H locs ls hP hD hS hL)
theorem gk_iast {a n : Nat} {cA : ClassId} {f : Nat → Int32} {i x : Int32} (C : gk_C κ cc own D MC MS) (q0 : Nat) (he : ws[q0]? = some (a, .inl (cA, n, .inl f))) (hc : cA = (gk_g κ).2 0) (j : Nat) (hi : i = nI j) (hj : j < n) (hn : Nat.blt n 1000000 = true) (hd : decode cc pc = .ok (.iastore, 1)) (kk : gk_G κ ce sl (ws.set q0 (a, .inl (cA, n, .inl (upd f j x)))) (pc + 1) os st) : gk_G κ ce sl ws pc os (.int x :: .int i :: .ref a :: st) := by
  obtain ⟨⟨p, l, e, R, s, m, args, below, meth, c⟩, Γ, A, nL, Q, N⟩ := κ
  obtain ⟨hx, hb, hml, hown, hts, hK, hA, hR, hN0, hNM⟩ := C
  obtain ⟨h1, rfl⟩ := gk_ixin hi hj hn
  intro H locs ls hP hD hS hL
  subst hc
  exact va_iast hx hb hK hP hD hS q0 0 he rfl h1 hd (fun H1 locs1 hP1 hD1 hS1 => kk H1 locs1 ls hP1 hD1 hS1 hL)
theorem gk_bast {a n : Nat} {cA : ClassId} {f : Nat → Int32} {i x : Int32} (C : gk_C κ cc own D MC MS) (q0 : Nat) (he : ws[q0]? = some (a, .inl (cA, n, .inl f))) (hc : cA = (gk_g κ).2 1) (j : Nat) (hi : i = nI j) (hj : j < n) (hn : Nat.blt n 1000000 = true) (hd : decode cc pc = .ok (.bastore, 1)) (kk : gk_G κ ce sl (ws.set q0 (a, .inl (cA, n, .inl (upd f j (vp_nar .byte x))))) (pc + 1) os st) : gk_G κ ce sl ws pc os (.int x :: .int i :: .ref a :: st) := by
  obtain ⟨⟨p, l, e, R, s, m, args, below, meth, c⟩, Γ, A, nL, Q, N⟩ := κ
  obtain ⟨hx, hb, hml, hown, hts, hK, hA, hR, hN0, hNM⟩ := C
  obtain ⟨h1, rfl⟩ := gk_ixin hi hj hn
  intro H locs ls hP hD hS hL
  subst hc
  exact va_bast hx hb hK hP hD hS q0 1 he rfl h1 hd (fun H1 locs1 hP1 hD1 hS1 => kk H1 locs1 ls hP1 hD1 hS1 hL)
theorem gk_sast {a n : Nat} {cA : ClassId} {f : Nat → Int32} {i x : Int32} (C : gk_C κ cc own D MC MS) (q0 : Nat) (he : ws[q0]? = some (a, .inl (cA, n, .inl f))) (hc : cA = (gk_g κ).2 2) (j : Nat) (hi : i = nI j) (hj : j < n) (hn : Nat.blt n 1000000 = true) (hd : decode cc pc = .ok (.sastore, 1)) (kk : gk_G κ ce sl (ws.set q0 (a, .inl (cA, n, .inl (upd f j (vp_nar .short x))))) (pc + 1) os st) : gk_G κ ce sl ws pc os (.int x :: .int i :: .ref a :: st) := by
  obtain ⟨⟨p, l, e, R, s, m, args, below, meth, c⟩, Γ, A, nL, Q, N⟩ := κ
  obtain ⟨hx, hb, hml, hown, hts, hK, hA, hR, hN0, hNM⟩ := C
  obtain ⟨h1, rfl⟩ := gk_ixin hi hj hn
  intro H locs ls hP hD hS hL
  subst hc
  exact va_sast hx hb hK hP hD hS q0 2 he rfl h1 hd (fun H1 locs1 hP1 hD1 hS1 => kk H1 locs1 ls hP1 hD1 hS1 hL)
theorem gk_alen {a : Nat} {cA : ClassId} {x : vp_A} {ty : FieldType} (v : Int32) (C : gk_C κ cc own D MC MS) (q0 t0 : Nat) (he : ws[q0]? = some (a, .inl (cA, x))) (ht : (gk_T (gk_g κ))[t0]? = some (cA, ty)) (hv : nI x.1 = v) (hd : decode cc pc = .ok (.arraylength, 1)) (kk : gk_G κ ce sl ws (pc + 1) os (.int v :: st)) : gk_G κ ce sl ws pc os (.ref a :: st) := by
  obtain ⟨⟨p, l, e, R, s, m, args, below, meth, c⟩, Γ, A, nL, Q, N⟩ := κ
  obtain ⟨hx, hb, hml, hown, hts, hK, hA, hR, hN0, hNM⟩ := C
  intro H locs ls hP hD hS hL
  exact va_alen hx hb hK hP q0 t0 he ht hv hd (kk H locs ls hP hD hS hL)
theorem gk_objInit {idx a : Nat} (C : gk_C κ cc own D MC MS) (h1 : Cond.methodLink own idx objectInit ∈ lw_all) (h2 : Cond.instanceMethod objectInit ∈ lw_all) (h3 : Cond.code objectInit ⟨#[0xb1]⟩ 1 none ∈ lw_all) (hst : Nat.ble (st.map fun v => v.category).sum 8 = true) (hd : decode cc pc = .ok (.invokespecial idx, 3)) (kk : gk_G κ ce sl ws (pc + 3) os st) : gk_G κ ce sl ws pc os (.ref a :: st) := by
  obtain ⟨⟨p, l, e, R, s, m, args, below, meth, c⟩, Γ, A, nL, Q, N⟩ := κ
  obtain ⟨hx, hb, hml, hown, hts, hK, hA, hR, hN0, hNM⟩ := C
  intro H locs ls hP hD hS hL
  have h8 := Nat.le_of_ble_eq_true hst
  exact W.objInit hx hb hown (hts _ h1) (hts _ h2) (hts _ h3) rfl (by rw [hml]; exact hL.1) rfl hd (by have := hR.1; omega) (by have := hR.2.1; show 2 * 0 + _ + _ ≤ _; omega) (kk H locs ls hP hD hS hL)
/-- an object of the world, by its class's name -/
def gk_rc (Cn : String) (b : Nat) (ws : va_W) : Prop := ∃ (q ci : Nat) (fs : List Value) (T : u_T) (n : Nat), ws[q]? = some (b, .inr (ci, fs)) ∧ vwCl[ci]? = some (Cn, T, n)
def gk_okn (y : MethodName) (n : Nat) : Prop := y.cls ≠ "java/lang/invoke/MethodHandle" ∧ y.cls ≠ "java/lang/invoke/VarHandle" ∧ (parseMethodDescriptor y.desc).map (fun d => d.parameters.length) = some n
def gk_cv (own : String) (idx : Nat) (y : MethodName) (code : ByteArray) (nLy : Nat) (ret : Option FieldType) (n : Nat) : Prop := GoodIn lw_all (wsV own idx y.cls y (ws_ y code nLy ret)) ∧ gk_okn y n ∧ Nat.ble nLy 45 = true
def gk_cs (own : String) (idx : Nat) (y : MethodName) (code : ByteArray) (nLy : Nat) (ret : Option FieldType) (n : Nat) : Prop := GoodIn lw_all (va_wsS own idx y (ws_ y code nLy ret)) ∧ gk_okn y n ∧ Nat.ble nLy 45 = true
end GK
section GKC
variable {p : Program} {l : Launch} {e : Env} {R : Room} {s : State} {m : MethodId} {args : Array Value} {below : List Frame} {meth : Method} {c : Code} {H : Heap} {locs : List Loc} {cells slots : Nat} {Q : State → Prop}
variable {pc : Nat} {ls : Array Slot} {rest st0 : List Value} {a : Array Value} {A0 A1 : Nat → Prop} {H0 : Heap} {mc ms : Nat} {free : Addr → Prop} {Γ : gk_E} {post : Option Value → va_W → Prop}
theorem gk_after (hr : va_Run p l e R s m args below meth c H locs cells slots mc ms (F0 m pc ls st0) rest (gk_Q Γ post A1 a) free) (hS : va_S A0 H0 H locs) (hA : ∀ q, q < H.size → A1 q → A0 q) (hf : ∀ q, free q → A0 q)
    (kk : ∀ (r : Option Value) (ws : va_W) (H1 : Heap) (locs1 : List Loc), post r ws → va_P Γ.1 vwCl ws H1 → va_D A1 ws → (∀ q : Nat, q < H.size → ¬ A1 q → H1[q]? = H[q]?) → va_S A0 H0 H1 locs1 → W p l e R s m args below meth c H1 locs1 (cells + mc) (slots + ms) Q (F0 m (pc + 3) ls (r.toList ++ rest))) : W p l e R s m args below meth c H locs cells slots Q (F0 m pc ls st0) := by
  intro T hT X
  obtain ⟨v, st₀, t, T', L, h0, X', hL, e1, e2, ⟨⟨r, ws, hv, hp, hP1, hK1, hD1⟩, hz, hk⟩, st⟩ := hr T hT X
  cases hv
  rw [h0] at hz hk
  obtain ⟨t2, a1, b1⟩ := kk v ws T'.heap (locs ++ L) hp (by rw [e1]; exact hP1) hD1 (fun q h1 h2 => by rw [e1]; exact hk q h1 h2)
    ⟨Nat.le_trans hS.1 (by rw [e1]; exact hz), fun q h1 h2 => by rw [e1, hk q (Nat.lt_of_lt_of_le h1 hS.1) (fun z => h2 (hA q (Nat.lt_of_lt_of_le h1 hS.1) z))]; exact hS.2.1 q h1 h2, fun q hq => by
      rcases List.mem_append.mp hq with h | h
      · exact hS.2.2 q h
      · exact hf _ (hL q h)⟩ T' rfl X'
  exact ⟨t2, st t2 a1, b1⟩
theorem gk_after5 (hr : va_Run5 p l e R s m args below meth c H locs cells slots mc ms (F0 m pc ls st0) rest (gk_Q Γ post A1 a) free) (hS : va_S A0 H0 H locs) (hA : ∀ q, q < H.size → A1 q → A0 q) (hf : ∀ q, free q → A0 q)
    (kk : ∀ (r : Option Value) (ws : va_W) (H1 : Heap) (locs1 : List Loc), post r ws → va_P Γ.1 vwCl ws H1 → va_D A1 ws → (∀ q : Nat, q < H.size → ¬ A1 q → H1[q]? = H[q]?) → va_S A0 H0 H1 locs1 → W p l e R s m args below meth c H1 locs1 (cells + mc) (slots + ms) Q (F0 m (pc + 5) ls (r.toList ++ rest))) : W p l e R s m args below meth c H locs cells slots Q (F0 m pc ls st0) := by
  intro T hT X
  obtain ⟨v, st₀, t, T', L, h0, X', hL, e1, e2, ⟨⟨r, ws, hv, hp, hP1, hK1, hD1⟩, hz, hk⟩, st⟩ := hr T hT X
  cases hv
  rw [h0] at hz hk
  obtain ⟨t2, a1, b1⟩ := kk v ws T'.heap (locs ++ L) hp (by rw [e1]; exact hP1) hD1 (fun q h1 h2 => by rw [e1]; exact hk q h1 h2)
    ⟨Nat.le_trans hS.1 (by rw [e1]; exact hz), fun q h1 h2 => by rw [e1, hk q (Nat.lt_of_lt_of_le h1 hS.1) (fun z => h2 (hA q (Nat.lt_of_lt_of_le h1 hS.1) z))]; exact hS.2.1 q h1 h2, fun q hq => by
      rcases List.mem_append.mp hq with h | h
      · exact hS.2.2 q h
      · exact hf _ (hL q h)⟩ T' rfl X'
  exact ⟨t2, st t2 a1, b1⟩
end GKC
theorem gk_blind {N : gk_N} (hN : gk_NM N) {av : List Value} {Γ : gk_E} {w0 : va_W} {sz : Nat} : FrameBlind (va_Pc av (gk_Pre N Γ w0 sz)) := by
  intro a U g mk q
  obtain ⟨q0, q1, q2, q3, q4, q5⟩ := q
  exact ⟨q0, q1, q2, va_K.moved (u := U) (U := U.calling g mk a) (Vm.Alike.refl _) q3, q4, hN.1 _ U (U.calling g mk a) _ (State.WarmedH.refl U) q5⟩
theorem gk_preat {N : gk_N} (hN : gk_NM N) {A : Nat → Prop} {Γ : gk_E} {w1 wc w2 : va_W} {s U : State} {H : Heap} {locs : List Loc} (hP : va_P Γ.1 vwCl (w1 ++ (wc ++ w2)) H) (hD : va_D A (w1 ++ (wc ++ w2))) (hS : va_S A s.heap H locs) (hK : va_K Γ.1 vwCl (gk_T Γ) s) (hA : ∀ q, s.heap.size ≤ q → A q) (hN0 : N A s s.heap) (hU : U.heap = H) (hW : s.WarmedH U.vm) : gk_Pre N Γ wc H.size U := by
  subst hU
  refine ⟨rfl, gk_subP hP, va_K.moved hW.alike hK, gk_sub hD, ?_⟩
  refine hN.2.2 A _ U U.heap (fun q _ h => gk_free hD hS hA q h) ?_
  exact hN.1 A s U _ hW (hN.2.1 A s s.heap U.heap hS.1 hS.2.1 hN0)
section GKD
variable {κ : gk_K} {cc code : ByteArray} {own : String} {D MC MS ce sl pc idx nLy d mc ms b : Nat} {w1 wc w2 : va_W} {os : List (Option Value)} {st As : List Value} {y : MethodName} {ret : Option FieldType} {post : Option Value → va_W → Prop}
/-- a call through an object -/
theorem gk_cV (C : gk_C κ cc own D MC MS) (hM : gk_M (gk_n κ) (gk_l κ) y (Cond.code y code nLy ret) d mc ms (.ref b :: As) (gk_g κ) wc post) (hcv : gk_cv own idx y code nLy ret As.length) (hdD : Nat.blt d D = true) (hmc : ce + mc ≤ MC) (hms : sl + ms ≤ MS) (hrc : gk_rc y.cls b (w1 ++ (wc ++ w2))) (hst : Nat.ble (st.map fun v => v.category).sum 8 = true) (hd : decode cc pc = .ok (.invokevirtual idx, 3))
    (kk : ∀ (r : Option Value) (wn : va_W), post r wn → gk_G κ (ce + mc) (sl + ms) (w1 ++ (wn ++ w2)) (pc + 3) os (r.toList ++ st)) : gk_G κ ce sl (w1 ++ (wc ++ w2)) pc os (As.reverse ++ .ref b :: st) := by
  obtain ⟨⟨p, l, e, R, s, m, args, below, meth, c⟩, Γ, A, nL, Q, N⟩ := κ
  obtain ⟨hx, hb, hml, hown, hts, hK, hA, hR, hN0, hNM⟩ := C
  obtain ⟨hw, hy, hnL⟩ := hcv
  have hdD := gk_blt hdD
  have hnL := Nat.le_of_ble_eq_true hnL
  obtain ⟨r1, r2, r3, r4⟩ := hR
  intro H locs ls hP hD hS hL
  have hFc := gk_free hD hS hA
  obtain ⟨q, ci, fs, T, n, e1, e2⟩ := hrc
  refine gk_after (va_runV (As := As) (rest := st) ⟨hx, hb, hml, hown, hts⟩ (hM H.size) (cwV As.length hts hw rfl rfl rfl ⟨rfl, hy⟩ ⟨by show d + 24 + 1 ≤ _; omega, by show 8 + (nLy + 11) + (64 * d + 12000) ≤ _; omega⟩) ⟨gk_blind hNM, va_recv hK hP e2 e1, fun U hU hW => ⟨rfl, gk_preat hNM hP hD hS hK hA hN0 hU hW⟩⟩ rfl rfl hL.1 rfl (lv_room (Nat.le_of_ble_eq_true hst)) hd ⟨by omega, by omega⟩) hS (fun q _ h => hFc q h) hFc ?_
  intro r wn H1 locs1 hp hP1 hD1 hk1 hS1
  obtain ⟨hP2, hD2⟩ := gk_join hP hD hk1 hFc hP1 hD1
  exact kk r wn hp H1 locs1 ls hP2 hD2 hS1 hL
/-- a static call -/
theorem gk_cS (C : gk_C κ cc own D MC MS) (hM : gk_M (gk_n κ) (gk_l κ) y (Cond.code y code nLy ret) d mc ms As (gk_g κ) wc post) (hcv : gk_cs own idx y code nLy ret As.length) (hdD : Nat.blt d D = true) (hmc : ce + mc ≤ MC) (hms : sl + ms ≤ MS) (hst : Nat.ble (st.map fun v => v.category).sum 8 = true) (hd : decode cc pc = .ok (.invokestatic idx, 3))
    (kk : ∀ (r : Option Value) (wn : va_W), post r wn → gk_G κ (ce + mc) (sl + ms) (w1 ++ (wn ++ w2)) (pc + 3) os (r.toList ++ st)) : gk_G κ ce sl (w1 ++ (wc ++ w2)) pc os (As.reverse ++ st) := by
  obtain ⟨⟨p, l, e, R, s, m, args, below, meth, c⟩, Γ, A, nL, Q, N⟩ := κ
  obtain ⟨hx, hb, hml, hown, hts, hK, hA, hR, hN0, hNM⟩ := C
  obtain ⟨hw, hy, hnL⟩ := hcv
  have hdD := gk_blt hdD
  have hnL := Nat.le_of_ble_eq_true hnL
  obtain ⟨r1, r2, r3, r4⟩ := hR
  intro H locs ls hP hD hS hL
  have hFc := gk_free hD hS hA
  refine gk_after (va_runS (As := As) (rest := st) ⟨hx, hb, hml, hown, hts⟩ (hM H.size) (va_cwS As.length hts hw rfl rfl rfl hy ⟨by show d + 24 + 1 ≤ _; omega, by show 8 + (nLy + 11) + (64 * d + 12000) ≤ _; omega⟩) ⟨gk_blind hNM, fun U hU hW => ⟨rfl, gk_preat hNM hP hD hS hK hA hN0 hU hW⟩⟩ rfl rfl hL.1 rfl (lv_room (Nat.le_of_ble_eq_true hst)) hd ⟨by omega, by omega⟩) hS (fun q _ h => hFc q h) hFc ?_
  intro r wn H1 locs1 hp hP1 hD1 hk1 hS1
  obtain ⟨hP2, hD2⟩ := gk_join hP hD hk1 hFc hP1 hD1
  exact kk r wn hp H1 locs1 ls hP2 hD2 hS1 hL
/-- a constructor's call -/
theorem gk_cI (C : gk_C κ cc own D MC MS) (hM : gk_M (gk_n κ) (gk_l κ) y (Cond.code y code nLy none) d mc ms (.ref b :: As) (gk_g κ) wc post) (hyn : y.name = "<init>") (hcw : Cond.code y code nLy none ∈ lw_all) (hini : Cond.initialized y.cls ∈ lw_all) (hlk : Cond.methodLink own idx y ∈ lw_all) (hinst : Cond.instanceMethod y ∈ lw_all) (hy : gk_okn y As.length) (hdD : Nat.blt d D = true) (hnL : Nat.ble nLy 45 = true) (hmc : ce + mc ≤ MC) (hms : sl + ms ≤ MS) (hst : Nat.ble (st.map fun v => v.category).sum 8 = true) (hd : decode cc pc = .ok (.invokespecial idx, 3))
    (kk : ∀ (r : Option Value) (wn : va_W), post r wn → gk_G κ (ce + mc) (sl + ms) (w1 ++ (wn ++ w2)) (pc + 3) os (r.toList ++ st)) : gk_G κ ce sl (w1 ++ (wc ++ w2)) pc os (As.reverse ++ .ref b :: st) := by
  obtain ⟨⟨p, l, e, R, s, m, args, below, meth, c⟩, Γ, A, nL, Q, N⟩ := κ
  obtain ⟨hx, hb, hml, hown, hts, hK, hA, hR, hN0, hNM⟩ := C
  have hdD := gk_blt hdD
  have hnL := Nat.le_of_ble_eq_true hnL
  obtain ⟨r1, r2, r3, r4⟩ := hR
  intro H locs ls hP hD hS hL
  have hFc := gk_free hD hS hA
  refine gk_after (va_runI (As := As) (rest := st) ⟨hx, hb, hml, hown, hts⟩ (hM H.size) (cwI As.length hts (lw_meth hcw) rfl rfl rfl (hts _ hini) (hts _ hlk) (hts _ hinst) hyn hy ⟨by show d + 24 + 1 ≤ _; omega, by show 8 + (nLy + 11) + (64 * d + 12000) ≤ _; omega⟩) ⟨gk_blind hNM, fun U hU hW => ⟨rfl, gk_preat hNM hP hD hS hK hA hN0 hU hW⟩⟩ rfl rfl hL.1 rfl (lv_room (Nat.le_of_ble_eq_true hst)) hd ⟨by omega, by omega⟩) hS (fun q _ h => hFc q h) hFc ?_
  intro r wn H1 locs1 hp hP1 hD1 hk1 hS1
  obtain ⟨hP2, hD2⟩ := gk_join hP hD hk1 hFc hP1 hD1
  exact kk r wn hp H1 locs1 ls hP2 hD2 hS1 hL
end GKD
/-- A STATIC METHOD THAT TOUCHES NO CELL: its answer is v -/
def gk_P (l : Launch) (y : MethodName) (cw : Cond) (d : Nat) (av : List Value) (v : Value) : Prop := ∀ Γ : gk_E, gk_M gk_N0 l y cw d 0 0 av Γ [] (fun r ws => r = some v ∧ ws = [])
section GKP
variable {κ : gk_K} {cc code : ByteArray} {own : String} {D MC MS ce sl pc idx nLy d : Nat} {ws : va_W} {os : List (Option Value)} {st As : List Value} {y : MethodName} {ret : Option FieldType} {v : Value}
theorem gk_cP (As : List Value) (C : gk_C κ cc own D MC MS) (hM : gk_P (gk_l κ) y (Cond.code y code nLy ret) d As v) (hcv : gk_cs own idx y code nLy ret As.length) (hdD : Nat.blt d D = true) (hmc : ce ≤ MC) (hms : sl ≤ MS) (hst : Nat.ble (st.map fun v => v.category).sum 8 = true) (hd : decode cc pc = .ok (.invokestatic idx, 3))
    (kk : gk_G κ ce sl ws (pc + 3) os (v :: st)) : gk_G κ ce sl ws pc os (As.reverse ++ st) := by
  have h := gk_cS (w1 := []) (w2 := ws) (wc := []) (As := As) (ce := ce) (sl := sl) (st := st) (os := os) (pc := pc) C (gk_M.up0 (hM (gk_g κ))) hcv hdD hmc hms hst hd
  exact h (fun r wn hp => by obtain ⟨rfl, rfl⟩ := hp; exact kk)
end GKP
