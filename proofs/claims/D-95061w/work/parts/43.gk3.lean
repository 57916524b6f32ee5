set_option maxRecDepth 100000
/-! WHAT IS CARRIED OF THE TABLES, beside lw_all -/
def xFL : List (String × MethodName × MethodName) := [("java/util/ArrayList", ⟨"java/util/List", "clear", "()V"⟩, ⟨"java/util/ArrayList", "clear", "()V"⟩), ("java/util/ArrayList", ⟨"java/util/List", "add", "(Ljava/lang/Object;)Z"⟩, ⟨"java/util/ArrayList", "add", "(Ljava/lang/Object;)Z"⟩), ("java/util/ArrayList", ⟨"java/util/List", "size", "()I"⟩, ⟨"java/util/ArrayList", "size", "()I"⟩), ("java/util/ArrayList", ⟨"java/util/List", "get", "(I)Ljava/lang/Object;"⟩, ⟨"java/util/ArrayList", "get", "(I)Ljava/lang/Object;"⟩), ("java/util/ArrayList", ⟨"java/util/List", "isEmpty", "()Z"⟩, ⟨"java/util/ArrayList", "isEmpty", "()Z"⟩), ("SawLine$Tooth", ⟨"SawLine$Jointed", "joint", "()I"⟩, ⟨"SawLine$Jointed", "joint", "()I"⟩), ("SawLine$Bent", ⟨"SawLine$Jointed", "joint", "()I"⟩, ⟨"SawLine$Jointed", "joint", "()I"⟩), ("SawLine$Hooked", ⟨"SawLine$Jointed", "joint", "()I"⟩, ⟨"SawLine$Hooked", "joint", "()I"⟩), ("SawLine$Tooth", ⟨"SawLine$Jointed", "usual", "()I"⟩, ⟨"SawLine$Tooth", "usual", "()I"⟩), ("SawLine$Bent", ⟨"SawLine$Jointed", "usual", "()I"⟩, ⟨"SawLine$Tooth", "usual", "()I"⟩)]
def xNL : List Cond := [Jvm.Cond.methodLinkNest "SawLine" (410 : Nat) ({ cls := "SawLine$Place", name := "<init>", desc := "()V" } : Jvm.MethodName) "SawLine", Jvm.Cond.fieldLinkNest "SawLine" (155 : Nat) "SawLine$Place" "has" "Ljava/lang/Object;" "SawLine", Jvm.Cond.fieldLinkNest "SawLine" (201 : Nat) "SawLine$Tooth" "is" "[I" "SawLine", Jvm.Cond.methodLinkNest "SawLine$Tooth" (28 : Nat) ({ cls := "SawLine", name := "begins", desc := "(I)V" } : Jvm.MethodName) "SawLine", Jvm.Cond.methodLinkNest "SawLine$Bent" (24 : Nat) ({ cls := "SawLine", name := "begins", desc := "(I)V" } : Jvm.MethodName) "SawLine", Jvm.Cond.methodLinkNest "SawLine$Hooked" (17 : Nat) ({ cls := "SawLine", name := "begins", desc := "(I)V" } : Jvm.MethodName) "SawLine"]
def xCL : List (String × String) := [("java/lang/ArrayIndexOutOfBoundsException", "java/lang/ArrayIndexOutOfBoundsException"), ("java/lang/ArrayIndexOutOfBoundsException", "java/lang/IndexOutOfBoundsException"), ("java/lang/ArrayIndexOutOfBoundsException", "java/lang/Object"), ("java/lang/ArrayStoreException", "java/lang/ArrayStoreException"), ("java/lang/ArrayStoreException", "java/lang/Object"), ("java/util/ArrayList", "java/util/List"), ("java/util/ArrayList", "java/lang/Object"), ("java/lang/Throwable", "java/lang/Object"), ("java/lang/RuntimeException", "java/lang/Throwable"), ("java/lang/ClassCastException", "java/lang/ClassCastException"), ("java/lang/ClassCastException", "java/lang/Object"), ("java/lang/String", "java/lang/Object"), ("java/lang/NullPointerException", "java/lang/NullPointerException"), ("java/lang/NullPointerException", "java/lang/Object"), ("java/lang/NegativeArraySizeException", "java/lang/NegativeArraySizeException"), ("java/lang/NegativeArraySizeException", "java/lang/Object"), ("SawLine", "java/lang/Object"), ("SawLine$Place", "java/lang/Object"), ("SawLineModel", "java/lang/Object"), ("SawLine$Tooth", "SawLine$Jointed"), ("SawLine$Tooth", "java/lang/Object"), ("SawLine$Bent", "SawLine$Jointed"), ("SawLine$Bent", "SawLine$Tooth"), ("SawLine$Bent", "java/lang/Object"), ("SawLine$Hooked", "SawLine$Jointed"), ("SawLine$Hooked", "SawLine$Tooth"), ("SawLine$Hooked", "SawLine$Bent"), ("SawLine$Hooked", "java/lang/Object"), ("[B", "java/lang/Object"), ("[I", "java/lang/Object"), ("[LSawLine$Place;", "java/lang/Object"), ("[Ljava/lang/Object;", "java/lang/Object"), ("[S", "java/lang/Object")]
def xDL : List (String × String) := [("SawLine", "java/lang/ClassCastException"), ("java/util/ArrayList", "java/lang/ClassCastException"), ("SawLine$Place", "java/lang/ClassCastException"), ("SawLineModel", "java/lang/ClassCastException"), ("java/lang/NullPointerException", "java/lang/ClassCastException"), ("java/lang/NegativeArraySizeException", "java/lang/ClassCastException"), ("java/lang/ArrayIndexOutOfBoundsException", "java/lang/ClassCastException"), ("SawLine$Tooth", "java/lang/ClassCastException"), ("SawLine$Bent", "java/lang/ClassCastException"), ("SawLine$Hooked", "java/lang/ClassCastException"), ("java/lang/ArrayStoreException", "java/lang/ClassCastException"), ("SawLine", "java/lang/NullPointerException"), ("java/util/ArrayList", "java/lang/NullPointerException"), ("SawLine$Place", "java/lang/NullPointerException"), ("SawLineModel", "java/lang/NullPointerException"), ("java/lang/ClassCastException", "java/lang/NullPointerException"), ("java/lang/NegativeArraySizeException", "java/lang/NullPointerException"), ("java/lang/ArrayIndexOutOfBoundsException", "java/lang/NullPointerException"), ("SawLine$Tooth", "java/lang/NullPointerException"), ("SawLine$Bent", "java/lang/NullPointerException"), ("SawLine$Hooked", "java/lang/NullPointerException"), ("java/lang/ArrayStoreException", "java/lang/NullPointerException"), ("SawLine", "java/lang/NegativeArraySizeException"), ("java/util/ArrayList", "java/lang/NegativeArraySizeException"), ("SawLine$Place", "java/lang/NegativeArraySizeException"), ("SawLineModel", "java/lang/NegativeArraySizeException"), ("java/lang/ClassCastException", "java/lang/NegativeArraySizeException"), ("java/lang/NullPointerException", "java/lang/NegativeArraySizeException"), ("java/lang/ArrayIndexOutOfBoundsException", "java/lang/NegativeArraySizeException"), ("SawLine$Tooth", "java/lang/NegativeArraySizeException"), ("SawLine$Bent", "java/lang/NegativeArraySizeException"), ("SawLine$Hooked", "java/lang/NegativeArraySizeException"), ("java/lang/ArrayStoreException", "java/lang/NegativeArraySizeException"), ("SawLine", "java/lang/ArrayIndexOutOfBoundsException"), ("java/util/ArrayList", "java/lang/ArrayIndexOutOfBoundsException"), ("SawLine$Place", "java/lang/ArrayIndexOutOfBoundsException"), ("SawLineModel", "java/lang/ArrayIndexOutOfBoundsException"), ("java/lang/ClassCastException", "java/lang/ArrayIndexOutOfBoundsException"), ("java/lang/NullPointerException", "java/lang/ArrayIndexOutOfBoundsException"), ("java/lang/NegativeArraySizeException", "java/lang/ArrayIndexOutOfBoundsException"), ("SawLine$Tooth", "java/lang/ArrayIndexOutOfBoundsException"), ("SawLine$Bent", "java/lang/ArrayIndexOutOfBoundsException"), ("SawLine$Hooked", "java/lang/ArrayIndexOutOfBoundsException"), ("java/lang/ArrayStoreException", "java/lang/ArrayIndexOutOfBoundsException"), ("SawLine", "java/lang/ArrayStoreException"), ("java/util/ArrayList", "java/lang/ArrayStoreException"), ("SawLine$Place", "java/lang/ArrayStoreException"), ("SawLineModel", "java/lang/ArrayStoreException"), ("java/lang/ClassCastException", "java/lang/ArrayStoreException"), ("java/lang/NullPointerException", "java/lang/ArrayStoreException"), ("java/lang/NegativeArraySizeException", "java/lang/ArrayStoreException"), ("java/lang/ArrayIndexOutOfBoundsException", "java/lang/ArrayStoreException"), ("SawLine$Tooth", "java/lang/ArrayStoreException"), ("SawLine$Bent", "java/lang/ArrayStoreException"), ("SawLine$Hooked", "java/lang/ArrayStoreException"), ("SawLine", "java/lang/IndexOutOfBoundsException"), ("java/util/ArrayList", "java/lang/IndexOutOfBoundsException"), ("SawLine$Place", "java/lang/IndexOutOfBoundsException"), ("SawLineModel", "java/lang/IndexOutOfBoundsException"), ("java/lang/ClassCastException", "java/lang/IndexOutOfBoundsException"), ("java/lang/NullPointerException", "java/lang/IndexOutOfBoundsException"), ("java/lang/NegativeArraySizeException", "java/lang/IndexOutOfBoundsException"), ("SawLine$Tooth", "java/lang/IndexOutOfBoundsException"), ("SawLine$Bent", "java/lang/IndexOutOfBoundsException"), ("SawLine$Hooked", "java/lang/IndexOutOfBoundsException"), ("java/lang/ArrayStoreException", "java/lang/IndexOutOfBoundsException"), ("SawLine", "SawLine$Tooth"), ("java/util/ArrayList", "SawLine$Tooth"), ("SawLine$Place", "SawLine$Tooth"), ("SawLineModel", "SawLine$Tooth"), ("java/lang/ClassCastException", "SawLine$Tooth"), ("java/lang/NullPointerException", "SawLine$Tooth"), ("java/lang/NegativeArraySizeException", "SawLine$Tooth"), ("java/lang/ArrayIndexOutOfBoundsException", "SawLine$Tooth"), ("java/lang/ArrayStoreException", "SawLine$Tooth"), ("SawLine", "SawLine$Jointed"), ("java/util/ArrayList", "SawLine$Jointed"), ("SawLine$Place", "SawLine$Jointed"), ("SawLineModel", "SawLine$Jointed"), ("java/lang/ClassCastException", "SawLine$Jointed"), ("java/lang/NullPointerException", "SawLine$Jointed"), ("java/lang/NegativeArraySizeException", "SawLine$Jointed"), ("java/lang/ArrayIndexOutOfBoundsException", "SawLine$Jointed"), ("java/lang/ArrayStoreException", "SawLine$Jointed"), ("SawLine", "SawLine$Bent"), ("java/util/ArrayList", "SawLine$Bent"), ("SawLine$Place", "SawLine$Bent"), ("SawLineModel", "SawLine$Bent"), ("java/lang/ClassCastException", "SawLine$Bent"), ("java/lang/NullPointerException", "SawLine$Bent"), ("java/lang/NegativeArraySizeException", "SawLine$Bent"), ("java/lang/ArrayIndexOutOfBoundsException", "SawLine$Bent"), ("SawLine$Tooth", "SawLine$Bent"), ("java/lang/ArrayStoreException", "SawLine$Bent"), ("SawLine", "SawLine$Hooked"), ("java/util/ArrayList", "SawLine$Hooked"), ("SawLine$Place", "SawLine$Hooked"), ("SawLineModel", "SawLine$Hooked"), ("java/lang/ClassCastException", "SawLine$Hooked"), ("java/lang/NullPointerException", "SawLine$Hooked"), ("java/lang/NegativeArraySizeException", "SawLine$Hooked"), ("java/lang/ArrayIndexOutOfBoundsException", "SawLine$Hooked"), ("SawLine$Tooth", "SawLine$Hooked"), ("SawLine$Bent", "SawLine$Hooked"), ("java/lang/ArrayStoreException", "SawLine$Hooked"), ("SawLine", "[B"), ("java/util/ArrayList", "[B"), ("SawLine$Place", "[B"), ("SawLineModel", "[B"), ("java/lang/ClassCastException", "[B"), ("java/lang/NullPointerException", "[B"), ("java/lang/NegativeArraySizeException", "[B"), ("java/lang/ArrayIndexOutOfBoundsException", "[B"), ("SawLine$Tooth", "[B"), ("SawLine$Bent", "[B"), ("SawLine$Hooked", "[B"), ("java/lang/ArrayStoreException", "[B"), ("java/lang/Throwable", "[B"), ("java/lang/String", "[B"), ("[LSawLine$Place;", "[B"), ("[I", "[B"), ("[Ljava/lang/Object;", "[B"), ("[S", "[B"), ("SawLine", "[S"), ("java/util/ArrayList", "[S"), ("SawLine$Place", "[S"), ("SawLineModel", "[S"), ("java/lang/ClassCastException", "[S"), ("java/lang/NullPointerException", "[S"), ("java/lang/NegativeArraySizeException", "[S"), ("java/lang/ArrayIndexOutOfBoundsException", "[S"), ("SawLine$Tooth", "[S"), ("SawLine$Bent", "[S"), ("SawLine$Hooked", "[S"), ("java/lang/ArrayStoreException", "[S"), ("java/lang/Throwable", "[S"), ("java/lang/String", "[S"), ("[LSawLine$Place;", "[S"), ("[I", "[S"), ("[B", "[S"), ("[Ljava/lang/Object;", "[S"), ("SawLine", "[I"), ("java/util/ArrayList", "[I"), ("SawLine$Place", "[I"), ("SawLineModel", "[I"), ("java/lang/ClassCastException", "[I"), ("java/lang/NullPointerException", "[I"), ("java/lang/NegativeArraySizeException", "[I"), ("java/lang/ArrayIndexOutOfBoundsException", "[I"), ("SawLine$Tooth", "[I"), ("SawLine$Bent", "[I"), ("SawLine$Hooked", "[I"), ("java/lang/ArrayStoreException", "[I"), ("java/lang/Throwable", "[I"), ("java/lang/String", "[I"), ("[LSawLine$Place;", "[I"), ("[B", "[I"), ("[Ljava/lang/Object;", "[I"), ("[S", "[I"), ("java/lang/Throwable", "SawLine$Tooth"), ("java/lang/String", "SawLine$Tooth"), ("[LSawLine$Place;", "SawLine$Tooth"), ("[I", "SawLine$Tooth"), ("[B", "SawLine$Tooth"), ("[Ljava/lang/Object;", "SawLine$Tooth"), ("[S", "SawLine$Tooth"), ("java/lang/Throwable", "SawLine$Jointed"), ("java/lang/String", "SawLine$Jointed"), ("[LSawLine$Place;", "SawLine$Jointed"), ("[I", "SawLine$Jointed"), ("[B", "SawLine$Jointed"), ("[Ljava/lang/Object;", "SawLine$Jointed"), ("[S", "SawLine$Jointed"), ("java/lang/Throwable", "SawLine$Bent"), ("java/lang/String", "SawLine$Bent"), ("[LSawLine$Place;", "SawLine$Bent"), ("[I", "SawLine$Bent"), ("[B", "SawLine$Bent"), ("[Ljava/lang/Object;", "SawLine$Bent"), ("[S", "SawLine$Bent"), ("java/lang/Throwable", "SawLine$Hooked"), ("java/lang/String", "SawLine$Hooked"), ("[LSawLine$Place;", "SawLine$Hooked"), ("[I", "SawLine$Hooked"), ("[B", "SawLine$Hooked"), ("[Ljava/lang/Object;", "SawLine$Hooked"), ("[S", "SawLine$Hooked"), ("SawLine", "SawLine$Place"), ("java/util/ArrayList", "SawLine$Place"), ("SawLineModel", "SawLine$Place"), ("java/lang/ClassCastException", "SawLine$Place"), ("java/lang/NullPointerException", "SawLine$Place"), ("java/lang/NegativeArraySizeException", "SawLine$Place"), ("java/lang/ArrayIndexOutOfBoundsException", "SawLine$Place"), ("SawLine$Tooth", "SawLine$Place"), ("SawLine$Bent", "SawLine$Place"), ("SawLine$Hooked", "SawLine$Place"), ("java/lang/ArrayStoreException", "SawLine$Place"), ("java/lang/Throwable", "SawLine$Place"), ("java/lang/String", "SawLine$Place"), ("[LSawLine$Place;", "SawLine$Place"), ("[I", "SawLine$Place"), ("[B", "SawLine$Place"), ("[Ljava/lang/Object;", "SawLine$Place"), ("[S", "SawLine$Place")]
def xNP (U : State) : Prop := (∀ q ∈ xFL, va_Fw q.1 q.2.1 q.2.2 U) ∧ (∀ w ∈ xNL, va_Nw w U) ∧ (∀ q ∈ xCL, va_Nw (.castable q.1 q.2) U) ∧ (∀ q ∈ xDL, va_Nc q.1 q.2 U) ∧ va_AO "SawLine$Place" U ∧ va_AO "java/lang/Object" U
/-- t: the empty array of every ArrayList that holds nothing yet -/
def xN (t : Nat) : gk_N := fun A U H => xNP U ∧ va_Z "java/util/ArrayList" "DEFAULTCAPACITY_EMPTY_ELEMENTDATA" "[Ljava/lang/Object;" (.ref t) A U H ∧ va_T (.object "java/lang/Object") t 0 (fun _ => .null) A U H
theorem xFL_ok : ∀ q ∈ xFL, q.2.1.cls ≠ "java/lang/invoke/MethodHandle" ∧ q.2.1.cls ≠ "java/lang/invoke/VarHandle" := by decide +kernel
theorem xNL_w {w : Cond} (hw : w ∈ xNL) {s U : State} (hW : s.WarmedH U.vm) (h : va_Nw w s) : va_Nw w U := by
  simp only [xNL, List.mem_cons, List.not_mem_nil, or_false] at hw
  rcases hw with e | e | e | e | e | e <;> subst e
  · exact va_Nw.warmM hW h
  · exact va_Nw.warmF hW h
  · exact va_Nw.warmF hW h
  · exact va_Nw.warmM hW h
  · exact va_Nw.warmM hW h
  · exact va_Nw.warmM hW h
theorem xNP_w {s U : State} (hW : s.WarmedH U.vm) (h : xNP s) : xNP U := by
  obtain ⟨h1, h2, h3, h4, h5, h6⟩ := h
  exact ⟨fun q hq => va_Fw.moved (xFL_ok q hq) hW.alike (h1 q hq), fun w hw => xNL_w hw hW (h2 w hw), fun q hq => va_Nw.warmC hW (h3 q hq), fun q hq => va_Nc.moved hW.alike (h4 q hq), h5.moved hW.alike, h6.moved hW.alike⟩
theorem xN_ok (t : Nat) : gk_NM (xN t) := by
  refine ⟨fun A U U' H hW h => ⟨xNP_w hW h.1, h.2.1.moved hW.alike, h.2.2.moved hW.alike⟩, fun A U H H1 hs hk h => ⟨h.1, h.2.1.kept hk, h.2.2.kept hk⟩, fun A B U H hAB h => ⟨h.1, ?_, ?_⟩⟩
  · obtain ⟨cf, kf, fi, f, a, cell, e1, e2, e3, e4, e5, e6, e7, e8⟩ := h.2.1
    exact ⟨cf, kf, fi, f, a, cell, e1, e2, e3, e4, e5, e6, e7, fun z => e8 (hAB a (Array.getElem?_eq_some_iff.mp e5).1 z)⟩
  · obtain ⟨cell, e1, e2, e3, e4, e5, e6, e7⟩ := h.2.2
    exact ⟨cell, e1, e2, e3, e4, e5, e6, fun z => e7 (hAB t (Array.getElem?_eq_some_iff.mp e1).1 z)⟩
/-! CUTTING A WORLD: a callee's cells, the rest, and back -/
theorem gk_inj {ws : va_W} (h : (ws.map (fun q => q.1)).Nodup) {q q' : Nat × va_E} (hq : q ∈ ws) (hq' : q' ∈ ws) (e : q.1 = q'.1) : q = q' := by
  induction ws with
  | nil => cases hq
  | cons x r ih =>
    rw [List.map_cons, List.nodup_cons] at h
    rcases List.mem_cons.mp hq with rfl | h1 <;> rcases List.mem_cons.mp hq' with rfl | h2
    · rfl
    · exact absurd (List.mem_map.mpr ⟨q', h2, e.symm⟩) h.1
    · exact absurd (List.mem_map.mpr ⟨q, h1, e⟩) h.1
    · exact ih h.2 h1 h2
section GK3
variable {κ : gk_K} {cc : ByteArray} {own : String} {D MC MS ce sl pc ce' sl' pc' : Nat} {ws : va_W} {os os' : List (Option Value)} {st st' : List Value}
theorem gk_cut (wc : va_W) (hm : ∀ q ∈ wc, q ∈ ws) (hn : (wc.map (fun q => q.1)).Nodup) (k : ∀ w2 : va_W, (ws.map (fun q => q.1)).Nodup → (∀ q ∈ w2, q ∈ ws) → (∀ q ∈ ws, q ∈ wc ∨ q ∈ w2 ∧ ∀ x ∈ wc, ¬ x.1 = q.1) → gk_G κ ce sl (wc ++ w2) pc os st) : gk_G κ ce sl ws pc os st := by
  refine gk_nodup fun hd => ?_
  have hw : ∀ q, q ∈ ws.filter (fun q => decide (∀ x ∈ wc, ¬ x.1 = q.1)) ↔ q ∈ ws ∧ ∀ x ∈ wc, ¬ x.1 = q.1 := fun q => by rw [List.mem_filter, decide_eq_true_eq]
  refine gk_less (ws' := wc ++ ws.filter (fun q => decide (∀ x ∈ wc, ¬ x.1 = q.1))) (fun q hq => ?_) (fun _ => ?_) (k _ hd (fun q hq => ((hw q).mp hq).1) (fun q hq => ?_))
  · rcases List.mem_append.mp hq with h | h
    · exact hm q h
    · exact ((hw q).mp h).1
  · rw [List.map_append, List.nodup_append]
    refine ⟨hn, hd.sublist (List.Sublist.map _ List.filter_sublist), fun a ha b hb e => ?_⟩
    obtain ⟨x, hx, rfl⟩ := List.mem_map.mp ha
    obtain ⟨y, hy, rfl⟩ := List.mem_map.mp hb
    exact ((hw y).mp hy).2 x hx e
  · by_cases hz : ∀ x ∈ wc, ¬ x.1 = q.1
    · exact Or.inr ⟨(hw q).mpr ⟨hq, hz⟩, hz⟩
    · refine Or.inl ?_
      obtain ⟨x, hx⟩ := Classical.not_forall.mp hz
      obtain ⟨hx, e⟩ := Classical.not_imp.mp hx
      rw [← gk_inj hd (hm x hx) hq (Classical.not_not.mp e)]; exact hx
/-- a callee that only reads: its cells wc; behind it the world is what it was -/
theorem gk_ro (wc : va_W) (hm : ∀ q ∈ wc, q ∈ ws) (hn : (wc.map (fun q => q.1)).Nodup) (kk : gk_G κ ce' sl' ws pc' os' st') (k : ∀ w2 : va_W, gk_G κ ce' sl' (wc ++ w2) pc' os' st' → gk_G κ ce sl (wc ++ w2) pc os st) : gk_G κ ce sl ws pc os st := by
  refine gk_cut wc hm hn fun w2 hd h1 h2 => k w2 (gk_less (fun q hq => ?_) (fun _ => hd) kk)
  rcases h2 q hq with h | h
  · exact List.mem_append_left _ h
  · exact List.mem_append_right _ h.1
/-- a callee that changes its first cell alone -/
theorem gk_rw {r : va_W} {a : Nat} {e e' : va_E} (rc : va_W) (hm : ∀ q ∈ rc, q ∈ r) (hn : (((a, e) :: rc).map (fun q => q.1)).Nodup) (kk : gk_G κ ce' sl' ((a, e') :: r) pc' os' st') (k : ∀ w2 : va_W, gk_G κ ce' sl' ((a, e') :: rc ++ w2) pc' os' st' → gk_G κ ce sl ((a, e) :: rc ++ w2) pc os st) : gk_G κ ce sl ((a, e) :: r) pc os st := by
  refine gk_cut ((a, e) :: rc) (fun q hq => ?_) hn fun w2 hd h1 h2 => k w2 (gk_less (ws' := (a, e') :: r) (fun q hq => ?_) (fun _ => (show (((a, e') :: r).map (fun q => q.1)).Nodup from hd)) kk)
  · rcases List.mem_cons.mp hq with rfl | h
    · exact List.mem_cons_self
    · exact List.mem_cons_of_mem _ (hm q h)
  · rcases List.mem_cons.mp hq with rfl | h
    · exact List.mem_append_left _ List.mem_cons_self
    · rcases h2 q (List.mem_cons_of_mem _ h) with h3 | h3
      · rcases List.mem_cons.mp h3 with rfl | h4
        · rw [List.map_cons, List.nodup_cons] at hd
          exact absurd (List.mem_map.mpr ⟨_, h, rfl⟩) hd.1
        · exact List.mem_append_left _ (List.mem_cons_of_mem _ h4)
      · exact List.mem_append_right _ h3.1
end GK3
/-! CALLS -/
def gk_cu (own : String) (idx : Nat) (C owner : String) (x y : MethodName) (code : ByteArray) (nLy : Nat) (ret : Option FieldType) (n : Nat) : Prop := (GoodIn lw_all (va_wsU own idx C owner x y (ws_ y code nLy ret)) ∧ y = ⟨owner, x.name, x.desc⟩ ∨ GoodIn lw_all (va_wsO own idx C owner x y (ws_ y code nLy ret)) ∧ ∃ (b0 : ByteArray) (m0 : Nat) (r0 : Option FieldType), Cond.code ⟨owner, x.name, x.desc⟩ b0 m0 r0 ∈ lw_all) ∧ (owner ≠ "java/lang/invoke/MethodHandle" ∧ owner ≠ "java/lang/invoke/VarHandle" ∧ (parseMethodDescriptor x.desc).map (fun d => d.parameters.length) = some n) ∧ Nat.ble nLy 45 = true
theorem lw_U {own : String} {idx : Nat} {C owner : String} {x y : MethodName} {b : ByteArray} {L : Nat} {r : Option FieldType} (h1 : Cond.methodLink own idx x ∈ lw_all) (h2 : Cond.sameMethod x.cls owner x.name x.desc ∈ lw_all) (h3 : Cond.selects C x y ∈ lw_all) (h4 : Cond.instanceMethod y ∈ lw_all) (h5 : Cond.initialized y.cls ∈ lw_all) (h6 : Cond.code y b L r ∈ lw_all) : GoodIn lw_all (va_wsU own idx C owner x y (ws_ y b L r)) := by
  refine lw_app ?_ (lw_meth h6)
  intro w hw
  simp only [List.mem_cons, List.not_mem_nil, or_false] at hw
  rcases hw with e | e | e | e | e <;> rw [e] <;> assumption
theorem lw_O {own : String} {idx : Nat} {C owner : String} {x y : MethodName} {b : ByteArray} {L : Nat} {r : Option FieldType} (h1 : Cond.methodLink own idx x ∈ lw_all) (h2 : Cond.sameMethod x.cls owner x.name x.desc ∈ lw_all) (h7 : Cond.instanceMethod ⟨owner, x.name, x.desc⟩ ∈ lw_all) (h3 : Cond.selects C x y ∈ lw_all) (h4 : Cond.instanceMethod y ∈ lw_all) (h5 : Cond.initialized y.cls ∈ lw_all) (h6 : Cond.code y b L r ∈ lw_all) : GoodIn lw_all (va_wsO own idx C owner x y (ws_ y b L r)) := by
  refine lw_app ?_ (lw_meth h6)
  intro w hw
  simp only [List.mem_cons, List.not_mem_nil, or_false] at hw
  rcases hw with e | e | e | e | e | e <;> rw [e] <;> assumption
theorem lw_SU {own : String} {idx : Nat} {y : MethodName} {b : ByteArray} {L : Nat} {r : Option FieldType} (h1 : Cond.methodLink own idx y ∈ lw_all) (h2 : Cond.sameMethod y.cls y.cls y.name y.desc ∈ lw_all) (h3 : Cond.superclass own y.cls ∈ lw_all) (h4 : Cond.instanceMethod y ∈ lw_all) (h5 : Cond.initialized y.cls ∈ lw_all) (h6 : Cond.code y b L r ∈ lw_all) : GoodIn lw_all (va_wsSU own idx y (ws_ y b L r)) := by
  refine lw_app ?_ (lw_meth h6)
  intro w hw
  simp only [List.mem_cons, List.not_mem_nil, or_false] at hw
  rcases hw with e | e | e | e | e <;> rw [e] <;> assumption
theorem lw_F {own : String} {idx : Nat} {C : String} {x y : MethodName} {b : ByteArray} {L : Nat} {r : Option FieldType} (h1 : Cond.methodLink own idx x ∈ lw_all) (h3 : Cond.selects C x y ∈ lw_all) (h4 : Cond.instanceMethod y ∈ lw_all) (h5 : Cond.initialized y.cls ∈ lw_all) (h6 : Cond.code y b L r ∈ lw_all) : GoodIn lw_all (va_wsF own idx C x y (ws_ y b L r)) := by
  refine lw_app ?_ (lw_meth h6)
  intro w hw
  simp only [List.mem_cons, List.not_mem_nil, or_false] at hw
  rcases hw with e | e | e | e <;> rw [e] <;> assumption
section GKD3
variable {κ : gk_K} {cc code : ByteArray} {own C0 owner host : String} {D MC MS ce sl pc idx nLy d mc ms b t count : Nat} {w1 wc w2 : va_W} {os : List (Option Value)} {st As : List Value} {x y : MethodName} {ret : Option FieldType} {post : Option Value → va_W → Prop}
/-- an inherited or an overriding method -/
theorem gk_cU (C : gk_C κ cc own D MC MS) (hM : gk_M (gk_n κ) (gk_l κ) y (Cond.code y code nLy ret) d mc ms (.ref b :: As) (gk_g κ) wc post) (hcv : gk_cu own idx C0 owner x y code nLy ret As.length) (hdD : Nat.blt d D = true) (hmc : ce + mc ≤ MC) (hms : sl + ms ≤ MS) (hrc : gk_rc C0 b (w1 ++ (wc ++ w2))) (hst : Nat.ble (st.map fun v => v.category).sum 8 = true) (hd : decode cc pc = .ok (.invokevirtual idx, 3)) (kk : ∀ (r : Option Value) (wn : va_W), post r wn → gk_G κ (ce + mc) (sl + ms) (w1 ++ (wn ++ w2)) (pc + 3) os (r.toList ++ st)) : gk_G κ ce sl (w1 ++ (wc ++ w2)) pc os (As.reverse ++ .ref b :: st) := by
  obtain ⟨⟨p, l, e, R, s, m, args, below, meth, c⟩, Γ, A, nL, Q, N⟩ := κ
  obtain ⟨hx, hb, hml, hown, hts, hK, hA, hR, hN0, hNM⟩ := C
  obtain ⟨hw, hy, hnL⟩ := hcv
  have hdD := gk_blt hdD
  have hnL := Nat.le_of_ble_eq_true hnL
  obtain ⟨r1, r2, r3, r4⟩ := hR
  intro H locs ls hP hD hS hL
  have hFc := gk_free hD hS hA
  obtain ⟨q, ci, fs, T, n, e1, e2⟩ := hrc
  have cw : va_CU R s args own C0 owner idx x y code nLy ret (ws_ y code nLy ret) (gk_Rm d mc ms) mc ms As.length := by
    rcases hw with ⟨h1, h2⟩ | ⟨h1, b0, m0, r0, h2⟩
    · exact va_cwU As.length hts h1 rfl rfl rfl h2 hy ⟨by show d + 24 + 1 ≤ _; omega, by show 8 + (nLy + 11) + (64 * d + 12000) ≤ _; omega⟩
    · exact va_cwO As.length hts h1 rfl rfl rfl h2 hy ⟨by show d + 24 + 1 ≤ _; omega, by show 8 + (nLy + 11) + (64 * d + 12000) ≤ _; omega⟩
  refine gk_after (va_runU (As := As) (rest := st) ⟨hx, hb, hml, hown, hts⟩ (hM H.size) cw ⟨gk_blind hNM, va_recv hK hP e2 e1, fun U hU hW => ⟨rfl, gk_preat hNM hP hD hS hK hA hN0 hU hW⟩⟩ rfl rfl hL.1 rfl (lv_room (Nat.le_of_ble_eq_true hst)) hd ⟨by omega, by omega⟩) hS (fun q _ h => hFc q h) hFc ?_
  intro r wn H1 locs1 hp hP1 hD1 hk1 hS1
  obtain ⟨hP2, hD2⟩ := gk_join hP hD hk1 hFc hP1 hD1
  exact kk r wn hp H1 locs1 ls hP2 hD2 hS1 hL
/-- super's method -/
theorem gk_cSU (C : gk_C κ cc own D MC MS) (hM : gk_M (gk_n κ) (gk_l κ) y (Cond.code y code nLy ret) d mc ms (.ref b :: As) (gk_g κ) wc post) (hw : GoodIn lw_all (va_wsSU own idx y (ws_ y code nLy ret))) (hy : y.name ≠ "<init>" ∧ (parseMethodDescriptor y.desc).map (fun d => d.parameters.length) = some As.length) (hnL : Nat.ble nLy 45 = true) (hdD : Nat.blt d D = true) (hmc : ce + mc ≤ MC) (hms : sl + ms ≤ MS) (hrc : gk_rc C0 b (w1 ++ (wc ++ w2))) (hst : Nat.ble (st.map fun v => v.category).sum 8 = true) (hd : decode cc pc = .ok (.invokespecial idx, 3)) (kk : ∀ (r : Option Value) (wn : va_W), post r wn → gk_G κ (ce + mc) (sl + ms) (w1 ++ (wn ++ w2)) (pc + 3) os (r.toList ++ st)) : gk_G κ ce sl (w1 ++ (wc ++ w2)) pc os (As.reverse ++ .ref b :: st) := by
  obtain ⟨⟨p, l, e, R, s, m, args, below, meth, c⟩, Γ, A, nL, Q, N⟩ := κ
  obtain ⟨hx, hb, hml, hown, hts, hK, hA, hR, hN0, hNM⟩ := C
  skip
  have hdD := gk_blt hdD
  have hnL := Nat.le_of_ble_eq_true hnL
  obtain ⟨r1, r2, r3, r4⟩ := hR
  intro H locs ls hP hD hS hL
  have hFc := gk_free hD hS hA
  obtain ⟨q, ci, fs, T, n, e1, e2⟩ := hrc
  refine gk_after (va_runSU (As := As) (rest := st) (hK.1 ci _ e2).2 ⟨hx, hb, hml, hown, hts⟩ (hM H.size) (va_cwSU As.length hts hw rfl rfl rfl hy ⟨by show d + 24 + 1 ≤ _; omega, by show 8 + (nLy + 11) + (64 * d + 12000) ≤ _; omega⟩) ⟨gk_blind hNM, va_recv hK hP e2 e1, fun U hU hW => ⟨rfl, gk_preat hNM hP hD hS hK hA hN0 hU hW⟩⟩ rfl rfl hL.1 rfl (lv_room (Nat.le_of_ble_eq_true hst)) hd ⟨by omega, by omega⟩) hS (fun q _ h => hFc q h) hFc ?_
  intro r wn H1 locs1 hp hP1 hD1 hk1 hS1
  obtain ⟨hP2, hD2⟩ := gk_join hP hD hk1 hFc hP1 hD1
  exact kk r wn hp H1 locs1 ls hP2 hD2 hS1 hL
/-- through an interface -/
theorem gk_cF (C : gk_C κ cc own D MC MS) (hNx : ∀ A U H, gk_n κ A U H → xNP U) (hM : gk_M (gk_n κ) (gk_l κ) y (Cond.code y code nLy ret) d mc ms (.ref b :: As) (gk_g κ) wc post) (hw : GoodIn lw_all (va_wsF own idx C0 x y (ws_ y code nLy ret))) (hF : (C0, x, y) ∈ xFL) (hy : gk_okn x As.length) (hnL : Nat.ble nLy 45 = true) (hdD : Nat.blt d D = true) (hmc : ce + mc ≤ MC) (hms : sl + ms ≤ MS) (hrc : gk_rc C0 b (w1 ++ (wc ++ w2))) (hst : Nat.ble (st.map fun v => v.category).sum 8 = true) (hd : decode cc pc = .ok (.invokeinterface idx count, 5)) (kk : ∀ (r : Option Value) (wn : va_W), post r wn → gk_G κ (ce + mc) (sl + ms) (w1 ++ (wn ++ w2)) (pc + 5) os (r.toList ++ st)) : gk_G κ ce sl (w1 ++ (wc ++ w2)) pc os (As.reverse ++ .ref b :: st) := by
  obtain ⟨⟨p, l, e, R, s, m, args, below, meth, c⟩, Γ, A, nL, Q, N⟩ := κ
  obtain ⟨hx, hb, hml, hown, hts, hK, hA, hR, hN0, hNM⟩ := C
  skip
  have hdD := gk_blt hdD
  have hnL := Nat.le_of_ble_eq_true hnL
  obtain ⟨r1, r2, r3, r4⟩ := hR
  intro H locs ls hP hD hS hL
  have hFc := gk_free hD hS hA
  obtain ⟨q, ci, fs, T, n, e1, e2⟩ := hrc
  refine gk_after5 (va_runF (As := As) (rest := st) (hK.1 ci _ e2).2 ⟨hx, hb, hml, hown, hts⟩ (hM H.size) (va_cwF As.length hts hw rfl rfl rfl ((hNx _ _ _ hN0).1 _ hF) hy ⟨by show d + 24 + 1 ≤ _; omega, by show 8 + (nLy + 11) + (64 * d + 12000) ≤ _; omega⟩) ⟨gk_blind hNM, va_recv hK hP e2 e1, fun U hU hW => ⟨rfl, gk_preat hNM hP hD hS hK hA hN0 hU hW⟩⟩ rfl rfl hL.1 rfl (lv_room (Nat.le_of_ble_eq_true hst)) hd ⟨by omega, by omega⟩) hS (fun q _ h => hFc q h) hFc ?_
  intro r wn H1 locs1 hp hP1 hD1 hk1 hS1
  obtain ⟨hP2, hD2⟩ := gk_join hP hD hk1 hFc hP1 hD1
  exact kk r wn hp H1 locs1 ls hP2 hD2 hS1 hL
/-- a nest mate's private method -/
theorem gk_cVN (C : gk_C κ cc own D MC MS) (hNx : ∀ A U H, gk_n κ A U H → xNP U) (hM : gk_M (gk_n κ) (gk_l κ) y (Cond.code y code nLy ret) d mc ms (.ref b :: As) (gk_g κ) wc post) (hl : Cond.methodLinkNest own idx y host ∈ xNL) (hcw : Cond.code y code nLy ret ∈ lw_all) (hini : Cond.initialized y.cls ∈ lw_all) (hinst : Cond.instanceMethod y ∈ lw_all) (hsel : Cond.selects C0 y y ∈ lw_all) (hy : gk_okn y As.length) (hnL : Nat.ble nLy 45 = true) (hdD : Nat.blt d D = true) (hmc : ce + mc ≤ MC) (hms : sl + ms ≤ MS) (hrc : gk_rc C0 b (w1 ++ (wc ++ w2))) (hst : Nat.ble (st.map fun v => v.category).sum 8 = true) (hd : decode cc pc = .ok (.invokevirtual idx, 3)) (kk : ∀ (r : Option Value) (wn : va_W), post r wn → gk_G κ (ce + mc) (sl + ms) (w1 ++ (wn ++ w2)) (pc + 3) os (r.toList ++ st)) : gk_G κ ce sl (w1 ++ (wc ++ w2)) pc os (As.reverse ++ .ref b :: st) := by
  obtain ⟨⟨p, l, e, R, s, m, args, below, meth, c⟩, Γ, A, nL, Q, N⟩ := κ
  obtain ⟨hx, hb, hml, hown, hts, hK, hA, hR, hN0, hNM⟩ := C
  skip
  have hdD := gk_blt hdD
  have hnL := Nat.le_of_ble_eq_true hnL
  obtain ⟨r1, r2, r3, r4⟩ := hR
  intro H locs ls hP hD hS hL
  have hFc := gk_free hD hS hA
  obtain ⟨q, ci, fs, T, n, e1, e2⟩ := hrc
  refine gk_after (va_runVN (As := As) (rest := st) ⟨hx, hb, hml, hown, hts⟩ (hM H.size) ⟨va_cnB As.length hts (lw_meth hcw) rfl rfl rfl ((hNx _ _ _ hN0).2.1 _ hl) (hts _ hini) hy ⟨by show d + 24 + 1 ≤ _; omega, by show 8 + (nLy + 11) + (64 * d + 12000) ≤ _; omega⟩, hts _ hinst, hts _ hsel⟩ ⟨gk_blind hNM, va_recv hK hP e2 e1, fun U hU hW => ⟨rfl, gk_preat hNM hP hD hS hK hA hN0 hU hW⟩⟩ rfl rfl hL.1 rfl (lv_room (Nat.le_of_ble_eq_true hst)) hd ⟨by omega, by omega⟩) hS (fun q _ h => hFc q h) hFc ?_
  intro r wn H1 locs1 hp hP1 hD1 hk1 hS1
  obtain ⟨hP2, hD2⟩ := gk_join hP hD hk1 hFc hP1 hD1
  exact kk r wn hp H1 locs1 ls hP2 hD2 hS1 hL
/-- a nest mate's private constructor -/
theorem gk_cIN (C : gk_C κ cc own D MC MS) (hNx : ∀ A U H, gk_n κ A U H → xNP U) (hM : gk_M (gk_n κ) (gk_l κ) y (Cond.code y code nLy none) d mc ms (.ref b :: As) (gk_g κ) wc post) (hl : Cond.methodLinkNest own idx y host ∈ xNL) (hyn : y.name = "<init>") (hcw : Cond.code y code nLy none ∈ lw_all) (hini : Cond.initialized y.cls ∈ lw_all) (hinst : Cond.instanceMethod y ∈ lw_all) (hy : gk_okn y As.length) (hnL : Nat.ble nLy 45 = true) (hdD : Nat.blt d D = true) (hmc : ce + mc ≤ MC) (hms : sl + ms ≤ MS) (hst : Nat.ble (st.map fun v => v.category).sum 8 = true) (hd : decode cc pc = .ok (.invokespecial idx, 3)) (kk : ∀ (r : Option Value) (wn : va_W), post r wn → gk_G κ (ce + mc) (sl + ms) (w1 ++ (wn ++ w2)) (pc + 3) os (r.toList ++ st)) : gk_G κ ce sl (w1 ++ (wc ++ w2)) pc os (As.reverse ++ .ref b :: st) := by
  obtain ⟨⟨p, l, e, R, s, m, args, below, meth, c⟩, Γ, A, nL, Q, N⟩ := κ
  obtain ⟨hx, hb, hml, hown, hts, hK, hA, hR, hN0, hNM⟩ := C
  skip
  have hdD := gk_blt hdD
  have hnL := Nat.le_of_ble_eq_true hnL
  obtain ⟨r1, r2, r3, r4⟩ := hR
  intro H locs ls hP hD hS hL
  have hFc := gk_free hD hS hA
  skip
  refine gk_after (va_runIN (As := As) (rest := st) ⟨hx, hb, hml, hown, hts⟩ (hM H.size) ⟨va_cnB As.length hts (lw_meth hcw) rfl rfl rfl ((hNx _ _ _ hN0).2.1 _ hl) (hts _ hini) hy ⟨by show d + 24 + 1 ≤ _; omega, by show 8 + (nLy + 11) + (64 * d + 12000) ≤ _; omega⟩, hyn, hts _ hinst⟩ ⟨gk_blind hNM, fun U hU hW => ⟨rfl, gk_preat hNM hP hD hS hK hA hN0 hU hW⟩⟩ rfl rfl hL.1 rfl (lv_room (Nat.le_of_ble_eq_true hst)) hd ⟨by omega, by omega⟩) hS (fun q _ h => hFc q h) hFc ?_
  intro r wn H1 locs1 hp hP1 hD1 hk1 hS1
  obtain ⟨hP2, hD2⟩ := gk_join hP hD hk1 hFc hP1 hD1
  exact kk r wn hp H1 locs1 ls hP2 hD2 hS1 hL
end GKD3
