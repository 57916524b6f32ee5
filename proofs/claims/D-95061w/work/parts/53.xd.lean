set_option maxRecDepth 100000
/-! SAWLINE's TEETH: their objects at ta k, their numbers at tb k; the list's row at e (vir: it is still the empty one) -/
def xc (kd : Int32) : Nat := if kd = 0 then 3 else if kd = 1 then 4 else 5
theorem xc_3 (kd : Int32) : xc kd = 3 ∨ xc kd = 4 ∨ xc kd = 5 := by
  unfold xc
  by_cases h : kd = 0
  · rw [if_pos h]; exact Or.inl rfl
  · rw [if_neg h]
    by_cases h1 : kd = 1
    · rw [if_pos h1]; exact Or.inr (Or.inl rfl)
    · rw [if_neg h1]; exact Or.inr (Or.inr rfl)
def xt_o (h : Nat) (ta tb : Nat → Nat) (τ : sp_T) (k : Nat) : Nat × va_E := (ta k, .inr (xc (τ 0 k), th_l h (tb k) (nI k) (τ 1 k) (xc (τ 0 k))))
def xt_f (τ : sp_T) (k : Nat) : Nat → Int32 := th_is (τ 2 k) (τ 3 k) (τ 4 k)
def xt_a (Γ : gk_E) (tb : Nat → Nat) (τ : sp_T) (k : Nat) : Nat × va_E := (tb k, .inl (Γ.2 0, 3, .inl (xt_f τ k)))
def xt (Γ : gk_E) (h : Nat) (ta tb : Nat → Nat) (τ : sp_T) : Nat → va_W
  | 0 => []
  | k + 1 => xt Γ h ta tb τ k ++ [xt_o h ta tb τ k, xt_a Γ tb τ k]
theorem xt_len (Γ : gk_E) (h : Nat) (ta tb : Nat → Nat) (τ : sp_T) : ∀ n, (xt Γ h ta tb τ n).length = 2 * n
  | 0 => rfl
  | n + 1 => by unfold xt; rw [List.length_append, xt_len Γ h ta tb τ n]; show 2 * n + 2 = _; omega
theorem xt_get (Γ : gk_E) (h : Nat) (ta tb : Nat → Nat) (τ : sp_T) : ∀ n k, k < n → (xt Γ h ta tb τ n)[2 * k]? = some (xt_o h ta tb τ k) ∧ (xt Γ h ta tb τ n)[2 * k + 1]? = some (xt_a Γ tb τ k)
  | 0, k, hk => absurd hk (Nat.not_lt_zero k)
  | n + 1, k, hk => by
    have hl := xt_len Γ h ta tb τ n
    unfold xt
    by_cases e : k < n
    · rw [List.getElem?_append_left (by omega), List.getElem?_append_left (by omega)]
      exact xt_get Γ h ta tb τ n k e
    · obtain rfl : k = n := by omega
      rw [List.getElem?_append_right (by omega), List.getElem?_append_right (by omega), hl]
      rw [show 2 * k - 2 * k = 0 by omega, show 2 * k + 1 - 2 * k = 1 by omega]
      exact ⟨rfl, rfl⟩
/-- teeth that differ in a tooth's numbers alone -/
theorem xt_set (Γ : gk_E) (h : Nat) (ta tb : Nat → Nat) (τ τ' : sp_T) (k : Nat) (h0 : ∀ j, τ' 0 j = τ 0 j) (h1 : ∀ j, τ' 1 j = τ 1 j) (h2 : ∀ i j, ¬ j = k → τ' i j = τ i j) : ∀ n, k < n → (xt Γ h ta tb τ n).set (2 * k + 1) (xt_a Γ tb τ' k) = xt Γ h ta tb τ' n
  | 0, hk => absurd hk (Nat.not_lt_zero k)
  | n + 1, hk => by
    have hl := xt_len Γ h ta tb τ n
    have ho : ∀ j, xt_o h ta tb τ' j = xt_o h ta tb τ j := fun j => by unfold xt_o; rw [h0, h1]
    unfold xt
    by_cases e : k < n
    · rw [List.set_append_left _ _ (by omega), xt_set Γ h ta tb τ τ' k h0 h1 h2 n e, ho]
      have : xt_a Γ tb τ' n = xt_a Γ tb τ n := by unfold xt_a xt_f; rw [h2 2 n (by omega), h2 3 n (by omega), h2 4 n (by omega)]
      rw [this]
    · obtain rfl : k = n := by omega
      have hs : ∀ m, m ≤ k → xt Γ h ta tb τ' m = xt Γ h ta tb τ m := by
        intro m
        induction m with
        | zero => intro _; rfl
        | succ m ih =>
          intro hm
          unfold xt
          rw [ih (by omega), ho]
          have : xt_a Γ tb τ' m = xt_a Γ tb τ m := by unfold xt_a xt_f; rw [h2 2 m (by omega), h2 3 m (by omega), h2 4 m (by omega)]
          rw [this]
      rw [List.set_append_right _ _ (by omega), hl, show 2 * k + 1 - 2 * k = 1 by omega, hs k (Nat.le_refl _), ho]
      rfl
abbrev xA : Type := Nat × Bool × Int32 × (Nat → Nat) × (Nat → Nat)
def xe_f (ta : Nat → Nat) (n : Nat) : Nat → Option Nat := fun j => if j < n then some (ta j) else none
def xe (Γ : gk_E) (θ : xA) (n : Nat) : va_W := if θ.2.1 = true then [] else [li_a Γ θ.1 (xe_f θ.2.2.2.1 n)]
/-- the list, the teeth, the list's row, and the rest (places, sheets) -/
def xD (Γ : gk_E) (h lo : Nat) (θ : xA) (n : Nat) (τ : sp_T) (rs : va_W) : va_W := li_o lo θ.1 θ.2.2.1 (nI n) :: (xt Γ h θ.2.2.2.1 θ.2.2.2.2 τ n ++ (xe Γ θ n ++ rs))
theorem xD_o {Γ : gk_E} {h lo : Nat} {θ : xA} {n : Nat} {τ : sp_T} {rs : va_W} {k : Nat} (hk : k < n) (P : va_W) : (P ++ xD Γ h lo θ n τ rs)[P.length + (1 + 2 * k)]? = some (xt_o h θ.2.2.2.1 θ.2.2.2.2 τ k) := by
  rw [List.getElem?_append_right (by omega), show P.length + (1 + 2 * k) - P.length = 2 * k + 1 by omega]
  unfold xD
  rw [List.getElem?_cons_succ, List.getElem?_append_left (by rw [xt_len]; omega)]
  exact (xt_get Γ h θ.2.2.2.1 θ.2.2.2.2 τ n k hk).1
theorem xD_a {Γ : gk_E} {h lo : Nat} {θ : xA} {n : Nat} {τ : sp_T} {rs : va_W} {k : Nat} (hk : k < n) (P : va_W) : (P ++ xD Γ h lo θ n τ rs)[P.length + (2 + 2 * k)]? = some (xt_a Γ θ.2.2.2.2 τ k) := by
  rw [List.getElem?_append_right (by omega), show P.length + (2 + 2 * k) - P.length = 2 * k + 1 + 1 by omega]
  unfold xD
  rw [List.getElem?_cons_succ, List.getElem?_append_left (by rw [xt_len]; omega)]
  exact (xt_get Γ h θ.2.2.2.1 θ.2.2.2.2 τ n k hk).2
theorem xD_s {Γ : gk_E} {h lo : Nat} {θ : xA} {n : Nat} {τ τ' : sp_T} {rs : va_W} {k : Nat} (hk : k < n) (P : va_W) (h0 : ∀ j, τ' 0 j = τ 0 j) (h1 : ∀ j, τ' 1 j = τ 1 j) (h2 : ∀ i j, ¬ j = k → τ' i j = τ i j) : (P ++ xD Γ h lo θ n τ rs).set (P.length + (2 + 2 * k)) (xt_a Γ θ.2.2.2.2 τ' k) = P ++ xD Γ h lo θ n τ' rs := by
  rw [List.set_append_right _ _ (by omega), show P.length + (2 + 2 * k) - P.length = 2 * k + 1 + 1 by omega]
  unfold xD
  rw [List.set_cons_succ, List.set_append_left _ _ (by rw [xt_len]; omega), xt_set Γ h _ _ τ τ' k h0 h1 h2 n hk]
theorem xD_li {Γ : gk_E} {h lo : Nat} {θ : xA} {n : Nat} {τ : sp_T} {rs P : va_W} : li_o lo θ.1 θ.2.2.1 (nI n) ∈ P ++ xD Γ h lo θ n τ rs := List.mem_append_right _ List.mem_cons_self
theorem xD_la {Γ : gk_E} {h lo : Nat} {θ : xA} {n : Nat} {τ : sp_T} {rs P : va_W} (hv : ¬ θ.2.1 = true) : li_a Γ θ.1 (xe_f θ.2.2.2.1 n) ∈ P ++ xD Γ h lo θ n τ rs := by
  refine List.mem_append_right _ (List.mem_cons_of_mem _ (List.mem_append_right _ (List.mem_append_left _ ?_)))
  unfold xe; rw [if_neg hv]; exact List.mem_cons_self
