/-! the kerf: the least and the greatest mark, and the shared words -/
theorem kl_b {τ : sp_T} {n : Nat} (h : ∀ k, k < n → xk τ k) : ∀ k, k ≤ n → (∃ a : Nat, a ≤ 9 ∧ sp_kl τ k = nI a) ∧ ∃ a : Nat, a ≤ 9 ∧ sp_kr τ k = nI a
  | 0, _ => ⟨⟨0, by omega, rfl⟩, ⟨0, by omega, rfl⟩⟩
  | k + 1, hk => by
    obtain ⟨⟨a, ha, e1⟩, ⟨b, hb, e2⟩⟩ := kl_b h k (by omega)
    obtain ⟨-, c, _, _, hc, -, -, e3, -, -⟩ := h k (by omega)
    unfold sp_kl sp_kr sp_gr
    rw [e1, e2, e3]
    constructor
    · by_cases h1 : 0 < sp_tk τ k ∧ τ 1 k < 0
      · rw [if_pos h1]
        by_cases h2 : nI a ≤ nI c
        · rw [if_pos h2]; exact ⟨c, hc, rfl⟩
        · rw [if_neg h2]; exact ⟨a, ha, rfl⟩
      · rw [if_neg h1]; exact ⟨a, ha, rfl⟩
    · by_cases h1 : 0 < sp_tk τ k ∧ 0 < τ 1 k
      · rw [if_pos h1]
        by_cases h2 : nI b ≤ nI c
        · rw [if_pos h2]; exact ⟨c, hc, rfl⟩
        · rw [if_neg h2]; exact ⟨b, hb, rfl⟩
      · rw [if_neg h1]; exact ⟨b, hb, rfl⟩
theorem kf_d : ∀ a : Fin 10, ∀ c : Fin 10, (if -1 * nI c < -nI a then -1 * nI c else -nI a) = -(if nI a ≤ nI c then nI c else nI a) ∧ (if (0 : Int32) < -nI a then 0 else -nI a) = -nI a ∧ (if 1 * nI c < -nI a then 1 * nI c else -nI a) = -nI a ∧ (if nI a < 1 * nI c then 1 * nI c else nI a) = (if nI a ≤ nI c then nI c else nI a) ∧ (if nI a < (0 : Int32) then 0 else nI a) = nI a ∧ (if nI a < -1 * nI c then -1 * nI c else nI a) = nI a := by decide +kernel
theorem kf_step {τ : sp_T} {n k : Nat} (h : ∀ k, k < n → xk τ k) (hk : k < n) (hc : 0 < sp_tk τ k) : (if sp_mk τ k < -sp_kl τ k then sp_mk τ k else -sp_kl τ k) = -sp_kl τ (k + 1) ∧ (if sp_kr τ k < sp_mk τ k then sp_mk τ k else sp_kr τ k) = sp_kr τ (k + 1) := by
  obtain ⟨⟨a, ha, e1⟩, ⟨b, hb, e2⟩⟩ := kl_b h k (by omega)
  obtain ⟨hs, c, _, _, hc9, -, -, e3, -, -⟩ := h k hk
  have d1 := kf_d ⟨a, by omega⟩ ⟨c, by omega⟩
  have d2 := kf_d ⟨b, by omega⟩ ⟨c, by omega⟩
  dsimp only at d1 d2
  unfold sp_mk
  rw [show sp_kl τ (k + 1) = if 0 < sp_tk τ k ∧ τ 1 k < 0 then sp_gr (sp_kl τ k) (τ 2 k) else sp_kl τ k from rfl, show sp_kr τ (k + 1) = if 0 < sp_tk τ k ∧ 0 < τ 1 k then sp_gr (sp_kr τ k) (τ 2 k) else sp_kr τ k from rfl]
  unfold sp_gr
  rw [e1, e2, e3]
  rcases hs with ⟨-, s⟩ | ⟨-, s | s⟩ <;> rw [s]
  · have f : ¬ (0 < sp_tk τ k ∧ (0 : Int32) < 0) := fun z => absurd z.2 (by decide)
    rw [Int32.zero_mul, if_neg f, if_neg f]; exact ⟨d1.2.1, d2.2.2.2.2.1⟩
  · have f : ¬ (0 < sp_tk τ k ∧ (0 : Int32) < -1) := fun z => absurd z.2 (by decide)
    have g : 0 < sp_tk τ k ∧ (-1 : Int32) < 0 := ⟨hc, by decide⟩
    rw [if_pos g, if_neg f]; exact ⟨d1.1, d2.2.2.2.2.2⟩
  · have f : ¬ (0 < sp_tk τ k ∧ (1 : Int32) < 0) := fun z => absurd z.2 (by decide)
    have g : 0 < sp_tk τ k ∧ (0 : Int32) < 1 := ⟨hc, by decide⟩
    rw [if_neg f, if_pos g]; exact ⟨d1.2.2.1, d2.2.2.2.1⟩
theorem kf_skip {τ : sp_T} {k : Nat} (hc : ¬ 0 < sp_tk τ k) : sp_kl τ (k + 1) = sp_kl τ k ∧ sp_kr τ (k + 1) = sp_kr τ k := ⟨if_neg (fun z => hc z.1), if_neg (fun z => hc z.1)⟩
theorem kf_end {τ : sp_T} (n : Nat) : 1 + sp_kr τ n - -sp_kl τ n = sp_kf τ n := by
  unfold sp_kf
  rw [Int32.sub_eq_add_neg, Int32.neg_neg, Int32.add_assoc, Int32.add_comm (sp_kr τ n), ← Int32.add_assoc]
