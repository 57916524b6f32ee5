/-! THE CUT, in plain words -/
theorem nI_ngeT {a b : Nat} (h : ¬ nI b ≤ nI a) (ha : a < 2 ^ 31) : a < b := Nat.lt_of_not_le (fun q => h (nI_le q ha))
theorem nI_nltT {a b : Nat} (h : ¬ nI a < nI b) (hb : b < 2 ^ 31) : b ≤ a := Nat.le_of_not_lt (fun q => h (nI_lt q hb))
theorem nI_sub1 {t l : Nat} (h : l + 1 ≤ t) : nI t - 1 - nI l = nI (t - 1 - l) := by
  rw [show nI t - 1 = nI (t - 1) from by obtain ⟨u, rfl⟩ : ∃ u, t = u + 1 := ⟨t - 1, by omega⟩; exact nI_pred u]
  exact pk_sub (by omega)
theorem nI_seen {t l : Nat} (ht : t < 1000) (hl : l < 1000) : 0 ≤ nI t - 1 - nI l ↔ l + 1 ≤ t := by
  constructor
  · intro h
    rcases Nat.lt_or_ge t (l + 1) with g | g
    · exfalso
      have e1 : nI t - 1 - nI l = nI t - nI (l + 1) := by
        rw [← nI_1 l]
        grind
      rw [e1, Int32.le_iff_toInt_le, pk_sub_toInt (by omega) (by omega), Int32.toInt_zero] at h
      omega
    · exact g
  · intro h
    rw [nI_sub1 h]
    exact nI_pos' (by omega)
/-- what a cut is done with: push, lean, steers, fence, late; the board: hard, grain by i = 0, 1 -/
abbrev ct_E : Type := Int32 × Int32 × Int32 × Int32 × Nat × sp_T
def ct_w (e : ct_E) (P : Nat → Int32) (t : Nat) : Int32 := if e.2.2.2.2.1 + 1 ≤ t then P (t - 1 - e.2.2.2.2.1) else 0
def ct_h (e : ct_E) (P : Nat → Int32) (hd : Int32) (t : Nat) : Int32 := hd + (e.1 / (10 * e.2.2.2.2.2 0 t) + e.2.2.2.2.2 1 t + e.2.1 - e.2.2.1 * ct_w e P t / 8)
def ct_b (x : Int32) : Int32 := if x ≤ 99 then (if -99 ≤ x then x else -99) else 99
/-- one stroke: its place and heading -/
def ct_s (e : ct_E) (P : Nat → Int32) (pl hd : Int32) (t : Nat) : Int32 × Int32 :=
  if 0 < e.2.2.2.1 ∧ e.2.2.2.1 < sp_sz (pl + ct_b (ct_h e P hd t)) then ((if pl + ct_b (ct_h e P hd t) ≤ 0 then -e.2.2.2.1 else e.2.2.2.1), 0) else (pl + ct_b (ct_h e P hd t), ct_b (ct_h e P hd t))
/-- t strokes: places, headings, the last place, the last heading, how far off -/
abbrev ct_R : Type := (Nat → Int32) × (Nat → Int32) × Int32 × Int32 × Int32
def ct_n (e : ct_E) (t : Nat) (r : ct_R) : ct_R := (upd r.1 t (ct_s e r.1 r.2.2.1 r.2.2.2.1 t).1, upd r.2.1 t (ct_s e r.1 r.2.2.1 r.2.2.2.1 t).2, (ct_s e r.1 r.2.2.1 r.2.2.2.1 t).1, (ct_s e r.1 r.2.2.1 r.2.2.2.1 t).2, sp_gr r.2.2.2.2 (sp_sz (ct_s e r.1 r.2.2.1 r.2.2.2.1 t).1))
def ct (e : ct_E) (P0 H0 : Nat → Int32) : Nat → ct_R
  | 0 => (P0, H0, 0, 0, 0)
  | t + 1 => ct_n e t (ct e P0 H0 t)
/-- how many strokes: until a line closes more than the kerf is wide -/
def st_n (cl : Nat → Int32) (kf : Int32) : Nat → Nat → Nat
  | 0, t => t
  | d + 1, t => if cl t ≤ kf then st_n cl kf d (t + 1) else t
theorem st_n_le (cl : Nat → Int32) (kf : Int32) : ∀ d t, t ≤ st_n cl kf d t ∧ st_n cl kf d t ≤ t + d
  | 0, t => ⟨Nat.le_refl _, Nat.le_refl _⟩
  | d + 1, t => by
    have := st_n_le cl kf d (t + 1)
    unfold st_n
    split <;> omega
theorem ct_s_n {e : ct_E} {P : Nat → Int32} {pl hd : Int32} {t : Nat} (h : ¬ (0 < e.2.2.2.1 ∧ e.2.2.2.1 < sp_sz (pl + ct_b (ct_h e P hd t)))) : ct_s e P pl hd t = (pl + ct_b (ct_h e P hd t), ct_b (ct_h e P hd t)) := if_neg h
theorem ct_s_y {e : ct_E} {P : Nat → Int32} {pl hd : Int32} {t : Nat} (h : 0 < e.2.2.2.1 ∧ e.2.2.2.1 < sp_sz (pl + ct_b (ct_h e P hd t))) : ct_s e P pl hd t = ((if pl + ct_b (ct_h e P hd t) ≤ 0 then -e.2.2.2.1 else e.2.2.2.1), 0) := if_pos h
theorem sw_in (n : Nat) (w : Int32) : (∃ j : Nat, j ≤ n ∧ w = nI j) ∨ (w.toInt < 0 ∨ (n : Int) < w.toInt) := by
  by_cases h1 : 0 ≤ w.toInt
  · by_cases h2 : w.toInt ≤ n
    · exact Or.inl (nI_btw h1 h2)
    · exact Or.inr (Or.inr (by omega))
  · exact Or.inr (Or.inl (by omega))
theorem sw3 (w : Int32) : w = 0 ∨ w = 1 ∨ w = 2 ∨ (w.toInt < 0 ∨ 2 < w.toInt) := by
  rcases sw_in 2 w with ⟨j, hj, rfl⟩ | h
  · rcases (show j = 0 ∨ j = 1 ∨ j = 2 by omega) with rfl | rfl | rfl
    · exact Or.inl rfl
    · exact Or.inr (Or.inl rfl)
    · exact Or.inr (Or.inr (Or.inl rfl))
  · exact Or.inr (Or.inr (Or.inr h))
theorem sw5 (w : Int32) : w = 0 ∨ w = 1 ∨ w = 2 ∨ w = 3 ∨ w = 4 ∨ (w.toInt < 0 ∨ 4 < w.toInt) := by
  rcases sw_in 4 w with ⟨j, hj, rfl⟩ | h
  · rcases (show j = 0 ∨ j = 1 ∨ j = 2 ∨ j = 3 ∨ j = 4 by omega) with rfl | rfl | rfl | rfl | rfl
    · exact Or.inl rfl
    · exact Or.inr (Or.inl rfl)
    · exact Or.inr (Or.inr (Or.inl rfl))
    · exact Or.inr (Or.inr (Or.inr (Or.inl rfl)))
    · exact Or.inr (Or.inr (Or.inr (Or.inr (Or.inl rfl))))
  · exact Or.inr (Or.inr (Or.inr (Or.inr (Or.inr h))))
theorem sw7 (w : Int32) : w = 0 ∨ w = 1 ∨ w = 2 ∨ w = 3 ∨ w = 4 ∨ w = 5 ∨ w = 6 ∨ (w.toInt < 0 ∨ 6 < w.toInt) := by
  rcases sw_in 6 w with ⟨j, hj, rfl⟩ | h
  · rcases (show j = 0 ∨ j = 1 ∨ j = 2 ∨ j = 3 ∨ j = 4 ∨ j = 5 ∨ j = 6 by omega) with rfl | rfl | rfl | rfl | rfl | rfl | rfl
    · exact Or.inl rfl
    · exact Or.inr (Or.inl rfl)
    · exact Or.inr (Or.inr (Or.inl rfl))
    · exact Or.inr (Or.inr (Or.inr (Or.inl rfl)))
    · exact Or.inr (Or.inr (Or.inr (Or.inr (Or.inl rfl))))
    · exact Or.inr (Or.inr (Or.inr (Or.inr (Or.inr (Or.inl rfl)))))
    · exact Or.inr (Or.inr (Or.inr (Or.inr (Or.inr (Or.inr (Or.inl rfl))))))
  · exact Or.inr (Or.inr (Or.inr (Or.inr (Or.inr (Or.inr (Or.inr h))))))
/-- the answers, by the abstract state: τ, n: the teeth; β, L: the board -/
def ap_tooth (τ : sp_T) (n : Nat) (k w : Int32) : Int32 := if ¬ (0 ≤ k.toInt ∧ k.toInt < n) then -1 else if w = 0 then τ 0 k.toInt.toNat else if w = 1 then τ 1 k.toInt.toNat else if w = 2 then τ 2 k.toInt.toNat else if w = 3 then τ 3 k.toInt.toNat else if w = 4 then τ 4 k.toInt.toNat else if w = 5 then sp_tk τ k.toInt.toNat else if w = 6 then sp_pu τ k.toInt.toNat else -2
def ap_saw (τ : sp_T) (n : Nat) (w : Int32) : Int32 := if ¬ (0 ≤ w.toInt ∧ w.toInt ≤ 2) then -2 else if n = 0 then -3 else if w = 0 then sp_sum (sp_pu τ) n else if w = 1 then sp_kf τ n else sp_sum (sp_tk τ) n
def ap_line (β : sp_T) (L : Nat) (t w : Int32) : Int32 := if ¬ (0 ≤ t.toInt ∧ t.toInt < L) then -1 else if w = 0 then β 0 t.toInt.toNat else if w = 1 then β 1 t.toInt.toNat else if w = 2 then β 2 t.toInt.toNat else -2
abbrev ap_hand (a b c : Int32) : Prop := (-9 ≤ a.toInt ∧ a.toInt ≤ 9) ∧ (0 ≤ b.toInt ∧ b.toInt ≤ 9) ∧ (0 ≤ c.toInt ∧ c.toInt ≤ 5)
theorem toNat_nI {j : Nat} (h : j < 2 ^ 31) : (nI j).toInt.toNat = j := by rw [nI_toInt h]; omega
theorem nI_lt_ex {k : Int32} {n : Nat} (h : 0 ≤ k.toInt ∧ k.toInt < n) : ∃ j : Nat, j < n ∧ k = nI j := by
  obtain ⟨j, h1, h2⟩ := nI_btw (x := k) (n := n - 1) h.1 (by omega)
  exact ⟨j, by omega, h2⟩
/-- the cut's results don't hang on what its arrays held before -/
abbrev ct0 (e : ct_E) (t : Nat) : ct_R := ct e (fun _ => 0) (fun _ => 0) t
theorem ct_same (e : ct_E) (P0 H0 : Nat → Int32) : ∀ t, (∀ j, j < t → (ct e P0 H0 t).1 j = (ct0 e t).1 j) ∧ (∀ j, j < t → (ct e P0 H0 t).2.1 j = (ct0 e t).2.1 j) ∧ (ct e P0 H0 t).2.2 = (ct0 e t).2.2
  | 0 => ⟨fun j hj => absurd hj (Nat.not_lt_zero j), fun j hj => absurd hj (Nat.not_lt_zero j), rfl⟩
  | t + 1 => by
    obtain ⟨h1, h2, h3⟩ := ct_same e P0 H0 t
    have hw : ct_w e (ct e P0 H0 t).1 t = ct_w e (ct0 e t).1 t := by
      unfold ct_w
      split
      · exact h1 _ (by omega)
      · rfl
    have hs : ct_s e (ct e P0 H0 t).1 (ct e P0 H0 t).2.2.1 (ct e P0 H0 t).2.2.2.1 t = ct_s e (ct0 e t).1 (ct0 e t).2.2.1 (ct0 e t).2.2.2.1 t := by
      rw [h3]
      unfold ct_s ct_h
      rw [hw]
    refine ⟨fun j hj => ?_, fun j hj => ?_, ?_⟩
    · show upd _ t _ j = upd _ t _ j
      rw [hs]
      unfold upd
      split
      · rfl
      · exact h1 j (by omega)
    · show upd _ t _ j = upd _ t _ j
      rw [hs]
      unfold upd
      split
      · rfl
      · exact h2 j (by omega)
    · show (_, _, _) = ((_, _, _) : Int32 × Int32 × Int32)
      rw [hs, h3]
def sp_mk (τ : sp_T) (k : Nat) : Int32 := τ 1 k * τ 2 k
def sp_fx (τ : sp_T) (k : Nat) : Nat → Bool
  | 0 => decide (0 < sp_tk τ k)
  | x + 1 => sp_fx τ k x && !(decide (0 < sp_tk τ x) && decide (sp_mk τ x = sp_mk τ k))
def sp_mks (τ : sp_T) (n : Nat) : Int32 := sp_sum (fun k => zb (sp_fx τ k k = true)) n
def sp_wh (τ : sp_T) (pl p : Int32) : Nat → Int32
  | 0 => 0
  | k + 1 => sp_wh τ pl p k ||| (if 0 < sp_tk τ k ∧ pl + sp_mk τ k = p then 1 <<< (nI k &&& 31) else 0)
