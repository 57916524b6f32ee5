/-! texts: x p: the cell at p, N cells -/
def tx_d (x : Nat → Int32) (N p : Nat) : Int32 := if p < N then x p - 48 else -9
def tx_ok (x : Nat → Int32) (N p : Nat) (lo hi : Int) : Bool := decide (lo ≤ (tx_d x N p).toInt) && decide ((tx_d x N p).toInt ≤ hi)
theorem tx_ok_iff {x : Nat → Int32} {N p : Nat} {lo hi : Int} : tx_ok x N p lo hi = true ↔ lo ≤ (tx_d x N p).toInt ∧ (tx_d x N p).toInt ≤ hi := by
  unfold tx_ok
  rw [Bool.and_eq_true, decide_eq_true_eq, decide_eq_true_eq]
theorem tx_lt {x : Nat → Int32} {N p : Nat} {lo hi : Int} (h0 : 0 ≤ lo) (h : tx_ok x N p lo hi = true) : p < N := by
  rw [tx_ok_iff] at h
  unfold tx_d at h
  by_cases hp : p < N
  · exact hp
  · rw [if_neg hp] at h
    have := h.1
    have e : (-9 : Int32).toInt = -9 := by decide
    rw [e] at this
    omega
/-- how many of the three cells from k on are figures -/
def dgs (ok : Nat → Bool) : Nat → Nat → Nat
  | 0, k => k
  | d + 1, k => if ok k = true then dgs ok d (k + 1) else k
theorem dgs_le (ok : Nat → Bool) : ∀ d k, k ≤ dgs ok d k ∧ dgs ok d k ≤ k + d
  | 0, k => ⟨Nat.le_refl _, Nat.le_refl _⟩
  | d + 1, k => by
    have := dgs_le ok d (k + 1)
    unfold dgs
    split <;> omega
theorem dgs_ok (ok : Nat → Bool) : ∀ d k j, k ≤ j → j < dgs ok d k → ok j = true
  | 0, k, j, h1, h2 => by unfold dgs at h2; omega
  | d + 1, k, j, h1, h2 => by
    unfold dgs at h2
    split at h2
    · rename_i hk
      by_cases hj : j = k
      · rw [hj]; exact hk
      · exact dgs_ok ok d (k + 1) j (by omega) h2
    · omega
def nuU (f : Nat → Int32) (b : Nat) (g : Nat → Int32) : Nat → Nat → Int32
  | 0 => f
  | j + 1 => upd (nuU f b g j) (b + j) (g j)
theorem nuU_in (f : Nat → Int32) (b : Nat) (g : Nat → Int32) : ∀ d j, j < d → nuU f b g d (b + j) = g j
  | 0, j, h => absurd h (Nat.not_lt_zero j)
  | d + 1, j, h => by
    show upd _ (b + d) _ (b + j) = g j
    unfold upd
    by_cases hj : j = d
    · rw [hj, if_pos rfl]
    · rw [if_neg (by omega)]
      exact nuU_in f b g d j (by omega)
theorem nuU_lo (f : Nat → Int32) (b : Nat) (g : Nat → Int32) : ∀ d j, j < b → nuU f b g d j = f j
  | 0, j, h => rfl
  | d + 1, j, h => by
    show upd _ (b + d) _ j = f j
    unfold upd
    rw [if_neg (by omega)]
    exact nuU_lo f b g d j h
def tx_s (x : Nat → Int32) (N p : Nat) : Int32 := if p < N then (if x p = 108 then -1 else if x p = 99 then 0 else if x p = 114 then 1 else -9) else -9
theorem tx_slt {x : Nat → Int32} {N p : Nat} (h : ¬ tx_s x N p = -9) : p < N := by
  by_cases hp : p < N
  · exact hp
  · exact absurd (if_neg hp) h
abbrev tx_3 (x : Nat → Int32) (N p : Nat) : Nat := dgs (fun k => tx_ok x N (p + k) 0 9) 3 0
def tx_h (x : Nat → Int32) (N p : Nat) (s : Int32) : Bool := decide (¬ s = 0) && (decide (p < N) && decide (x p = 104))
/-- a tooth is laid into a row of teeth -/
def tx_t (T : sp_T) (m : Nat) (kd sd b h e : Int32) : sp_T := fun i j => if j = m then (match i with | 0 => kd | 1 => sd | 2 => b | 3 => h | 4 => e | _ => 0) else T i j
abbrev rs_R : Type := Bool × Nat × Nat × sp_T
/-- a saw is read: p: where it is, m: how many teeth; whether it is one, where it is wrong -/
def rs (x : Nat → Int32) (N : Nat) : Nat → Nat → Nat → sp_T → rs_R
  | 0, p, m, T => (false, p, m, T)
  | f + 1, p, m, T =>
    if ¬ (m = 0 ∨ p < N) then (true, p, m, T) else
    if 0 < m ∧ (m = 8 ∨ ¬ x p = 59) then (false, p, m, T) else
    if tx_s x N (if 0 < m then p + 1 else p) = -9 then (false, (if 0 < m then p + 1 else p), m, T) else
    if ¬ tx_3 x N ((if 0 < m then p + 1 else p) + 1) = 3 then (false, (if 0 < m then p + 1 else p) + 1 + tx_3 x N ((if 0 < m then p + 1 else p) + 1), m, T) else
    rs x N f ((if 0 < m then p + 1 else p) + 4 + (if tx_h x N ((if 0 < m then p + 1 else p) + 4) (tx_s x N (if 0 < m then p + 1 else p)) = true then 1 else 0)) (m + 1)
      (tx_t T m (if tx_s x N (if 0 < m then p + 1 else p) = 0 then 0 else if tx_h x N ((if 0 < m then p + 1 else p) + 4) (tx_s x N (if 0 < m then p + 1 else p)) = true then 2 else 1) (tx_s x N (if 0 < m then p + 1 else p)) (tx_d x N ((if 0 < m then p + 1 else p) + 1)) (tx_d x N ((if 0 < m then p + 1 else p) + 2)) (tx_d x N ((if 0 < m then p + 1 else p) + 3)))
/-- the part behind the sign -/
def rs2 (x : Nat → Int32) (N f q m : Nat) (T : sp_T) : rs_R :=
    if tx_s x N q = -9 then (false, q, m, T) else
    if ¬ tx_3 x N (q + 1) = 3 then (false, q + 1 + tx_3 x N (q + 1), m, T) else
    rs x N f (q + 4 + (if tx_h x N (q + 4) (tx_s x N q) = true then 1 else 0)) (m + 1)
      (tx_t T m (if tx_s x N q = 0 then 0 else if tx_h x N (q + 4) (tx_s x N q) = true then 2 else 1) (tx_s x N q) (tx_d x N (q + 1)) (tx_d x N (q + 2)) (tx_d x N (q + 3)))
theorem rs_eq (x : Nat → Int32) (N f p m : Nat) (T : sp_T) : rs x N (f + 1) p m T = if ¬ (m = 0 ∨ p < N) then (true, p, m, T) else if 0 < m ∧ (m = 8 ∨ ¬ x p = 59) then (false, p, m, T) else rs2 x N f (if 0 < m then p + 1 else p) m T := rfl
/-- a board is read -/
def rb (x : Nat → Int32) (N : Nat) : Nat → Nat → Nat → sp_T → rs_R
  | 0, p, m, T => (false, p, m, T)
  | f + 1, p, m, T =>
    if ¬ (m = 0 ∨ p < N) then (true, p, m, T) else
    if m = 24 ∨ ¬ tx_ok x N p 1 9 = true then (false, p, m, T) else
    if ¬ tx_ok x N (p + 1) 0 8 = true then (false, p + 1, m, T) else
    if ¬ tx_ok x N (p + 2) 0 9 = true then (false, p + 2, m, T) else
    rb x N f (p + 3) (m + 1) (tx_t T m (tx_d x N p) (tx_d x N (p + 1) - 4) (tx_d x N (p + 2)) 0 0)
