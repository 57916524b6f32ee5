/-! sheets: sz: a sheet's length (below 0: none), ln: its lane -/
/-- what taking n cells from i of a sheet on is barred with: 0 not, 1 no such sheet, 2 no such lane, 3 another lane, 4 nothing there, 5 a size below 0, 6 beyond -/
def ba_c (sz ln : Nat → Int32) (k la i n : Int32) : Nat :=
  if ¬ (0 ≤ k.toInt ∧ k.toInt ≤ 3) then 1 else if ¬ (0 ≤ la.toInt ∧ la.toInt ≤ 2) then 2 else
  if 0 ≤ sz k.toInt.toNat ∧ ¬ ln k.toInt.toNat = la then 3 else if sz k.toInt.toNat < 0 then 4 else if n.toInt < 0 then 5 else
  if i.toInt < 0 ∨ n.toInt < 0 ∨ (sz k.toInt.toNat).toInt < i.toInt + n.toInt then 6 else 0
def ba_v (c : Nat) : Int32 := if c = 0 then 0 else if c = 1 then -1 else if c = 2 then -2 else if c = 3 then -12 else if c = 4 then -11 else if c = 5 then -14 else -13
def ba_f (c : Nat) : Int32 := if c = 3 then 2 else if c = 4 then 1 else if c = 5 then 4 else if c = 6 then 3 else 0
theorem ba_neg {c : Nat} (h : ¬ c = 0) : ba_v c < 0 := by
  unfold ba_v
  rw [if_neg h]
  repeat' split
  all_goals decide
theorem i64_add {a b : Int32} : (a.toInt64 + b.toInt64).toInt = a.toInt + b.toInt := by
  rw [Int64.toInt_add, i64_i, i64_i]
  have h1 := Int32.toInt_lt a
  have h2 := Int32.toInt_lt b
  have h3 := Int32.le_toInt a
  have h4 := Int32.le_toInt b
  rw [Int.bmod_def]
  omega
/-- a tooth's telling -/
def ap_tr (t : Int32) (n : Int32) : Int32 := 31 * t + n
def sh_c (k la n : Int32) : Nat := if ¬ (0 ≤ k.toInt ∧ k.toInt ≤ 3) then 1 else if ¬ (0 ≤ la.toInt ∧ la.toInt ≤ 2) ∨ 80 < n.toInt then 2 else if n.toInt < 0 then 5 else 0
def pu_c (sz : Nat → Int32) (k i : Int32) : Nat := if ¬ (0 ≤ k.toInt ∧ k.toInt ≤ 3) then 1 else if sz k.toInt.toNat < 0 then 4 else if 0 ≤ i.toInt ∧ i.toInt < (sz k.toInt.toNat).toInt then 0 else 6
def ce_c (sz ln : Nat → Int32) (k i la : Int32) : Nat := if ¬ ((0 ≤ k.toInt ∧ k.toInt ≤ 3) ∧ (0 ≤ la.toInt ∧ la.toInt ≤ 2)) then 1 else if 0 ≤ sz k.toInt.toNat ∧ ¬ ln k.toInt.toNat = la then 3 else if sz k.toInt.toNat < 0 then 4 else if 0 ≤ i.toInt ∧ i.toInt < (sz k.toInt.toNat).toInt then 0 else 6
def cp_c (sz ln : Nat → Int32) (k i o j n : Int32) : Nat := if ¬ ((0 ≤ k.toInt ∧ k.toInt ≤ 3) ∧ (0 ≤ o.toInt ∧ o.toInt ≤ 3)) then 1 else if sz k.toInt.toNat < 0 ∨ sz o.toInt.toNat < 0 then 4 else if ¬ ln k.toInt.toNat = ln o.toInt.toNat then 3 else
  if (i.toInt < 0 ∨ n.toInt < 0 ∨ (sz k.toInt.toNat).toInt < i.toInt + n.toInt) ∨ (j.toInt < 0 ∨ n.toInt < 0 ∨ (sz o.toInt.toNat).toInt < j.toInt + n.toInt) then 6 else 0
/-- zeros from a on, n of them -/
def sh_z (f : Nat → Int32) (a n : Nat) : Nat → Int32 := fun p => if a ≤ p ∧ p < a + n then 0 else f p
theorem sh_z0 (f : Nat → Int32) (a : Nat) : sh_z f a 0 = f := by funext p; unfold sh_z; rw [if_neg (by omega)]
theorem sh_zs (f : Nat → Int32) (a n : Nat) : upd (sh_z f a n) (a + n) 0 = sh_z f a (n + 1) := by
  funext p; unfold upd sh_z
  by_cases h : p = a + n
  · rw [if_pos h, if_pos (by omega)]
  · rw [if_neg h]
    by_cases h2 : a ≤ p ∧ p < a + n
    · rw [if_pos h2, if_pos (by omega)]
    · rw [if_neg h2, if_neg (by omega)]
/-- a value as a lane holds it -/
def sh_n (la v : Int32) : Int32 := if la = 0 then v.toInt8.toInt32 else if la = 1 then v.toInt16.toInt32 else v
theorem cpy_0 (f g : Nat → Int32) (a b : Nat) : va_cpy f g a b 0 = g := by funext p; unfold va_cpy; rw [if_neg (by omega)]
theorem cpy_s (f g : Nat → Int32) (a b n : Nat) : upd (va_cpy f g a b n) (b + n) (f (a + n)) = va_cpy f g a b (n + 1) := by
  funext p; unfold upd va_cpy
  by_cases h : p = b + n
  · rw [if_pos h, if_pos (by omega), h]
    congr 1
    omega
  · rw [if_neg h]
    by_cases h2 : b ≤ p ∧ p < b + n
    · rw [if_pos h2, if_pos (by omega)]
    · rw [if_neg h2, if_neg (by omega)]
theorem nI_ma (a b c : Nat) : nI a * nI b + nI c = nI (a * b + c) := by rw [pk_mul, nI_add]
theorem nI_le80 {n : Int32} (h : n ≤ 80) : n.toInt ≤ 80 := by rw [Int32.le_iff_toInt_le] at h; exact h
theorem nI_gt80 {n : Int32} (h : ¬ n ≤ 80) : 80 < n.toInt := by rw [Int32.le_iff_toInt_le] at h; have : ¬ n.toInt ≤ 80 := h; omega
