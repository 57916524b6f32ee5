/-! logs: orders of cuts -/
def bt1 (d : Int32) (k : Nat) : Prop := (d >>> (nI k &&& 31)) &&& 1 = 1
theorem bt1_ne (d : Int32) (k : Nat) : ¬ (d >>> (nI k &&& 31)) &&& 1 = 0 ↔ bt1 d k := by
  unfold bt1
  rw [pk_and (m := 1) (d >>> (nI k &&& 31)) 1 (by decide)]
  have h : (d >>> (nI k &&& 31)).toBitVec.toNat % 2 ^ 1 < 2 := Nat.mod_lt _ (by decide)
  generalize (d >>> (nI k &&& 31)).toBitVec.toNat % 2 ^ 1 = z at h
  rcases (show z = 0 ∨ z = 1 by omega) with rfl | rfl <;> decide
/-- 7 taken out j times -/
def dv7 (o : Int32) : Nat → Int32
  | 0 => o
  | j + 1 => dv7 o j / 7
def ci (o : Int32) (j : Nat) : Int32 := dv7 o j - dv7 o j / 7 * 7
theorem dv7_n {o : Nat} (h : o < 2 ^ 31) : ∀ j, dv7 (nI o) j = nI (o / 7 ^ j)
  | 0 => by rw [Nat.pow_zero, Nat.div_one]; rfl
  | j + 1 => by
    show dv7 (nI o) j / 7 = _
    rw [dv7_n h j, Nat.pow_succ, ← Nat.div_div_eq_div_mul]
    exact pk_div (d := 7) (Nat.lt_of_le_of_lt (Nat.div_le_self _ _) h) (by decide) (by decide)
theorem ci_n {o : Nat} (h : o < 2 ^ 31) (j : Nat) : ci (nI o) j = nI (o / 7 ^ j % 7) := by
  unfold ci
  rw [dv7_n h j]
  exact pk_rem (d := 7) (Nat.lt_of_le_of_lt (Nat.div_le_self _ _) h) (by decide) (by decide)

/-- what lies left of a cut at x, down to the next cut -/
def dl (r : Nat → Int32) (d : Int32) : Nat → Int32
  | 0 => r 0
  | x + 1 => r (x + 1) + (if (d >>> (nI x &&& 31)) &&& 1 = 1 then 0 else dl r d x)
/-- what lies right of it, from x on, up to the next cut; e more slabs -/
def dr (r : Nat → Int32) (d : Int32) : Nat → Nat → Int32
  | 0, x => r x
  | e + 1, x => r x + (if (d >>> (nI x &&& 31)) &&& 1 = 1 then 0 else dr r d e (x + 1))
/-- a cut's strain in the piece that it is in -/
def df (r : Nat → Int32) (s : Nat) (d : Int32) (c : Nat) : Int32 := sp_sz (dl r d c - dr r d (s - 2 - c) (c + 1))
/-- what an order costs; -9: it is none -/
def co (r : Nat → Int32) (s o : Nat) : Nat → Nat → Int32 → Int32 → Int32
  | 0, _, _, sum => sum
  | e + 1, q, d, sum => if s - 2 < o / 7 ^ e % 7 ∨ (d >>> (nI (o / 7 ^ e % 7) &&& 31)) &&& 1 = 1 then -9 else co r s o e (q + 1) (d ||| (1 <<< (nI (o / 7 ^ e % 7) &&& 31))) (sum + df r s d (o / 7 ^ e % 7))
/-- the best of the first so many orders: what it costs, which -/
def bo (r : Nat → Int32) (s : Nat) : Nat → Int32 × Int32
  | 0 => (-9, -9)
  | o + 1 => if 0 ≤ co r s o (s - 1) 0 0 0 ∧ ((bo r s o).1 < 0 ∨ co r s o (s - 1) 0 0 0 < (bo r s o).1) then (co r s o (s - 1) 0 0 0, nI o) else bo r s o
theorem dl_c {r r' : Nat → Int32} {d : Int32} : ∀ {c : Nat}, (∀ j, j ≤ c → r j = r' j) → dl r d c = dl r' d c
  | 0, h => h 0 (Nat.le_refl _)
  | c + 1, h => by
    show r (c + 1) + _ = r' (c + 1) + _
    rw [h (c + 1) (Nat.le_refl _), dl_c (c := c) (fun j hj => h j (by omega))]
theorem dr_c {r r' : Nat → Int32} {d : Int32} : ∀ {e x : Nat}, (∀ j, j ≤ x + e → r j = r' j) → dr r d e x = dr r' d e x
  | 0, x, h => h x (by omega)
  | e + 1, x, h => by
    show r x + _ = r' x + _
    rw [h x (by omega), dr_c (e := e) (x := x + 1) (fun j hj => h j (by omega))]
theorem co_c {r r' : Nat → Int32} {s o : Nat} (hs : 2 ≤ s) (h : ∀ j, j < s → r j = r' j) : ∀ {e q : Nat} {d sum : Int32}, co r s o e q d sum = co r' s o e q d sum
  | 0, _, _, _ => rfl
  | e + 1, q, d, sum => by
    unfold co
    split
    · rfl
    · rename_i hc
      have hc2 : ¬ s - 2 < o / 7 ^ e % 7 := fun z => hc (Or.inl z)
      rw [show df r s d (o / 7 ^ e % 7) = df r' s d (o / 7 ^ e % 7) from by
        unfold df
        rw [dl_c (fun j hj => h j (by omega)), dr_c (fun j hj => h j (by omega))]]
      exact co_c hs h
theorem bo_c {r r' : Nat → Int32} {s : Nat} (hs : 2 ≤ s) (h : ∀ j, j < s → r j = r' j) : ∀ {o : Nat}, bo r s o = bo r' s o
  | 0 => rfl
  | o + 1 => by
    unfold bo
    rw [bo_c hs h, co_c hs h]
/-- the answer about a log: x: its slabs, n of them; bad: the first that isn't between -9 and 9 -/
def ap_log (x : Nat → Int32) (n : Nat) (q : Int32) : Int32 :=
  if ¬ (2 ≤ n ∧ n ≤ 7) then -2 else if ¬ (st_n (fun p => if -9 ≤ (x p).toInt ∧ (x p).toInt ≤ 9 then 0 else 1) 0 n 0 = n) then -2 else if ¬ (-1 ≤ q.toInt ∧ q.toInt ≤ 5) then -1 else
  if q.toInt < 0 then (bo x n (7 ^ (n - 1))).1 else if q.toInt < n - 1 then ci (bo x n (7 ^ (n - 1))).2 (n - 2 - q.toInt.toNat) else -9
