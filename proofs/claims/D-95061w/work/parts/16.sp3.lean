/-! which sets of flaws fit: how many, the first of the fewest, in how many each flaw is -/
abbrev lk_R : Type := Int32 × Int32 × (Nat → Int32)
def lk_0 (f0 : Bool) (c0 : Nat → Int32) : lk_R := if f0 = true then (1, 0, c0) else (0, -9, c0)
def lk_1 (f1 : Nat → Bool) (s : lk_R) : Nat → lk_R
  | 0 => s
  | q + 1 => if f1 q = true then ((lk_1 f1 s q).1 + 1, (if (lk_1 f1 s q).2.1 < 0 then 1 <<< (nI q &&& 31) else (lk_1 f1 s q).2.1), upd (lk_1 f1 s q).2.2 q ((lk_1 f1 s q).2.2 q + 1)) else lk_1 f1 s q
def lk_i (one : Bool) (r q : Nat) (p : lk_R) : lk_R := (p.1 + 1, (if one = false ∧ p.2.1 < 0 then (1 <<< (nI q &&& 31)) ||| (1 <<< (nI r &&& 31)) else p.2.1), upd (upd p.2.2 q (p.2.2 q + 1)) r (upd p.2.2 q (p.2.2 q + 1) r + 1))
def lk_2 (f : Nat → Bool) (one : Bool) (r : Nat) (s : lk_R) : Nat → lk_R
  | 0 => s
  | q + 1 => if f q = true then lk_i one r q (lk_2 f one r s q) else lk_2 f one r s q
def lk_3 (f2 : Nat → Nat → Bool) (one : Bool) (s : lk_R) : Nat → lk_R
  | 0 => s
  | r + 1 => lk_2 (fun q => f2 q (r + 1)) one (r + 1) (lk_3 f2 one s r) (r + 1)
def lk_one (s : lk_R) : Bool := decide (0 ≤ s.2.1)
def lk (f0 : Bool) (f1 : Nat → Bool) (f2 : Nat → Nat → Bool) (m : Nat) (c0 : Nat → Int32) : lk_R := lk_3 f2 (lk_one (lk_1 f1 (lk_0 f0 c0) m)) (lk_1 f1 (lk_0 f0 c0) m) (m - 1)
/-- mending: what an act asks, what it does, what it costs -/
def ac_ok (τ : sp_T) (k : Nat) : Nat → Bool
  | 0 => decide (τ 4 k < 8) && decide (0 < τ 3 k)
  | 1 => decide (0 < τ 0 k) && decide (0 < τ 2 k)
  | 2 => decide (0 < τ 0 k) && decide (τ 2 k < 9)
  | _ => decide (0 < τ 3 k)
def ac_t (τ : sp_T) (k : Nat) : Nat → sp_T
  | 0 => sp_ch (sp_ch τ k 2 (τ 4 k + 2)) k 1 (τ 3 k - 1)
  | 1 => sp_ch τ k 0 (τ 2 k - 1)
  | 2 => sp_ch τ k 0 (τ 2 k + 1)
  | _ => sp_ch τ k 1 0
def ac_c (a : Nat) : Int32 := if a = 0 then 2 else if a = 3 then 4 else 1
/-- the best so far: its cost (below 0: none), how many acts, the first, the second -/
abbrev lo_R : Type := Int32 × Int32 × Int32 × Int32
def lo_k (ok : Bool) (co mn a b : Int32) (s : lo_R) : lo_R := if ok = true ∧ (s.1 < 0 ∨ co < s.1 ∨ (co = s.1 ∧ mn < s.2.1)) then (co, mn, a, b) else s
def cf_ok (c : cf_C) (τ : sp_T) (m : Int32) : Bool := decide (cf_n c τ = c.2.1) && decide (cf_o c τ ≤ m)
def mn_2 (c : cf_C) (τ : sp_T) (m : Int32) (k a : Nat) (s : lo_R) : Nat → lo_R
  | 0 => s
  | x + 1 => if ac_ok τ (x / 4) (x % 4) = true then lo_k (cf_ok c (ac_t τ (x / 4) (x % 4)) m) (ac_c a + ac_c (x % 4)) 2 (nI (10 * k + a)) (nI (10 * (x / 4) + x % 4)) (mn_2 c τ m k a s x) else mn_2 c τ m k a s x
def mn_1 (c : cf_C) (τ : sp_T) (m : Int32) (s : lo_R) : Nat → lo_R
  | 0 => s
  | x + 1 => if ac_ok τ (x / 4) (x % 4) = true then mn_2 c (ac_t τ (x / 4) (x % 4)) m (x / 4) (x % 4) (lo_k (cf_ok c (ac_t τ (x / 4) (x % 4)) m) (ac_c (x % 4)) 1 (nI (10 * (x / 4) + x % 4)) (-9) (mn_1 c τ m s x)) (4 * c.1) else mn_1 c τ m s x
def mn (c : cf_C) (τ : sp_T) (m : Int32) : lo_R := mn_1 c τ m (lo_k (cf_ok c τ m) 0 0 (-9) (-9) (-9, 0, -9, -9)) (4 * c.1)
def ap_mend (c : cf_C) (τ : sp_T) (mm q : Int32) : Int32 := if ¬ (0 ≤ mm.toInt ∧ mm.toInt ≤ 9999) then -2 else if ¬ (-2 ≤ q.toInt ∧ q.toInt ≤ 1) then -1 else if c.1 = 0 ∨ c.2.1 = 0 then -3 else if (mn c τ mm).1 < 0 then -9 else if q = -1 then (mn c τ mm).1 else if q = -2 then (mn c τ mm).2.1 else if q = 0 then (mn c τ mm).2.2.1 else (mn c τ mm).2.2.2
