/-! PLAIN WORDS that both sides are told in -/
/-- a truth value as the machine has it -/
def zb (P : Prop) [Decidable P] : Int32 := if P then 1 else 0
theorem zb_t {P : Prop} [Decidable P] (h : P) : zb P = 1 := if_pos h
theorem zb_f {P : Prop} [Decidable P] (h : ¬ P) : zb P = 0 := if_neg h
theorem zb_0 {P : Prop} [Decidable P] : zb P = 0 ↔ ¬ P := by
  unfold zb; split <;> simp_all
theorem zb_n {P : Prop} [Decidable P] : ¬ zb P = 0 ↔ P := by
  unfold zb; split <;> simp_all
theorem zb_nb {P : Prop} [Decidable P] : narrow .boolean (.int (zb P)) = .int (zb P) := by
  unfold zb; split
  · exact narrow_b1
  · exact narrow_b0
theorem zb_iff {P Q : Prop} [Decidable P] [Decidable Q] (h : P ↔ Q) : zb P = zb Q := by
  unfold zb; simp only [h]
/-- going up: a loop's head -/
theorem up_ind {P : Nat → Prop} {n : Nat} (h : ∀ k, k ≤ n → (k < n → P (k + 1)) → P k) : ∀ k, k ≤ n → P k := by
  have : ∀ d k, k + d = n → P k := by
    intro d
    induction d with
    | zero => intro k hk; exact h k (by omega) (fun q => absurd q (by omega))
    | succ d ih => intro k hk; exact h k (by omega) (fun _ => ih (k + 1) (by omega))
  intro k hk
  exact this (n - k) k (by omega)
theorem nI_ltT {a b : Nat} (h : nI a < nI b) (ha : a < 2 ^ 31) (hb : b < 2 ^ 31) : a < b := (nI_ltI ha hb).mp h
theorem nI_leT {a b : Nat} (h : nI a ≤ nI b) (ha : a < 2 ^ 31) (hb : b < 2 ^ 31) : a ≤ b := (nI_leI ha hb).mp h
/-- an int between 0 and n is a number -/
theorem nI_btw {x : Int32} {n : Nat} (h1 : 0 ≤ x.toInt) (h2 : x.toInt ≤ n) : ∃ j : Nat, j ≤ n ∧ x = nI j := by
  refine ⟨x.toInt.toNat, by omega, ?_⟩
  have hb : x.toInt < 2 ^ 31 := Int32.toInt_lt x
  apply Int32.toInt_inj.mp
  rw [nI_toInt (by omega)]
  omega
theorem nI_ti {n : Nat} (h : n < 2 ^ 31) : (nI n).toInt = (n : Int) := nI_toInt h
theorem i64_i {x : Int32} : (x.toInt64).toInt = x.toInt := Int32.toInt_toInt64 x
/-- a tooth: kind, side, bend, height, edge by i = 0 .. 4 -/
abbrev sp_T : Type := Nat → Nat → Int32
def sp_tk (τ : sp_T) (k : Nat) : Int32 := if 0 < τ 3 k * τ 4 k ∧ τ 0 k = 2 then τ 3 k * τ 4 k + 2 else τ 3 k * τ 4 k
def sp_pu (τ : sp_T) (k : Nat) : Int32 := sp_tk τ k * τ 2 k * τ 1 k
def sp_sum (f : Nat → Int32) : Nat → Int32
  | 0 => 0
  | k + 1 => sp_sum f k + f k
def sp_gr (a b : Int32) : Int32 := if a ≤ b then b else a
def sp_sz (a : Int32) : Int32 := if 0 ≤ a then a else -a
/-- the widest bend among the first k teeth that take and stand left (right) -/
def sp_kl (τ : sp_T) : Nat → Int32
  | 0 => 0
  | k + 1 => if 0 < sp_tk τ k ∧ τ 1 k < 0 then sp_gr (sp_kl τ k) (τ 2 k) else sp_kl τ k
def sp_kr (τ : sp_T) : Nat → Int32
  | 0 => 0
  | k + 1 => if 0 < sp_tk τ k ∧ 0 < τ 1 k then sp_gr (sp_kr τ k) (τ 2 k) else sp_kr τ k
def sp_kf (τ : sp_T) (n : Nat) : Int32 := 1 + sp_kl τ n + sp_kr τ n
theorem vi {a b : Int32} (h : a = b) : some (Value.int a) = some (Value.int b) := by rw [h]
theorem vl {a b : Int64} (h : a = b) : some (Value.long a) = some (Value.long b) := by rw [h]
