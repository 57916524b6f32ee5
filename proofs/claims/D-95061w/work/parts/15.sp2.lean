/-! the cut by the teeth alone: c says all else: how many teeth, lines, late, lean, steers, fence, the board (hard, grain, closes) -/
abbrev cf_C : Type := Nat × Nat × Nat × Int32 × Int32 × Int32 × sp_T
abbrev cf_e (c : cf_C) (τ : sp_T) : ct_E := (sp_sum (sp_pu τ) c.1, c.2.2.2.1, c.2.2.2.2.1, c.2.2.2.2.2.1, c.2.2.1, c.2.2.2.2.2.2)
def cf_n (c : cf_C) (τ : sp_T) : Nat := if c.1 = 0 then 0 else st_n (c.2.2.2.2.2.2 2) (sp_kf τ c.1) c.2.1 0
def cf_p (c : cf_C) (τ : sp_T) (j : Nat) : Int32 := (ct0 (cf_e c τ) (cf_n c τ)).1 j
def cf_h (c : cf_C) (τ : sp_T) (j : Nat) : Int32 := (ct0 (cf_e c τ) (cf_n c τ)).2.1 j
def cf_o (c : cf_C) (τ : sp_T) : Int32 := (ct0 (cf_e c τ) (cf_n c τ)).2.2.2.2
abbrev cf_ln (c : cf_C) (v : Int32) : cf_C := (c.1, c.2.1, c.2.2.1, v, c.2.2.2.2.1, c.2.2.2.2.2.1, c.2.2.2.2.2.2)
abbrev cf_ss (c : cf_C) (v : Int32) : cf_C := (c.1, c.2.1, c.2.2.1, c.2.2.2.1, v, c.2.2.2.2.2.1, c.2.2.2.2.2.2)
/-- the leans by size: 0, -1, 1, -2 .. -/
def sg_l (x : Nat) : Int32 := if x % 2 = 1 then (-(nI x + 1)) / 2 else nI x / 2
/-- the best of the first x tries: which, how far off -/
def sg (f : Nat → Int32) (it : Nat → Int32) : Nat → Int32 × Int32
  | 0 => (0, -9)
  | x + 1 => if (sg f it x).2 < 0 ∨ f x < (sg f it x).2 then (it x, f x) else sg f it x
def ap_str (c : cf_C) (τ : sp_T) (w : Int32) : Int32 :=
  if ¬ (0 ≤ w.toInt ∧ w.toInt ≤ 3) then -2 else if c.1 = 0 ∨ c.2.1 = 0 then -3 else
    if w = 0 then (sg (fun x => cf_o (cf_ln c (sg_l x)) τ) sg_l 19).1 else if w = 1 then (sg (fun x => cf_o (cf_ss c (nI x)) τ) nI 10).1 else
    if w = 2 then (sg (fun x => cf_o (cf_ln c (sg_l x)) τ) sg_l 19).2 else (sg (fun x => cf_o (cf_ss c (nI x)) τ) nI 10).2
/-- a tooth's bend, height, edge (w = 0, 1, 2) becomes v -/
def sp_ch (τ : sp_T) (k w : Nat) (v : Int32) : sp_T := fun i j => if i = w + 2 ∧ j = k then v else τ i j
/-- do the first x readings fit -/
def cf_ft (c : cf_C) (τ : sp_T) (rl rp : Nat → Int32) : Nat → Bool
  | 0 => true
  | x + 1 => cf_ft c τ rl rp x && (decide (rl x < nI (cf_n c τ)) && decide (cf_p c τ (rl x).toInt.toNat = rp x))
/-- a flaw is put into the teeth -/
def sp_fl (fo fw ft : Nat → Int32) (τ : sp_T) (q : Nat) : sp_T := sp_ch τ (fo q).toInt.toNat (fw q).toInt.toNat (ft q)
