section
/-! WeightTables with n = 2, in naturals: lists for the arrays, the search of shareOf as a function with fuel and its own checks -/
def wt_gt : List Nat → Nat → Nat
  | [], _ => 0
  | x :: _, 0 => x
  | _ :: t, i + 1 => wt_gt t i
def wt_st : List Nat → Nat → Nat → List Nat
  | [], _, _ => []
  | _ :: t, 0, v => v :: t
  | x :: t, i + 1, v => x :: wt_st t i v
theorem wt_st_len (l : List Nat) : ∀ (i v : Nat), (wt_st l i v).length = l.length := by
  induction l with
  | nil => intro i v; rfl
  | cons x t ih =>
    intro i v
    cases i with
    | zero => rfl
    | succ i => show (wt_st t i v).length + 1 = t.length + 1; rw [ih]
theorem wt_gt_same (l : List Nat) : ∀ (i v : Nat), i < l.length → wt_gt (wt_st l i v) i = v := by
  induction l with
  | nil => intro i v h; exact absurd h (Nat.not_lt_zero i)
  | cons x t ih =>
    intro i v h
    cases i with
    | zero => rfl
    | succ i => exact ih i v (Nat.lt_of_succ_lt_succ h)
theorem wt_gt_other (l : List Nat) : ∀ (i j v : Nat), j ≠ i → wt_gt (wt_st l i v) j = wt_gt l j := by
  induction l with
  | nil => intro i j v h; rfl
  | cons x t ih =>
    intro i j v h
    cases i with
    | zero =>
      cases j with
      | zero => exact absurd rfl h
      | succ j => rfl
    | succ i =>
      cases j with
      | zero => rfl
      | succ j => exact ih i j v (fun e => h (congrArg Nat.succ e))
def wt_z : Nat → List Nat
  | 0 => []
  | n + 1 => 0 :: wt_z n
theorem wt_z_len (n : Nat) : (wt_z n).length = n := by
  induction n with
  | zero => rfl
  | succ n ih => show (wt_z n).length + 1 = n + 1; rw [ih]
theorem wt_z_gt (n : Nat) : ∀ i, wt_gt (wt_z n) i = 0 := by
  induction n with
  | zero => intro i; rfl
  | succ n ih =>
    intro i
    cases i with
    | zero => rfl
    | succ i => exact ih i
/-- does letter 1 fit (r: the letter to the right, a: the one above, p: how often 1 is used, b: its room) -/
def wt_f1 (r a p b : Nat) : Prop := (r = 0 ∨ 1 ≤ r) ∧ a < 1 ∧ p < b
/-- does letter 2 fit -/
def wt_f2 (r a p q b : Nat) : Prop := (r = 0 ∨ 2 ≤ r) ∧ a < 2 ∧ q < b ∧ q < p
abbrev wt_f1d (r a p b : Nat) : Bool := (Nat.beq r 0 || Nat.ble 1 r) && (Nat.blt a 1 && Nat.blt p b)
abbrev wt_f2d (r a p q b : Nat) : Bool := (Nat.beq r 0 || Nat.ble 2 r) && (Nat.blt a 2 && (Nat.blt q b && Nat.blt q p))
theorem wt_f1_iff {r a p b : Nat} : wt_f1d r a p b = true ↔ wt_f1 r a p b := by
  simp [wt_f1d, wt_f1, Nat.blt, Nat.succ_le_iff]
theorem wt_f2_iff {r a p q b : Nat} : wt_f2d r a p q b = true ↔ wt_f2 r a p q b := by
  simp [wt_f2d, wt_f2, Nat.blt]
  omega
/-- the next letter behind c -/
def wt_nl (c r a p q b1 b2 : Nat) : Nat :=
  if c = 0 then (if wt_f1d r a p b1 = true then 1 else if wt_f2d r a p q b2 = true then 2 else 0)
  else if c = 1 then (if wt_f2d r a p q b2 = true then 2 else 0)
  else 0
def wt_u0 (u : List Nat) (c : Nat) : List Nat := if c = 0 then u else wt_st u c (wt_gt u c - 1)
def wt_g0 (g : List Nat) (c p : Nat) : List Nat := if c = 0 then g else wt_st g p 0
def wt_ab (g : List Nat) (r c : Nat) : Nat := if r = 0 then 0 else wt_gt g c
/-- what the search asks of its state at a box -/
def wt_chk (k r c x : Nat) (u u' g' : List Nat) : Prop :=
  k < 9 ∧ r < 2 ∧ c < 9 ∧ x < 3 ∧ (x = 0 ∨ 0 < wt_gt u x) ∧ wt_gt u x < 100 ∧ wt_gt u' 1 < 100 ∧ wt_gt u' 2 < 100 ∧ wt_gt g' (10 * r + c + 1) < 100 ∧ wt_ab g' r c < 100
abbrev wt_chkd (k r c x : Nat) (u u' g' : List Nat) : Bool :=
  Nat.blt k 9 && (Nat.blt r 2 && (Nat.blt c 9 && (Nat.blt x 3 && ((Nat.beq x 0 || Nat.blt 0 (wt_gt u x)) && (Nat.blt (wt_gt u x) 100 && (Nat.blt (wt_gt u' 1) 100 && (Nat.blt (wt_gt u' 2) 100 && (Nat.blt (wt_gt g' (10 * r + c + 1)) 100 && Nat.blt (wt_ab g' r c) 100))))))))
theorem wt_chk_iff {k r c x : Nat} {u u' g' : List Nat} : wt_chkd k r c x u u' g' = true ↔ wt_chk k r c x u u' g' := by
  simp [wt_chkd, wt_chk, Nat.blt, Nat.succ_le_iff]
def wt_go (k x : Nat) (l u g : List Nat) (r c nx : Nat) (W : Nat → List Nat → List Nat → List Nat → Option Nat) : Option Nat :=
  if nx = 0 then W k (wt_st l k 0) u g
  else W (k + 2) (wt_st (wt_st l k nx) (k + 1) 0) (wt_st u nx (wt_gt u nx + 1)) (wt_st g (10 * r + c) nx)
def wt_sr (b1 b2 bx : Nat) (br bc : Nat → Nat) : Nat → Nat → Nat → List Nat → List Nat → List Nat → Option Nat
  | 0, _, _, _, _, _ => none
  | _ + 1, fd, 0, _, _, _ => some fd
  | n + 1, fd, k + 1, l, u, g =>
    if k = bx then wt_sr b1 b2 bx br bc n (fd + 1) k l u g
    else
      if wt_chkd k (br k) (bc k) (wt_gt l k) u (wt_u0 u (wt_gt l k)) (wt_g0 g (wt_gt l k) (10 * br k + bc k)) = true then
        wt_go k (wt_gt l k) l (wt_u0 u (wt_gt l k)) (wt_g0 g (wt_gt l k) (10 * br k + bc k)) (br k) (bc k)
          (wt_nl (wt_gt l k) (wt_gt (wt_g0 g (wt_gt l k) (10 * br k + bc k)) (10 * br k + bc k + 1)) (wt_ab (wt_g0 g (wt_gt l k) (10 * br k + bc k)) (br k) (bc k)) (wt_gt (wt_u0 u (wt_gt l k)) 1) (wt_gt (wt_u0 u (wt_gt l k)) 2) b1 b2)
          (fun k' l' u' g' => wt_sr b1 b2 bx br bc n fd k' l' u' g')
      else none
theorem wt_nl_le (c r a p q b1 b2 : Nat) : wt_nl c r a p q b1 b2 ≤ 2 := by
  unfold wt_nl
  repeat' split
  all_goals omega
/-- a code of two digits -/
def wt_sz (c : Nat) : Nat := c / 10 + c % 10
def wt_shp (c : Nat) : Bool := Nat.ble (c / 10 + c % 10) 9 && Nat.ble (c % 10) (c / 10)
def wt_br (a v i : Nat) : Nat := if i < v / 10 - a / 10 then 0 else 1
def wt_bc (a v i : Nat) : Nat := if i < v / 10 - a / 10 then v / 10 - 1 - i else v % 10 - 1 - (i - (v / 10 - a / 10))
def wt_nb (a v : Nat) : Nat := (v / 10 - a / 10) + (v % 10 - a % 10)
def wt_sh (a b v : Nat) : Option Nat :=
  if wt_sz a + wt_sz b = wt_sz v then
    if a / 10 ≤ v / 10 then
      if a % 10 ≤ v % 10 then
        if wt_nb a v ≤ 9 then wt_sr (b / 10) (b % 10) (wt_nb a v) (wt_br a v) (wt_bc a v) 200 0 1 (wt_z 10) (wt_z 5) (wt_z 40) else none
      else some 0
    else some 0
  else some 0
def wt_shD (a b v : Nat) : Nat := (wt_sh a b v).getD 0
/-- the shares of a and b are all known, and small -/
def wt_ok (a b : Nat) : Bool := (List.range 100).all (fun v => !wt_shp v || ((wt_sh a b v).isSome && Nat.blt (wt_shD a b v) 100))
def wt_P (a b v : Nat) : Bool := wt_shp v && Nat.blt 0 (wt_shD a b v)
/-- the terms from i on, d places -/
def wt_T (a b : Nat) : Nat → Nat → List Nat
  | 0, _ => []
  | d + 1, i => if wt_P a b i = true then i :: wt_T a b d (i + 1) else wt_T a b d (i + 1)
/-- their number, and the sum of the shares -/
def wt_S (a b : Nat) : Nat → Nat → Nat
  | 0, _ => 0
  | d + 1, i => (if wt_shp i = true then wt_shD a b i else 0) + wt_S a b d (i + 1)
/-- the first of a list that is greater than x, or -3 -/
def wt_nF (x : Int32) : List Nat → Int32
  | [] => -3
  | c :: l => if nI c ≤ x then wt_nF x l else nI c
theorem wt_nF_m1 {x : Int32} (h : ¬ (-1 : Int32) ≤ x) : ∀ l : List Nat, (∀ c, c ∈ l → c < 100) → wt_nF (-1) l = wt_nF x l := by
  intro l
  induction l with
  | nil => intro _; rfl
  | cons c l ih =>
    intro hl
    have hc : c < 100 := hl c (List.mem_cons_self)
    have h1 : ¬ nI c ≤ (-1 : Int32) := by
      intro z
      have z' := Int32.le_iff_toInt_le.mp z
      rw [nI_toInt (by omega)] at z'
      rw [show ((-1 : Int32)).toInt = -1 from by decide] at z'
      omega
    have h2 : ¬ nI c ≤ x := by
      intro z
      have z' := Int32.le_iff_toInt_le.mp z
      rw [nI_toInt (by omega)] at z'
      apply h
      rw [Int32.le_iff_toInt_le, show ((-1 : Int32)).toInt = -1 from by decide]
      omega
    show (if nI c ≤ (-1 : Int32) then _ else nI c) = (if nI c ≤ x then _ else nI c)
    rw [if_neg h1, if_neg h2]
/-- the codes that the law awaits, from k on, d places (m: the size, ls, ms: least and most) -/
def wt_C (m ls ms : Nat) : Nat → Nat → List Nat
  | 0, _ => []
  | d + 1, k => if ls + 2 * k ≤ ms then (10 * ((m + (ls + 2 * k)) / 2) + (m - (ls + 2 * k)) / 2) :: wt_C m ls ms d (k + 1) else wt_C m ls ms d (k + 1)
/-- what is asked of the numbers of one script -/
def wt_A (a2 da : Nat) : Nat := 10 * (a2 + da) + a2
def wt_M (a2 da b2 db : Nat) : Nat := 2 * a2 + da + 2 * b2 + db
def wt_L (da db : Nat) : Nat := if da ≤ db then db - da else da - db
def wt_cnt (da db : Nat) : Nat := (da + db - wt_L da db) / 2 + 1
/-- is v1 a shape's first row, its code, is it a term -/
def wt_shB (m v1 : Nat) : Bool := Nat.ble m (2 * v1) && Nat.ble v1 m
def wt_V (m v1 : Nat) : Nat := if wt_shB m v1 = true then 10 * v1 + (m - v1) else 0
def wt_tm (m ls ms v1 : Nat) : Nat := if m = 0 then 1 else if wt_shB m v1 = true then (if m + ls ≤ 2 * v1 then (if 2 * v1 ≤ m + ms then 1 else 0) else 0) else 0
def wt_ck (a2 da b2 db : Nat) : Bool :=
  wt_ok (wt_A a2 da) (wt_A b2 db) && (wt_ok (wt_A b2 db) (wt_A a2 da) &&
  (decide (wt_T (wt_A a2 da) (wt_A b2 db) 100 0 = wt_C (wt_M a2 da b2 db) (wt_L da db) (da + db) 8 0) &&
  (Nat.beq (wt_T (wt_A a2 da) (wt_A b2 db) 100 0).length (wt_cnt da db) &&
  (Nat.beq (wt_S (wt_A b2 db) (wt_A a2 da) 100 0) (wt_cnt da db) &&
  (List.range 10).all (fun v1 => decide (wt_sh (wt_A a2 da) (wt_A b2 db) (wt_V (wt_M a2 da b2 db) v1) = some (wt_tm (wt_M a2 da b2 db) (wt_L da db) (da + db) v1)))))))
theorem wt_all : ∀ a2, a2 < 2 → ∀ da, da < 4 → ∀ b2, b2 < 2 → ∀ db, db < 3 → wt_ck a2 da b2 db = true := by decide +kernel
end
section
/-! the small methods: power, digit, sizeOf, isShape, dimension, fillings -/
section
variable {f1 f2 f3 : Int32} {a1 a2 a3 a4 a5 a6 a7 a8 a9 a10 a11 a12 : Nat → Int32}
theorem wt_pow0 {post : Int32 → Prop} {x : Int32} (hx : x = 0) (h : post 1) : wpX_power post () x := by
  subst hx
  exact ⟨0 + 1, br_t (by decide) h⟩
theorem wt_pow1 {post : Int32 → Prop} {x : Int32} (hx : x = 1) (h : post 10) : wpX_power post () x := by
  subst hx
  exact ⟨0 + 1 + 1, br_f (by decide) (nm_r (e' := 10) (by decide) (nm_r (e' := 1) (by decide) (br_t (by decide) h)))⟩
theorem wt_pow2 {post : Int32 → Prop} {x : Int32} (hx : x = 2) (h : post 100) : wpX_power post () x := by
  subst hx
  exact ⟨0 + 1 + 1 + 1, br_f (by decide) (nm_r (e' := 10) (by decide) (nm_r (e' := 1) (by decide) (br_f (by decide) (nm_r (e' := 100) (by decide) (nm_r (e' := 2) (by decide) (br_t (by decide) h))))))⟩
theorem wt_e0 {c : Nat} (hc : c < 100) : (nI c / 10) - (nI c / 10) / 10 * 10 = nI (c / 10) := by
  have e1 : nI c / 10 = nI (c / 10) := pk_div (a := c) (d := 10) (by omega) (by omega) (by omega)
  have e2 : nI (c / 10) - nI (c / 10) / 10 * 10 = nI (c / 10 % 10) := pk_rem (a := c / 10) (d := 10) (by omega) (by omega) (by omega)
  rw [e1, e2, Nat.mod_eq_of_lt (by omega)]
theorem wt_e1 {c : Nat} (hc : c < 100) : (nI c / 1) - (nI c / 1) / 10 * 10 = nI (c % 10) := by
  have e1 : nI c / 1 = nI (c / 1) := pk_div (a := c) (d := 1) (by omega) (by omega) (by omega)
  have e2 : nI (c / 1) - nI (c / 1) / 10 * 10 = nI (c / 1 % 10) := pk_rem (a := c / 1) (d := 10) (by omega) (by omega) (by omega)
  rw [e1, e2, Nat.div_one]
theorem wt_dg0 {post : Int32 → Prop} {c : Nat} {x : Int32} (hc : c < 100) (hx : x = 0) (h : post (nI (c / 10))) : wpX_digit post (2, f1, f2, f3, a1, a2, a3, a4, a5, a6, a7, a8, a9, a10, a11, a12) (nI c) x := by
  subst hx
  unfold wpX_digit
  exact wt_pow1 (by decide) ⟨by decide, by decide, by rw [wt_e0 hc]; exact h⟩
theorem wt_dg1 {post : Int32 → Prop} {c : Nat} {x : Int32} (hc : c < 100) (hx : x = 1) (h : post (nI (c % 10))) : wpX_digit post (2, f1, f2, f3, a1, a2, a3, a4, a5, a6, a7, a8, a9, a10, a11, a12) (nI c) x := by
  subst hx
  unfold wpX_digit
  exact wt_pow0 (by decide) ⟨by decide, by decide, by rw [wt_e1 hc]; exact h⟩
theorem wt_z_add (n : Nat) : (0 : Int32) + nI n = nI n := by
  rw [← nI_0, nI_add, Nat.zero_add]
theorem wt_size {post : Int32 → Prop} {c : Nat} (hc : c < 100) (h : post (nI (wt_sz c))) : wpX_sizeOf post (2, f1, f2, f3, a1, a2, a3, a4, a5, a6, a7, a8, a9, a10, a11, a12) (nI c) := by
  unfold wpX_sizeOf
  exact ⟨0 + 1 + 1 + 1, br_f (by decide) (wt_dg0 hc rfl (nm_r (e' := nI (c / 10)) (wt_z_add _) (nm_r (e' := 1) (by decide) (br_f (by decide) (wt_dg1 hc rfl (nm_r (nI_add _ _) (nm_r (e' := 2) (by decide) (br_t (by decide) h))))))))⟩
theorem wt_shp_t {c : Nat} (h1 : c / 10 + c % 10 ≤ 9) (h2 : c % 10 ≤ c / 10) : wt_shp c = true := by
  unfold wt_shp
  rw [Nat.ble_eq_true_of_le h1, Nat.ble_eq_true_of_le h2]
  rfl
theorem wt_shp_i {c : Nat} : wt_shp c = true ↔ c / 10 + c % 10 ≤ 9 ∧ c % 10 ≤ c / 10 := by
  simp [wt_shp]
theorem wt_isS {post : Int32 → Prop} {c : Nat} (hc : c < 100) (h1 : wt_shp c = true → post 1) (h0 : ¬ wt_shp c = true → post 0) : wpX_isShape post (2, f1, f2, f3, a1, a2, a3, a4, a5, a6, a7, a8, a9, a10, a11, a12) (nI c) := by
  unfold wpX_isShape
  refine br_f (nI_pos (by omega)) (wt_pow2 rfl (br_f (nI_ge (b := 100) hc (by decide)) (wt_size hc ?_)))
  refine pk_le (wt_sz c) 9 (fun z => ?_) (fun z => h0 (fun t => ?_)) rfl rfl (by unfold wt_sz; omega) (by decide)
  · refine ⟨0 + 1 + 1, br_f (by decide) (wt_dg1 hc rfl (wt_dg0 hc (by decide) ?_))⟩
    refine pk_le (c % 10) (c / 10) (fun y => nm_r (e' := 2) (by decide) (br_t (by decide) (h1 (wt_shp_t z y)))) (fun y => h0 (fun t => ?_))
    have := (wt_shp_i.mp t).2
    omega
  · have := (wt_shp_i.mp t).1
    unfold wt_sz at z
    omega
theorem wt_dim : ∀ p, p < 10 → ∀ q, q < 10 → q ≤ p → (((1 : Int64) * ((((nI p - nI q) + 1) - 0).toInt64)) / ((1 : Int64) * (((1 : Int32) - 0).toInt64))).toInt32 = nI (p - q + 1) := by decide +kernel
theorem wt_fill {post : Int32 → Prop} {c : Nat} (hc : c < 100) (hs : wt_shp c = true) (h : post (nI (c / 10 - c % 10 + 1))) : wpX_fillings post (2, f1, f2, f3, a1, a2, a3, a4, a5, a6, a7, a8, a9, a10, a11, a12) (nI c) := by
  unfold wpX_fillings
  refine wt_isS hc (fun _ => br_f (by decide) ?_) (fun z => absurd hs z)
  unfold wpX_dimension
  refine ⟨0 + 1 + 1 + 1, br_f (by decide) (nm_r (e' := 1) (by decide) ⟨0 + 1 + 1, br_f (by decide) (wt_dg0 hc rfl (wt_dg1 hc rfl (nm_e (nm_e (nm_r (e' := 2) (by decide) (br_t (by decide) (nm_r (e' := 1) (by decide) ?_)))))))⟩)⟩
  refine br_f (by decide) (nm_r (e' := 2) (by decide) ⟨0 + 1, br_t (by decide) (nm_r (e' := 2) (by decide) ?_)⟩)
  refine br_t (by decide) (br_f (by decide) ⟨by decide, ?_⟩)
  rw [wt_dim (c / 10) (by omega) (c % 10) (by omega) (wt_shp_i.mp hs).2]
  exact h
end
end
section
/-! nextLetter -/
section
variable {f1 f2 f3 : Int32} {a1 a2 a3 a4 a5 a6 a7 a8 a9 a10 a11 a12 : Nat → Int32}
theorem wt_n160 {post J : Int32 → Prop} {x2 x5 x6 x7 x8 x9 z0 : Int32} (h1 : ¬ x8 = 0 → ¬ x7 ≤ x6 → ¬ x9 = 0 → ¬ z0 = 0 → post x7) (h2 : (x8 = 0 ∨ x7 ≤ x6 ∨ x9 = 0 ∨ z0 = 0) → J (x7 + 1)) : wX_nextLetter_160 post J x2 x5 x6 x7 x8 x9 z0 2 f1 f2 f3 a1 a2 a3 a4 a5 a6 a7 a8 a9 a10 a11 a12 := by
  unfold wX_nextLetter_160
  exact br_c (fun h => nm_e (h2 (Or.inl h))) (fun g1 => br_c (fun h => nm_e (h2 (Or.inr (Or.inl h)))) (fun g2 => br_c (fun h => nm_e (h2 (Or.inr (Or.inr (Or.inl h))))) (fun g3 => br_c (fun h => nm_e (h2 (Or.inr (Or.inr (Or.inr h))))) (fun g4 => h1 g1 g2 g3 g4))))
theorem wt_c1 {post : Int32 → Prop} {n b r a p : Nat} (hb : b < 100) (hr : r < 100) (ha : a < 100) (hp : p < 100) (h11 : a11 1 = nI p) (h1 : wt_f1 r a p (b / 10) → post 1) (h2 : ¬ wt_f1 r a p (b / 10) → wX_nextLetter_76 post (nI b) (nI r) (nI a) 2 f1 f2 f3 a1 a2 a3 a4 a5 a6 a7 a8 a9 a10 a11 a12 n 2) : wX_nextLetter_76 post (nI b) (nI r) (nI a) 2 f1 f2 f3 a1 a2 a3 a4 a5 a6 a7 a8 a9 a10 a11 a12 (n + 1) 1 := by
  have K : wX_nextLetter_102 post (wX_nextLetter_76 post (nI b) (nI r) (nI a) 2 f1 f2 f3 a1 a2 a3 a4 a5 a6 a7 a8 a9 a10 a11 a12 n) (nI b) (nI r) (nI a) 1 1 2 f1 f2 f3 a1 a2 a3 a4 a5 a6 a7 a8 a9 a10 a11 a12 := by
    unfold wX_nextLetter_102
    refine ⟨pk_in 1 5 (by decide), wt_dg0 hb (by decide) ?_⟩
    rw [show (1 : Int32).toNatClampNeg = 1 from by decide, h11]
    refine pk_le (b / 10) p (fun y => ?_) (fun y => ?_)
    · unfold wX_nextLetter_128
      refine br_t rfl ?_
      unfold wX_nextLetter_155
      exact wt_n160 (fun _ _ g _ => absurd rfl g) (fun _ => h2 (fun t => absurd t.2.2 (by omega)))
    · unfold wX_nextLetter_128
      refine br_t rfl ?_
      unfold wX_nextLetter_155
      refine wt_n160 (fun _ g _ _ => h1 ⟨by omega, ?_, y⟩) (fun g => h2 (fun t => ?_))
      · rcases Nat.lt_or_ge a 1 with z | z
        · exact z
        · exact absurd (nI_le (a := 1) z (by omega)) g
      · rcases g with g | g | g | g
        · exact absurd g (by decide)
        · exact absurd g (nI_ge (b := 1) t.2.1 (by decide))
        · exact absurd g (by decide)
        · exact absurd g (by decide)
  unfold wX_nextLetter_76
  exact br_f (by decide) (pk_eq r 0 (fun _ => K) (fun y => pk_lt r 1 (fun w => absurd w (by omega)) (fun _ => K)))
theorem wt_c2 {post : Int32 → Prop} {n b r a p q : Nat} (hb : b < 100) (hr : r < 100) (ha : a < 100) (hp : p < 100) (hq : q < 100) (h11 : a11 1 = nI p) (h12 : a11 2 = nI q) (h1 : wt_f2 r a p q (b % 10) → post 2) (h2 : ¬ wt_f2 r a p q (b % 10) → post 0) : wX_nextLetter_76 post (nI b) (nI r) (nI a) 2 f1 f2 f3 a1 a2 a3 a4 a5 a6 a7 a8 a9 a10 a11 a12 (n + 1 + 1) 2 := by
  have E : post 0 → wX_nextLetter_76 post (nI b) (nI r) (nI a) 2 f1 f2 f3 a1 a2 a3 a4 a5 a6 a7 a8 a9 a10 a11 a12 (n + 1) (2 + 1) := by
    intro h
    unfold wX_nextLetter_76
    exact br_t (by decide) h
  have K : ∀ z : Int32, ((¬ z = 0) ↔ (r = 0 ∨ 2 ≤ r)) → wX_nextLetter_102 post (wX_nextLetter_76 post (nI b) (nI r) (nI a) 2 f1 f2 f3 a1 a2 a3 a4 a5 a6 a7 a8 a9 a10 a11 a12 (n + 1)) (nI b) (nI r) (nI a) 2 z 2 f1 f2 f3 a1 a2 a3 a4 a5 a6 a7 a8 a9 a10 a11 a12 := by
    intro z hz
    unfold wX_nextLetter_102
    refine ⟨pk_in 2 5 (by decide), wt_dg1 hb (by decide) ?_⟩
    rw [show (2 : Int32).toNatClampNeg = 2 from by decide, h12]
    refine pk_le (b % 10) q (fun y => ?_) (fun y => ?_)
    · have D : ¬ wt_f2 r a p q (b % 10) := fun t => absurd t.2.2.1 (by omega)
      unfold wX_nextLetter_128
      refine br_f (by decide) ⟨pk_in 2 5 (by decide), pk_in 1 5 (by decide) (by decide), br_c (fun _ => ?_) (fun _ => ?_)⟩
      · exact wt_n160 (fun _ _ g _ => absurd rfl g) (fun _ => E (h2 D))
      · unfold wX_nextLetter_155
        exact wt_n160 (fun _ _ g _ => absurd rfl g) (fun _ => E (h2 D))
    · unfold wX_nextLetter_128
      refine br_f (by decide) ⟨pk_in 2 5 (by decide), pk_in 1 5 (by decide) (by decide), ?_⟩
      rw [show (2 : Int32).toNatClampNeg = 2 from by decide, show ((2 : Int32) - 1).toNatClampNeg = 1 from by decide, h11, h12]
      refine pk_le p q (fun w => ?_) (fun w => ?_)
      · exact wt_n160 (fun _ _ _ g => absurd rfl g) (fun _ => E (h2 (fun t => absurd t.2.2.2 (by omega))))
      · unfold wX_nextLetter_155
        refine wt_n160 (fun g1 g2 _ _ => h1 ⟨hz.mp g1, ?_, y, w⟩) (fun g => E (h2 (fun t => ?_)))
        · rcases Nat.lt_or_ge a 2 with z | z
          · exact z
          · exact absurd (nI_le (a := 2) z (by omega)) g2
        · rcases g with g | g | g | g
          · exact hz.mpr t.1 g
          · exact absurd g (nI_ge (b := 2) t.2.1 (by decide))
          · exact absurd g (by decide)
          · exact absurd g (by decide)
  unfold wX_nextLetter_76
  refine br_f (by decide) (pk_eq r 0 (fun y => K 1 ⟨fun _ => Or.inl y, fun _ => by decide⟩) (fun y => pk_lt r 2 (fun w => K 0 ⟨fun g => absurd rfl g, fun g => ?_⟩) (fun w => K 1 ⟨fun _ => Or.inr w, fun _ => by decide⟩)))
  omega
theorem wt_next {post : Int32 → Prop} {b k row col c r a p q : Nat} (hb : b < 100) (hk : k < 10) (hrow : row < 2) (hcol : col < 9) (hc : c < 3)
    (h8 : a8 k = nI row) (h9 : a9 k = nI col) (h10 : a10 k = nI c) (h12 : a12 (10 * row + col + 1) = nI r) (ha0 : row = 0 → a = 0) (ha1 : row ≠ 0 → a12 col = nI a) (hp : a11 1 = nI p) (hq : a11 2 = nI q)
    (br : r < 100) (ba : a < 100) (bp : p < 100) (bq : q < 100) (h : post (nI (wt_nl c r a p q (b / 10) (b % 10)))) : wpX_nextLetter post (2, f1, f2, f3, a1, a2, a3, a4, a5, a6, a7, a8, a9, a10, a11, a12) (nI k) (nI b) := by
  have K : wX_nextLetter_64 post (nI k) (nI b) (nI r) (nI a) 2 f1 f2 f3 a1 a2 a3 a4 a5 a6 a7 a8 a9 a10 a11 a12 := by
    unfold wX_nextLetter_64
    rw [nI_clamp (show k < 2 ^ 31 by omega), h10]
    refine ⟨pk_in k 10 hk, nm_e ⟨0 + 1 + 1 + 1, ?_⟩⟩
    have c2 : ∀ n, (wt_f2d r a p q (b % 10) = true → post 2) → (¬ wt_f2d r a p q (b % 10) = true → post 0) → wX_nextLetter_76 post (nI b) (nI r) (nI a) 2 f1 f2 f3 a1 a2 a3 a4 a5 a6 a7 a8 a9 a10 a11 a12 (n + 1 + 1) 2 :=
      fun n u1 u2 => wt_c2 hb br ba bp bq hp hq (fun t => u1 (wt_f2_iff.mpr t)) (fun t => u2 (fun s => t (wt_f2_iff.mp s)))
    have hc' : c = 0 ∨ c = 1 ∨ c = 2 := by omega
    unfold wt_nl at h
    rcases hc' with rfl | rfl | rfl
    · rw [if_pos rfl] at h
      refine wt_c1 hb br ba bp hp (fun t => ?_) (fun t => c2 _ (fun s => ?_) (fun s => ?_))
      · rw [if_pos (wt_f1_iff.mpr t)] at h
        exact h
      · rw [if_neg (fun s => t (wt_f1_iff.mp s)), if_pos s] at h
        exact h
      · rw [if_neg (fun s => t (wt_f1_iff.mp s)), if_neg s] at h
        exact h
    · rw [if_neg (by decide), if_pos rfl] at h
      refine c2 _ (fun s => ?_) (fun s => ?_)
      · rw [if_pos s] at h
        exact h
      · rw [if_neg s] at h
        exact h
    · rw [if_neg (by decide), if_neg (by decide)] at h
      unfold wX_nextLetter_76
      exact br_t (by decide) h
  unfold wpX_nextLetter
  dsimp only
  rw [nI_clamp (show k < 2 ^ 31 by omega), h8, h9]
  have e1 : (10 * nI row + nI col) + 1 = nI (10 * row + col + 1) := by
    rw [show (10 : Int32) = nI 10 from rfl, pk_mul, nI_add, nI_1]
  refine ⟨pk_in k 10 hk, nm_e ⟨pk_in k 10 hk, nm_e (br_f (nI_ge (b := 9) hcol (by decide)) ?_)⟩⟩
  rw [e1, nI_clamp (show 10 * row + col + 1 < 2 ^ 31 by omega), h12]
  refine ⟨pk_in (10 * row + col + 1) 40 (by omega), ?_⟩
  unfold wX_nextLetter_40
  rcases (show row = 0 ∨ row = 1 by omega) with e | e
  · subst e
    rw [ha0 rfl] at K
    exact br_t (by decide) K
  · subst e
    refine br_f (by decide) ?_
    have e2 : (10 * (nI 1 - 1)) + nI col = nI col := by
      rw [show (10 * (nI 1 - 1) : Int32) = 0 from by decide, wt_z_add]
    rw [e2, nI_clamp (show col < 2 ^ 31 by omega), ha1 (by decide)]
    exact ⟨pk_in col 40 (by omega), K⟩
end
end
section
/-! listBoxes and the search of shareOf -/
section
variable {f1 f2 f3 : Int32} {a1 a2 a3 a4 a5 a6 a7 a8 a9 a10 a11 a12 : Nat → Int32}
def wt_rel (a : Nat → Int32) (l : List Nat) (k : Nat) : Prop := ∀ i, i < k → a i = nI (wt_gt l i)
theorem wt_rel_put {a : Nat → Int32} {l : List Nat} {k k' i v : Nat} (h : wt_rel a l k) (hi : i < l.length) (hk : ∀ j, j < k' → j ≠ i → j < k) : wt_rel (upd a i (nI v)) (wt_st l i v) k' := by
  intro j hj
  by_cases e : j = i
  · rw [e, pk_us, wt_gt_same l i v hi]
  · rw [pk_un e, wt_gt_other l i j v e]
    exact h j (hk j hj e)
theorem wt_rel_le {a : Nat → Int32} {l : List Nat} {k k' : Nat} (h : wt_rel a l k) (hk : k' ≤ k) : wt_rel a l k' := fun j hj => h j (by omega)
theorem wt_pm (x : Int32) : x + (-1) = x - 1 := (Int32.sub_eq_add_neg x 1).symm
theorem wt_m1lt : ∀ h, h < 11 → ∀ l, l < 11 → (nI h - 1 < nI l ↔ h ≤ l) := by decide +kernel
theorem wt_place {r c : Nat} : 10 * nI r + nI c = nI (10 * r + c) := by
  rw [show (10 : Int32) = nI 10 from rfl, pk_mul, nI_add]
theorem wt_lb72 {post : Int32 → St2 → Prop} {J : Int32 → Int32 → (Nat → Int32) → (Nat → Int32) → (Nat → Int32) → (Nat → Int32) → (Nat → Int32) → (Nat → Int32) → (Nat → Int32) → (Nat → Int32) → (Nat → Int32) → (Nat → Int32) → (Nat → Int32) → (Nat → Int32) → Prop} {x1 x3 f0 : Int32} {row lo : Nat} :
    ∀ (d k : Nat) (a8 a9 : Nat → Int32), k + d ≤ 10 → lo + d < 11 → (∀ b8 b9 : Nat → Int32, (∀ i, i < k → b8 i = a8 i ∧ b9 i = a9 i) → (∀ i, i < d → b8 (k + i) = nI row ∧ b9 (k + i) = nI (lo + d - 1 - i)) → J (nI row + 1) (nI (k + d)) a1 a2 a3 a4 a5 a6 a7 b8 b9 a10 a11 a12) → wX_listBoxes_72 post J x1 x3 (nI row) (nI lo) f0 f1 f2 (d + 1) (nI (lo + d) - 1) (nI k) a1 a2 a3 a4 a5 a6 a7 a8 a9 a10 a11 a12 := by
  intro d
  induction d with
  | zero =>
    intro k a8 a9 hk hl H
    unfold wX_listBoxes_72
    exact br_t ((wt_m1lt _ (by omega) _ (by omega)).mpr (by omega)) (nm_e (H a8 a9 (fun _ _ => ⟨rfl, rfl⟩) (fun i hi => absurd hi (by omega))))
  | succ d ih =>
    intro k a8 a9 hk hl H
    unfold wX_listBoxes_72
    refine br_f (fun z => absurd ((wt_m1lt _ (by omega) _ (by omega)).mp z) (by omega)) ?_
    rw [show lo + (d + 1) = (lo + d) + 1 from rfl, nI_pred, nI_clamp (show k < 2 ^ 31 by omega)]
    refine ⟨pk_in k 10 (by omega), nm_e ⟨pk_in k 10 (by omega), nm_e (nm_r (nI_1 k) (nm_r (wt_pm _) (ih (k + 1) _ _ (by omega) (by omega) (fun b8 b9 h1 h2 => ?_))))⟩⟩
    rw [show k + 1 + d = k + (d + 1) from by omega]
    refine H b8 b9 (fun i hi => ?_) (fun i hi => ?_)
    · have := h1 i (by omega)
      rw [pk_un (show i ≠ k by omega), pk_un (show i ≠ k by omega)] at this
      exact this
    · cases i with
      | zero =>
        have := h1 k (by omega)
        rw [pk_us, pk_us] at this
        exact this
      | succ i =>
        have := h2 i (by omega)
        rw [show k + 1 + i = k + (i + 1) from by omega, show lo + d - 1 - i = lo + (d + 1) - 1 - (i + 1) from by omega] at this
        exact this
theorem wt_boxes {post : Int32 → St2 → Prop} {a b v : Nat} (ha : a < 100) (hb : b < 100) (hv : v < 100)
    (h0 : (¬ (wt_sz a + wt_sz b = wt_sz v ∧ a / 10 ≤ v / 10 ∧ a % 10 ≤ v % 10)) → ∀ u : St2, u.1 = 2 → post 0 u)
    (h1 : wt_sz a + wt_sz b = wt_sz v → a / 10 ≤ v / 10 → a % 10 ≤ v % 10 → wt_nb a v ≤ 9 ∧ ∀ b8 b9 : Nat → Int32, (∀ i, i < wt_nb a v → b8 i = nI (wt_br a v i) ∧ b9 i = nI (wt_bc a v i)) → post 1 (2, f1, f2, nI (wt_nb a v), a1, a2, a3, a4, a5, a6, a7, b8, b9, a10, a11, a12)) :
    wpX_listBoxes post (2, f1, f2, f3, a1, a2, a3, a4, a5, a6, a7, a8, a9, a10, a11, a12) (nI a) (nI b) (nI v) := by
  unfold wpX_listBoxes
  refine wt_size ha (wt_size hb (wt_size hv ?_))
  rw [nI_add]
  refine pk_eq (wt_sz a + wt_sz b) (wt_sz v) (fun y => ⟨0 + 1 + 1 + 1, ?_⟩) (fun y => h0 (fun t => y t.1) _ rfl) rfl rfl (by unfold wt_sz; omega) (by unfold wt_sz; omega)
  unfold wX_listBoxes_29
  refine br_f (by decide) (wt_dg0 ha rfl (wt_dg0 hv rfl (pk_le (a / 10) (v / 10) (fun y0 => wt_dg0 hv rfl (nm_e ?_)) (fun z => h0 (fun t => absurd t.2.1 (by omega)) _ rfl))))
  refine ⟨(v / 10 - a / 10) + 1, ?_⟩
  rw [show nI (v / 10) = nI (a / 10 + (v / 10 - a / 10)) from by rw [show a / 10 + (v / 10 - a / 10) = v / 10 from by omega]]
  refine wt_lb72 (row := 0) (lo := a / 10) (v / 10 - a / 10) 0 a8 a9 (by omega) (by omega) (fun b8 b9 _ g2 => ?_)
  unfold wX_listBoxes_29
  refine br_f (by decide) (wt_dg1 ha (by decide) (wt_dg1 hv (by decide) (pk_le (a % 10) (v % 10) (fun y1 => wt_dg1 hv (by decide) (nm_e ?_)) (fun z => h0 (fun t => absurd t.2.2 (by omega)) _ rfl))))
  obtain ⟨hn, H⟩ := h1 y y0 y1
  unfold wt_nb at hn
  refine ⟨(v % 10 - a % 10) + 1, ?_⟩
  rw [show nI (v % 10) = nI (a % 10 + (v % 10 - a % 10)) from by rw [show a % 10 + (v % 10 - a % 10) = v % 10 from by omega]]
  refine wt_lb72 (row := 1) (lo := a % 10) (v % 10 - a % 10) (0 + (v / 10 - a / 10)) b8 b9 (by omega) (by omega) (fun c8 c9 g3 g4 => ?_)
  unfold wX_listBoxes_29
  refine br_t (by decide) ?_
  rw [show 0 + (v / 10 - a / 10) + (v % 10 - a % 10) = wt_nb a v from by unfold wt_nb; omega]
  refine H c8 c9 (fun i hi => ?_)
  unfold wt_nb at hi
  unfold wt_br wt_bc
  by_cases e : i < v / 10 - a / 10
  · rw [if_pos e, if_pos e]
    have e3 := g3 i (by omega)
    have e2 := g2 i e
    rw [Nat.zero_add] at e2
    rw [e3.1, e3.2, e2.1, e2.2]
    exact ⟨rfl, by rw [show a / 10 + (v / 10 - a / 10) - 1 - i = v / 10 - 1 - i from by omega]⟩
  · rw [if_neg e, if_neg e]
    have e4 := g4 (i - (v / 10 - a / 10)) (by omega)
    rw [show 0 + (v / 10 - a / 10) + (i - (v / 10 - a / 10)) = i from by omega] at e4
    rw [e4.1, e4.2]
    exact ⟨rfl, by rw [show a % 10 + (v % 10 - a % 10) - 1 - (i - (v / 10 - a / 10)) = v % 10 - 1 - (i - (v / 10 - a / 10)) from by omega]⟩
theorem wt_s149 {post : Int32 → St2 → Prop} {J : Int32 → Int32 → (Nat → Int32) → (Nat → Int32) → (Nat → Int32) → (Nat → Int32) → (Nat → Int32) → (Nat → Int32) → (Nat → Int32) → (Nat → Int32) → (Nat → Int32) → (Nat → Int32) → (Nat → Int32) → (Nat → Int32) → Prop} {b k r c x : Nat} {x4 : Int32} {u0 l u g : List Nat}
    (hb : b < 100) (hk : wt_chk k r c x u0 u g) (h8 : a8 k = nI r) (h9 : a9 k = nI c) (hl : wt_rel a10 l (k + 1)) (hx : wt_gt l k = x) (hu : wt_rel a11 u 5) (hg : wt_rel a12 g 40) (ll : l.length = 10) (lu : u.length = 5) (lg : g.length = 40)
    (H0 : wt_nl x (wt_gt g (10 * r + c + 1)) (wt_ab g r c) (wt_gt u 1) (wt_gt u 2) (b / 10) (b % 10) = 0 → ∀ b10, wt_rel b10 (wt_st l k 0) k → J x4 (nI k - 1) a1 a2 a3 a4 a5 a6 a7 a8 a9 b10 a11 a12)
    (H1 : ∀ nx, wt_nl x (wt_gt g (10 * r + c + 1)) (wt_ab g r c) (wt_gt u 1) (wt_gt u 2) (b / 10) (b % 10) = nx → nx ≠ 0 → ∀ b10 b11 b12, wt_rel b10 (wt_st (wt_st l k nx) (k + 1) 0) (k + 2) → wt_rel b11 (wt_st u nx (wt_gt u nx + 1)) 5 → wt_rel b12 (wt_st g (10 * r + c) nx) 40 → J x4 (nI (k + 2) - 1) a1 a2 a3 a4 a5 a6 a7 a8 a9 b10 b11 b12) :
    wX_shareOf_149 post J (nI b) x4 (nI k) (nI (10 * r + c)) 2 f1 f2 f3 a1 a2 a3 a4 a5 a6 a7 a8 a9 a10 a11 a12 := by
  obtain ⟨k9, r2, c9, x3, _, _, p1, p2, pr, pa⟩ := hk
  unfold wX_shareOf_149
  refine wt_next hb (by omega) r2 c9 x3 h8 h9 ((hl k (by omega)).trans (by rw [hx])) (hg _ (by omega)) (a := wt_ab g r c) (fun e => by unfold wt_ab; rw [if_pos e]) (fun e => by unfold wt_ab; rw [if_neg e]; exact hg _ (by omega)) (hu 1 (by omega)) (hu 2 (by omega)) pr pa p1 p2 ?_
  generalize hnx : wt_nl x (wt_gt g (10 * r + c + 1)) (wt_ab g r c) (wt_gt u 1) (wt_gt u 2) (b / 10) (b % 10) = nx
  have hn2 : nx ≤ 2 := by rw [← hnx]; exact wt_nl_le _ _ _ _ _ _ _
  rw [nI_clamp (show k < 2 ^ 31 by omega), nI_clamp (show nx < 2 ^ 31 by omega), nI_clamp (show 10 * r + c < 2 ^ 31 by omega)]
  refine ⟨pk_in k 10 (by omega), nm_e (pk_eq nx 0 (fun z => ?_) (fun z => ?_))⟩
  · subst z
    exact nm_r (wt_pm _) (H0 hnx _ (wt_rel_put hl (by omega) (fun j hj _ => by omega)))
  · refine ⟨pk_in nx 5 (by omega), pk_in nx 5 (by omega), nm_e ⟨pk_in (10 * r + c) 40 (by omega), nm_e (nm_r (nI_1 k) (br_f (nI_ge (b := 10) (by omega) (by decide)) ⟨pk_in (k + 1) 10 (by omega), nm_e ?_⟩))⟩⟩
    rw [nI_clamp (show k + 1 < 2 ^ 31 by omega), hu nx (by omega), nI_1]
    have t := H1 nx hnx z _ _ _ (wt_rel_put (v := 0) (k' := k + 2) (wt_rel_put (v := nx) (k' := k + 1) hl (show k < l.length by omega) (fun j hj _ => hj)) (show k + 1 < (wt_st l k nx).length by rw [wt_st_len]; omega) (fun j hj e => by omega)) (wt_rel_put (v := wt_gt u nx + 1) (k' := 5) hu (by omega) (fun j hj _ => hj)) (wt_rel_put (v := nx) (k' := 40) hg (show 10 * r + c < g.length by omega) (fun j hj _ => hj))
    rw [nI_pred (k + 1)] at t
    exact t
theorem wt_s72 {post : Int32 → St2 → Prop} {b bx res : Nat} {br bc : Nat → Nat} (hb : b < 100) (hbx : bx ≤ 9) (h8 : ∀ i, i < bx → a8 i = nI (br i)) (h9 : ∀ i, i < bx → a9 i = nI (bc i))
    (H : ∀ a10 a11 a12 : Nat → Int32, post (nI res) (2, f1, f2, nI bx, a1, a2, a3, a4, a5, a6, a7, a8, a9, a10, a11, a12)) :
    ∀ (n fd k1 : Nat) (l u g : List Nat) (a10 a11 a12 : Nat → Int32), k1 ≤ bx + 1 → l.length = 10 → u.length = 5 → g.length = 40 → wt_rel a10 l k1 → wt_rel a11 u 5 → wt_rel a12 g 40 → wt_sr (b / 10) (b % 10) bx br bc n fd k1 l u g = some res → wX_shareOf_72 post (nI b) 2 f1 f2 (nI bx) n (nI fd) (nI k1 - 1) a1 a2 a3 a4 a5 a6 a7 a8 a9 a10 a11 a12 := by
  intro n
  induction n with
  | zero =>
    intro fd k1 l u g a10 a11 a12 _ _ _ _ _ _ _ e
    exact absurd e (by intro e; unfold wt_sr at e; exact absurd e (by simp))
  | succ n ih =>
    intro fd k1 l u g a10 a11 a12 hk1 ll lu lg hl hu hg e
    cases k1 with
    | zero =>
      have e' : some fd = some res := e
      cases e'
      unfold wX_shareOf_72
      exact br_t (by decide) (H a10 a11 a12)
    | succ k =>
      rw [nI_pred]
      unfold wX_shareOf_72
      refine br_f (nI_pos (by omega)) ?_
      unfold wt_sr at e
      by_cases ek : k = bx
      · rw [if_pos ek] at e
        subst ek
        exact br_t rfl (nm_r (nI_1 fd) (nm_r (wt_pm _) (ih (fd + 1) k l u g a10 a11 a12 (by omega) ll lu lg (wt_rel_le hl (by omega)) hu hg e)))
      · rw [if_neg ek] at e
        have hkb : k < bx := by omega
        have hk9 : k < 9 := by omega
        refine br_f (fun z => ek ((nI_eq (by omega) (by omega)).mp z)) ?_
        by_cases ec : wt_chkd k (br k) (bc k) (wt_gt l k) u (wt_u0 u (wt_gt l k)) (wt_g0 g (wt_gt l k) (10 * br k + bc k)) = true
        · rw [if_pos ec] at e
          have hc := wt_chk_iff.mp ec
          have hc' := hc
          obtain ⟨_, r2, c9, x3, xu, xb, _, _, _, _⟩ := hc'
          have hx : a10 k = nI (wt_gt l k) := hl k (by omega)
          rw [nI_clamp (show k < 2 ^ 31 by omega), h8 k hkb, h9 k hkb, hx, wt_place]
          have fin : ∀ b11 b12 : Nat → Int32, wt_rel b11 (wt_u0 u (wt_gt l k)) 5 → wt_rel b12 (wt_g0 g (wt_gt l k) (10 * br k + bc k)) 40 → (wt_u0 u (wt_gt l k)).length = 5 → (wt_g0 g (wt_gt l k) (10 * br k + bc k)).length = 40 →
              wX_shareOf_149 post (wX_shareOf_72 post (nI b) 2 f1 f2 (nI bx) n) (nI b) (nI fd) (nI k) (nI (10 * br k + bc k)) 2 f1 f2 (nI bx) a1 a2 a3 a4 a5 a6 a7 a8 a9 a10 b11 b12 := by
            intro b11 b12 r11 r12 l11 l12
            refine wt_s149 hb hc (h8 k hkb) (h9 k hkb) hl rfl r11 r12 ll l11 l12 (fun z b10 r10 => ?_) (fun nx hz z c10 c11 c12 s10 s11 s12 => ?_)
            · rw [z] at e
              exact ih fd k _ _ _ b10 b11 b12 (by omega) (by rw [wt_st_len]; exact ll) l11 l12 r10 r11 r12 e
            · rw [hz] at e
              unfold wt_go at e
              rw [if_neg z] at e
              exact ih fd (k + 2) _ _ _ c10 c11 c12 (by omega) (by rw [wt_st_len, wt_st_len]; exact ll) (by rw [wt_st_len]; exact l11) (by rw [wt_st_len]; exact l12) s10 s11 s12 e
          refine ⟨pk_in k 10 (by omega), pk_in k 10 (by omega), nm_e ⟨pk_in k 10 (by omega), pk_le (wt_gt l k) 0 (fun z => ?_) (fun z => ?_)⟩⟩
          · have z' : wt_gt l k = 0 := by omega
            refine fin a11 a12 ?_ ?_ ?_ ?_
            · unfold wt_u0; rw [if_pos z']; exact hu
            · unfold wt_g0; rw [if_pos z']; exact hg
            · unfold wt_u0; rw [if_pos z']; exact lu
            · unfold wt_g0; rw [if_pos z']; exact lg
          · have z' : ¬ wt_gt l k = 0 := by omega
            have xp : 0 < wt_gt u (wt_gt l k) := by omega
            rw [nI_clamp (show wt_gt l k < 2 ^ 31 by omega), nI_clamp (show 10 * br k + bc k < 2 ^ 31 by omega), hu (wt_gt l k) (by omega)]
            rw [show nI (wt_gt u (wt_gt l k)) - 1 = nI (wt_gt u (wt_gt l k) - 1) from pk_sub (b := 1) xp]
            refine ⟨pk_in k 10 (by omega), pk_in (wt_gt l k) 5 (by omega), pk_in (wt_gt l k) 5 (by omega), nm_e ⟨pk_in (10 * br k + bc k) 40 (by omega), nm_e (fin _ _ ?_ ?_ ?_ ?_)⟩⟩
            · unfold wt_u0; rw [if_neg z']; exact wt_rel_put hu (by omega) (fun j hj _ => hj)
            · unfold wt_g0; rw [if_neg z']; exact wt_rel_put (v := 0) hg (by omega) (fun j hj _ => hj)
            · unfold wt_u0; rw [if_neg z', wt_st_len]; exact lu
            · unfold wt_g0; rw [if_neg z', wt_st_len]; exact lg
        · rw [if_neg ec] at e
          exact absurd e (by simp)
end
end
section
/-! shareOf, share, terms, sharesOf, nextTerm -/
section
variable {f1 f2 f3 : Int32} {a1 a2 a3 a4 a5 a6 a7 a8 a9 a10 a11 a12 : Nat → Int32}
theorem wt_shareOf {post : Int32 → St2 → Prop} {a b v res : Nat} (ha : a < 100) (hb : b < 100) (hv : v < 100) (hs : wt_sh a b v = some res) (H : ∀ u : St2, u.1 = 2 → post (nI res) u) : wpX_shareOf post (2, f1, f2, f3, a1, a2, a3, a4, a5, a6, a7, a8, a9, a10, a11, a12) (nI a) (nI b) (nI v) := by
  unfold wpX_shareOf
  unfold wt_sh at hs
  refine wt_boxes ha hb hv (fun z u hu => ?_) (fun y y0 y1 => ?_)
  · obtain ⟨n0, f1, f2, f3, a1, a2, a3, a4, a5, a6, a7, a8, a9, a10, a11, a12⟩ := u
    refine br_t rfl ?_
    have e : res = 0 := by
      by_cases c1 : wt_sz a + wt_sz b = wt_sz v
      · rw [if_pos c1] at hs
        by_cases c2 : a / 10 ≤ v / 10
        · rw [if_pos c2] at hs
          by_cases c3 : a % 10 ≤ v % 10
          · exact absurd ⟨c1, c2, c3⟩ z
          · rw [if_neg c3] at hs
            cases hs
            rfl
        · rw [if_neg c2] at hs
          cases hs
          rfl
      · rw [if_neg c1] at hs
        cases hs
        rfl
    subst e
    exact H _ hu
  · rw [if_pos y, if_pos y0, if_pos y1] at hs
    by_cases hn : wt_nb a v ≤ 9
    · rw [if_pos hn] at hs
      refine ⟨hn, fun b8 b9 hb89 => br_f (by decide) ?_⟩
      refine pk_loop (fun n i s => wX_shareOf_15 post (nI b) 2 f1 f2 (nI (wt_nb a v)) n (nI i) a1 a2 a3 a4 a5 a6 a7 b8 b9 a10 s a12) (fun i s => ∀ j, j < i → s j = 0) 5 0 a11 (by omega) (fun j hj => absurd hj (by omega)) (fun n s hz => ?_) (fun n i s hi hz hw => ?_)
      · show wX_shareOf_15 post (nI b) 2 f1 f2 (nI (wt_nb a v)) (n + 1) (nI 5) a1 a2 a3 a4 a5 a6 a7 b8 b9 a10 s a12
        unfold wX_shareOf_15
        refine br_t (by decide) ?_
        refine pk_loop (fun n i t => wX_shareOf_38 post (nI b) 2 f1 f2 (nI (wt_nb a v)) n (nI i) a1 a2 a3 a4 a5 a6 a7 b8 b9 a10 s t) (fun i t => ∀ j, j < i → t j = 0) 40 0 a12 (by omega) (fun j hj => absurd hj (by omega)) (fun n t ht => ?_) (fun n i t hi ht hw => ?_)
        · show wX_shareOf_38 post (nI b) 2 f1 f2 (nI (wt_nb a v)) (n + 1) (nI 40) a1 a2 a3 a4 a5 a6 a7 b8 b9 a10 s t
          unfold wX_shareOf_38
          refine br_t (by decide) (nm_e ⟨200, ?_⟩)
          have q := wt_s72 (post := post) (f1 := f1) (f2 := f2) (a1 := a1) (a2 := a2) (a3 := a3) (a4 := a4) (a5 := a5) (a6 := a6) (a7 := a7) (a8 := b8) (a9 := b9) hb hn (fun i hi => (hb89 i hi).1) (fun i hi => (hb89 i hi).2) (fun _ _ _ => H _ rfl) 200 0 1 (wt_z 10) (wt_z 5) (wt_z 40) (upd a10 0 0) s t (by omega) (wt_z_len 10) (wt_z_len 5) (wt_z_len 40)
            (fun i hi => by rw [show i = 0 by omega, wt_z_gt, pk_us]; rfl) (fun i hi => by rw [hz i hi, wt_z_gt]; rfl) (fun i hi => by rw [ht i hi, wt_z_gt]; rfl) hs
          rw [show nI 1 - 1 = 0 from by decide] at q
          exact q
        · show wX_shareOf_38 post (nI b) 2 f1 f2 (nI (wt_nb a v)) (n + 1) (nI i) a1 a2 a3 a4 a5 a6 a7 b8 b9 a10 s t
          unfold wX_shareOf_38
          refine br_f (nI_ge (b := 40) hi (by decide)) ⟨pk_in i 40 hi, nm_e (nm_r (nI_1 i) (hw _ (fun j hj => ?_)))⟩
          rw [nI_clamp (show i < 2 ^ 31 by omega)]
          by_cases e : j = i
          · rw [e, pk_us]
          · rw [pk_un e]
            exact ht j (by omega)
      · show wX_shareOf_15 post (nI b) 2 f1 f2 (nI (wt_nb a v)) (n + 1) (nI i) a1 a2 a3 a4 a5 a6 a7 b8 b9 a10 s a12
        unfold wX_shareOf_15
        refine br_f (nI_ge (b := 5) hi (by decide)) ⟨pk_in i 5 hi, nm_e (nm_r (nI_1 i) (hw _ (fun j hj => ?_)))⟩
        rw [nI_clamp (show i < 2 ^ 31 by omega)]
        by_cases e : j = i
        · rw [e, pk_us]
        · rw [pk_un e]
          exact hz j (by omega)
    · rw [if_neg hn] at hs
      exact absurd hs (by simp)
theorem wt_szle {c : Nat} (hc : c < 100) : wt_sz c < 20 := by
  unfold wt_sz
  omega
theorem wt_share {post : Int32 → St2 → Prop} {a b v res : Nat} (ha : a < 100) (hb : b < 100) (hv : v < 100) (sa : wt_shp a = true) (sb : wt_shp b = true) (sv : wt_shp v = true) (hz : wt_sz a + wt_sz b ≤ 9) (hs : wt_sh a b v = some res) (H : ∀ u : St2, u.1 = 2 → post (nI res) u) : wpX_share post (2, f1, f2, f3, a1, a2, a3, a4, a5, a6, a7, a8, a9, a10, a11, a12) (nI a) (nI b) (nI v) := by
  unfold wpX_share
  refine wt_isS ha (fun _ => br_f (by decide) ?_) (fun z => absurd sa z)
  refine wt_isS hb (fun _ => br_f (by decide) ?_) (fun z => absurd sb z)
  refine wt_isS hv (fun _ => br_f (by decide) ?_) (fun z => absurd sv z)
  refine wt_size ha (wt_size hb ?_)
  rw [nI_add]
  refine br_t (nI_le (b := 9) hz (by decide)) (wt_shareOf ha hb hv hs (fun u hu => ?_))
  obtain ⟨n0, f1, f2, f3, a1, a2, a3, a4, a5, a6, a7, a8, a9, a10, a11, a12⟩ := u
  exact H _ hu
theorem wt_share2 {post : Int32 → St2 → Prop} {a b v : Nat} (ha : a < 100) (hb : b < 100) (hv : v < 100) (sa : wt_shp a = true) (sb : wt_shp b = true) (sv : wt_shp v = true) (hz : 9 < wt_sz a + wt_sz b) (H : ∀ u : St2, u.1 = 2 → post (-2) u) : wpX_share post (2, f1, f2, f3, a1, a2, a3, a4, a5, a6, a7, a8, a9, a10, a11, a12) (nI a) (nI b) (nI v) := by
  unfold wpX_share
  refine wt_isS ha (fun _ => br_f (by decide) ?_) (fun z => absurd sa z)
  refine wt_isS hb (fun _ => br_f (by decide) ?_) (fun z => absurd sb z)
  refine wt_isS hv (fun _ => br_f (by decide) ?_) (fun z => absurd sv z)
  refine wt_size ha (wt_size hb ?_)
  rw [nI_add]
  have h1 := wt_szle ha
  have h2 := wt_szle hb
  exact br_f (nI_ge (a := 9) hz (by omega)) (H _ rfl)
theorem wt_ref {post : Int32 → Prop} {a b : Nat} (ha : a < 100) (hb : b < 100) (sa : wt_shp a = true) (sb : wt_shp b = true) (hz : wt_sz a + wt_sz b ≤ 9) (h : post 0) : wpX_refused post (2, f1, f2, f3, a1, a2, a3, a4, a5, a6, a7, a8, a9, a10, a11, a12) (nI a) (nI b) := by
  unfold wpX_refused
  refine wt_isS ha (fun _ => br_f (by decide) ?_) (fun z => absurd sa z)
  refine wt_isS hb (fun _ => br_f (by decide) ?_) (fun z => absurd sb z)
  refine wt_size ha (wt_size hb ?_)
  rw [nI_add]
  exact br_t (nI_le (b := 9) hz (by decide)) h
theorem wt_ref1 {post : Int32 → Prop} {a b : Nat} (ha : a < 100) (hb : b < 100) (sb : ¬ wt_shp b = true) (h : post (-1)) : wpX_refused post (2, f1, f2, f3, a1, a2, a3, a4, a5, a6, a7, a8, a9, a10, a11, a12) (nI a) (nI b) := by
  unfold wpX_refused
  refine wt_isS ha (fun _ => br_f (by decide) ?_) (fun z => br_t rfl h)
  exact wt_isS hb (fun z => absurd z sb) (fun _ => br_t rfl h)
theorem wt_ok_at {a b v : Nat} (h : wt_ok a b = true) (hv : v < 100) (hs : wt_shp v = true) : wt_sh a b v = some (wt_shD a b v) ∧ wt_shD a b v < 100 := by
  have t := List.all_eq_true.mp h v (List.mem_range.mpr hv)
  rw [hs] at t
  cases e : wt_sh a b v with
  | none =>
    rw [e] at t
    have t' : false = true := t
    exact absurd t' (by decide)
  | some r =>
    have d : wt_shD a b v = r := by unfold wt_shD; rw [e]; rfl
    rw [e, d] at t
    have t' : Nat.blt r 100 = true := t
    rw [d]
    have t2 : r + 1 ≤ 100 := Nat.le_of_ble_eq_true t'
    exact ⟨rfl, by omega⟩
theorem wt_P_i {a b i : Nat} : wt_P a b i = true ↔ wt_shp i = true ∧ 0 < wt_shD a b i := by
  unfold wt_P
  simp [Nat.blt, Nat.succ_le_iff]
theorem wt_T_t {a b d i : Nat} (h : wt_P a b i = true) : wt_T a b (d + 1) i = i :: wt_T a b d (i + 1) := by
  show (if _ then _ else _) = _
  rw [if_pos h]
theorem wt_T_f {a b d i : Nat} (h : ¬ wt_P a b i = true) : wt_T a b (d + 1) i = wt_T a b d (i + 1) := by
  show (if _ then _ else _) = _
  rw [if_neg h]
theorem wt_terms_l {post : Int32 → St2 → Prop} {a b : Nat} (ha : a < 100) (hb : b < 100) (hok : wt_ok a b = true) : ∀ (d i k : Nat) (f1 f2 f3 : Int32) (a1 a2 a3 a4 a5 a6 a7 a8 a9 a10 a11 a12 : Nat → Int32), i + d = 100 → (∀ u : St2, u.1 = 2 → post (nI (k + (wt_T a b d i).length)) u) → wX_terms_19 post (nI a) (nI b) (d + 1) (nI k) (nI i) 2 f1 f2 f3 a1 a2 a3 a4 a5 a6 a7 a8 a9 a10 a11 a12 := by
  intro d
  induction d with
  | zero =>
    intro i k f1 f2 f3 a1 a2 a3 a4 a5 a6 a7 a8 a9 a10 a11 a12 hi H
    unfold wX_terms_19
    have e : i = 100 := by omega
    subst e
    exact wt_pow2 rfl (br_t (by decide) (H _ rfl))
  | succ d ih =>
    intro i k f1 f2 f3 a1 a2 a3 a4 a5 a6 a7 a8 a9 a10 a11 a12 hi H
    have hi' : i < 100 := by omega
    unfold wX_terms_19
    refine wt_pow2 rfl (br_f (nI_ge (b := 100) hi' (by decide)) (wt_isS hi' (fun hs => br_f (by decide) ?_) (fun hs => br_t rfl (nm_r (Int32.add_zero _) (nm_r (nI_1 i) (ih (i + 1) k _ _ _ _ _ _ _ _ _ _ _ _ _ _ _ (by omega) (fun u hu => ?_)))))))
    · obtain ⟨e, lt⟩ := wt_ok_at hok hi' hs
      refine wt_shareOf ha hb hi' e (fun u hu => ?_)
      obtain ⟨n0, f1, f2, f3, a1, a2, a3, a4, a5, a6, a7, a8, a9, a10, a11, a12⟩ := u
      have hn : n0 = 2 := hu
      subst hn
      refine pk_le (wt_shD a b i) 0 (fun z => nm_r (Int32.add_zero _) (nm_r (nI_1 i) (ih (i + 1) k _ _ _ _ _ _ _ _ _ _ _ _ _ _ _ (by omega) (fun u hu => ?_)))) (fun z => nm_r (nI_1 k) (nm_r (nI_1 i) (ih (i + 1) (k + 1) _ _ _ _ _ _ _ _ _ _ _ _ _ _ _ (by omega) (fun u hu => ?_))))
      · have t := H u hu
        rw [wt_T_f (fun q => absurd (wt_P_i.mp q).2 (by omega))] at t
        exact t
      · have t := H u hu
        rw [wt_T_t (wt_P_i.mpr ⟨hs, z⟩), List.length_cons, ← Nat.add_assoc, Nat.add_right_comm] at t
        exact t
    · have t := H u hu
      rw [wt_T_f (fun q => hs (wt_P_i.mp q).1)] at t
      exact t
theorem wt_terms {post : Int32 → St2 → Prop} {a b : Nat} (ha : a < 100) (hb : b < 100) (sa : wt_shp a = true) (sb : wt_shp b = true) (hz : wt_sz a + wt_sz b ≤ 9) (hok : wt_ok a b = true) (H : ∀ u : St2, u.1 = 2 → post (nI (wt_T a b 100 0).length) u) : wpX_terms post (2, f1, f2, f3, a1, a2, a3, a4, a5, a6, a7, a8, a9, a10, a11, a12) (nI a) (nI b) := by
  unfold wpX_terms
  refine wt_ref ha hb sa sb hz (br_t (by decide) ⟨100 + 1, ?_⟩)
  refine wt_terms_l ha hb hok 100 0 0 _ _ _ _ _ _ _ _ _ _ _ _ _ _ _ (by omega) (fun u hu => ?_)
  rw [Nat.zero_add]
  exact H u hu
theorem wt_terms1 {post : Int32 → St2 → Prop} {a b : Nat} (ha : a < 100) (hb : b < 100) (sb : ¬ wt_shp b = true) (H : ∀ u : St2, u.1 = 2 → post (-1) u) : wpX_terms post (2, f1, f2, f3, a1, a2, a3, a4, a5, a6, a7, a8, a9, a10, a11, a12) (nI a) (nI b) := by
  unfold wpX_terms
  exact wt_ref1 ha hb sb (br_f (by decide) (H _ rfl))
theorem wt_shares_l {post : Int32 → St2 → Prop} {a b : Nat} (ha : a < 100) (hb : b < 100) (hok : wt_ok a b = true) : ∀ (d i k : Nat) (f1 f2 f3 : Int32) (a1 a2 a3 a4 a5 a6 a7 a8 a9 a10 a11 a12 : Nat → Int32), i + d = 100 → (∀ u : St2, u.1 = 2 → post (nI (k + wt_S a b d i)) u) → wX_sharesOf_19 post (nI a) (nI b) (d + 1) (nI k) (nI i) 2 f1 f2 f3 a1 a2 a3 a4 a5 a6 a7 a8 a9 a10 a11 a12 := by
  intro d
  induction d with
  | zero =>
    intro i k f1 f2 f3 a1 a2 a3 a4 a5 a6 a7 a8 a9 a10 a11 a12 hi H
    unfold wX_sharesOf_19
    have e : i = 100 := by omega
    subst e
    exact wt_pow2 rfl (br_t (by decide) (H _ rfl))
  | succ d ih =>
    intro i k f1 f2 f3 a1 a2 a3 a4 a5 a6 a7 a8 a9 a10 a11 a12 hi H
    have hi' : i < 100 := by omega
    have E : wt_S a b (d + 1) i = (if wt_shp i = true then wt_shD a b i else 0) + wt_S a b d (i + 1) := rfl
    unfold wX_sharesOf_19
    refine wt_pow2 rfl (br_f (nI_ge (b := 100) hi' (by decide)) (wt_isS hi' (fun hs => br_f (by decide) ?_) (fun hs => br_t rfl (nm_r (Int32.add_zero _) (nm_r (nI_1 i) (ih (i + 1) k _ _ _ _ _ _ _ _ _ _ _ _ _ _ _ (by omega) (fun u hu => ?_)))))))
    · obtain ⟨e, lt⟩ := wt_ok_at hok hi' hs
      refine wt_shareOf ha hb hi' e (fun u hu => ?_)
      obtain ⟨n0, f1, f2, f3, a1, a2, a3, a4, a5, a6, a7, a8, a9, a10, a11, a12⟩ := u
      have hn : n0 = 2 := hu
      subst hn
      refine nm_r (nI_add _ _) (nm_r (nI_1 i) (ih (i + 1) (k + wt_shD a b i) _ _ _ _ _ _ _ _ _ _ _ _ _ _ _ (by omega) (fun u hu => ?_)))
      have t := H u hu
      rw [E, if_pos hs, ← Nat.add_assoc] at t
      exact t
    · have t := H u hu
      rw [E, if_neg hs, Nat.zero_add] at t
      exact t
theorem wt_shares {post : Int32 → St2 → Prop} {a b : Nat} (ha : a < 100) (hb : b < 100) (sa : wt_shp a = true) (sb : wt_shp b = true) (hz : wt_sz a + wt_sz b ≤ 9) (hok : wt_ok a b = true) (H : ∀ u : St2, u.1 = 2 → post (nI (wt_S a b 100 0)) u) : wpX_sharesOf post (2, f1, f2, f3, a1, a2, a3, a4, a5, a6, a7, a8, a9, a10, a11, a12) (nI a) (nI b) := by
  unfold wpX_sharesOf
  refine wt_ref ha hb sa sb hz (br_t (by decide) ⟨100 + 1, ?_⟩)
  refine wt_shares_l ha hb hok 100 0 0 _ _ _ _ _ _ _ _ _ _ _ _ _ _ _ (by omega) (fun u hu => ?_)
  rw [Nat.zero_add]
  exact H u hu
theorem wt_nextTerm_l {post : Int32 → St2 → Prop} {a b : Nat} {x : Int32} (ha : a < 100) (hb : b < 100) (hok : wt_ok a b = true) : ∀ (d i : Nat) (f1 f2 f3 : Int32) (a1 a2 a3 a4 a5 a6 a7 a8 a9 a10 a11 a12 : Nat → Int32), i + d = 100 → (∀ u : St2, u.1 = 2 → post (wt_nF x (wt_T a b d i)) u) → wX_nextTerm_31 post (nI a) (nI b) x (d + 1) (nI i) 2 f1 f2 f3 a1 a2 a3 a4 a5 a6 a7 a8 a9 a10 a11 a12 := by
  intro d
  induction d with
  | zero =>
    intro i f1 f2 f3 a1 a2 a3 a4 a5 a6 a7 a8 a9 a10 a11 a12 hi H
    unfold wX_nextTerm_31
    have e : i = 100 := by omega
    subst e
    exact wt_pow2 rfl (br_t (by decide) (H _ rfl))
  | succ d ih =>
    intro i f1 f2 f3 a1 a2 a3 a4 a5 a6 a7 a8 a9 a10 a11 a12 hi H
    have hi' : i < 100 := by omega
    unfold wX_nextTerm_31
    refine wt_pow2 rfl (br_f (nI_ge (b := 100) hi' (by decide)) (br_c (fun hx => nm_r (nI_1 i) (ih (i + 1) _ _ _ _ _ _ _ _ _ _ _ _ _ _ _ (by omega) (fun u hu => ?_))) (fun hx => wt_isS hi' (fun hs => br_f (by decide) ?_) (fun hs => br_t rfl (nm_r (nI_1 i) (ih (i + 1) _ _ _ _ _ _ _ _ _ _ _ _ _ _ _ (by omega) (fun u hu => ?_)))))))
    · have t := H u hu
      by_cases p : wt_P a b i = true
      · rw [wt_T_t p] at t
        unfold wt_nF at t
        rw [if_pos hx] at t
        exact t
      · rw [wt_T_f p] at t
        exact t
    · obtain ⟨e, lt⟩ := wt_ok_at hok hi' hs
      refine wt_shareOf ha hb hi' e (fun u hu => ?_)
      obtain ⟨n0, f1, f2, f3, a1, a2, a3, a4, a5, a6, a7, a8, a9, a10, a11, a12⟩ := u
      have hn : n0 = 2 := hu
      subst hn
      refine pk_le (wt_shD a b i) 0 (fun z => nm_r (nI_1 i) (ih (i + 1) _ _ _ _ _ _ _ _ _ _ _ _ _ _ _ (by omega) (fun u hu => ?_))) (fun z => ?_)
      · have t := H u hu
        rw [wt_T_f (fun q => absurd (wt_P_i.mp q).2 (by omega))] at t
        exact t
      · have t := H (2, f1, f2, f3, a1, a2, a3, a4, a5, a6, a7, a8, a9, a10, a11, a12) rfl
        rw [wt_T_t (wt_P_i.mpr ⟨hs, z⟩)] at t
        unfold wt_nF at t
        rw [if_neg hx] at t
        exact t
    · have t := H u hu
      rw [wt_T_f (fun q => hs (wt_P_i.mp q).1)] at t
      exact t
theorem wt_T_lt (a b : Nat) : ∀ d i c, i + d = 100 → c ∈ wt_T a b d i → c < 100 := by
  intro d
  induction d with
  | zero => intro i c _ hc; exact absurd hc (by unfold wt_T; simp)
  | succ d ih =>
    intro i c hi hc
    by_cases p : wt_P a b i = true
    · rw [wt_T_t p] at hc
      rcases List.mem_cons.mp hc with e | e
      · omega
      · exact ih (i + 1) c (by omega) e
    · rw [wt_T_f p] at hc
      exact ih (i + 1) c (by omega) hc
theorem wt_nextTerm {post : Int32 → St2 → Prop} {a b : Nat} {x : Int32} (ha : a < 100) (hb : b < 100) (sa : wt_shp a = true) (sb : wt_shp b = true) (hz : wt_sz a + wt_sz b ≤ 9) (hok : wt_ok a b = true) (H : ∀ u : St2, u.1 = 2 → post (wt_nF x (wt_T a b 100 0)) u) : wpX_nextTerm post (2, f1, f2, f3, a1, a2, a3, a4, a5, a6, a7, a8, a9, a10, a11, a12) (nI a) (nI b) x := by
  unfold wpX_nextTerm
  refine wt_ref ha hb sa sb hz (br_t (by decide) (br_c (fun _ => ⟨100 + 1, ?_⟩) (fun z => ⟨100 + 1, ?_⟩)))
  · exact wt_nextTerm_l ha hb hok 100 0 _ _ _ _ _ _ _ _ _ _ _ _ _ _ _ (by omega) H
  · refine wt_nextTerm_l ha hb hok 100 0 _ _ _ _ _ _ _ _ _ _ _ _ _ _ _ (by omega) (fun u hu => ?_)
    rw [wt_nF_m1 z _ (fun c hc => wt_T_lt a b 100 0 c (by omega) hc)]
    exact H u hu
end
end
section
/-! stepDown, enlist, takeStrips, countFor, multiplicity -/
/-- one turn of takeStrips' loop: a hit is enlisted, once at most -/
def wt_hit (goal lt t0 t1 : Nat) (acc : Option Nat) : Option (Option Nat) :=
  if t0 + t1 = goal then (if (if lt = 1 then t0 else t1) = 0 then (match acc with | none => some (some (10 * t0 + t1)) | some _ => none) else some acc) else some acc
def wt_ts (d0 d1 goal lt : Nat) : Nat → Nat → Nat → Option Nat → Option (Option Nat)
  | 0, _, _, _ => none
  | n + 1, t0, t1, acc =>
    match wt_hit goal lt t0 t1 acc with
    | none => none
    | some acc' => if t0 = d1 then (if t1 = 0 then some acc' else wt_ts d0 d1 goal lt n d0 (t1 - 1) acc') else wt_ts d0 d1 goal lt n (t0 - 1) t1 acc'
def wt_take (c many lt : Nat) : Option (Option Nat) :=
  if wt_sz c < many then some none else wt_ts (c / 10) (c % 10) (wt_sz c - many) lt 100 (c / 10) (c % 10) none
def wt_cf (a w : Nat) : Option Nat :=
  match wt_take a (w % 10) 2 with
  | none => none
  | some none => some 0
  | some (some c) => if c < 100 ∧ c % 10 ≤ c / 10 then
      (match wt_take c (w / 10) 1 with
      | none => none
      | some none => some 0
      | some (some _) => some 1) else none
def wt_W (a2 da v1 : Nat) : Nat := 10 * v1 + (if v1 ≤ 2 * a2 + da then 2 * a2 + da - v1 else 0)
theorem wt_cfall : ∀ a2, a2 < 2 → ∀ da, da < 4 → ∀ v1, v1 < 10 → wt_cf (wt_A a2 da) (wt_W a2 da v1) = some (if a2 ≤ v1 ∧ v1 ≤ a2 + da then 1 else 0) := by decide +kernel
section
variable {f1 f2 f3 : Int32} {a1 a2 a3 a4 a5 a6 a7 a8 a9 a10 a11 a12 : Nat → Int32}
def wt_q (a : Nat → Int32) (x y : Nat) : Prop := a 0 = nI x ∧ a 1 = nI y ∧ a 2 = nI 0 ∧ a 3 = nI 0
def wt_acc (acc : Option Nat) (cn nl : Int32) (a6 a7 : Nat → Int32) : Prop := (acc = none → nl = 0) ∧ (∀ c, acc = some c → nl = 1 ∧ a6 0 = nI c ∧ a7 0 = cn)
theorem wt_sd4 {post : Int32 → St2 → Prop} {n : Nat} (h : post 0 (2, f1, f2, f3, a1, a2, a3, a4, a5, a6, a7, a8, a9, a10, a11, a12)) : wX_stepDown_2 post 2 f1 f2 f3 (n + 1) (nI 4) a1 a2 a3 a4 a5 a6 a7 a8 a9 a10 a11 a12 := by
  unfold wX_stepDown_2
  refine br_t (by decide) ?_
  unfold wX_stepDown_40
  exact br_t (by decide) h
theorem wt_sdn {post : Int32 → St2 → Prop} {n i : Nat} (hi : i < 4) (e : ¬ a3 i = a2 i) (h : post 1 (2, f1, f2, f3, a1, a2, upd a3 i (a3 i - 1), a4, a5, a6, a7, a8, a9, a10, a11, a12)) : wX_stepDown_2 post 2 f1 f2 f3 (n + 1) (nI i) a1 a2 a3 a4 a5 a6 a7 a8 a9 a10 a11 a12 := by
  unfold wX_stepDown_2
  refine br_f (nI_ge (b := 4) hi (by decide)) ?_
  rw [nI_clamp (show i < 2 ^ 31 by omega)]
  refine ⟨pk_in i 4 hi, pk_in i 4 hi, br_f e ?_⟩
  unfold wX_stepDown_40
  rw [nI_clamp (show i < 2 ^ 31 by omega)]
  exact br_f (fun z => absurd ((nI_eq (b := 4) (by omega) (by decide)).mp z) (by omega)) ⟨pk_in i 4 hi, pk_in i 4 hi, nm_e h⟩
theorem wt_sds {post : Int32 → St2 → Prop} {n i : Nat} (hi : i < 4) (e : a3 i = a2 i) (h : wX_stepDown_2 post 2 f1 f2 f3 n (nI (i + 1)) a1 a2 (upd a3 i (a1 i)) a4 a5 a6 a7 a8 a9 a10 a11 a12) : wX_stepDown_2 post 2 f1 f2 f3 (n + 1) (nI i) a1 a2 a3 a4 a5 a6 a7 a8 a9 a10 a11 a12 := by
  unfold wX_stepDown_2
  refine br_f (nI_ge (b := 4) hi (by decide)) ?_
  rw [nI_clamp (show i < 2 ^ 31 by omega)]
  exact ⟨pk_in i 4 hi, pk_in i 4 hi, br_t e ⟨pk_in i 4 hi, pk_in i 4 hi, nm_e (nm_r (nI_1 i) h)⟩⟩
theorem wt_step {post : Int32 → St2 → Prop} {d0 d1 t0 t1 : Nat} (hd : d0 ≤ 9) (ht : t0 ≤ d0) (ht' : d1 ≤ t0) (hu : t1 ≤ d1) (q1 : wt_q a1 d0 d1) (q2 : wt_q a2 d1 0) (q3 : wt_q a3 t0 t1)
    (H0 : t0 = d1 → t1 = 0 → ∀ b3, post 0 (2, f1, f2, f3, a1, a2, b3, a4, a5, a6, a7, a8, a9, a10, a11, a12)) (H1 : t0 = d1 → t1 ≠ 0 → ∀ b3, wt_q b3 d0 (t1 - 1) → post 1 (2, f1, f2, f3, a1, a2, b3, a4, a5, a6, a7, a8, a9, a10, a11, a12)) (H2 : t0 ≠ d1 → ∀ b3, wt_q b3 (t0 - 1) t1 → post 1 (2, f1, f2, f3, a1, a2, b3, a4, a5, a6, a7, a8, a9, a10, a11, a12)) : wpX_stepDown post (2, f1, f2, f3, a1, a2, a3, a4, a5, a6, a7, a8, a9, a10, a11, a12) := by
  obtain ⟨p0, p1, p2, p3⟩ := q1
  obtain ⟨o0, o1, o2, o3⟩ := q2
  obtain ⟨r0, r1, r2, r3⟩ := q3
  unfold wpX_stepDown
  refine ⟨0 + 1 + 1 + 1 + 1 + 1, ?_⟩
  by_cases e : t0 = d1
  · refine wt_sds (i := 0) (by decide) (by rw [r0, o0, e]) ?_
    by_cases e1 : t1 = 0
    · subst e1
      refine wt_sds (i := 1) (by decide) (by rw [pk_un (by decide), r1, o1]) ?_
      refine wt_sds (i := 2) (by decide) (by rw [pk_un (by decide), pk_un (by decide), r2, o2]) ?_
      refine wt_sds (i := 3) (by decide) (by rw [pk_un (by decide), pk_un (by decide), pk_un (by decide), r3, o3]) ?_
      exact wt_sd4 (H0 e rfl _)
    · refine wt_sdn (i := 1) (by decide) (by rw [pk_un (by decide), r1, o1]; exact fun z => e1 ((nI_eq (by omega) (by decide)).mp z)) (H1 e e1 _ ⟨?_, ?_, ?_, ?_⟩)
      · rw [pk_un (by decide), pk_us, p0]
      · rw [pk_us, pk_un (by decide), r1]
        exact pk_sub (b := 1) (by omega)
      · rw [pk_un (by decide), pk_un (by decide), r2]
      · rw [pk_un (by decide), pk_un (by decide), r3]
  · refine wt_sdn (i := 0) (by decide) (by rw [r0, o0]; exact fun z => e ((nI_eq (by omega) (by omega)).mp z)) (H2 e _ ⟨?_, ?_, ?_, ?_⟩)
    · rw [pk_us, r0]
      exact pk_sub (b := 1) (by omega)
    · rw [pk_un (by decide), r1]
    · rw [pk_un (by decide), r2]
    · rw [pk_un (by decide), r3]
theorem wt_enl {post : St2 → Prop} {x c : Int32} (h : ∀ b6 b7 : Nat → Int32, b6 0 = x → b7 0 = c → post (2, f1, 1, f3, a1, a2, a3, a4, a5, b6, b7, a8, a9, a10, a11, a12)) : wpX_enlist post (2, f1, 0, f3, a1, a2, a3, a4, a5, a6, a7, a8, a9, a10, a11, a12) x c := by
  unfold wpX_enlist
  refine ⟨0 + 1, br_t (by decide) ⟨pk_in 0 720 (by decide), nm_e ⟨pk_in 0 720 (by decide), nm_e (nm_r (e' := 1) (by decide) (h _ _ ?_ ?_))⟩⟩⟩
  · rw [sb_cl0, pk_us]
  · rw [sb_cl0, pk_us]
theorem wt_t108 {post : St2 → Prop} {cn : Int32} {lt goal d0 d1 : Nat} (hd : d1 ≤ d0) (hd0 : d0 ≤ 9) (hlt : lt = 1 ∨ lt = 2) (hg : goal < 100) (q1 : wt_q a1 d0 d1) (q2 : wt_q a2 d1 0) {res : Option Nat}
    (H : ∀ (f2 : Int32) (a3 a6 a7 : Nat → Int32), wt_acc res cn f2 a6 a7 → post (2, f1, f2, f3, a1, a2, a3, a4, a5, a6, a7, a8, a9, a10, a11, a12)) :
    ∀ (n t0 t1 : Nat) (acc : Option Nat) (f2 : Int32) (a3 a6 a7 : Nat → Int32), t0 ≤ d0 → d1 ≤ t0 → t1 ≤ d1 → wt_q a3 t0 t1 → wt_acc acc cn f2 a6 a7 → wt_ts d0 d1 goal lt n t0 t1 acc = some res → wX_takeStrips_108 post cn (nI lt) (nI goal) (n + 1) 1 2 f1 f2 f3 a1 a2 a3 a4 a5 a6 a7 a8 a9 a10 a11 a12 := by
  intro n
  induction n with
  | zero =>
    intro t0 t1 acc f2 a3 a6 a7 _ _ _ _ _ e
    exact absurd e (by unfold wt_ts; simp)
  | succ n ih =>
    intro t0 t1 acc f2 a3 a6 a7 ht ht' hu q3 hacc e
    have T : ∀ (acc' : Option Nat) (f2 : Int32) (a6 a7 : Nat → Int32), wt_acc acc' cn f2 a6 a7 → (if t0 = d1 then (if t1 = 0 then some acc' else wt_ts d0 d1 goal lt n d0 (t1 - 1) acc') else wt_ts d0 d1 goal lt n (t0 - 1) t1 acc') = some res →
        wX_takeStrips_204 post (wX_takeStrips_108 post cn (nI lt) (nI goal) (n + 1)) cn (nI lt) (nI goal) 2 f1 f2 f3 a1 a2 a3 a4 a5 a6 a7 a8 a9 a10 a11 a12 := by
      intro acc' f2 a6 a7 hacc' e'
      unfold wX_takeStrips_204
      refine wt_step hd0 ht ht' hu q1 q2 q3 (fun z z1 b3 => ?_) (fun z z1 b3 q => ?_) (fun z b3 q => ?_)
      · rw [if_pos z, if_pos z1] at e'
        cases e'
        unfold wX_takeStrips_108
        exact br_t rfl (H _ _ _ _ hacc')
      · rw [if_pos z, if_neg z1] at e'
        exact ih d0 (t1 - 1) acc' f2 b3 a6 a7 (by omega) (by omega) (by omega) q hacc' e'
      · rw [if_neg z] at e'
        exact ih (t0 - 1) t1 acc' f2 b3 a6 a7 (by omega) (by omega) (by omega) q hacc' e'
    obtain ⟨r0, r1, r2, r3⟩ := q3
    unfold wX_takeStrips_108
    refine br_f (by decide) (nm_r (e' := nI (t0 + t1)) (by rw [r0, r1, r2, r3, nI_add, nI_add, nI_add, Nat.add_zero]) ?_)
    unfold wt_ts at e
    refine pk_eq (t0 + t1) goal (fun z => ?_) (fun z => ?_)
    · have ix : vp_in (nI lt - 1) 4 ∧ a3 (nI lt - 1).toNatClampNeg = nI (if lt = 1 then t0 else t1) := by
        rcases hlt with rfl | rfl
        · exact ⟨pk_in 0 4 (by decide) (by decide), by rw [show (nI 1 - 1).toNatClampNeg = 0 from by decide, r0]; rfl⟩
        · exact ⟨pk_in 1 4 (by decide) (by decide), by rw [show (nI 2 - 1).toNatClampNeg = 1 from by decide, r1]; rfl⟩
      refine ⟨ix.1, ?_⟩
      rw [ix.2]
      have sb : (if lt = 1 then t0 else t1) < 100 := by split <;> omega
      refine pk_eq (if lt = 1 then t0 else t1) 0 (fun y => ?_) (fun y => ?_)
      · unfold wt_hit at e
        rw [if_pos z, if_pos y] at e
        cases acc with
        | some c => exact absurd e (by simp)
        | none =>
          have hf : f2 = 0 := hacc.1 rfl
          subst hf
          refine ⟨0 + 1 + 1 + 1, ?_⟩
          refine br_f (by decide) ⟨pk_in 0 4 (by decide), nm_r (e' := nI t0) (by rw [sb_cl0, r0]; exact wt_z_add _) (nm_r (e' := 1) (by decide) (br_f (by decide) ⟨pk_in 1 4 (by decide), nm_r (e' := nI (10 * t0 + t1)) (by rw [show (1 : Int32).toNatClampNeg = 1 from by decide, r1]; exact wt_place) (nm_r (e' := 2) (by decide) (br_t (by decide) ?_))⟩))⟩
          refine wt_enl (fun b6 b7 h6 h7 => T (some (10 * t0 + t1)) 1 b6 b7 ⟨fun k => absurd k (by simp), fun c k => ?_⟩ e)
          cases k
          exact ⟨rfl, h6, h7⟩
      · unfold wt_hit at e
        rw [if_pos z, if_neg y] at e
        exact T acc f2 a6 a7 hacc e
    · unfold wt_hit at e
      rw [if_neg z] at e
      exact T acc f2 a6 a7 hacc e
theorem wt_t66 {post : St2 → Prop} {J : Int32 → (Nat → Int32) → (Nat → Int32) → (Nat → Int32) → (Nat → Int32) → (Nat → Int32) → (Nat → Int32) → (Nat → Int32) → (Nat → Int32) → (Nat → Int32) → (Nat → Int32) → (Nat → Int32) → (Nat → Int32) → Prop} {x1 x2 x3 x4 z : Int32} {i : Nat} (hi : i < 4) (h : J (nI (i + 1)) a1 (upd a2 i z) (upd a3 i (a1 i)) a4 a5 a6 a7 a8 a9 a10 a11 a12) : wX_takeStrips_66 post J x1 x2 x3 x4 (nI i) z (nI i) 2 f1 f2 f3 a1 a2 a3 a4 a5 a6 a7 a8 a9 a10 a11 a12 := by
  unfold wX_takeStrips_66
  rw [nI_clamp (show i < 2 ^ 31 by omega)]
  exact ⟨pk_in i 4 hi, nm_e ⟨pk_in i 4 hi, pk_in i 4 hi, nm_e (nm_r (nI_1 i) h)⟩⟩
theorem wt_takeS {post : St2 → Prop} {c many lt : Nat} {cn : Int32} {res : Option Nat} (hc : c < 100) (hs : c % 10 ≤ c / 10) (hm : many < 100) (hlt : lt = 1 ∨ lt = 2) (ht : wt_take c many lt = some res)
    (H : ∀ (f2 : Int32) (a1 a2 a3 a6 a7 : Nat → Int32), wt_acc res cn f2 a6 a7 → post (2, f1, f2, f3, a1, a2, a3, a4, a5, a6, a7, a8, a9, a10, a11, a12)) : wpX_takeStrips post (2, f1, 0, f3, a1, a2, a3, a4, a5, a6, a7, a8, a9, a10, a11, a12) (nI c) cn (nI many) (nI lt) := by
  unfold wpX_takeStrips
  refine ⟨0 + 1 + 1 + 1 + 1 + 1, ?_⟩
  refine br_f (by decide) (br_f (by decide) (wt_dg0 hc rfl ?_))
  unfold wX_takeStrips_35
  refine ⟨pk_in 0 4 (by decide), nm_e (br_f (by decide) (wt_dg1 hc (by decide) (wt_t66 (i := 0) (by decide) ?_)))⟩
  refine br_f (by decide) (br_f (by decide) (wt_dg1 hc (by decide) ?_))
  unfold wX_takeStrips_35
  refine ⟨pk_in 1 4 (by decide), nm_e (br_t (by decide) (wt_t66 (i := 1) (by decide) ?_))⟩
  refine br_f (by decide) (br_t (by decide) ?_)
  unfold wX_takeStrips_35
  refine ⟨pk_in 2 4 (by decide), nm_e (br_t (by decide) (wt_t66 (i := 2) (by decide) ?_))⟩
  refine br_f (by decide) (br_t (by decide) ?_)
  unfold wX_takeStrips_35
  refine ⟨pk_in 3 4 (by decide), nm_e (br_t (by decide) (wt_t66 (i := 3) (by decide) ?_))⟩
  refine br_t (by decide) (wt_size hc ?_)
  have hsz := wt_szle hc
  unfold wt_take at ht
  by_cases e : wt_sz c < many
  · rw [if_pos e] at ht
    cases ht
    exact nm_e (br_t (pk_sneg (by omega) e) ⟨0 + 1, br_t rfl (H _ _ _ _ _ _ ⟨fun _ => rfl, fun c k => absurd k (by simp)⟩)⟩)
  · rw [if_neg e] at ht
    refine nm_r (pk_sub (by omega)) (br_f (nI_pos (by omega)) ⟨100 + 1, ?_⟩)
    refine wt_t108 (d0 := c / 10) (d1 := c % 10) hs (by omega) hlt (by omega) ?_ ?_ (fun f2 a3 a6 a7 q => H f2 _ _ a3 a6 a7 q) 100 (c / 10) (c % 10) none 0 _ _ _ (by omega) (by omega) (by omega) ?_ ⟨fun _ => rfl, fun c k => absurd k (by simp)⟩ ht
    · exact ⟨rfl, rfl, rfl, rfl⟩
    · exact ⟨rfl, rfl, rfl, rfl⟩
    · exact ⟨rfl, rfl, rfl, rfl⟩
theorem wt_cp {post : Int32 → St2 → Prop} {J : Int32 → Int32 → Int32 → Int32 → Int32 → (Nat → Int32) → (Nat → Int32) → (Nat → Int32) → (Nat → Int32) → (Nat → Int32) → (Nat → Int32) → (Nat → Int32) → (Nat → Int32) → (Nat → Int32) → (Nat → Int32) → (Nat → Int32) → (Nat → Int32) → Prop} {x2 x3 cn : Int32} {acc : Option Nat}
    (hacc : wt_acc acc cn f2 a6 a7) (h : ∀ a4 a5 : Nat → Int32, (∀ c, acc = some c → a4 0 = nI c ∧ a5 0 = cn) → J (x3 + (-1)) 2 f2 f2 f3 a1 a2 a3 a4 a5 a6 a7 a8 a9 a10 a11 a12) : ∃ fu, wX_countFor_94 post J x2 x3 2 f2 f2 f3 fu 0 a1 a2 a3 a4 a5 a6 a7 a8 a9 a10 a11 a12 := by
  cases acc with
  | none =>
    have hf : f2 = 0 := hacc.1 rfl
    subst hf
    exact ⟨0 + 1, br_t (by decide) (nm_e (h _ _ (fun c k => absurd k (by simp))))⟩
  | some c =>
    obtain ⟨hf, h6, h7⟩ := hacc.2 c rfl
    subst hf
    refine ⟨0 + 1 + 1, br_f (by decide) ⟨pk_in 0 720 (by decide), pk_in 0 720 (by decide), nm_e ⟨pk_in 0 720 (by decide), pk_in 0 720 (by decide), nm_e (nm_r (e' := 1) (by decide) (br_t (by decide) (nm_e (h _ _ (fun c' k => ?_)))))⟩⟩⟩
    cases k
    rw [sb_cl0, pk_us, pk_us]
    exact ⟨h6, h7⟩
theorem wt_47 {post : Int32 → St2 → Prop} {J : Int32 → Int32 → Int32 → Int32 → Int32 → (Nat → Int32) → (Nat → Int32) → (Nat → Int32) → (Nat → Int32) → (Nat → Int32) → (Nat → Int32) → (Nat → Int32) → (Nat → Int32) → (Nat → Int32) → (Nat → Int32) → (Nat → Int32) → (Nat → Int32) → Prop} {x2 cn : Int32} {c many lt : Nat} {res : Option Nat}
    (hc : c < 100) (hs : c % 10 ≤ c / 10) (hm : many < 100) (hlt : lt = 1 ∨ lt = 2) (ht : wt_take c many lt = some res) (h4 : a4 0 = nI c) (h5 : a5 0 = cn)
    (H : ∀ (f2 : Int32) (a1 a2 a3 a4 a5 a6 a7 : Nat → Int32), (res = none → f2 = 0) → (∀ c, res = some c → f2 = 1 ∧ a4 0 = nI c ∧ a5 0 = cn) → J (nI lt + (-1)) 2 f2 f2 f3 a1 a2 a3 a4 a5 a6 a7 a8 a9 a10 a11 a12) : ∃ fu, wX_countFor_47 post J x2 (nI lt) (nI many) fu 0 2 1 0 f3 a1 a2 a3 a4 a5 a6 a7 a8 a9 a10 a11 a12 := by
  refine ⟨0 + 1 + 1, br_f (by decide) ⟨pk_in 0 720 (by decide), pk_in 0 720 (by decide), ?_⟩⟩
  rw [sb_cl0, h4, h5]
  refine wt_takeS hc hs hm hlt ht (fun f2 a1 a2 a3 a6 a7 q => nm_r (e' := 1) (by decide) (br_t (by decide) ?_))
  exact wt_cp q (fun b4 b5 k => H f2 a1 a2 a3 b4 b5 a6 a7 q.1 (fun c e => ⟨(q.2 c e).1, (k c e).1, (k c e).2⟩))
theorem wt_count {post : Int32 → St2 → Prop} {a w res : Nat} (ha : a < 100) (hs : a % 10 ≤ a / 10) (hw : w < 100) (hcf : wt_cf a w = some res) (H : ∀ u : St2, u.1 = 2 → post (nI res) u) : wpX_countFor post (2, f1, f2, f3, a1, a2, a3, a4, a5, a6, a7, a8, a9, a10, a11, a12) (nI a) (nI w) := by
  unfold wpX_countFor
  refine nm_e (nm_e ⟨0 + 1 + 1 + 1, ?_⟩)
  refine br_f (by decide) (wt_dg1 hw (by decide) ?_)
  unfold wt_cf at hcf
  cases e1 : wt_take a (w % 10) 2 with
  | none =>
    rw [e1] at hcf
    exact absurd hcf (by simp)
  | some r1 =>
    rw [e1] at hcf
    refine wt_47 (lt := 2) (cn := 1) ha hs (by omega) (Or.inr rfl) e1 pk_us pk_us (fun f2 a1 a2 a3 a4 a5 a6 a7 k0 k1 => ?_)
    refine br_f (by decide) (wt_dg0 hw (by decide) ?_)
    cases r1 with
    | none =>
      have hf : f2 = 0 := k0 rfl
      subst hf
      cases hcf
      refine ⟨0 + 1, br_t (by decide) ⟨0 + 1, br_t (by decide) (nm_r (e' := 0) (by decide) (br_t (by decide) (br_t rfl (H _ rfl))))⟩⟩
    | some c =>
      obtain ⟨hf, h4, h5⟩ := k1 c rfl
      subst hf
      have hcf' : (if c < 100 ∧ c % 10 ≤ c / 10 then (match wt_take c (w / 10) 1 with | none => none | some none => some 0 | some (some _) => some 1) else none) = some res := hcf
      by_cases hc : c < 100 ∧ c % 10 ≤ c / 10
      · rw [if_pos hc] at hcf'
        cases e2 : wt_take c (w / 10) 1 with
        | none =>
          rw [e2] at hcf'
          exact absurd hcf' (by simp)
        | some r2 =>
          rw [e2] at hcf'
          refine wt_47 (lt := 1) (cn := 1) hc.1 hc.2 (by omega) (Or.inl rfl) e2 h4 h5 (fun f2 a1 a2 a3 a4 a5 a6 a7 j0 j1 => ?_)
          refine br_t (by decide) ?_
          cases r2 with
          | none =>
            have hf : f2 = 0 := j0 rfl
            subst hf
            cases hcf'
            exact br_t rfl (H _ rfl)
          | some c2 =>
            obtain ⟨hf, _, g5⟩ := j1 c2 rfl
            subst hf
            cases hcf'
            refine br_f (by decide) ?_
            rw [g5]
            exact H _ rfl
      · rw [if_neg hc] at hcf'
        exact absurd hcf' (by simp)
theorem wt_mult {post : Int32 → St2 → Prop} {a w res : Nat} (ha : a < 100) (hs : wt_shp a = true) (hw : w < 100) (hcf : wt_cf a w = some res) (H : ∀ u : St2, u.1 = 2 → post (nI res) u) : wpX_multiplicity post (2, f1, f2, f3, a1, a2, a3, a4, a5, a6, a7, a8, a9, a10, a11, a12) (nI a) (nI w) := by
  unfold wpX_multiplicity
  refine wt_isS ha (fun _ => br_f (by decide) (br_f (nI_pos (by omega)) (wt_pow2 rfl (br_t (nI_lt (b := 100) hw (by decide)) ?_)))) (fun z => absurd hs z)
  refine wt_count ha (wt_shp_i.mp hs).2 hw hcf (fun u hu => ?_)
  obtain ⟨n0, f1, f2, f3, a1, a2, a3, a4, a5, a6, a7, a8, a9, a10, a11, a12⟩ := u
  exact H _ hu
end
end
section
/-! the law -/
theorem wt_numA : ∀ ya, ya < 2 → ∀ da, da < 4 → wt_A ya da < 100 ∧ wt_shp (wt_A ya da) = true ∧ wt_A ya da / 10 - wt_A ya da % 10 + 1 = da + 1 := by decide +kernel
theorem wt_numS : ∀ ya, ya < 2 → ∀ da, da < 4 → ∀ yb, yb < 2 → ∀ db, db < 3 → wt_sz (wt_A ya da) + wt_sz (wt_A yb db) ≤ 9 := by decide +kernel
theorem wt_numZ : ∀ ya, ya < 2 → ∀ da, da < 4 → ∀ yb, yb < 2 → ∀ db, db < 3 → wt_sz (wt_A ya da) + wt_sz (wt_A yb db) ≤ 9 ∧ wt_M ya da yb db < 10 ∧ wt_L da db ≤ da + db ∧ da + db ≤ wt_M ya da yb db := by
  intro ya h1 da h2 yb h3 db h4
  refine ⟨wt_numS ya h1 da h2 yb h3 db h4, ?_⟩
  unfold wt_M wt_L
  refine ⟨by omega, ?_, by omega⟩
  split <;> omega
theorem wt_numV : ∀ m, m < 10 → ∀ v1, v1 < 10 → wt_V m v1 < 100 ∧ wt_shp (wt_V m v1) = true := by decide +kernel
theorem wt_numW : ∀ ya, ya < 2 → ∀ da, da < 4 → ∀ v1, v1 < 10 → wt_W ya da v1 < 100 := by decide +kernel
theorem wt_facts {ya da yb db : Nat} (h1 : ya < 2) (h2 : da < 4) (h3 : yb < 2) (h4 : db < 3) : wt_ok (wt_A ya da) (wt_A yb db) = true ∧ wt_ok (wt_A yb db) (wt_A ya da) = true ∧ wt_T (wt_A ya da) (wt_A yb db) 100 0 = wt_C (wt_M ya da yb db) (wt_L da db) (da + db) 8 0 ∧ (wt_T (wt_A ya da) (wt_A yb db) 100 0).length = wt_cnt da db ∧ wt_S (wt_A yb db) (wt_A ya da) 100 0 = wt_cnt da db ∧ ∀ v1, v1 < 10 → wt_sh (wt_A ya da) (wt_A yb db) (wt_V (wt_M ya da yb db) v1) = some (wt_tm (wt_M ya da yb db) (wt_L da db) (da + db) v1) := by
  have t := wt_all ya h1 da h2 yb h3 db h4
  unfold wt_ck at t
  rw [Bool.and_eq_true, Bool.and_eq_true, Bool.and_eq_true, Bool.and_eq_true, Bool.and_eq_true] at t
  obtain ⟨t1, t2, t3, t4, t5, t6⟩ := t
  exact ⟨t1, t2, of_decide_eq_true t3, Nat.eq_of_beq_eq_true t4, Nat.eq_of_beq_eq_true t5, fun v1 hv => of_decide_eq_true (List.all_eq_true.mp t6 v1 (List.mem_range.mpr hv))⟩
theorem wt_n3 : ∀ c, c < 200 → ¬ nI c = -3 := by decide +kernel
section
variable {f1 f2 f3 : Int32} {a1 a2 a3 a4 a5 a6 a7 a8 a9 a10 a11 a12 : Nat → Int32}
variable {post : Int32 → St0 → Prop} {mc ms kc ks : Nat} {x5 : Int32} {ya da yb db v1 : Nat}
theorem wt_377b {x27 : Int32} (hne : ¬ x27 = -3) (hG : ∀ n, wL_lawOf_377 post mc ms x5 (nI (wt_A ya da)) (nI (wt_A yb db)) (nI (wt_M ya da yb db)) (nI (wt_L da db)) (nI (da + db)) kc ks 2 f1 f2 f3 a1 a2 a3 a4 a5 a6 a7 a8 a9 a10 a11 a12 (n + 1) x27 (nI 8)) : ∀ d k, k + d = 8 → wL_lawOf_377 post mc ms x5 (nI (wt_A ya da)) (nI (wt_A yb db)) (nI (wt_M ya da yb db)) (nI (wt_L da db)) (nI (da + db)) kc ks 2 f1 f2 f3 a1 a2 a3 a4 a5 a6 a7 a8 a9 a10 a11 a12 (d + 1) x27 (nI k) := by
  intro d
  induction d with
  | zero =>
    intro k hk
    have e : k = 8 := by omega
    subst e
    exact hG 0
  | succ d ih =>
    intro k hk
    have t := ih (k + 1) (by omega)
    unfold wL_lawOf_377
    exact br_f (nI_ge (b := 8) (by omega) (by decide)) (nm_e ⟨by decide, by decide, nm_e (br_c (fun _ => nm_r (nI_1 k) t) (fun _ => br_c (fun _ => nm_r (nI_1 k) t) (fun _ => br_f hne (nm_r (nI_1 k) t))))⟩)
theorem wt_377a (h1 : ya < 2) (h2 : da < 4) (h3 : yb < 2) (h4 : db < 3) : ∀ d k, k + d = 8 → (∀ n, wL_lawOf_377 post mc ms x5 (nI (wt_A ya da)) (nI (wt_A yb db)) (nI (wt_M ya da yb db)) (nI (wt_L da db)) (nI (da + db)) kc ks 2 f1 f2 f3 a1 a2 a3 a4 a5 a6 a7 a8 a9 a10 a11 a12 (n + 1) (wt_nF x5 (wt_C (wt_M ya da yb db) (wt_L da db) (da + db) d k)) (nI 8)) → wL_lawOf_377 post mc ms x5 (nI (wt_A ya da)) (nI (wt_A yb db)) (nI (wt_M ya da yb db)) (nI (wt_L da db)) (nI (da + db)) kc ks 2 f1 f2 f3 a1 a2 a3 a4 a5 a6 a7 a8 a9 a10 a11 a12 (d + 1) (-3) (nI k) := by
  obtain ⟨_, hm, _, hmx⟩ := wt_numZ ya h1 da h2 yb h3 db h4
  intro d
  induction d with
  | zero =>
    intro k hk hG
    have e : k = 8 := by omega
    subst e
    exact hG 0
  | succ d ih =>
    intro k hk hG
    have e1 : nI (wt_L da db) + 2 * nI k = nI (wt_L da db + 2 * k) := by
      rw [show (2 : Int32) = nI 2 from rfl, pk_mul, nI_add]
    have hl : wt_L da db < 10 := by unfold wt_L; split <;> omega
    unfold wL_lawOf_377
    refine br_f (nI_ge (b := 8) (by omega) (by decide)) (nm_r e1 ⟨by decide, by decide, nm_e (pk_lt (da + db) (wt_L da db + 2 * k) (fun z => nm_r (nI_1 k) (ih (k + 1) (by omega) (fun n => ?_))) (fun z => ?_))⟩)
    · have t := hG n
      unfold wt_C at t
      rw [if_neg (show ¬ wt_L da db + 2 * k ≤ da + db by omega)] at t
      exact t
    · generalize he : wt_L da db + 2 * k = e at z
      have ec : (10 * ((nI (wt_M ya da yb db) + nI e) / 2)) + ((nI (wt_M ya da yb db) - nI e) / 2) = nI (10 * ((wt_M ya da yb db + e) / 2) + (wt_M ya da yb db - e) / 2) := by
        rw [nI_add, pk_sub (show e ≤ wt_M ya da yb db by omega), show (2 : Int32) = nI 2 from rfl, pk_div (by omega) (by decide) (by decide), pk_div (by omega) (by decide) (by decide), show (10 : Int32) = nI 10 from rfl, pk_mul, nI_add]
      rw [ec]
      have hG' : ∀ n, wL_lawOf_377 post mc ms x5 (nI (wt_A ya da)) (nI (wt_A yb db)) (nI (wt_M ya da yb db)) (nI (wt_L da db)) (nI (da + db)) kc ks 2 f1 f2 f3 a1 a2 a3 a4 a5 a6 a7 a8 a9 a10 a11 a12 (n + 1) (wt_nF x5 ((10 * ((wt_M ya da yb db + e) / 2) + (wt_M ya da yb db - e) / 2) :: wt_C (wt_M ya da yb db) (wt_L da db) (da + db) d (k + 1))) (nI 8) := by
        intro n
        have t := hG n
        unfold wt_C at t
        rw [he, if_pos z] at t
        exact t
      unfold wt_nF at hG'
      refine br_c (fun y => nm_r (nI_1 k) (ih (k + 1) (by omega) (fun n => ?_))) (fun y => br_t rfl (nm_r (nI_1 k) (wt_377b (wt_n3 _ (by omega)) (fun n => ?_) d (k + 1) (by omega))))
      · have t := hG' n
        rw [if_pos y] at t
        exact t
      · have t := hG' n
        rw [if_neg y] at t
        exact t
theorem wt_end (hp : post 1 ()) (h1 : ya < 2) (h2 : da < 4) (h3 : yb < 2) (h4 : db < 3) (n : Nat) : wL_lawOf_377 post mc ms x5 (nI (wt_A ya da)) (nI (wt_A yb db)) (nI (wt_M ya da yb db)) (nI (wt_L da db)) (nI (da + db)) kc ks 2 f1 f2 f3 a1 a2 a3 a4 a5 a6 a7 a8 a9 a10 a11 a12 (n + 1) (wt_nF x5 (wt_C (wt_M ya da yb db) (wt_L da db) (da + db) 8 0)) (nI 8) := by
  obtain ⟨hz, _, _, _⟩ := wt_numZ ya h1 da h2 yb h3 db h4
  obtain ⟨ha, sa, _⟩ := wt_numA ya h1 da h2
  obtain ⟨hb, sb, _⟩ := wt_numA yb h3 db (by omega)
  obtain ⟨k1, _, k3, _, _, _⟩ := wt_facts h1 h2 h3 h4
  rw [← k3]
  unfold wL_lawOf_377
  refine br_t (by decide) (wt_nextTerm ha hb sa sb hz k1 (fun u hu => ?_))
  obtain ⟨n0, f1, f2, f3, a1, a2, a3, a4, a5, a6, a7, a8, a9, a10, a11, a12⟩ := u
  have hn : n0 = 2 := hu
  subst hn
  refine wt_share2 (a := 90) (b := 10) (v := 90) (by decide) (by decide) (by decide) (by decide) (by decide) (by decide) (by decide) (fun u hu => ?_)
  obtain ⟨n0, f1, f2, f3, a1, a2, a3, a4, a5, a6, a7, a8, a9, a10, a11, a12⟩ := u
  have hn : n0 = 2 := hu
  subst hn
  refine wt_terms1 (b := 9) ha (by decide) (by decide) (fun u hu => ?_)
  obtain ⟨n0, f1, f2, f3, a1, a2, a3, a4, a5, a6, a7, a8, a9, a10, a11, a12⟩ := u
  exact br_t rfl (br_t rfl (br_t rfl hp))
theorem wt_316 (hp : post 1 ()) (h1 : ya < 2) (h2 : da < 4) (h3 : yb < 2) (h4 : db < 3) {z : Int32} : wL_lawOf_316 post mc ms x5 (nI (wt_A ya da)) (nI (wt_A yb db)) (nI (wt_M ya da yb db)) (nI (wt_L da db)) (nI (da + db)) z z kc ks 2 f1 f2 f3 a1 a2 a3 a4 a5 a6 a7 a8 a9 a10 a11 a12 := by
  obtain ⟨hz, hm, hl, hmx⟩ := wt_numZ ya h1 da h2 yb h3 db h4
  obtain ⟨ha, sa, _⟩ := wt_numA ya h1 da h2
  obtain ⟨hb, sb, _⟩ := wt_numA yb h3 db (by omega)
  obtain ⟨k1, k2, k3, k4, k5, _⟩ := wt_facts h1 h2 h3 h4
  unfold wL_lawOf_316
  refine br_t rfl (wt_terms ha hb sa sb hz k1 (fun u hu => ?_))
  obtain ⟨n0, f1, f2, f3, a1, a2, a3, a4, a5, a6, a7, a8, a9, a10, a11, a12⟩ := u
  have hn : n0 = 2 := hu
  subst hn
  refine wt_shares hb ha sb sa (by omega) k2 (fun u hu => ?_)
  obtain ⟨n0, f1, f2, f3, a1, a2, a3, a4, a5, a6, a7, a8, a9, a10, a11, a12⟩ := u
  have hn : n0 = 2 := hu
  subst hn
  have ec : (nI (da + db) - nI (wt_L da db)) / 2 + 1 = nI (wt_cnt da db) := by
    rw [pk_sub hl, show (2 : Int32) = nI 2 from rfl, pk_div (by omega) (by decide) (by decide), nI_1]
    rfl
  refine ⟨by decide, nm_r ec (br_t (by rw [k4]) (br_t (by rw [k5]) ⟨8 + 1, ?_⟩))⟩
  exact wt_377a h1 h2 h3 h4 8 0 (by omega) (wt_end hp h1 h2 h3 h4)
theorem wt_294 (hp : post 1 ()) (h1 : ya < 2) (h2 : da < 4) (h3 : yb < 2) (h4 : db < 3) {t z : Nat} (hz : z < 2) (ht : t = if wt_M ya da yb db = 0 then 1 else z) : wL_lawOf_294 post mc ms x5 (nI (wt_A ya da)) (nI (wt_A yb db)) (nI (wt_M ya da yb db)) (nI (wt_L da db)) (nI (da + db)) (nI t) (nI z) kc ks 2 f1 f2 f3 a1 a2 a3 a4 a5 a6 a7 a8 a9 a10 a11 a12 := by
  obtain ⟨_, hm, _, _⟩ := wt_numZ ya h1 da h2 yb h3 db h4
  unfold wL_lawOf_294
  refine pk_eq (wt_M ya da yb db) 0 (fun e => ?_) (fun e => ?_)
  · rw [if_pos e] at ht
    subst ht
    unfold wL_lawOf_304
    exact br_f (by decide) (wt_316 hp h1 h2 h3 h4)
  · rw [if_neg e] at ht
    subst ht
    unfold wL_lawOf_304
    refine pk_eq t 0 (fun y => ?_) (fun y => ?_)
    · subst y
      exact wt_316 hp h1 h2 h3 h4
    · have y1 : t = 1 := by omega
      subst y1
      exact wt_316 hp h1 h2 h3 h4
theorem wt_shB_i {m v1 : Nat} : wt_shB m v1 = true ↔ m ≤ 2 * v1 ∧ v1 ≤ m := by
  simp [wt_shB]
theorem wt_246t (hp : post 1 ()) (h1 : ya < 2) (h2 : da < 4) (h3 : yb < 2) (h4 : db < 3) (hv : v1 < 10) (hs : wt_shB (wt_M ya da yb db) v1 = true) : wL_lawOf_246 post mc ms x5 (nI (wt_A ya da)) (nI (wt_A yb db)) (nI (wt_M ya da yb db)) (nI (wt_L da db)) (nI (da + db)) (nI v1) 1 (nI (wt_V (wt_M ya da yb db) v1)) kc ks 2 f1 f2 f3 a1 a2 a3 a4 a5 a6 a7 a8 a9 a10 a11 a12 := by
  obtain ⟨hz, hm, hl, hmx⟩ := wt_numZ ya h1 da h2 yb h3 db h4
  obtain ⟨ha, sa, _⟩ := wt_numA ya h1 da h2
  obtain ⟨hb, sb, _⟩ := wt_numA yb h3 db (by omega)
  obtain ⟨hV, sV⟩ := wt_numV _ hm v1 hv
  obtain ⟨_, _, _, _, _, k6⟩ := wt_facts h1 h2 h3 h4
  obtain ⟨g1, g2⟩ := wt_shB_i.mp hs
  have ht := k6 v1 hv
  unfold wt_tm at ht
  rw [if_pos hs] at ht
  have e1 : 2 * nI v1 - nI (wt_M ya da yb db) = nI (2 * v1 - wt_M ya da yb db) := by
    rw [show (2 : Int32) = nI 2 from rfl, pk_mul, pk_sub g1]
  unfold wL_lawOf_246
  refine nm_r e1 (wt_share ha hb hV sa sb sV hz ht (fun u hu => ?_))
  obtain ⟨n0, f1, f2, f3, a1, a2, a3, a4, a5, a6, a7, a8, a9, a10, a11, a12⟩ := u
  have hn : n0 = 2 := hu
  subst hn
  refine br_f (by decide) (pk_lt (2 * v1 - wt_M ya da yb db) (wt_L da db) (fun y => ?_) (fun y => pk_lt (da + db) (2 * v1 - wt_M ya da yb db) (fun w => ?_) (fun w => ?_)))
  · unfold wL_lawOf_293
    refine wt_294 hp h1 h2 h3 h4 (z := 0) (by decide) ?_
    rw [if_neg (show ¬ wt_M ya da yb db + wt_L da db ≤ 2 * v1 by omega)]
  · unfold wL_lawOf_293
    refine wt_294 hp h1 h2 h3 h4 (z := 0) (by decide) ?_
    rw [if_pos (show wt_M ya da yb db + wt_L da db ≤ 2 * v1 by omega), if_neg (show ¬ 2 * v1 ≤ wt_M ya da yb db + (da + db) by omega)]
  · refine wt_294 hp h1 h2 h3 h4 (z := 1) (by decide) ?_
    rw [if_pos (show wt_M ya da yb db + wt_L da db ≤ 2 * v1 by omega), if_pos (show 2 * v1 ≤ wt_M ya da yb db + (da + db) by omega)]
theorem wt_246f (hp : post 1 ()) (h1 : ya < 2) (h2 : da < 4) (h3 : yb < 2) (h4 : db < 3) (hv : v1 < 10) (hs : ¬ wt_shB (wt_M ya da yb db) v1 = true) : wL_lawOf_246 post mc ms x5 (nI (wt_A ya da)) (nI (wt_A yb db)) (nI (wt_M ya da yb db)) (nI (wt_L da db)) (nI (da + db)) (nI v1) 0 0 kc ks 2 f1 f2 f3 a1 a2 a3 a4 a5 a6 a7 a8 a9 a10 a11 a12 := by
  obtain ⟨hz, hm, hl, hmx⟩ := wt_numZ ya h1 da h2 yb h3 db h4
  obtain ⟨ha, sa, _⟩ := wt_numA ya h1 da h2
  obtain ⟨hb, sb, _⟩ := wt_numA yb h3 db (by omega)
  obtain ⟨hV, sV⟩ := wt_numV _ hm v1 hv
  obtain ⟨_, _, _, _, _, k6⟩ := wt_facts h1 h2 h3 h4
  have ht := k6 v1 hv
  unfold wt_tm at ht
  unfold wt_V at ht hV sV
  rw [if_neg hs] at hV sV
  rw [if_neg hs, if_neg hs] at ht
  unfold wL_lawOf_246
  refine nm_e (wt_share (v := 0) ha hb hV sa sb sV hz ht (fun u hu => ?_))
  obtain ⟨n0, f1, f2, f3, a1, a2, a3, a4, a5, a6, a7, a8, a9, a10, a11, a12⟩ := u
  have hn : n0 = 2 := hu
  subst hn
  refine br_t rfl ?_
  unfold wL_lawOf_293
  exact wt_294 hp h1 h2 h3 h4 (z := 0) (by decide) rfl
theorem wt_198 (hp : post 1 ()) (h1 : ya < 2) (h2 : da < 4) (h3 : yb < 2) (h4 : db < 3) (hv : v1 < 10) {z : Int32} : wL_lawOf_198 post mc ms x5 (nI (wt_A ya da)) (nI (wt_A yb db)) (nI (wt_M ya da yb db)) (nI (wt_L da db)) (nI (da + db)) (nI v1) z z kc ks 2 f1 f2 f3 a1 a2 a3 a4 a5 a6 a7 a8 a9 a10 a11 a12 := by
  obtain ⟨hz, hm, hl, hmx⟩ := wt_numZ ya h1 da h2 yb h3 db h4
  have F : ¬ wt_shB (wt_M ya da yb db) v1 = true → wL_lawOf_223 post mc ms x5 (nI (wt_A ya da)) (nI (wt_A yb db)) (nI (wt_M ya da yb db)) (nI (wt_L da db)) (nI (da + db)) (nI v1) kc ks 2 f1 f2 f3 a1 a2 a3 a4 a5 a6 a7 a8 a9 a10 a11 a12 := by
    intro hs
    unfold wL_lawOf_223 wL_lawOf_224
    exact br_t rfl (wt_246f hp h1 h2 h3 h4 hv hs)
  have e1 : 2 * nI v1 = nI (2 * v1) := by
    rw [show (2 : Int32) = nI 2 from rfl, pk_mul]
  unfold wL_lawOf_198
  refine br_t rfl ?_
  rw [e1]
  refine pk_lt (2 * v1) (wt_M ya da yb db) (fun y => F (fun s => absurd (wt_shB_i.mp s).1 (by omega))) (fun y => pk_lt (wt_M ya da yb db) v1 (fun w => F (fun s => absurd (wt_shB_i.mp s).2 (by omega))) (fun w => ?_))
  have hs : wt_shB (wt_M ya da yb db) v1 = true := wt_shB_i.mpr ⟨y, w⟩
  unfold wL_lawOf_224
  refine br_f (by decide) ?_
  have e2 : ((10 * nI v1) + nI (wt_M ya da yb db)) - nI v1 = nI (wt_V (wt_M ya da yb db) v1) := by
    rw [wt_place, pk_sub (show v1 ≤ 10 * v1 + wt_M ya da yb db by omega)]
    unfold wt_V
    rw [if_pos hs, show 10 * v1 + wt_M ya da yb db - v1 = 10 * v1 + (wt_M ya da yb db - v1) from by omega]
  rw [e2]
  exact wt_246t hp h1 h2 h3 h4 hv hs
theorem wt_159 (hp : post 1 ()) (h1 : ya < 2) (h2 : da < 4) (h3 : yb < 2) (h4 : db < 3) (hv : v1 < 10) {z0 : Int32} (hz0 : nI (10 * v1) + z0 = nI (wt_W ya da v1)) : wL_lawOf_159 post mc ms x5 (nI ya) (nI da) (nI (wt_A ya da)) (nI (wt_A yb db)) (nI (wt_M ya da yb db)) (nI (wt_L da db)) (nI (da + db)) (nI v1) (nI (da + 1)) z0 (nI (10 * v1)) (nI (wt_A ya da)) kc ks 2 f1 f2 f3 a1 a2 a3 a4 a5 a6 a7 a8 a9 a10 a11 a12 := by
  obtain ⟨ha, sa, _⟩ := wt_numA ya h1 da h2
  unfold wL_lawOf_159
  rw [hz0]
  refine wt_mult ha sa (wt_numW ya h1 da h2 v1 hv) (wt_cfall ya h1 da h2 v1 hv) (fun u hu => ?_)
  obtain ⟨n0, f1, f2, f3, a1, a2, a3, a4, a5, a6, a7, a8, a9, a10, a11, a12⟩ := u
  have hn : n0 = 2 := hu
  subst hn
  refine br_t (nI_1 da).symm (pk_lt v1 ya (fun y => ?_) (fun y => ?_))
  · rw [if_neg (fun t => absurd t.1 (by omega))]
    unfold wL_lawOf_197
    exact wt_198 hp h1 h2 h3 h4 hv
  · rw [nI_add]
    refine pk_lt (ya + da) v1 (fun w => ?_) (fun w => ?_)
    · rw [if_neg (fun t => absurd t.2 (by omega))]
      unfold wL_lawOf_197
      exact wt_198 hp h1 h2 h3 h4 hv
    · rw [if_pos ⟨y, w⟩]
      exact wt_198 hp h1 h2 h3 h4 hv
end
theorem wt_86 {post : Int32 → St0 → Prop} {x4 x5 : Int32} {ya da yb db : Nat} (hp : post 1 ()) (h1 : ya < 2) (h2 : da < 4) (h3 : yb < 2) (h4 : db < 3) : wL_lawOf_86 post 1518 24288 x4 x5 (nI ya) (nI da) (nI db) (nI (wt_A ya da)) (nI (wt_A yb db)) (nI (wt_M ya da yb db)) (nI (wt_L da db)) 0 0 := by
  obtain ⟨ha, sa, ea⟩ := wt_numA ya h1 da h2
  obtain ⟨j, hj, ej⟩ := pk_andE x4 (m := 2147483647) 31 (by decide)
  have e15 : (x4 &&& 2147483647) - (x4 &&& 2147483647) / 10 * 10 = nI (j % 10) := by
    rw [ej]
    exact pk_rem (d := 10) hj (by decide) (by decide)
  have hv : j % 10 < 10 := by omega
  generalize j % 10 = v1 at e15 hv
  unfold wL_lawOf_86
  refine nm_r (nI_add _ _) ⟨by decide, nm_r e15 ⟨by decide, by decide, 12, 2967, by decide, by decide, ?_⟩⟩
  unfold wpX_init
  refine ⟨by decide, by decide, by decide, by decide, by decide, by decide, by decide, by decide, by decide, by decide, by decide, by decide, by decide, by decide, by decide, by decide, by decide, by decide, by decide, by decide, by decide, by decide, by decide, by decide, br_t (by decide) ?_⟩
  unfold wX_init_111
  refine br_t (by decide) (wt_fill ha sa ?_)
  rw [ea]
  have e0 : (2 * nI ya) + nI da = nI (2 * ya + da) := by
    rw [show (2 : Int32) = nI 2 from rfl, pk_mul, nI_add]
  have e10 : 10 * nI v1 = nI (10 * v1) := by
    rw [show (10 : Int32) = nI 10 from rfl, pk_mul]
  rw [e0, e10]
  refine pk_lt (2 * ya + da) v1 (fun y => ?_) (fun y => ?_)
  · refine wt_159 hp h1 h2 h3 h4 hv ?_
    rw [Int32.add_zero]
    unfold wt_W
    rw [if_neg (by omega), Nat.add_zero]
  · rw [pk_sub y]
    refine wt_159 hp h1 h2 h3 h4 hv ?_
    rw [nI_add]
    unfold wt_W
    rw [if_pos y]
theorem wt_lawOf {post : Int32 → St0 → Prop} (hp : post 1 ()) (p0 p1 p2 p3 p4 p5 : Int32) : wpL_lawOf post 1518 24288 () p0 p1 p2 p3 p4 p5 := by
  obtain ⟨ya, h1, e1⟩ := pk_andE p0 (m := 1) 1 (by decide)
  obtain ⟨da, h2, e2⟩ := pk_andE p1 (m := 3) 2 (by decide)
  obtain ⟨yb, h3, e3⟩ := pk_andE p2 (m := 1) 1 (by decide)
  obtain ⟨j, hj, ej⟩ := pk_andE p3 (m := 2147483647) 31 (by decide)
  have e4 : (p3 &&& 2147483647) - (p3 &&& 2147483647) / 3 * 3 = nI (j % 3) := by
    rw [ej]
    exact pk_rem (d := 3) hj (by decide) (by decide)
  have h4 : j % 3 < 3 := by omega
  generalize j % 3 = db at e4 h4
  have eA : ∀ x y : Nat, (10 * (nI x + nI y)) + nI x = nI (wt_A x y) := by
    intro x y
    rw [nI_add, wt_place]
    rfl
  have eM : (((2 * nI ya) + nI da) + (2 * nI yb)) + nI db = nI (wt_M ya da yb db) := by
    rw [show (2 : Int32) = nI 2 from rfl, pk_mul, pk_mul, nI_add, nI_add, nI_add]
    rfl
  unfold wpL_lawOf
  refine nm_r e1 (nm_r e2 (nm_r e3 ⟨by decide, nm_r e4 (nm_r (eA _ _) (nm_r (eA _ _) (nm_r eM ?_)))⟩))
  refine pk_le da db (fun y => ?_) (fun y => ?_)
  · have t := wt_86 (x4 := p4) (x5 := p5) hp h1 h2 h3 h4
    rw [show wt_L da db = db - da from if_pos y, ← pk_sub y] at t
    exact t
  · have t := wt_86 (x4 := p4) (x5 := p5) hp h1 h2 h3 h4
    rw [show wt_L da db = da - db from if_neg (by omega), ← pk_sub (show db ≤ da by omega)] at t
    exact t
theorem wt_cell {post : Int32 → Prop} {L : Nat} {xs : Nat → Int32} (hL : L ≤ 6) (k : Nat) (hk : k < 6) (h : ∀ x, post x) : wpL_cellAt post L xs () (nI k) := by
  unfold wpL_cellAt
  exact pk_le L k (fun _ => h 0) (fun z => ⟨pk_in k L z, h _⟩)
theorem i_vc (xs : Nat → Int32) (L : Nat) (hL : L ≤ 6) : wpL_law (fun r => r = 1) L xs := by
  unfold wpL_law
  refine wt_cell hL 0 (by decide) (fun r1 => wt_cell hL 1 (by decide) (fun r2 => wt_cell hL 2 (by decide) (fun r3 => wt_cell hL 3 (by decide) (fun r4 => wt_cell hL 4 (by decide) (fun r5 => wt_cell hL 5 (by decide) (fun r6 => ?_))))))
  exact ⟨1518, 24288, by decide, by decide, wt_lawOf rfl r1 r2 r3 r4 r5 r6⟩
end
