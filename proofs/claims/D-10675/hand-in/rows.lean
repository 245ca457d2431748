section
/-- an int out of an integer -/
def wg_z (z : Int) : Int32 := Int32.ofInt z
theorem wg_add (a b : Int) : wg_z a + wg_z b = wg_z (a + b) := (Int32.ofInt_add a b).symm
theorem wg_sub (a b : Int) : wg_z a - wg_z b = wg_z (a - b) := (Int32.ofInt_sub a b).symm
theorem wg_mul (a b : Int) : wg_z a * wg_z b = wg_z (a * b) := (Int32.ofInt_mul a b).symm
theorem wg_n (n : Nat) : nI n = wg_z (n : Int) := Int32.ofInt_eq_ofNat.symm
theorem wg_self (x : Int32) : x = wg_z x.toInt := (Int32.ofInt_toInt x).symm
theorem wg_toInt {a : Int} (h : -2147483648 ≤ a ∧ a < 2147483648) : (wg_z a).toInt = a :=
  Int32.toInt_ofInt_of_le (by omega) (by omega)
theorem wg_lt {a b : Int} (ha : -2147483648 ≤ a ∧ a < 2147483648) (hb : -2147483648 ≤ b ∧ b < 2147483648) : wg_z a < wg_z b ↔ a < b := by
  rw [Int32.lt_iff_toInt_lt, wg_toInt ha, wg_toInt hb]
theorem wg_le {a b : Int} (ha : -2147483648 ≤ a ∧ a < 2147483648) (hb : -2147483648 ≤ b ∧ b < 2147483648) : wg_z a ≤ wg_z b ↔ a ≤ b := by
  rw [Int32.le_iff_toInt_le, wg_toInt ha, wg_toInt hb]
theorem wg_blt {x y : Int32} {P Q : Prop} (a b : Int) (f : a < b → P) (g : b ≤ a → Q) (ha : -2147483648 ≤ a ∧ a < 2147483648 := by omega) (hb : -2147483648 ≤ b ∧ b < 2147483648 := by omega) (hx : x = wg_z a := by rfl) (hy : y = wg_z b := by rfl) : (x < y → P) ∧ (¬ x < y → Q) := by
  subst hx hy
  exact ⟨fun h => f ((wg_lt ha hb).mp h), fun h => g (Int.not_lt.mp (fun z => h ((wg_lt ha hb).mpr z)))⟩
theorem wg_ble {x y : Int32} {P Q : Prop} (a b : Int) (f : a ≤ b → P) (g : b < a → Q) (ha : -2147483648 ≤ a ∧ a < 2147483648 := by omega) (hb : -2147483648 ≤ b ∧ b < 2147483648 := by omega) (hx : x = wg_z a := by rfl) (hy : y = wg_z b := by rfl) : (x ≤ y → P) ∧ (¬ x ≤ y → Q) := by
  subst hx hy
  exact ⟨fun h => f ((wg_le ha hb).mp h), fun h => g (Int.not_le.mp (fun z => h ((wg_le ha hb).mpr z)))⟩
/-- a product of a count and a small step is small -/
theorem wg_kb {k : Nat} {s : Int} (hk : k ≤ 100) (hs : -100 ≤ s ∧ s ≤ 100) : -10000 ≤ (k : Int) * s ∧ (k : Int) * s ≤ 10000 := by
  have h1 : (k : Int) * s ≤ k * 100 := Int.mul_le_mul_of_nonneg_left hs.2 (Int.natCast_nonneg k)
  have h2 : (k : Int) * (-100) ≤ k * s := Int.mul_le_mul_of_nonneg_left hs.1 (Int.natCast_nonneg k)
  omega
/-- a table as one number: 8 bits a cell -/
def wg_get (T i : Nat) : Nat := (T >>> (8 * i)) % 256
def wg_put (T i v : Nat) : Option Nat := if wg_get T i = 0 ∧ v < 256 then some (T ||| v <<< (8 * i)) else none
theorem wg_get_bit (T i b : Nat) : (wg_get T i).testBit b = (decide (b < 8) && T.testBit (8 * i + b)) := by
  unfold wg_get
  rw [show (256 : Nat) = 2 ^ 8 from rfl, Nat.testBit_mod_two_pow, Nat.testBit_shiftRight]
theorem wg_get_lt (T i : Nat) : wg_get T i < 256 := Nat.mod_lt _ (by decide)
theorem wg_get_0 (i : Nat) : wg_get 0 i = 0 := by
  unfold wg_get
  rw [Nat.zero_shiftRight]
theorem wg_hi {v b : Nat} (hv : v < 256) (hb : 8 ≤ b) : v.testBit b = false :=
  Nat.testBit_lt_two_pow (Nat.lt_of_lt_of_le hv (Nat.pow_le_pow_right (n := 2) (by decide) hb))
theorem wg_put_get {T i v T' : Nat} (h : wg_put T i v = some T') (j : Nat) : wg_get T' j = if j = i then v else wg_get T j := by
  unfold wg_put at h
  by_cases hc : wg_get T i = 0 ∧ v < 256
  · rw [if_pos hc] at h
    obtain ⟨h0, hv⟩ := hc
    injection h with h
    subst h
    apply Nat.eq_of_testBit_eq
    intro b
    rw [wg_get_bit, Nat.testBit_or, Nat.testBit_shiftLeft]
    by_cases e : j = i
    · subst e
      rw [if_pos rfl, show 8 * j + b - 8 * j = b by omega]
      by_cases hb : b < 8
      · have h1 : (wg_get T j).testBit b = false := by rw [h0, Nat.zero_testBit]
        rw [wg_get_bit, decide_eq_true hb, Bool.true_and] at h1
        rw [h1, decide_eq_true hb, decide_eq_true (show 8 * j + b ≥ 8 * j by omega)]
        simp
      · rw [wg_hi hv (by omega), decide_eq_false hb]
        simp
    · rw [if_neg e, wg_get_bit]
      by_cases hb : b < 8
      · by_cases hj : 8 * j + b ≥ 8 * i
        · rw [wg_hi (v := v) (b := 8 * j + b - 8 * i) hv (by omega)]
          simp
        · rw [decide_eq_false hj]
          simp
      · rw [decide_eq_false hb]
        simp
  · rw [if_neg hc] at h
    exact absurd h (by simp)
theorem wg_put_v {T i v T' : Nat} (h : wg_put T i v = some T') : v < 256 := by
  unfold wg_put at h
  by_cases hc : wg_get T i = 0 ∧ v < 256
  · exact hc.2
  · rw [if_neg hc] at h
    exact absurd h (by simp)
/-- an array that holds a table -/
def wg_tab (T : Nat) (a : Nat → Int32) : Prop := ∀ i, i < 1089 → a i = nI (wg_get T i)
theorem wg_tab_put {T i v T' : Nat} {a : Nat → Int32} (h : wg_put T i v = some T') (ha : wg_tab T a) : wg_tab T' (upd a i (nI v)) := by
  intro j hj
  rw [wg_put_get h j]
  by_cases e : j = i
  · rw [if_pos e, e, pk_us]
  · rw [if_neg e, pk_un e]
    exact ha j hj
theorem wg_tab_0 {a : Nat → Int32} (h : ∀ i, i < 1089 → a i = 0) : wg_tab 0 a := by
  intro i hi
  rw [wg_get_0, h i hi]
  rfl
end
section
/-- the cell of a weight that is near -/
def wg_c (x y : Int) : Nat := 33 * (x + 16).toNat + (y + 16).toNat
def wg_Near (x y : Int) : Prop := -16 ≤ x ∧ x ≤ 16 ∧ -16 ≤ y ∧ y ≤ 16
theorem wg_c_lt {x y : Int} (h : wg_Near x y) : wg_c x y < 1089 := by
  unfold wg_c
  unfold wg_Near at h
  omega
theorem wg_cell {x y : Int} (h : wg_Near x y) : ((33 * (wg_z x + 16)) + wg_z y) + 16 = nI (wg_c x y) := by
  rw [wg_n]
  have e : ((wg_z 33 * (wg_z x + wg_z 16)) + wg_z y) + wg_z 16 = wg_z (wg_c x y : Int) := by
    rw [wg_add, wg_mul, wg_add, wg_add]
    unfold wg_c
    unfold wg_Near at h
    congr 1
    omega
  exact e
def wg_ent (T : Nat) (x y : Int) : Nat := match x + 16 with
  | .negSucc _ => 0
  | .ofNat X => match y + 16 with
    | .negSucc _ => 0
    | .ofNat Y => bif Nat.ble X 32 && Nat.ble Y 32 then wg_get T (33 * X + Y) else 0
theorem wg_ent_in {T : Nat} {x y : Int} (h : wg_Near x y) : wg_ent T x y = wg_get T (wg_c x y) := by
  unfold wg_Near at h
  obtain ⟨X, hX⟩ := Int.eq_ofNat_of_zero_le (show 0 ≤ x + 16 by omega)
  obtain ⟨Y, hY⟩ := Int.eq_ofNat_of_zero_le (show 0 ≤ y + 16 by omega)
  have hX' : x + 16 = Int.ofNat X := hX
  have hY' : y + 16 = Int.ofNat Y := hY
  unfold wg_ent wg_c
  rw [hX', hY']
  dsimp only
  rw [Nat.ble_eq_true_of_le (show X ≤ 32 by omega), Nat.ble_eq_true_of_le (show Y ≤ 32 by omega)]
  rfl
theorem wg_ent_out {T : Nat} {x y : Int} (h : ¬ wg_Near x y) : wg_ent T x y = 0 := by
  unfold wg_ent
  split
  · rfl
  · next X hX =>
    split
    · rfl
    · next Y hY =>
      have hX' : x + 16 = (X : Int) := hX
      have hY' : y + 16 = (Y : Int) := hY
      cases hb : (Nat.ble X 32 && Nat.ble Y 32) with
      | false => rfl
      | true =>
        rw [Bool.and_eq_true, Nat.ble_eq, Nat.ble_eq] at hb
        refine absurd ?_ h
        unfold wg_Near
        omega
/-- the sum along one root: n turns to go, k the turn, u and v the root's parts by their lengths -/
def wg_sa (T : Nat) (u v a b dA dB : Int) : Nat → Nat → Int → Int
  | 0, _, s => s
  | n + 1, k, s => match wg_ent T (a + (k : Int) * dA) (b + (k : Int) * dB) with
    | 0 => wg_sa T u v a b dA dB n (k + 1) s
    | e + 1 => wg_sa T u v a b dA dB n (k + 1) (s + (u * (a + (k : Int) * dA) + v * (b + (k : Int) * dB)) * ((e + 1 : Nat) : Int))
theorem wg_sa_s (T : Nat) (u v a b dA dB : Int) (n k : Nat) (s : Int) :
    wg_sa T u v a b dA dB (n + 1) k s = wg_sa T u v a b dA dB n (k + 1) (s + (u * (a + (k : Int) * dA) + v * (b + (k : Int) * dB)) * (wg_ent T (a + (k : Int) * dA) (b + (k : Int) * dB) : Int)) := by
  rw [wg_sa]
  split
  · next h => rw [h]; simp
  · next e h => rw [h]
def wg_r1 (i : Nat) : Int := [1, 0, 1, 1, 0, 0, 1, 0, 1, 1, 0, 0, 1, 0, 1, 1, 0, 0, 1, 0, 1, 1, 1, 2].getD i 0
def wg_r2 (i : Nat) : Int := [0, 1, 1, 2, 0, 0, 0, 1, 1, 2, 0, 0, 0, 1, 1, 2, 0, 0, 0, 1, 1, 2, 3, 3].getD i 0
def wg_roots (a1 a2 : Nat → Int32) : Prop := ∀ i, i < 24 → a1 i = wg_z (wg_r1 i) ∧ a2 i = wg_z (wg_r2 i)
def wg_p (t : Nat) : Int := -(t : Int)
def wg_q (t : Nat) : Int := match t with
  | 0 => 0
  | _ + 1 => -1
def wg_l (t : Nat) : Int := match t with
  | 0 => 1
  | k + 1 => ((k + 1 : Nat) : Int)
def wg_nr (t : Nat) : Nat := match t with
  | 0 => 2
  | 1 => 3
  | 2 => 4
  | _ => 6
def wg_dA (t ρ : Nat) : Int := 2 * wg_r1 ρ + wg_q t * wg_r2 ρ
def wg_dB (t ρ : Nat) : Int := wg_p t * wg_r1 ρ + 2 * wg_r2 ρ
def wg_al (t T ρ : Nat) (x y : Int) : Int := wg_sa T (wg_r1 ρ * wg_l t) (wg_r2 ρ) x y (wg_dA t ρ) (wg_dB t ρ) 32 1 0
/-- the sum over the roots: n to go, r the next -/
def wg_rs (t T : Nat) (x y : Int) : Nat → Nat → Int → Int
  | 0, _, s => s
  | n + 1, r, s => wg_rs t T x y n (r + 1) (s + wg_al t T (6 * t + r) x y)
def wg_wa (t A m n : Nat) : Int := (A : Int) - 2 * (m : Int) - wg_q t * (n : Int)
def wg_wb (t B m n : Nat) : Int := (B : Int) - wg_p t * (m : Int) - 2 * (n : Int)
def wg_dv (t A B m n : Nat) (x y : Int) : Int := (m : Int) * wg_l t * ((A : Int) + x + 2) + (n : Int) * ((B : Int) + y + 2)
/-- one weight of a table -/
def wg_one (t A B m n T : Nat) (x y : Int) : Option Nat :=
  if -16 ≤ x ∧ x ≤ 16 ∧ -16 ≤ y ∧ y ≤ 16 then
    if m = 0 ∧ n = 0 then wg_put T (wg_c x y) 1
    else if wg_dv t A B m n x y ≤ 0 then some T
    else match wg_rs t T x y (wg_nr t) 0 0 with
      | .negSucc _ => none
      | .ofNat s => if s < 1000000000 then wg_put T (wg_c x y) (2 * s / (wg_dv t A B m n x y).toNat) else none
  else some T
def wg_step (t A B m n T : Nat) : Option Nat := wg_one t A B m n T (wg_wa t A m n) (wg_wb t B m n)
def wg_in (t A B m : Nat) : Nat → Nat → Nat → Option Nat
  | 0, _, T => some T
  | k + 1, n, T => match wg_step t A B m n T with
    | none => none
    | some T' => wg_in t A B m k (n + 1) T'
def wg_out (t A B M : Nat) : Nat → Nat → Nat → Option Nat
  | 0, _, T => some T
  | k + 1, m, T => match wg_in t A B m (M + 1) 0 T with
    | none => none
    | some T' => wg_out t A B M k (m + 1) T'
def wg_m1 (t A B : Nat) : Nat := match t with
  | 0 => A
  | 1 => A + B
  | 2 => 2 * A + B
  | _ => 4 * A + 2 * B
def wg_m2 (t A B : Nat) : Nat := match t with
  | 0 => B
  | 1 => A + B
  | 2 => 2 * A + 2 * B
  | _ => 6 * A + 4 * B
/-- the table of the high weight (A, B) -/
def wg_run (t A B : Nat) : Option Nat := wg_out t A B (wg_m2 t A B) (wg_m1 t A B + 1) 0 0
/-- how many cells aren't 0: n to go, i the next -/
def wg_cnt (T : Nat) : Nat → Nat → Nat → Nat
  | 0, _, c => c
  | n + 1, i, c => match wg_get T i with
    | 0 => wg_cnt T n (i + 1) c
    | _ + 1 => wg_cnt T n (i + 1) (c + 1)
/-- the size: n roots to go, r the next -/
def wg_sz (t A B : Nat) : Nat → Nat → Nat → Nat → Option Nat
  | 0, _, u, v => if 0 < v ∧ v < 1000000000000000000 ∧ u < 1000000000000000000 ∧ u / v < 1000000000 then some (u / v) else none
  | n + 1, r, u, v => wg_sz t A B n (r + 1) (u * ((wg_r1 (6 * t + r) * wg_l t).toNat * (A + 1) + (wg_r2 (6 * t + r)).toNat * (B + 1))) (v * ((wg_r1 (6 * t + r) * wg_l t).toNat + (wg_r2 (6 * t + r)).toNat))
def wg_good (t A B : Nat) : Bool := match wg_run t A B with
  | none => false
  | some T => match wg_sz t A B (wg_nr t) 0 1 1 with
    | none => false
    | some S => Nat.ble S 1000000000 && (Nat.ble (A + 1) (wg_cnt T 1089 0 0) && (Nat.ble (wg_cnt T 1089 0 0) S && Nat.beq (wg_get T (33 * (A + 16) + (B + 16))) 1))
end
section
theorem wg_good0 : ∀ A, A < 4 → ∀ B, B < 4 → wg_good 0 A B = true := by decide +kernel
theorem wg_good1 : ∀ A, A < 4 → ∀ B, B < 4 → wg_good 1 A B = true := by decide +kernel
theorem wg_g2_0 : ∀ B, B < 4 → wg_good 2 0 B = true := by decide +kernel
theorem wg_g2_1 : ∀ B, B < 4 → wg_good 2 1 B = true := by decide +kernel
theorem wg_g2_2 : ∀ B, B < 4 → wg_good 2 2 B = true := by decide +kernel
theorem wg_g2_3 : ∀ B, B < 4 → wg_good 2 3 B = true := by decide +kernel
theorem wg_g3_00 : wg_good 3 0 0 = true := by decide +kernel
theorem wg_g3_01 : wg_good 3 0 1 = true := by decide +kernel
theorem wg_g3_02 : wg_good 3 0 2 = true := by decide +kernel
theorem wg_g3_03 : wg_good 3 0 3 = true := by decide +kernel
theorem wg_g3_10 : wg_good 3 1 0 = true := by decide +kernel
theorem wg_g3_11 : wg_good 3 1 1 = true := by decide +kernel
theorem wg_g3_12 : wg_good 3 1 2 = true := by decide +kernel
theorem wg_g3_13 : wg_good 3 1 3 = true := by decide +kernel
theorem wg_g3_20 : wg_good 3 2 0 = true := by decide +kernel
theorem wg_g3_21 : wg_good 3 2 1 = true := by decide +kernel
theorem wg_g3_22 : wg_good 3 2 2 = true := by decide +kernel
theorem wg_g3_23 : wg_good 3 2 3 = true := by decide +kernel
theorem wg_g3_30 : wg_good 3 3 0 = true := by decide +kernel
theorem wg_g3_31 : wg_good 3 3 1 = true := by decide +kernel
theorem wg_g3_32 : wg_good 3 3 2 = true := by decide +kernel
theorem wg_g3_33 : wg_good 3 3 3 = true := by decide +kernel
theorem wg_good2 : ∀ A, A < 4 → ∀ B, B < 4 → wg_good 2 A B = true := fun _ hA => co_4 (P := fun A => ∀ B, B < 4 → wg_good 2 A B = true) wg_g2_0 wg_g2_1 wg_g2_2 wg_g2_3 hA
theorem wg_g3_0 : ∀ B, B < 4 → wg_good 3 0 B = true := fun _ hB => co_4 (P := fun B => wg_good 3 0 B = true) wg_g3_00 wg_g3_01 wg_g3_02 wg_g3_03 hB
theorem wg_g3_1 : ∀ B, B < 4 → wg_good 3 1 B = true := fun _ hB => co_4 (P := fun B => wg_good 3 1 B = true) wg_g3_10 wg_g3_11 wg_g3_12 wg_g3_13 hB
theorem wg_g3_2 : ∀ B, B < 4 → wg_good 3 2 B = true := fun _ hB => co_4 (P := fun B => wg_good 3 2 B = true) wg_g3_20 wg_g3_21 wg_g3_22 wg_g3_23 hB
theorem wg_g3_3 : ∀ B, B < 4 → wg_good 3 3 B = true := fun _ hB => co_4 (P := fun B => wg_good 3 3 B = true) wg_g3_30 wg_g3_31 wg_g3_32 wg_g3_33 hB
theorem wg_good3 : ∀ A, A < 4 → ∀ B, B < 4 → wg_good 3 A B = true := fun _ hA => co_4 (P := fun A => ∀ B, B < 4 → wg_good 3 A B = true) wg_g3_0 wg_g3_1 wg_g3_2 wg_g3_3 hA
end
section
theorem wg_near {post : Int32 → Prop} {x y : Int} (hx : -100000 ≤ x ∧ x ≤ 100000) (hy : -100000 ≤ y ∧ y ≤ 100000) (h1 : wg_Near x y → post 1) (h0 : ¬ wg_Near x y → post 0) : wpX_isNear post () (wg_z x) (wg_z y) := by
  unfold wpX_isNear
  refine wg_blt x (-16) (fun c => h0 (fun h => ?_)) (fun c => wg_blt 16 x (fun c2 => h0 (fun h => ?_)) (fun c2 => wg_blt y (-16) (fun c3 => h0 (fun h => ?_)) (fun c3 => wg_blt 16 y (fun c4 => h0 (fun h => ?_)) (fun c4 => h1 ?_))))
  · have h' := h.1
    omega
  · have h' := h.2.1
    omega
  · have h' := h.2.2.1
    omega
  · have h' := h.2.2.2
    omega
  · exact ⟨c, c2, c3, c4⟩
theorem wg_entry {post : Int32 → Prop} {T : Nat} {x y : Int} {ty pp qq lo sh nr mo fA fB sA sB gA gB uA uB uS : Int32} {a1 a2 a3 a4 a5 : Nat → Int32} (h4 : wg_tab T a4) (hx : -100000 ≤ x ∧ x ≤ 100000) (hy : -100000 ≤ y ∧ y ≤ 100000) (hp : post (nI (wg_ent T x y))) : wpX_entry post (ty, pp, qq, lo, sh, nr, mo, fA, fB, sA, sB, gA, gB, uA, uB, uS, a1, a2, a3, a4, a5) (wg_z x) (wg_z y) := by
  unfold wpX_entry
  dsimp only
  refine wg_near hx hy (fun h => br_f (by decide) ?_) (fun h => br_t rfl ?_)
  · unfold wpX_cell
    rw [wg_cell h]
    refine ⟨vp_in_nI (wg_c_lt h) (by decide), ?_⟩
    have hc := wg_c_lt h
    rw [nI_clamp (show wg_c x y < 2 ^ 31 by omega), h4 _ hc]
    rw [wg_ent_in h] at hp
    exact hp
  · rw [wg_ent_out h] at hp
    exact hp
theorem wg_sum50 {post : Int32 → Prop} {T ρ : Nat} {x y r1 r2 l dA dB : Int} {ty pp qq nr mo fA fB sA sB gA gB uA uB uS : Int32} {a1 a2 a3 a4 a5 : Nat → Int32} (hρ : ρ < 24) (h1 : a1 ρ = wg_z r1) (h2 : a2 ρ = wg_z r2) (h4 : wg_tab T a4) (hx : -16 ≤ x ∧ x ≤ 16) (hy : -16 ≤ y ∧ y ≤ 16) (kA : -100 ≤ dA ∧ dA ≤ 100) (kB : -100 ≤ dB ∧ dB ≤ 100) :
    ∀ (n k : Nat) (s : Int), n + k = 33 → post (wg_z (wg_sa T (r1 * l) r2 x y dA dB n k s)) → wX_sumAlong_50 post (nI ρ) (wg_z x) (wg_z y) (wg_z dA) (wg_z dB) ty pp qq (wg_z l) 1 nr mo fA fB sA sB gA gB uA uB uS a1 a2 a3 a4 a5 (n + 1) (wg_z s) (nI k) := by
  intro n
  induction n with
  | zero =>
    intro k s hk hp
    exact pk_lt 32 k (fun _ => hp) (fun z => absurd z (by omega))
  | succ n ih =>
    intro k s hk hp
    have qA := wg_kb (k := k) (by omega) kA
    have qB := wg_kb (k := k) (by omega) kB
    refine pk_lt 32 k (fun z => absurd z (by omega)) (fun _ => ?_)
    refine nm_r (e' := wg_z (x + (k : Int) * dA)) (by rw [wg_n, wg_mul, wg_add]) (nm_r (e' := wg_z (y + (k : Int) * dB)) (by rw [wg_n, wg_mul, wg_add]) ⟨vp_in_nI hρ (by decide), vp_in_nI hρ (by decide), ?_⟩)
    refine nm_r (e' := wg_z (r1 * l * (x + (k : Int) * dA) + r2 * (y + (k : Int) * dB))) (by rw [nI_clamp (show ρ < 2 ^ 31 by omega), h1, h2, Int32.mul_one, wg_mul, wg_mul, wg_mul, wg_add]) ?_
    refine wg_entry h4 (by omega) (by omega) ?_
    refine nm_r (e' := wg_z (s + (r1 * l * (x + (k : Int) * dA) + r2 * (y + (k : Int) * dB)) * (wg_ent T (x + (k : Int) * dA) (y + (k : Int) * dB) : Int))) (by rw [wg_n, wg_mul, wg_add]) (nm_r (nI_1 k) (ih _ _ (by omega) ?_))
    rw [wg_sa_s] at hp
    exact hp
theorem wg_sb : ∀ t, t < 4 → ∀ ρ, ρ < 24 → (-100 ≤ wg_dA t ρ ∧ wg_dA t ρ ≤ 100) ∧ (-100 ≤ wg_dB t ρ ∧ wg_dB t ρ ≤ 100) := by decide +kernel
theorem wg_2 : (2 : Int32) = wg_z 2 := rfl
theorem wg_sumAlong {post : Int32 → Prop} {t T ρ : Nat} {x y : Int} {mo fA fB sA sB gA gB uA uB uS : Int32} {a1 a2 a3 a4 a5 : Nat → Int32} (ht : t < 4) (hρ : ρ < 24) (hR : wg_roots a1 a2) (h4 : wg_tab T a4) (hx : -16 ≤ x ∧ x ≤ 16) (hy : -16 ≤ y ∧ y ≤ 16) (hp : post (wg_z (wg_al t T ρ x y))) : wpX_sumAlong post (nI t, wg_z (wg_p t), wg_z (wg_q t), wg_z (wg_l t), 1, nI (wg_nr t), mo, fA, fB, sA, sB, gA, gB, uA, uB, uS, a1, a2, a3, a4, a5) (nI ρ) (wg_z x) (wg_z y) := by
  have b := wg_sb t ht ρ hρ
  obtain ⟨h1, h2⟩ := hR ρ hρ
  have v : vp_in (nI ρ) 24 := vp_in_nI hρ (by decide)
  unfold wpX_sumAlong
  dsimp only
  refine ⟨v, v, nm_r (e' := wg_z (wg_dA t ρ)) ?_ ⟨v, v, nm_r (e' := wg_z (wg_dB t ρ)) ?_ ⟨33, wg_sum50 hρ h1 h2 h4 hx hy b.1 b.2 32 1 0 rfl hp⟩⟩⟩
  · rw [nI_clamp (show ρ < 2 ^ 31 by omega), h1, h2, wg_2, wg_mul, wg_mul, wg_add]
    rfl
  · rw [nI_clamp (show ρ < 2 ^ 31 by omega), h1, h2, wg_2, wg_mul, wg_mul, wg_add]
    rfl
theorem wg_nr_le (t : Nat) : wg_nr t ≤ 6 := by
  unfold wg_nr
  split <;> omega
theorem wg_b109 {post : St2 → Prop} {t T T' s' d : Nat} {x y : Int} {mo fA fB sA sB gA gB uA uB uS : Int32} {a1 a2 a3 a4 a5 : Nat → Int32} (ht : t < 4) (hR : wg_roots a1 a2) (h4 : wg_tab T a4) (hxy : wg_Near x y) (hd : 0 < d ∧ d < 2000000000) (hq : s' < 1000000000) (hput : wg_put T (wg_c x y) (2 * s' / d) = some T')
    (H : ∀ a4', wg_tab T' a4' → post (nI t, wg_z (wg_p t), wg_z (wg_q t), wg_z (wg_l t), 1, nI (wg_nr t), mo, fA, fB, sA, sB, gA, gB, uA, uB, uS, a1, a2, a3, a4', a5)) :
    ∀ (n r : Nat) (s : Int), n + r = wg_nr t → wg_rs t T x y n r s = (s' : Int) → wX_buildOne_109 post (wg_z x) (wg_z y) (nI d) (nI t) (wg_z (wg_p t)) (wg_z (wg_q t)) (wg_z (wg_l t)) 1 (nI (wg_nr t)) mo fA fB sA sB gA gB uA uB uS a1 a2 a3 a4 a5 (n + 1) (wg_z s) (nI r) := by
  have hn := wg_nr_le t
  have hc := wg_c_lt hxy
  intro n
  induction n with
  | zero =>
    intro r s hr hs
    refine pk_le (wg_nr t) r (fun _ => ?_) (fun z => absurd z (by omega))
    have e : s = (s' : Int) := hs
    unfold wpX_cell
    rw [wg_cell hxy]
    refine ⟨nI_ne0 hd.1 (by omega), vp_in_nI hc (by decide), nm_r (e' := upd a4 (wg_c x y) (nI (2 * s' / d))) ?_ (H _ (wg_tab_put hput h4))⟩
    have e2 : (2 : Int32) * wg_z s = nI (2 * s') := by
      rw [e, ← wg_n]
      exact pk_mul 2 s'
    rw [nI_clamp (show wg_c x y < 2 ^ 31 by omega), e2, pk_div (by omega) hd.1 (by omega)]
  | succ n ih =>
    intro r s hr hs
    refine pk_le (wg_nr t) r (fun z => absurd z (by omega)) (fun z => ?_)
    have e : ((6 : Int32) * nI t) + nI r = nI (6 * t + r) := by
      rw [show (6 : Int32) * nI t = nI (6 * t) from pk_mul 6 t, nI_add]
    rw [e]
    refine wg_sumAlong ht (by omega) hR h4 ⟨hxy.1, hxy.2.1⟩ hxy.2.2 ?_
    exact nm_r (wg_add _ _) (nm_r (nI_1 r) (ih (r + 1) _ (by omega) hs))
theorem wg_4 {t : Nat} (ht : t < 4) : t = 0 ∨ t = 1 ∨ t = 2 ∨ t = 3 := by omega
theorem wg_dvb {t A B m n : Nat} {x y : Int} (ht : t < 4) (hA : A < 4) (hB : B < 4) (hm : m ≤ 100) (hn : n ≤ 100) (hxy : wg_Near x y) : -100000 ≤ wg_dv t A B m n x y ∧ wg_dv t A B m n x y ≤ 100000 := by
  unfold wg_dv
  obtain ⟨x1, x2, y1, y2⟩ := hxy
  have b1 : -100 ≤ wg_l t * ((A : Int) + x + 2) ∧ wg_l t * ((A : Int) + x + 2) ≤ 100 := by
    rcases wg_4 ht with rfl | rfl | rfl | rfl <;> simp only [wg_l] <;> omega
  have k1 := wg_kb hm b1
  have k2 := wg_kb (s := (B : Int) + y + 2) hn (by omega)
  rw [Int.mul_assoc]
  omega
theorem wg_b64 {post : St2 → Prop} {t A B m n T T' : Nat} {x y : Int} {mo fA fB sA sB uA uB uS : Int32} {a1 a2 a3 a4 a5 : Nat → Int32} (ht : t < 4) (hA : A < 4) (hB : B < 4) (hm : m ≤ 100) (hn : n ≤ 100) (hR : wg_roots a1 a2) (h4 : wg_tab T a4) (hxy : wg_Near x y)
    (hs : (if wg_dv t A B m n x y ≤ 0 then some T else match wg_rs t T x y (wg_nr t) 0 0 with
      | .negSucc _ => none
      | .ofNat s => if s < 1000000000 then wg_put T (wg_c x y) (2 * s / (wg_dv t A B m n x y).toNat) else none) = some T')
    (H : ∀ a4', wg_tab T' a4' → post (nI t, wg_z (wg_p t), wg_z (wg_q t), wg_z (wg_l t), 1, nI (wg_nr t), mo, fA, fB, sA, sB, nI A, nI B, uA, uB, uS, a1, a2, a3, a4', a5)) :
    wX_buildOne_64 post (nI m) (nI n) (wg_z x) (wg_z y) (nI t) (wg_z (wg_p t)) (wg_z (wg_q t)) (wg_z (wg_l t)) 1 (nI (wg_nr t)) mo fA fB sA sB (nI A) (nI B) uA uB uS a1 a2 a3 a4 a5 := by
  have b := wg_dvb ht hA hB hm hn hxy
  unfold wX_buildOne_64
  refine nm_r (e' := wg_z (wg_dv t A B m n x y)) ?_ ?_
  · rw [wg_n m, wg_n n, wg_n A, wg_n B, Int32.mul_one, wg_2, wg_add, wg_add, wg_add, wg_add, wg_mul, wg_mul, wg_mul, wg_add]
    rfl
  · refine wg_ble (wg_dv t A B m n x y) 0 (fun c => ?_) (fun c => ?_)
    · rw [if_pos c] at hs
      injection hs with hs
      subst hs
      exact H a4 h4
    · rw [if_neg (by omega)] at hs
      cases hr : wg_rs t T x y (wg_nr t) 0 0 with
      | negSucc s =>
        rw [hr] at hs
        exact absurd hs (by simp)
      | ofNat s =>
        rw [hr] at hs
        dsimp only at hs
        by_cases hq : s < 1000000000
        · rw [if_pos hq] at hs
          have e : wg_z (wg_dv t A B m n x y) = nI (wg_dv t A B m n x y).toNat := by
            rw [wg_n, Int.toNat_of_nonneg (by omega)]
          rw [e]
          exact ⟨wg_nr t + 1, wg_b109 ht hR h4 hxy (by omega) hq hs H (wg_nr t) 0 0 (by omega) hr⟩
        · rw [if_neg hq] at hs
          exact absurd hs (by simp)
theorem wg_wb1 {t A m n : Nat} (ht : t < 4) (hA : A < 4) (hm : m ≤ 100) (hn : n ≤ 100) : -100000 ≤ wg_wa t A m n ∧ wg_wa t A m n ≤ 100000 := by
  unfold wg_wa
  rcases wg_4 ht with rfl | rfl | rfl | rfl <;> simp only [wg_q] <;> omega
theorem wg_wb2 {t B m n : Nat} (ht : t < 4) (hB : B < 4) (hm : m ≤ 100) (hn : n ≤ 100) : -100000 ≤ wg_wb t B m n ∧ wg_wb t B m n ≤ 100000 := by
  unfold wg_wb
  rcases wg_4 ht with rfl | rfl | rfl | rfl <;> simp only [wg_p] <;> omega
theorem wg_buildOne {post : St2 → Prop} {t A B m n T T' : Nat} {mo fA fB sA sB uA uB uS : Int32} {a1 a2 a3 a4 a5 : Nat → Int32} (ht : t < 4) (hA : A < 4) (hB : B < 4) (hm : m ≤ 100) (hn : n ≤ 100) (hR : wg_roots a1 a2) (h4 : wg_tab T a4)
    (hs : wg_step t A B m n T = some T') (H : ∀ a4', wg_tab T' a4' → post (nI t, wg_z (wg_p t), wg_z (wg_q t), wg_z (wg_l t), 1, nI (wg_nr t), mo, fA, fB, sA, sB, nI A, nI B, uA, uB, uS, a1, a2, a3, a4', a5)) :
    wpX_buildOne post (nI t, wg_z (wg_p t), wg_z (wg_q t), wg_z (wg_l t), 1, nI (wg_nr t), mo, fA, fB, sA, sB, nI A, nI B, uA, uB, uS, a1, a2, a3, a4, a5) (nI m) (nI n) := by
  unfold wpX_buildOne
  dsimp only
  refine nm_r (e' := wg_z (wg_wa t A m n)) ?_ (nm_r (e' := wg_z (wg_wb t B m n)) ?_ ?_)
  · rw [wg_n m, wg_n n, wg_n A, wg_2, wg_mul, wg_mul, wg_sub, wg_sub]
    rfl
  · rw [wg_n m, wg_n n, wg_n B, wg_2, wg_mul, wg_mul, wg_sub, wg_sub]
    rfl
  · unfold wg_step wg_one at hs
    refine wg_near (wg_wb1 ht hA hm hn) (wg_wb2 ht hB hm hn) (fun h => br_f (by decide) ?_) (fun h => br_t rfl ?_)
    · rw [if_pos (show -16 ≤ wg_wa t A m n ∧ wg_wa t A m n ≤ 16 ∧ -16 ≤ wg_wb t B m n ∧ wg_wb t B m n ≤ 16 from h)] at hs
      refine pk_eq m 0 (fun m0 => pk_eq n 0 (fun n0 => ?_) (fun n0 => ?_)) (fun m0 => ?_)
      · rw [if_pos ⟨m0, n0⟩] at hs
        have hc := wg_c_lt h
        unfold wpX_cell
        rw [wg_cell h]
        refine ⟨vp_in_nI hc (by decide), nm_r (e' := upd a4 (wg_c (wg_wa t A m n) (wg_wb t B m n)) (nI 1)) ?_ (H _ (wg_tab_put hs h4))⟩
        rw [nI_clamp (show wg_c (wg_wa t A m n) (wg_wb t B m n) < 2 ^ 31 by omega)]
        rfl
      · rw [if_neg (fun z => n0 z.2)] at hs
        exact wg_b64 ht hA hB hm hn hR h4 h hs H
      · rw [if_neg (fun z => m0 z.1)] at hs
        exact wg_b64 ht hA hB hm hn hR h4 h hs H
    · rw [if_neg (show ¬ (-16 ≤ wg_wa t A m n ∧ wg_wa t A m n ≤ 16 ∧ -16 ≤ wg_wb t B m n ∧ wg_wb t B m n ≤ 16) from h)] at hs
      injection hs with hs
      subst hs
      exact H a4 h4
theorem wg_b55 {post : St2 → Prop} {t A B m M T' : Nat} {x3 : Int32} {J : Int32 → Int32 → Int32 → Int32 → Int32 → Int32 → Int32 → Int32 → Int32 → Int32 → Int32 → Int32 → Int32 → Int32 → Int32 → Int32 → Int32 → (Nat → Int32) → (Nat → Int32) → (Nat → Int32) → (Nat → Int32) → (Nat → Int32) → Prop} {mo fA fB sA sB uA uB uS : Int32} {a1 a2 a3 a5 : Nat → Int32} (ht : t < 4) (hA : A < 4) (hB : B < 4) (hm : m ≤ 100) (hM : M < 100) (hR : wg_roots a1 a2)
    (H : ∀ a4', wg_tab T' a4' → J (nI (m + 1)) (nI t) (wg_z (wg_p t)) (wg_z (wg_q t)) (wg_z (wg_l t)) 1 (nI (wg_nr t)) mo fA fB sA sB (nI A) (nI B) uA uB uS a1 a2 a3 a4' a5) :
    ∀ (k n T : Nat) (a4 : Nat → Int32), n + k = M + 1 → wg_tab T a4 → wg_in t A B m k n T = some T' → wX_build_55 post J x3 (nI M) (nI m) (k + 1) (nI n) (nI t) (wg_z (wg_p t)) (wg_z (wg_q t)) (wg_z (wg_l t)) 1 (nI (wg_nr t)) mo fA fB sA sB (nI A) (nI B) uA uB uS a1 a2 a3 a4 a5 := by
  intro k
  induction k with
  | zero =>
    intro n T a4 hk h4 hs
    refine pk_lt M n (fun _ => nm_r (nI_1 m) ?_) (fun z => absurd z (by omega))
    have e : some T = some T' := hs
    injection e with e
    subst e
    exact H a4 h4
  | succ k ih =>
    intro n T a4 hk h4 hs
    refine pk_lt M n (fun z => absurd z (by omega)) (fun _ => ?_)
    rw [wg_in] at hs
    cases h1 : wg_step t A B m n T with
    | none =>
      rw [h1] at hs
      exact absurd hs (by simp)
    | some T1 =>
      rw [h1] at hs
      dsimp only at hs
      refine wg_buildOne ht hA hB hm (by omega) hR h4 h1 (fun a4' h4' => ?_)
      exact nm_r (nI_1 n) (ih (n + 1) T1 a4' (by omega) h4' hs)
theorem wg_b46 {post : St2 → Prop} {t A B M N T' : Nat} {mo fA fB sA sB uA uB uS : Int32} {a1 a2 a3 a5 : Nat → Int32} (ht : t < 4) (hA : A < 4) (hB : B < 4) (hM : M < 100) (hN : N < 100) (hR : wg_roots a1 a2)
    (H : ∀ a4', wg_tab T' a4' → post (nI t, wg_z (wg_p t), wg_z (wg_q t), wg_z (wg_l t), 1, nI (wg_nr t), mo, fA, fB, sA, sB, nI A, nI B, uA, uB, uS, a1, a2, a3, a4', a5)) :
    ∀ (k m T : Nat) (a4 : Nat → Int32), m + k = N + 1 → wg_tab T a4 → wg_out t A B M k m T = some T' → wX_build_46 post (nI N) (nI M) (k + 1) (nI m) (nI t) (wg_z (wg_p t)) (wg_z (wg_q t)) (wg_z (wg_l t)) 1 (nI (wg_nr t)) mo fA fB sA sB (nI A) (nI B) uA uB uS a1 a2 a3 a4 a5 := by
  intro k
  induction k with
  | zero =>
    intro m T a4 hk h4 hs
    refine pk_lt N m (fun _ => ?_) (fun z => absurd z (by omega))
    have e : some T = some T' := hs
    injection e with e
    subst e
    exact H a4 h4
  | succ k ih =>
    intro m T a4 hk h4 hs
    refine pk_lt N m (fun z => absurd z (by omega)) (fun _ => ?_)
    rw [wg_out] at hs
    cases h1 : wg_in t A B m (M + 1) 0 T with
    | none =>
      rw [h1] at hs
      exact absurd hs (by simp)
    | some T1 =>
      rw [h1] at hs
      dsimp only at hs
      exact ⟨M + 1 + 1, wg_b55 ht hA hB (by omega) hM hR (fun a4' h4' => ih (m + 1) T1 a4' (by omega) h4' hs) (M + 1) 0 T a4 (by omega) h4 h1⟩
theorem wg_reach : ∀ t, t < 4 → ∀ A, A < 4 → ∀ B, B < 4 → t = 1 ∨ (¬ (4 - (wg_z (wg_p t) * wg_z (wg_q t))) = 0) ∧ ((4 * nI A) - ((2 * wg_z (wg_q t)) * nI B)) / (4 - (wg_z (wg_p t) * wg_z (wg_q t))) = nI (wg_m1 t A B) ∧ ((4 * nI B) - ((2 * wg_z (wg_p t)) * nI A)) / (4 - (wg_z (wg_p t) * wg_z (wg_q t))) = nI (wg_m2 t A B) := by decide +kernel
theorem wg_reach1 {post : Int32 → Prop} {t A B : Nat} {mo fA fB sA sB uA uB uS : Int32} {a1 a2 a3 a4 a5 : Nat → Int32} (ht : t < 4) (hA : A < 4) (hB : B < 4) (hp : post (nI (wg_m1 t A B))) : wpX_reachFirst post (nI t, wg_z (wg_p t), wg_z (wg_q t), wg_z (wg_l t), 1, nI (wg_nr t), mo, fA, fB, sA, sB, nI A, nI B, uA, uB, uS, a1, a2, a3, a4, a5) := by
  unfold wpX_reachFirst
  dsimp only
  refine pk_eq t 1 (fun e => ?_) (fun e => ?_)
  · subst e
    rw [nI_add]
    exact hp
  · have r := (wg_reach t ht A hA B hB).resolve_left e
    refine ⟨r.1, ?_⟩
    rw [r.2.1]
    exact hp
theorem wg_reach2 {post : Int32 → Prop} {t A B : Nat} {mo fA fB sA sB uA uB uS : Int32} {a1 a2 a3 a4 a5 : Nat → Int32} (ht : t < 4) (hA : A < 4) (hB : B < 4) (hp : post (nI (wg_m2 t A B))) : wpX_reachSecond post (nI t, wg_z (wg_p t), wg_z (wg_q t), wg_z (wg_l t), 1, nI (wg_nr t), mo, fA, fB, sA, sB, nI A, nI B, uA, uB, uS, a1, a2, a3, a4, a5) := by
  unfold wpX_reachSecond
  dsimp only
  refine pk_eq t 1 (fun e => ?_) (fun e => ?_)
  · subst e
    rw [nI_add]
    exact hp
  · have r := (wg_reach t ht A hA B hB).resolve_left e
    refine ⟨r.1, ?_⟩
    rw [r.2.2]
    exact hp
theorem wg_m_lt : ∀ t, t < 4 → ∀ A, A < 4 → ∀ B, B < 4 → wg_m1 t A B < 100 ∧ wg_m2 t A B < 100 := by decide +kernel
/-- clearing -/
theorem wg_clr {s : Nat → Int32} {i k : Nat} (hk : k = i) (h : ∀ j, j < i → s j = 0) : ∀ j, j < i + 1 → upd s k 0 j = 0 := by
  intro j hj
  rw [hk]
  by_cases e : j = i
  · rw [e, pk_us]
  · rw [pk_un e]
    exact h j (by omega)
theorem wg_build {post : St2 → Prop} {t A B T' : Nat} {mo fA fB sA sB gA gB uA uB uS : Int32} {a1 a2 a3 a4 a5 : Nat → Int32} (ht : t < 4) (hA : A < 4) (hB : B < 4) (hR : wg_roots a1 a2) (hs : wg_run t A B = some T')
    (H : ∀ a4', wg_tab T' a4' → post (nI t, wg_z (wg_p t), wg_z (wg_q t), wg_z (wg_l t), 1, nI (wg_nr t), mo, fA, fB, sA, sB, nI A, nI B, uA, uB, uS, a1, a2, a3, a4', a5)) : wpX_build post (nI t, wg_z (wg_p t), wg_z (wg_q t), wg_z (wg_l t), 1, nI (wg_nr t), mo, fA, fB, sA, sB, gA, gB, uA, uB, uS, a1, a2, a3, a4, a5) (nI A) (nI B) := by
  have hm := wg_m_lt t ht A hA B hB
  unfold wpX_build
  dsimp only
  refine pk_loop (fun n i s => wX_build_12 post (nI t) (wg_z (wg_p t)) (wg_z (wg_q t)) (wg_z (wg_l t)) 1 (nI (wg_nr t)) mo fA fB sA sB (nI A) (nI B) uA uB uS n (nI i) a1 a2 a3 s a5) (fun i s => ∀ j, j < i → s j = 0) 1089 0 a4 (by omega) (fun j hj => absurd hj (by omega)) (fun n s h => ?_) (fun n i s hi h hw => ?_)
  · refine pk_le 1089 1089 (fun _ => ?_) (fun z => absurd z (by omega))
    refine wg_reach1 ht hA hB (wg_reach2 ht hA hB ?_)
    exact ⟨wg_m1 t A B + 1 + 1, wg_b46 ht hA hB hm.2 hm.1 hR H (wg_m1 t A B + 1) 0 0 s (by omega) (wg_tab_0 h) hs⟩
  · exact pk_le 1089 i (fun z => absurd z (by omega)) (fun _ => ⟨pk_in i 1089 hi, nm_e (nm_r (nI_1 i) (hw _ (wg_clr (nI_clamp (by omega)) h)))⟩)
theorem wg_cpy {T : Nat} {s f : Nat → Int32} {i k : Nat} (hk : k = i) (hi : i < 1089) (hf : wg_tab T f) (h : ∀ j, j < i → s j = nI (wg_get T j)) : ∀ j, j < i + 1 → upd s k (f k) j = nI (wg_get T j) := by
  intro j hj
  rw [hk]
  by_cases e : j = i
  · rw [e, pk_us]
    exact hf i hi
  · rw [pk_un e]
    exact h j (by omega)
theorem wg_buildFirst {post : St2 → Prop} {t A B T' : Nat} {mo sA sB gA gB uA uB uS : Int32} {a1 a2 a3 a4 a5 : Nat → Int32} (ht : t < 4) (hA : A < 4) (hB : B < 4) (hR : wg_roots a1 a2) (hs : wg_run t A B = some T')
    (H : ∀ a3' a4', wg_tab T' a3' → wg_tab T' a4' → post (nI t, wg_z (wg_p t), wg_z (wg_q t), wg_z (wg_l t), 1, nI (wg_nr t), mo, nI A, nI B, sA, sB, nI A, nI B, uA, uB, uS, a1, a2, a3', a4', a5)) : wpX_buildFirst post (nI t, wg_z (wg_p t), wg_z (wg_q t), wg_z (wg_l t), 1, nI (wg_nr t), mo, nI A, nI B, sA, sB, gA, gB, uA, uB, uS, a1, a2, a3, a4, a5) := by
  unfold wpX_buildFirst
  dsimp only
  refine wg_build ht hA hB hR hs (fun a4' h4' => ?_)
  dsimp only
  refine pk_loop (fun n i s => wX_buildFirst_14 post (nI t) (wg_z (wg_p t)) (wg_z (wg_q t)) (wg_z (wg_l t)) 1 (nI (wg_nr t)) mo (nI A) (nI B) sA sB (nI A) (nI B) uA uB uS n (nI i) a1 a2 s a4' a5) (fun i s => ∀ j, j < i → s j = nI (wg_get T' j)) 1089 0 a3 (by omega) (fun j hj => absurd hj (by omega)) (fun n s h => ?_) (fun n i s hi h hw => ?_)
  · exact pk_le 1089 1089 (fun _ => H s a4' h h4') (fun z => absurd z (by omega))
  · exact pk_le 1089 i (fun z => absurd z (by omega)) (fun _ => ⟨pk_in i 1089 hi, pk_in i 1089 hi, nm_e (nm_r (nI_1 i) (hw _ (wg_cpy (nI_clamp (by omega)) hi h4' h)))⟩)
end
section
/-- the table of (0, 0): 1 in cell 544 alone -/
def wg_D : Nat := 1 <<< 4352
theorem wg_D_put : wg_put 0 544 1 = some wg_D := by decide +kernel
theorem wg_D_get (i : Nat) : wg_get wg_D i = if i = 544 then 1 else 0 := by
  rw [wg_put_get wg_D_put i, wg_get_0]
theorem wg_run0 : ∀ t, t < 4 → wg_run t 0 0 = some wg_D ∧ wg_sz t 0 0 (wg_nr t) 0 1 1 = some 1 := by decide +kernel
theorem wg_lay {post : St2 → Prop} {t A B T' : Nat} {ty pp qq lo sh nr mo sA sB gA gB uA uB uS : Int32} {a1 a2 a3 a4 a5 : Nat → Int32} (ht : t < 4) (hA : A < 4) (hB : B < 4) (hR : wg_roots a1 a2) (hs : wg_run t A B = some T')
    (H : ∀ mo' a3' a4', wg_tab T' a3' → wg_tab T' a4' → post (nI t, wg_z (wg_p t), wg_z (wg_q t), wg_z (wg_l t), 1, nI (wg_nr t), mo', nI A, nI B, sA, sB, nI A, nI B, uA, uB, uS, a1, a2, a3', a4', a5)) : wpX_lay post (ty, pp, qq, lo, sh, nr, mo, nI A, nI B, sA, sB, gA, gB, uA, uB, uS, a1, a2, a3, a4, a5) (nI t) := by
  unfold wpX_lay
  dsimp only
  rcases wg_4 ht with rfl | rfl | rfl | rfl
  · refine br_t rfl (br_t rfl (br_t rfl (br_t rfl (nm_e ?_))))
    exact wg_buildFirst (t := 0) ht hA hB hR hs (fun a3' a4' h3 h4 => H _ a3' a4' h3 h4)
  · refine br_f (by decide) (br_f (by decide) (br_f (by decide) (br_f (by decide) (br_t rfl (nm_e ?_)))))
    exact wg_buildFirst (t := 1) ht hA hB hR hs (fun a3' a4' h3 h4 => H _ a3' a4' h3 h4)
  · refine br_f (by decide) (br_f (by decide) (br_f (by decide) (br_f (by decide) (br_f (by decide) (br_t rfl (nm_e ?_))))))
    exact wg_buildFirst (t := 2) ht hA hB hR hs (fun a3' a4' h3 h4 => H _ a3' a4' h3 h4)
  · refine br_f (by decide) (br_f (by decide) (br_f (by decide) (br_f (by decide) (br_f (by decide) (br_f (by decide) (nm_e ?_))))))
    exact wg_buildFirst (t := 3) ht hA hB hR hs (fun a3' a4' h3 h4 => H _ a3' a4' h3 h4)
theorem wg_setRoot {post : St2 → Prop} {x v w : Int32} {i : Nat} {ty pp qq lo sh nr mo fA fB sA sB gA gB uA uB uS : Int32} {a1 a2 a3 a4 a5 : Nat → Int32} (hx : x = nI i) (hi : i < 24) (H : post (ty, pp, qq, lo, sh, nr, mo, fA, fB, sA, sB, gA, gB, uA, uB, uS, upd a1 i v, upd a2 i w, a3, a4, a5)) : wpX_setRoot post (ty, pp, qq, lo, sh, nr, mo, fA, fB, sA, sB, gA, gB, uA, uB, uS, a1, a2, a3, a4, a5) x v w := by
  subst hx
  unfold wpX_setRoot
  dsimp only
  have hv : vp_in (nI i) 24 := vp_in_nI hi (by decide)
  rw [nI_clamp (show i < 2 ^ 31 by omega)]
  exact ⟨hv, nm_e ⟨hv, nm_e H⟩⟩
/-- four roots of a type -/
def wg_u1 (a : Nat → Int32) (k : Nat) : Nat → Int32 := upd (upd (upd (upd a (6 * k) 1) (6 * k + 1) 0) (6 * k + 2) 1) (6 * k + 3) 1
def wg_u2 (a : Nat → Int32) (k : Nat) : Nat → Int32 := upd (upd (upd (upd a (6 * k) 0) (6 * k + 1) 1) (6 * k + 2) 1) (6 * k + 3) 2
theorem wg_i68 {post : St2 → Prop} {mc ms kc ks n k : Nat} {x2 : Int32} {ty pp qq lo sh nr mo fA fB sA sB gA gB uA uB uS : Int32} {a1 a2 a3 a4 a5 : Nat → Int32} (hk : k < 4) (H : wX_init_68 post mc ms x2 kc ks n (nI (k + 1)) ty pp qq lo sh nr mo fA fB sA sB gA gB uA uB uS (wg_u1 a1 k) (wg_u2 a2 k) a3 a4 a5) : wX_init_68 post mc ms x2 kc ks (n + 1) (nI k) ty pp qq lo sh nr mo fA fB sA sB gA gB uA uB uS a1 a2 a3 a4 a5 := by
  have e : (6 : Int32) * nI k = nI (6 * k) := pk_mul 6 k
  refine pk_le 4 k (fun z => absurd z (by omega)) (fun _ => ?_)
  refine wg_setRoot e (by omega) ?_
  refine wg_setRoot (i := 6 * k + 1) (by rw [e]; exact nI_add _ 1) (by omega) ?_
  refine wg_setRoot (i := 6 * k + 2) (by rw [e]; exact nI_add _ 2) (by omega) ?_
  refine wg_setRoot (i := 6 * k + 3) (by rw [e]; exact nI_add _ 3) (by omega) ?_
  exact nm_r (nI_1 k) H
def wg_f1 : Nat → Int32 := upd (upd (wg_u1 (wg_u1 (wg_u1 (wg_u1 (fun _ => 0) 0) 1) 2) 3) 22 1) 23 2
def wg_f2 : Nat → Int32 := upd (upd (wg_u2 (wg_u2 (wg_u2 (wg_u2 (fun _ => 0) 0) 1) 2) 3) 22 3) 23 3
theorem wg_f12 : wg_roots wg_f1 wg_f2 := by
  have h : ∀ i, i < 24 → wg_f1 i = wg_z (wg_r1 i) ∧ wg_f2 i = wg_z (wg_r2 i) := by decide +kernel
  exact h
theorem wg_init68 {post : St2 → Prop} {mc ms kc ks t : Nat} {ty pp qq lo sh nr mo sA sB gA gB uA uB uS : Int32} {a3 a4 a5 : Nat → Int32} (ht : t < 4)
    (H : ∀ mo' a3' a4', wg_tab wg_D a3' → wg_tab wg_D a4' → post (nI t, wg_z (wg_p t), wg_z (wg_q t), wg_z (wg_l t), 1, nI (wg_nr t), mo', nI 0, nI 0, sA, sB, nI 0, nI 0, uA, uB, uS, wg_f1, wg_f2, a3', a4', a5)) :
    ∃ n, wX_init_68 post mc ms (nI t) kc ks n 0 ty pp qq lo sh nr mo (nI 0) (nI 0) sA sB gA gB uA uB uS (fun _ => 0) (fun _ => 0) a3 a4 a5 := by
  refine ⟨5, ?_⟩
  refine wg_i68 (k := 0) (by decide) (wg_i68 (k := 1) (by decide) (wg_i68 (k := 2) (by decide) (wg_i68 (k := 3) (by decide) ?_)))
  refine pk_le 4 4 (fun _ => ?_) (fun z => absurd z (by omega))
  refine wg_setRoot (i := 22) rfl (by decide) ?_
  refine wg_setRoot (i := 23) rfl (by decide) ?_
  exact wg_lay ht (by decide) (by decide) wg_f12 (wg_run0 t ht).1 H
end
section
def wg_Far (x y : Int) : Prop := ¬ (-40 ≤ x ∧ x ≤ 40 ∧ -40 ≤ y ∧ y ≤ 40)
theorem wg_far {post : Int32 → Prop} {x y : Int} (hx : -2147483648 ≤ x ∧ x < 2147483648) (hy : -2147483648 ≤ y ∧ y < 2147483648) (h1 : wg_Far x y → post 1) (h0 : ¬ wg_Far x y → post 0) : wpX_isFar post () (wg_z x) (wg_z y) := by
  unfold wpX_isFar
  refine wg_blt x (-40) (fun c => h1 (fun h => ?_)) (fun c => wg_blt 40 x (fun c2 => h1 (fun h => ?_)) (fun c2 => wg_blt y (-40) (fun c3 => h1 (fun h => ?_)) (fun c3 => wg_ble y 40 (fun c4 => h0 (fun h => h ?_)) (fun c4 => h1 (fun h => ?_)))))
  · have h' := h.1
    omega
  · have h' := h.2.1
    omega
  · have h' := h.2.2.1
    omega
  · exact ⟨c, c2, c3, c4⟩
  · have h' := h.2.2.2
    omega
theorem wg_nfar {x y : Int} (h : ¬ wg_Far x y) : -40 ≤ x ∧ x ≤ 40 ∧ -40 ≤ y ∧ y ≤ 40 := Decidable.not_not.mp h
theorem wg_number {post : Int32 → Prop} {T : Nat} {x y : Int} {ty pp qq lo sh nr mo fA fB sA sB gA gB uA uB uS : Int32} {a1 a2 a3 a4 a5 : Nat → Int32} (h3 : wg_tab T a3) (hx : -2147483648 ≤ x ∧ x < 2147483648) (hy : -2147483648 ≤ y ∧ y < 2147483648) (hf : wg_Far x y → post (-1)) (hn : ¬ wg_Far x y → post (nI (wg_ent T x y))) : wpX_number post (ty, pp, qq, lo, sh, nr, mo, fA, fB, sA, sB, gA, gB, uA, uB, uS, a1, a2, a3, a4, a5) (wg_z x) (wg_z y) := by
  unfold wpX_number
  dsimp only
  refine wg_far hx hy (fun h => br_f (by decide) (hf h)) (fun h => br_t rfl ?_)
  have hp := hn h
  have hb := wg_nfar h
  refine wg_near (by omega) (by omega) (fun h => br_f (by decide) ?_) (fun h => br_t rfl ?_)
  · unfold wpX_cell
    rw [wg_cell h]
    refine ⟨vp_in_nI (wg_c_lt h) (by decide), ?_⟩
    have hc := wg_c_lt h
    rw [nI_clamp (show wg_c x y < 2 ^ 31 by omega), h3 _ hc]
    rw [wg_ent_in h] at hp
    exact hp
  · rw [wg_ent_out h] at hp
    exact hp
theorem wg_ent_D (x y : Int) : nI (wg_ent wg_D x y) = if x = 0 ∧ y = 0 then 1 else 0 := by
  by_cases h : wg_Near x y
  · rw [wg_ent_in h, wg_D_get]
    obtain ⟨x1, x2, y1, y2⟩ := h
    by_cases e : x = 0 ∧ y = 0
    · rw [if_pos e, if_pos]
      · rfl
      · unfold wg_c
        omega
    · rw [if_neg e, if_neg]
      · rfl
      · unfold wg_c
        omega
  · rw [wg_ent_out h, if_neg]
    · rfl
    · intro e
      refine h ?_
      unfold wg_Near
      omega
theorem wg_clear {post : St2 → Prop} {ty pp qq lo sh nr mo fA fB sA sB gA gB uA uB uS : Int32} {a1 a2 a3 a4 a5 : Nat → Int32} (H : ∀ a5', (∀ j, j < 1089 → a5' j = 0) → post (ty, pp, qq, lo, sh, nr, mo, fA, fB, sA, sB, gA, gB, uA, uB, uS, a1, a2, a3, a4, a5')) : wpX_clearContent post (ty, pp, qq, lo, sh, nr, mo, fA, fB, sA, sB, gA, gB, uA, uB, uS, a1, a2, a3, a4, a5) := by
  unfold wpX_clearContent
  dsimp only
  refine pk_loop (fun n i s => wX_clearContent_2 post ty pp qq lo sh nr mo fA fB sA sB gA gB uA uB uS n (nI i) a1 a2 a3 a4 s) (fun i s => ∀ j, j < i → s j = 0) 1089 0 a5 (by omega) (fun j hj => absurd hj (by omega)) (fun n s h => ?_) (fun n i s hi h hw => ?_)
  · exact pk_le 1089 1089 (fun _ => H s h) (fun z => absurd z (by omega))
  · exact pk_le 1089 i (fun z => absurd z (by omega)) (fun _ => ⟨pk_in i 1089 hi, nm_e (nm_r (nI_1 i) (hw _ (wg_clr (nI_clamp (by omega)) h)))⟩)
theorem wg_turn {post : St2 → Prop} {ty pp qq lo sh nr mo fA fB sA sB gA gB uA uB uS : Int32} {a1 a2 a3 a4 a5 : Nat → Int32} (H : post (ty, pp, qq, lo, sh, nr, mo, fA, fB, sA, sB, gA, gB, 1, 1, 1, a1, a2, a3, a4, a5)) : wpX_turnUp post (ty, pp, qq, lo, sh, nr, mo, fA, fB, sA, sB, gA, gB, uA, uB, uS, a1, a2, a3, a4, a5) 1 1 := by
  unfold wpX_turnUp
  dsimp only
  exact ⟨1, br_f (by decide) (br_f (by decide) (br_t (by decide) H))⟩
theorem wg_addOne {post : St2 → Prop} {ty pp qq lo sh nr mo fA fB sA sB gA gB uA uB uS : Int32} {a1 a2 a3 a4 a5 : Nat → Int32} (H : post (ty, pp, qq, lo, sh, nr, mo, fA, fB, sA, sB, gA, gB, 1, 1, 1, a1, a2, a3, a4, upd a5 0 (a5 0 + 1))) : wpX_addOne post (ty, pp, qq, lo, sh, nr, mo, fA, fB, sA, sB, gA, gB, uA, uB, uS, a1, a2, a3, a4, a5) 1 1 1 := by
  unfold wpX_addOne
  dsimp only
  refine wg_turn ?_
  dsimp only
  have e : (((33 * ((1 : Int32) - 1)) + 1) - 1) = nI 0 := by decide
  rw [e, nI_clamp (show 0 < 2 ^ 31 by decide)]
  exact br_f (by decide) (br_f (by decide) (br_f (by decide) (br_f (by decide) ⟨pk_in 0 1089 (by decide), pk_in 0 1089 (by decide), nm_r (e' := upd a5 0 (a5 0 + 1)) rfl H⟩)))
theorem wg_skip {post : St2 → Prop} {x1 x2 x3 : Int32} {ty pp qq lo sh nr mo fA fB sA sB gA gB uA uB uS : Int32} {a1 a2 a3 a4 a5 : Nat → Int32} : ∀ (n i f : Nat), i + n ≤ 1089 → (∀ j, i ≤ j → j < i + n → a3 j = 0) → wX_addTurned_3 post x1 x2 x3 f (nI (i + n)) ty pp qq lo sh nr mo fA fB sA sB gA gB uA uB uS a1 a2 a3 a4 a5 → wX_addTurned_3 post x1 x2 x3 (f + n) (nI i) ty pp qq lo sh nr mo fA fB sA sB gA gB uA uB uS a1 a2 a3 a4 a5 := by
  intro n
  induction n with
  | zero =>
    intro i f _ _ h
    exact h
  | succ n ih =>
    intro i f hi hz h
    refine pk_le 1089 i (fun z => absurd z (by omega)) (fun _ => ⟨pk_in i 1089 (by omega), br_t ?_ (nm_r (nI_1 i) (ih (i + 1) f (by omega) (fun j h1 h2 => hz j (by omega) (by omega)) ?_))⟩)
    · rw [nI_clamp (by omega)]
      exact hz i (by omega) (by omega)
    · rw [show i + 1 + n = i + (n + 1) by omega]
      exact h
theorem wg_addTurned {post : St2 → Prop} {k : Int32} {ty pp qq lo sh nr mo fA fB sA sB gA gB uA uB uS : Int32} {a1 a2 a3 a4 a5 : Nat → Int32} (hk : k = 1 ∨ k = 2) (h3 : wg_tab wg_D a3) (H : post (ty, pp, qq, lo, sh, nr, mo, fA, fB, sA, sB, gA, gB, 1, 1, 1, a1, a2, a3, a4, upd a5 0 (a5 0 + 1))) : wpX_addTurned post (ty, pp, qq, lo, sh, nr, mo, fA, fB, sA, sB, gA, gB, uA, uB, uS, a1, a2, a3, a4, a5) k 0 0 := by
  have z : ∀ j, j < 1089 → j ≠ 544 → a3 j = 0 := by
    intro j hj hn
    rw [h3 j hj, wg_D_get, if_neg hn]
    rfl
  have o : a3 544 = 1 := by
    rw [h3 544 (by decide), wg_D_get, if_pos rfl]
    rfl
  unfold wpX_addTurned
  dsimp only
  refine ⟨546 + 544, wg_skip 544 0 546 (by decide) (fun j _ h2 => z j (by omega) (by omega)) ?_⟩
  have c : a3 (nI 544).toNatClampNeg = 1 := by
    rw [nI_clamp (by decide)]
    exact o
  refine pk_le 1089 544 (fun z => absurd z (by decide)) (fun _ => ⟨pk_in 544 1089 (by decide), br_f (by rw [c]; decide) ⟨by decide, nm_r (e' := 1) ?_ ⟨by decide, nm_r (e' := 1) ?_ ⟨pk_in 544 1089 (by decide), ?_⟩⟩⟩⟩)
  · rcases hk with rfl | rfl <;> decide
  · rcases hk with rfl | rfl <;> decide
  · rw [c]
    refine wg_addOne ?_
    refine nm_r (nI_1 544) ?_
    refine wg_skip 544 545 1 (by decide) (fun j h1 h2 => z j (by omega) (by omega)) ?_
    exact pk_le 1089 1089 (fun _ => H) (fun z => absurd z (by omega))
theorem wg_one0 {a : Nat → Int32} (h : ∀ j, j < 1089 → a j = 0) : ∀ j, j < 1089 → upd a 0 (a 0 + 1) j = if j = 0 then 1 else 0 := by
  intro j hj
  by_cases e : j = 0
  · rw [if_pos e, e, pk_us, h 0 (by decide)]
    decide
  · rw [if_neg e, pk_un e, h j hj]
theorem wg_cont {post : Int32 → Prop} {x y : Int} {ty pp qq lo sh nr mo fA fB sA sB gA gB uA uB uS : Int32} {a1 a2 a3 a4 a5 : Nat → Int32} (h : ¬ wg_Far x y) (h5 : ∀ j, j < 1089 → a5 j = if j = 0 then 1 else 0) (hp : post (if x = 0 ∧ y = 0 then 1 else 0)) : wpX_contained post (ty, pp, qq, lo, sh, nr, mo, fA, fB, sA, sB, gA, gB, uA, uB, uS, a1, a2, a3, a4, a5) (wg_z x) (wg_z y) := by
  have hb := wg_nfar h
  unfold wpX_contained
  dsimp only
  refine wg_blt x 0 (fun c => ?_) (fun c => wg_ble 33 x (fun c2 => ?_) (fun c2 => wg_blt y 0 (fun c3 => ?_) (fun c3 => wg_ble 33 y (fun c4 => ?_) (fun c4 => ?_))))
  · rw [if_neg (by omega)] at hp
    exact hp
  · rw [if_neg (by omega)] at hp
    exact hp
  · rw [if_neg (by omega)] at hp
    exact hp
  · rw [if_neg (by omega)] at hp
    exact hp
  · have e : (33 : Int32) * wg_z x + wg_z y = nI (33 * x + y).toNat := by
      rw [wg_n, Int.toNat_of_nonneg (by omega), ← wg_add, ← wg_mul]
      rfl
    rw [e]
    refine ⟨vp_in_nI (by omega) (by decide), ?_⟩
    rw [nI_clamp (by omega), h5 _ (by omega)]
    by_cases e0 : x = 0 ∧ y = 0
    · rw [if_pos e0] at hp
      rw [if_pos (by omega)]
      exact hp
    · rw [if_neg e0] at hp
      rw [if_neg (by omega)]
      exact hp
theorem wg_product {post : Int32 → St2 → Prop} {x y : Int} {ty pp qq lo sh nr mo fA fB gA gB uA uB uS : Int32} {a1 a2 a3 a4 a5 : Nat → Int32} (h3 : wg_tab wg_D a3) (hx : -2147483648 ≤ x ∧ x < 2147483648) (hy : -2147483648 ≤ y ∧ y < 2147483648) (hf : wg_Far x y → post (-1) (ty, pp, qq, lo, sh, nr, mo, fA, fB, 0, 0, gA, gB, uA, uB, uS, a1, a2, a3, a4, a5))
    (hn : ¬ wg_Far x y → ∀ a5', post (if x = 0 ∧ y = 0 then 1 else 0) (ty, pp, qq, lo, sh, nr, mo, fA, fB, 0, 0, gA, gB, 1, 1, 1, a1, a2, a3, a4, a5')) : wpX_product post (ty, pp, qq, lo, sh, nr, mo, fA, fB, 0, 0, gA, gB, uA, uB, uS, a1, a2, a3, a4, a5) (wg_z x) (wg_z y) := by
  unfold wpX_product
  dsimp only
  refine wg_far hx hy (fun h => br_f (by decide) (hf h)) (fun h => br_t rfl ?_)
  unfold wpX_multiply
  dsimp only
  refine wg_clear (fun a5' h5 => ?_)
  dsimp only
  refine wg_addTurned (Or.inl rfl) h3 ?_
  dsimp only
  exact wg_cont h (wg_one0 h5) (hn h _)
theorem wg_odd {post : Int32 → St2 → Prop} {x y : Int} {ty pp qq lo sh nr mo sA sB gA gB uA uB uS : Int32} {a1 a2 a3 a4 a5 : Nat → Int32} (h3 : wg_tab wg_D a3) (hx : -2147483648 ≤ x ∧ x < 2147483648) (hy : -2147483648 ≤ y ∧ y < 2147483648) (hf : wg_Far x y → ∀ u, post (-1) u)
    (hn : ¬ wg_Far x y → ∀ u, post 0 u) : wpX_odd post (ty, pp, qq, lo, sh, nr, mo, 0, 0, sA, sB, gA, gB, uA, uB, uS, a1, a2, a3, a4, a5) (wg_z x) (wg_z y) := by
  unfold wpX_odd
  dsimp only
  refine wg_far hx hy (fun h => br_f (by decide) (hf h _)) (fun h => br_t rfl ?_)
  unfold wpX_half
  dsimp only
  refine wg_clear (fun a5' h5 => ?_)
  dsimp only
  refine wg_addTurned (Or.inl rfl) h3 ?_
  dsimp only
  refine wg_cont h (wg_one0 h5) ?_
  refine wg_clear (fun a5'' h5' => ?_)
  dsimp only
  refine wg_addTurned (Or.inr rfl) h3 ?_
  dsimp only
  refine wg_cont h (wg_one0 h5') ⟨by decide, ?_⟩
  have e : ((if x = 0 ∧ y = 0 then (1 : Int32) else 0) + (-1) * (if x = 0 ∧ y = 0 then (1 : Int32) else 0)) / 2 = 0 := by
    by_cases e0 : x = 0 ∧ y = 0
    · rw [if_pos e0]
      decide
    · rw [if_neg e0]
      decide
  rw [e]
  exact hn h _
theorem wg_built4 {post : Int32 → Prop} {T : Nat} {ty pp qq lo sh nr mo fA fB sA sB gA gB uA uB uS : Int32} {a1 a2 a3 a4 a5 : Nat → Int32} (h4 : wg_tab T a4) : ∀ n i c, n + i = 1089 → post (nI (wg_cnt T n i c)) → wX_built_4 post ty pp qq lo sh nr mo fA fB sA sB gA gB uA uB uS a1 a2 a3 a4 a5 (n + 1) (nI c) (nI i) := by
  intro n
  induction n with
  | zero =>
    intro i c hi hp
    exact pk_le 1089 i (fun _ => hp) (fun z => absurd z (by omega))
  | succ n ih =>
    intro i c hi hp
    refine pk_le 1089 i (fun z => absurd z (by omega)) (fun _ => ⟨pk_in i 1089 (by omega), ?_⟩)
    rw [nI_clamp (by omega), h4 i (by omega)]
    rw [wg_cnt] at hp
    have hl := wg_get_lt T i
    cases hg : wg_get T i with
    | zero =>
      rw [hg] at hp
      exact br_t rfl (nm_r (Int32.add_zero _) (nm_r (nI_1 i) (ih (i + 1) c (by omega) hp)))
    | succ g =>
      rw [hg] at hp hl
      exact br_f (nI_ne0 (by omega) (by omega)) (nm_r (nI_1 c) (nm_r (nI_1 i) (ih (i + 1) (c + 1) (by omega) hp)))
theorem wg_built {post : Int32 → Prop} {T : Nat} {ty pp qq lo sh nr mo fA fB sA sB gA gB uA uB uS : Int32} {a1 a2 a3 a4 a5 : Nat → Int32} (h4 : wg_tab T a4) (hp : post (nI (wg_cnt T 1089 0 0))) : wpX_built post (ty, pp, qq, lo, sh, nr, mo, fA, fB, sA, sB, gA, gB, uA, uB, uS, a1, a2, a3, a4, a5) := by
  unfold wpX_built
  exact ⟨1090, wg_built4 h4 1089 0 0 rfl hp⟩
theorem wg_rb : ∀ t, t < 4 → ∀ ρ, ρ < 24 → (0 ≤ wg_r1 ρ * wg_l t ∧ wg_r1 ρ * wg_l t ≤ 100) ∧ (0 ≤ wg_r2 ρ ∧ wg_r2 ρ ≤ 100) := by decide +kernel
theorem wg_sb4 {a b c d : Nat} (ha : a ≤ 100) (hb : b ≤ 4) (hc : c ≤ 100) (hd : d ≤ 4) : a * b + c * d < 2 ^ 31 := by
  have h1 : a * b ≤ 100 * 4 := Nat.mul_le_mul ha hb
  have h2 : c * d ≤ 100 * 4 := Nat.mul_le_mul hc hd
  omega
theorem wg_size7 {post : Int32 → Prop} {t A B S' : Nat} {mo sA sB gA gB uA uB uS : Int32} {a1 a2 a3 a4 a5 : Nat → Int32} (ht : t < 4) (hA : A < 4) (hB : B < 4) (hR : wg_roots a1 a2) (hp : post (nI S')) :
    ∀ n r u v, n + r = wg_nr t → wg_sz t A B n r u v = some S' → wX_size_7 post (nI t) (wg_z (wg_p t)) (wg_z (wg_q t)) (wg_z (wg_l t)) 1 (nI (wg_nr t)) mo (nI A) (nI B) sA sB gA gB uA uB uS a1 a2 a3 a4 a5 (n + 1) (lN u) (lN v) (nI r) := by
  have hnr := wg_nr_le t
  intro n
  induction n with
  | zero =>
    intro r u v hr hs
    refine pk_le (wg_nr t) r (fun _ => ?_) (fun z => absurd z (by omega))
    rw [wg_sz] at hs
    by_cases hc : 0 < v ∧ v < 1000000000000000000 ∧ u < 1000000000000000000 ∧ u / v < 1000000000
    · rw [if_pos hc] at hs
      injection hs with hs
      obtain ⟨h0, h1, h2, _⟩ := hc
      have hv : ¬ lN v = 0 := by
        intro z
        have z' : lN v = lN 0 := z
        rw [pk_lEQ (by omega) (by decide)] at z'
        omega
      refine br_f hv ⟨hv, ?_⟩
      rw [pk_lDiv (by omega) h0 (by omega), lN_i, hs]
      exact hp
    · rw [if_neg hc] at hs
      exact absurd hs (by simp)
  | succ n ih =>
    intro r u v hr hs
    refine pk_le (wg_nr t) r (fun z => absurd z (by omega)) (fun z => ?_)
    have e : ((6 : Int32) * nI t) + nI r = nI (6 * t + r) := by
      rw [show (6 : Int32) * nI t = nI (6 * t) from pk_mul 6 t, nI_add]
    have hi : 6 * t + r < 24 := by omega
    have hb := wg_rb t ht (6 * t + r) hi
    obtain ⟨h1, h2⟩ := hR (6 * t + r) hi
    have hv : vp_in (nI (6 * t + r)) 24 := vp_in_nI hi (by decide)
    rw [e, nI_clamp (show 6 * t + r < 2 ^ 31 by omega), h1, h2]
    refine ⟨hv, nm_r (e' := nI (wg_r1 (6 * t + r) * wg_l t).toNat) ?_ ⟨hv, nm_r (e' := nI (wg_r2 (6 * t + r)).toNat) ?_ (nm_r (e' := lN (u * ((wg_r1 (6 * t + r) * wg_l t).toNat * (A + 1) + (wg_r2 (6 * t + r)).toNat * (B + 1)))) ?_ (nm_r (e' := lN (v * ((wg_r1 (6 * t + r) * wg_l t).toNat + (wg_r2 (6 * t + r)).toNat))) ?_ (nm_r (nI_1 r) ?_)))⟩⟩
    · rw [wg_mul, wg_n, Int.toNat_of_nonneg hb.1.1]
    · rw [Int32.mul_one, wg_n, Int.toNat_of_nonneg hb.2.1]
    · rw [nI_1, nI_1, pk_mul, pk_mul, nI_add, nI_l (wg_sb4 (by omega) (by omega) (by omega) (by omega)), lN_mul]
    · rw [nI_add, nI_l (by omega), lN_mul]
    · rw [wg_sz] at hs
      exact ih (r + 1) _ _ (by omega) hs
theorem wg_size {post : Int32 → Prop} {t A B S' : Nat} {mo sA sB gA gB uA uB uS : Int32} {a1 a2 a3 a4 a5 : Nat → Int32} (ht : t < 4) (hA : A < 4) (hB : B < 4) (hR : wg_roots a1 a2) (hs : wg_sz t A B (wg_nr t) 0 1 1 = some S') (hp : post (nI S')) : wpX_size post (nI t, wg_z (wg_p t), wg_z (wg_q t), wg_z (wg_l t), 1, nI (wg_nr t), mo, nI A, nI B, sA, sB, gA, gB, uA, uB, uS, a1, a2, a3, a4, a5) := by
  unfold wpX_size
  exact ⟨wg_nr t + 1, wg_size7 ht hA hB hR hp (wg_nr t) 0 1 1 (by omega) hs⟩
end
section
theorem wg_all {t A B : Nat} (ht : t < 4) (hA : A < 4) (hB : B < 4) : wg_good t A B = true := by
  rcases wg_4 ht with rfl | rfl | rfl | rfl
  · exact wg_good0 A hA B hB
  · exact wg_good1 A hA B hB
  · exact wg_good2 A hA B hB
  · exact wg_good3 A hA B hB
theorem wg_ok {t A B : Nat} (ht : t < 4) (hA : A < 4) (hB : B < 4) : ∃ T S : Nat, wg_run t A B = some T ∧ wg_sz t A B (wg_nr t) 0 1 1 = some S ∧ S ≤ 1000000000 ∧ A + 1 ≤ wg_cnt T 1089 0 0 ∧ wg_cnt T 1089 0 0 ≤ S ∧ wg_get T (33 * (A + 16) + (B + 16)) = 1 := by
  have h := wg_all ht hA hB
  unfold wg_good at h
  cases h1 : wg_run t A B with
  | none =>
    rw [h1] at h
    exact absurd h (by simp)
  | some T =>
    rw [h1] at h
    dsimp only at h
    cases h2 : wg_sz t A B (wg_nr t) 0 1 1 with
    | none =>
      rw [h2] at h
      exact absurd h (by simp)
    | some S =>
      rw [h2] at h
      dsimp only at h
      rw [Bool.and_eq_true, Bool.and_eq_true, Bool.and_eq_true, Nat.ble_eq, Nat.ble_eq, Nat.ble_eq, Nat.beq_eq] at h
      exact ⟨T, S, rfl, rfl, h⟩
theorem wg_small0 {post : Int32 → Prop} {x y : Int32} (h : x < 0 ∨ 3 < x ∨ y < 0 ∨ 3 < y) (hp : post 0) : wpX_isSmall post () x y := by
  unfold wpX_isSmall
  exact br_c (fun _ => hp) (fun c1 => br_c (fun _ => hp) (fun c2 => br_c (fun _ => hp) (fun c3 => br_c (fun _ => hp) (fun c4 => absurd h (fun z => z.elim c1 (fun z => z.elim c2 (fun z => z.elim c3 c4)))))))
theorem wg_first0 {post : Int32 → St2 → Prop} {x y : Int32} {ty pp qq lo sh nr mo fA fB sA sB gA gB uA uB uS : Int32} {a1 a2 a3 a4 a5 : Nat → Int32} (h : x < 0 ∨ 3 < x ∨ y < 0 ∨ 3 < y) (H : post (-1) (ty, pp, qq, lo, sh, nr, mo, fA, fB, sA, sB, gA, gB, uA, uB, uS, a1, a2, a3, a4, a5)) : wpX_first post (ty, pp, qq, lo, sh, nr, mo, fA, fB, sA, sB, gA, gB, uA, uB, uS, a1, a2, a3, a4, a5) x y := by
  unfold wpX_first
  dsimp only
  exact wg_small0 h (br_t rfl H)
theorem wg_first1 {post : Int32 → St2 → Prop} {t A B T' : Nat} {x y : Int32} {mo fA fB sA sB gA gB uA uB uS : Int32} {a1 a2 a3 a4 a5 : Nat → Int32} (ht : t < 4) (hA : A < 4) (hB : B < 4) (hR : wg_roots a1 a2) (hs : wg_run t A B = some T') (ex : x = nI A) (ey : y = nI B) (c1 : ¬ x < 0) (c2 : ¬ 3 < x) (c3 : ¬ y < 0) (c4 : ¬ 3 < y)
    (H : ∀ a3' a4', wg_tab T' a3' → wg_tab T' a4' → post (nI (wg_cnt T' 1089 0 0)) (nI t, wg_z (wg_p t), wg_z (wg_q t), wg_z (wg_l t), 1, nI (wg_nr t), mo, nI A, nI B, sA, sB, nI A, nI B, uA, uB, uS, a1, a2, a3', a4', a5)) : wpX_first post (nI t, wg_z (wg_p t), wg_z (wg_q t), wg_z (wg_l t), 1, nI (wg_nr t), mo, fA, fB, sA, sB, gA, gB, uA, uB, uS, a1, a2, a3, a4, a5) x y := by
  subst ex ey
  unfold wpX_first
  dsimp only
  unfold wpX_isSmall
  refine br_f c1 (br_f c2 (br_f c3 (br_f c4 (br_f (by decide) ?_))))
  refine wg_buildFirst ht hA hB hR hs (fun a3' a4' h3 h4 => ?_)
  dsimp only
  exact wg_built h4 (H a3' a4' h3 h4)
theorem wg_numberN {post : Int32 → Prop} {T : Nat} {x y : Int} {X Y : Int32} {ty pp qq lo sh nr mo fA fB sA sB gA gB uA uB uS : Int32} {a1 a2 a3 a4 a5 : Nat → Int32} (eX : X = wg_z x) (eY : Y = wg_z y) (h3 : wg_tab T a3) (hx : -40 ≤ x ∧ x ≤ 40) (hy : -40 ≤ y ∧ y ≤ 40) (hn : post (nI (wg_ent T x y))) : wpX_number post (ty, pp, qq, lo, sh, nr, mo, fA, fB, sA, sB, gA, gB, uA, uB, uS, a1, a2, a3, a4, a5) X Y := by
  subst eX eY
  exact wg_number h3 (by omega) (by omega) (fun h => absurd ⟨hx.1, hx.2, hy.1, hy.2⟩ h) (fun _ => hn)
theorem wg_l204s {post : Int32 → St0 → Prop} {mc ms kc ks t A B T S' : Nat} {x y x4 x5 x8 : Int32} {mo sA sB gA gB uA uB uS : Int32} {a1 a2 a3 a4 a5 : Nat → Int32} (ht : t < 4) (hA : A < 4) (hB : B < 4) (hR : wg_roots a1 a2) (h3 : wg_tab T a3) (ex : x = nI A) (ey : y = nI B)
    (hs : wg_sz t A B (wg_nr t) 0 1 1 = some S') (h0 : S' ≤ 1000000000) (h1 : A + 1 ≤ wg_cnt T 1089 0 0) (h2 : wg_cnt T 1089 0 0 ≤ S') (hg : wg_get T (33 * (A + 16) + (B + 16)) = 1) (H : post 1 ()) :
    wL_lawOf_204 post mc ms x y x4 x5 x8 (nI (wg_cnt T 1089 0 0)) 1 kc ks (nI t) (wg_z (wg_p t)) (wg_z (wg_q t)) (wg_z (wg_l t)) 1 (nI (wg_nr t)) mo (nI A) (nI B) sA sB gA gB uA uB uS a1 a2 a3 a4 a5 := by
  have e1 : nI A + 1 = nI (A + 1) := nI_1 A
  have hN : wg_Near (A : Int) (B : Int) := by
    unfold wg_Near
    omega
  have hE : wg_ent T (A : Int) (B : Int) = 1 := by
    rw [wg_ent_in hN, ← hg]
    unfold wg_c
    congr 1
  unfold wL_lawOf_204
  refine br_f (by decide) (br_f ?_ ?_)
  · rw [ex, e1]
    exact nI_nlt h1 (by omega)
  · refine wg_numberN (x := (A : Int)) (y := (B : Int)) (ex.trans (wg_n A)) (ey.trans (wg_n B)) h3 (by omega) (by omega) ?_
    rw [hE]
    refine br_t rfl ?_
    refine wg_size ht hA hB hR hs ?_
    exact br_f (nI_nlt h2 (by omega)) H
theorem wg_l204n {post : Int32 → St0 → Prop} {mc ms kc ks t : Nat} {x2 x3 x8 : Int32} {x y : Int} {mo sA sB gA gB uA uB uS : Int32} {a1 a2 a3 a4 a5 : Nat → Int32} (ht : t < 4) (hR : wg_roots a1 a2) (h3 : wg_tab wg_D a3) (hx : -2147483648 ≤ x ∧ x < 2147483648) (hy : -2147483648 ≤ y ∧ y < 2147483648) (h8 : wg_Far x y → x8 = 1) (h8' : ¬ wg_Far x y → x8 = 0) (H : post 1 ()) :
    wL_lawOf_204 post mc ms x2 x3 (wg_z x) (wg_z y) x8 (-1) 0 kc ks (nI t) (wg_z (wg_p t)) (wg_z (wg_q t)) (wg_z (wg_l t)) 1 (nI (wg_nr t)) mo (nI 0) (nI 0) sA sB gA gB uA uB uS a1 a2 a3 a4 a5 := by
  unfold wL_lawOf_204
  refine br_t rfl (br_t rfl ?_)
  refine wg_size ht (by decide) (by decide) hR (wg_run0 t ht).2 ?_
  refine br_t rfl ?_
  refine wg_odd h3 hx hy (fun h u => ?_) (fun h u => ?_)
  · obtain ⟨ty, pp, qq, lo, sh, nr, mo, fA, fB, sA, sB, gA, gB, uA, uB, uS, a1, a2, a3, a4, a5⟩ := u
    exact br_f (by rw [h8 h]; decide) (br_t rfl H)
  · obtain ⟨ty, pp, qq, lo, sh, nr, mo, fA, fB, sA, sB, gA, gB, uA, uB, uS, a1, a2, a3, a4, a5⟩ := u
    exact br_t (h8' h) (br_t rfl H)
theorem wg_l167 {post : Int32 → St0 → Prop} {mc ms kc ks t : Nat} {x2 x3 x8 z : Int32} {x y : Int} {mo sA sB gA gB uA uB uS : Int32} {a1 a2 a3 a4 a5 : Nat → Int32} (ht : t < 4) (hR : wg_roots a1 a2) (h3 : wg_tab wg_D a3) (hx : -2147483648 ≤ x ∧ x < 2147483648) (hy : -2147483648 ≤ y ∧ y < 2147483648) (h8 : wg_Far x y → x8 = 1) (h8' : ¬ wg_Far x y → x8 = 0) (H : post 1 ()) :
    wL_lawOf_167 post mc ms x2 x3 (wg_z x) (wg_z y) x8 z z kc ks (nI t) (wg_z (wg_p t)) (wg_z (wg_q t)) (wg_z (wg_l t)) 1 (nI (wg_nr t)) mo (nI 0) (nI 0) sA sB gA gB uA uB uS a1 a2 a3 a4 a5 := by
  unfold wL_lawOf_167
  refine br_t rfl ?_
  by_cases h : x2 < 0 ∨ 3 < x2 ∨ x3 < 0 ∨ 3 < x3
  · refine wg_first0 h ?_
    dsimp only
    have g : wL_lawOf_203 post mc ms x2 x3 (wg_z x) (wg_z y) x8 (-1) kc ks (nI t) (wg_z (wg_p t)) (wg_z (wg_q t)) (wg_z (wg_l t)) 1 (nI (wg_nr t)) mo (nI 0) (nI 0) sA sB gA gB uA uB uS a1 a2 a3 a4 a5 := by
      unfold wL_lawOf_203
      exact wg_l204n ht hR h3 hx hy h8 h8' H
    exact br_c (fun _ => g) (fun c1 => br_c (fun _ => g) (fun c2 => br_c (fun _ => g) (fun c3 => br_c (fun _ => g) (fun c4 => absurd h (fun z => z.elim c1 (fun z => z.elim c2 (fun z => z.elim c3 c4)))))))
  · have c1 : ¬ x2 < 0 := fun c => h (Or.inl c)
    have c2 : ¬ 3 < x2 := fun c => h (Or.inr (Or.inl c))
    have c3 : ¬ x3 < 0 := fun c => h (Or.inr (Or.inr (Or.inl c)))
    have c4 : ¬ 3 < x3 := fun c => h (Or.inr (Or.inr (Or.inr c)))
    obtain ⟨A, hA, eA⟩ := nI_of2 (M := 3) (n := 3) (by decide) c1 (Int32.not_lt.mp c2)
    obtain ⟨B, hB, eB⟩ := nI_of2 (M := 3) (n := 3) (by decide) c3 (Int32.not_lt.mp c4)
    have hA' : A < 4 := by omega
    have hB' : B < 4 := by omega
    obtain ⟨T, S', hr, hs, k0, k1, k2, k3⟩ := wg_ok ht hA' hB'
    refine wg_first1 ht hA' hB' hR hr eA eB c1 c2 c3 c4 (fun a3' a4' h3' h4' => ?_)
    dsimp only
    exact br_f c1 (br_f c2 (br_f c3 (br_f c4 (wg_l204s ht hA' hB' hR h3' eA eB hs k0 k1 k2 k3 H))))
theorem wg_l141 {post : Int32 → St0 → Prop} {mc ms kc ks t : Nat} {x1 x2 x3 x8 z : Int32} {x y : Int} {mo sA sB gA gB uA uB uS : Int32} {a1 a2 a3 a4 a5 : Nat → Int32} (ht : t < 4) (hR : wg_roots a1 a2) (h3 : wg_tab wg_D a3) (hx : -2147483648 ≤ x ∧ x < 2147483648) (hy : -2147483648 ≤ y ∧ y < 2147483648) (h8 : wg_Far x y → x8 = 1) (h8' : ¬ wg_Far x y → x8 = 0) (H : post 1 ()) :
    wL_lawOf_141 post mc ms x1 x2 x3 (wg_z x) (wg_z y) (nI t) x8 z z kc ks (nI t) (wg_z (wg_p t)) (wg_z (wg_q t)) (wg_z (wg_l t)) 1 (nI (wg_nr t)) mo (nI 0) (nI 0) sA sB gA gB uA uB uS a1 a2 a3 a4 a5 := by
  unfold wL_lawOf_141
  refine br_t rfl ?_
  unfold wpX_type
  dsimp only
  have g : wL_lawOf_161 post mc ms x2 x3 (wg_z x) (wg_z y) x8 (-1) kc ks (nI t) (wg_z (wg_p t)) (wg_z (wg_q t)) (wg_z (wg_l t)) 1 (nI (wg_nr t)) mo (nI 0) (nI 0) sA sB gA gB uA uB uS a1 a2 a3 a4 a5 := by
    unfold wL_lawOf_161
    exact wg_l167 ht hR h3 hx hy h8 h8' H
  by_cases c1 : x1 < 0
  · exact br_t c1 (br_t c1 g)
  · by_cases c2 : x1 ≤ 3
    · obtain ⟨t', ht', e⟩ := nI_of2 (M := 3) (n := 3) (by decide) c1 c2
      have ht4 : t' < 4 := by omega
      refine br_f c1 (br_t c2 ?_)
      rw [e]
      refine wg_lay ht4 (by decide) (by decide) hR (wg_run0 t' ht4).1 (fun mo' a3' a4' h3' h4' => ?_)
      dsimp only
      rw [← e]
      refine br_f c1 (br_t c2 ?_)
      rw [e]
      exact wg_l167 ht4 hR h3' hx hy h8 h8' H
    · exact br_f c1 (br_f c2 (br_f c1 (br_f c2 g)))
theorem wg_l110 {post : Int32 → St0 → Prop} {mc ms kc ks t : Nat} {x1 x2 x3 x8 x9 z : Int32} {x y : Int} {mo gA gB uA uB uS : Int32} {a1 a2 a3 a4 a5 : Nat → Int32} (ht : t < 4) (hR : wg_roots a1 a2) (h3 : wg_tab wg_D a3) (hx : -2147483648 ≤ x ∧ x < 2147483648) (hy : -2147483648 ≤ y ∧ y < 2147483648) (h8 : wg_Far x y → x8 = 1) (h8' : ¬ wg_Far x y → x8 = 0) (h9 : x = 0 ∧ y = 0 → x9 = 1) (h9' : ¬ (x = 0 ∧ y = 0) → x9 = 0) (H : post 1 ()) :
    wL_lawOf_110 post mc ms x1 x2 x3 (wg_z x) (wg_z y) (nI t) x8 x9 z z kc ks (nI t) (wg_z (wg_p t)) (wg_z (wg_q t)) (wg_z (wg_l t)) 1 (nI (wg_nr t)) mo (nI 0) (nI 0) 0 0 gA gB uA uB uS a1 a2 a3 a4 a5 := by
  unfold wL_lawOf_110
  refine br_t rfl ?_
  refine wg_product h3 hx hy (fun h => ?_) (fun h a5' => ?_)
  · exact br_f (by rw [h8 h]; decide) (wg_l141 ht hR h3 hx hy h8 h8' H)
  · refine br_t (h8' h) ?_
    by_cases e : x = 0 ∧ y = 0
    · rw [if_pos e]
      exact br_f (by rw [h9 e]; decide) (wg_l141 ht hR h3 hx hy h8 h8' H)
    · rw [if_neg e]
      exact br_t (h9' e) (wg_l141 ht hR h3 hx hy h8 h8' H)
theorem wg_l80 {post : Int32 → St0 → Prop} {mc ms kc ks t : Nat} {x1 x2 x3 x8 x9 : Int32} {x y : Int} {mo gA gB uA uB uS : Int32} {a1 a2 a3 a4 a5 : Nat → Int32} (ht : t < 4) (hR : wg_roots a1 a2) (h3 : wg_tab wg_D a3) (hx : -2147483648 ≤ x ∧ x < 2147483648) (hy : -2147483648 ≤ y ∧ y < 2147483648) (h8 : wg_Far x y → x8 = 1) (h8' : ¬ wg_Far x y → x8 = 0) (h9 : x = 0 ∧ y = 0 → x9 = 1) (h9' : ¬ (x = 0 ∧ y = 0) → x9 = 0) (H : post 1 ()) :
    wL_lawOf_80 post mc ms x1 x2 x3 (wg_z x) (wg_z y) (nI t) x8 x9 kc ks (nI t) (wg_z (wg_p t)) (wg_z (wg_q t)) (wg_z (wg_l t)) 1 (nI (wg_nr t)) mo (nI 0) (nI 0) 0 0 gA gB uA uB uS a1 a2 a3 a4 a5 := by
  unfold wL_lawOf_80
  refine wg_number h3 hx hy (fun h => ?_) (fun h => ?_)
  · exact br_f (by rw [h8 h]; decide) (wg_l110 ht hR h3 hx hy h8 h8' h9 h9' H)
  · rw [wg_ent_D]
    refine br_t (h8' h) ?_
    by_cases e : x = 0 ∧ y = 0
    · rw [if_pos e]
      exact br_f (by rw [h9 e]; decide) (wg_l110 ht hR h3 hx hy h8 h8' h9 h9' H)
    · rw [if_neg e]
      exact br_t (h9' e) (wg_l110 ht hR h3 hx hy h8 h8' h9 h9' H)
theorem wg_eq0 {x : Int} (hx : -2147483648 ≤ x ∧ x < 2147483648) : wg_z x = 0 ↔ x = 0 := by
  constructor
  · intro h
    have h' : (wg_z x).toInt = 0 := by
      rw [h]
      decide
    rw [wg_toInt hx] at h'
    exact h'
  · intro h
    rw [h]
    rfl
theorem wg_l63 {post : Int32 → St0 → Prop} {mc ms kc ks t : Nat} {x1 x2 x3 x8 : Int32} {x y : Int} {mo gA gB uA uB uS : Int32} {a1 a2 a3 a4 a5 : Nat → Int32} (ht : t < 4) (hR : wg_roots a1 a2) (h3 : wg_tab wg_D a3) (hx : -2147483648 ≤ x ∧ x < 2147483648) (hy : -2147483648 ≤ y ∧ y < 2147483648) (h8 : wg_Far x y → x8 = 1) (h8' : ¬ wg_Far x y → x8 = 0) (H : post 1 ()) :
    wL_lawOf_63 post mc ms x1 x2 x3 (wg_z x) (wg_z y) (nI t) x8 kc ks (nI t) (wg_z (wg_p t)) (wg_z (wg_q t)) (wg_z (wg_l t)) 1 (nI (wg_nr t)) mo (nI 0) (nI 0) 0 0 gA gB uA uB uS a1 a2 a3 a4 a5 := by
  unfold wL_lawOf_63
  refine br_c (fun c => br_c (fun c2 => ?_) (fun c2 => ?_)) (fun c => ?_)
  · rw [wg_eq0 hx] at c
    rw [wg_eq0 hy] at c2
    exact wg_l80 ht hR h3 hx hy h8 h8' (fun _ => rfl) (fun e => absurd ⟨c, c2⟩ e) H
  · rw [wg_eq0 hy] at c2
    unfold wL_lawOf_79
    exact wg_l80 ht hR h3 hx hy h8 h8' (fun e => absurd e.2 c2) (fun _ => rfl) H
  · rw [wg_eq0 hx] at c
    unfold wL_lawOf_79
    exact wg_l80 ht hR h3 hx hy h8 h8' (fun e => absurd e.1 c) (fun _ => rfl) H
theorem wg_l28 {post : Int32 → St0 → Prop} {mc ms kc ks t : Nat} {x1 x2 x3 : Int32} {x y : Int} {mo gA gB uA uB uS : Int32} {a1 a2 a3 a4 a5 : Nat → Int32} (ht : t < 4) (hR : wg_roots a1 a2) (h3 : wg_tab wg_D a3) (hx : -2147483648 ≤ x ∧ x < 2147483648) (hy : -2147483648 ≤ y ∧ y < 2147483648) (H : post 1 ()) :
    wL_lawOf_28 post mc ms x1 x2 x3 (wg_z x) (wg_z y) (nI t) kc ks (nI t) (wg_z (wg_p t)) (wg_z (wg_q t)) (wg_z (wg_l t)) 1 (nI (wg_nr t)) mo (nI 0) (nI 0) 0 0 gA gB uA uB uS a1 a2 a3 a4 a5 := by
  have g : wg_Far x y → wL_lawOf_58 post mc ms x1 x2 x3 (wg_z x) (wg_z y) (nI t) kc ks (nI t) (wg_z (wg_p t)) (wg_z (wg_q t)) (wg_z (wg_l t)) 1 (nI (wg_nr t)) mo (nI 0) (nI 0) 0 0 gA gB uA uB uS a1 a2 a3 a4 a5 := by
    intro h
    unfold wL_lawOf_58
    exact wg_l63 ht hR h3 hx hy (fun _ => rfl) (fun e => absurd h e) H
  unfold wL_lawOf_28
  refine wg_blt x (-40) (fun c => g (fun h => ?_)) (fun c => wg_blt 40 x (fun c2 => g (fun h => ?_)) (fun c2 => wg_blt y (-40) (fun c3 => g (fun h => ?_)) (fun c3 => wg_ble y 40 (fun c4 => ?_) (fun c4 => g (fun h => ?_)))))
  · have h' := h.1
    omega
  · have h' := h.2.1
    omega
  · have h' := h.2.2.1
    omega
  · exact wg_l63 ht hR h3 hx hy (fun e => absurd ⟨c, c2, c3, c4⟩ e) (fun _ => rfl) H
  · have h' := h.2.2.2
    omega
theorem wg_rng (x : Int32) : ∃ a : Int, (-2147483648 ≤ a ∧ a < 2147483648) ∧ x = wg_z a := by
  refine ⟨x.toInt, ⟨?_, ?_⟩, wg_self x⟩
  · have h := Int32.le_toInt x
    omega
  · have h := Int32.toInt_lt x
    omega
theorem wg_lawOf {post : Int32 → St0 → Prop} (p0 p1 p2 p3 p4 p5 : Int32) (H : post 1 ()) : wpL_lawOf post 1682 26896 () p0 p1 p2 p3 p4 p5 := by
  obtain ⟨x, hx, rfl⟩ := wg_rng p4
  obtain ⟨y, hy, rfl⟩ := wg_rng p5
  unfold wpL_lawOf
  refine ⟨by decide, by decide, 1681, 26875, by decide, by decide, ?_⟩
  unfold wpX_init
  dsimp only
  refine ⟨by decide, by decide, by decide, by decide, by decide, by decide, by decide, by decide, by decide, by decide, ?_⟩
  by_cases c1 : 0 ≤ p0
  · by_cases c2 : p0 ≤ 3
    · obtain ⟨t, ht, e⟩ := nI_of2 (M := 3) (n := 3) (by decide) (Int32.not_lt.mpr c1) c2
      have ht4 : t < 4 := by omega
      subst e
      refine br_t c1 (br_t c2 ?_)
      refine wg_init68 ht4 (fun mo' a3' a4' h3 h4 => ?_)
      exact br_t c1 (br_t c2 (wg_l28 ht4 wg_f12 h3 hx hy H))
    · refine br_t c1 (br_f c2 ?_)
      refine wg_init68 (t := 3) (by decide) (fun mo' a3' a4' h3 h4 => ?_)
      exact br_t c1 (br_f c2 (wg_l28 (t := 3) (by decide) wg_f12 h3 hx hy H))
  · refine br_f c1 ?_
    refine wg_init68 (t := 0) (by decide) (fun mo' a3' a4' h3 h4 => ?_)
    exact br_f c1 (wg_l28 (t := 0) (by decide) wg_f12 h3 hx hy H)
theorem wg_cellAt {post : Int32 → Prop} {L : Nat} {xs : Nat → Int32} {p : Int32} (k : Nat) (hp : p = nI k) (hk : k < 6) (hL : L ≤ 6) (h : ∀ v, post v) : wpL_cellAt post L xs () p := by
  subst hp
  unfold wpL_cellAt
  exact pk_le L k (fun _ => h 0) (fun z => ⟨pk_in k L z, h _⟩)
end
section
theorem i_vc (xs : Nat → Int32) (L : Nat) (hL : L ≤ 6) : wpL_law (fun r => r = 1) L xs := by
  unfold wpL_law
  refine wg_cellAt 0 rfl (by decide) hL (fun r1 => wg_cellAt 1 rfl (by decide) hL (fun r2 => wg_cellAt 2 rfl (by decide) hL (fun r3 => wg_cellAt 3 rfl (by decide) hL (fun r4 => wg_cellAt 4 rfl (by decide) hL (fun r5 => wg_cellAt 5 rfl (by decide) hL (fun r6 => ?_))))))
  exact ⟨1682, 26896, by decide, by decide, wg_lawOf r1 r2 r3 r4 r5 r6 rfl⟩
end
