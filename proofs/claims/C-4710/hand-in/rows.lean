section
/-! rows of the kit, pasted (kit/rows: PURE-ROWS, BITS) -/
theorem pk_us {f : Nat → Int32} {k : Nat} {x : Int32} : upd f k x k = x := if_pos rfl
theorem pk_un {f : Nat → Int32} {k j : Nat} {x : Int32} (h : j ≠ k) : upd f k x j = f j := if_neg h
theorem pk_sub {a b : Nat} (h : b ≤ a) : nI a - nI b = nI (a - b) := by
  obtain ⟨c, rfl⟩ : ∃ c, a = c + b := ⟨a - b, by omega⟩
  rw [← nI_add, Int32.add_sub_cancel, Nat.add_sub_cancel]
theorem pk_m1 (n : Nat) : nI (n + 1) + (-1) = nI n := by
  rw [← nI_1, Int32.add_assoc, show (1 : Int32) + (-1) = 0 from rfl, Int32.add_zero]
theorem pk_mul (a b : Nat) : nI a * nI b = nI (a * b) := (Int32.ofNat_mul a b).symm
theorem pk_div {a d : Nat} (ha : a < 2 ^ 31) (h0 : 0 < d) (hd : d < 2 ^ 31) : nI a / nI d = nI (a / d) := by
  apply Int32.toInt_inj.mp
  rw [lg_idiv_nonneg (by rw [nI_toInt ha]; omega) (by rw [nI_toInt hd]; omega), nI_toInt ha, nI_toInt hd, nI_toInt (Nat.lt_of_le_of_lt (Nat.div_le_self a d) ha)]
  first | rfl | exact (Int.natCast_ediv _ _).symm
theorem pk_rem {a d : Nat} (ha : a < 2 ^ 31) (h0 : 0 < d) (hd : d < 2 ^ 31) : nI a - nI a / nI d * nI d = nI (a % d) := by
  rw [pk_div ha h0 hd, pk_mul, pk_sub (Nat.div_mul_le_self a d)]
  exact congrArg nI (by have := Nat.div_add_mod' a d; omega)
theorem pk_sub_toInt {a b : Nat} (ha : a < 2 ^ 30) (hb : b < 2 ^ 30) : (nI a - nI b).toInt = (a : Int) - b := by
  rw [Int32.toInt_sub, nI_toInt (by omega), nI_toInt (by omega)]
  exact Int.bmod_eq_of_le (by omega) (by omega)
theorem pk_ix (x : Int32) {n : Nat} (hn : n < 2 ^ 31) : x < 0 ∨ nI n ≤ x ∨ ∃ j : Nat, j < n ∧ x = nI j := by
  by_cases h : x < 0
  · exact Or.inl h
  · obtain ⟨j, hj, rfl⟩ := nI_of h
    by_cases h2 : j < n
    · exact Or.inr (Or.inr ⟨j, h2, rfl⟩)
    · exact Or.inr (Or.inl (nI_le (by omega) hj))
theorem pk_le {x y : Int32} {A B : Prop} (a b : Nat) (f : a ≤ b → A) (g : b < a → B) (hx : x = nI a := by rfl) (hy : y = nI b := by rfl) (ha : a < 2 ^ 31 := by omega) (hb : b < 2 ^ 31 := by omega) : (x ≤ y → A) ∧ (¬ x ≤ y → B) := by
  subst hx hy
  rw [nI_leI ha hb]
  exact ⟨f, fun z => g (by omega)⟩
theorem pk_lt {x y : Int32} {A B : Prop} (a b : Nat) (f : a < b → A) (g : b ≤ a → B) (hx : x = nI a := by rfl) (hy : y = nI b := by rfl) (ha : a < 2 ^ 31 := by omega) (hb : b < 2 ^ 31 := by omega) : (x < y → A) ∧ (¬ x < y → B) := by
  subst hx hy
  rw [nI_ltI ha hb]
  exact ⟨f, fun z => g (by omega)⟩
theorem pk_eq {x y : Int32} {A B : Prop} (a b : Nat) (f : a = b → A) (g : a ≠ b → B) (hx : x = nI a := by rfl) (hy : y = nI b := by rfl) (ha : a < 2 ^ 31 := by omega) (hb : b < 2 ^ 31 := by omega) : (x = y → A) ∧ (¬ x = y → B) := by
  subst hx hy
  rw [nI_eq ha hb]
  exact ⟨f, g⟩
theorem pk_in {x : Int32} (n N : Nat) (h : n < N) (hx : x = nI n := by rfl) (hN : N < 2 ^ 31 := by omega) : vp_in x N := by
  subst hx
  exact vp_in_nI h hN
theorem pk_cl {x : Int32} (n : Nat) (hx : x = nI n := by rfl) (h : n < 2 ^ 31 := by omega) : x.toNatClampNeg = n := by
  subst hx
  exact nI_clamp h
def bt (x : Int32) (i : Nat) : Bool := x.toBitVec.getLsbD i
theorem b_ext {x y : Int32} (h : ∀ i, i < 32 → bt x i = bt y i) : x = y := Int32.toBitVec_inj.mp (BitVec.eq_of_getLsbD_eq (fun i hi => h i hi))
theorem b_or (x y : Int32) (i : Nat) : bt (x ||| y) i = (bt x i || bt y i) := by unfold bt; rw [Int32.toBitVec_or, BitVec.getLsbD_or]
theorem b_and (x y : Int32) (i : Nat) : bt (x &&& y) i = (bt x i && bt y i) := by unfold bt; rw [Int32.toBitVec_and, BitVec.getLsbD_and]
theorem b_big {x : Int32} {i : Nat} (h : 32 ≤ i) : bt x i = false := BitVec.getLsbD_of_ge _ _ h
theorem b_0 (i : Nat) : bt 0 i = false := BitVec.getLsbD_zero
theorem s_l : ∀ n, n < 32 → ((nI n &&& 31).toBitVec.smod 32).toNat = n := by decide +kernel
theorem b_shl (n : Nat) (hn : n < 32) (x : Int32) {i : Nat} (hi : i < 32) : bt (x <<< (nI n &&& 31)) i = (decide (n ≤ i) && bt x (i - n)) := by
  unfold bt
  rw [Int32.toBitVec_shiftLeft]
  show (x.toBitVec <<< ((nI n &&& 31).toBitVec.smod 32).toNat).getLsbD i = _
  rw [s_l n hn, BitVec.getLsbD_shiftLeft]
  rcases Nat.lt_or_ge i n with h | h
  · simp [h, Nat.not_le.mpr h]
  · simp [hi, h, Nat.not_lt.mpr h]
theorem b_sshr (n : Nat) (hn : n < 32) (x : Int32) {i : Nat} (hi : i < 32) : bt (x >>> (nI n &&& 31)) i = if n + i < 32 then bt x (n + i) else bt x 31 := by
  unfold bt
  rw [Int32.toBitVec_shiftRight]
  show (x.toBitVec.sshiftRight ((nI n &&& 31).toBitVec.smod 32).toNat).getLsbD i = _
  rw [s_l n hn, BitVec.getLsbD_sshiftRight, BitVec.msb_eq_getLsbD_last]
  simp [hi]
end
section
/-! index arithmetic, block fills zf, sums zs -/
theorem zn_ix2 (z m : Nat) : 16 * nI z + nI m = nI (16 * z + m) := by
  rw [show (16 : Int32) = nI 16 from rfl, pk_mul, nI_add]
theorem zn_ix4 (z i : Nat) : 16 * nI z + 4 * nI i = nI (16 * z + 4 * i) := by
  rw [show (16 : Int32) = nI 16 from rfl, show (4 : Int32) = nI 4 from rfl, pk_mul, pk_mul, nI_add]
theorem zn_ix3 (z i j : Nat) : 16 * nI z + 4 * nI i + nI j = nI (16 * z + 4 * i + j) := by
  rw [zn_ix4, nI_add]
theorem zn_ix5 (z i : Nat) : 16 * nI z + 5 * nI i = nI (16 * z + 5 * i) := by
  rw [show (16 : Int32) = nI 16 from rfl, show (5 : Int32) = nI 5 from rfl, pk_mul, pk_mul, nI_add]
theorem zn_iy (z p : Nat) : 1000 * nI z + nI p = nI (1000 * z + p) := by
  rw [show (1000 : Int32) = nI 1000 from rfl, pk_mul, nI_add]
theorem zn_div4 {m : Nat} (h : m < 16) : nI m / 4 = nI (m / 4) := pk_div (d := 4) (by omega) (by decide) (by decide)
theorem zn_rem4 {m : Nat} (h : m < 16) : nI m - nI m / 4 * 4 = nI (m % 4) := pk_rem (d := 4) (by omega) (by decide) (by decide)
theorem zn_div10 {m : Nat} (h : m < 1000) : nI m / 10 = nI (m / 10) := pk_div (d := 10) (by omega) (by decide) (by decide)
theorem zn_div100 {m : Nat} (h : m < 1000) : nI m / 100 = nI (m / 100) := pk_div (d := 100) (by omega) (by decide) (by decide)
theorem zn_rem10 {m : Nat} (h : m < 1000) : nI m - nI m / 10 * 10 = nI (m % 10) := pk_rem (d := 10) (by omega) (by decide) (by decide)
theorem zn_b {x : Int32} (h : x = 0 ∨ x = 1) : vp_nar .boolean x = x := by
  rcases h with rfl | rfl <;> rfl
theorem zn_bn {x : Int32} (h : x = 0 ∨ x = 1) : narrow .boolean (.int x) = .int x := by
  rcases h with rfl | rfl <;> rfl
theorem zn_i {x : Int32} {n : Nat} (h : x.toInt = n) (hn : n < 2 ^ 31) : x = nI n := by
  apply Int32.toInt_inj.mp
  rw [h, nI_toInt hn]
theorem zn_neg {x : Int32} (h : -1000 ≤ x.toInt) (h2 : x.toInt ≤ 1000) : (-x).toInt = -x.toInt := Jvm.Kit.i32_neg (by omega)
theorem zn_add {x y : Int32} (h1 : -100000 ≤ x.toInt) (h2 : x.toInt ≤ 100000) (h3 : -100000 ≤ y.toInt) (h4 : y.toInt ≤ 100000) : (x + y).toInt = x.toInt + y.toInt := Jvm.Kit.i32_add (by omega) (by omega)
theorem zn_sub {x y : Int32} (h1 : -100000 ≤ x.toInt) (h2 : x.toInt ≤ 100000) (h3 : -100000 ≤ y.toInt) (h4 : y.toInt ≤ 100000) : (x - y).toInt = x.toInt - y.toInt := Jvm.Kit.i32_sub (by omega) (by omega)
theorem zn_4 {i : Nat} (h : i < 4) : i = 0 ∨ i = 1 ∨ i = 2 ∨ i = 3 := by omega
/-- the array B with f in the block [a, a + m) -/
def zf (B : Nat → Int32) (a m : Nat) (f : Nat → Int32) : Nat → Int32 := fun q => if a ≤ q ∧ q < a + m then f (q - a) else B q
theorem zf_0 (B : Nat → Int32) (a : Nat) (f : Nat → Int32) : zf B a 0 f = B := by
  funext q
  exact if_neg (by omega)
theorem zf_at {B : Nat → Int32} {a m t : Nat} {f : Nat → Int32} (h : t < m) : zf B a m f (a + t) = f t := by
  unfold zf
  rw [if_pos (by omega), Nat.add_sub_cancel_left]
theorem zf_out {B : Nat → Int32} {a m q : Nat} {f : Nat → Int32} (h : q < a ∨ a + m ≤ q) : zf B a m f q = B q := if_neg (by omega)
theorem zf_s (B : Nat → Int32) (a m : Nat) (f : Nat → Int32) : upd (zf B a m f) (a + m) (f m) = zf B a (m + 1) f := by
  funext q
  by_cases h : q = a + m
  · subst h
    rw [pk_us, zf_at (by omega)]
  · rw [pk_un h]
    by_cases h2 : a ≤ q ∧ q < a + m
    · obtain ⟨t, rfl⟩ : ∃ t, q = a + t := ⟨q - a, by omega⟩
      rw [zf_at (by omega), zf_at (by omega)]
    · rw [zf_out (by omega), zf_out (by omega)]
/-- a step that writes nothing, where the block holds f there already -/
theorem zf_k {B : Nat → Int32} {a m : Nat} {f : Nat → Int32} (h : f m = B (a + m)) : zf B a m f = zf B a (m + 1) f := by
  rw [← zf_s, h]
  funext q
  by_cases e : q = a + m
  · subst e
    rw [pk_us, zf_out (by omega)]
  · rw [pk_un e]
/-- sums -/
def zs (f : Nat → Nat) : Nat → Nat
  | 0 => 0
  | n + 1 => zs f n + f n
theorem zs_c {f g : Nat → Nat} : ∀ n, (∀ i, i < n → f i = g i) → zs f n = zs g n := by
  intro n
  induction n with
  | zero => intro _; rfl
  | succ n ih =>
    intro h
    show zs f n + f n = zs g n + g n
    rw [ih (fun i hi => h i (by omega)), h n (by omega)]
theorem zs_z {f : Nat → Nat} : ∀ n, (∀ i, i < n → f i = 0) → zs f n = 0 := by
  intro n
  induction n with
  | zero => intro _; rfl
  | succ n ih =>
    intro h
    show zs f n + f n = 0
    rw [ih (fun i hi => h i (by omega)), h n (by omega)]
theorem zs_split (f : Nat → Nat) (m : Nat) : ∀ k, zs f (m + k) = zs f m + zs (fun a => f (m + a)) k := by
  intro k
  induction k with
  | zero => rfl
  | succ k ih =>
    show zs f (m + k) + f (m + k) = zs f m + (zs (fun a => f (m + a)) k + f (m + k))
    rw [ih, Nat.add_assoc]
theorem zs_stop {f : Nat → Nat} {m n : Nat} (h : m ≤ n) (hz : ∀ i, m ≤ i → f i = 0) : zs f n = zs f m := by
  obtain ⟨k, rfl⟩ : ∃ k, n = m + k := ⟨n - m, by omega⟩
  rw [zs_split, zs_z k (fun i _ => hz (m + i) (by omega)), Nat.add_zero]
theorem zs_10 (f : Nat → Nat) : ∀ n, zs f (10 * n) = zs (fun c => zs (fun a => f (10 * c + a)) 10) n := by
  intro n
  induction n with
  | zero => rfl
  | succ n ih =>
    rw [Nat.mul_succ, zs_split, ih]
    rfl
theorem zs_add (f g : Nat → Nat) : ∀ n, zs (fun a => f a + g a) n = zs f n + zs g n := by
  intro n
  induction n with
  | zero => rfl
  | succ n ih =>
    show zs (fun a => f a + g a) n + (f n + g n) = (zs f n + f n) + (zs g n + g n)
    rw [ih]
    omega
theorem zs_swap (f : Nat → Nat → Nat) (m : Nat) : ∀ n, zs (fun a => zs (fun b => f a b) m) n = zs (fun b => zs (fun a => f a b) n) m := by
  intro n
  induction n with
  | zero => exact (zs_z m (fun _ _ => rfl)).symm
  | succ n ih =>
    show zs (fun a => zs (fun b => f a b) m) n + zs (fun b => f n b) m = zs (fun b => zs (fun a => f a b) n + f n b) m
    rw [ih, zs_add]
/-- how many numbers below n lie between two bounds -/
theorem zs_iv (L H : Int) (hL : 0 ≤ L) : ∀ n : Nat, (zs (fun c => if L ≤ (c : Int) ∧ (c : Int) ≤ H then 1 else 0) n : Int) = if H + 1 ≤ (n : Int) then (if L ≤ H then H - L + 1 else 0) else (if L ≤ (n : Int) then (n : Int) - L else 0) := by
  intro n
  induction n with
  | zero =>
    show ((0 : Nat) : Int) = _
    split
    · split <;> omega
    · split <;> omega
  | succ n ih =>
    show ((zs (fun c => if L ≤ (c : Int) ∧ (c : Int) ≤ H then 1 else 0) n + (if L ≤ (n : Int) ∧ (n : Int) ≤ H then 1 else 0) : Nat) : Int) = _
    rw [Int.natCast_add, ih]
    by_cases c1 : L ≤ (n : Int) ∧ (n : Int) ≤ H
    · rw [if_pos c1]
      by_cases c2 : H + 1 ≤ (n : Int)
      · omega
      · rw [if_neg c2, if_pos c1.1]
        by_cases c3 : H + 1 ≤ ((n + 1 : Nat) : Int)
        · rw [if_pos c3, if_pos (by omega)]; omega
        · rw [if_neg c3, if_pos (by omega)]; omega
    · rw [if_neg c1]
      by_cases c2 : H + 1 ≤ (n : Int)
      · have c3 : H + 1 ≤ ((n + 1 : Nat) : Int) := by omega
        rw [if_pos c2, if_pos c3]; simp
      · rw [if_neg c2, if_neg (by omega)]
        by_cases c3 : H + 1 ≤ ((n + 1 : Nat) : Int)
        · rw [if_pos c3, if_neg (by omega)]; simp
        · rw [if_neg c3]
          by_cases c4 : L ≤ ((n + 1 : Nat) : Int)
          · rw [if_pos c4]; omega
          · rw [if_neg c4]; simp
theorem zf_w {B : Nat → Int32} {a m q : Nat} {f : Nat → Int32} {x : Int32} (hq : q = a + m) (hx : f m = x) : upd (zf B a m f) q x = zf B a (m + 1) f := by
  subst hq hx
  exact zf_s B a m f
end
section
/-! matrices of differences, over the integers -/
/-- the i-th number of a point -/
def zd_pp (p i : Nat) : Nat := if i = 0 then 0 else if i = 1 then p % 10 else if i = 2 then p / 10 % 10 else p / 100
def zd_df (p i j : Nat) : Int := (zd_pp p i : Int) - (zd_pp p j : Int)
def zd_in (D : Nat → Nat → Int) (p : Nat) : Prop := ∀ i j, i < 4 → j < 4 → zd_df p i j ≤ D i j
/-- closed: diagonal 0, triangles, within the box -/
def zd_Cl (D : Nat → Nat → Int) : Prop := (∀ i, i < 4 → D i i = 0) ∧ (∀ i j k, i < 4 → j < 4 → k < 4 → D i j ≤ D i k + D k j) ∧ (∀ i, i < 4 → D 0 i ≤ 0) ∧ (∀ i, i < 4 → D i 0 ≤ 9)
theorem zd_pp_le {p i : Nat} (hp : p < 1000) : zd_pp p i ≤ 9 := by
  unfold zd_pp
  split
  · omega
  · split
    · omega
    · split <;> omega
theorem zd_df_b {p i j : Nat} (hp : p < 1000) : -9 ≤ zd_df p i j ∧ zd_df p i j ≤ 9 := by
  have a := zd_pp_le (i := i) hp
  have b := zd_pp_le (i := j) hp
  unfold zd_df
  omega
theorem zd_df_s (p i : Nat) : zd_df p i i = 0 := by
  unfold zd_df
  omega
theorem zd_df_t (p i j k : Nat) : zd_df p i j = zd_df p i k + zd_df p k j := by
  unfold zd_df
  omega
/-- two points with the same numbers are the same -/
theorem zd_pp_inj {p q : Nat} (hp : p < 1000) (hq : q < 1000) (h : ∀ m, m < 4 → zd_pp p m = zd_pp q m) : p = q := by
  have a : p % 10 = q % 10 := h 1 (by omega)
  have b : p / 10 % 10 = q / 10 % 10 := h 2 (by omega)
  have c : p / 100 = q / 100 := h 3 (by omega)
  omega
theorem zd_mk (x : Nat → Int) (h0 : x 0 = 0) (h : ∀ m, m < 4 → 0 ≤ x m ∧ x m ≤ 9) : ∃ p, p < 1000 ∧ ∀ m, m < 4 → (zd_pp p m : Int) = x m := by
  have h1 := h 1 (by omega)
  have h2 := h 2 (by omega)
  have h3 := h 3 (by omega)
  refine ⟨(x 1).toNat + 10 * (x 2).toNat + 100 * (x 3).toNat, by omega, ?_⟩
  intro m hm
  rcases zn_4 hm with rfl | rfl | rfl | rfl
  · show ((0 : Nat) : Int) = x 0
    omega
  · show ((((x 1).toNat + 10 * (x 2).toNat + 100 * (x 3).toNat) % 10 : Nat) : Int) = x 1
    omega
  · show ((((x 1).toNat + 10 * (x 2).toNat + 100 * (x 3).toNat) / 10 % 10 : Nat) : Int) = x 2
    omega
  · show ((((x 1).toNat + 10 * (x 2).toNat + 100 * (x 3).toNat) / 100 : Nat) : Int) = x 3
    omega
theorem zd_sol {D : Nat → Nat → Int} (hD : zd_Cl D) (x : Nat → Int) (h0 : x 0 = 0) (h : ∀ i j, i < 4 → j < 4 → x i - x j ≤ D i j) : ∃ p, p < 1000 ∧ (∀ m, m < 4 → (zd_pp p m : Int) = x m) ∧ zd_in D p := by
  obtain ⟨p, hp, e⟩ := zd_mk x h0 (fun m hm => by
    have a := h m 0 hm (by omega)
    have b := h 0 m (by omega) hm
    have c := hD.2.2.1 m hm
    have d := hD.2.2.2 m hm
    omega)
  refine ⟨p, hp, e, fun i j hi hj => ?_⟩
  have a := h i j hi hj
  unfold zd_df
  rw [e i hi, e j hj]
  exact a
def zd_q (D : Nat → Nat → Int) (i j : Nat) (v : Int) (m : Nat) : Int := if D m j ≤ D m i + v then D m j else D m i + v
theorem zd_q_c (D : Nat → Nat → Int) (i j : Nat) (v : Int) (m : Nat) : (zd_q D i j v m = D m j ∧ D m j ≤ D m i + v) ∨ (zd_q D i j v m = D m i + v ∧ D m i + v < D m j) := by
  unfold zd_q
  split <;> omega
/-- every value between the bounds of a closed matrix is a difference of one of its points -/
theorem zd_val {D : Nat → Nat → Int} (hD : zd_Cl D) {i j : Nat} (hi : i < 4) (hj : j < 4) (v : Int) (h1 : -D j i ≤ v) (h2 : v ≤ D i j) : ∃ p, p < 1000 ∧ zd_in D p ∧ zd_df p i j = v := by
  have K := zd_sol hD (fun m => zd_q D i j v m - zd_q D i j v 0) (by show zd_q D i j v 0 - zd_q D i j v 0 = (0 : Int); omega) (by
    intro a b ha hb
    show (zd_q D i j v a - zd_q D i j v 0) - (zd_q D i j v b - zd_q D i j v 0) ≤ D a b
    have t1 := hD.2.1 a j b ha hj hb
    have t2 := hD.2.1 a i b ha hi hb
    rcases zd_q_c D i j v a with h | h <;> rcases zd_q_c D i j v b with h' | h' <;> omega)
  obtain ⟨p, hp, e, hin⟩ := K
  refine ⟨p, hp, hin, ?_⟩
  have ei : (zd_pp p i : Int) = zd_q D i j v i - zd_q D i j v 0 := e i hi
  have ej : (zd_pp p j : Int) = zd_q D i j v j - zd_q D i j v 0 := e j hj
  have a := hD.1 i hi
  have b := hD.1 j hj
  unfold zd_df
  rcases zd_q_c D i j v i with h | h <;> rcases zd_q_c D i j v j with h' | h' <;> omega
theorem zd_sum0 {D : Nat → Nat → Int} (hD : zd_Cl D) {i j : Nat} (hi : i < 4) (hj : j < 4) : -D j i ≤ D i j := by
  have a := hD.2.1 i i j hi hi hj
  have b := hD.1 i hi
  omega
theorem zd_grt {D : Nat → Nat → Int} (hD : zd_Cl D) {i j : Nat} (hi : i < 4) (hj : j < 4) : ∃ p, p < 1000 ∧ zd_in D p ∧ zd_df p i j = D i j :=
  zd_val hD hi hj (D i j) (zd_sum0 hD hi hj) (Int.le_refl _)
theorem zd_ne {D : Nat → Nat → Int} (hD : zd_Cl D) : ∃ p, p < 1000 ∧ zd_in D p := by
  obtain ⟨p, hp, h, _⟩ := zd_grt hD (i := 0) (j := 0) (by omega) (by omega)
  exact ⟨p, hp, h⟩
/-- the ranges of a closed matrix -/
theorem zd_rg {D : Nat → Nat → Int} (hD : zd_Cl D) {i j : Nat} (hi : i < 4) (hj : j < 4) : -9 ≤ D i j ∧ D i j ≤ 9 := by
  have a := zd_sum0 hD hi hj
  have b1 := hD.2.1 i j 0 hi hj (by omega)
  have b2 := hD.2.1 j i 0 hj hi (by omega)
  have c1 := hD.2.2.1 i hi
  have c2 := hD.2.2.1 j hj
  have d1 := hD.2.2.2 i hi
  have d2 := hD.2.2.2 j hj
  omega
theorem zd_in_c {D E : Nat → Nat → Int} {p : Nat} (h : ∀ i j, i < 4 → j < 4 → E i j = D i j) : zd_in D p ↔ zd_in E p :=
  ⟨fun a i j hi hj => by rw [h i j hi hj]; exact a i j hi hj, fun a i j hi hj => by rw [← h i j hi hj]; exact a i j hi hj⟩
theorem zd_Cl_c {D E : Nat → Nat → Int} (h : ∀ i j, i < 4 → j < 4 → E i j = D i j) (hD : zd_Cl D) : zd_Cl E := by
  refine ⟨fun i hi => ?_, fun i j k hi hj hk => ?_, fun i hi => ?_, fun i hi => ?_⟩
  · rw [h i i hi hi]; exact hD.1 i hi
  · rw [h i j hi hj, h i k hi hk, h k j hk hj]; exact hD.2.1 i j k hi hj hk
  · rw [h 0 i (by omega) hi]; exact hD.2.2.1 i hi
  · rw [h i 0 hi (by omega)]; exact hD.2.2.2 i hi
/-- one round of tightening over k -/
def zd_st (F : Nat → Nat → Int) (k : Nat) : Nat → Nat → Int := fun i j => if F i k + F k j < F i j then F i k + F k j else F i j
theorem zd_st_c (F : Nat → Nat → Int) (k i j : Nat) : (zd_st F k i j = F i k + F k j ∧ F i k + F k j < F i j) ∨ (zd_st F k i j = F i j ∧ F i j ≤ F i k + F k j) := by
  unfold zd_st
  split <;> omega
/-- what a matrix must be before it is tightened -/
def zd_Ok (D : Nat → Nat → Int) : Prop := (∀ i, i < 4 → D i i = 0) ∧ (∀ i j, i < 4 → j < 4 → -50 ≤ D i j ∧ D i j ≤ 99) ∧ (∀ i, i < 4 → D 0 i ≤ 0) ∧ (∀ i, i < 4 → D i 0 ≤ 9)
def zd_Al (D F : Nat → Nat → Int) (k : Nat) (b : Int) : Prop :=
  (∀ i, i < 4 → F i i = 0) ∧ (∀ i j, i < 4 → j < 4 → -b ≤ F i j ∧ F i j ≤ 99) ∧ (∀ i, i < 4 → F 0 i ≤ 0) ∧ (∀ i, i < 4 → F i 0 ≤ 9) ∧ (∀ i j m, i < 4 → j < 4 → m < k → F i j ≤ F i m + F m j) ∧ (∀ p, p < 1000 → (zd_in D p ↔ zd_in F p))
def zd_De (D F : Nat → Nat → Int) : Prop := (∃ i, i < 4 ∧ F i i < 0) ∧ ∀ p, p < 1000 → ¬ zd_in D p
theorem zd_Al0 {D : Nat → Nat → Int} (h : zd_Ok D) : zd_Al D D 0 50 :=
  ⟨h.1, h.2.1, h.2.2.1, h.2.2.2, fun _ _ m _ _ hm => absurd hm (by omega), fun _ _ => Iff.rfl⟩
theorem zd_Al4 {D F : Nat → Nat → Int} {b : Int} (h : zd_Al D F 4 b) : zd_Cl F :=
  ⟨h.1, fun i j k hi hj hk => h.2.2.2.2.1 i j k hi hj hk, h.2.2.1, h.2.2.2.1⟩
theorem zd_st_in {F : Nat → Nat → Int} {k p : Nat} (hk : k < 4) : zd_in F p ↔ zd_in (zd_st F k) p := by
  constructor
  · intro h i j hi hj
    have a := h i j hi hj
    have b := h i k hi hk
    have c := h k j hk hj
    have d := zd_df_t p i j k
    rcases zd_st_c F k i j with e | e <;> omega
  · intro h i j hi hj
    have a := h i j hi hj
    rcases zd_st_c F k i j with e | e <;> omega
theorem zd_pass {D F G : Nat → Nat → Int} {k : Nat} {b : Int} (hk : k < 4) (hb : 0 ≤ b) (h : zd_Al D F k b) (hG : ∀ i j, i < 4 → j < 4 → G i j = zd_st F k i j) : zd_Al D G (k + 1) (2 * b) ∨ zd_De D G := by
  obtain ⟨h1, h2, h3, h4, h5, h6⟩ := h
  have hp : ∀ p, p < 1000 → (zd_in D p ↔ zd_in G p) := fun p hp => (h6 p hp).trans ((zd_st_in hk).trans (zd_in_c hG))
  by_cases hd : ∃ i, i < 4 ∧ G i i < 0
  · refine Or.inr ⟨hd, fun p hp' hD => ?_⟩
    obtain ⟨i, hi, hneg⟩ := hd
    have a := (hp p hp').mp hD i i hi hi
    rw [zd_df_s] at a
    omega
  · have hd' : ∀ i, i < 4 → 0 ≤ G i i := fun i hi => by
      by_cases c : 0 ≤ G i i
      · exact c
      · exact absurd ⟨i, hi, by omega⟩ hd
    have hkk := h1 k hk
    refine Or.inl ⟨fun i hi => ?_, fun i j hi hj => ?_, fun i hi => ?_, fun i hi => ?_, fun i j m hi hj hm => ?_, hp⟩
    · have a := hd' i hi
      have c := h1 i hi
      have e := hG i i hi hi
      rcases zd_st_c F k i i with s | s <;> omega
    · have a := h2 i j hi hj
      have c := h2 i k hi hk
      have d := h2 k j hk hj
      have e := hG i j hi hj
      rcases zd_st_c F k i j with s | s <;> omega
    · have a := h3 i hi
      have e := hG 0 i (by omega) hi
      rcases zd_st_c F k 0 i with s | s <;> omega
    · have a := h4 i hi
      have e := hG i 0 hi (by omega)
      rcases zd_st_c F k i 0 with s | s <;> omega
    · have e1 := hG i j hi hj
      have e2 := hG i m hi (by omega)
      have e3 := hG m j (by omega) hj
      by_cases hmk : m = k
      · subst hmk
        rcases zd_st_c F m i j with s | s <;> rcases zd_st_c F m i m with s' | s' <;> rcases zd_st_c F m m j with s'' | s'' <;> omega
      · have t1 := h5 i j m hi hj (by omega)
        have t2 := h5 i k m hi hk (by omega)
        have t3 := h5 k j m hk hj (by omega)
        have t4 := h5 k k m hk hk (by omega)
        rcases zd_st_c F k i j with s | s <;> rcases zd_st_c F k i m with s' | s' <;> rcases zd_st_c F k m j with s'' | s'' <;> omega
end
section
/-! the relation: a set of points a zone -/
def zd_D (B : Nat → Int32) (z : Nat) : Nat → Nat → Int := fun i j => (B (16 * z + 4 * i + j)).toInt
def zd_X (B H : Nat → Int32) (z : Nat) (S : Nat → Prop) : Prop := (H z = 1 ∧ ∀ p, p < 1000 → ¬ S p) ∨ (H z = 0 ∧ zd_Cl (zd_D B z) ∧ ∀ p, p < 1000 → (S p ↔ zd_in (zd_D B z) p))
def zd_Y (P : Nat → Int32) (a : Nat) (S : Nat → Prop) : Prop := ∀ p, p < 1000 → (S p → P (a + p) = 1) ∧ (¬ S p → P (a + p) = 0)
def zd_XR (S : Nat → Nat → Prop) (B H : Nat → Int32) : Prop := ∀ z, z < 4 → zd_X B H z (S z)
def zd_YR (S : Nat → Nat → Prop) (P : Nat → Int32) : Prop := ∀ z, z < 4 → zd_Y P (1000 * z) (S z)
def i_Rel (k : Nat) (u : SX) (v : SY) : Prop := ∃ S : Nat → Nat → Prop, zd_XR S u.1 u.2 ∧ zd_YR S v.1
theorem i_up {k : Nat} {u : SX} {v : SY} (h : i_Rel k u v) : i_Rel (k + 4) u v := h
/-- opens the relation over pairs -/
theorem zd_el {P : SX → SY → Prop} {k : Nat} {u : SX} {v : SY} (I : i_Rel k u v) (h : ∀ (S : Nat → Nat → Prop) (B H Q M : Nat → Int32), zd_XR S B H → zd_YR S Q → P (B, H) (Q, M)) : P u v := by
  obtain ⟨B, H⟩ := u
  obtain ⟨Q, M⟩ := v
  obtain ⟨S, hX, hY⟩ := I
  exact h S B H Q M hX hY
/-- frames: outside block z nothing changes -/
def zd_fB (z : Nat) (B B' : Nat → Int32) : Prop := ∀ q, (q < 16 * z ∨ 16 * z + 16 ≤ q) → B' q = B q
def zd_fH (z : Nat) (H H' : Nat → Int32) : Prop := ∀ w, w ≠ z → H' w = H w
theorem zd_fB_t {z : Nat} {B B' B'' : Nat → Int32} (h : zd_fB z B B') (h' : zd_fB z B' B'') : zd_fB z B B'' := fun q hq => (h' q hq).trans (h q hq)
theorem zd_fH_t {z : Nat} {H H' H'' : Nat → Int32} (h : zd_fH z H H') (h' : zd_fH z H' H'') : zd_fH z H H'' := fun q hq => (h' q hq).trans (h q hq)
theorem zd_fB_r (z : Nat) (B : Nat → Int32) : zd_fB z B B := fun _ _ => rfl
theorem zd_fH_r (z : Nat) (H : Nat → Int32) : zd_fH z H H := fun _ _ => rfl
theorem zd_fH_u (z : Nat) (H : Nat → Int32) (x : Int32) : zd_fH z H (upd H z x) := fun _ hw => pk_un hw
theorem zd_fB_u {z : Nat} {B : Nat → Int32} {q : Nat} {x : Int32} (h : 16 * z ≤ q) (h' : q < 16 * z + 16) : zd_fB z B (upd B q x) := fun _ hw => pk_un (by omega)
theorem zd_fB_zf {z : Nat} {B : Nat → Int32} {m : Nat} {f : Nat → Int32} (h : m ≤ 16) : zd_fB z B (zf B (16 * z) m f) := fun _ hw => zf_out (by omega)
theorem zd_D_f {z w : Nat} {B B' : Nat → Int32} (h : zd_fB z B B') (hw : w ≠ z) : ∀ i j, i < 4 → j < 4 → zd_D B' w i j = zd_D B w i j := by
  intro i j hi hj
  show (B' (16 * w + 4 * i + j)).toInt = (B (16 * w + 4 * i + j)).toInt
  rw [h (16 * w + 4 * i + j) (by omega)]
/-- a zone's fact depends on its bounds and its flag alone -/
theorem zd_X_c {B H B' H' : Nat → Int32} {z w : Nat} {S : Nat → Prop} (hB : ∀ i j, i < 4 → j < 4 → zd_D B' w i j = zd_D B z i j) (hH : H' w = H z) (h : zd_X B H z S) : zd_X B' H' w S := by
  rcases h with ⟨a, b⟩ | ⟨a, b, c⟩
  · exact Or.inl ⟨hH.trans a, b⟩
  · exact Or.inr ⟨hH.trans a, zd_Cl_c hB b, fun p hp => (c p hp).trans (zd_in_c hB)⟩
theorem zd_X_f {B H B' H' : Nat → Int32} {z w : Nat} {S : Nat → Prop} (hB : zd_fB z B B') (hH : zd_fH z H H') (hw : w ≠ z) (h : zd_X B H w S) : zd_X B' H' w S :=
  zd_X_c (zd_D_f hB hw) (hH w hw) h
def zd_set (S : Nat → Nat → Prop) (z : Nat) (T : Nat → Prop) : Nat → Nat → Prop := fun w => if w = z then T else S w
theorem zd_XR_s {S : Nat → Nat → Prop} {B H B' H' : Nat → Int32} {z : Nat} {T : Nat → Prop} (h : zd_XR S B H) (hB : zd_fB z B B') (hH : zd_fH z H H') (hT : zd_X B' H' z T) : zd_XR (zd_set S z T) B' H' := by
  intro w hw
  by_cases e : w = z
  · subst e
    unfold zd_set
    rw [if_pos rfl]
    exact hT
  · unfold zd_set
    rw [if_neg e]
    exact zd_X_f hB hH e (h w hw)
/-- work in a zone beyond the four leaves all as it was -/
theorem zd_XR_w {S : Nat → Nat → Prop} {B H B' H' : Nat → Int32} {z : Nat} (hz : 4 ≤ z) (h : zd_XR S B H) (hB : zd_fB z B B') (hH : zd_fH z H H') : zd_XR S B' H' :=
  fun w hw => zd_X_f hB hH (by omega) (h w hw)
theorem zd_XR_i {S : Nat → Nat → Prop} {B H : Nat → Int32} {z : Nat} {T : Nat → Prop} (h : zd_XR S B H) (hT : zd_X B H z T) : zd_XR (zd_set S z T) B H :=
  zd_XR_s h (zd_fB_r z B) (zd_fH_r z H) hT
theorem zd_YR_s {S : Nat → Nat → Prop} {P P' : Nat → Int32} {z : Nat} {T : Nat → Prop} (h : zd_YR S P) (hf : ∀ q, (q < 1000 * z ∨ 1000 * z + 1000 ≤ q) → P' q = P q) (hT : zd_Y P' (1000 * z) T) : zd_YR (zd_set S z T) P' := by
  intro w hw
  by_cases e : w = z
  · subst e
    unfold zd_set
    rw [if_pos rfl]
    exact hT
  · unfold zd_set
    rw [if_neg e]
    intro p hp
    rw [hf (1000 * w + p) (by omega)]
    exact h w hw p hp
theorem zd_set_at (S : Nat → Nat → Prop) (z : Nat) (T : Nat → Prop) : zd_set S z T z = T := if_pos rfl
/-- sets alike give the same facts -/
theorem zd_X_iff {B H : Nat → Int32} {z : Nat} {S T : Nat → Prop} (e : ∀ p, p < 1000 → (T p ↔ S p)) (h : zd_X B H z S) : zd_X B H z T := by
  rcases h with ⟨a, b⟩ | ⟨a, b, c⟩
  · exact Or.inl ⟨a, fun p hp t => b p hp ((e p hp).mp t)⟩
  · exact Or.inr ⟨a, b, fun p hp => (e p hp).trans (c p hp)⟩
theorem zd_Y_iff {P : Nat → Int32} {a : Nat} {S T : Nat → Prop} (e : ∀ p, p < 1000 → (T p ↔ S p)) (h : zd_Y P a S) : zd_Y P a T :=
  fun p hp => ⟨fun t => (h p hp).1 ((e p hp).mp t), fun t => (h p hp).2 (fun s => t ((e p hp).mpr s))⟩
theorem zd_Y_01 {P : Nat → Int32} {a : Nat} {S : Nat → Prop} (h : zd_Y P a S) {p : Nat} (hp : p < 1000) : P (a + p) = 0 ∨ P (a + p) = 1 := by
  by_cases s : S p
  · exact Or.inr ((h p hp).1 s)
  · exact Or.inl ((h p hp).2 s)
theorem zd_Y_0 {P : Nat → Int32} {a : Nat} {S : Nat → Prop} (h : zd_Y P a S) {p : Nat} (hp : p < 1000) : P (a + p) = 0 ↔ ¬ S p := by
  constructor
  · intro e s
    rw [(h p hp).1 s] at e
    exact absurd e (by decide)
  · exact (h p hp).2
/-- is there a point: 1 or 0 -/
def zd_An (S : Nat → Prop) (r : Int32) : Prop := (r = 1 ∧ ∃ p, p < 1000 ∧ S p) ∨ (r = 0 ∧ ∀ p, p < 1000 → ¬ S p)
theorem zd_An_u {S : Nat → Prop} {r r' : Int32} (h : zd_An S r) (h' : zd_An S r') : r' = r := by
  rcases h with ⟨a, p, hp, s⟩ | ⟨a, b⟩ <;> rcases h' with ⟨a', p', hp', s'⟩ | ⟨a', b'⟩
  · rw [a, a']
  · exact absurd s (b' p hp)
  · exact absurd s' (b p' hp')
  · rw [a, a']
theorem zd_An_iff {S T : Nat → Prop} {r : Int32} (e : ∀ p, p < 1000 → (T p ↔ S p)) (h : zd_An S r) : zd_An T r := by
  rcases h with ⟨a, p, hp, s⟩ | ⟨a, b⟩
  · exact Or.inl ⟨a, p, hp, (e p hp).mpr s⟩
  · exact Or.inr ⟨a, fun p hp t => b p hp ((e p hp).mp t)⟩
end
section
/-! the component's small methods -/
theorem zd_zc (v : Int32) : (v < 0 ∨ ¬ v < 4) ∨ ∃ z, z < 4 ∧ v = nI z := by
  rcases pk_ix v (n := 4) (by decide) with h | h | h
  · exact Or.inl (Or.inl h)
  · exact Or.inl (Or.inr (Int32.not_lt.mpr h))
  · exact Or.inr h
/-- no pair: out of range, or a number with itself -/
def zd_bp (v : Int32) : Prop := v < 0 ∨ (¬ v < 0 ∧ 15 < v) ∨ ∃ m, m < 16 ∧ v = nI m ∧ m / 4 = m % 4
theorem zd_pc (v : Int32) : zd_bp v ∨ ∃ m, m < 16 ∧ v = nI m ∧ m / 4 ≠ m % 4 := by
  by_cases h0 : v < 0
  · exact Or.inl (Or.inl h0)
  · by_cases h1 : 15 < v
    · exact Or.inl (Or.inr (Or.inl ⟨h0, h1⟩))
    · obtain ⟨j, hj, rfl⟩ := nI_of2 (M := 15) (n := 15) (by decide) h0 (Int32.not_lt.mp h1)
      by_cases e : j / 4 = j % 4
      · exact Or.inl (Or.inr (Or.inr ⟨j, by omega, rfl, e⟩))
      · exact Or.inr ⟨j, by omega, rfl, e⟩
theorem zx_bad0 {post : Int32 → Prop} {u : SX} {z : Nat} (hz : z < 4) (h : post 0) : wpX_bad post u (nI z) := by
  obtain ⟨B, H⟩ := u
  exact br_f (nI_pos (by omega)) (br_t (nI_lt (b := 4) hz (by decide)) h)
theorem zx_bad1 {post : Int32 → Prop} {u : SX} {v : Int32} (hb : v < 0 ∨ ¬ v < 4) (h : post 1) : wpX_bad post u v := by
  obtain ⟨B, H⟩ := u
  by_cases h0 : v < 0
  · exact br_t h0 h
  · rcases hb with c | c
    · exact absurd c h0
    · exact br_f h0 (br_f c h)
theorem zx_bp0 {post : Int32 → Prop} {u : SX} {m : Nat} (hm : m < 16) (hd : m / 4 ≠ m % 4) (h : post 0) : wpX_badPair post u (nI m) := by
  obtain ⟨B, H⟩ := u
  refine br_f (nI_pos (by omega)) (br_f (nI_nlt (a := 15) (b := m) (by omega) (by decide)) ⟨by decide, by decide, ?_⟩)
  rw [zn_rem4 hm, zn_div4 hm]
  exact br_f (fun e => hd ((nI_eq (by omega) (by omega)).mp e)) h
theorem zx_bp1 {post : Int32 → Prop} {u : SX} {v : Int32} (hb : zd_bp v) (h : post 1) : wpX_badPair post u v := by
  obtain ⟨B, H⟩ := u
  rcases hb with c | ⟨c, d⟩ | ⟨m, hm, rfl, e⟩
  · exact br_t c h
  · exact br_f c (br_t d h)
  · refine br_f (nI_pos (by omega)) (br_f (nI_nlt (a := 15) (b := m) (by omega) (by decide)) ⟨by decide, by decide, ?_⟩)
    rw [zn_rem4 hm, zn_div4 hm]
    exact br_t (congrArg nI e) h
theorem zx_ans {post : Int32 → Prop} {B H : Nat → Int32} {z : Nat} {S : Nat → Prop} (hz : z < 6) (hX : zd_X B H z S) (h : ∀ r, zd_An S r → post r) : wpX_answer post (B, H) (nI z) := by
  refine And.intro (vp_in_nI hz (by decide)) ?_
  rw [nI_clamp (by omega)]
  rcases hX with ⟨a, b⟩ | ⟨a, b, c⟩
  · exact br_f (by rw [a]; decide) (h 0 (Or.inr ⟨rfl, b⟩))
  · obtain ⟨p, hp, hi⟩ := zd_ne b
    exact br_t a (h 1 (Or.inl ⟨rfl, p, hp, (c p hp).mpr hi⟩))
/-- the bounds of the whole box -/
def zx_bx (t : Nat) : Int32 := if t / 4 = t % 4 then 0 else if t / 4 = 0 then 0 else 9
theorem zx_box {post : Int32 → Prop} {u : SX} {i j : Nat} (hi : i < 4) (hj : j < 4) (h : post (zx_bx (4 * i + j))) : wpX_boxBound post u (nI i) (nI j) := by
  obtain ⟨B, H⟩ := u
  have e1 : (4 * i + j) / 4 = i := by omega
  have e2 : (4 * i + j) % 4 = j := by omega
  unfold zx_bx at h
  rw [e1, e2] at h
  by_cases c : i = j
  · rw [if_pos c] at h
    exact br_t (congrArg nI c) h
  · rw [if_neg c] at h
    refine br_f (fun e => c ((nI_eq (by omega) (by omega)).mp e)) ?_
    by_cases d : i = 0
    · rw [if_pos d] at h
      exact br_t (congrArg nI d) h
    · rw [if_neg d] at h
      exact br_f (nI_ne0 (by omega) (by omega)) h
theorem zx_f16 {post : SX → Prop} {J9 : Int32 → (Nat → Int32) → (Nat → Int32) → Prop} {B H : Nat → Int32} {z i : Nat} (hz : z < 6) (hi : i < 4) (h : J9 (nI (i + 1)) (zf B (16 * z) (4 * i + 4) zx_bx) H) : ∀ d j, j + d = 4 → wX_setFresh_16 post J9 (nI z) (nI i) (d + 1) (nI j) (zf B (16 * z) (4 * i + j) zx_bx) H := by
  intro d
  induction d with
  | zero =>
    intro j hj
    have e : j = 4 := by omega
    subst e
    exact br_t (nI_le (a := 4) (b := 4) (by omega) (by decide)) (nm_r (nI_1 i) h)
  | succ d ih =>
    intro j hj
    refine br_f (nI_ge (a := j) (b := 4) (by omega) (by decide)) (zx_box hi (by omega) ?_)
    refine ⟨by rw [zn_ix3]; exact vp_in_nI (by omega) (by decide), ?_⟩
    intro a ea x3 ex
    rw [zn_ix3, nI_clamp (by omega), Nat.add_assoc, zf_s] at ea
    rw [nI_1] at ex
    subst ea ex
    exact ih (j + 1) (by omega)
theorem zx_f9 {post : SX → Prop} {B H : Nat → Int32} {z : Nat} (hz : z < 6) (h : post (zf B (16 * z) 16 zx_bx, H)) : ∀ d i, i + d = 4 → wX_setFresh_9 post (nI z) (d + 1) (nI i) (zf B (16 * z) (4 * i) zx_bx) H := by
  intro d
  induction d with
  | zero =>
    intro i hi
    have e : i = 4 := by omega
    subst e
    exact br_t (nI_le (a := 4) (b := 4) (by omega) (by decide)) h
  | succ d ih =>
    intro i hi
    have K := ih (i + 1) (by omega)
    rw [Nat.mul_succ] at K
    exact br_f (nI_ge (a := i) (b := 4) (by omega) (by decide)) ⟨5, zx_f16 hz (by omega) K 4 0 rfl⟩
theorem zx_setFresh {post : SX → Prop} {B H : Nat → Int32} {z : Nat} (hz : z < 6) (h : post (zf B (16 * z) 16 zx_bx, upd H z 0)) : wpX_setFresh post (B, H) (nI z) := by
  refine And.intro (vp_in_nI hz (by decide)) ?_
  intro a ea
  rw [nI_clamp (by omega), zn_b (x := 0) (Or.inl rfl)] at ea
  subst ea
  have K := zx_f9 (B := B) hz h 4 0 rfl
  rw [Nat.mul_zero, zf_0] at K
  exact ⟨5, K⟩
/-- the matrix of a filled block -/
theorem zd_D_zf {B : Nat → Int32} {z : Nat} {f : Nat → Int32} {i j : Nat} (hi : i < 4) (hj : j < 4) : zd_D (zf B (16 * z) 16 f) z i j = (f (4 * i + j)).toInt := by
  show (zf B (16 * z) 16 f (16 * z + 4 * i + j)).toInt = _
  rw [Nat.add_assoc, zf_at (by omega)]
def zd_bxI (i j : Nat) : Int := if i = j then 0 else if i = 0 then 0 else 9
theorem zd_bx_t : ∀ i, i < 4 → ∀ j, j < 4 → (zx_bx (4 * i + j)).toInt = zd_bxI i j := by decide +kernel
theorem zd_bx_Cl : zd_Cl zd_bxI := by
  refine ⟨fun i hi => if_pos rfl, fun i j k hi hj hk => ?_, fun i hi => ?_, fun i hi => ?_⟩
  · unfold zd_bxI
    rcases zn_4 hi with rfl | rfl | rfl | rfl <;> rcases zn_4 hj with rfl | rfl | rfl | rfl <;> rcases zn_4 hk with rfl | rfl | rfl | rfl <;> decide
  · rcases zn_4 hi with rfl | rfl | rfl | rfl <;> decide
  · rcases zn_4 hi with rfl | rfl | rfl | rfl <;> decide
theorem zx_fresh_X (B H : Nat → Int32) (z : Nat) : zd_X (zf B (16 * z) 16 zx_bx) (upd H z 0) z (fun _ => True) := by
  have e : ∀ i j, i < 4 → j < 4 → zd_D (zf B (16 * z) 16 zx_bx) z i j = zd_bxI i j := fun i j hi hj => by
    rw [zd_D_zf hi hj, zd_bx_t i hi j hj]
  refine Or.inr ⟨pk_us, zd_Cl_c e zd_bx_Cl, fun p hp => ⟨fun _ => (zd_in_c e).mp ?_, fun _ => trivial⟩⟩
  intro i j hi hj
  unfold zd_bxI
  by_cases c : i = j
  · rw [if_pos c, c, zd_df_s]
    exact Int.le_refl _
  · rw [if_neg c]
    by_cases d : i = 0
    · rw [if_pos d, d]
      show ((0 : Nat) : Int) - (zd_pp p j : Int) ≤ 0
      omega
    · rw [if_neg d]
      exact (zd_df_b hp).2
/-- copying block y -/
def zx_cp (B : Nat → Int32) (y : Nat) : Nat → Int32 := fun t => B (16 * y + t)
theorem zx_c14 {post : SX → Prop} {B H : Nat → Int32} {y z : Nat} (hy : y < 6) (hz : z < 6) (h : post (zf B (16 * z) 16 (zx_cp B y), H)) : ∀ d m, m + d = 16 → wX_copyTo_14 post (nI y) (nI z) (d + 1) (nI m) (zf B (16 * z) m (zx_cp B y)) H := by
  intro d
  induction d with
  | zero =>
    intro m hm
    have e : m = 16 := by omega
    subst e
    exact br_t (nI_le (a := 16) (b := 16) (by omega) (by decide)) h
  | succ d ih =>
    intro m hm
    refine br_f (nI_ge (a := m) (b := 16) (by omega) (by decide)) ⟨by rw [zn_ix2]; exact vp_in_nI (by omega) (by decide), by rw [zn_ix2]; exact vp_in_nI (by omega) (by decide), ?_⟩
    intro a ea x3 ex
    have r : zf B (16 * z) m (zx_cp B y) (16 * y + m) = zx_cp B y m := zf_out (by omega)
    rw [zn_ix2 y m, zn_ix2 z m, nI_clamp (n := 16 * y + m) (by omega), nI_clamp (n := 16 * z + m) (by omega), r, zf_s] at ea
    rw [nI_1] at ex
    subst ea ex
    exact ih (m + 1) (by omega)
theorem zx_copyTo {post : SX → Prop} {B H : Nat → Int32} {y z : Nat} (hy : y < 6) (hz : z < 6) (hH : H y = 0 ∨ H y = 1) (h : post (zf B (16 * z) 16 (zx_cp B y), upd H z (H y))) : wpX_copyTo post (B, H) (nI y) (nI z) := by
  refine And.intro (vp_in_nI hy (by decide)) (And.intro (vp_in_nI hz (by decide)) ?_)
  intro a ea
  rw [nI_clamp (n := y) (by omega), nI_clamp (n := z) (by omega), zn_b hH] at ea
  subst ea
  have K := zx_c14 (B := B) hy hz h 16 0 rfl
  rw [zf_0] at K
  exact ⟨17, K⟩
theorem zx_copy_D {B : Nat → Int32} {y z : Nat} : ∀ i j, i < 4 → j < 4 → zd_D (zf B (16 * z) 16 (zx_cp B y)) z i j = zd_D B y i j := by
  intro i j hi hj
  rw [zd_D_zf hi hj]
  show (B (16 * y + (4 * i + j))).toInt = (B (16 * y + 4 * i + j)).toInt
  rw [Nat.add_assoc]
theorem zx_copy_X {B H : Nat → Int32} {y z : Nat} {S : Nat → Prop} (h : zd_X B H y S) : zd_X (zf B (16 * z) 16 (zx_cp B y)) (upd H z (H y)) z S :=
  zd_X_c zx_copy_D pk_us h
theorem zd_X_01 {B H : Nat → Int32} {z : Nat} {S : Nat → Prop} (h : zd_X B H z S) : H z = 0 ∨ H z = 1 := by
  rcases h with ⟨a, _⟩ | ⟨a, _⟩
  · exact Or.inr a
  · exact Or.inl a
/-- one bound lowered -/
theorem zx_lower {post : SX → Prop} {B H : Nat → Int32} {z m : Nat} {c : Int32} (hz : z < 6) (hm : m < 16) (h1 : B (16 * z + m) ≤ c → post (B, H)) (h2 : ¬ B (16 * z + m) ≤ c → post (upd B (16 * z + m) c, H)) : wpX_lower post (B, H) (nI z) (nI m) c := by
  refine And.intro (by rw [zn_ix2]; exact vp_in_nI (by omega) (by decide)) ?_
  rw [zn_ix2, nI_clamp (by omega)]
  exact ⟨h1, fun n => ⟨vp_in_nI (by omega) (by decide), fun a ea => by rw [ea]; exact h2 n⟩⟩
end
section
/-! tighten -/
def zt_o (B : Nat → Int32) (z k t : Nat) : Int32 := B (16 * z + 4 * (t / 4) + k) + B (16 * z + 4 * k + t % 4)
def zt_f (B : Nat → Int32) (z k t : Nat) : Int32 := if B (16 * z + t) ≤ zt_o B z k t then B (16 * z + t) else zt_o B z k t
theorem zt_col {B : Nat → Int32} {z k i : Nat} (h0 : B (16 * z + 4 * k + k) = 0) (hi : i < 4) (hk : k < 4) : zt_f B z k (4 * i + k) = B (16 * z + (4 * i + k)) := by
  have o : zt_o B z k (4 * i + k) = B (16 * z + (4 * i + k)) := by
    unfold zt_o
    rw [show (4 * i + k) / 4 = i from by omega, show (4 * i + k) % 4 = k from by omega, h0, Int32.add_zero, Nat.add_assoc]
  unfold zt_f
  rw [o]
  split <;> rfl
theorem zt_row {B : Nat → Int32} {z k j : Nat} (h0 : B (16 * z + 4 * k + k) = 0) (hj : j < 4) (hk : k < 4) : zt_f B z k (4 * k + j) = B (16 * z + (4 * k + j)) := by
  have o : zt_o B z k (4 * k + j) = B (16 * z + (4 * k + j)) := by
    unfold zt_o
    rw [show (4 * k + j) / 4 = k from by omega, show (4 * k + j) % 4 = j from by omega, h0, Int32.zero_add, Nat.add_assoc]
  unfold zt_f
  rw [o]
  split <;> rfl
theorem zt_rc {B : Nat → Int32} {z k i m : Nat} (h0 : B (16 * z + 4 * k + k) = 0) (hi : i < 4) (hk : k < 4) : zf B (16 * z) m (zt_f B z k) (16 * z + 4 * i + k) = B (16 * z + 4 * i + k) := by
  rw [Nat.add_assoc]
  by_cases c : 4 * i + k < m
  · rw [zf_at c, zt_col h0 hi hk]
  · exact zf_out (by omega)
theorem zt_rr {B : Nat → Int32} {z k j m : Nat} (h0 : B (16 * z + 4 * k + k) = 0) (hj : j < 4) (hk : k < 4) : zf B (16 * z) m (zt_f B z k) (16 * z + 4 * k + j) = B (16 * z + 4 * k + j) := by
  rw [Nat.add_assoc]
  by_cases c : 4 * k + j < m
  · rw [zf_at c, zt_row h0 hj hk]
  · exact zf_out (by omega)
/-- a round over k while the diagonal is 0 there -/
theorem zx_t9 {post : SX → Prop} {J2 : Int32 → (Nat → Int32) → (Nat → Int32) → Prop} {B H : Nat → Int32} {z k : Nat} (hz : z < 6) (hk : k < 4) (h0 : B (16 * z + 4 * k + k) = 0) (h : J2 (nI (k + 1)) (zf B (16 * z) 16 (zt_f B z k)) H) : ∀ d m, m + d = 16 → wX_tighten_9 post J2 (nI z) (nI k) (d + 1) (nI m) (zf B (16 * z) m (zt_f B z k)) H := by
  intro d
  induction d with
  | zero =>
    intro m hm
    have e : m = 16 := by omega
    subst e
    exact br_t (nI_le (a := 16) (b := 16) (by omega) (by decide)) (nm_r (nI_1 k) h)
  | succ d ih =>
    intro m hm
    have hm' : m < 16 := by omega
    have e1 : 16 * nI z + 4 * (nI m / 4) + nI k = nI (16 * z + 4 * (m / 4) + k) := by rw [zn_div4 hm', zn_ix3]
    have e2 : 16 * nI z + 4 * nI k + (nI m - nI m / 4 * 4) = nI (16 * z + 4 * k + m % 4) := by rw [zn_rem4 hm', zn_ix3]
    have e3 : 16 * nI z + nI m = nI (16 * z + m) := zn_ix2 z m
    have r1 := zt_rc (m := m) (i := m / 4) h0 (by omega) hk
    have r2 := zt_rr (m := m) (j := m % 4) h0 (by omega) hk
    have r3 : zf B (16 * z) m (zt_f B z k) (16 * z + m) = B (16 * z + m) := zf_out (by omega)
    refine br_f (nI_ge (a := m) (b := 16) (by omega) (by decide)) ⟨by decide, by rw [e1]; exact vp_in_nI (by omega) (by decide), by decide, by rw [e2]; exact vp_in_nI (by omega) (by decide), ?_⟩
    intro x4 ex
    rw [e1, e2, nI_clamp (n := 16 * z + 4 * (m / 4) + k) (by omega), nI_clamp (n := 16 * z + 4 * k + m % 4) (by omega), r1, r2] at ex
    have ex' : x4 = zt_o B z k m := ex
    subst ex'
    rw [e3, nI_clamp (n := 16 * z + m) (by omega), r3]
    refine ⟨vp_in_nI (by omega) (by decide), fun c x3 e => ?_, fun c => ⟨vp_in_nI (by omega) (by decide), fun a ea x3 e => ?_⟩⟩
    · rw [nI_1] at e
      subst e
      have g : zt_f B z k m = B (16 * z + m) := if_pos c
      rw [zf_k g]
      exact ih (m + 1) (by omega)
    · rw [nI_1] at e
      have g : zt_f B z k m = zt_o B z k m := if_neg c
      rw [← g, zf_s] at ea
      subst e ea
      exact ih (m + 1) (by omega)
/-- a round once a diagonal is negative: it stays so -/
def zt_dead (B0 B : Nat → Int32) (z : Nat) : Prop := (∃ i, i < 4 ∧ (B (16 * z + 4 * i + i)).toInt < 0) ∧ zd_fB z B0 B
theorem zx_t9d {post : SX → Prop} {J2 : Int32 → (Nat → Int32) → (Nat → Int32) → Prop} {B0 H : Nat → Int32} {z k : Nat} (hz : z < 6) (hk : k < 4) (h : ∀ B, zt_dead B0 B z → J2 (nI (k + 1)) B H) : ∀ d m B, m + d = 16 → zt_dead B0 B z → wX_tighten_9 post J2 (nI z) (nI k) (d + 1) (nI m) B H := by
  intro d
  induction d with
  | zero =>
    intro m B hm hd
    have e : m = 16 := by omega
    subst e
    exact br_t (nI_le (a := 16) (b := 16) (by omega) (by decide)) (nm_r (nI_1 k) (h B hd))
  | succ d ih =>
    intro m B hm hd
    have hm' : m < 16 := by omega
    have e1 : 16 * nI z + 4 * (nI m / 4) + nI k = nI (16 * z + 4 * (m / 4) + k) := by rw [zn_div4 hm', zn_ix3]
    have e2 : 16 * nI z + 4 * nI k + (nI m - nI m / 4 * 4) = nI (16 * z + 4 * k + m % 4) := by rw [zn_rem4 hm', zn_ix3]
    have e3 : 16 * nI z + nI m = nI (16 * z + m) := zn_ix2 z m
    refine br_f (nI_ge (a := m) (b := 16) (by omega) (by decide)) ⟨by decide, by rw [e1]; exact vp_in_nI (by omega) (by decide), by decide, by rw [e2]; exact vp_in_nI (by omega) (by decide), ?_⟩
    intro x4 ex
    rw [e3, nI_clamp (n := 16 * z + m) (by omega)]
    refine ⟨vp_in_nI (by omega) (by decide), fun c x3 e => ?_, fun c => ⟨vp_in_nI (by omega) (by decide), fun a ea x3 e => ?_⟩⟩
    · rw [nI_1] at e
      subst e
      exact ih (m + 1) B (by omega) hd
    · rw [nI_1] at e
      subst e ea
      refine ih (m + 1) _ (by omega) ?_
      obtain ⟨⟨i, hi, hn⟩, hf⟩ := hd
      refine ⟨⟨i, hi, ?_⟩, zd_fB_t hf (zd_fB_u (by omega) (by omega))⟩
      by_cases q : 16 * z + 4 * i + i = 16 * z + m
      · rw [q, pk_us]
        rw [q] at hn
        rw [Int32.le_iff_toInt_le] at c
        omega
      · rw [pk_un q]
        exact hn
/-- bounds that double -/
def zt_b : Nat → Int
  | 0 => 50
  | k + 1 => 2 * zt_b k
theorem zt_b_r {k : Nat} (hk : k < 4) : 0 ≤ zt_b k ∧ zt_b k ≤ 400 := by
  rcases zn_4 hk with rfl | rfl | rfl | rfl <;> decide
theorem zt_f_D {D : Nat → Nat → Int} {B : Nat → Int32} {z k : Nat} (hk : k < 4) (h : zd_Al D (zd_D B z) k (zt_b k)) : ∀ i j, i < 4 → j < 4 → zd_D (zf B (16 * z) 16 (zt_f B z k)) z i j = zd_st (zd_D B z) k i j := by
  intro i j hi hj
  rw [zd_D_zf hi hj]
  have b := zt_b_r hk
  have c1 := h.2.1 i k hi hk
  have c2 := h.2.1 k j hk hj
  have o : zt_o B z k (4 * i + j) = B (16 * z + 4 * i + k) + B (16 * z + 4 * k + j) := by
    unfold zt_o
    rw [show (4 * i + j) / 4 = i from by omega, show (4 * i + j) % 4 = j from by omega]
  have s : (zt_o B z k (4 * i + j)).toInt = zd_D B z i k + zd_D B z k j := by
    rw [o]
    exact zn_add (by show -100000 ≤ zd_D B z i k; omega) (by show zd_D B z i k ≤ 100000; omega) (by show -100000 ≤ zd_D B z k j; omega) (by show zd_D B z k j ≤ 100000; omega)
  have t : (B (16 * z + (4 * i + j))).toInt = zd_D B z i j := by
    rw [← Nat.add_assoc]
    rfl
  unfold zt_f
  by_cases c : B (16 * z + (4 * i + j)) ≤ zt_o B z k (4 * i + j)
  · rw [if_pos c, t]
    rw [Int32.le_iff_toInt_le, s, t] at c
    rcases zd_st_c (zd_D B z) k i j with e | e <;> omega
  · rw [if_neg c, s]
    rw [Int32.le_iff_toInt_le, s, t] at c
    rcases zd_st_c (zd_D B z) k i j with e | e <;> omega
/-- what holds of the bounds ahead of round k -/
def zt_I (B0 B : Nat → Int32) (z k : Nat) : Prop := (zd_Al (zd_D B0 z) (zd_D B z) k (zt_b k) ∨ zd_De (zd_D B0 z) (zd_D B z)) ∧ zd_fB z B0 B
theorem zx_t2 {post : SX → Prop} {B0 H : Nat → Int32} {z : Nat} (hz : z < 6) (h : ∀ B, zt_I B0 B z 4 → wX_tighten_95 post (nI z) 5 0 B H) : ∀ d k B, k + d = 4 → zt_I B0 B z k → wX_tighten_2 post (nI z) (d + 1) (nI k) B H := by
  intro d
  induction d with
  | zero =>
    intro k B hk hI
    have e : k = 4 := by omega
    subst e
    exact br_t (nI_le (a := 4) (b := 4) (by omega) (by decide)) ⟨5, h B hI⟩
  | succ d ih =>
    intro k B hk hI
    have hk' : k < 4 := by omega
    refine br_f (nI_ge (a := k) (b := 4) (by omega) (by decide)) ⟨17, ?_⟩
    obtain ⟨hA | hD, hf⟩ := hI
    · have h0 : B (16 * z + 4 * k + k) = 0 := Int32.toInt_inj.mp (by rw [Int32.toInt_zero]; exact hA.1 k hk')
      have K := zx_t9 (post := post) (J2 := wX_tighten_2 post (nI z) (d + 1)) (B := B) (H := H) hz hk' h0 (ih (k + 1) _ (by omega) ⟨zd_pass hk' (zt_b_r hk').1 hA (zt_f_D hk' hA), zd_fB_t hf (zd_fB_zf (by omega))⟩) 16 0 rfl
      rw [zf_0] at K
      exact K
    · exact zx_t9d (B0 := B0) hz hk' (fun B' hB' => ih (k + 1) B' (by omega) ⟨Or.inr ⟨hB'.1, hD.2⟩, hB'.2⟩) 16 0 B rfl ⟨hD.1, hf⟩
/-- the flags: no diagonal negative -/
theorem zx_t95 {post : SX → Prop} {B H : Nat → Int32} {z : Nat} (hz : z < 6) (hd : ∀ i, i < 4 → 0 ≤ (B (16 * z + 4 * i + i)).toInt) (h : post (B, H)) : ∀ d i, i + d = 4 → wX_tighten_95 post (nI z) (d + 1) (nI i) B H := by
  intro d
  induction d with
  | zero =>
    intro i hi
    have e : i = 4 := by omega
    subst e
    exact br_t (nI_le (a := 4) (b := 4) (by omega) (by decide)) h
  | succ d ih =>
    intro i hi
    refine br_f (nI_ge (a := i) (b := 4) (by omega) (by decide)) ⟨by rw [zn_ix5]; exact vp_in_nI (by omega) (by decide), br_t ?_ (nm_r (nI_1 i) (ih (i + 1) (by omega)))⟩
    rw [zn_ix5, nI_clamp (by omega), Int32.le_iff_toInt_le, Int32.toInt_zero, show 16 * z + 5 * i = 16 * z + 4 * i + i from by omega]
    exact hd i (by omega)
theorem zx_t95d {post : SX → Prop} {B H : Nat → Int32} {z i0 : Nat} (hz : z < 6) (hi0 : i0 < 4) (hd : (B (16 * z + 4 * i0 + i0)).toInt < 0) (h : ∀ H', zd_fH z H H' → H' z = 1 → post (B, H')) : ∀ d i H', i + d = 4 → zd_fH z H H' → (H' z = 1 ∨ i ≤ i0) → wX_tighten_95 post (nI z) (d + 1) (nI i) B H' := by
  intro d
  induction d with
  | zero =>
    intro i H' hi hf hc
    have e : i = 4 := by omega
    subst e
    refine br_t (nI_le (a := 4) (b := 4) (by omega) (by decide)) (h H' hf ?_)
    rcases hc with c | c
    · exact c
    · omega
  | succ d ih =>
    intro i H' hi hf hc
    refine br_f (nI_ge (a := i) (b := 4) (by omega) (by decide)) ⟨by rw [zn_ix5]; exact vp_in_nI (by omega) (by decide), ?_⟩
    rw [zn_ix5, nI_clamp (n := 16 * z + 5 * i) (by omega), nI_clamp (n := z) (by omega)]
    refine ⟨fun c => nm_r (nI_1 i) (ih (i + 1) H' (by omega) hf ?_), fun c => ⟨vp_in_nI hz (by decide), fun a ea x e => ?_⟩⟩
    · rcases hc with q | q
      · exact Or.inl q
      · by_cases q' : i = i0
        · subst q'
          rw [Int32.le_iff_toInt_le, Int32.toInt_zero, show 16 * z + 5 * i = 16 * z + 4 * i + i from by omega] at c
          omega
        · exact Or.inr (by omega)
    · rw [nI_1] at e
      rw [zn_b (x := 1) (Or.inr rfl)] at ea
      subst e ea
      exact ih (i + 1) _ (by omega) (zd_fH_t hf (zd_fH_u z H' 1)) (Or.inl pk_us)
/-- tighten: the same points; hollow if there is none, else closed -/
theorem zx_tighten {post : SX → Prop} {B H : Nat → Int32} {z : Nat} (hz : z < 6) (hH : H z = 0) (hD : zd_Ok (zd_D B z)) (K : ∀ B' H', zd_fB z B B' → zd_fH z H H' → (∀ S : Nat → Prop, (∀ p, p < 1000 → (S p ↔ zd_in (zd_D B z) p)) → zd_X B' H' z S) → post (B', H')) : wpX_tighten post (B, H) (nI z) := by
  refine ⟨5, zx_t2 (B0 := B) hz (fun B' hI => ?_) 4 0 B rfl ⟨Or.inl (zd_Al0 hD), zd_fB_r z B⟩⟩
  obtain ⟨hA | hE, hf⟩ := hI
  · refine zx_t95 hz (fun i hi => ?_) (K B' H hf (zd_fH_r z H) (fun S hS => Or.inr ⟨hH, zd_Al4 hA, fun p hp => (hS p hp).trans (hA.2.2.2.2.2 p hp)⟩)) 4 0 rfl
    have a : (B' (16 * z + 4 * i + i)).toInt = 0 := hA.1 i hi
    omega
  · obtain ⟨⟨i0, hi0, hn⟩, hno⟩ := hE
    exact zx_t95d hz hi0 hn (fun H' hfH h1 => K B' H' hf hfH (fun S hS => Or.inl ⟨h1, fun p hp s => hno p hp ((hS p hp).mp s)⟩)) 4 0 H rfl (zd_fH_r z H) (Or.inr (by omega))
end
section
/-! what the operations on matrices do to the sets -/
def zd_mn (D E : Nat → Nat → Int) : Nat → Nat → Int := fun i j => if D i j ≤ E i j then D i j else E i j
theorem zd_mn_c (D E : Nat → Nat → Int) (i j : Nat) : (zd_mn D E i j = D i j ∧ D i j ≤ E i j) ∨ (zd_mn D E i j = E i j ∧ E i j < D i j) := by
  unfold zd_mn
  split <;> omega
theorem zd_mn_in {D E : Nat → Nat → Int} {p : Nat} : zd_in (zd_mn D E) p ↔ zd_in D p ∧ zd_in E p := by
  constructor
  · intro h
    refine ⟨fun i j hi hj => ?_, fun i j hi hj => ?_⟩ <;>
    · have a := h i j hi hj
      rcases zd_mn_c D E i j with e | e <;> omega
  · rintro ⟨h, h'⟩ i j hi hj
    have a := h i j hi hj
    have b := h' i j hi hj
    rcases zd_mn_c D E i j with e | e <;> omega
theorem zd_mn_Ok {D E : Nat → Nat → Int} (h1 : ∀ i, i < 4 → D i i = 0) (h2 : ∀ i j, i < 4 → j < 4 → -50 ≤ D i j ∧ D i j ≤ 99) (hE : zd_Cl E) : zd_Ok (zd_mn D E) := by
  refine ⟨fun i hi => ?_, fun i j hi hj => ?_, fun i hi => ?_, fun i hi => ?_⟩
  · have a := h1 i hi
    have b := hE.1 i hi
    rcases zd_mn_c D E i i with e | e <;> omega
  · have a := h2 i j hi hj
    have b := zd_rg hE hi hj
    rcases zd_mn_c D E i j with e | e <;> omega
  · have b := hE.2.2.1 i hi
    rcases zd_mn_c D E 0 i with e | e <;> omega
  · have b := hE.2.2.2 i hi
    rcases zd_mn_c D E i 0 with e | e <;> omega
theorem zd_Ok_c {D E : Nat → Nat → Int} (h : ∀ i j, i < 4 → j < 4 → E i j = D i j) (hD : zd_Ok D) : zd_Ok E := by
  refine ⟨fun i hi => ?_, fun i j hi hj => ?_, fun i hi => ?_, fun i hi => ?_⟩
  · rw [h i i hi hi]; exact hD.1 i hi
  · rw [h i j hi hj]; exact hD.2.1 i j hi hj
  · rw [h 0 i (by omega) hi]; exact hD.2.2.1 i hi
  · rw [h i 0 hi (by omega)]; exact hD.2.2.2 i hi
/-- one bound lowered -/
def zd_lo (D : Nat → Nat → Int) (a b : Nat) (c : Int) : Nat → Nat → Int := fun i j => if i = a ∧ j = b ∧ c < D i j then c else D i j
theorem zd_lo_c (D : Nat → Nat → Int) (a b : Nat) (c : Int) (i j : Nat) : (i = a ∧ j = b ∧ zd_lo D a b c i j = c ∧ c < D i j) ∨ (¬ (i = a ∧ j = b ∧ c < D i j) ∧ zd_lo D a b c i j = D i j) := by
  unfold zd_lo
  by_cases h : i = a ∧ j = b ∧ c < D i j
  · rw [if_pos h]
    exact Or.inl ⟨h.1, h.2.1, rfl, h.2.2⟩
  · rw [if_neg h]
    exact Or.inr ⟨h, rfl⟩
theorem zd_lo_in {D : Nat → Nat → Int} {a b p : Nat} {c : Int} (ha : a < 4) (hb : b < 4) : zd_in (zd_lo D a b c) p ↔ zd_in D p ∧ zd_df p a b ≤ c := by
  constructor
  · intro h
    refine ⟨fun i j hi hj => ?_, ?_⟩
    · have q := h i j hi hj
      rcases zd_lo_c D a b c i j with e | e <;> omega
    · have q := h a b ha hb
      rcases zd_lo_c D a b c a b with e | e
      · omega
      · have e1 : ¬ c < D a b := fun z => e.1 ⟨rfl, rfl, z⟩
        omega
  · rintro ⟨h, h'⟩ i j hi hj
    have q := h i j hi hj
    rcases zd_lo_c D a b c i j with ⟨rfl, rfl, e, _⟩ | ⟨_, e⟩ <;> omega
theorem zd_lo_Ok {D : Nat → Nat → Int} {a b : Nat} {c : Int} (hD : zd_Cl D) (hab : a ≠ b) (hc : -50 ≤ c ∧ c ≤ 99) : zd_Ok (zd_lo D a b c) := by
  refine ⟨fun i hi => ?_, fun i j hi hj => ?_, fun i hi => ?_, fun i hi => ?_⟩
  · have q := hD.1 i hi
    rcases zd_lo_c D a b c i i with e | e
    · omega
    · omega
  · have q := zd_rg hD hi hj
    rcases zd_lo_c D a b c i j with e | e <;> omega
  · have q := hD.2.2.1 i hi
    rcases zd_lo_c D a b c 0 i with e | e <;> omega
  · have q := hD.2.2.2 i hi
    rcases zd_lo_c D a b c i 0 with e | e <;> omega
/-- moving up, down -/
def zd_up (S : Nat → Prop) (p : Nat) : Prop := ∃ q d, q < 1000 ∧ S q ∧ ∀ m, 1 ≤ m → m < 4 → zd_pp p m = zd_pp q m + d
def zd_dn (S : Nat → Prop) (p : Nat) : Prop := ∃ q d, q < 1000 ∧ S q ∧ ∀ m, 1 ≤ m → m < 4 → zd_pp q m = zd_pp p m + d
theorem zd_max3 (a b c : Int) : ∃ d : Nat, a ≤ d ∧ b ≤ d ∧ c ≤ d ∧ (d = 0 ∨ (d : Int) = a ∨ (d : Int) = b ∨ (d : Int) = c) := by
  by_cases h0 : a ≤ 0 ∧ b ≤ 0 ∧ c ≤ 0
  · exact ⟨0, by omega, by omega, by omega, Or.inl rfl⟩
  · by_cases h1 : b ≤ a ∧ c ≤ a
    · exact ⟨a.toNat, by omega, by omega, by omega, Or.inr (Or.inl (by omega))⟩
    · by_cases h2 : a ≤ b ∧ c ≤ b
      · exact ⟨b.toNat, by omega, by omega, by omega, Or.inr (Or.inr (Or.inl (by omega)))⟩
      · exact ⟨c.toNat, by omega, by omega, by omega, Or.inr (Or.inr (Or.inr (by omega)))⟩
theorem zd_max3' (f : Nat → Int) : ∃ d : Nat, (∀ m, 1 ≤ m → m < 4 → f m ≤ d) ∧ (d = 0 ∨ ∃ m, 1 ≤ m ∧ m < 4 ∧ (d : Int) = f m) := by
  obtain ⟨d, h1, h2, h3, h⟩ := zd_max3 (f 1) (f 2) (f 3)
  refine ⟨d, fun m hm hm' => ?_, ?_⟩
  · have c : m = 1 ∨ m = 2 ∨ m = 3 := by omega
    rcases c with rfl | rfl | rfl
    · exact h1
    · exact h2
    · exact h3
  · rcases h with e | e | e | e
    · exact Or.inl e
    · exact Or.inr ⟨1, by omega, by omega, e⟩
    · exact Or.inr ⟨2, by omega, by omega, e⟩
    · exact Or.inr ⟨3, by omega, by omega, e⟩
/-- a point from its three numbers -/
theorem zd_pp0 (p : Nat) : zd_pp p 0 = 0 := rfl
theorem zd_delay {D E : Nat → Nat → Int} (hD : zd_Cl D) (hE : ∀ i j, i < 4 → j < 4 → E i j = if j = 0 ∧ 1 ≤ i then 9 else D i j) {p : Nat} (hp : p < 1000) : zd_in E p ↔ zd_up (zd_in D) p := by
  constructor
  · intro h
    obtain ⟨d, hd, hd'⟩ := zd_max3' (fun m => (zd_pp p m : Int) - D m 0)
    have g : ∀ i j, i < 4 → j < 4 → ¬ (j = 0 ∧ 1 ≤ i) → zd_df p i j ≤ D i j := fun i j hi hj hn => by
      have a := h i j hi hj
      rw [hE i j hi hj, if_neg hn] at a
      exact a
    obtain ⟨q, hq, e, hin⟩ := zd_sol hD (fun m => if m = 0 then 0 else (zd_pp p m : Int) - d) (if_pos rfl) (by
      intro i j hi hj
      show (if i = 0 then (0 : Int) else (zd_pp p i : Int) - d) - (if j = 0 then (0 : Int) else (zd_pp p j : Int) - d) ≤ D i j
      by_cases ci : i = 0
      · subst ci
        rw [if_pos rfl]
        by_cases cj : j = 0
        · subst cj
          rw [if_pos rfl]
          have a := hD.1 0 hi
          omega
        · rw [if_neg cj]
          have a := g 0 j hi hj (by omega)
          unfold zd_df at a
          rw [zd_pp0] at a
          rcases hd' with e | ⟨m, hm, hm', e⟩
          · omega
          · have e' : (d : Int) = (zd_pp p m : Int) - D m 0 := e
            have b := g m j hm' hj (by omega)
            have t := hD.2.1 m j 0 hm' hj (by omega)
            unfold zd_df at b
            omega
      · rw [if_neg ci]
        by_cases cj : j = 0
        · subst cj
          rw [if_pos rfl]
          have a : (zd_pp p i : Int) - D i 0 ≤ d := hd i (by omega) hi
          omega
        · rw [if_neg cj]
          have a := g i j hi hj (by omega)
          unfold zd_df at a
          omega)
    refine ⟨q, d, hq, hin, fun m hm hm' => ?_⟩
    have a : (zd_pp q m : Int) = if m = 0 then 0 else (zd_pp p m : Int) - d := e m hm'
    rw [if_neg (by omega)] at a
    omega
  · rintro ⟨q, d, hq, hin, e⟩ i j hi hj
    rw [hE i j hi hj]
    by_cases c : j = 0 ∧ 1 ≤ i
    · rw [if_pos c]
      exact (zd_df_b hp).2
    · rw [if_neg c]
      have a := hin i j hi hj
      unfold zd_df at a ⊢
      by_cases ci : i = 0
      · subst ci
        rw [zd_pp0] at a ⊢
        by_cases cj : j = 0
        · subst cj
          rw [zd_pp0] at a ⊢
          exact a
        · have b := e j (by omega) hj
          omega
      · have b := e i (by omega) hi
        have b' := e j (by omega) hj
        omega
theorem zd_past {D E : Nat → Nat → Int} (hD : zd_Cl D) (hE : ∀ i j, i < 4 → j < 4 → E i j = if i = 0 ∧ 1 ≤ j then 0 else D i j) {p : Nat} (hp : p < 1000) : zd_in E p ↔ zd_dn (zd_in D) p := by
  constructor
  · intro h
    obtain ⟨d, hd, hd'⟩ := zd_max3' (fun m => -D 0 m - (zd_pp p m : Int))
    have g : ∀ i j, i < 4 → j < 4 → ¬ (i = 0 ∧ 1 ≤ j) → zd_df p i j ≤ D i j := fun i j hi hj hn => by
      have a := h i j hi hj
      rw [hE i j hi hj, if_neg hn] at a
      exact a
    obtain ⟨q, hq, e, hin⟩ := zd_sol hD (fun m => if m = 0 then 0 else (zd_pp p m : Int) + d) (if_pos rfl) (by
      intro i j hi hj
      show (if i = 0 then (0 : Int) else (zd_pp p i : Int) + d) - (if j = 0 then (0 : Int) else (zd_pp p j : Int) + d) ≤ D i j
      by_cases ci : i = 0
      · subst ci
        rw [if_pos rfl]
        by_cases cj : j = 0
        · subst cj
          rw [if_pos rfl]
          have a := hD.1 0 hi
          omega
        · rw [if_neg cj]
          have a : -D 0 j - (zd_pp p j : Int) ≤ d := hd j (by omega) hj
          omega
      · rw [if_neg ci]
        by_cases cj : j = 0
        · subst cj
          rw [if_pos rfl]
          have a := g i 0 hi hj (by omega)
          unfold zd_df at a
          rw [zd_pp0] at a
          rcases hd' with e | ⟨m, hm, hm', e⟩
          · omega
          · have e' : (d : Int) = -D 0 m - (zd_pp p m : Int) := e
            have b := g i m hi hm' (by omega)
            have t := hD.2.1 i m 0 hi hm' (by omega)
            unfold zd_df at b
            omega
        · rw [if_neg cj]
          have a := g i j hi hj (by omega)
          unfold zd_df at a
          omega)
    refine ⟨q, d, hq, hin, fun m hm hm' => ?_⟩
    have a : (zd_pp q m : Int) = if m = 0 then 0 else (zd_pp p m : Int) + d := e m hm'
    rw [if_neg (by omega)] at a
    omega
  · rintro ⟨q, d, hq, hin, e⟩ i j hi hj
    rw [hE i j hi hj]
    by_cases c : i = 0 ∧ 1 ≤ j
    · rw [if_pos c, c.1]
      unfold zd_df
      rw [zd_pp0]
      omega
    · rw [if_neg c]
      have a := hin i j hi hj
      unfold zd_df at a ⊢
      by_cases cj : j = 0
      · subst cj
        rw [zd_pp0] at a ⊢
        by_cases ci : i = 0
        · subst ci
          rw [zd_pp0] at a ⊢
          exact a
        · have b := e i (by omega) hi
          omega
      · have b := e i (by omega) hi
        have b' := e j (by omega) hj
        omega
/-- what misses one number alone can be completed -/
theorem zd_min3 (f : Nat → Int) (a b c : Nat) : ∃ n, (n = a ∨ n = b ∨ n = c) ∧ f n ≤ f a ∧ f n ≤ f b ∧ f n ≤ f c := by
  by_cases h1 : f a ≤ f b ∧ f a ≤ f c
  · exact ⟨a, Or.inl rfl, by omega, h1.1, h1.2⟩
  · by_cases h2 : f b ≤ f a ∧ f b ≤ f c
    · exact ⟨b, Or.inr (Or.inl rfl), h2.1, by omega, h2.2⟩
    · exact ⟨c, Or.inr (Or.inr rfl), by omega, by omega, by omega⟩
theorem zd_min' (f : Nat → Int) {i : Nat} (h1 : 1 ≤ i) (h4 : i < 4) : ∃ n, n < 4 ∧ n ≠ i ∧ ∀ m, m < 4 → m ≠ i → f n ≤ f m := by
  have c : i = 1 ∨ i = 2 ∨ i = 3 := by omega
  rcases c with rfl | rfl | rfl
  · obtain ⟨n, hn, a, b, c⟩ := zd_min3 f 0 2 3
    refine ⟨n, by omega, by omega, fun m hm hm' => ?_⟩
    have q : m = 0 ∨ m = 2 ∨ m = 3 := by omega
    rcases q with rfl | rfl | rfl
    · exact a
    · exact b
    · exact c
  · obtain ⟨n, hn, a, b, c⟩ := zd_min3 f 0 1 3
    refine ⟨n, by omega, by omega, fun m hm hm' => ?_⟩
    have q : m = 0 ∨ m = 1 ∨ m = 3 := by omega
    rcases q with rfl | rfl | rfl
    · exact a
    · exact b
    · exact c
  · obtain ⟨n, hn, a, b, c⟩ := zd_min3 f 0 1 2
    refine ⟨n, by omega, by omega, fun m hm hm' => ?_⟩
    have q : m = 0 ∨ m = 1 ∨ m = 2 := by omega
    rcases q with rfl | rfl | rfl
    · exact a
    · exact b
    · exact c
theorem zd_ext {D : Nat → Nat → Int} (hD : zd_Cl D) {i p : Nat} (h1 : 1 ≤ i) (h4 : i < 4) (h : ∀ a b, a < 4 → b < 4 → a ≠ i → b ≠ i → zd_df p a b ≤ D a b) : ∃ q, q < 1000 ∧ zd_in D q ∧ ∀ m, m < 4 → m ≠ i → zd_pp q m = zd_pp p m := by
  obtain ⟨n, hn, hni, hmin⟩ := zd_min' (fun m => (zd_pp p m : Int) + D i m) h1 h4
  have hm : ∀ m, m < 4 → m ≠ i → (zd_pp p n : Int) + D i n ≤ (zd_pp p m : Int) + D i m := hmin
  obtain ⟨q, hq, e, hin⟩ := zd_sol hD (fun m => if m = i then (zd_pp p n : Int) + D i n else (zd_pp p m : Int)) (by rw [if_neg (by omega), zd_pp0]; rfl) (by
    intro a b ha hb
    show (if a = i then (zd_pp p n : Int) + D i n else (zd_pp p a : Int)) - (if b = i then (zd_pp p n : Int) + D i n else (zd_pp p b : Int)) ≤ D a b
    by_cases ca : a = i
    · subst ca
      rw [if_pos rfl]
      by_cases cb : b = a
      · subst cb
        rw [if_pos rfl]
        have t := hD.1 b hb
        omega
      · rw [if_neg cb]
        have t := hm b hb cb
        omega
    · rw [if_neg ca]
      by_cases cb : b = i
      · subst cb
        rw [if_pos rfl]
        have t := h a n ha hn ca hni
        have s := hD.2.1 a n b ha hn hb
        unfold zd_df at t
        omega
      · rw [if_neg cb]
        exact h a b ha hb ca cb)
  refine ⟨q, hq, hin, fun m hm' hmi => ?_⟩
  have t : (zd_pp q m : Int) = if m = i then (zd_pp p n : Int) + D i n else (zd_pp p m : Int) := e m hm'
  rw [if_neg hmi] at t
  omega
end
section
/-! reset, forget, hull over sets -/
def zd_rs (S : Nat → Prop) (i c : Nat) (p : Nat) : Prop := ∃ q, q < 1000 ∧ S q ∧ ∀ m, m < 4 → zd_pp p m = if m = i then c else zd_pp q m
def zd_fg (S : Nat → Prop) (i : Nat) (p : Nat) : Prop := ∃ q, q < 1000 ∧ S q ∧ ∀ m, m < 4 → m ≠ i → zd_pp p m = zd_pp q m
def zd_rf (D : Nat → Nat → Int) (i : Nat) (cu cl : Int) : Nat → Nat → Int := fun a b => if a = i ∧ b ≠ i then cu + D 0 b else if b = i ∧ a ≠ i then D a 0 - cl else D a b
theorem zd_rf_1 {D : Nat → Nat → Int} {i b : Nat} {cu cl : Int} (hb : b ≠ i) : zd_rf D i cu cl i b = cu + D 0 b := if_pos ⟨rfl, hb⟩
theorem zd_rf_2 {D : Nat → Nat → Int} {i a : Nat} {cu cl : Int} (ha : a ≠ i) : zd_rf D i cu cl a i = D a 0 - cl := by
  unfold zd_rf
  rw [if_neg (by omega), if_pos ⟨rfl, ha⟩]
theorem zd_rf_3 {D : Nat → Nat → Int} {i a b : Nat} {cu cl : Int} (ha : a ≠ i) (hb : b ≠ i) : zd_rf D i cu cl a b = D a b := by
  unfold zd_rf
  rw [if_neg (by omega), if_neg (by omega)]
theorem zd_rf_4 {D : Nat → Nat → Int} {i : Nat} {cu cl : Int} : zd_rf D i cu cl i i = D i i := by
  unfold zd_rf
  rw [if_neg (by omega), if_neg (by omega)]
theorem zd_rf_Cl {D : Nat → Nat → Int} (hD : zd_Cl D) {i : Nat} {cu cl : Int} (h1 : 1 ≤ i) (h4 : i < 4) (h0 : 0 ≤ cl) (h : cl ≤ cu) (h9 : cu ≤ 9) : zd_Cl (zd_rf D i cu cl) := by
  refine ⟨fun a ha => ?_, fun a b k ha hb hk => ?_, fun a ha => ?_, fun a ha => ?_⟩
  · by_cases c : a = i
    · subst c
      rw [zd_rf_4]
      exact hD.1 a ha
    · rw [zd_rf_3 c c]
      exact hD.1 a ha
  · by_cases ca : a = i
    · subst ca
      by_cases ck : k = a
      · subst ck
        have t := hD.1 k hk
        rw [zd_rf_4]
        omega
      · by_cases cb : b = a
        · subst cb
          rw [zd_rf_4, zd_rf_1 ck, zd_rf_2 ck]
          have t := hD.1 b hb
          have s := zd_sum0 hD (i := 0) (j := k) (by omega) hk
          omega
        · rw [zd_rf_1 cb, zd_rf_1 ck, zd_rf_3 ck cb]
          have t := hD.2.1 0 b k (by omega) hb hk
          omega
    · by_cases cb : b = i
      · subst cb
        by_cases ck : k = b
        · subst ck
          have t := hD.1 k hk
          rw [zd_rf_4]
          omega
        · rw [zd_rf_2 ca, zd_rf_2 ck, zd_rf_3 ca ck]
          have t := hD.2.1 a 0 k ha (by omega) hk
          omega
      · by_cases ck : k = i
        · subst ck
          rw [zd_rf_3 ca cb, zd_rf_2 ca, zd_rf_1 cb]
          have t := hD.2.1 a b 0 ha hb (by omega)
          omega
        · rw [zd_rf_3 ca cb, zd_rf_3 ca ck, zd_rf_3 ck cb]
          exact hD.2.1 a b k ha hb hk
  · by_cases c : a = i
    · subst c
      rw [zd_rf_2 (by omega)]
      have t := hD.1 0 (by omega)
      omega
    · rw [zd_rf_3 (by omega) c]
      exact hD.2.2.1 a ha
  · by_cases c : a = i
    · subst c
      rw [zd_rf_1 (by omega)]
      have t := hD.1 0 (by omega)
      omega
    · rw [zd_rf_3 c (by omega)]
      exact hD.2.2.2 a ha
theorem zd_rf_in {D : Nat → Nat → Int} (hD : zd_Cl D) {i p : Nat} {cu cl : Int} (h1 : 1 ≤ i) (h4 : i < 4) : zd_in (zd_rf D i cu cl) p ↔ (cl ≤ (zd_pp p i : Int) ∧ (zd_pp p i : Int) ≤ cu) ∧ ∀ a b, a < 4 → b < 4 → a ≠ i → b ≠ i → zd_df p a b ≤ D a b := by
  have t0 := hD.1 0 (by omega)
  constructor
  · intro h
    refine ⟨?_, fun a b ha hb ca cb => ?_⟩
    · have a := h i 0 h4 (by omega)
      have b := h 0 i (by omega) h4
      rw [zd_rf_1 (by omega)] at a
      rw [zd_rf_2 (by omega)] at b
      unfold zd_df at a b
      rw [zd_pp0] at a b
      omega
    · have t := h a b ha hb
      rw [zd_rf_3 ca cb] at t
      exact t
  · rintro ⟨⟨hl, hu⟩, h⟩ a b ha hb
    by_cases ca : a = i
    · subst ca
      by_cases cb : b = a
      · subst cb
        rw [zd_rf_4, hD.1 b hb, zd_df_s]
        exact Int.le_refl _
      · rw [zd_rf_1 cb]
        have t := h 0 b (by omega) hb (by omega) cb
        unfold zd_df at t ⊢
        rw [zd_pp0] at t
        omega
    · by_cases cb : b = i
      · subst cb
        rw [zd_rf_2 ca]
        have t := h a 0 ha (by omega) ca (by omega)
        unfold zd_df at t ⊢
        rw [zd_pp0] at t
        omega
      · rw [zd_rf_3 ca cb]
        exact h a b ha hb ca cb
theorem zd_reset {D : Nat → Nat → Int} (hD : zd_Cl D) {i p c : Nat} (h1 : 1 ≤ i) (h4 : i < 4) : zd_in (zd_rf D i c c) p ↔ zd_rs (zd_in D) i c p := by
  rw [zd_rf_in hD h1 h4]
  constructor
  · rintro ⟨⟨hl, hu⟩, h⟩
    obtain ⟨q, hq, hin, e⟩ := zd_ext hD h1 h4 h
    refine ⟨q, hq, hin, fun m hm => ?_⟩
    by_cases cm : m = i
    · subst cm
      rw [if_pos rfl]
      omega
    · rw [if_neg cm, e m hm cm]
  · rintro ⟨q, hq, hin, e⟩
    refine ⟨?_, fun a b ha hb ca cb => ?_⟩
    · have t := e i h4
      rw [if_pos rfl] at t
      omega
    · have t := hin a b ha hb
      have ea := e a ha
      have eb := e b hb
      rw [if_neg ca] at ea
      rw [if_neg cb] at eb
      unfold zd_df at t ⊢
      rw [ea, eb]
      exact t
theorem zd_forget {D : Nat → Nat → Int} (hD : zd_Cl D) {i p : Nat} (h1 : 1 ≤ i) (h4 : i < 4) (hp : p < 1000) : zd_in (zd_rf D i 9 0) p ↔ zd_fg (zd_in D) i p := by
  rw [zd_rf_in hD h1 h4]
  constructor
  · rintro ⟨_, h⟩
    obtain ⟨q, hq, hin, e⟩ := zd_ext hD h1 h4 h
    exact ⟨q, hq, hin, fun m hm cm => (e m hm cm).symm⟩
  · rintro ⟨q, hq, hin, e⟩
    refine ⟨?_, fun a b ha hb ca cb => ?_⟩
    · have t := zd_pp_le (i := i) hp
      omega
    · have t := hin a b ha hb
      unfold zd_df at t ⊢
      rw [e a ha ca, e b hb cb]
      exact t
/-- the hull of a set -/
def zd_hl (U : Nat → Prop) (p : Nat) : Prop := (∃ q, q < 1000 ∧ U q) ∧ ∀ i j, i < 4 → j < 4 → ∃ q, q < 1000 ∧ U q ∧ zd_df p i j ≤ zd_df q i j
theorem zd_hl_in {U : Nat → Prop} {D : Nat → Nat → Int} (h1 : ∀ i j, i < 4 → j < 4 → ∃ q, q < 1000 ∧ U q ∧ zd_df q i j = D i j) (h2 : ∀ q, q < 1000 → U q → zd_in D q) (p : Nat) : zd_hl U p ↔ zd_in D p := by
  constructor
  · rintro ⟨_, h⟩ i j hi hj
    obtain ⟨q, hq, hu, hd⟩ := h i j hi hj
    have t := h2 q hq hu i j hi hj
    omega
  · intro h
    refine ⟨?_, fun i j hi hj => ?_⟩
    · obtain ⟨q, hq, hu, _⟩ := h1 0 0 (by omega) (by omega)
      exact ⟨q, hq, hu⟩
    · obtain ⟨q, hq, hu, e⟩ := h1 i j hi hj
      have t := h i j hi hj
      exact ⟨q, hq, hu, by omega⟩
def zd_mx (D E : Nat → Nat → Int) : Nat → Nat → Int := fun i j => if E i j ≤ D i j then D i j else E i j
theorem zd_mx_c (D E : Nat → Nat → Int) (i j : Nat) : (zd_mx D E i j = D i j ∧ E i j ≤ D i j) ∨ (zd_mx D E i j = E i j ∧ D i j < E i j) := by
  unfold zd_mx
  split <;> omega
theorem zd_mx_Cl {D E : Nat → Nat → Int} (hD : zd_Cl D) (hE : zd_Cl E) : zd_Cl (zd_mx D E) := by
  refine ⟨fun i hi => ?_, fun i j k hi hj hk => ?_, fun i hi => ?_, fun i hi => ?_⟩
  · have a := hD.1 i hi
    have b := hE.1 i hi
    rcases zd_mx_c D E i i with e | e <;> omega
  · have a := hD.2.1 i j k hi hj hk
    have b := hE.2.1 i j k hi hj hk
    rcases zd_mx_c D E i j with e | e <;> rcases zd_mx_c D E i k with e' | e' <;> rcases zd_mx_c D E k j with e'' | e'' <;> omega
  · have a := hD.2.2.1 i hi
    have b := hE.2.2.1 i hi
    rcases zd_mx_c D E 0 i with e | e <;> omega
  · have a := hD.2.2.2 i hi
    have b := hE.2.2.2 i hi
    rcases zd_mx_c D E i 0 with e | e <;> omega
theorem zd_mx_hl {D E : Nat → Nat → Int} (hD : zd_Cl D) (hE : zd_Cl E) {S T : Nat → Prop} (hS : ∀ p, p < 1000 → (S p ↔ zd_in D p)) (hT : ∀ p, p < 1000 → (T p ↔ zd_in E p)) (p : Nat) : zd_hl (fun q => S q ∨ T q) p ↔ zd_in (zd_mx D E) p := by
  refine zd_hl_in (fun i j hi hj => ?_) (fun q hq hu i j hi hj => ?_) p
  · rcases zd_mx_c D E i j with e | e
    · obtain ⟨q, hq, hin, hd⟩ := zd_grt hD hi hj
      exact ⟨q, hq, Or.inl ((hS q hq).mpr hin), by omega⟩
    · obtain ⟨q, hq, hin, hd⟩ := zd_grt hE hi hj
      exact ⟨q, hq, Or.inr ((hT q hq).mpr hin), by omega⟩
  · rcases hu with u | u
    · have t := (hS q hq).mp u i j hi hj
      rcases zd_mx_c D E i j with e | e <;> omega
    · have t := (hT q hq).mp u i j hi hj
      rcases zd_mx_c D E i j with e | e <;> omega
/-- the hull of what a closed matrix holds is itself -/
theorem zd_hl_self {D : Nat → Nat → Int} (hD : zd_Cl D) {U : Nat → Prop} (hU : ∀ p, p < 1000 → (U p ↔ zd_in D p)) (p : Nat) : zd_hl U p ↔ zd_in D p := by
  refine zd_hl_in (fun i j hi hj => ?_) (fun q hq hu => (hU q hq).mp hu) p
  obtain ⟨q, hq, hin, hd⟩ := zd_grt hD hi hj
  exact ⟨q, hq, (hU q hq).mpr hin, hd⟩
end
section
/-! the component: meetWith, lowering and tightening, writes of single bounds -/
theorem zx_upd_id {H : Nat → Int32} {z : Nat} {x : Int32} (h : H z = x) : upd H z x = H := by
  funext w
  by_cases e : w = z
  · subst e
    rw [pk_us, h]
  · rw [pk_un e]
def zx_mi (B : Nat → Int32) (z y : Nat) : Nat → Int32 := fun t => if B (16 * z + t) ≤ B (16 * y + t) then B (16 * z + t) else B (16 * y + t)
theorem zx_mi_D {B : Nat → Int32} {z y : Nat} : ∀ i j, i < 4 → j < 4 → zd_D (zf B (16 * z) 16 (zx_mi B z y)) z i j = zd_mn (zd_D B z) (zd_D B y) i j := by
  intro i j hi hj
  rw [zd_D_zf hi hj]
  have e1 : zd_D B z i j = (B (16 * z + (4 * i + j))).toInt := by rw [← Nat.add_assoc]; rfl
  have e2 : zd_D B y i j = (B (16 * y + (4 * i + j))).toInt := by rw [← Nat.add_assoc]; rfl
  unfold zx_mi
  by_cases c : B (16 * z + (4 * i + j)) ≤ B (16 * y + (4 * i + j))
  · rw [if_pos c]
    rw [Int32.le_iff_toInt_le] at c
    rcases zd_mn_c (zd_D B z) (zd_D B y) i j with e | e <;> omega
  · rw [if_neg c]
    rw [Int32.le_iff_toInt_le] at c
    rcases zd_mn_c (zd_D B z) (zd_D B y) i j with e | e <;> omega
theorem zx_m31 {post : SX → Prop} {B H : Nat → Int32} {z y : Nat} (hz : z < 6) (hy : y < 6) (h0 : H z = 0 → ∀ post' : SX → Prop, (∀ B' H', post (B', H') → post' (B', H')) → wpX_tighten post' (zf B (16 * z) 16 (zx_mi B z y), H) (nI z)) (h1 : ¬ H z = 0 → post (zf B (16 * z) 16 (zx_mi B z y), H)) : ∀ d m, m + d = 16 → wX_meetWith_31 post (nI z) (nI y) (d + 1) (nI m) (zf B (16 * z) m (zx_mi B z y)) H := by
  intro d
  induction d with
  | zero =>
    intro m hm
    have e : m = 16 := by omega
    subst e
    refine br_t (nI_le (a := 16) (b := 16) (by omega) (by decide)) ⟨vp_in_nI hz (by decide), ?_⟩
    rw [nI_clamp (n := z) (by omega)]
    exact br_c (fun c => h0 c _ (fun _ _ q => q)) h1
  | succ d ih =>
    intro m hm
    have r1 : zf B (16 * z) m (zx_mi B z y) (16 * y + m) = B (16 * y + m) := zf_out (by omega)
    have r2 : zf B (16 * z) m (zx_mi B z y) (16 * z + m) = B (16 * z + m) := zf_out (by omega)
    refine br_f (nI_ge (a := m) (b := 16) (by omega) (by decide)) ⟨by rw [zn_ix2]; exact vp_in_nI (by omega) (by decide), ?_⟩
    rw [zn_ix2, nI_clamp (n := 16 * y + m) (by omega), r1]
    refine zx_lower hz (by omega) (fun c => nm_r (nI_1 m) ?_) (fun c => nm_r (nI_1 m) ?_)
    · rw [r2] at c
      have g : zx_mi B z y m = B (16 * z + m) := if_pos c
      rw [zf_k g]
      exact ih (m + 1) (by omega)
    · rw [r2] at c
      have g : zx_mi B z y m = B (16 * y + m) := if_neg c
      rw [← g, zf_s]
      exact ih (m + 1) (by omega)
theorem zx_meetWith {post : SX → Prop} {B H : Nat → Int32} {z y : Nat} (hz : z < 6) (hy : y < 6) (hHz : H z = 0 ∨ H z = 1) (hHy : H y = 0 ∨ H y = 1)
    (hok : H z = 0 → H y = 0 → zd_Ok (zd_mn (zd_D B z) (zd_D B y)))
    (h1 : (H z = 1 ∨ H y = 1) → ∀ B', zd_fB z B B' → post (B', upd H z 1))
    (h0 : H z = 0 → H y = 0 → ∀ B' H', zd_fB z B B' → zd_fH z H H' → (∀ S : Nat → Prop, (∀ p, p < 1000 → (S p ↔ zd_in (zd_D B z) p ∧ zd_in (zd_D B y) p)) → zd_X B' H' z S) → post (B', H')) : wpX_meetWith post (B, H) (nI z) (nI y) := by
  have n1 : ¬ (1 : Int32) = 0 := by decide
  have k1 : (H z = 1 ∨ H y = 1) → ∃ n, wX_meetWith_31 post (nI z) (nI y) n 0 B (upd H z 1) := fun hc => by
    have K := zx_m31 (post := post) (B := B) (H := upd H z 1) hz hy (fun c => absurd (pk_us.symm.trans c) n1) (fun _ => h1 hc _ (zd_fB_zf (by omega))) 16 0 rfl
    rw [zf_0] at K
    exact ⟨17, K⟩
  refine And.intro (vp_in_nI hz (by decide)) ?_
  rw [nI_clamp (n := z) (by omega), nI_clamp (n := y) (by omega), zn_b (x := 0) (Or.inl rfl), zn_b (x := 1) (Or.inr rfl)]
  refine ⟨fun c => ⟨vp_in_nI hy (by decide), fun c' => ⟨vp_in_nI hz (by decide), fun a ea => ?_⟩, fun c' => ⟨vp_in_nI hz (by decide), fun a ea => ?_⟩⟩, fun c => ⟨vp_in_nI hz (by decide), fun a ea => ?_⟩⟩
  · rw [ea, zx_upd_id c]
    have T : H z = 0 → ∀ post' : SX → Prop, (∀ B' H', post (B', H') → post' (B', H')) → wpX_tighten post' (zf B (16 * z) 16 (zx_mi B z y), H) (nI z) := by
      intro _ post' hp
      refine zx_tighten hz c (zd_Ok_c zx_mi_D (hok c c')) (fun B' H' hB hH hS => hp B' H' (h0 c c' B' H' (zd_fB_t (zd_fB_zf (by omega)) hB) hH (fun S hS' => hS S (fun p hp' => ?_))))
      rw [hS' p hp', ← zd_mn_in]
      exact zd_in_c zx_mi_D
    have K := zx_m31 (post := post) (B := B) (H := H) hz hy T (fun n => absurd c n) 16 0 rfl
    rw [zf_0] at K
    exact ⟨17, K⟩
  · subst ea
    rcases hHy with q | q
    · exact absurd q c'
    · exact k1 (Or.inr q)
  · subst ea
    rcases hHz with q | q
    · exact absurd q c
    · exact k1 (Or.inl q)
/-- lower one bound, then tighten -/
theorem zx_lo_1 {B : Nat → Int32} {z m : Nat} {c : Int32} (hm : m < 16) (h : B (16 * z + m) ≤ c) : ∀ i j, i < 4 → j < 4 → zd_D B z i j = zd_lo (zd_D B z) (m / 4) (m % 4) c.toInt i j := by
  intro i j hi hj
  rcases zd_lo_c (zd_D B z) (m / 4) (m % 4) c.toInt i j with ⟨ei, ej, e, g⟩ | ⟨_, e⟩
  · have q : zd_D B z i j = (B (16 * z + m)).toInt := by
      show (B (16 * z + 4 * i + j)).toInt = _
      rw [show 16 * z + 4 * i + j = 16 * z + m from by omega]
    rw [Int32.le_iff_toInt_le] at h
    omega
  · exact e.symm
theorem zx_lo_2 {B : Nat → Int32} {z m : Nat} {c : Int32} (hm : m < 16) (h : ¬ B (16 * z + m) ≤ c) : ∀ i j, i < 4 → j < 4 → zd_D (upd B (16 * z + m) c) z i j = zd_lo (zd_D B z) (m / 4) (m % 4) c.toInt i j := by
  intro i j hi hj
  by_cases q : 16 * z + 4 * i + j = 16 * z + m
  · have l : zd_D (upd B (16 * z + m) c) z i j = c.toInt := by
      show (upd B (16 * z + m) c (16 * z + 4 * i + j)).toInt = _
      rw [q, pk_us]
    have l' : zd_D B z i j = (B (16 * z + m)).toInt := by
      show (B (16 * z + 4 * i + j)).toInt = _
      rw [q]
    rw [Int32.le_iff_toInt_le] at h
    rcases zd_lo_c (zd_D B z) (m / 4) (m % 4) c.toInt i j with e | e
    · omega
    · exact absurd ⟨by omega, by omega, by omega⟩ e.1
  · have l : zd_D (upd B (16 * z + m) c) z i j = zd_D B z i j := by
      show (upd B (16 * z + m) c (16 * z + 4 * i + j)).toInt = (B (16 * z + 4 * i + j)).toInt
      rw [pk_un q]
    rcases zd_lo_c (zd_D B z) (m / 4) (m % 4) c.toInt i j with e | e
    · omega
    · omega
theorem zx_lotight {post : SX → Prop} {Q : SX → Prop} {B H : Nat → Int32} {z m : Nat} {c : Int32} (hz : z < 6) (hm : m < 16) (hd : m / 4 ≠ m % 4) (hc : -50 ≤ c.toInt ∧ c.toInt ≤ 99) (hH : H z = 0) (hCl : zd_Cl (zd_D B z)) (K : ∀ B' H', zd_fB z B B' → zd_fH z H H' → (∀ S : Nat → Prop, (∀ p, p < 1000 → (S p ↔ zd_in (zd_D B z) p ∧ zd_df p (m / 4) (m % 4) ≤ c.toInt)) → zd_X B' H' z S) → post (B', H')) (hQ : ∀ B1 H1, wpX_tighten post (B1, H1) (nI z) → Q (B1, H1)) : wpX_lower Q (B, H) (nI z) (nI m) c := by
  have ok := zd_lo_Ok hCl hd hc
  refine zx_lower hz hm (fun n => hQ _ _ (zx_tighten hz hH (zd_Ok_c (zx_lo_1 hm n) ok) (fun B' H' hB hH' hS => K B' H' hB hH' (fun S hS' => hS S (fun p hp => ?_))))) (fun n => hQ _ _ (zx_tighten hz hH (zd_Ok_c (zx_lo_2 hm n) ok) (fun B' H' hB hH' hS => K B' H' (zd_fB_t (zd_fB_u (by omega) (by omega)) hB) hH' (fun S hS' => hS S (fun p hp => ?_)))))
  · rw [hS' p hp, ← zd_lo_in (by omega) (by omega)]
    exact zd_in_c (zx_lo_1 hm n)
  · rw [hS' p hp, ← zd_lo_in (by omega) (by omega)]
    exact zd_in_c (zx_lo_2 hm n)
/-- a block by its entries -/
def zx_M (B0 B : Nat → Int32) (z : Nat) (g : Nat → Nat → Int32) : Prop := zd_fB z B0 B ∧ ∀ a b, a < 4 → b < 4 → B (16 * z + 4 * a + b) = g a b
theorem zx_M_0 (B : Nat → Int32) (z : Nat) : zx_M B B z (fun a b => B (16 * z + 4 * a + b)) := ⟨zd_fB_r z B, fun _ _ _ _ => rfl⟩
theorem zx_M_w {B0 B : Nat → Int32} {z : Nat} {g g' : Nat → Nat → Int32} {a0 b0 : Nat} {v : Int32} (h : zx_M B0 B z g) (ha0 : a0 < 4) (hb0 : b0 < 4) (hv : g' a0 b0 = v) (hg : ∀ a b, a < 4 → b < 4 → (a ≠ a0 ∨ b ≠ b0) → g' a b = g a b) : zx_M B0 (upd B (16 * z + 4 * a0 + b0) v) z g' := by
  refine ⟨zd_fB_t h.1 (zd_fB_u (by omega) (by omega)), fun a b ha hb => ?_⟩
  by_cases c : a = a0 ∧ b = b0
  · obtain ⟨rfl, rfl⟩ := c
    rw [pk_us, hv]
  · rw [pk_un (by omega), h.2 a b ha hb, hg a b ha hb (by omega)]
theorem zx_M_c {B0 B : Nat → Int32} {z : Nat} {g g' : Nat → Nat → Int32} (h : zx_M B0 B z g) (hg : ∀ a b, a < 4 → b < 4 → g' a b = g a b) : zx_M B0 B z g' :=
  ⟨h.1, fun a b ha hb => by rw [h.2 a b ha hb, hg a b ha hb]⟩
end
section
/-! the component's calls that make zones -/
theorem zx_vfresh {post : Int32 → SX → Prop} {S : Nat → Nat → Prop} {B H : Nat → Int32} {z : Nat} (hX : zd_XR S B H) (hz : z < 4) (h : ∀ B' H', zd_XR (zd_set S z (fun _ => True)) B' H' → post 0 (B', H')) : wpX_fresh post (B, H) (nI z) := by
  unfold wpX_fresh
  dsimp only
  refine zx_bad0 hz ?_
  refine br_t rfl ?_
  exact zx_setFresh (by omega) (h _ _ (zd_XR_s hX (zd_fB_zf (by omega)) (zd_fH_u z H 0) (zx_fresh_X B H z)))
theorem zx_vcopy {post : Int32 → SX → Prop} {S : Nat → Nat → Prop} {B H : Nat → Int32} {z y : Nat} (hX : zd_XR S B H) (hz : z < 4) (hy : y < 4) (h : ∀ B' H', zd_XR (zd_set S z (S y)) B' H' → post 0 (B', H')) : wpX_copy post (B, H) (nI z) (nI y) := by
  unfold wpX_copy
  dsimp only
  refine zx_bad0 hz ?_
  refine br_t rfl ?_
  refine zx_bad0 hy ?_
  refine br_t rfl ?_
  exact zx_copyTo (by omega) (by omega) (zd_X_01 (hX y hy)) (h _ _ (zd_XR_s hX (zd_fB_zf (by omega)) (zd_fH_u z H _) (zx_copy_X (hX y hy))))
theorem zx_vconstrain {post : Int32 → SX → Prop} {S : Nat → Nat → Prop} {B H : Nat → Int32} {z m : Nat} {c : Int32} (hX : zd_XR S B H) (hz : z < 4) (hm : m < 16) (hd : m / 4 ≠ m % 4) (h9 : ¬ c < -9) (h9' : c ≤ 9) (h : ∀ r B' H', zd_An (fun p => S z p ∧ zd_df p (m / 4) (m % 4) ≤ c.toInt) r → zd_XR (zd_set S z (fun p => S z p ∧ zd_df p (m / 4) (m % 4) ≤ c.toInt)) B' H' → post r (B', H')) : wpX_constrain post (B, H) (nI z) (nI m) c := by
  unfold wpX_constrain
  dsimp only
  refine zx_bad0 hz ?_
  refine br_t rfl ?_
  refine zx_bp0 hm hd ?_
  refine br_t rfl ?_
  refine br_f h9 ?_
  refine br_t h9' ?_
  refine ⟨vp_in_nI (by omega) (by decide), ?_⟩
  rw [nI_clamp (n := z) (by omega)]
  have c1 : -9 ≤ c.toInt := by
    rw [Int32.lt_iff_toInt_lt, show (-9 : Int32).toInt = -9 from by decide] at h9
    omega
  have c2 : c.toInt ≤ 9 := by
    rw [Int32.le_iff_toInt_le, show (9 : Int32).toInt = 9 from by decide] at h9'
    exact h9'
  rcases hX z hz with ⟨a, b⟩ | ⟨a, b, e⟩
  · have hT : zd_X B H z (fun p => S z p ∧ zd_df p (m / 4) (m % 4) ≤ c.toInt) := Or.inl ⟨a, fun p hp t => b p hp t.1⟩
    refine br_f (by rw [a]; decide) ?_
    unfold wX_constrain_53
    exact zx_ans (by omega) hT (fun r hr => h r B H hr (zd_XR_i hX hT))
  · refine br_t a ?_
    refine zx_lotight (by omega) hm hd ⟨by omega, by omega⟩ a b (fun B' H' hB hH hS => ?_) (fun B1 H1 q => q)
    have hT := hS (fun p => S z p ∧ zd_df p (m / 4) (m % 4) ≤ c.toInt) (fun p hp => by rw [e p hp])
    show wX_constrain_53 post (nI z) B' H'
    unfold wX_constrain_53
    exact zx_ans (by omega) hT (fun r hr => h r B' H' hr (zd_XR_s hX hB hH hT))
/-- what meetWith of two of the four zones leaves -/
theorem zx_mw {post : SX → Prop} {S T : Nat → Prop} {B H : Nat → Int32} {z y : Nat} (hz : z < 6) (hy : y < 6) (hS : zd_X B H z S) (hT : zd_X B H y T) (h : ∀ B' H', zd_fB z B B' → zd_fH z H H' → zd_X B' H' z (fun p => S p ∧ T p) → post (B', H')) : wpX_meetWith post (B, H) (nI z) (nI y) := by
  have n1 : ¬ (1 : Int32) = 0 := by decide
  have hS1 := zd_X_01 hS
  have hT1 := zd_X_01 hT
  refine zx_meetWith hz hy hS1 hT1 ?_ ?_ ?_
  · intro c c'
    rcases hS with ⟨a, _⟩ | ⟨_, b, _⟩
    · exact absurd (a.symm.trans c) n1
    · rcases hT with ⟨a', _⟩ | ⟨_, b', _⟩
      · exact absurd (a'.symm.trans c') n1
      · exact zd_mn_Ok b.1 (fun i j hi hj => by have t := zd_rg b hi hj; omega) b'
  · intro hc B' hB
    refine h B' _ hB (zd_fH_u z H 1) (Or.inl ⟨pk_us, fun p hp t => ?_⟩)
    rcases hc with c | c
    · rcases hS with ⟨_, b⟩ | ⟨a, _⟩
      · exact b p hp t.1
      · exact n1 (c.symm.trans a)
    · rcases hT with ⟨_, b⟩ | ⟨a, _⟩
      · exact b p hp t.2
      · exact n1 (c.symm.trans a)
  · intro c c' B' H' hB hH hU
    refine h B' H' hB hH (hU _ (fun p hp => ?_))
    rcases hS with ⟨a, _⟩ | ⟨_, _, e⟩
    · exact absurd (a.symm.trans c) n1
    · rcases hT with ⟨a', _⟩ | ⟨_, _, e'⟩
      · exact absurd (a'.symm.trans c') n1
      · rw [e p hp, e' p hp]
theorem zx_vmeet {post : Int32 → SX → Prop} {S : Nat → Nat → Prop} {B H : Nat → Int32} {z y : Nat} (hX : zd_XR S B H) (hz : z < 4) (hy : y < 4) (h : ∀ r B' H', zd_An (fun p => S z p ∧ S y p) r → zd_XR (zd_set S z (fun p => S z p ∧ S y p)) B' H' → post r (B', H')) : wpX_meet post (B, H) (nI z) (nI y) := by
  unfold wpX_meet
  dsimp only
  refine zx_bad0 hz ?_
  refine br_t rfl ?_
  refine zx_bad0 hy ?_
  refine br_t rfl ?_
  refine zx_mw (by omega) (by omega) (hX z hz) (hX y hy) (fun B' H' hB hH hT => ?_)
  exact zx_ans (by omega) hT (fun r hr => h r B' H' hr (zd_XR_s hX hB hH hT))
/-- hull -/
def zx_ma (B : Nat → Int32) (z y : Nat) : Nat → Int32 := fun t => if B (16 * y + t) ≤ B (16 * z + t) then B (16 * z + t) else B (16 * y + t)
theorem zx_ma_D {B : Nat → Int32} {z y : Nat} : ∀ i j, i < 4 → j < 4 → zd_D (zf B (16 * z) 16 (zx_ma B z y)) z i j = zd_mx (zd_D B z) (zd_D B y) i j := by
  intro i j hi hj
  rw [zd_D_zf hi hj]
  have e1 : zd_D B z i j = (B (16 * z + (4 * i + j))).toInt := by rw [← Nat.add_assoc]; rfl
  have e2 : zd_D B y i j = (B (16 * y + (4 * i + j))).toInt := by rw [← Nat.add_assoc]; rfl
  unfold zx_ma
  by_cases c : B (16 * y + (4 * i + j)) ≤ B (16 * z + (4 * i + j))
  · rw [if_pos c]
    rw [Int32.le_iff_toInt_le] at c
    rcases zd_mx_c (zd_D B z) (zd_D B y) i j with e | e <;> omega
  · rw [if_neg c]
    rw [Int32.le_iff_toInt_le] at c
    rcases zd_mx_c (zd_D B z) (zd_D B y) i j with e | e <;> omega
theorem zx_h49 {post : Int32 → SX → Prop} {B H : Nat → Int32} {z y : Nat} (hz : z < 6) (hy : y < 6) (h : wX_hull_117 post (nI z) (zf B (16 * z) 16 (zx_ma B z y)) H) : ∀ d m, m + d = 16 → wX_hull_49 post (nI z) (nI y) (d + 1) (nI m) (zf B (16 * z) m (zx_ma B z y)) H := by
  intro d
  induction d with
  | zero =>
    intro m hm
    have e : m = 16 := by omega
    subst e
    exact br_t (nI_le (a := 16) (b := 16) (by omega) (by decide)) h
  | succ d ih =>
    intro m hm
    have r1 : zf B (16 * z) m (zx_ma B z y) (16 * y + m) = B (16 * y + m) := zf_out (by omega)
    have r2 : zf B (16 * z) m (zx_ma B z y) (16 * z + m) = B (16 * z + m) := zf_out (by omega)
    have i1 : vp_in (nI (16 * z + m)) 96 := vp_in_nI (by omega) (by decide)
    refine br_f (nI_ge (a := m) (b := 16) (by omega) (by decide)) ⟨by rw [zn_ix2]; exact vp_in_nI (by omega) (by decide), ?_⟩
    intro x4 ex
    rw [zn_ix2 y m, nI_clamp (n := 16 * y + m) (by omega), r1] at ex
    subst ex
    rw [zn_ix2 z m, nI_clamp (n := 16 * z + m) (by omega), r2]
    refine ⟨i1, fun c => ⟨i1, i1, fun a ea x e => ?_⟩, fun c => ⟨i1, fun a ea x e => ?_⟩⟩
    · rw [nI_1] at e
      have g : zx_ma B z y m = B (16 * z + m) := if_pos c
      rw [← g, zf_s] at ea
      subst e ea
      exact ih (m + 1) (by omega)
    · rw [nI_1] at e
      have g : zx_ma B z y m = B (16 * y + m) := if_neg c
      rw [← g, zf_s] at ea
      subst e ea
      exact ih (m + 1) (by omega)
theorem zx_vhull {post : Int32 → SX → Prop} {S : Nat → Nat → Prop} {B H : Nat → Int32} {z y : Nat} (hX : zd_XR S B H) (hz : z < 4) (hy : y < 4) (h : ∀ r B' H', zd_An (zd_hl (fun p => S z p ∨ S y p)) r → zd_XR (zd_set S z (zd_hl (fun p => S z p ∨ S y p))) B' H' → post r (B', H')) : wpX_hull post (B, H) (nI z) (nI y) := by
  have n1 : ¬ (1 : Int32) = 0 := by decide
  unfold wpX_hull
  dsimp only
  refine zx_bad0 hz ?_
  refine br_t rfl ?_
  refine zx_bad0 hy ?_
  refine br_t rfl ?_
  refine ⟨vp_in_nI (by omega) (by decide), ?_⟩
  rw [nI_clamp (n := z) (by omega), nI_clamp (n := y) (by omega)]
  have hZ := hX z hz
  have hY := hX y hy
  rcases hZ with ⟨a, b⟩ | ⟨a, b, e⟩
  · refine br_f (by rw [a]; decide) ?_
    refine zx_copyTo (by omega) (by omega) (zd_X_01 (hX y hy)) ?_
    show wX_hull_117 post (nI z) _ _
    unfold wX_hull_117
    have hT : zd_X (zf B (16 * z) 16 (zx_cp B y)) (upd H z (H y)) z (zd_hl (fun p => S z p ∨ S y p)) := by
      refine zx_copy_X ?_
      rcases hY with ⟨a', b'⟩ | ⟨a', b', e'⟩
      · refine Or.inl ⟨a', fun p hp t => ?_⟩
        obtain ⟨q, hq, u | u⟩ := t.1
        · exact b q hq u
        · exact b' q hq u
      · refine Or.inr ⟨a', b', fun p hp => zd_hl_self b' (fun q hq => ?_) p⟩
        rw [← e' q hq]
        exact ⟨fun u => u.elim (fun u' => absurd u' (b q hq)) id, Or.inr⟩
    exact zx_ans (by omega) hT (fun r hr => h r _ _ hr (zd_XR_s hX (zd_fB_zf (by omega)) (zd_fH_u z H _) hT))
  · refine br_t a ?_
    refine ⟨vp_in_nI (by omega) (by decide), ?_⟩
    rcases hY with ⟨a', b'⟩ | ⟨a', b', e'⟩
    · refine br_f (by rw [a']; decide) ?_
      unfold wX_hull_117
      have hT : zd_X B H z (zd_hl (fun p => S z p ∨ S y p)) := by
        refine Or.inr ⟨a, b, fun p hp => zd_hl_self b (fun q hq => ?_) p⟩
        rw [← e q hq]
        exact ⟨fun u => u.elim id (fun u' => absurd u' (b' q hq)), Or.inl⟩
      exact zx_ans (by omega) hT (fun r hr => h r _ _ hr (zd_XR_i hX hT))
    · refine br_t a' ?_
      have hT : zd_X (zf B (16 * z) 16 (zx_ma B z y)) H z (zd_hl (fun p => S z p ∨ S y p)) :=
        Or.inr ⟨a, zd_Cl_c zx_ma_D (zd_mx_Cl b b'), fun p hp => (zd_mx_hl b b' e e' p).trans (zd_in_c zx_ma_D)⟩
      have F : wX_hull_117 post (nI z) (zf B (16 * z) 16 (zx_ma B z y)) H := by
        unfold wX_hull_117
        exact zx_ans (by omega) hT (fun r hr => h r _ _ hr (zd_XR_s hX (zd_fB_zf (by omega)) (zd_fH_r z H) hT))
      have K := zx_h49 (B := B) (by omega) (by omega) F 16 0 rfl
      rw [zf_0] at K
      exact ⟨17, K⟩
end
section
/-! the component: delay, past, reset, forget -/
theorem zd_up_c {S T : Nat → Prop} (h : ∀ p, p < 1000 → (S p ↔ T p)) (p : Nat) : zd_up S p ↔ zd_up T p :=
  ⟨fun ⟨q, d, hq, s, e⟩ => ⟨q, d, hq, (h q hq).mp s, e⟩, fun ⟨q, d, hq, s, e⟩ => ⟨q, d, hq, (h q hq).mpr s, e⟩⟩
theorem zd_dn_c {S T : Nat → Prop} (h : ∀ p, p < 1000 → (S p ↔ T p)) (p : Nat) : zd_dn S p ↔ zd_dn T p :=
  ⟨fun ⟨q, d, hq, s, e⟩ => ⟨q, d, hq, (h q hq).mp s, e⟩, fun ⟨q, d, hq, s, e⟩ => ⟨q, d, hq, (h q hq).mpr s, e⟩⟩
theorem zd_rs_c {S T : Nat → Prop} (h : ∀ p, p < 1000 → (S p ↔ T p)) (i c p : Nat) : zd_rs S i c p ↔ zd_rs T i c p :=
  ⟨fun ⟨q, hq, s, e⟩ => ⟨q, hq, (h q hq).mp s, e⟩, fun ⟨q, hq, s, e⟩ => ⟨q, hq, (h q hq).mpr s, e⟩⟩
theorem zd_fg_c {S T : Nat → Prop} (h : ∀ p, p < 1000 → (S p ↔ T p)) (i p : Nat) : zd_fg S i p ↔ zd_fg T i p :=
  ⟨fun ⟨q, hq, s, e⟩ => ⟨q, hq, (h q hq).mp s, e⟩, fun ⟨q, hq, s, e⟩ => ⟨q, hq, (h q hq).mpr s, e⟩⟩
theorem zd_delay_Ok {D E : Nat → Nat → Int} (hD : zd_Cl D) (hE : ∀ i j, i < 4 → j < 4 → E i j = if j = 0 ∧ 1 ≤ i then 9 else D i j) : zd_Ok E := by
  refine ⟨fun i hi => ?_, fun i j hi hj => ?_, fun i hi => ?_, fun i hi => ?_⟩
  · rw [hE i i hi hi, if_neg (by omega)]
    exact hD.1 i hi
  · rw [hE i j hi hj]
    have t := zd_rg hD hi hj
    split <;> omega
  · rw [hE 0 i (by omega) hi, if_neg (by omega)]
    exact hD.2.2.1 i hi
  · rw [hE i 0 hi (by omega)]
    have t := hD.2.2.2 i hi
    split <;> omega
theorem zd_past_Ok {D E : Nat → Nat → Int} (hD : zd_Cl D) (hE : ∀ i j, i < 4 → j < 4 → E i j = if i = 0 ∧ 1 ≤ j then 0 else D i j) : zd_Ok E := by
  refine ⟨fun i hi => ?_, fun i j hi hj => ?_, fun i hi => ?_, fun i hi => ?_⟩
  · rw [hE i i hi hi, if_neg (by omega)]
    exact hD.1 i hi
  · rw [hE i j hi hj]
    have t := zd_rg hD hi hj
    split <;> omega
  · rw [hE 0 i (by omega) hi]
    have t := hD.2.2.1 i hi
    split <;> omega
  · rw [hE i 0 hi (by omega), if_neg (by omega)]
    exact hD.2.2.2 i hi
def zx_dg (B : Nat → Int32) (z i : Nat) : Nat → Nat → Int32 := fun a b => if b = 0 ∧ 1 ≤ a ∧ a < i then 9 else B (16 * z + 4 * a + b)
theorem zx_dg_n {B : Nat → Int32} {z i a b : Nat} (h : ¬ (b = 0 ∧ 1 ≤ a ∧ a < i)) : zx_dg B z i a b = B (16 * z + 4 * a + b) := if_neg h
theorem zx_dg_p {B : Nat → Int32} {z i a b : Nat} (h : b = 0 ∧ 1 ≤ a ∧ a < i) : zx_dg B z i a b = 9 := if_pos h
theorem zx_d23 {post : Int32 → SX → Prop} {B H : Nat → Int32} {z : Nat} (hz : z < 6) (h : ∀ B', zx_M B B' z (zx_dg B z 4) → ∀ Q : SX → Prop, (∀ B2 H2, wX_delay_54 post (nI z) B2 H2 → Q (B2, H2)) → wpX_tighten Q (B', H) (nI z)) : ∀ d i B', 1 ≤ i → i + d = 4 → zx_M B B' z (zx_dg B z i) → wX_delay_23 post (nI z) (d + 1) (nI i) B' H := by
  intro d
  induction d with
  | zero =>
    intro i B' hi hd hM
    have e : i = 4 := by omega
    subst e
    exact br_t (nI_le (a := 4) (b := 4) (by omega) (by decide)) (h B' hM _ (fun _ _ q => q))
  | succ d ih =>
    intro i B' hi hd hM
    refine br_f (nI_ge (a := i) (b := 4) (by omega) (by decide)) ⟨by rw [zn_ix4]; exact vp_in_nI (by omega) (by decide), ?_⟩
    intro a ea x e
    rw [zn_ix4, nI_clamp (n := 16 * z + 4 * i) (by omega)] at ea
    rw [nI_1] at e
    subst e ea
    refine ih (i + 1) _ (by omega) (by omega) ?_
    refine zx_M_w (a0 := i) (b0 := 0) hM (by omega) (by omega) (zx_dg_p ⟨rfl, hi, by omega⟩) (fun a b ha hb hn => ?_)
    by_cases c : b = 0 ∧ 1 ≤ a ∧ a < i
    · rw [zx_dg_p c, zx_dg_p (by omega)]
    · rw [zx_dg_n c, zx_dg_n (by omega)]
theorem zx_dg_D {B B' : Nat → Int32} {z : Nat} (hM : zx_M B B' z (zx_dg B z 4)) : ∀ i j, i < 4 → j < 4 → zd_D B' z i j = if j = 0 ∧ 1 ≤ i then 9 else zd_D B z i j := by
  intro i j hi hj
  show (B' (16 * z + 4 * i + j)).toInt = _
  rw [hM.2 i j hi hj]
  by_cases c : j = 0 ∧ 1 ≤ i
  · rw [zx_dg_p ⟨c.1, c.2, hi⟩, if_pos c]
    decide
  · rw [zx_dg_n (by omega), if_neg c]
    rfl
theorem zx_vdelay {post : Int32 → SX → Prop} {S : Nat → Nat → Prop} {B H : Nat → Int32} {z : Nat} (hX : zd_XR S B H) (hz : z < 4) (h : ∀ r B' H', zd_An (zd_up (S z)) r → zd_XR (zd_set S z (zd_up (S z))) B' H' → post r (B', H')) : wpX_delay post (B, H) (nI z) := by
  unfold wpX_delay
  dsimp only
  refine zx_bad0 hz ?_
  refine br_t rfl ?_
  refine ⟨vp_in_nI (by omega) (by decide), ?_⟩
  rw [nI_clamp (n := z) (by omega)]
  rcases hX z hz with ⟨a, b⟩ | ⟨a, b, e⟩
  · have hT : zd_X B H z (zd_up (S z)) := Or.inl ⟨a, fun p hp ⟨q, d, hq, s, _⟩ => b q hq s⟩
    refine br_f (by rw [a]; decide) ?_
    unfold wX_delay_54
    exact zx_ans (by omega) hT (fun r hr => h r B H hr (zd_XR_i hX hT))
  · refine br_t a ⟨4, zx_d23 (by omega) (fun B' hM Q hQ => ?_) 3 1 B (by omega) rfl (zx_M_c (zx_M_0 B z) (fun a b _ _ => zx_dg_n (by omega)))⟩
    refine zx_tighten (by omega) a (zd_delay_Ok b (zx_dg_D hM)) (fun B2 H2 hB hH hS => hQ B2 H2 ?_)
    have hT := hS (zd_up (S z)) (fun p hp => (zd_up_c e p).trans (zd_delay b (zx_dg_D hM) hp).symm)
    unfold wX_delay_54
    exact zx_ans (by omega) hT (fun r hr => h r B2 H2 hr (zd_XR_s hX (zd_fB_t hM.1 hB) hH hT))
def zx_pg (B : Nat → Int32) (z i : Nat) : Nat → Nat → Int32 := fun a b => if a = 0 ∧ 1 ≤ b ∧ b < i then 0 else B (16 * z + 4 * a + b)
theorem zx_pg_n {B : Nat → Int32} {z i a b : Nat} (h : ¬ (a = 0 ∧ 1 ≤ b ∧ b < i)) : zx_pg B z i a b = B (16 * z + 4 * a + b) := if_neg h
theorem zx_pg_p {B : Nat → Int32} {z i a b : Nat} (h : a = 0 ∧ 1 ≤ b ∧ b < i) : zx_pg B z i a b = 0 := if_pos h
theorem zx_p23 {post : Int32 → SX → Prop} {B H : Nat → Int32} {z : Nat} (hz : z < 6) (h : ∀ B', zx_M B B' z (zx_pg B z 4) → ∀ Q : SX → Prop, (∀ B2 H2, wX_past_51 post (nI z) B2 H2 → Q (B2, H2)) → wpX_tighten Q (B', H) (nI z)) : ∀ d i B', 1 ≤ i → i + d = 4 → zx_M B B' z (zx_pg B z i) → wX_past_23 post (nI z) (d + 1) (nI i) B' H := by
  intro d
  induction d with
  | zero =>
    intro i B' hi hd hM
    have e : i = 4 := by omega
    subst e
    exact br_t (nI_le (a := 4) (b := 4) (by omega) (by decide)) (h B' hM _ (fun _ _ q => q))
  | succ d ih =>
    intro i B' hi hd hM
    refine br_f (nI_ge (a := i) (b := 4) (by omega) (by decide)) ⟨by rw [zn_ix2]; exact vp_in_nI (by omega) (by decide), ?_⟩
    intro a ea x e
    rw [zn_ix2, nI_clamp (n := 16 * z + i) (by omega), show 16 * z + i = 16 * z + 4 * 0 + i from by omega] at ea
    rw [nI_1] at e
    subst e ea
    refine ih (i + 1) _ (by omega) (by omega) ?_
    refine zx_M_w (a0 := 0) (b0 := i) hM (by omega) (by omega) (zx_pg_p ⟨rfl, hi, by omega⟩) (fun a b ha hb hn => ?_)
    by_cases c : a = 0 ∧ 1 ≤ b ∧ b < i
    · rw [zx_pg_p c, zx_pg_p (by omega)]
    · rw [zx_pg_n c, zx_pg_n (by omega)]
theorem zx_pg_D {B B' : Nat → Int32} {z : Nat} (hM : zx_M B B' z (zx_pg B z 4)) : ∀ i j, i < 4 → j < 4 → zd_D B' z i j = if i = 0 ∧ 1 ≤ j then 0 else zd_D B z i j := by
  intro i j hi hj
  show (B' (16 * z + 4 * i + j)).toInt = _
  rw [hM.2 i j hi hj]
  by_cases c : i = 0 ∧ 1 ≤ j
  · rw [zx_pg_p ⟨c.1, c.2, hj⟩, if_pos c]
    decide
  · rw [zx_pg_n (by omega), if_neg c]
    rfl
theorem zx_vpast {post : Int32 → SX → Prop} {S : Nat → Nat → Prop} {B H : Nat → Int32} {z : Nat} (hX : zd_XR S B H) (hz : z < 4) (h : ∀ r B' H', zd_An (zd_dn (S z)) r → zd_XR (zd_set S z (zd_dn (S z))) B' H' → post r (B', H')) : wpX_past post (B, H) (nI z) := by
  unfold wpX_past
  dsimp only
  refine zx_bad0 hz ?_
  refine br_t rfl ?_
  refine ⟨vp_in_nI (by omega) (by decide), ?_⟩
  rw [nI_clamp (n := z) (by omega)]
  rcases hX z hz with ⟨a, b⟩ | ⟨a, b, e⟩
  · have hT : zd_X B H z (zd_dn (S z)) := Or.inl ⟨a, fun p hp ⟨q, d, hq, s, _⟩ => b q hq s⟩
    refine br_f (by rw [a]; decide) ?_
    unfold wX_past_51
    exact zx_ans (by omega) hT (fun r hr => h r B H hr (zd_XR_i hX hT))
  · refine br_t a ⟨4, zx_p23 (by omega) (fun B' hM Q hQ => ?_) 3 1 B (by omega) rfl (zx_M_c (zx_M_0 B z) (fun a b _ _ => zx_pg_n (by omega)))⟩
    refine zx_tighten (by omega) a (zd_past_Ok b (zx_pg_D hM)) (fun B2 H2 hB hH hS => hQ B2 H2 ?_)
    have hT := hS (zd_dn (S z)) (fun p hp => (zd_dn_c e p).trans (zd_past b (zx_pg_D hM) hp).symm)
    unfold wX_past_51
    exact zx_ans (by omega) hT (fun r hr => h r B2 H2 hr (zd_XR_s hX (zd_fB_t hM.1 hB) hH hT))
/-- reset and forget write a row and a column -/
def zx_rg (B : Nat → Int32) (z i : Nat) (f1 f2 : Nat → Int32) (m n : Nat) : Nat → Nat → Int32 := fun a b => if a = i ∧ b ≠ i ∧ b < m then f1 b else if b = i ∧ a ≠ i ∧ a < n then f2 a else B (16 * z + 4 * a + b)
theorem zx_rg_1 {B : Nat → Int32} {z i m n a b : Nat} {f1 f2 : Nat → Int32} (h : a = i ∧ b ≠ i ∧ b < m) : zx_rg B z i f1 f2 m n a b = f1 b := if_pos h
theorem zx_rg_2 {B : Nat → Int32} {z i m n a b : Nat} {f1 f2 : Nat → Int32} (h : b = i ∧ a ≠ i ∧ a < n) : zx_rg B z i f1 f2 m n a b = f2 a := by
  unfold zx_rg
  rw [if_neg (by omega), if_pos h]
theorem zx_rg_3 {B : Nat → Int32} {z i m n a b : Nat} {f1 f2 : Nat → Int32} (h : ¬ (a = i ∧ b ≠ i ∧ b < m)) (h' : ¬ (b = i ∧ a ≠ i ∧ a < n)) : zx_rg B z i f1 f2 m n a b = B (16 * z + 4 * a + b) := by
  unfold zx_rg
  rw [if_neg h, if_neg h']
theorem zx_rg_e {B : Nat → Int32} {z i m n m' n' a b : Nat} {f1 f2 : Nat → Int32} (h : (a = i ∧ b ≠ i ∧ b < m) ↔ (a = i ∧ b ≠ i ∧ b < m')) (h' : (b = i ∧ a ≠ i ∧ a < n) ↔ (b = i ∧ a ≠ i ∧ a < n')) : zx_rg B z i f1 f2 m n a b = zx_rg B z i f1 f2 m' n' a b := by
  by_cases c : a = i ∧ b ≠ i ∧ b < m
  · rw [zx_rg_1 c, zx_rg_1 (h.mp c)]
  · by_cases d : b = i ∧ a ≠ i ∧ a < n
    · rw [zx_rg_2 d, zx_rg_2 (h'.mp d)]
    · rw [zx_rg_3 c d, zx_rg_3 (fun q => c (h.mpr q)) (fun q => d (h'.mpr q))]
theorem zx_rg_s {B B' : Nat → Int32} {z i m : Nat} {f1 f2 : Nat → Int32} (hi : i < 4) (hm : m < 4) (hn : m ≠ i) (h : zx_M B B' z (zx_rg B z i f1 f2 m m)) : zx_M B (upd (upd B' (16 * z + 4 * i + m) (f1 m)) (16 * z + 4 * m + i) (f2 m)) z (zx_rg B z i f1 f2 (m + 1) (m + 1)) := by
  have h1 : zx_M B (upd B' (16 * z + 4 * i + m) (f1 m)) z (zx_rg B z i f1 f2 (m + 1) m) :=
    zx_M_w h hi hm (zx_rg_1 ⟨rfl, hn, by omega⟩) (fun a b ha hb c => zx_rg_e (by omega) (by omega))
  exact zx_M_w h1 hm hi (zx_rg_2 ⟨rfl, hn, by omega⟩) (fun a b ha hb c => zx_rg_e (by omega) (by omega))
theorem zx_r44 {post : Int32 → SX → Prop} {B H : Nat → Int32} {z i : Nat} {c : Int32} (hz : z < 6) (hi1 : 1 ≤ i) (hi : i < 4) (h : ∀ B', zx_M B B' z (zx_rg B z i (fun b => c + B (16 * z + b)) (fun a => B (16 * z + 4 * a) - c) 4 4) → wX_reset_124 post (nI z) B' H) : ∀ d m B', m + d = 4 → zx_M B B' z (zx_rg B z i (fun b => c + B (16 * z + b)) (fun a => B (16 * z + 4 * a) - c) m m) → wX_reset_44 post (nI z) (nI i) c (d + 1) (nI m) B' H := by
  intro d
  induction d with
  | zero =>
    intro m B' hd hM
    have e : m = 4 := by omega
    subst e
    exact br_t (nI_le (a := 4) (b := 4) (by omega) (by decide)) (h B' hM)
  | succ d ih =>
    intro m B' hd hM
    refine br_f (nI_ge (a := m) (b := 4) (by omega) (by decide)) ?_
    by_cases cm : m = i
    · refine br_t (congrArg nI cm) (nm_r (nI_1 m) (ih (m + 1) B' (by omega) (zx_M_c hM (fun a b ha hb => zx_rg_e (by omega) (by omega)))))
    · refine br_f (fun e => cm ((nI_eq (by omega) (by omega)).mp e)) ?_
      have r1 : B' (16 * z + m) = B (16 * z + m) := by
        have t := hM.2 0 m (by omega) (by omega)
        rw [zx_rg_3 (by omega) (by omega)] at t
        exact t
      have r2 : B' (16 * z + 4 * m) = B (16 * z + 4 * m) := by
        have t := hM.2 m 0 (by omega) (by omega)
        rw [zx_rg_3 (by omega) (by omega)] at t
        exact t
      refine ⟨by rw [zn_ix2]; exact vp_in_nI (by omega) (by decide), by rw [zn_ix3]; exact vp_in_nI (by omega) (by decide), ?_⟩
      intro a ea
      rw [zn_ix3, zn_ix2, nI_clamp (n := 16 * z + 4 * i + m) (by omega), nI_clamp (n := 16 * z + m) (by omega), r1] at ea
      refine ⟨by rw [zn_ix4]; exact vp_in_nI (by omega) (by decide), by rw [zn_ix3]; exact vp_in_nI (by omega) (by decide), ?_⟩
      intro a' ea' x e
      have r3 : a (16 * z + 4 * m) = B (16 * z + 4 * m) := by
        rw [ea, pk_un (by omega), r2]
      rw [zn_ix3, zn_ix4, nI_clamp (n := 16 * z + 4 * m + i) (by omega), nI_clamp (n := 16 * z + 4 * m) (by omega), r3] at ea'
      rw [nI_1] at e
      subst e ea' ea
      exact ih (m + 1) _ (by omega) (zx_rg_s hi (by omega) cm hM)
theorem zx_rg_D {B B' : Nat → Int32} {z i : Nat} {f1 f2 : Nat → Int32} {cu cl : Int} (hM : zx_M B B' z (zx_rg B z i f1 f2 4 4)) (h1 : ∀ b, b < 4 → (f1 b).toInt = cu + zd_D B z 0 b) (h2 : ∀ a, a < 4 → (f2 a).toInt = zd_D B z a 0 - cl) : ∀ a b, a < 4 → b < 4 → zd_D B' z a b = zd_rf (zd_D B z) i cu cl a b := by
  intro a b ha hb
  show (B' (16 * z + 4 * a + b)).toInt = _
  rw [hM.2 a b ha hb]
  by_cases ca : a = i
  · subst ca
    by_cases cb : b = a
    · subst cb
      rw [zx_rg_3 (by omega) (by omega), zd_rf_4]
      rfl
    · rw [zx_rg_1 ⟨rfl, cb, hb⟩, zd_rf_1 cb, h1 b hb]
  · by_cases cb : b = i
    · subst cb
      rw [zx_rg_2 ⟨rfl, ca, ha⟩, zd_rf_2 ca, h2 a ha]
    · rw [zx_rg_3 (by omega) (by omega), zd_rf_3 ca cb]
      rfl
theorem zx_vreset {post : Int32 → SX → Prop} {S : Nat → Nat → Prop} {B H : Nat → Int32} {z i c : Nat} (hX : zd_XR S B H) (hz : z < 4) (hi1 : 1 ≤ i) (hi : i < 4) (hc : c < 10) (h : ∀ r B' H', zd_An (zd_rs (S z) i c) r → zd_XR (zd_set S z (zd_rs (S z) i c)) B' H' → post r (B', H')) : wpX_reset post (B, H) (nI z) (nI i) (nI c) := by
  unfold wpX_reset
  dsimp only
  refine zx_bad0 hz ?_
  refine br_t rfl ?_
  refine br_f (nI_nlt (a := i) (b := 1) (by omega) (by omega)) ?_
  refine br_f (nI_nlt (a := 3) (b := i) (by omega) (by omega)) ?_
  refine br_f (nI_pos (by omega)) ?_
  refine br_t (nI_le (a := c) (b := 9) (by omega) (by decide)) ?_
  refine ⟨vp_in_nI (by omega) (by decide), ?_⟩
  rw [nI_clamp (n := z) (by omega)]
  have hci : (nI c).toInt = c := nI_toInt (by omega)
  rcases hX z hz with ⟨a, b⟩ | ⟨a, b, e⟩
  · have hT : zd_X B H z (zd_rs (S z) i c) := Or.inl ⟨a, fun p hp ⟨q, hq, s, _⟩ => b q hq s⟩
    refine br_f (by rw [a]; decide) ?_
    unfold wX_reset_124
    exact zx_ans (by omega) hT (fun r hr => h r B H hr (zd_XR_i hX hT))
  · refine br_t a ⟨5, zx_r44 (by omega) hi1 hi (fun B' hM => ?_) 4 0 B rfl (zx_M_c (zx_M_0 B z) (fun a b _ _ => zx_rg_3 (by omega) (by omega)))⟩
    have hE := zx_rg_D (cu := c) (cl := c) hM (fun b' hb => by
        have t := zd_rg b (i := 0) (j := b') (by omega) hb
        have q : zd_D B z 0 b' = (B (16 * z + b')).toInt := rfl
        have s := zn_add (x := nI c) (y := B (16 * z + b')) (by omega) (by omega) (by omega) (by omega)
        omega) (fun a' ha => by
        have t := zd_rg b (i := a') (j := 0) ha (by omega)
        have q : zd_D B z a' 0 = (B (16 * z + 4 * a')).toInt := rfl
        have s := zn_sub (x := B (16 * z + 4 * a')) (y := nI c) (by omega) (by omega) (by omega) (by omega)
        omega)
    have hT : zd_X B' H z (zd_rs (S z) i c) := Or.inr ⟨a, zd_Cl_c hE (zd_rf_Cl b hi1 hi (by omega) (by omega) (by omega)), fun p hp => (zd_rs_c e i c p).trans ((zd_reset b hi1 hi).symm.trans (zd_in_c hE))⟩
    unfold wX_reset_124
    exact zx_ans (by omega) hT (fun r hr => h r B' H hr (zd_XR_s hX hM.1 (zd_fH_r z H) hT))
theorem zx_g33 {post : Int32 → SX → Prop} {B H : Nat → Int32} {z i : Nat} (hz : z < 6) (hi1 : 1 ≤ i) (hi : i < 4) (h : ∀ B', zx_M B B' z (zx_rg B z i (fun b => 9 + B (16 * z + b)) (fun a => B (16 * z + 4 * a)) 4 4) → wX_forget_106 post (nI z) B' H) : ∀ d m B', m + d = 4 → zx_M B B' z (zx_rg B z i (fun b => 9 + B (16 * z + b)) (fun a => B (16 * z + 4 * a)) m m) → wX_forget_33 post (nI z) (nI i) (d + 1) (nI m) B' H := by
  intro d
  induction d with
  | zero =>
    intro m B' hd hM
    have e : m = 4 := by omega
    subst e
    exact br_t (nI_le (a := 4) (b := 4) (by omega) (by decide)) (h B' hM)
  | succ d ih =>
    intro m B' hd hM
    refine br_f (nI_ge (a := m) (b := 4) (by omega) (by decide)) ?_
    by_cases cm : m = i
    · refine br_t (congrArg nI cm) (nm_r (nI_1 m) (ih (m + 1) B' (by omega) (zx_M_c hM (fun a b ha hb => zx_rg_e (by omega) (by omega)))))
    · refine br_f (fun e => cm ((nI_eq (by omega) (by omega)).mp e)) ?_
      have r1 : B' (16 * z + m) = B (16 * z + m) := by
        have t := hM.2 0 m (by omega) (by omega)
        rw [zx_rg_3 (by omega) (by omega)] at t
        exact t
      have r2 : B' (16 * z + 4 * m) = B (16 * z + 4 * m) := by
        have t := hM.2 m 0 (by omega) (by omega)
        rw [zx_rg_3 (by omega) (by omega)] at t
        exact t
      refine ⟨by rw [zn_ix2]; exact vp_in_nI (by omega) (by decide), by rw [zn_ix3]; exact vp_in_nI (by omega) (by decide), ?_⟩
      intro a ea
      rw [zn_ix3, zn_ix2, nI_clamp (n := 16 * z + 4 * i + m) (by omega), nI_clamp (n := 16 * z + m) (by omega), r1] at ea
      refine ⟨by rw [zn_ix4]; exact vp_in_nI (by omega) (by decide), by rw [zn_ix3]; exact vp_in_nI (by omega) (by decide), ?_⟩
      intro a' ea' x e
      have r3 : a (16 * z + 4 * m) = B (16 * z + 4 * m) := by
        rw [ea, pk_un (by omega), r2]
      rw [zn_ix3, zn_ix4, nI_clamp (n := 16 * z + 4 * m + i) (by omega), nI_clamp (n := 16 * z + 4 * m) (by omega), r3] at ea'
      rw [nI_1] at e
      subst e ea' ea
      exact ih (m + 1) _ (by omega) (zx_rg_s hi (by omega) cm hM)
theorem zx_vforget {post : Int32 → SX → Prop} {S : Nat → Nat → Prop} {B H : Nat → Int32} {z i : Nat} (hX : zd_XR S B H) (hz : z < 4) (hi1 : 1 ≤ i) (hi : i < 4) (h : ∀ r B' H', zd_An (zd_fg (S z) i) r → zd_XR (zd_set S z (zd_fg (S z) i)) B' H' → post r (B', H')) : wpX_forget post (B, H) (nI z) (nI i) := by
  unfold wpX_forget
  dsimp only
  refine zx_bad0 hz ?_
  refine br_t rfl ?_
  refine br_f (nI_nlt (a := i) (b := 1) (by omega) (by omega)) ?_
  refine br_t (nI_le (a := i) (b := 3) (by omega) (by decide)) ?_
  refine ⟨vp_in_nI (by omega) (by decide), ?_⟩
  rw [nI_clamp (n := z) (by omega)]
  have h9 : (9 : Int32).toInt = 9 := by decide
  rcases hX z hz with ⟨a, b⟩ | ⟨a, b, e⟩
  · have hT : zd_X B H z (zd_fg (S z) i) := Or.inl ⟨a, fun p hp ⟨q, hq, s, _⟩ => b q hq s⟩
    refine br_f (by rw [a]; decide) ?_
    unfold wX_forget_106
    exact zx_ans (by omega) hT (fun r hr => h r B H hr (zd_XR_i hX hT))
  · refine br_t a ⟨5, zx_g33 (by omega) hi1 hi (fun B' hM => ?_) 4 0 B rfl (zx_M_c (zx_M_0 B z) (fun a b _ _ => zx_rg_3 (by omega) (by omega)))⟩
    have hE := zx_rg_D (cu := 9) (cl := 0) hM (fun b' hb => by
        have t := zd_rg b (i := 0) (j := b') (by omega) hb
        have q : zd_D B z 0 b' = (B (16 * z + b')).toInt := rfl
        have s := zn_add (x := 9) (y := B (16 * z + b')) (by omega) (by omega) (by omega) (by omega)
        omega) (fun a' ha => by
        have q : zd_D B z a' 0 = (B (16 * z + 4 * a')).toInt := rfl
        omega)
    have hT : zd_X B' H z (zd_fg (S z) i) := Or.inr ⟨a, zd_Cl_c hE (zd_rf_Cl b hi1 hi (by omega) (by omega) (by omega)), fun p hp => (zd_fg_c e i p).trans ((zd_forget b hi1 hi hp).symm.trans (zd_in_c hE))⟩
    unfold wX_forget_106
    exact zx_ans (by omega) hT (fun r hr => h r B' H hr (zd_XR_s hX hM.1 (zd_fH_r z H) hT))
end
section
/-! the reference's small methods -/
theorem zy_z1 {post : Int32 → Prop} {v : SY} {z : Nat} (hz : z < 4) (h : post 1) : wpY_isZone post v (nI z) := by
  obtain ⟨P, M⟩ := v
  exact br_f (nI_pos (by omega)) (br_f (nI_nlt (a := 3) (b := z) (by omega) (by omega)) h)
theorem zy_z0 {post : Int32 → Prop} {v : SY} {x : Int32} (hb : x < 0 ∨ ¬ x < 4) (h : post 0) : wpY_isZone post v x := by
  obtain ⟨P, M⟩ := v
  by_cases h0 : x < 0
  · exact br_t h0 h
  · rcases hb with c | c
    · exact absurd c h0
    · refine br_f h0 (br_t ?_ h)
      rw [Int32.lt_iff_toInt_lt, show (4 : Int32).toInt = 4 from by decide] at c
      rw [Int32.lt_iff_toInt_lt, show (3 : Int32).toInt = 3 from by decide]
      omega
theorem zy_p1 {post : Int32 → Prop} {v : SY} {m : Nat} (hm : m < 16) (hd : m / 4 ≠ m % 4) (h : post 1) : wpY_isPair post v (nI m) := by
  obtain ⟨P, M⟩ := v
  refine br_f (nI_pos (by omega)) (br_f (nI_nlt (a := 15) (b := m) (by omega) (by decide)) ⟨by decide, by decide, ?_⟩)
  rw [zn_rem4 hm, zn_div4 hm]
  exact br_f (fun e => hd ((nI_eq (by omega) (by omega)).mp e)) h
theorem zy_p0 {post : Int32 → Prop} {v : SY} {x : Int32} (hb : zd_bp x) (h : post 0) : wpY_isPair post v x := by
  obtain ⟨P, M⟩ := v
  rcases hb with c | ⟨c, d⟩ | ⟨m, hm, rfl, e⟩
  · exact br_t c h
  · exact br_f c (br_t d h)
  · refine br_f (nI_pos (by omega)) (br_f (nI_nlt (a := 15) (b := m) (by omega) (by decide)) ⟨by decide, by decide, ?_⟩)
    rw [zn_rem4 hm, zn_div4 hm]
    exact br_t (congrArg nI e) h
theorem zy_part {post : Int32 → Prop} {v : SY} {p i : Nat} (hp : p < 1000) (hi : i < 4) (h : post (nI (zd_pp p i))) : wpY_part post v (nI p) (nI i) := by
  obtain ⟨P, M⟩ := v
  rcases zn_4 hi with rfl | rfl | rfl | rfl
  · exact br_t rfl h
  · refine br_f (by decide) (br_t rfl ⟨by decide, ?_⟩)
    rw [zn_rem10 hp]
    exact h
  · refine br_f (by decide) (br_f (by decide) (br_t rfl ⟨by decide, by decide, ?_⟩))
    rw [zn_div10 hp, zn_rem10 (by omega)]
    exact h
  · refine br_f (by decide) (br_f (by decide) (br_f (by decide) ⟨by decide, ?_⟩))
    rw [zn_div100 hp]
    exact h
def zy_dI (p m : Nat) : Int32 := nI (zd_pp p (m / 4)) - nI (zd_pp p (m % 4))
theorem zy_dI_t {p m : Nat} (hp : p < 1000) : (zy_dI p m).toInt = zd_df p (m / 4) (m % 4) := by
  have a := zd_pp_le (i := m / 4) hp
  have b := zd_pp_le (i := m % 4) hp
  exact pk_sub_toInt (by omega) (by omega)
theorem zy_df {post : Int32 → Prop} {v : SY} {p m : Nat} (hp : p < 1000) (hm : m < 16) (h : post (zy_dI p m)) : wpY_difference post v (nI p) (nI m) := by
  obtain ⟨P, M⟩ := v
  refine And.intro (by decide) ?_
  rw [zn_rem4 hm, zn_div4 hm]
  refine zy_part hp (by omega) ⟨by decide, ?_⟩
  exact zy_part hp (by omega) h
/-- is there a point -/
theorem zy_s2 {post : Int32 → Prop} {P M : Nat → Int32} {z : Nat} {S : Nat → Prop} (hz : z < 4) (hY : zd_Y P (1000 * z) S) (h : ∀ r, zd_An S r → post r) : ∀ d p, p + d = 1000 → (∀ q, q < p → ¬ S q) → wY_some_2 post (nI z) P M (d + 1) (nI p) := by
  intro d
  induction d with
  | zero =>
    intro p hp hn
    have e : p = 1000 := by omega
    subst e
    exact br_t (nI_le (a := 1000) (b := 1000) (by omega) (by decide)) (h 0 (Or.inr ⟨rfl, hn⟩))
  | succ d ih =>
    intro p hp hn
    refine br_f (nI_ge (a := p) (b := 1000) (by omega) (by decide)) ⟨by rw [zn_iy]; exact vp_in_nI (by omega) (by decide), ?_⟩
    rw [zn_iy, nI_clamp (n := 1000 * z + p) (by omega)]
    by_cases s : S p
    · exact br_f (fun e => (zd_Y_0 hY (by omega)).mp e s) (h 1 (Or.inl ⟨rfl, p, by omega, s⟩))
    · refine br_t ((zd_Y_0 hY (by omega)).mpr s) (nm_r (nI_1 p) (ih (p + 1) (by omega) (fun q hq => ?_)))
      by_cases e : q = p
      · rw [e]; exact s
      · exact hn q (by omega)
theorem zy_some {post : Int32 → Prop} {P M : Nat → Int32} {z : Nat} {S : Nat → Prop} (hz : z < 4) (hY : zd_Y P (1000 * z) S) (h : ∀ r, zd_An S r → post r) : wpY_some post (P, M) (nI z) :=
  ⟨1001, zy_s2 hz hY h 1000 0 rfl (fun q hq => absurd hq (by omega))⟩
/-- a filled block against a set -/
theorem zy_Yf {P : Nat → Int32} {a : Nat} {f : Nat → Int32} {T : Nat → Prop} (h : ∀ p, p < 1000 → (T p → f p = 1) ∧ (¬ T p → f p = 0)) : zd_Y (zf P a 1000 f) a T := by
  intro p hp
  rw [zf_at hp]
  exact h p hp
theorem zy_fr {P : Nat → Int32} {z : Nat} {f : Nat → Int32} : ∀ q, (q < 1000 * z ∨ 1000 * z + 1000 ≤ q) → zf P (1000 * z) 1000 f q = P q := fun _ hq => zf_out hq
/-- the made points are taken over -/
theorem zy_t2 {post : Int32 → SY → Prop} {P M : Nat → Int32} {z : Nat} {T : Nat → Prop} (hz : z < 4) (hM : zd_Y M 0 T) (h : ∀ r, zd_An T r → post r (zf P (1000 * z) 1000 M, M)) : ∀ d p, p + d = 1000 → wY_takeMade_2 post (nI z) (d + 1) (nI p) (zf P (1000 * z) p M) M := by
  have hM0 : ∀ p, p < 1000 → (T p → M p = 1) ∧ (¬ T p → M p = 0) := fun p hp => by
    have t := hM p hp
    rw [Nat.zero_add] at t
    exact t
  intro d
  induction d with
  | zero =>
    intro p hp
    have e : p = 1000 := by omega
    subst e
    exact br_t (nI_le (a := 1000) (b := 1000) (by omega) (by decide)) (zy_some hz (zy_Yf hM0) h)
  | succ d ih =>
    intro p hp
    refine br_f (nI_ge (a := p) (b := 1000) (by omega) (by decide)) ⟨vp_in_nI (by omega) (by decide), by rw [zn_iy]; exact vp_in_nI (by omega) (by decide), ?_⟩
    intro a ea x e
    have b : M p = 0 ∨ M p = 1 := by
      have t := zd_Y_01 hM (p := p) (by omega)
      rw [Nat.zero_add] at t
      exact t
    rw [zn_iy, nI_clamp (n := 1000 * z + p) (by omega), nI_clamp (n := p) (by omega), zn_b b, zf_s] at ea
    rw [nI_1] at e
    subst e ea
    exact ih (p + 1) (by omega)
theorem zy_take {post : Int32 → SY → Prop} {P M : Nat → Int32} {z : Nat} {T : Nat → Prop} (hz : z < 4) (hM : zd_Y M 0 T) (h : ∀ r P', (∀ q, (q < 1000 * z ∨ 1000 * z + 1000 ≤ q) → P' q = P q) → zd_Y P' (1000 * z) T → zd_An T r → post r (P', M)) : wpY_takeMade post (P, M) (nI z) := by
  have hM0 : ∀ p, p < 1000 → (T p → M p = 1) ∧ (¬ T p → M p = 0) := fun p hp => by
    have t := hM p hp
    rw [Nat.zero_add] at t
    exact t
  have K := zy_t2 (P := P) hz hM (fun r hr => h r _ zy_fr (zy_Yf hM0) hr) 1000 0 rfl
  rw [zf_0] at K
  exact ⟨1001, K⟩
def zy_k0 : Nat → Int32 := fun _ => 0
def zy_k1 : Nat → Int32 := fun _ => 1
theorem zy_c2 {post : SY → Prop} {P M : Nat → Int32} (h : post (P, zf M 0 1000 zy_k0)) : ∀ d p, p + d = 1000 → wY_clearMade_2 post (d + 1) (nI p) P (zf M 0 p zy_k0) := by
  intro d
  induction d with
  | zero =>
    intro p hp
    have e : p = 1000 := by omega
    subst e
    exact br_t (nI_le (a := 1000) (b := 1000) (by omega) (by decide)) h
  | succ d ih =>
    intro p hp
    refine br_f (nI_ge (a := p) (b := 1000) (by omega) (by decide)) ⟨vp_in_nI (by omega) (by decide), ?_⟩
    intro a ea x e
    rw [nI_clamp (n := p) (by omega), zn_b (x := 0) (Or.inl rfl), zf_w (a := 0) (m := p) (q := p) (f := zy_k0) (x := 0) (by omega) rfl] at ea
    rw [nI_1] at e
    subst e ea
    exact ih (p + 1) (by omega)
theorem zy_clear {post : SY → Prop} {P M : Nat → Int32} (h : ∀ M', zd_Y M' 0 (fun _ => False) → post (P, M')) : wpY_clearMade post (P, M) := by
  have K := zy_c2 (P := P) (M := M) (h _ (zy_Yf (fun p _ => ⟨fun t => t.elim, fun _ => rfl⟩))) 1000 0 rfl
  rw [zf_0] at K
  exact ⟨1001, K⟩
/-- one more made point -/
theorem zy_put {M : Nat → Int32} {V W : Nat → Prop} {r : Nat} (hr : r < 1000) (h : zd_Y M 0 V) (hW : ∀ s, s < 1000 → (W s ↔ V s ∨ s = r)) : zd_Y (upd M r 1) 0 W := by
  intro s hs
  have t := h s hs
  rw [Nat.zero_add] at t ⊢
  by_cases e : s = r
  · subst e
    rw [pk_us]
    exact ⟨fun _ => rfl, fun n => absurd ((hW s hs).mpr (Or.inr rfl)) n⟩
  · rw [pk_un e]
    refine ⟨fun w => t.1 ?_, fun n => t.2 (fun v => n ((hW s hs).mpr (Or.inl v)))⟩
    rcases (hW s hs).mp w with q | q
    · exact q
    · exact absurd q e
end
section
/-! the reference's calls: fresh, copy, constrain, meet, hull -/
theorem zy_f14 {post : Int32 → SY → Prop} {P M : Nat → Int32} {z : Nat} (hz : z < 4) (h : post 0 (zf P (1000 * z) 1000 zy_k1, M)) : ∀ d p, p + d = 1000 → wY_fresh_14 post (nI z) (d + 1) (nI p) (zf P (1000 * z) p zy_k1) M := by
  intro d
  induction d with
  | zero =>
    intro p hp
    have e : p = 1000 := by omega
    subst e
    exact br_t (nI_le (a := 1000) (b := 1000) (by omega) (by decide)) h
  | succ d ih =>
    intro p hp
    refine br_f (nI_ge (a := p) (b := 1000) (by omega) (by decide)) ⟨by rw [zn_iy]; exact vp_in_nI (by omega) (by decide), ?_⟩
    intro a ea x e
    rw [zn_iy, nI_clamp (n := 1000 * z + p) (by omega), zn_b (x := 1) (Or.inr rfl), zf_w (a := 1000 * z) (m := p) (q := 1000 * z + p) (f := zy_k1) (x := 1) rfl rfl] at ea
    rw [nI_1] at e
    subst e ea
    exact ih (p + 1) (by omega)
theorem zy_vfresh {post : Int32 → SY → Prop} {S : Nat → Nat → Prop} {P M : Nat → Int32} {z : Nat} (hY : zd_YR S P) (hz : z < 4) (h : ∀ P' M', zd_YR (zd_set S z (fun _ => True)) P' → post 0 (P', M')) : wpY_fresh post (P, M) (nI z) := by
  unfold wpY_fresh
  dsimp only
  refine zy_z1 hz ?_
  refine br_f (by decide) ?_
  have K := zy_f14 (post := post) (P := P) (M := M) hz (h _ _ (zd_YR_s hY zy_fr (zy_Yf (fun p _ => ⟨fun _ => rfl, fun n => absurd trivial n⟩)))) 1000 0 rfl
  rw [zf_0] at K
  exact ⟨1001, K⟩
def zy_cp (P : Nat → Int32) (y : Nat) : Nat → Int32 := fun t => P (1000 * y + t)
theorem zy_c22 {post : Int32 → SY → Prop} {P M : Nat → Int32} {z y : Nat} (hz : z < 4) (hy : y < 4) (hb : ∀ p, p < 1000 → P (1000 * y + p) = 0 ∨ P (1000 * y + p) = 1) (h : post 0 (zf P (1000 * z) 1000 (zy_cp P y), M)) : ∀ d p, p + d = 1000 → wY_copy_22 post (nI z) (nI y) (d + 1) (nI p) (zf P (1000 * z) p (zy_cp P y)) M := by
  intro d
  induction d with
  | zero =>
    intro p hp
    have e : p = 1000 := by omega
    subst e
    exact br_t (nI_le (a := 1000) (b := 1000) (by omega) (by decide)) h
  | succ d ih =>
    intro p hp
    refine br_f (nI_ge (a := p) (b := 1000) (by omega) (by decide)) ⟨by rw [zn_iy]; exact vp_in_nI (by omega) (by decide), by rw [zn_iy]; exact vp_in_nI (by omega) (by decide), ?_⟩
    intro a ea x e
    have r : zf P (1000 * z) p (zy_cp P y) (1000 * y + p) = P (1000 * y + p) := zf_out (by omega)
    rw [zn_iy z p, zn_iy y p, nI_clamp (n := 1000 * z + p) (by omega), nI_clamp (n := 1000 * y + p) (by omega), r, zn_b (hb p (by omega)), zf_w (a := 1000 * z) (m := p) (q := 1000 * z + p) (f := zy_cp P y) (x := P (1000 * y + p)) rfl rfl] at ea
    rw [nI_1] at e
    subst e ea
    exact ih (p + 1) (by omega)
theorem zy_vcopy {post : Int32 → SY → Prop} {S : Nat → Nat → Prop} {P M : Nat → Int32} {z y : Nat} (hY : zd_YR S P) (hz : z < 4) (hy : y < 4) (h : ∀ P' M', zd_YR (zd_set S z (S y)) P' → post 0 (P', M')) : wpY_copy post (P, M) (nI z) (nI y) := by
  unfold wpY_copy
  dsimp only
  refine zy_z1 hz ?_
  refine br_f (by decide) ?_
  refine zy_z1 hy ?_
  refine br_f (by decide) ?_
  have K := zy_c22 (post := post) (P := P) (M := M) hz hy (fun p hp => zd_Y_01 (hY y hy) hp) (h _ _ (zd_YR_s hY zy_fr (zy_Yf (fun p hp => hY y hy p hp)))) 1000 0 rfl
  rw [zf_0] at K
  exact ⟨1001, K⟩
def zy_cn (P : Nat → Int32) (z m : Nat) (c : Int32) : Nat → Int32 := fun p => if P (1000 * z + p) = 0 then 0 else if c < zy_dI p m then 0 else 1
theorem zy_c35 {post : Int32 → SY → Prop} {P M : Nat → Int32} {z m : Nat} {c : Int32} (hz : z < 4) (hm : m < 16) (h : wpY_some (fun r => post r (zf P (1000 * z) 1000 (zy_cn P z m c), M)) (zf P (1000 * z) 1000 (zy_cn P z m c), M) (nI z)) : ∀ d p, p + d = 1000 → wY_constrain_35 post (nI z) (nI m) c (d + 1) (nI p) (zf P (1000 * z) p (zy_cn P z m c)) M := by
  intro d
  induction d with
  | zero =>
    intro p hp
    have e : p = 1000 := by omega
    subst e
    exact br_t (nI_le (a := 1000) (b := 1000) (by omega) (by decide)) h
  | succ d ih =>
    intro p hp
    have i1 : vp_in (nI (1000 * z + p)) 4000 := vp_in_nI (by omega) (by decide)
    have r : zf P (1000 * z) p (zy_cn P z m c) (1000 * z + p) = P (1000 * z + p) := zf_out (by omega)
    have st : ∀ v : Int32, zy_cn P z m c p = v → ∀ a : Nat → Int32, a = upd (zf P (1000 * z) p (zy_cn P z m c)) (1000 * z + p) v → ∀ x : Int32, x = nI p + 1 → wY_constrain_35 post (nI z) (nI m) c (d + 1) x a M := by
      intro v hv a ea x e
      rw [zf_w (a := 1000 * z) (m := p) (q := 1000 * z + p) (f := zy_cn P z m c) (x := v) rfl hv] at ea
      rw [nI_1] at e
      subst e ea
      exact ih (p + 1) (by omega)
    refine br_f (nI_ge (a := p) (b := 1000) (by omega) (by decide)) ?_
    rw [zn_iy, nI_clamp (n := 1000 * z + p) (by omega), r, zn_b (x := 0) (Or.inl rfl), zn_b (x := 1) (Or.inr rfl)]
    refine ⟨i1, fun q => ⟨i1, st 0 (if_pos q)⟩, fun q => zy_df (by omega) hm ⟨fun w => ⟨i1, st 0 ?_⟩, fun w => ⟨i1, st 1 ?_⟩⟩⟩
    · exact (if_neg q).trans (if_pos w)
    · exact (if_neg q).trans (if_neg w)
theorem zy_vconstrain {post : Int32 → SY → Prop} {S : Nat → Nat → Prop} {P M : Nat → Int32} {z m : Nat} {c : Int32} (hY : zd_YR S P) (hz : z < 4) (hm : m < 16) (hd : m / 4 ≠ m % 4) (h9 : ¬ c < -9) (h9' : c ≤ 9) (h : ∀ r P' M', zd_An (fun p => S z p ∧ zd_df p (m / 4) (m % 4) ≤ c.toInt) r → zd_YR (zd_set S z (fun p => S z p ∧ zd_df p (m / 4) (m % 4) ≤ c.toInt)) P' → post r (P', M')) : wpY_constrain post (P, M) (nI z) (nI m) c := by
  unfold wpY_constrain
  dsimp only
  refine zy_z1 hz ?_
  refine br_f (by decide) ?_
  refine zy_p1 hm hd ?_
  refine br_f (by decide) ?_
  refine br_f h9 ?_
  refine br_t h9' ?_
  have hT : zd_Y (zf P (1000 * z) 1000 (zy_cn P z m c)) (1000 * z) (fun p => S z p ∧ zd_df p (m / 4) (m % 4) ≤ c.toInt) := by
    refine zy_Yf (fun p hp => ?_)
    unfold zy_cn
    have q := zd_Y_0 (hY z hz) hp
    have w : c < zy_dI p m ↔ ¬ zd_df p (m / 4) (m % 4) ≤ c.toInt := by
      rw [Int32.lt_iff_toInt_lt, zy_dI_t hp]
      omega
    refine ⟨fun t => ?_, fun t => ?_⟩
    · rw [if_neg (fun e => q.mp e t.1), if_neg (fun e => w.mp e t.2)]
    · by_cases s : S z p
      · rw [if_neg (fun e => q.mp e s), if_pos (w.mpr (fun u => t ⟨s, u⟩))]
      · rw [if_pos (q.mpr s)]
  have K := zy_c35 (post := post) (P := P) (M := M) (c := c) hz hm (zy_some hz hT (fun r hr => h r _ _ hr (zd_YR_s hY zy_fr hT))) 1000 0 rfl
  rw [zf_0] at K
  exact ⟨1001, K⟩
def zy_mt (P : Nat → Int32) (z y : Nat) : Nat → Int32 := fun p => if P (1000 * z + p) = 0 then 0 else if P (1000 * y + p) = 0 then 0 else 1
theorem zy_m22 {post : Int32 → SY → Prop} {P M : Nat → Int32} {z y : Nat} (hz : z < 4) (hy : y < 4) (h : wpY_some (fun r => post r (zf P (1000 * z) 1000 (zy_mt P z y), M)) (zf P (1000 * z) 1000 (zy_mt P z y), M) (nI z)) : ∀ d p, p + d = 1000 → wY_meet_22 post (nI z) (nI y) (d + 1) (nI p) (zf P (1000 * z) p (zy_mt P z y)) M := by
  intro d
  induction d with
  | zero =>
    intro p hp
    have e : p = 1000 := by omega
    subst e
    exact br_t (nI_le (a := 1000) (b := 1000) (by omega) (by decide)) h
  | succ d ih =>
    intro p hp
    have i1 : vp_in (nI (1000 * z + p)) 4000 := vp_in_nI (by omega) (by decide)
    have i2 : vp_in (nI (1000 * y + p)) 4000 := vp_in_nI (by omega) (by decide)
    have r : zf P (1000 * z) p (zy_mt P z y) (1000 * z + p) = P (1000 * z + p) := zf_out (by omega)
    have r' : zf P (1000 * z) p (zy_mt P z y) (1000 * y + p) = P (1000 * y + p) := zf_out (by omega)
    have st : ∀ v : Int32, zy_mt P z y p = v → ∀ a : Nat → Int32, a = upd (zf P (1000 * z) p (zy_mt P z y)) (1000 * z + p) v → ∀ x : Int32, x = nI p + 1 → wY_meet_22 post (nI z) (nI y) (d + 1) x a M := by
      intro v hv a ea x e
      rw [zf_w (a := 1000 * z) (m := p) (q := 1000 * z + p) (f := zy_mt P z y) (x := v) rfl hv] at ea
      rw [nI_1] at e
      subst e ea
      exact ih (p + 1) (by omega)
    refine br_f (nI_ge (a := p) (b := 1000) (by omega) (by decide)) ?_
    rw [zn_iy z p, zn_iy y p, nI_clamp (n := 1000 * z + p) (by omega), nI_clamp (n := 1000 * y + p) (by omega), r, r', zn_b (x := 0) (Or.inl rfl), zn_b (x := 1) (Or.inr rfl)]
    refine ⟨i1, fun q => ⟨i1, st 0 (if_pos q)⟩, fun q => ⟨i2, fun w => ⟨i1, st 0 ?_⟩, fun w => ⟨i1, st 1 ?_⟩⟩⟩
    · exact (if_neg q).trans (if_pos w)
    · exact (if_neg q).trans (if_neg w)
theorem zy_vmeet {post : Int32 → SY → Prop} {S : Nat → Nat → Prop} {P M : Nat → Int32} {z y : Nat} (hY : zd_YR S P) (hz : z < 4) (hy : y < 4) (h : ∀ r P' M', zd_An (fun p => S z p ∧ S y p) r → zd_YR (zd_set S z (fun p => S z p ∧ S y p)) P' → post r (P', M')) : wpY_meet post (P, M) (nI z) (nI y) := by
  unfold wpY_meet
  dsimp only
  refine zy_z1 hz ?_
  refine br_f (by decide) ?_
  refine zy_z1 hy ?_
  refine br_f (by decide) ?_
  have hT : zd_Y (zf P (1000 * z) 1000 (zy_mt P z y)) (1000 * z) (fun p => S z p ∧ S y p) := by
    refine zy_Yf (fun p hp => ?_)
    unfold zy_mt
    have q := zd_Y_0 (hY z hz) hp
    have w := zd_Y_0 (hY y hy) hp
    refine ⟨fun t => ?_, fun t => ?_⟩
    · rw [if_neg (fun e => q.mp e t.1), if_neg (fun e => w.mp e t.2)]
    · by_cases s : S z p
      · rw [if_neg (fun e => q.mp e s), if_pos (w.mpr (fun u => t ⟨s, u⟩))]
      · rw [if_pos (q.mpr s)]
  have K := zy_m22 (post := post) (P := P) (M := M) hz hy (zy_some hz hT (fun r hr => h r _ _ hr (zd_YR_s hY zy_fr hT))) 1000 0 rfl
  rw [zf_0] at K
  exact ⟨1001, K⟩
/-- the greatest difference of a pair: -2000 if there is no point -/
def zd_Gr (S : Nat → Prop) (m n : Nat) (r : Int32) : Prop := (r = -2000 ∧ ∀ p, p < n → ¬ S p) ∨ ((∃ p, p < n ∧ S p ∧ zd_df p (m / 4) (m % 4) = r.toInt) ∧ ∀ p, p < n → S p → zd_df p (m / 4) (m % 4) ≤ r.toInt)
theorem zd_Gr_u {S : Nat → Prop} {m n : Nat} {r r' : Int32} (h : zd_Gr S m n r) (h' : zd_Gr S m n r') : r' = r := by
  rcases h with ⟨a, b⟩ | ⟨⟨p, hp, s, e⟩, b⟩ <;> rcases h' with ⟨a', b'⟩ | ⟨⟨p', hp', s', e'⟩, b'⟩
  · rw [a, a']
  · exact absurd s' (b p' hp')
  · exact absurd s (b' p hp)
  · have t := b p' hp' s'
    have t' := b' p hp s
    exact Int32.toInt_inj.mp (by omega)
theorem zd_m2000 : (-2000 : Int32).toInt = -2000 := by decide
theorem zy_g7 {post : Int32 → Prop} {P M : Nat → Int32} {z m : Nat} {S : Nat → Prop} (hz : z < 4) (hm : m < 16) (hY : zd_Y P (1000 * z) S) (h : ∀ r, zd_Gr S m 1000 r → post r) : ∀ d p r, p + d = 1000 → zd_Gr S m p r → wY_greatest_7 post (nI z) (nI m) P M (d + 1) r (nI p) := by
  intro d
  induction d with
  | zero =>
    intro p r hp hG
    have e : p = 1000 := by omega
    subst e
    exact br_t (nI_le (a := 1000) (b := 1000) (by omega) (by decide)) (h r hG)
  | succ d ih =>
    intro p r hp hG
    refine br_f (nI_ge (a := p) (b := 1000) (by omega) (by decide)) ⟨by rw [zn_iy]; exact vp_in_nI (by omega) (by decide), ?_⟩
    rw [zn_iy, nI_clamp (n := 1000 * z + p) (by omega)]
    have q := zd_Y_0 hY (p := p) (by omega)
    have dt := zy_dI_t (p := p) (m := m) (by omega)
    have db := zd_df_b (p := p) (i := m / 4) (j := m % 4) (by omega)
    refine ⟨fun w => nm_r (nI_1 p) (ih (p + 1) r (by omega) ?_), fun w => zy_df (by omega) hm ⟨fun c => nm_r (nI_1 p) (ih (p + 1) r (by omega) ?_), fun c => nm_r (nI_1 p) (ih (p + 1) _ (by omega) ?_)⟩⟩
    · have ns := q.mp w
      rcases hG with ⟨a, b⟩ | ⟨⟨p', hp', s, e⟩, b⟩
      · refine Or.inl ⟨a, fun k hk s => ?_⟩
        by_cases ek : k = p
        · exact ns (ek ▸ s)
        · exact b k (by omega) s
      · refine Or.inr ⟨⟨p', by omega, s, e⟩, fun k hk s => ?_⟩
        by_cases ek : k = p
        · exact absurd (ek ▸ s) ns
        · exact b k (by omega) s
    · rw [Int32.le_iff_toInt_le, dt] at c
      rcases hG with ⟨a, b⟩ | ⟨⟨p', hp', s, e⟩, b⟩
      · rw [a, zd_m2000] at c
        omega
      · refine Or.inr ⟨⟨p', by omega, s, e⟩, fun k hk s => ?_⟩
        by_cases ek : k = p
        · rw [ek]; exact c
        · exact b k (by omega) s
    · have sp : S p := by
        by_cases s : S p
        · exact s
        · exact absurd (q.mpr s) w
      rw [Int32.le_iff_toInt_le, dt] at c
      refine Or.inr ⟨⟨p, by omega, sp, dt.symm⟩, fun k hk s => ?_⟩
      rw [dt]
      by_cases ek : k = p
      · rw [ek]; exact Int.le_refl _
      · rcases hG with ⟨a, b⟩ | ⟨_, b⟩
        · exact absurd s (b k (by omega))
        · have t := b k (by omega) s
          omega
theorem zy_grt {post : Int32 → Prop} {P M : Nat → Int32} {z m : Nat} {S : Nat → Prop} (hz : z < 4) (hm : m < 16) (hY : zd_Y P (1000 * z) S) (h : ∀ r, zd_Gr S m 1000 r → post r) : wpY_greatest post (P, M) (nI z) (nI m) :=
  ⟨1001, zy_g7 hz hm hY h 1000 0 (-2000) rfl (Or.inl ⟨rfl, fun p hp => absurd hp (by omega)⟩)⟩
end
section
/-! the reference's hull -/
theorem zd_Gr_2 {S1 S2 : Nat → Prop} {m : Nat} {r1 r2 : Int32} (h1 : zd_Gr S1 m 1000 r1) (h2 : zd_Gr S2 m 1000 r2) (h : r1 ≤ r2) : zd_Gr (fun p => S1 p ∨ S2 p) m 1000 r2 := by
  rw [Int32.le_iff_toInt_le] at h
  rcases h1 with ⟨a, b⟩ | ⟨⟨p, hp, s, e⟩, b⟩
  · rcases h2 with ⟨a', b'⟩ | ⟨⟨p', hp', s', e'⟩, b'⟩
    · exact Or.inl ⟨a', fun p hp t => t.elim (b p hp) (b' p hp)⟩
    · exact Or.inr ⟨⟨p', hp', Or.inr s', e'⟩, fun p hp t => t.elim (fun u => absurd u (b p hp)) (b' p hp)⟩
  · rcases h2 with ⟨a', b'⟩ | ⟨⟨p', hp', s', e'⟩, b'⟩
    · have t := zd_df_b (p := p) (i := m / 4) (j := m % 4) hp
      rw [a', zd_m2000] at h
      omega
    · refine Or.inr ⟨⟨p', hp', Or.inr s', e'⟩, fun p hp t => t.elim (fun u => ?_) (b' p hp)⟩
      have w := b p hp u
      omega
theorem zd_Gr_1 {S1 S2 : Nat → Prop} {m : Nat} {r1 r2 : Int32} (h1 : zd_Gr S1 m 1000 r1) (h2 : zd_Gr S2 m 1000 r2) (h : ¬ r1 ≤ r2) : zd_Gr (fun p => S1 p ∨ S2 p) m 1000 r1 := by
  rw [Int32.le_iff_toInt_le] at h
  rcases h2 with ⟨a, b⟩ | ⟨⟨p, hp, s, e⟩, b⟩
  · rcases h1 with ⟨a', b'⟩ | ⟨⟨p', hp', s', e'⟩, b'⟩
    · exact Or.inl ⟨a', fun p hp t => t.elim (b' p hp) (b p hp)⟩
    · exact Or.inr ⟨⟨p', hp', Or.inl s', e'⟩, fun p hp t => t.elim (b' p hp) (fun u => absurd u (b p hp))⟩
  · rcases h1 with ⟨a', b'⟩ | ⟨⟨p', hp', s', e'⟩, b'⟩
    · have t := zd_df_b (p := p) (i := m / 4) (j := m % 4) hp
      rw [a', zd_m2000] at h
      omega
    · refine Or.inr ⟨⟨p', hp', Or.inl s', e'⟩, fun p hp t => t.elim (b' p hp) (fun u => ?_)⟩
      have w := b p hp u
      omega
def zy_T (U : Nat → Prop) (t p : Nat) : Prop := (∃ q, q < 1000 ∧ U q) ∧ ∀ s, s < t → ∃ q, q < 1000 ∧ U q ∧ zd_df p (s / 4) (s % 4) ≤ zd_df q (s / 4) (s % 4)
theorem zy_T_s {U : Nat → Prop} {t p : Nat} {r : Int32} (hG : zd_Gr U t 1000 r) : zy_T U (t + 1) p ↔ zy_T U t p ∧ zd_df p (t / 4) (t % 4) ≤ r.toInt := by
  constructor
  · rintro ⟨a, b⟩
    refine ⟨⟨a, fun s hs => b s (by omega)⟩, ?_⟩
    obtain ⟨q, hq, u, d⟩ := b t (by omega)
    rcases hG with ⟨_, n⟩ | ⟨_, n⟩
    · exact absurd u (n q hq)
    · have w := n q hq u
      omega
  · rintro ⟨⟨⟨q0, hq0, u0⟩, b⟩, d⟩
    refine ⟨⟨q0, hq0, u0⟩, fun s hs => ?_⟩
    by_cases e : s = t
    · subst e
      rcases hG with ⟨_, n⟩ | ⟨⟨q, hq, u, e⟩, _⟩
      · exact absurd u0 (n q0 hq0)
      · exact ⟨q, hq, u, by omega⟩
    · exact b s (by omega)
theorem zy_T_16 {U : Nat → Prop} {p : Nat} : zy_T U 16 p ↔ zd_hl U p := by
  constructor
  · rintro ⟨a, b⟩
    refine ⟨a, fun i j hi hj => ?_⟩
    have t := b (4 * i + j) (by omega)
    rw [show (4 * i + j) / 4 = i from by omega, show (4 * i + j) % 4 = j from by omega] at t
    exact t
  · rintro ⟨a, b⟩
    exact ⟨a, fun s hs => b (s / 4) (s % 4) (by omega) (by omega)⟩
def zy_h1 (M : Nat → Int32) (t : Nat) (x : Int32) : Nat → Int32 := fun p => if M p = 0 then 0 else if x < zy_dI p t then 0 else 1
theorem zy_h112 {post : Int32 → SY → Prop} {J : Int32 → (Nat → Int32) → (Nat → Int32) → Prop} {x1 x2 : Int32} {P M : Nat → Int32} {t : Nat} {x : Int32} (ht : t < 16) (h : J (nI (t + 1)) P (zf M 0 1000 (zy_h1 M t x))) : ∀ d p, p + d = 1000 → wY_hull_112 post J x1 x2 (nI t) x (d + 1) (nI p) P (zf M 0 p (zy_h1 M t x)) := by
  intro d
  induction d with
  | zero =>
    intro p hp
    have e : p = 1000 := by omega
    subst e
    exact br_t (nI_le (a := 1000) (b := 1000) (by omega) (by decide)) (nm_r (nI_1 t) h)
  | succ d ih =>
    intro p hp
    have i1 : vp_in (nI p) 1000 := vp_in_nI (by omega) (by decide)
    have r : zf M 0 p (zy_h1 M t x) p = M p := zf_out (by omega)
    have st : ∀ v : Int32, zy_h1 M t x p = v → ∀ a : Nat → Int32, a = upd (zf M 0 p (zy_h1 M t x)) p v → ∀ x8 : Int32, x8 = nI p + 1 → wY_hull_112 post J x1 x2 (nI t) x (d + 1) x8 P a := by
      intro v hv a ea x8 e
      rw [zf_w (a := 0) (m := p) (q := p) (f := zy_h1 M t x) (x := v) (by omega) hv] at ea
      rw [nI_1] at e
      subst e ea
      exact ih (p + 1) (by omega)
    refine br_f (nI_ge (a := p) (b := 1000) (by omega) (by decide)) ?_
    rw [nI_clamp (n := p) (by omega), r, zn_b (x := 0) (Or.inl rfl), zn_b (x := 1) (Or.inr rfl)]
    refine ⟨i1, fun q => ⟨i1, st 0 (if_pos q)⟩, fun q => zy_df (by omega) ht ⟨fun w => ⟨i1, st 0 ?_⟩, fun w => ⟨i1, st 1 ?_⟩⟩⟩
    · exact (if_neg q).trans (if_pos w)
    · exact (if_neg q).trans (if_neg w)
theorem zy_h1_Y {M : Nat → Int32} {U : Nat → Prop} {t : Nat} {x : Int32} (hM : zd_Y M 0 (zy_T U t)) (hG : zd_Gr U t 1000 x) : zd_Y (zf M 0 1000 (zy_h1 M t x)) 0 (zy_T U (t + 1)) := by
  refine zy_Yf (fun p hp => ?_)
  unfold zy_h1
  have q := zd_Y_0 hM hp
  rw [Nat.zero_add] at q
  have w : x < zy_dI p t ↔ ¬ zd_df p (t / 4) (t % 4) ≤ x.toInt := by
    rw [Int32.lt_iff_toInt_lt, zy_dI_t hp]
    omega
  refine ⟨fun s => ?_, fun s => ?_⟩
  · have u := (zy_T_s hG).mp s
    rw [if_neg (fun e => q.mp e u.1), if_neg (fun e => w.mp e u.2)]
  · by_cases v : zy_T U t p
    · rw [if_neg (fun e => q.mp e v), if_pos (w.mpr (fun u => s ((zy_T_s hG).mpr ⟨v, u⟩)))]
    · rw [if_pos (q.mpr v)]
theorem zy_h68 {post : Int32 → SY → Prop} {P : Nat → Int32} {z y : Nat} {S : Nat → Nat → Prop} (hY : zd_YR S P) (hz : z < 4) (hy : y < 4) (h : ∀ r P' M', (∀ q, (q < 1000 * z ∨ 1000 * z + 1000 ≤ q) → P' q = P q) → zd_Y P' (1000 * z) (zd_hl (fun p => S z p ∨ S y p)) → zd_An (zd_hl (fun p => S z p ∨ S y p)) r → post r (P', M')) : ∀ d t M, t + d = 16 → zd_Y M 0 (zy_T (fun p => S z p ∨ S y p) t) → wY_hull_68 post (nI z) (nI y) (d + 1) (nI t) P M := by
  intro d
  induction d with
  | zero =>
    intro t M ht hM
    have e : t = 16 := by omega
    subst e
    refine br_t (nI_le (a := 16) (b := 16) (by omega) (by decide)) (zy_take (T := zd_hl (fun p => S z p ∨ S y p)) hz (zd_Y_iff (fun p hp => zy_T_16.symm) hM) (fun r P' hf hT hr => ?_))
    exact h r P' M hf hT hr
  | succ d ih =>
    intro t M ht hM
    have ht' : t < 16 := by omega
    have st : ∀ x, zd_Gr (fun p => S z p ∨ S y p) t 1000 x → ∃ n, wY_hull_112 post (wY_hull_68 post (nI z) (nI y) (d + 1)) (nI z) (nI y) (nI t) x n 0 P M := by
      intro x hG
      have K := zy_h112 (post := post) (J := wY_hull_68 post (nI z) (nI y) (d + 1)) (x1 := nI z) (x2 := nI y) (P := P) (M := M) (x := x) ht' (ih (t + 1) _ (by omega) (zy_h1_Y hM hG)) 1000 0 rfl
      rw [zf_0] at K
      exact ⟨1001, K⟩
    refine br_f (nI_ge (a := t) (b := 16) (by omega) (by decide)) (zy_grt hz ht' (hY z hz) (fun r1 h1 => zy_grt hy ht' (hY y hy) (fun r2 h2 => ?_)))
    exact br_c (fun c => st r2 (zd_Gr_2 h1 h2 c)) (fun c => st r1 (zd_Gr_1 h1 h2 c))
def zy_hm (x : Int32) : Nat → Int32 := fun _ => if x ≤ 0 then 0 else 1
theorem zy_h35 {post : Int32 → SY → Prop} {x1 x2 x : Int32} {P M : Nat → Int32} (h : ∃ n, wY_hull_68 post x1 x2 n 0 P (zf M 0 1000 (zy_hm x))) : ∀ d p, p + d = 1000 → wY_hull_35 post x1 x2 x (d + 1) (nI p) P (zf M 0 p (zy_hm x)) := by
  intro d
  induction d with
  | zero =>
    intro p hp
    have e : p = 1000 := by omega
    subst e
    exact br_t (nI_le (a := 1000) (b := 1000) (by omega) (by decide)) h
  | succ d ih =>
    intro p hp
    have i1 : vp_in (nI p) 1000 := vp_in_nI (by omega) (by decide)
    have st : ∀ v : Int32, zy_hm x p = v → ∀ a : Nat → Int32, a = upd (zf M 0 p (zy_hm x)) p v → ∀ x8 : Int32, x8 = nI p + 1 → wY_hull_35 post x1 x2 x (d + 1) x8 P a := by
      intro v hv a ea x8 e
      rw [zf_w (a := 0) (m := p) (q := p) (f := zy_hm x) (x := v) (by omega) hv] at ea
      rw [nI_1] at e
      subst e ea
      exact ih (p + 1) (by omega)
    refine br_f (nI_ge (a := p) (b := 1000) (by omega) (by decide)) ?_
    rw [nI_clamp (n := p) (by omega), zn_b (x := 0) (Or.inl rfl), zn_b (x := 1) (Or.inr rfl)]
    exact ⟨fun q => ⟨i1, st 0 (if_pos q)⟩, fun q => ⟨i1, st 1 (if_neg q)⟩⟩
theorem zy_vhull {post : Int32 → SY → Prop} {S : Nat → Nat → Prop} {P M : Nat → Int32} {z y : Nat} (hY : zd_YR S P) (hz : z < 4) (hy : y < 4) (h : ∀ r P' M', zd_An (zd_hl (fun p => S z p ∨ S y p)) r → zd_YR (zd_set S z (zd_hl (fun p => S z p ∨ S y p))) P' → post r (P', M')) : wpY_hull post (P, M) (nI z) (nI y) := by
  unfold wpY_hull
  dsimp only
  refine zy_z1 hz ?_
  refine br_f (by decide) ?_
  refine zy_z1 hy ?_
  refine br_f (by decide) ?_
  refine zy_some hz (hY z hz) (fun r1 h1 => zy_some hy (hY y hy) (fun r2 h2 => ?_))
  intro x ex
  have hM : zd_Y (zf M 0 1000 (zy_hm x)) 0 (zy_T (fun p => S z p ∨ S y p) 0) := by
    refine zy_Yf (fun p hp => ?_)
    unfold zy_hm
    have a : x ≤ 0 ↔ ¬ ∃ q, q < 1000 ∧ (S z q ∨ S y q) := by
      rcases h1 with ⟨e1, q1, hq1, s1⟩ | ⟨e1, n1⟩ <;> rcases h2 with ⟨e2, q2, hq2, s2⟩ | ⟨e2, n2⟩
      · rw [ex, e1, e2]
        exact ⟨fun c => absurd c (by decide), fun c => absurd ⟨q1, hq1, Or.inl s1⟩ c⟩
      · rw [ex, e1, e2]
        exact ⟨fun c => absurd c (by decide), fun c => absurd ⟨q1, hq1, Or.inl s1⟩ c⟩
      · rw [ex, e1, e2]
        exact ⟨fun c => absurd c (by decide), fun c => absurd ⟨q2, hq2, Or.inr s2⟩ c⟩
      · rw [ex, e1, e2]
        exact ⟨fun _ ⟨q, hq, s⟩ => s.elim (n1 q hq) (n2 q hq), fun _ => by decide⟩
    refine ⟨fun s => ?_, fun s => ?_⟩
    · rw [if_neg (fun c => a.mp c s.1)]
    · rw [if_pos (a.mpr (fun c => s ⟨c, fun k hk => absurd hk (by omega)⟩))]
  have K2 := zy_h68 (post := post) hY hz hy (fun r P' M' hf hT hr => h r P' M' hr (zd_YR_s hY hf hT)) 16 0 _ rfl hM
  have K := zy_h35 (post := post) (x1 := nI z) (x2 := nI y) (x := x) (P := P) (M := M) ⟨17, K2⟩ 1000 0 rfl
  rw [zf_0] at K
  exact ⟨1001, K⟩
end
section
/-! the reference's delay, past -/
def zd_ge (r s : Nat) : Prop := ∃ d, ∀ m, 1 ≤ m → m < 4 → zd_pp s m = zd_pp r m + d
def zd_le (r s : Nat) : Prop := ∃ d, ∀ m, 1 ≤ m → m < 4 → zd_pp r m = zd_pp s m + d
theorem zd_pp_in3 {p q : Nat} (hp : p < 1000) (hq : q < 1000) (h : ∀ m, 1 ≤ m → m < 4 → zd_pp p m = zd_pp q m) : p = q := by
  refine zd_pp_inj hp hq (fun m hm => ?_)
  by_cases c : m = 0
  · subst c
    rfl
  · exact h m (by omega) hm
theorem zd_ge_stop {r s : Nat} (hr : r < 1000) (hs : s < 1000) (h : ∃ m, 1 ≤ m ∧ m < 4 ∧ zd_pp r m = 9) : zd_ge r s ↔ s = r := by
  constructor
  · rintro ⟨d, e⟩
    obtain ⟨m, h1, h4, h9⟩ := h
    have a := e m h1 h4
    have b := zd_pp_le (i := m) hs
    refine zd_pp_in3 hs hr (fun k hk hk' => ?_)
    have c := e k hk hk'
    omega
  · rintro rfl
    exact ⟨0, fun _ _ _ => rfl⟩
theorem zd_le_stop {r s : Nat} (hr : r < 1000) (hs : s < 1000) (h : ∃ m, 1 ≤ m ∧ m < 4 ∧ zd_pp r m = 0) : zd_le r s ↔ s = r := by
  constructor
  · rintro ⟨d, e⟩
    obtain ⟨m, h1, h4, h9⟩ := h
    have a := e m h1 h4
    refine zd_pp_in3 hs hr (fun k hk hk' => ?_)
    have c := e k hk hk'
    omega
  · rintro rfl
    exact ⟨0, fun _ _ _ => rfl⟩
theorem zd_111 {r : Nat} (hr : r < 1000) (h : ∀ m, 1 ≤ m → m < 4 → zd_pp r m ≠ 9) : r + 111 < 1000 ∧ ∀ m, 1 ≤ m → m < 4 → zd_pp (r + 111) m = zd_pp r m + 1 := by
  have a : r % 10 ≠ 9 := h 1 (by omega) (by omega)
  have b : r / 10 % 10 ≠ 9 := h 2 (by omega) (by omega)
  have c : r / 100 ≠ 9 := h 3 (by omega) (by omega)
  refine ⟨by omega, fun m hm hm' => ?_⟩
  have q : m = 1 ∨ m = 2 ∨ m = 3 := by omega
  rcases q with rfl | rfl | rfl
  · show (r + 111) % 10 = r % 10 + 1
    omega
  · show (r + 111) / 10 % 10 = r / 10 % 10 + 1
    omega
  · show (r + 111) / 100 = r / 100 + 1
    omega
theorem zd_m111 {r : Nat} (hr : r < 1000) (h : ∀ m, 1 ≤ m → m < 4 → zd_pp r m ≠ 0) : 111 ≤ r ∧ ∀ m, 1 ≤ m → m < 4 → zd_pp r m = zd_pp (r - 111) m + 1 := by
  have a : r % 10 ≠ 0 := h 1 (by omega) (by omega)
  have b : r / 10 % 10 ≠ 0 := h 2 (by omega) (by omega)
  have c : r / 100 ≠ 0 := h 3 (by omega) (by omega)
  refine ⟨by omega, fun m hm hm' => ?_⟩
  have q : m = 1 ∨ m = 2 ∨ m = 3 := by omega
  rcases q with rfl | rfl | rfl
  · show r % 10 = (r - 111) % 10 + 1
    omega
  · show r / 10 % 10 = (r - 111) / 10 % 10 + 1
    omega
  · show r / 100 = (r - 111) / 100 + 1
    omega
theorem zd_ge_go {r s : Nat} (hr : r < 1000) (hs : s < 1000) (h : ∀ m, 1 ≤ m → m < 4 → zd_pp r m ≠ 9) : zd_ge r s ↔ s = r ∨ zd_ge (r + 111) s := by
  obtain ⟨_, e⟩ := zd_111 hr h
  constructor
  · rintro ⟨d, f⟩
    by_cases c : d = 0
    · exact Or.inl (zd_pp_in3 hs hr (fun k hk hk' => by have t := f k hk hk'; omega))
    · exact Or.inr ⟨d - 1, fun m hm hm' => by have t := f m hm hm'; have u := e m hm hm'; omega⟩
  · rintro (rfl | ⟨d, f⟩)
    · exact ⟨0, fun _ _ _ => rfl⟩
    · exact ⟨d + 1, fun m hm hm' => by have t := f m hm hm'; have u := e m hm hm'; omega⟩
theorem zd_le_go {r s : Nat} (hr : r < 1000) (hs : s < 1000) (h : ∀ m, 1 ≤ m → m < 4 → zd_pp r m ≠ 0) : zd_le r s ↔ s = r ∨ zd_le (r - 111) s := by
  obtain ⟨_, e⟩ := zd_m111 hr h
  constructor
  · rintro ⟨d, f⟩
    by_cases c : d = 0
    · exact Or.inl (zd_pp_in3 hs hr (fun k hk hk' => by have t := f k hk hk'; omega))
    · exact Or.inr ⟨d - 1, fun m hm hm' => by have t := f m hm hm'; have u := e m hm hm'; omega⟩
  · rintro (rfl | ⟨d, f⟩)
    · exact ⟨0, fun _ _ _ => rfl⟩
    · exact ⟨d + 1, fun m hm hm' => by have t := f m hm hm'; have u := e m hm hm'; omega⟩
theorem zy_58 {post : Int32 → SY → Prop} {J6 J35 : Int32 → (Nat → Int32) → (Nat → Int32) → Prop} {x1 x2 x3 : Int32} {P M : Nat → Int32} {r e : Nat} (hr : r < 1000) (he : e < 10) (stop : (∃ m, 1 ≤ m ∧ m < 4 ∧ zd_pp r m = e) → J35 (-1) P M) (go : (∀ m, 1 ≤ m → m < 4 → zd_pp r m ≠ e) → J35 (nI r + 111 * x2) P M) : wY_move_58 post J6 J35 x1 x2 x3 (nI r) (nI e) P M := by
  have q : ∀ m, nI (zd_pp r m) = nI e ↔ zd_pp r m = e := fun m => by
    have t := zd_pp_le (i := m) hr
    exact nI_eq (by omega) (by omega)
  unfold wY_move_58
  refine zy_part (i := 1) hr (by omega) ?_
  refine br_c (fun c => ?_) (fun c1 => ?_)
  · unfold wY_move_96 wY_move_101
    exact br_f (by decide) (stop ⟨1, by omega, by omega, (q 1).mp c⟩)
  · refine zy_part (i := 2) hr (by omega) ?_
    refine br_c (fun c => ?_) (fun c2 => ?_)
    · unfold wY_move_96 wY_move_101
      exact br_f (by decide) (stop ⟨2, by omega, by omega, (q 2).mp c⟩)
    · refine zy_part (i := 3) hr (by omega) ?_
      refine br_c (fun c => ?_) (fun c3 => ?_)
      · unfold wY_move_96 wY_move_101
        exact br_f (by decide) (stop ⟨3, by omega, by omega, (q 3).mp c⟩)
      · unfold wY_move_101
        refine br_t rfl (nm_e (go (fun m hm hm' => ?_)))
        have w : m = 1 ∨ m = 2 ∨ m = 3 := by omega
        rcases w with rfl | rfl | rfl
        · exact fun z => c1 ((q 1).mpr z)
        · exact fun z => c2 ((q 2).mpr z)
        · exact fun z => c3 ((q 3).mpr z)
theorem zy_35u {post : Int32 → SY → Prop} {J6 : Int32 → (Nat → Int32) → (Nat → Int32) → Prop} {x1 : Int32} {P : Nat → Int32} {p : Nat} : ∀ n r M (V : Nat → Prop), r < 1000 → 10 ≤ n + r / 100 → zd_Y M 0 V → (∀ M', zd_Y M' 0 (fun s => V s ∨ zd_ge r s) → J6 (nI (p + 1)) P M') → wY_move_35 post J6 x1 1 (nI p) (n + 1) (nI r) P M := by
  intro n
  induction n with
  | zero =>
    intro r M V hr hn
    omega
  | succ n ih =>
    intro r M V hr hn hV K
    refine br_f (nI_pos (by omega)) ⟨vp_in_nI hr (by decide), ?_⟩
    intro M1 e1
    rw [nI_clamp (n := r) (by omega), zn_b (x := 1) (Or.inr rfl)] at e1
    have hV1 : zd_Y M1 0 (fun s => V s ∨ s = r) := by
      rw [e1]
      exact zy_put hr hV (fun s hs => Iff.rfl)
    refine br_f (by decide) (zy_58 (e := 9) hr (by omega) (fun hst => ?_) (fun hgo => ?_))
    · refine br_t (by decide) (nm_r (nI_1 p) (K M1 (zd_Y_iff (fun s hs => ?_) hV1)))
      rw [zd_ge_stop hr hs hst]
    · obtain ⟨h1, h2⟩ := zd_111 hr hgo
      have e : nI r + 111 * 1 = nI (r + 111) := nI_add r 111
      rw [e]
      refine ih (r + 111) M1 _ h1 (by omega) hV1 (fun M' hM' => K M' (zd_Y_iff (fun s hs => ?_) hM'))
      show (V s ∨ zd_ge r s) ↔ ((V s ∨ s = r) ∨ zd_ge (r + 111) s)
      rw [zd_ge_go hr hs hgo, or_assoc]
theorem zy_35d {post : Int32 → SY → Prop} {J6 : Int32 → (Nat → Int32) → (Nat → Int32) → Prop} {x1 : Int32} {P : Nat → Int32} {p : Nat} : ∀ n r M (V : Nat → Prop), r < 1000 → r / 100 < n → zd_Y M 0 V → (∀ M', zd_Y M' 0 (fun s => V s ∨ zd_le r s) → J6 (nI (p + 1)) P M') → wY_move_35 post J6 x1 (-1) (nI p) (n + 1) (nI r) P M := by
  intro n
  induction n with
  | zero =>
    intro r M V hr hn
    omega
  | succ n ih =>
    intro r M V hr hn hV K
    refine br_f (nI_pos (by omega)) ⟨vp_in_nI hr (by decide), ?_⟩
    intro M1 e1
    rw [nI_clamp (n := r) (by omega), zn_b (x := 1) (Or.inr rfl)] at e1
    have hV1 : zd_Y M1 0 (fun s => V s ∨ s = r) := by
      rw [e1]
      exact zy_put hr hV (fun s hs => Iff.rfl)
    refine br_t (by decide) (zy_58 (e := 0) hr (by omega) (fun hst => ?_) (fun hgo => ?_))
    · refine br_t (by decide) (nm_r (nI_1 p) (K M1 (zd_Y_iff (fun s hs => ?_) hV1)))
      rw [zd_le_stop hr hs hst]
    · obtain ⟨h1, h2⟩ := zd_m111 hr hgo
      have e : nI r + 111 * (-1) = nI (r - 111) := by
        have t : (111 * (-1) : Int32).toInt = -111 := by decide
        have u : (nI r).toInt = r := nI_toInt (by omega)
        refine zn_i ?_ (by omega)
        rw [zn_add (by omega) (by omega) (by omega) (by omega), t, u]
        omega
      rw [e]
      refine ih (r - 111) M1 _ (by omega) (by omega) hV1 (fun M' hM' => K M' (zd_Y_iff (fun s hs => ?_) hM'))
      show (V s ∨ zd_le r s) ↔ ((V s ∨ s = r) ∨ zd_le (r - 111) s)
      rw [zd_le_go hr hs hgo, or_assoc]
/-- the loop over the points, for either way -/
theorem zy_m6 {post : Int32 → SY → Prop} {P : Nat → Int32} {z : Nat} {x2 : Int32} {S : Nat → Prop} (R : Nat → Nat → Prop) (hz : z < 4) (hY : zd_Y P (1000 * z) S)
    (hR : ∀ (J6 : Int32 → (Nat → Int32) → (Nat → Int32) → Prop) p M (V : Nat → Prop), p < 1000 → zd_Y M 0 V → (∀ M', zd_Y M' 0 (fun s => V s ∨ R p s) → J6 (nI (p + 1)) P M') → ∃ n, wY_move_35 post J6 (nI z) x2 (nI p) n (nI p) P M)
    (h : ∀ r P' M', (∀ q, (q < 1000 * z ∨ 1000 * z + 1000 ≤ q) → P' q = P q) → zd_Y P' (1000 * z) (fun s => ∃ q, q < 1000 ∧ S q ∧ R q s) → zd_An (fun s => ∃ q, q < 1000 ∧ S q ∧ R q s) r → post r (P', M')) : ∀ d p M, p + d = 1000 → zd_Y M 0 (fun s => ∃ q, q < p ∧ S q ∧ R q s) → wY_move_6 post (nI z) x2 (d + 1) (nI p) P M := by
  intro d
  induction d with
  | zero =>
    intro p M hp hM
    have e : p = 1000 := by omega
    subst e
    refine br_t (nI_le (a := 1000) (b := 1000) (by omega) (by decide)) (zy_take hz hM (fun r P' hf hT hr => ?_))
    exact h r P' M hf hT hr
  | succ d ih =>
    intro p M hp hM
    refine br_f (nI_ge (a := p) (b := 1000) (by omega) (by decide)) ⟨by rw [zn_iy]; exact vp_in_nI (by omega) (by decide), ?_⟩
    rw [zn_iy, nI_clamp (n := 1000 * z + p) (by omega)]
    have q := zd_Y_0 hY (p := p) (by omega)
    refine ⟨fun w => ⟨1, ?_⟩, fun w => ?_⟩
    · refine br_t (by decide) (nm_r (nI_1 p) (ih (p + 1) M (by omega) (zd_Y_iff (fun s hs => ?_) hM)))
      constructor
      · rintro ⟨k, hk, a, b⟩
        by_cases c : k = p
        · exact absurd (c ▸ a) (q.mp w)
        · exact ⟨k, by omega, a, b⟩
      · rintro ⟨k, hk, a, b⟩
        exact ⟨k, by omega, a, b⟩
    · have sp : S p := by
        by_cases s : S p
        · exact s
        · exact absurd (q.mpr s) w
      refine hR _ p M _ (by omega) hM (fun M' hM' => ih (p + 1) M' (by omega) (zd_Y_iff (fun s hs => ?_) hM'))
      constructor
      · rintro ⟨k, hk, a, b⟩
        by_cases c : k = p
        · exact Or.inr (c ▸ b)
        · exact Or.inl ⟨k, by omega, a, b⟩
      · rintro (⟨k, hk, a, b⟩ | b)
        · exact ⟨k, by omega, a, b⟩
        · exact ⟨p, by omega, sp, b⟩
theorem zd_up_ge {S : Nat → Prop} (s : Nat) : zd_up S s ↔ ∃ q, q < 1000 ∧ S q ∧ zd_ge q s :=
  ⟨fun ⟨q, d, hq, a, e⟩ => ⟨q, hq, a, d, e⟩, fun ⟨q, hq, a, d, e⟩ => ⟨q, d, hq, a, e⟩⟩
theorem zd_dn_le {S : Nat → Prop} (s : Nat) : zd_dn S s ↔ ∃ q, q < 1000 ∧ S q ∧ zd_le q s :=
  ⟨fun ⟨q, d, hq, a, e⟩ => ⟨q, hq, a, d, e⟩, fun ⟨q, hq, a, d, e⟩ => ⟨q, d, hq, a, e⟩⟩
theorem zy_vdelay {post : Int32 → SY → Prop} {S : Nat → Nat → Prop} {P M : Nat → Int32} {z : Nat} (hY : zd_YR S P) (hz : z < 4) (h : ∀ r P' M', zd_An (zd_up (S z)) r → zd_YR (zd_set S z (zd_up (S z))) P' → post r (P', M')) : wpY_delay post (P, M) (nI z) := by
  unfold wpY_delay
  dsimp only
  refine zy_z1 hz ?_
  refine br_f (by decide) ?_
  unfold wpY_move
  dsimp only
  refine zy_clear (fun M1 hM1 => ⟨1001, ?_⟩)
  refine zy_m6 zd_ge hz (hY z hz) (fun J6 p M2 V hp hV K => ⟨11, zy_35u 10 p M2 V hp (by omega) hV K⟩) (fun r P' M' hf hT hr => ?_) 1000 0 M1 rfl (zd_Y_iff (fun s hs => ⟨fun ⟨q, hq, _⟩ => absurd hq (by omega), fun f => f.elim⟩) hM1)
  exact h r P' M' (zd_An_iff (fun s _ => zd_up_ge s) hr) (zd_YR_s hY hf (zd_Y_iff (fun s _ => zd_up_ge s) hT))
theorem zy_vpast {post : Int32 → SY → Prop} {S : Nat → Nat → Prop} {P M : Nat → Int32} {z : Nat} (hY : zd_YR S P) (hz : z < 4) (h : ∀ r P' M', zd_An (zd_dn (S z)) r → zd_YR (zd_set S z (zd_dn (S z))) P' → post r (P', M')) : wpY_past post (P, M) (nI z) := by
  unfold wpY_past
  dsimp only
  refine zy_z1 hz ?_
  refine br_f (by decide) ?_
  unfold wpY_move
  dsimp only
  refine zy_clear (fun M1 hM1 => ⟨1001, ?_⟩)
  refine zy_m6 zd_le hz (hY z hz) (fun J6 p M2 V hp hV K => ⟨11, zy_35d 10 p M2 V hp (by omega) hV K⟩) (fun r P' M' hf hT hr => ?_) 1000 0 M1 rfl (zd_Y_iff (fun s hs => ⟨fun ⟨q, hq, _⟩ => absurd hq (by omega), fun f => f.elim⟩) hM1)
  exact h r P' M' (zd_An_iff (fun s _ => zd_dn_le s) hr) (zd_YR_s hY hf (zd_Y_iff (fun s _ => zd_dn_le s) hT))
end
section
/-! the reference's reset, forget -/
def zy_w (p i c : Nat) : Nat := if i = 1 then p - p % 10 + c else if i = 2 then p - p / 10 % 10 * 10 + c * 10 else p - p / 100 * 100 + c * 100
theorem zy_w_pp {p i c : Nat} (hp : p < 1000) (h1 : 1 ≤ i) (h4 : i < 4) (hc : c < 10) : zy_w p i c < 1000 ∧ ∀ m, m < 4 → zd_pp (zy_w p i c) m = if m = i then c else zd_pp p m := by
  have q : i = 1 ∨ i = 2 ∨ i = 3 := by omega
  rcases q with rfl | rfl | rfl
  · have e : zy_w p 1 c = p - p % 10 + c := rfl
    rw [e]
    refine ⟨by omega, fun m hm => ?_⟩
    rcases zn_4 hm with rfl | rfl | rfl | rfl
    · rfl
    · show (p - p % 10 + c) % 10 = c
      omega
    · show (p - p % 10 + c) / 10 % 10 = p / 10 % 10
      omega
    · show (p - p % 10 + c) / 100 = p / 100
      omega
  · have e : zy_w p 2 c = p - p / 10 % 10 * 10 + c * 10 := rfl
    rw [e]
    refine ⟨by omega, fun m hm => ?_⟩
    rcases zn_4 hm with rfl | rfl | rfl | rfl
    · rfl
    · show (p - p / 10 % 10 * 10 + c * 10) % 10 = p % 10
      omega
    · show (p - p / 10 % 10 * 10 + c * 10) / 10 % 10 = c
      omega
    · show (p - p / 10 % 10 * 10 + c * 10) / 100 = p / 100
      omega
  · have e : zy_w p 3 c = p - p / 100 * 100 + c * 100 := rfl
    rw [e]
    refine ⟨by omega, fun m hm => ?_⟩
    rcases zn_4 hm with rfl | rfl | rfl | rfl
    · rfl
    · show (p - p / 100 * 100 + c * 100) % 10 = p % 10
      omega
    · show (p - p / 100 * 100 + c * 100) / 10 % 10 = p / 10 % 10
      omega
    · show (p - p / 100 * 100 + c * 100) / 100 = c
      omega
theorem zy_wi {p a c u w : Nat} (hp : p < 1000) (ha : a < 10) (hc : c < 10) (hu : u = 1 ∨ u = 10 ∨ u = 100) (h : p + c * u = w + a * u) (hw : w < 1000) : nI p + (nI c - nI a) * nI u = nI w := by
  refine zn_i ?_ (by omega)
  have s1 : (nI c - nI a).toInt = (c : Int) - a := pk_sub_toInt (by omega) (by omega)
  have s0 : (nI p).toInt = p := nI_toInt (by omega)
  have s3 : (nI u).toInt = u := nI_toInt (by omega)
  have s2 : ((nI c - nI a) * nI u).toInt = ((c : Int) - a) * u := by
    rw [Jvm.Kit.i32_mul, s1, s3]
    · rw [s1, s3]
      rcases hu with rfl | rfl | rfl <;> omega
    · rw [s1, s3]
      rcases hu with rfl | rfl | rfl <;> omega
  have s4 : -9000 ≤ ((c : Int) - a) * u ∧ ((c : Int) - a) * u ≤ 9000 := by
    rcases hu with rfl | rfl | rfl <;> omega
  rw [zn_add (by omega) (by omega) (by omega) (by omega), s0, s2]
  rcases hu with rfl | rfl | rfl <;> omega
theorem zy_with {post : Int32 → Prop} {v : SY} {p i c : Nat} (hp : p < 1000) (h1 : 1 ≤ i) (h4 : i < 4) (hc : c < 10) (h : post (nI (zy_w p i c))) : wpY_with post v (nI p) (nI i) (nI c) := by
  obtain ⟨P, M⟩ := v
  have hw := (zy_w_pp hp h1 h4 hc).1
  have q : i = 1 ∨ i = 2 ∨ i = 3 := by omega
  have hl := zd_pp_le (i := i) hp
  rcases q with rfl | rfl | rfl
  · refine br_t rfl ?_
    unfold wY_with_21
    refine zy_part hp (by omega) ?_
    have e : nI p + (nI c - nI (zd_pp p 1)) * 1 = nI (zy_w p 1 c) := zy_wi (u := 1) hp (by omega) hc (Or.inl rfl) (by show p + c * 1 = (p - p % 10 + c) + (p % 10) * 1; omega) hw
    rw [e]
    exact h
  · refine br_f (by decide) (br_t rfl ?_)
    unfold wY_with_21
    refine zy_part hp (by omega) ?_
    have e : nI p + (nI c - nI (zd_pp p 2)) * 10 = nI (zy_w p 2 c) := zy_wi (u := 10) hp (by omega) hc (Or.inr (Or.inl rfl)) (by show p + c * 10 = (p - p / 10 % 10 * 10 + c * 10) + (p / 10 % 10) * 10; omega) hw
    rw [e]
    exact h
  · refine br_f (by decide) (br_f (by decide) ?_)
    unfold wY_with_21
    refine zy_part hp (by omega) ?_
    have e : nI p + (nI c - nI (zd_pp p 3)) * 100 = nI (zy_w p 3 c) := zy_wi (u := 100) hp (by omega) hc (Or.inr (Or.inr rfl)) (by show p + c * 100 = (p - p / 100 * 100 + c * 100) + (p / 100) * 100; omega) hw
    rw [e]
    exact h
theorem zy_w_rs {S : Nat → Prop} {i c s : Nat} (h1 : 1 ≤ i) (h4 : i < 4) (hc : c < 10) (hs : s < 1000) : zd_rs S i c s ↔ ∃ q, q < 1000 ∧ S q ∧ s = zy_w q i c := by
  constructor
  · rintro ⟨q, hq, a, e⟩
    have w := zy_w_pp hq h1 h4 hc
    exact ⟨q, hq, a, zd_pp_inj hs w.1 (fun m hm => (e m hm).trans (w.2 m hm).symm)⟩
  · rintro ⟨q, hq, a, e⟩
    have w := zy_w_pp hq h1 h4 hc
    exact ⟨q, hq, a, fun m hm => by rw [e]; exact w.2 m hm⟩
theorem zy_w_fg {S : Nat → Prop} {i s : Nat} (h1 : 1 ≤ i) (h4 : i < 4) (hs : s < 1000) : zd_fg S i s ↔ ∃ q, q < 1000 ∧ S q ∧ ∃ c, c < 10 ∧ s = zy_w q i c := by
  constructor
  · rintro ⟨q, hq, a, e⟩
    have hl := zd_pp_le (i := i) hs
    have w := zy_w_pp (c := zd_pp s i) hq h1 h4 (by omega)
    refine ⟨q, hq, a, zd_pp s i, by omega, zd_pp_inj hs w.1 (fun m hm => ?_)⟩
    rw [w.2 m hm]
    by_cases c : m = i
    · rw [if_pos c, c]
    · rw [if_neg c]
      exact e m hm c
  · rintro ⟨q, hq, a, c, hc, e⟩
    have w := zy_w_pp hq h1 h4 hc
    refine ⟨q, hq, a, fun m hm hn => ?_⟩
    rw [e, w.2 m hm, if_neg hn]
theorem zy_r39 {post : Int32 → SY → Prop} {P : Nat → Int32} {z i c : Nat} {S : Nat → Prop} (hz : z < 4) (h1 : 1 ≤ i) (h4 : i < 4) (hc : c < 10) (hY : zd_Y P (1000 * z) S)
    (h : ∀ r P' M', (∀ q, (q < 1000 * z ∨ 1000 * z + 1000 ≤ q) → P' q = P q) → zd_Y P' (1000 * z) (fun s => ∃ q, q < 1000 ∧ S q ∧ s = zy_w q i c) → zd_An (fun s => ∃ q, q < 1000 ∧ S q ∧ s = zy_w q i c) r → post r (P', M')) : ∀ d p M, p + d = 1000 → zd_Y M 0 (fun s => ∃ q, q < p ∧ S q ∧ s = zy_w q i c) → wY_reset_39 post (nI z) (nI i) (nI c) (d + 1) (nI p) P M := by
  intro d
  induction d with
  | zero =>
    intro p M hp hM
    have e : p = 1000 := by omega
    subst e
    refine br_t (nI_le (a := 1000) (b := 1000) (by omega) (by decide)) (zy_take hz hM (fun r P' hf hT hr => ?_))
    exact h r P' M hf hT hr
  | succ d ih =>
    intro p M hp hM
    refine br_f (nI_ge (a := p) (b := 1000) (by omega) (by decide)) ⟨by rw [zn_iy]; exact vp_in_nI (by omega) (by decide), ?_⟩
    rw [zn_iy, nI_clamp (n := 1000 * z + p) (by omega)]
    have q := zd_Y_0 hY (p := p) (by omega)
    refine ⟨fun w => nm_r (nI_1 p) (ih (p + 1) M (by omega) (zd_Y_iff (fun s hs => ?_) hM)), fun w => ?_⟩
    · constructor
      · rintro ⟨k, hk, a, b⟩
        by_cases c : k = p
        · exact absurd (c ▸ a) (q.mp w)
        · exact ⟨k, by omega, a, b⟩
      · rintro ⟨k, hk, a, b⟩
        exact ⟨k, by omega, a, b⟩
    · have sp : S p := by
        by_cases s : S p
        · exact s
        · exact absurd (q.mpr s) w
      have hw := (zy_w_pp (p := p) (by omega) h1 h4 hc).1
      refine zy_with (by omega) h1 h4 hc ⟨vp_in_nI hw (by decide), fun M1 e1 => nm_r (nI_1 p) (ih (p + 1) M1 (by omega) ?_)⟩
      rw [nI_clamp (by omega), zn_b (x := 1) (Or.inr rfl)] at e1
      rw [e1]
      refine zy_put hw hM (fun s hs => ?_)
      constructor
      · rintro ⟨k, hk, a, b⟩
        by_cases c : k = p
        · exact Or.inr (c ▸ b)
        · exact Or.inl ⟨k, by omega, a, b⟩
      · rintro (⟨k, hk, a, b⟩ | b)
        · exact ⟨k, by omega, a, b⟩
        · exact ⟨p, by omega, sp, b⟩
theorem zy_vreset {post : Int32 → SY → Prop} {S : Nat → Nat → Prop} {P M : Nat → Int32} {z i c : Nat} (hY : zd_YR S P) (hz : z < 4) (hi1 : 1 ≤ i) (hi : i < 4) (hc : c < 10) (h : ∀ r P' M', zd_An (zd_rs (S z) i c) r → zd_YR (zd_set S z (zd_rs (S z) i c)) P' → post r (P', M')) : wpY_reset post (P, M) (nI z) (nI i) (nI c) := by
  unfold wpY_reset
  dsimp only
  refine zy_z1 hz ?_
  refine br_f (by decide) ?_
  refine br_f (nI_nlt (a := i) (b := 1) (by omega) (by omega)) ?_
  refine br_f (nI_nlt (a := 3) (b := i) (by omega) (by omega)) ?_
  refine br_f (nI_pos (by omega)) ?_
  refine br_t (nI_le (a := c) (b := 9) (by omega) (by decide)) ?_
  refine zy_clear (fun M1 hM1 => ⟨1001, ?_⟩)
  refine zy_r39 hz hi1 hi hc (hY z hz) (fun r P' M' hf hT hr => ?_) 1000 0 M1 rfl (zd_Y_iff (fun s hs => ⟨fun ⟨q, hq, _⟩ => absurd hq (by omega), fun f => f.elim⟩) hM1)
  exact h r P' M' (zd_An_iff (fun s hs => zy_w_rs hi1 hi hc hs) hr) (zd_YR_s hY hf (zd_Y_iff (fun s hs => zy_w_rs hi1 hi hc hs) hT))
theorem zy_g38 {post : Int32 → SY → Prop} {J : Int32 → (Nat → Int32) → (Nat → Int32) → Prop} {P : Nat → Int32} {z i p : Nat} (hz : z < 4) (hp : p < 1000) (h1 : 1 ≤ i) (h4 : i < 4) (hs : ¬ P (1000 * z + p) = 0) (V : Nat → Prop) (h : ∀ M', zd_Y M' 0 (fun s => V s ∨ ∃ c, c < 10 ∧ s = zy_w p i c) → J (nI (p + 1)) P M') : ∀ d c M, c + d = 10 → zd_Y M 0 (fun s => V s ∨ ∃ c', c' < c ∧ s = zy_w p i c') → wY_forget_38 post J (nI z) (nI i) (nI p) (d + 1) (nI c) P M := by
  intro d
  induction d with
  | zero =>
    intro c M hc hM
    have e : c = 10 := by omega
    subst e
    exact br_t (nI_le (a := 10) (b := 10) (by omega) (by decide)) (nm_r (nI_1 p) (h M hM))
  | succ d ih =>
    intro c M hc hM
    refine br_f (nI_ge (a := c) (b := 10) (by omega) (by decide)) ⟨by rw [zn_iy]; exact vp_in_nI (by omega) (by decide), ?_⟩
    rw [zn_iy, nI_clamp (n := 1000 * z + p) (by omega)]
    have hw := (zy_w_pp (p := p) (c := c) hp h1 h4 (by omega)).1
    refine br_f hs (zy_with hp h1 h4 (by omega) ⟨vp_in_nI hw (by decide), fun M1 e1 => nm_r (nI_1 c) (ih (c + 1) M1 (by omega) ?_)⟩)
    rw [nI_clamp (by omega), zn_b (x := 1) (Or.inr rfl)] at e1
    rw [e1]
    refine zy_put hw hM (fun s hs => ?_)
    constructor
    · rintro (v | ⟨k, hk, b⟩)
      · exact Or.inl (Or.inl v)
      · by_cases e : k = c
        · exact Or.inr (e ▸ b)
        · exact Or.inl (Or.inr ⟨k, by omega, b⟩)
    · rintro ((v | ⟨k, hk, b⟩) | b)
      · exact Or.inl v
      · exact Or.inr ⟨k, by omega, b⟩
      · exact Or.inr ⟨c, by omega, b⟩
theorem zy_g28 {post : Int32 → SY → Prop} {P : Nat → Int32} {z i : Nat} {S : Nat → Prop} (hz : z < 4) (h1 : 1 ≤ i) (h4 : i < 4) (hY : zd_Y P (1000 * z) S)
    (h : ∀ r P' M', (∀ q, (q < 1000 * z ∨ 1000 * z + 1000 ≤ q) → P' q = P q) → zd_Y P' (1000 * z) (fun s => ∃ q, q < 1000 ∧ S q ∧ ∃ c, c < 10 ∧ s = zy_w q i c) → zd_An (fun s => ∃ q, q < 1000 ∧ S q ∧ ∃ c, c < 10 ∧ s = zy_w q i c) r → post r (P', M')) : ∀ d p M, p + d = 1000 → zd_Y M 0 (fun s => ∃ q, q < p ∧ S q ∧ ∃ c, c < 10 ∧ s = zy_w q i c) → wY_forget_28 post (nI z) (nI i) (d + 1) (nI p) P M := by
  intro d
  induction d with
  | zero =>
    intro p M hp hM
    have e : p = 1000 := by omega
    subst e
    refine br_t (nI_le (a := 1000) (b := 1000) (by omega) (by decide)) (zy_take hz hM (fun r P' hf hT hr => ?_))
    exact h r P' M hf hT hr
  | succ d ih =>
    intro p M hp hM
    have q := zd_Y_0 hY (p := p) (by omega)
    refine br_f (nI_ge (a := p) (b := 1000) (by omega) (by decide)) ?_
    by_cases s : S p
    · refine ⟨11, zy_g38 hz (by omega) h1 h4 (fun e => q.mp e s) (fun s => ∃ q, q < p ∧ S q ∧ ∃ c, c < 10 ∧ s = zy_w q i c) (fun M' hM' => ih (p + 1) M' (by omega) (zd_Y_iff (fun t ht => ?_) hM')) 10 0 M rfl (zd_Y_iff (fun t ht => ?_) hM)⟩
      · constructor
        · rintro ⟨k, hk, a, b⟩
          by_cases c : k = p
          · exact Or.inr (c ▸ b)
          · exact Or.inl ⟨k, by omega, a, b⟩
        · rintro (⟨k, hk, a, b⟩ | b)
          · exact ⟨k, by omega, a, b⟩
          · exact ⟨p, by omega, s, b⟩
      · exact ⟨fun u => u.elim id (fun ⟨k, hk, _⟩ => absurd hk (by omega)), Or.inl⟩
    · refine ⟨1, br_f (by decide) ⟨by rw [zn_iy]; exact vp_in_nI (by omega) (by decide), ?_⟩⟩
      rw [zn_iy, nI_clamp (n := 1000 * z + p) (by omega)]
      refine br_t (q.mpr s) (nm_r (nI_1 p) (ih (p + 1) M (by omega) (zd_Y_iff (fun t ht => ?_) hM)))
      constructor
      · rintro ⟨k, hk, a, b⟩
        by_cases c : k = p
        · exact absurd (c ▸ a) s
        · exact ⟨k, by omega, a, b⟩
      · rintro ⟨k, hk, a, b⟩
        exact ⟨k, by omega, a, b⟩
theorem zy_vforget {post : Int32 → SY → Prop} {S : Nat → Nat → Prop} {P M : Nat → Int32} {z i : Nat} (hY : zd_YR S P) (hz : z < 4) (hi1 : 1 ≤ i) (hi : i < 4) (h : ∀ r P' M', zd_An (zd_fg (S z) i) r → zd_YR (zd_set S z (zd_fg (S z) i)) P' → post r (P', M')) : wpY_forget post (P, M) (nI z) (nI i) := by
  unfold wpY_forget
  dsimp only
  refine zy_z1 hz ?_
  refine br_f (by decide) ?_
  refine br_f (nI_nlt (a := i) (b := 1) (by omega) (by omega)) ?_
  refine br_t (nI_le (a := i) (b := 3) (by omega) (by decide)) ?_
  refine zy_clear (fun M1 hM1 => ⟨1001, ?_⟩)
  refine zy_g28 hz hi1 hi (hY z hz) (fun r P' M' hf hT hr => ?_) 1000 0 M1 rfl (zd_Y_iff (fun s hs => ⟨fun ⟨q, hq, _⟩ => absurd hq (by omega), fun f => f.elim⟩) hM1)
  exact h r P' M' (zd_An_iff (fun s hs => zy_w_fg hi1 hi hs) hr) (zd_YR_s hY hf (zd_Y_iff (fun s hs => zy_w_fg hi1 hi hs) hT))
end
section
/-! looking: empty, has, bound, within -/
def zd_Em (S : Nat → Prop) (r : Int32) : Prop := (r = 1 ∧ ∀ p, p < 1000 → ¬ S p) ∨ (r = 0 ∧ ∃ p, p < 1000 ∧ S p)
theorem zd_Em_u {S : Nat → Prop} {r r' : Int32} (h : zd_Em S r) (h' : zd_Em S r') : r' = r := by
  rcases h with ⟨a, b⟩ | ⟨a, p, hp, s⟩ <;> rcases h' with ⟨a', b'⟩ | ⟨a', p', hp', s'⟩
  · rw [a, a']
  · exact absurd s' (b p' hp')
  · exact absurd s (b' p hp)
  · rw [a, a']
theorem zx_vempty {post : Int32 → Prop} {S : Nat → Nat → Prop} {B H : Nat → Int32} {z : Nat} (hX : zd_XR S B H) (hz : z < 4) (h : ∀ r, zd_Em (S z) r → post r) : wpX_empty post (B, H) (nI z) := by
  unfold wpX_empty
  dsimp only
  refine zx_bad0 hz ?_
  refine br_t rfl ?_
  refine ⟨vp_in_nI (by omega) (by decide), ?_⟩
  rw [nI_clamp (n := z) (by omega)]
  rcases hX z hz with ⟨a, b⟩ | ⟨a, b, e⟩
  · exact br_f (by rw [a]; decide) (h 1 (Or.inl ⟨rfl, b⟩))
  · obtain ⟨p, hp, hi⟩ := zd_ne b
    exact br_t a (h 0 (Or.inr ⟨rfl, p, hp, (e p hp).mpr hi⟩))
theorem zy_vempty {post : Int32 → Prop} {S : Nat → Nat → Prop} {P M : Nat → Int32} {z : Nat} (hY : zd_YR S P) (hz : z < 4) (h : ∀ r, zd_Em (S z) r → post r) : wpY_empty post (P, M) (nI z) := by
  unfold wpY_empty
  dsimp only
  refine zy_z1 hz ?_
  refine br_f (by decide) ?_
  refine zy_some hz (hY z hz) (fun r hr => ?_)
  rcases hr with ⟨a, b⟩ | ⟨a, b⟩
  · exact br_f (by rw [a]; decide) (h 0 (Or.inr ⟨rfl, b⟩))
  · exact br_t a (h 1 (Or.inl ⟨rfl, b⟩))
/-- has -/
def zd_Ha (S : Nat → Prop) (p : Nat) (r : Int32) : Prop := (r = 1 ∧ S p) ∨ (r = 0 ∧ ¬ S p)
theorem zd_Ha_u {S : Nat → Prop} {p : Nat} {r r' : Int32} (h : zd_Ha S p r) (h' : zd_Ha S p r') : r' = r := by
  rcases h with ⟨a, b⟩ | ⟨a, b⟩ <;> rcases h' with ⟨a', b'⟩ | ⟨a', b'⟩
  · rw [a, a']
  · exact absurd b b'
  · exact absurd b' b
  · rw [a, a']
theorem zx_num {post : Int32 → Prop} {u : SX} {p i : Nat} (hp : p < 1000) (hi : i < 4) (h : post (nI (zd_pp p i))) : wpX_numberOf post u (nI p) (nI i) := by
  obtain ⟨B, H⟩ := u
  rcases zn_4 hi with rfl | rfl | rfl | rfl
  · exact br_t rfl h
  · refine br_f (by decide) (br_t rfl ⟨by decide, ?_⟩)
    rw [zn_rem10 hp]
    exact h
  · refine br_f (by decide) (br_f (by decide) (br_t rfl ⟨by decide, by decide, ?_⟩))
    rw [zn_div10 hp, zn_rem10 (by omega)]
    exact h
  · refine br_f (by decide) (br_f (by decide) (br_f (by decide) ⟨by decide, ?_⟩))
    rw [zn_div100 hp]
    exact h
/-- all so far (1), or not (0) -/
def zd_all (Q : Nat → Prop) (m : Nat) (b : Int32) : Prop := (b = 1 ∧ ∀ t, t < m → Q t) ∨ (b = 0 ∧ ∃ t, t < m ∧ ¬ Q t)
theorem zd_all_0 (Q : Nat → Prop) : zd_all Q 0 1 := Or.inl ⟨rfl, fun t ht => absurd ht (by omega)⟩
theorem zd_all_k {Q : Nat → Prop} {m : Nat} {b : Int32} (h : zd_all Q m b) (hb : b = 0) : zd_all Q (m + 1) 0 := by
  rcases h with ⟨a, _⟩ | ⟨_, t, ht, n⟩
  · rw [a] at hb
    exact absurd hb (by decide)
  · exact Or.inr ⟨rfl, t, by omega, n⟩
theorem zd_all_n {Q : Nat → Prop} {m : Nat} (h : ¬ Q m) : zd_all Q (m + 1) 0 := Or.inr ⟨rfl, m, by omega, h⟩
theorem zd_all_p {Q : Nat → Prop} {m : Nat} {b : Int32} (h : zd_all Q m b) (hb : ¬ b = 0) (hq : Q m) : zd_all Q (m + 1) 1 := by
  rcases h with ⟨_, n⟩ | ⟨a, _⟩
  · refine Or.inl ⟨rfl, fun t ht => ?_⟩
    by_cases e : t = m
    · rw [e]; exact hq
    · exact n t (by omega)
  · exact absurd a hb
theorem zd_all_01 {Q : Nat → Prop} {m : Nat} {b : Int32} (h : zd_all Q m b) : b = 0 ∨ b = 1 := by
  rcases h with ⟨a, _⟩ | ⟨a, _⟩
  · exact Or.inr a
  · exact Or.inl a
theorem zx_h35 {post : Int32 → Prop} {B H : Nat → Int32} {z p : Nat} (hz : z < 4) (hp : p < 1000) (h : ∀ b, zd_all (fun t => zd_df p (t / 4) (t % 4) ≤ (B (16 * z + t)).toInt) 16 b → post b) : ∀ d m b, m + d = 16 → zd_all (fun t => zd_df p (t / 4) (t % 4) ≤ (B (16 * z + t)).toInt) m b → wX_has_35 post (nI z) (nI p) B H (d + 1) b (nI m) := by
  intro d
  induction d with
  | zero =>
    intro m b hm hb
    have e : m = 16 := by omega
    subst e
    exact br_t (nI_le (a := 16) (b := 16) (by omega) (by decide)) ⟨zn_bn (zd_all_01 hb), h b hb⟩
  | succ d ih =>
    intro m b hm hb
    have hm' : m < 16 := by omega
    refine br_f (nI_ge (a := m) (b := 16) (by omega) (by decide)) ⟨by decide, ?_⟩
    rw [zn_rem4 hm', zn_div4 hm']
    refine zx_num hp (by omega) ⟨by decide, zx_num hp (by omega) ?_⟩
    have dt : (nI (zd_pp p (m / 4)) - nI (zd_pp p (m % 4))).toInt = zd_df p (m / 4) (m % 4) := zy_dI_t hp
    refine br_c (fun c => nm_r (nI_1 m) (ih (m + 1) 0 (by omega) (zd_all_k hb c))) (fun c => ⟨by rw [zn_ix2]; exact vp_in_nI (by omega) (by decide), ?_⟩)
    rw [zn_ix2, nI_clamp (n := 16 * z + m) (by omega), Int32.lt_iff_toInt_lt, dt]
    exact br_c (fun q => nm_r (nI_1 m) (ih (m + 1) 0 (by omega) (zd_all_n (by omega)))) (fun q => nm_r (nI_1 m) (ih (m + 1) 1 (by omega) (zd_all_p hb c (by omega))))
theorem zd_in_16 {B : Nat → Int32} {z p : Nat} : zd_in (zd_D B z) p ↔ ∀ t, t < 16 → zd_df p (t / 4) (t % 4) ≤ (B (16 * z + t)).toInt := by
  constructor
  · intro h t ht
    have a := h (t / 4) (t % 4) (by omega) (by omega)
    have e : zd_D B z (t / 4) (t % 4) = (B (16 * z + t)).toInt := by
      show (B (16 * z + 4 * (t / 4) + t % 4)).toInt = _
      rw [show 16 * z + 4 * (t / 4) + t % 4 = 16 * z + t from by omega]
    rw [e] at a
    exact a
  · intro h i j hi hj
    have a := h (4 * i + j) (by omega)
    rw [show (4 * i + j) / 4 = i from by omega, show (4 * i + j) % 4 = j from by omega, ← Nat.add_assoc] at a
    exact a
theorem zx_vhas {post : Int32 → Prop} {S : Nat → Nat → Prop} {B H : Nat → Int32} {z p : Nat} (hX : zd_XR S B H) (hz : z < 4) (hp : p < 1000) (h : ∀ r, zd_Ha (S z) p r → post r) : wpX_has post (B, H) (nI z) (nI p) := by
  unfold wpX_has
  dsimp only
  refine zx_bad0 hz ?_
  refine br_t rfl ?_
  refine ⟨vp_in_nI (by omega) (by decide), ?_⟩
  rw [nI_clamp (n := z) (by omega)]
  rcases hX z hz with ⟨a, b⟩ | ⟨a, b, e⟩
  · exact br_f (by rw [a]; decide) (h 0 (Or.inr ⟨rfl, b p hp⟩))
  · refine br_t a (br_f (nI_pos (by omega)) (br_t (nI_le (a := p) (b := 999) (by omega) (by decide)) ⟨17, zx_h35 hz hp (fun r hr => h r ?_) 16 0 1 rfl (zd_all_0 _)⟩))
    rcases hr with ⟨q, n⟩ | ⟨q, t, ht, n⟩
    · exact Or.inl ⟨q, (e p hp).mpr (zd_in_16.mpr n)⟩
    · exact Or.inr ⟨q, fun s => n (zd_in_16.mp ((e p hp).mp s) t ht)⟩
theorem zy_vhas {post : Int32 → Prop} {S : Nat → Nat → Prop} {P M : Nat → Int32} {z p : Nat} (hY : zd_YR S P) (hz : z < 4) (hp : p < 1000) (h : ∀ r, zd_Ha (S z) p r → post r) : wpY_has post (P, M) (nI z) (nI p) := by
  unfold wpY_has
  dsimp only
  refine zy_z1 hz ?_
  refine br_f (by decide) ?_
  refine br_f (nI_pos (by omega)) ?_
  refine br_f (nI_nlt (a := 999) (b := p) (by omega) (by decide)) ?_
  refine ⟨by rw [zn_iy]; exact vp_in_nI (by omega) (by decide), ?_⟩
  rw [zn_iy, nI_clamp (n := 1000 * z + p) (by omega)]
  have q := zd_Y_0 (hY z hz) hp
  refine br_c (fun c => h 0 (Or.inr ⟨rfl, q.mp c⟩)) (fun c => h 1 (Or.inl ⟨rfl, ?_⟩))
  by_cases s : S z p
  · exact s
  · exact absurd (q.mpr s) c
theorem zx_vhas0 {post : Int32 → Prop} {S : Nat → Nat → Prop} {B H : Nat → Int32} {z : Nat} {v : Int32} (hX : zd_XR S B H) (hz : z < 4) (hv : v < 0 ∨ ¬ v ≤ 999) (h : post 0) : wpX_has post (B, H) (nI z) v := by
  unfold wpX_has
  dsimp only
  refine zx_bad0 hz ?_
  refine br_t rfl ?_
  refine ⟨vp_in_nI (by omega) (by decide), ?_⟩
  refine br_c (fun _ => ?_) (fun _ => h)
  by_cases c : v < 0
  · exact br_t c h
  · rcases hv with q | q
    · exact absurd q c
    · exact br_f c (br_f q h)
theorem zy_vhas0 {post : Int32 → Prop} {P M : Nat → Int32} {z : Nat} {v : Int32} (hz : z < 4) (hv : v < 0 ∨ ¬ v ≤ 999) (h : post 0) : wpY_has post (P, M) (nI z) v := by
  unfold wpY_has
  dsimp only
  refine zy_z1 hz ?_
  refine br_f (by decide) ?_
  by_cases c : v < 0
  · exact br_t c h
  · rcases hv with q | q
    · exact absurd q c
    · exact br_f c (br_t (Int32.not_le.mp q) h)
/-- bound -/
theorem zx_vbound {post : Int32 → Prop} {S : Nat → Nat → Prop} {B H : Nat → Int32} {z m : Nat} (hX : zd_XR S B H) (hz : z < 4) (hm : m < 16) (hd : m / 4 ≠ m % 4) (h : ∀ r, zd_Gr (S z) m 1000 r → post r) : wpX_bound post (B, H) (nI z) (nI m) := by
  unfold wpX_bound
  dsimp only
  refine zx_bad0 hz ?_
  refine br_t rfl ?_
  refine zx_bp0 hm hd ?_
  refine br_t rfl ?_
  refine ⟨vp_in_nI (by omega) (by decide), ?_⟩
  rw [nI_clamp (n := z) (by omega)]
  rcases hX z hz with ⟨a, b⟩ | ⟨a, b, e⟩
  · exact br_f (by rw [a]; decide) (h (-2000) (Or.inl ⟨rfl, b⟩))
  · refine br_t a ⟨by rw [zn_ix2]; exact vp_in_nI (by omega) (by decide), h _ ?_⟩
    rw [zn_ix2, nI_clamp (n := 16 * z + m) (by omega)]
    refine Or.inr ⟨?_, fun p hp s => zd_in_16.mp ((e p hp).mp s) m hm⟩
    obtain ⟨p, hp, hi, hg⟩ := zd_grt b (i := m / 4) (j := m % 4) (by omega) (by omega)
    refine ⟨p, hp, (e p hp).mpr hi, hg.trans ?_⟩
    show (B (16 * z + 4 * (m / 4) + m % 4)).toInt = _
    rw [show 16 * z + 4 * (m / 4) + m % 4 = 16 * z + m from by omega]
theorem zy_vbound {post : Int32 → Prop} {S : Nat → Nat → Prop} {P M : Nat → Int32} {z m : Nat} (hY : zd_YR S P) (hz : z < 4) (hm : m < 16) (hd : m / 4 ≠ m % 4) (h : ∀ r, zd_Gr (S z) m 1000 r → post r) : wpY_bound post (P, M) (nI z) (nI m) := by
  unfold wpY_bound
  dsimp only
  refine zy_z1 hz ?_
  refine br_f (by decide) ?_
  refine zy_p1 hm hd ?_
  refine br_f (by decide) ?_
  exact zy_grt hz hm (hY z hz) h
/-- within -/
def zd_Wi (S T : Nat → Prop) (r : Int32) : Prop := (r = 1 ∧ ∀ p, p < 1000 → S p → T p) ∨ (r = 0 ∧ ∃ p, p < 1000 ∧ S p ∧ ¬ T p)
theorem zd_Wi_u {S T : Nat → Prop} {r r' : Int32} (h : zd_Wi S T r) (h' : zd_Wi S T r') : r' = r := by
  rcases h with ⟨a, b⟩ | ⟨a, p, hp, s, n⟩ <;> rcases h' with ⟨a', b'⟩ | ⟨a', p', hp', s', n'⟩
  · rw [a, a']
  · exact absurd (b p' hp' s') n'
  · exact absurd (b' p hp s) n
  · rw [a, a']
theorem zx_w48 {post : Int32 → Prop} {B H : Nat → Int32} {z y : Nat} (hz : z < 4) (hy : y < 4) (h : ∀ b, zd_all (fun t => (B (16 * z + t)).toInt ≤ (B (16 * y + t)).toInt) 16 b → post b) : ∀ d m b, m + d = 16 → zd_all (fun t => (B (16 * z + t)).toInt ≤ (B (16 * y + t)).toInt) m b → wX_within_48 post (nI z) (nI y) B H (d + 1) b (nI m) := by
  intro d
  induction d with
  | zero =>
    intro m b hm hb
    have e : m = 16 := by omega
    subst e
    exact br_t (nI_le (a := 16) (b := 16) (by omega) (by decide)) ⟨zn_bn (zd_all_01 hb), h b hb⟩
  | succ d ih =>
    intro m b hm hb
    refine br_f (nI_ge (a := m) (b := 16) (by omega) (by decide)) ?_
    refine br_c (fun c => nm_r (nI_1 m) (ih (m + 1) 0 (by omega) (zd_all_k hb c))) (fun c => ⟨by rw [zn_ix2]; exact vp_in_nI (by omega) (by decide), by rw [zn_ix2]; exact vp_in_nI (by omega) (by decide), ?_⟩)
    rw [zn_ix2 z m, zn_ix2 y m, nI_clamp (n := 16 * z + m) (by omega), nI_clamp (n := 16 * y + m) (by omega), Int32.lt_iff_toInt_lt]
    exact br_c (fun q => nm_r (nI_1 m) (ih (m + 1) 0 (by omega) (zd_all_n (by omega)))) (fun q => nm_r (nI_1 m) (ih (m + 1) 1 (by omega) (zd_all_p hb c (by omega))))
theorem zx_vwithin {post : Int32 → Prop} {S : Nat → Nat → Prop} {B H : Nat → Int32} {z y : Nat} (hX : zd_XR S B H) (hz : z < 4) (hy : y < 4) (h : ∀ r, zd_Wi (S z) (S y) r → post r) : wpX_within post (B, H) (nI z) (nI y) := by
  unfold wpX_within
  dsimp only
  refine zx_bad0 hz ?_
  refine br_t rfl ?_
  refine zx_bad0 hy ?_
  refine br_t rfl ?_
  refine ⟨vp_in_nI (by omega) (by decide), ?_⟩
  rw [nI_clamp (n := z) (by omega), nI_clamp (n := y) (by omega)]
  have hb := zn_bn (zd_X_01 (hX z hz))
  rcases hX z hz with ⟨a, b⟩ | ⟨a, b, e⟩
  · refine br_f (by rw [a]; decide) ⟨vp_in_nI (by omega) (by decide), hb, h _ (Or.inl ⟨a, fun p hp s => absurd s (b p hp)⟩)⟩
  · refine br_t a ⟨vp_in_nI (by omega) (by decide), ?_⟩
    rcases hX y hy with ⟨a', b'⟩ | ⟨a', b', e'⟩
    · refine br_f (by rw [a']; decide) ⟨vp_in_nI (by omega) (by decide), hb, h _ (Or.inr ⟨a, ?_⟩)⟩
      obtain ⟨p, hp, hi⟩ := zd_ne b
      exact ⟨p, hp, (e p hp).mpr hi, b' p hp⟩
    · refine br_t a' ⟨17, zx_w48 hz hy (fun r hr => h r ?_) 16 0 1 rfl (zd_all_0 _)⟩
      rcases hr with ⟨q, n⟩ | ⟨q, t, ht, n⟩
      · refine Or.inl ⟨q, fun p hp s => (e' p hp).mpr (zd_in_16.mpr (fun t ht => ?_))⟩
        have w := zd_in_16.mp ((e p hp).mp s) t ht
        have w' := n t ht
        omega
      · refine Or.inr ⟨q, ?_⟩
        obtain ⟨p, hp, hi, hg⟩ := zd_grt b (i := t / 4) (j := t % 4) (by omega) (by omega)
        refine ⟨p, hp, (e p hp).mpr hi, fun s => n ?_⟩
        have w := zd_in_16.mp ((e' p hp).mp s) t ht
        have g : zd_D B z (t / 4) (t % 4) = (B (16 * z + t)).toInt := by
          show (B (16 * z + 4 * (t / 4) + t % 4)).toInt = _
          rw [show 16 * z + 4 * (t / 4) + t % 4 = 16 * z + t from by omega]
        omega
theorem zy_w20 {post : Int32 → Prop} {P M : Nat → Int32} {z y : Nat} {S T : Nat → Prop} (hz : z < 4) (hy : y < 4) (hS : zd_Y P (1000 * z) S) (hT : zd_Y P (1000 * y) T) (h : ∀ r, zd_Wi S T r → post r) : ∀ d p, p + d = 1000 → (∀ q, q < p → S q → T q) → wY_within_20 post (nI z) (nI y) P M (d + 1) (nI p) := by
  intro d
  induction d with
  | zero =>
    intro p hp hn
    have e : p = 1000 := by omega
    subst e
    exact br_t (nI_le (a := 1000) (b := 1000) (by omega) (by decide)) (h 1 (Or.inl ⟨rfl, hn⟩))
  | succ d ih =>
    intro p hp hn
    refine br_f (nI_ge (a := p) (b := 1000) (by omega) (by decide)) ⟨by rw [zn_iy]; exact vp_in_nI (by omega) (by decide), ?_⟩
    rw [zn_iy z p, zn_iy y p, nI_clamp (n := 1000 * z + p) (by omega), nI_clamp (n := 1000 * y + p) (by omega)]
    have q := zd_Y_0 hS (p := p) (by omega)
    have q' := zd_Y_0 hT (p := p) (by omega)
    refine br_c (fun c => nm_r (nI_1 p) (ih (p + 1) (by omega) (fun k hk s => ?_))) (fun c => ⟨vp_in_nI (by omega) (by decide), br_c (fun c' => h 0 (Or.inr ⟨rfl, p, by omega, ?_, q'.mp c'⟩)) (fun c' => nm_r (nI_1 p) (ih (p + 1) (by omega) (fun k hk s => ?_)))⟩)
    · by_cases e : k = p
      · exact absurd (e ▸ s) (q.mp c)
      · exact hn k (by omega) s
    · by_cases s : S p
      · exact s
      · exact absurd (q.mpr s) c
    · by_cases e : k = p
      · rw [e]
        by_cases s' : T p
        · exact s'
        · exact absurd (q'.mpr s') c'
      · exact hn k (by omega) s
theorem zy_vwithin {post : Int32 → Prop} {S : Nat → Nat → Prop} {P M : Nat → Int32} {z y : Nat} (hY : zd_YR S P) (hz : z < 4) (hy : y < 4) (h : ∀ r, zd_Wi (S z) (S y) r → post r) : wpY_within post (P, M) (nI z) (nI y) := by
  unfold wpY_within
  dsimp only
  refine zy_z1 hz ?_
  refine br_f (by decide) ?_
  refine zy_z1 hy ?_
  refine br_f (by decide) ?_
  exact ⟨1001, zy_w20 hz hy (hY z hz) (hY y hy) h 1000 0 rfl (fun q hq => absurd hq (by omega))⟩
end
section
/-! touches, least -/
def zd_Mt (S T : Nat → Prop) (d p : Nat) : Prop := (∀ m, 1 ≤ m → m < 4 → zd_pp p m + d < 10) ∧ S p ∧ T (p + 111 * d)
theorem zd_dec {p : Nat} (hp : p < 1000) : ∃ a b c, p = 100 * c + 10 * b + a ∧ a < 10 ∧ b < 10 ∧ c < 10 := by
  have h : p / 100 = p / 10 / 10 := by omega
  exact ⟨p % 10, p / 10 % 10, p / 100, by omega, by omega, by omega, by omega⟩
theorem zd_dig {a b c : Nat} (ha : a < 10) (hb : b < 10) : (100 * c + 10 * b + a) % 10 = a ∧ (100 * c + 10 * b + a) / 10 % 10 = b ∧ (100 * c + 10 * b + a) / 100 = c := by
  have h1 : (100 * c + 10 * b + a) / 10 = 10 * c + b := by omega
  refine ⟨by omega, by omega, by omega⟩
theorem zd_Mt_b {p d : Nat} (hp : p < 1000) (h : ∀ m, 1 ≤ m → m < 4 → zd_pp p m + d < 10) : p + 111 * d < 1000 ∧ ∀ m, 1 ≤ m → m < 4 → zd_pp (p + 111 * d) m = zd_pp p m + d := by
  have a : p % 10 + d < 10 := h 1 (by omega) (by omega)
  have b : p / 10 % 10 + d < 10 := h 2 (by omega) (by omega)
  have c : p / 100 + d < 10 := h 3 (by omega) (by omega)
  obtain ⟨x, y, w, e, hx, hy, hw⟩ := zd_dec hp
  obtain ⟨d1, d2, d3⟩ := zd_dig (c := w) hx hy
  rw [← e] at d1 d2 d3
  have e' : p + 111 * d = 100 * (w + d) + 10 * (y + d) + (x + d) := by omega
  obtain ⟨f1, f2, f3⟩ := zd_dig (a := x + d) (b := y + d) (c := w + d) (by omega) (by omega)
  rw [← e'] at f1 f2 f3
  refine ⟨by omega, fun m hm hm' => ?_⟩
  have q : m = 1 ∨ m = 2 ∨ m = 3 := by omega
  rcases q with rfl | rfl | rfl
  · show (p + 111 * d) % 10 = p % 10 + d
    omega
  · show (p + 111 * d) / 10 % 10 = p / 10 % 10 + d
    omega
  · show (p + 111 * d) / 100 = p / 100 + d
    omega
theorem zy_m58 {post : Int32 → Prop} {J : Int32 → Prop} {P M : Nat → Int32} {z y p d : Nat} {S T : Nat → Prop} (hz : z < 4) (hy : y < 4) (hp : p < 1000) (hS : zd_Y P (1000 * z) S) (hT : zd_Y P (1000 * y) T) (hd : ∀ m, 1 ≤ m → m < 4 → zd_pp p m + d < 10) (h1 : zd_Mt S T d p → post 1) (h0 : ¬ zd_Mt S T d p → J (nI (p + 1))) : wY_meets_58 post J (nI z) (nI y) (nI d) (nI p) 1 P M := by
  unfold wY_meets_58
  obtain ⟨hb, _⟩ := zd_Mt_b hp hd
  have e2 : 1000 * nI y + nI p + 111 * nI d = nI (1000 * y + (p + 111 * d)) := by
    rw [zn_iy, show (111 : Int32) = nI 111 from rfl, pk_mul, nI_add, Nat.add_assoc]
  refine br_f (by decide) ⟨by rw [zn_iy]; exact vp_in_nI (by omega) (by decide), ?_⟩
  rw [e2, zn_iy, nI_clamp (n := 1000 * z + p) (by omega), nI_clamp (n := 1000 * y + (p + 111 * d)) (by omega)]
  have q := zd_Y_0 hS hp
  have q' := zd_Y_0 hT hb
  refine br_c (fun c => nm_r (nI_1 p) (h0 (fun t => q.mp c t.2.1))) (fun c => ⟨vp_in_nI (by omega) (by decide), br_c (fun c' => nm_r (nI_1 p) (h0 (fun t => q'.mp c' t.2.2))) (fun c' => h1 ⟨hd, ?_, ?_⟩)⟩)
  · by_cases s : S p
    · exact s
    · exact absurd (q.mpr s) c
  · by_cases s : T (p + 111 * d)
    · exact s
    · exact absurd (q'.mpr s) c'
theorem zy_m3 {post : Int32 → Prop} {P M : Nat → Int32} {z y d : Nat} {S T : Nat → Prop} (hz : z < 4) (hy : y < 4) (hd : d < 10) (hS : zd_Y P (1000 * z) S) (hT : zd_Y P (1000 * y) T) (h : ∀ r, zd_An (zd_Mt S T d) r → post r) : ∀ n p, p + n = 1000 → (∀ q, q < p → ¬ zd_Mt S T d q) → wY_meets_3 post (nI z) (nI y) (nI d) P M (n + 1) (nI p) := by
  intro n
  induction n with
  | zero =>
    intro p hp hn
    have e : p = 1000 := by omega
    subst e
    exact br_t (nI_le (a := 1000) (b := 1000) (by omega) (by decide)) (h 0 (Or.inr ⟨rfl, hn⟩))
  | succ n ih =>
    intro p hp hn
    have hp' : p < 1000 := by omega
    have go : ¬ zd_Mt S T d p → wY_meets_3 post (nI z) (nI y) (nI d) P M (n + 1) (nI (p + 1)) := fun w => ih (p + 1) (by omega) (fun q hq => by
      by_cases e : q = p
      · rw [e]; exact w
      · exact hn q (by omega))
    have out : ∀ m, 1 ≤ m → m < 4 → ¬ zd_pp p m + d < 10 → wY_meets_57 post (wY_meets_3 post (nI z) (nI y) (nI d) P M (n + 1)) (nI z) (nI y) (nI d) (nI p) P M := by
      intro m hm hm' w
      unfold wY_meets_57 wY_meets_58
      exact br_t rfl (nm_r (nI_1 p) (go (fun t => w (t.1 m hm hm'))))
    have cmp : ∀ m, (10 ≤ nI (zd_pp p m) + nI d) ↔ ¬ zd_pp p m + d < 10 := fun m => by
      have t := zd_pp_le (i := m) hp'
      rw [nI_add, show (10 : Int32) = nI 10 from rfl, nI_leI (by omega) (by omega)]
      omega
    refine br_f (nI_ge (a := p) (b := 1000) (by omega) (by decide)) (zy_part (i := 1) hp' (by omega) ?_)
    refine br_c (fun c => out 1 (by omega) (by omega) ((cmp 1).mp c)) (fun c1 => zy_part (i := 2) hp' (by omega) ?_)
    refine br_c (fun c => out 2 (by omega) (by omega) ((cmp 2).mp c)) (fun c2 => zy_part (i := 3) hp' (by omega) ?_)
    refine br_c (fun c => out 3 (by omega) (by omega) ((cmp 3).mp c)) (fun c3 => ?_)
    refine zy_m58 hz hy hp' hS hT (fun m hm hm' => ?_) (fun t => h 1 (Or.inl ⟨rfl, p, hp', t⟩)) go
    have w : m = 1 ∨ m = 2 ∨ m = 3 := by omega
    by_cases u : zd_pp p m + d < 10
    · exact u
    · rcases w with rfl | rfl | rfl
      · exact absurd ((cmp 1).mpr u) c1
      · exact absurd ((cmp 2).mpr u) c2
      · exact absurd ((cmp 3).mpr u) c3
theorem zy_meets {post : Int32 → Prop} {P M : Nat → Int32} {z y d : Nat} {S T : Nat → Prop} (hz : z < 4) (hy : y < 4) (hd : d < 10) (hS : zd_Y P (1000 * z) S) (hT : zd_Y P (1000 * y) T) (h : ∀ r, zd_An (zd_Mt S T d) r → post r) : wpY_meets post (P, M) (nI z) (nI y) (nI d) :=
  ⟨1001, zy_m3 hz hy hd hS hT h 1000 0 rfl (fun q hq => absurd hq (by omega))⟩
theorem zd_Mt_0 {S T : Nat → Prop} (p : Nat) (hp : p < 1000) : zd_Mt S T 0 p ↔ S p ∧ T p := by
  constructor
  · intro h
    exact h.2
  · intro h
    refine ⟨fun m _ _ => ?_, h⟩
    have t := zd_pp_le (i := m) hp
    omega
theorem zy_vtouches {post : Int32 → Prop} {S : Nat → Nat → Prop} {P M : Nat → Int32} {z y : Nat} (hY : zd_YR S P) (hz : z < 4) (hy : y < 4) (h : ∀ r, zd_An (fun p => S z p ∧ S y p) r → post r) : wpY_touches post (P, M) (nI z) (nI y) := by
  unfold wpY_touches
  dsimp only
  refine zy_z1 hz ?_
  refine br_f (by decide) ?_
  refine zy_z1 hy ?_
  refine br_f (by decide) ?_
  refine zy_meets (d := 0) hz hy (by omega) (hY z hz) (hY y hy) (fun r hr => ?_)
  have hr' := zd_An_iff (fun p hp => (zd_Mt_0 p hp).symm) hr
  rcases hr' with ⟨a, b⟩ | ⟨a, b⟩
  · exact br_f (by rw [a]; decide) (h 1 (Or.inl ⟨rfl, b⟩))
  · exact br_t a (h 0 (Or.inr ⟨rfl, b⟩))
/-- a zone's flag -/
theorem zx_flag {B H : Nat → Int32} {z : Nat} {S : Nat → Prop} {A C : Prop} (hX : zd_X B H z S) (h0 : (∃ p, p < 1000 ∧ S p) → A) (h1 : (∀ p, p < 1000 → ¬ S p) → C) : (H z = 0 → A) ∧ (¬ H z = 0 → C) := by
  rcases hX with ⟨a, b⟩ | ⟨a, b, e⟩
  · exact br_f (by rw [a]; decide) (h1 b)
  · obtain ⟨p, hp, hi⟩ := zd_ne b
    exact br_t a (h0 ⟨p, hp, (e p hp).mpr hi⟩)
theorem zx_vtouches {post : Int32 → SX → Prop} {S : Nat → Nat → Prop} {B H : Nat → Int32} {z y : Nat} (hX : zd_XR S B H) (hz : z < 4) (hy : y < 4) (h : ∀ r B' H', zd_An (fun p => S z p ∧ S y p) r → zd_XR S B' H' → post r (B', H')) : wpX_touches post (B, H) (nI z) (nI y) := by
  unfold wpX_touches
  dsimp only
  refine zx_bad0 hz ?_
  refine br_t rfl ?_
  refine zx_bad0 hy ?_
  refine br_t rfl ?_
  have f1 : zd_fB 4 B (zf B (16 * 4) 16 (zx_cp B z)) := zd_fB_zf (by omega)
  have f2 : zd_fH 4 H (upd H 4 (H z)) := zd_fH_u 4 H _
  refine zx_copyTo (z := 4) (by omega) (by omega) (zd_X_01 (hX z hz)) ?_
  refine zx_mw (z := 4) (by omega) (by omega) (zx_copy_X (hX z hz)) (zd_X_f f1 f2 (by omega) (hX y hy)) (fun B' H' hB hH hT => ?_)
  have hR : zd_XR S B' H' := zd_XR_w (z := 4) (by omega) hX (zd_fB_t f1 hB) (zd_fH_t f2 hH)
  exact zx_flag hT (fun q => h 1 B' H' (Or.inl ⟨rfl, q⟩) hR) (fun q => h 0 B' H' (Or.inr ⟨rfl, q⟩) hR)
/-- least -/
def zd_Le (S : Nat → Prop) (r : Int32) : Prop := (r = -2000 ∧ ∀ p, p < 1000 → ¬ S p) ∨ ∃ p, p < 1000 ∧ r = nI p ∧ S p ∧ ∀ q, q < p → ¬ S q
theorem zd_Le_u {S : Nat → Prop} {r r' : Int32} (h : zd_Le S r) (h' : zd_Le S r') : r' = r := by
  rcases h with ⟨a, b⟩ | ⟨p, hp, a, s, b⟩ <;> rcases h' with ⟨a', b'⟩ | ⟨p', hp', a', s', b'⟩
  · rw [a, a']
  · exact absurd s' (b p' hp')
  · exact absurd s (b' p hp)
  · have e : p' = p := by
      by_cases c : p' < p
      · exact absurd s' (b p' c)
      · by_cases c' : p < p'
        · exact absurd s (b' p c')
        · omega
    rw [a, a', e]
theorem zy_l14 {post : Int32 → Prop} {P M : Nat → Int32} {z : Nat} {S : Nat → Prop} (hz : z < 4) (hY : zd_Y P (1000 * z) S) (h : ∀ r, zd_Le S r → post r) : ∀ d p, p + d = 1000 → (∀ q, q < p → ¬ S q) → wY_least_14 post (nI z) P M (d + 1) (nI p) := by
  intro d
  induction d with
  | zero =>
    intro p hp hn
    have e : p = 1000 := by omega
    subst e
    exact br_t (nI_le (a := 1000) (b := 1000) (by omega) (by decide)) (h _ (Or.inl ⟨rfl, hn⟩))
  | succ d ih =>
    intro p hp hn
    refine br_f (nI_ge (a := p) (b := 1000) (by omega) (by decide)) ⟨by rw [zn_iy]; exact vp_in_nI (by omega) (by decide), ?_⟩
    rw [zn_iy, nI_clamp (n := 1000 * z + p) (by omega)]
    by_cases s : S p
    · exact br_f (fun e => (zd_Y_0 hY (by omega)).mp e s) (h _ (Or.inr ⟨p, by omega, rfl, s, hn⟩))
    · refine br_t ((zd_Y_0 hY (by omega)).mpr s) (nm_r (nI_1 p) (ih (p + 1) (by omega) (fun q hq => ?_)))
      by_cases e : q = p
      · rw [e]; exact s
      · exact hn q (by omega)
theorem zy_vleast {post : Int32 → Prop} {S : Nat → Nat → Prop} {P M : Nat → Int32} {z : Nat} (hY : zd_YR S P) (hz : z < 4) (h : ∀ r, zd_Le (S z) r → post r) : wpY_least post (P, M) (nI z) := by
  unfold wpY_least
  dsimp only
  refine zy_z1 hz ?_
  refine br_f (by decide) ?_
  exact ⟨1001, zy_l14 hz (hY z hz) h 1000 0 rfl (fun q hq => absurd hq (by omega))⟩
/-- the upper numbers of a point, as one number -/
def zd_tp (i p : Nat) : Nat := if i = 0 then p else if i = 1 then p / 10 else if i = 2 then p / 100 else 0
theorem zd_tp_s {i p : Nat} (hi : i < 3) (hp : p < 1000) : zd_tp i p = 10 * zd_tp (i + 1) p + zd_pp p (i + 1) := by
  have q : i = 0 ∨ i = 1 ∨ i = 2 := by omega
  rcases q with rfl | rfl | rfl
  · show p = 10 * (p / 10) + p % 10
    omega
  · show p / 10 = 10 * (p / 100) + p / 10 % 10
    omega
  · show p / 100 = 10 * 0 + p / 100
    omega
theorem zx_l35 {post : Int32 → SX → Prop} {S : Nat → Nat → Prop} {z : Nat} (h : ∀ r B' H', zd_Le (S z) r → zd_XR S B' H' → post r (B', H')) : ∀ i k B H, i < 4 → k < 1000 → zd_XR S B H → zd_X B H 4 (fun p => S z p ∧ zd_tp i p = k) → (∃ p, p < 1000 ∧ S z p ∧ zd_tp i p = k) → (∀ q, q < 1000 → S z q → k ≤ zd_tp i q) → wX_least_35 post (i + 1) (nI k) (nI i) B H := by
  intro i
  induction i with
  | zero =>
    intro k B H hi hk hX h4 hne hle
    refine br_t (by decide) (h _ B H (Or.inr ⟨k, hk, rfl, ?_, fun q hq s => ?_⟩) hX)
    · obtain ⟨p, hp, s, e⟩ := hne
      have e' : p = k := e
      rw [← e']
      exact s
    · have t : k ≤ q := hle q (by omega) s
      omega
  | succ i ih =>
    intro k B H hi hk hX h4 hne hle
    obtain ⟨p0, hp0, s0, e0⟩ := hne
    rcases h4 with ⟨_, b⟩ | ⟨a, b, e⟩
    · exact absurd ⟨s0, e0⟩ (b p0 hp0)
    · have e1 : 64 + nI (i + 1) = nI (16 * 4 + (i + 1)) := nI_add 64 (i + 1)
      have e2 : 4 * nI (i + 1) = nI (4 * (i + 1)) := pk_mul 4 (i + 1)
      have r0 : zd_D B 4 0 (i + 1) = (B (16 * 4 + (i + 1))).toInt := rfl
      have rg := zd_rg b (i := 0) (j := i + 1) (by omega) hi
      have lo := b.2.2.1 (i + 1) hi
      obtain ⟨v, hv⟩ : ∃ v : Nat, (v : Int) = -(B (16 * 4 + (i + 1))).toInt := ⟨(-(B (16 * 4 + (i + 1))).toInt).toNat, by omega⟩
      have ev : -(B (16 * 4 + (i + 1))) = nI v := by
        refine zn_i ?_ (by omega)
        rw [zn_neg (by omega) (by omega)]
        exact hv.symm
      refine br_f (nI_nle (by omega) (by omega)) ⟨by rw [e1]; exact vp_in_nI (by omega) (by decide), ?_⟩
      intro x4 ex4 x2 ex2
      rw [e1, nI_clamp (n := 16 * 4 + (i + 1)) (by omega), ev] at ex4
      rw [ex4, show (10 : Int32) = nI 10 from rfl, pk_mul, nI_add] at ex2
      rw [e2, ex4]
      have hvt : (nI v).toInt = v := nI_toInt (by omega)
      have em1 : 4 * (i + 1) / 4 = i + 1 := by omega
      have em2 : 4 * (i + 1) % 4 = 0 := by omega
      refine zx_lotight (z := 4) (m := 4 * (i + 1)) (by omega) (by omega) (by omega) ⟨by omega, by omega⟩ a b (fun B' H' hB hH hS => ?_) (fun _ _ q => q)
      show ∀ x3 : Int32, x3 = nI (i + 1) + (-1) → wX_least_35 post (i + 1) x2 x3 B' H'
      intro x3 ex3
      rw [pk_m1] at ex3
      rw [ex3, ex2]
      have dfi : ∀ q, zd_df q (i + 1) 0 = zd_pp q (i + 1) := fun q => by
        unfold zd_df
        rw [zd_pp0]
        omega
      have df0 : ∀ q, zd_df q 0 (i + 1) = -(zd_pp q (i + 1) : Int) := fun q => by
        unfold zd_df
        rw [zd_pp0]
        omega
      have mn : ∀ q, q < 1000 → S z q → zd_tp (i + 1) q = k → v ≤ zd_pp q (i + 1) := fun q hq s t => by
        have w := (e q hq).mp ⟨s, t⟩ 0 (i + 1) (by omega) hi
        rw [df0] at w
        omega
      have key : ∀ q, q < 1000 → ((S z q ∧ zd_tp i q = k * 10 + v) ↔ (zd_in (zd_D B 4) q ∧ zd_df q (4 * (i + 1) / 4) (4 * (i + 1) % 4) ≤ (nI v).toInt)) := by
        intro q hq
        rw [em1, em2, dfi, hvt, ← e q hq]
        have ts := zd_tp_s (i := i) (by omega) hq
        have tl := zd_pp_le (i := i + 1) hq
        constructor
        · rintro ⟨s, t⟩
          have w := hle q hq s
          have g : zd_tp (i + 1) q = k := by omega
          exact ⟨⟨s, g⟩, by omega⟩
        · rintro ⟨⟨s, t⟩, w⟩
          have g := mn q hq s t
          exact ⟨s, by omega⟩
      obtain ⟨p1, hp1, hin1, hg1⟩ := zd_grt b (i := 0) (j := i + 1) (by omega) hi
      have sp1 := (e p1 hp1).mpr hin1
      have ts1 := zd_tp_s (i := i) (by omega) hp1
      rw [df0] at hg1
      have hk2 : zd_tp i p1 = k * 10 + v := by
        have t := sp1.2
        omega
      have hk1 : zd_tp i p1 < 1000 := by
        have q : i = 0 ∨ i = 1 ∨ i = 2 := by omega
        rcases q with rfl | rfl | rfl
        · exact hp1
        · show p1 / 10 < 1000
          omega
        · show p1 / 100 < 1000
          omega
      refine ih (k * 10 + v) B' H' (by omega) (by omega) (zd_XR_w (z := 4) (by omega) hX hB hH) (hS _ key) ⟨p1, hp1, sp1.1, hk2⟩ (fun q hq s => ?_)
      have ts := zd_tp_s (i := i) (by omega) hq
      have w := hle q hq s
      by_cases c : zd_tp (i + 1) q = k
      · have g := mn q hq s c
        omega
      · omega
theorem zx_vleast {post : Int32 → SX → Prop} {S : Nat → Nat → Prop} {B H : Nat → Int32} {z : Nat} (hX : zd_XR S B H) (hz : z < 4) (h : ∀ r B' H', zd_Le (S z) r → zd_XR S B' H' → post r (B', H')) : wpX_least post (B, H) (nI z) := by
  unfold wpX_least
  dsimp only
  refine zx_bad0 hz ?_
  refine br_t rfl ?_
  refine ⟨vp_in_nI (by omega) (by decide), ?_⟩
  rw [nI_clamp (n := z) (by omega)]
  rcases hX z hz with ⟨a, b⟩ | ⟨a, b, e⟩
  · exact br_f (by rw [a]; decide) (h _ B H (Or.inl ⟨rfl, b⟩) hX)
  · have f1 : zd_fB 4 B (zf B (16 * 4) 16 (zx_cp B z)) := zd_fB_zf (by omega)
    have f2 : zd_fH 4 H (upd H 4 (H z)) := zd_fH_u 4 H _
    refine br_t a (zx_copyTo (z := 4) (by omega) (by omega) (zd_X_01 (hX z hz)) ?_)
    obtain ⟨p, hp, hi⟩ := zd_ne b
    refine ⟨4, zx_l35 h 3 0 _ _ (by omega) (by omega) (zd_XR_w (z := 4) (by omega) hX f1 f2) (zd_X_iff (fun q _ => ⟨fun t => t.1, fun s => ⟨s, rfl⟩⟩) (zx_copy_X (hX z hz))) ⟨p, hp, (e p hp).mpr hi, rfl⟩ (fun _ _ _ => Nat.zero_le _)⟩
end
section
/-! meeting -/
def zd_Mx (S T : Nat → Prop) (d : Nat) : Prop := ∃ p, p < 1000 ∧ zd_Mt S T d p
def zd_Me (S T : Nat → Prop) (r : Int32) : Prop := (r = -2000 ∧ ∀ d, d < 10 → ¬ zd_Mx S T d) ∨ ∃ d, d < 10 ∧ r = nI d ∧ zd_Mx S T d ∧ ∀ k, k < d → ¬ zd_Mx S T k
theorem zd_Me_u {S T : Nat → Prop} {r r' : Int32} (h : zd_Me S T r) (h' : zd_Me S T r') : r' = r := by
  rcases h with ⟨a, b⟩ | ⟨p, hp, a, s, b⟩ <;> rcases h' with ⟨a', b'⟩ | ⟨p', hp', a', s', b'⟩
  · rw [a, a']
  · exact absurd s' (b p' hp')
  · exact absurd s (b' p hp)
  · have e : p' = p := by
      by_cases c : p' < p
      · exact absurd s' (b p' c)
      · by_cases c' : p < p'
        · exact absurd s (b' p c')
        · omega
    rw [a, a', e]
theorem zy_g22 {post : Int32 → Prop} {P M : Nat → Int32} {z y : Nat} {S T : Nat → Prop} (hz : z < 4) (hy : y < 4) (hS : zd_Y P (1000 * z) S) (hT : zd_Y P (1000 * y) T) (h : ∀ r, zd_Me S T r → post r) : ∀ n d, d + n = 10 → (∀ k, k < d → ¬ zd_Mx S T k) → wY_meeting_22 post (nI z) (nI y) P M (n + 1) (nI d) := by
  intro n
  induction n with
  | zero =>
    intro d hd hn
    have e : d = 10 := by omega
    subst e
    exact br_t (nI_le (a := 10) (b := 10) (by omega) (by decide)) (h _ (Or.inl ⟨rfl, hn⟩))
  | succ n ih =>
    intro d hd hn
    refine br_f (nI_ge (a := d) (b := 10) (by omega) (by decide)) (zy_meets hz hy (by omega) hS hT (fun r hr => ?_))
    rcases hr with ⟨a, b⟩ | ⟨a, b⟩
    · exact br_f (by rw [a]; decide) (h _ (Or.inr ⟨d, by omega, rfl, b, hn⟩))
    · refine br_t a (nm_r (nI_1 d) (ih (d + 1) (by omega) (fun k hk t => ?_)))
      by_cases e : k = d
      · subst e
        obtain ⟨p, hp, u⟩ := t
        exact b p hp u
      · exact hn k (by omega) t
theorem zy_vmeeting {post : Int32 → Prop} {S : Nat → Nat → Prop} {P M : Nat → Int32} {z y : Nat} (hY : zd_YR S P) (hz : z < 4) (hy : y < 4) (h : ∀ r, zd_Me (S z) (S y) r → post r) : wpY_meeting post (P, M) (nI z) (nI y) := by
  unfold wpY_meeting
  dsimp only
  refine zy_z1 hz ?_
  refine br_f (by decide) ?_
  refine zy_z1 hy ?_
  refine br_f (by decide) ?_
  exact ⟨11, zy_g22 hz hy (hY z hz) (hY y hy) h 10 0 rfl (fun q hq => absurd hq (by omega))⟩
/-- a zone moved up by d -/
def zd_mv (D : Nat → Nat → Int) (d : Int) : Nat → Nat → Int := fun a b => if a = 0 ∧ b ≠ 0 then D 0 b - d else if b = 0 ∧ a ≠ 0 then D a 0 + d else D a b
theorem zd_mv_1 {D : Nat → Nat → Int} {d : Int} {b : Nat} (hb : b ≠ 0) : zd_mv D d 0 b = D 0 b - d := if_pos ⟨rfl, hb⟩
theorem zd_mv_2 {D : Nat → Nat → Int} {d : Int} {a : Nat} (ha : a ≠ 0) : zd_mv D d a 0 = D a 0 + d := by
  unfold zd_mv
  rw [if_neg (by omega), if_pos ⟨rfl, ha⟩]
theorem zd_mv_3 {D : Nat → Nat → Int} {d : Int} {a b : Nat} (ha : a ≠ 0) (hb : b ≠ 0) : zd_mv D d a b = D a b := by
  unfold zd_mv
  rw [if_neg (by omega), if_neg (by omega)]
theorem zd_mv_4 {D : Nat → Nat → Int} {d : Int} : zd_mv D d 0 0 = D 0 0 := by
  unfold zd_mv
  rw [if_neg (by omega), if_neg (by omega)]
theorem zd_mv_in {D : Nat → Nat → Int} (hD : zd_Cl D) {d p : Nat} : zd_in (zd_mv D d) p ↔ ∃ q, q < 1000 ∧ zd_in D q ∧ ∀ m, 1 ≤ m → m < 4 → zd_pp p m = zd_pp q m + d := by
  constructor
  · intro h
    obtain ⟨q, hq, e, hin⟩ := zd_sol hD (fun m => if m = 0 then 0 else (zd_pp p m : Int) - d) (if_pos rfl) (by
      intro i j hi hj
      show (if i = 0 then (0 : Int) else (zd_pp p i : Int) - d) - (if j = 0 then (0 : Int) else (zd_pp p j : Int) - d) ≤ D i j
      have t := h i j hi hj
      unfold zd_df at t
      by_cases ci : i = 0
      · subst ci
        rw [if_pos rfl]
        rw [zd_pp0] at t
        by_cases cj : j = 0
        · subst cj
          rw [if_pos rfl]
          have a := hD.1 0 hi
          omega
        · rw [if_neg cj]
          rw [zd_mv_1 cj] at t
          omega
      · rw [if_neg ci]
        by_cases cj : j = 0
        · subst cj
          rw [if_pos rfl]
          rw [zd_mv_2 ci, zd_pp0] at t
          omega
        · rw [if_neg cj]
          rw [zd_mv_3 ci cj] at t
          omega)
    refine ⟨q, hq, hin, fun m hm hm' => ?_⟩
    have a : (zd_pp q m : Int) = if m = 0 then 0 else (zd_pp p m : Int) - d := e m hm'
    rw [if_neg (by omega)] at a
    omega
  · rintro ⟨q, hq, hin, e⟩ i j hi hj
    have t := hin i j hi hj
    unfold zd_df at t ⊢
    by_cases ci : i = 0
    · subst ci
      rw [zd_pp0] at t ⊢
      by_cases cj : j = 0
      · subst cj
        rw [zd_mv_4]
        rw [zd_pp0] at t ⊢
        exact t
      · rw [zd_mv_1 cj]
        have u := e j (by omega) hj
        omega
    · by_cases cj : j = 0
      · subst cj
        rw [zd_mv_2 ci]
        rw [zd_pp0] at t ⊢
        have u := e i (by omega) hi
        omega
      · rw [zd_mv_3 ci cj]
        have u := e i (by omega) hi
        have u' := e j (by omega) hj
        omega
theorem zd_mv_Mx {D : Nat → Nat → Int} (hD : zd_Cl D) {S T : Nat → Prop} (hS : ∀ p, p < 1000 → (S p ↔ zd_in D p)) {d : Nat} : (∃ p, p < 1000 ∧ (zd_in (zd_mv D d) p ∧ T p)) ↔ zd_Mx S T d := by
  constructor
  · rintro ⟨p, hp, h, t⟩
    obtain ⟨q, hq, hin, e⟩ := (zd_mv_in hD).mp h
    have hb : ∀ m, 1 ≤ m → m < 4 → zd_pp q m + d < 10 := fun m hm hm' => by
      have a := e m hm hm'
      have b := zd_pp_le (i := m) hp
      omega
    have w := zd_Mt_b hq hb
    have ep : p = q + 111 * d := zd_pp_in3 hp w.1 (fun m hm hm' => (e m hm hm').trans (w.2 m hm hm').symm)
    exact ⟨q, hq, hb, (hS q hq).mpr hin, ep ▸ t⟩
  · rintro ⟨q, hq, hb, s, t⟩
    have w := zd_Mt_b hq hb
    exact ⟨q + 111 * d, w.1, (zd_mv_in hD).mpr ⟨q, hq, (hS q hq).mp s, w.2⟩, t⟩
theorem zx_rg_s' {B B' : Nat → Int32} {z i m : Nat} {f1 f2 : Nat → Int32} (hi : i < 4) (hm : m < 4) (hn : m ≠ i) (h : zx_M B B' z (zx_rg B z i f1 f2 m m)) : zx_M B (upd (upd B' (16 * z + 4 * m + i) (f2 m)) (16 * z + 4 * i + m) (f1 m)) z (zx_rg B z i f1 f2 (m + 1) (m + 1)) := by
  have h1 : zx_M B (upd B' (16 * z + 4 * m + i) (f2 m)) z (zx_rg B z i f1 f2 m (m + 1)) :=
    zx_M_w h hm hi (zx_rg_2 ⟨rfl, hn, by omega⟩) (fun a b ha hb c => zx_rg_e (by omega) (by omega))
  exact zx_M_w h1 hi hm (zx_rg_1 ⟨rfl, hn, by omega⟩) (fun a b ha hb c => zx_rg_e (by omega) (by omega))
/-- moving the work zone -/
theorem zx_m59 {post : Int32 → SX → Prop} {J : Int32 → (Nat → Int32) → (Nat → Int32) → Prop} {x1 x2 : Int32} {B H : Nat → Int32} {c : Int32} (h : ∀ B', zx_M B B' 4 (zx_rg B 4 0 (fun b => B (16 * 4 + b) - c) (fun a => B (16 * 4 + 4 * a) + c) 4 4) → ∀ Q : SX → Prop, (∀ B2 H2, ((H2 4 = 0 → post c (B2, H2)) ∧ (¬ H2 4 = 0 → ∀ x : Int32, x = c + 1 → J x B2 H2)) → Q (B2, H2)) → wpX_meetWith Q (B', H) 4 x2) : ∀ d i B', 1 ≤ i → i + d = 4 → zx_M B B' 4 (zx_rg B 4 0 (fun b => B (16 * 4 + b) - c) (fun a => B (16 * 4 + 4 * a) + c) i i) → wX_meeting_59 post J x1 x2 c (d + 1) (nI i) B' H := by
  intro d
  induction d with
  | zero =>
    intro i B' hi hd hM
    have e : i = 4 := by omega
    subst e
    exact br_t (nI_le (a := 4) (b := 4) (by omega) (by decide)) (h B' hM _ (fun _ _ q => q))
  | succ d ih =>
    intro i B' hi hd hM
    have e1 : 64 + 4 * nI i = nI (16 * 4 + 4 * i) := by
      rw [show (64 : Int32) = nI (16 * 4) from rfl, show (4 : Int32) = nI 4 from rfl, pk_mul, nI_add]
    have e2 : 64 + nI i = nI (16 * 4 + i) := nI_add 64 i
    have i1 : vp_in (nI (16 * 4 + 4 * i)) 96 := vp_in_nI (by omega) (by decide)
    have i2 : vp_in (nI (16 * 4 + i)) 96 := vp_in_nI (by omega) (by decide)
    have r1 : B' (16 * 4 + 4 * i) = B (16 * 4 + 4 * i) := by
      have t := hM.2 i 0 (by omega) (by omega)
      rw [zx_rg_3 (by omega) (by omega)] at t
      exact t
    have r2 : B' (16 * 4 + i) = B (16 * 4 + i) := by
      have t := hM.2 0 i (by omega) (by omega)
      rw [zx_rg_3 (by omega) (by omega)] at t
      exact t
    refine br_f (nI_ge (a := i) (b := 4) (by omega) (by decide)) ?_
    rw [e1, e2, nI_clamp (n := 16 * 4 + 4 * i) (by omega), nI_clamp (n := 16 * 4 + i) (by omega), r1]
    refine ⟨i1, i1, fun a ea => ⟨i2, i2, fun a' ea' x e => ?_⟩⟩
    have r3 : a (16 * 4 + i) = B (16 * 4 + i) := by
      rw [ea, pk_un (by omega), r2]
    rw [r3] at ea'
    rw [nI_1] at e
    subst e ea' ea
    refine ih (i + 1) _ (by omega) (by omega) ?_
    exact zx_rg_s' (z := 4) (i := 0) (f1 := fun b => B (16 * 4 + b) - c) (f2 := fun a => B (16 * 4 + 4 * a) + c) (by omega) (by omega) (by omega) hM
theorem zx_mv_D {B B' : Nat → Int32} {c : Nat} (hc : c < 10) (hCl : zd_Cl (zd_D B 4)) (hM : zx_M B B' 4 (zx_rg B 4 0 (fun b => B (16 * 4 + b) - nI c) (fun a => B (16 * 4 + 4 * a) + nI c) 4 4)) : ∀ a b, a < 4 → b < 4 → zd_D B' 4 a b = zd_mv (zd_D B 4) c a b := by
  intro a b ha hb
  have hci : (nI c).toInt = c := nI_toInt (by omega)
  show (B' (16 * 4 + 4 * a + b)).toInt = _
  rw [hM.2 a b ha hb]
  by_cases ca : a = 0
  · subst ca
    by_cases cb : b = 0
    · subst cb
      rw [zx_rg_3 (by omega) (by omega), zd_mv_4]
      rfl
    · rw [zx_rg_1 ⟨rfl, cb, hb⟩, zd_mv_1 cb]
      have t := zd_rg hCl (i := 0) (j := b) (by omega) hb
      have q : zd_D B 4 0 b = (B (16 * 4 + b)).toInt := rfl
      have s := zn_sub (x := B (16 * 4 + b)) (y := nI c) (by omega) (by omega) (by omega) (by omega)
      show (B (16 * 4 + b) - nI c).toInt = _
      omega
  · by_cases cb : b = 0
    · subst cb
      rw [zx_rg_2 ⟨rfl, ca, ha⟩, zd_mv_2 ca]
      have t := zd_rg hCl (i := a) (j := 0) ha (by omega)
      have q : zd_D B 4 a 0 = (B (16 * 4 + 4 * a)).toInt := rfl
      have s := zn_add (x := B (16 * 4 + 4 * a)) (y := nI c) (by omega) (by omega) (by omega) (by omega)
      show (B (16 * 4 + 4 * a) + nI c).toInt = _
      omega
    · rw [zx_rg_3 (by omega) (by omega), zd_mv_3 ca cb]
      rfl
theorem zd_mv_r {D : Nat → Nat → Int} (hD : zd_Cl D) {c : Nat} (hc : c < 10) : (∀ i, i < 4 → zd_mv D c i i = 0) ∧ ∀ i j, i < 4 → j < 4 → -50 ≤ zd_mv D c i j ∧ zd_mv D c i j ≤ 99 := by
  refine ⟨fun i hi => ?_, fun i j hi hj => ?_⟩
  · by_cases ci : i = 0
    · subst ci
      rw [zd_mv_4]
      exact hD.1 0 hi
    · rw [zd_mv_3 ci ci]
      exact hD.1 i hi
  · have t := zd_rg hD hi hj
    by_cases ci : i = 0
    · subst ci
      by_cases cj : j = 0
      · subst cj
        rw [zd_mv_4]
        omega
      · rw [zd_mv_1 cj]
        omega
    · by_cases cj : j = 0
      · subst cj
        rw [zd_mv_2 ci]
        omega
      · rw [zd_mv_3 ci cj]
        omega
theorem zx_m44 {post : Int32 → SX → Prop} {S : Nat → Nat → Prop} {z y : Nat} (hz : z < 4) (hy : y < 4) (h : ∀ r B' H', zd_Me (S z) (S y) r → zd_XR S B' H' → post r (B', H')) : ∀ n d B H, d + n = 10 → zd_XR S B H → H z = 0 → H y = 0 → (∀ k, k < d → ¬ zd_Mx (S z) (S y) k) → wX_meeting_44 post (nI z) (nI y) (n + 1) (nI d) B H := by
  have n1 : ¬ (1 : Int32) = 0 := by decide
  intro n
  induction n with
  | zero =>
    intro d B H hd hX _ _ hn
    have e : d = 10 := by omega
    subst e
    exact br_t (nI_lt (a := 9) (b := 10) (by omega) (by decide)) (h _ B H (Or.inl ⟨rfl, hn⟩) hX)
  | succ n ih =>
    intro d B H hd hX hHz hHy hn
    have f1 : zd_fB 4 B (zf B (16 * 4) 16 (zx_cp B z)) := zd_fB_zf (by omega)
    have f2 : zd_fH 4 H (upd H 4 (H z)) := zd_fH_u 4 H _
    refine br_f (nI_nlt (a := 9) (b := d) (by omega) (by omega)) (zx_copyTo (z := 4) (by omega) (by omega) (Or.inl hHz) ?_)
    have X4 : zd_X (zf B (16 * 4) 16 (zx_cp B z)) (upd H 4 (H z)) 4 (S z) := zx_copy_X (hX z hz)
    have Xy : zd_X (zf B (16 * 4) 16 (zx_cp B z)) (upd H 4 (H z)) y (S y) := zd_X_f f1 f2 (by omega) (hX y hy)
    have hX1 : zd_XR S (zf B (16 * 4) 16 (zx_cp B z)) (upd H 4 (H z)) := zd_XR_w (z := 4) (by omega) hX f1 f2
    have g4 : upd H 4 (H z) 4 = 0 := pk_us.trans hHz
    have gz : upd H 4 (H z) z = 0 := (pk_un (by omega)).trans hHz
    have gy : upd H 4 (H z) y = 0 := (pk_un (by omega)).trans hHy
    generalize zf B (16 * 4) 16 (zx_cp B z) = B1 at *
    generalize upd H 4 (H z) = H1 at *
    rcases X4 with ⟨a, _⟩ | ⟨_, b4, e4⟩
    · exact absurd (a.symm.trans g4) n1
    rcases Xy with ⟨a, _⟩ | ⟨_, by', ey⟩
    · exact absurd (a.symm.trans gy) n1
    refine ⟨4, zx_m59 (B := B1) (fun B' hM Q hQ => ?_) 3 1 B1 (by omega) rfl (zx_M_c (zx_M_0 B1 4) (fun a b _ _ => zx_rg_3 (by omega) (by omega)))⟩
    have hE := zx_mv_D (by omega) b4 hM
    have hEy : ∀ i j, i < 4 → j < 4 → zd_D B' y i j = zd_D B1 y i j := zd_D_f hM.1 (by omega)
    refine zx_meetWith (z := 4) (by omega) (by omega) (Or.inl g4) (Or.inl gy) (fun _ _ => ?_) (fun q => ?_) (fun _ _ B2 H2 hB hH hT => hQ B2 H2 ?_)
    · refine zd_mn_Ok (fun i hi => ?_) (fun i j hi hj => ?_) (zd_Cl_c hEy by')
      · rw [hE i i hi hi]
        exact (zd_mv_r b4 (by omega)).1 i hi
      · rw [hE i j hi hj]
        exact (zd_mv_r b4 (by omega)).2 i j hi hj
    · rcases q with q | q
      · exact absurd (q.symm.trans g4) n1
      · exact absurd (q.symm.trans gy) n1
    · have X2 := hT (fun p => zd_in (zd_mv (zd_D B1 4) d) p ∧ S y p) (fun p hp => by
        rw [zd_in_c hE, ey p hp, zd_in_c hEy])
      have hX2 : zd_XR S B2 H2 := zd_XR_w (z := 4) (by omega) hX1 (zd_fB_t hM.1 hB) hH
      have key := zd_mv_Mx (T := S y) b4 e4 (d := d)
      refine zx_flag X2 (fun q => h _ B2 H2 (Or.inr ⟨d, by omega, rfl, key.mp q, hn⟩) hX2) (fun q => nm_r (nI_1 d) (ih (d + 1) B2 H2 (by omega) hX2 ?_ ?_ (fun k hk t => ?_)))
      · rw [hH z (by omega)]
        exact gz
      · rw [hH y (by omega)]
        exact gy
      · by_cases c : k = d
        · subst c
          obtain ⟨p, hp, u⟩ := key.mpr t
          exact q p hp u
        · exact hn k (by omega) t
theorem zx_vmeeting {post : Int32 → SX → Prop} {S : Nat → Nat → Prop} {B H : Nat → Int32} {z y : Nat} (hX : zd_XR S B H) (hz : z < 4) (hy : y < 4) (h : ∀ r B' H', zd_Me (S z) (S y) r → zd_XR S B' H' → post r (B', H')) : wpX_meeting post (B, H) (nI z) (nI y) := by
  unfold wpX_meeting
  dsimp only
  refine zx_bad0 hz ?_
  refine br_t rfl ?_
  refine zx_bad0 hy ?_
  refine br_t rfl ?_
  refine ⟨vp_in_nI (by omega) (by decide), ?_⟩
  rw [nI_clamp (n := z) (by omega), nI_clamp (n := y) (by omega)]
  rcases hX z hz with ⟨a, b⟩ | ⟨a, b, e⟩
  · exact br_f (by rw [a]; decide) (h _ B H (Or.inl ⟨rfl, fun d hd ⟨p, hp, t⟩ => b p hp t.2.1⟩) hX)
  · refine br_t a ⟨vp_in_nI (by omega) (by decide), ?_⟩
    rcases hX y hy with ⟨a', b'⟩ | ⟨a', b', e'⟩
    · exact br_f (by rw [a']; decide) (h _ B H (Or.inl ⟨rfl, fun d hd ⟨p, hp, t⟩ => b' (p + 111 * d) (zd_Mt_b hp t.1).1 t.2.2⟩) hX)
    · exact br_t a' ⟨11, zx_m44 hz hy h 10 0 B H rfl hX a a' (fun k hk => absurd hk (by omega))⟩
end
section
/-! count -/
def zd_Ct (S : Nat → Prop) (r : Int32) : Prop := ∃ f : Nat → Nat, (∀ p, p < 1000 → (S p → f p = 1) ∧ (¬ S p → f p = 0)) ∧ r = nI (zs f 1000)
theorem zd_Ct_u {S : Nat → Prop} {r r' : Int32} (h : zd_Ct S r) (h' : zd_Ct S r') : r' = r := by
  obtain ⟨f, hf, e⟩ := h
  obtain ⟨f', hf', e'⟩ := h'
  rw [e, e', zs_c 1000 (fun p hp => ?_)]
  by_cases s : S p
  · rw [(hf p hp).1 s, (hf' p hp).1 s]
  · rw [(hf p hp).2 s, (hf' p hp).2 s]
def zy_ct (P : Nat → Int32) (z : Nat) : Nat → Nat := fun p => if P (1000 * z + p) = 0 then 0 else 1
theorem zy_c16 {post : Int32 → Prop} {P M : Nat → Int32} {z : Nat} (hz : z < 4) (h : post (nI (zs (zy_ct P z) 1000))) : ∀ d p, p + d = 1000 → wY_count_16 post (nI z) P M (d + 1) (nI (zs (zy_ct P z) p)) (nI p) := by
  intro d
  induction d with
  | zero =>
    intro p hp
    have e : p = 1000 := by omega
    subst e
    exact br_t (nI_le (a := 1000) (b := 1000) (by omega) (by decide)) h
  | succ d ih =>
    intro p hp
    refine br_f (nI_ge (a := p) (b := 1000) (by omega) (by decide)) ⟨by rw [zn_iy]; exact vp_in_nI (by omega) (by decide), ?_⟩
    rw [zn_iy, nI_clamp (n := 1000 * z + p) (by omega)]
    refine br_c (fun c => nm_r (nI_1 p) ?_) (fun c => nm_r (nI_1 _) (nm_r (nI_1 p) ?_))
    · have K := ih (p + 1) (by omega)
      have e : zs (zy_ct P z) (p + 1) = zs (zy_ct P z) p := by
        show zs (zy_ct P z) p + (if P (1000 * z + p) = 0 then 0 else 1) = _
        rw [if_pos c, Nat.add_zero]
      rw [e] at K
      exact K
    · have K := ih (p + 1) (by omega)
      have e : zs (zy_ct P z) (p + 1) = zs (zy_ct P z) p + 1 := by
        show zs (zy_ct P z) p + (if P (1000 * z + p) = 0 then 0 else 1) = _
        rw [if_neg c]
      rw [e] at K
      exact K
theorem zy_vcount {post : Int32 → Prop} {S : Nat → Nat → Prop} {P M : Nat → Int32} {z : Nat} (hY : zd_YR S P) (hz : z < 4) (h : ∀ r, zd_Ct (S z) r → post r) : wpY_count post (P, M) (nI z) := by
  unfold wpY_count
  dsimp only
  refine zy_z1 hz ?_
  refine br_f (by decide) ?_
  refine ⟨1001, zy_c16 hz (h _ ⟨zy_ct P z, fun p hp => ?_, rfl⟩) 1000 0 rfl⟩
  have q := zd_Y_0 (hY z hz) hp
  exact ⟨fun s => if_neg (fun e => q.mp e s), fun s => if_pos (q.mpr s)⟩
/-! the component's sum -/
def zc_f3 (d : Nat → Int) (a b : Nat) : Nat → Nat := fun c => if -d 3 ≤ (c : Int) ∧ (a : Int) - d 7 ≤ c ∧ (b : Int) - d 11 ≤ c ∧ (c : Int) ≤ d 12 ∧ (c : Int) ≤ a + d 13 ∧ (c : Int) ≤ b + d 14 then 1 else 0
def zc_f2 (d : Nat → Int) (a : Nat) : Nat → Nat := fun b => if -d 2 ≤ (b : Int) ∧ (a : Int) - d 6 ≤ b ∧ (b : Int) ≤ d 8 ∧ (b : Int) ≤ a + d 9 then zs (zc_f3 d a b) 10 else 0
def zc_f1 (d : Nat → Int) : Nat → Nat := fun a => if -d 1 ≤ (a : Int) ∧ (a : Int) ≤ d 4 then zs (zc_f2 d a) 10 else 0
def zc_F (d : Nat → Int) (a b c : Nat) : Nat := if (-d 1 ≤ (a : Int) ∧ (a : Int) ≤ d 4) ∧ (-d 2 ≤ (b : Int) ∧ (a : Int) - d 6 ≤ b ∧ (b : Int) ≤ d 8 ∧ (b : Int) ≤ a + d 9) ∧ (-d 3 ≤ (c : Int) ∧ (a : Int) - d 7 ≤ c ∧ (b : Int) - d 11 ≤ c ∧ (c : Int) ≤ d 12 ∧ (c : Int) ≤ a + d 13 ∧ (c : Int) ≤ b + d 14) then 1 else 0
theorem zc_sum (d : Nat → Int) : zs (zc_f1 d) 10 = zs (fun a => zs (fun b => zs (fun c => zc_F d a b c) 10) 10) 10 := by
  refine zs_c 10 (fun a _ => ?_)
  unfold zc_f1
  by_cases h1 : -d 1 ≤ (a : Int) ∧ (a : Int) ≤ d 4
  · rw [if_pos h1]
    refine zs_c 10 (fun b _ => ?_)
    unfold zc_f2
    by_cases h2 : -d 2 ≤ (b : Int) ∧ (a : Int) - d 6 ≤ b ∧ (b : Int) ≤ d 8 ∧ (b : Int) ≤ a + d 9
    · rw [if_pos h2]
      refine zs_c 10 (fun c _ => ?_)
      unfold zc_f3 zc_F
      by_cases h3 : -d 3 ≤ (c : Int) ∧ (a : Int) - d 7 ≤ c ∧ (b : Int) - d 11 ≤ c ∧ (c : Int) ≤ d 12 ∧ (c : Int) ≤ a + d 13 ∧ (c : Int) ≤ b + d 14
      · rw [if_pos h3, if_pos ⟨h1, h2, h3⟩]
      · rw [if_neg h3, if_neg (fun q => h3 q.2.2)]
    · rw [if_neg h2]
      exact (zs_z 10 (fun c _ => if_neg (fun q => h2 q.2.1))).symm
  · rw [if_neg h1]
    exact (zs_z 10 (fun b _ => zs_z 10 (fun c _ => if_neg (fun q => h1 q.1)))).symm
theorem zc_1000 (F : Nat → Nat → Nat → Nat) : zs (fun p => F (p % 10) (p / 10 % 10) (p / 100)) 1000 = zs (fun a => zs (fun b => zs (fun c => F a b c) 10) 10) 10 := by
  have e1 : zs (fun p => F (p % 10) (p / 10 % 10) (p / 100)) 1000 = zs (fun c => zs (fun b => zs (fun a => F a b c) 10) 10) 10 := by
    rw [show 1000 = 10 * 100 from rfl, zs_10, show 100 = 10 * 10 from rfl, zs_10]
    refine zs_c 10 (fun c hc => zs_c 10 (fun b hb => zs_c 10 (fun a ha => ?_)))
    show F ((10 * (10 * c + b) + a) % 10) ((10 * (10 * c + b) + a) / 10 % 10) ((10 * (10 * c + b) + a) / (10 * 10)) = F a b c
    obtain ⟨q1, q2, q3⟩ := zd_dig (c := c) ha hb
    rw [show 10 * (10 * c + b) + a = 100 * c + 10 * b + a from by omega, q1, q2, show 10 * 10 = 100 from rfl, q3]
  rw [e1]
  have e2 : zs (fun c => zs (fun b => zs (fun a => F a b c) 10) 10) 10 = zs (fun c => zs (fun a => zs (fun b => F a b c) 10) 10) 10 :=
    zs_c 10 (fun c _ => zs_swap (fun b a => F a b c) 10 10)
  rw [e2, zs_swap (fun c a => zs (fun b => F a b c) 10) 10 10]
  exact zs_c 10 (fun a _ => zs_swap (fun c b => F a b c) 10 10)
theorem zc_in {B : Nat → Int32} {z p : Nat} (hCl : zd_Cl (zd_D B z)) : zd_in (zd_D B z) p ↔ zc_F (fun t => (B (16 * z + t)).toInt) (p % 10) (p / 10 % 10) (p / 100) = 1 := by
  have k0 : (B (16 * z + 0)).toInt = 0 := hCl.1 0 (by omega)
  have k1 : (B (16 * z + 5)).toInt = 0 := hCl.1 1 (by omega)
  have k2 : (B (16 * z + 10)).toInt = 0 := hCl.1 2 (by omega)
  have k3 : (B (16 * z + 15)).toInt = 0 := hCl.1 3 (by omega)
  have p1 : zd_pp p 1 = p % 10 := rfl
  have p2 : zd_pp p 2 = p / 10 % 10 := rfl
  have p3 : zd_pp p 3 = p / 100 := rfl
  have p0 : zd_pp p 0 = 0 := rfl
  rw [← p1, ← p2, ← p3]
  clear p1 p2 p3
  generalize hd : (fun t => (B (16 * z + t)).toInt) = d
  have hd' : ∀ t, (B (16 * z + t)).toInt = d t := fun t => by rw [← hd]
  rw [hd'] at k0 k1 k2 k3
  have key : zd_in (zd_D B z) p ↔ ∀ t, t < 16 → (zd_pp p (t / 4) : Int) - zd_pp p (t % 4) ≤ d t := by
    rw [zd_in_16]
    exact ⟨fun h t ht => by rw [← hd']; exact h t ht, fun h t ht => by rw [hd']; exact h t ht⟩
  rw [key]
  unfold zc_F
  constructor
  · intro h
    have h1 : (zd_pp p 0 : Int) - zd_pp p 1 ≤ d 1 := h 1 (by omega)
    have h2 : (zd_pp p 0 : Int) - zd_pp p 2 ≤ d 2 := h 2 (by omega)
    have h3 : (zd_pp p 0 : Int) - zd_pp p 3 ≤ d 3 := h 3 (by omega)
    have h4 : (zd_pp p 1 : Int) - zd_pp p 0 ≤ d 4 := h 4 (by omega)
    have h6 : (zd_pp p 1 : Int) - zd_pp p 2 ≤ d 6 := h 6 (by omega)
    have h7 : (zd_pp p 1 : Int) - zd_pp p 3 ≤ d 7 := h 7 (by omega)
    have h8 : (zd_pp p 2 : Int) - zd_pp p 0 ≤ d 8 := h 8 (by omega)
    have h9 : (zd_pp p 2 : Int) - zd_pp p 1 ≤ d 9 := h 9 (by omega)
    have h11 : (zd_pp p 2 : Int) - zd_pp p 3 ≤ d 11 := h 11 (by omega)
    have h12 : (zd_pp p 3 : Int) - zd_pp p 0 ≤ d 12 := h 12 (by omega)
    have h13 : (zd_pp p 3 : Int) - zd_pp p 1 ≤ d 13 := h 13 (by omega)
    have h14 : (zd_pp p 3 : Int) - zd_pp p 2 ≤ d 14 := h 14 (by omega)
    exact if_pos ⟨⟨by omega, by omega⟩, ⟨by omega, by omega, by omega, by omega⟩, by omega, by omega, by omega, by omega, by omega, by omega⟩
  · intro h t ht
    by_cases c : (-d 1 ≤ (zd_pp p 1 : Int) ∧ (zd_pp p 1 : Int) ≤ d 4) ∧ (-d 2 ≤ (zd_pp p 2 : Int) ∧ (zd_pp p 1 : Int) - d 6 ≤ zd_pp p 2 ∧ (zd_pp p 2 : Int) ≤ d 8 ∧ (zd_pp p 2 : Int) ≤ zd_pp p 1 + d 9) ∧ (-d 3 ≤ (zd_pp p 3 : Int) ∧ (zd_pp p 1 : Int) - d 7 ≤ zd_pp p 3 ∧ (zd_pp p 2 : Int) - d 11 ≤ zd_pp p 3 ∧ (zd_pp p 3 : Int) ≤ d 12 ∧ (zd_pp p 3 : Int) ≤ zd_pp p 1 + d 13 ∧ (zd_pp p 3 : Int) ≤ zd_pp p 2 + d 14)
    · obtain ⟨⟨c1, c2⟩, ⟨c3, c4, c5, c6⟩, c7, c8, c9, c10, c11, c12⟩ := c
      have w : t = 0 ∨ t = 1 ∨ t = 2 ∨ t = 3 ∨ t = 4 ∨ t = 5 ∨ t = 6 ∨ t = 7 ∨ t = 8 ∨ t = 9 ∨ t = 10 ∨ t = 11 ∨ t = 12 ∨ t = 13 ∨ t = 14 ∨ t = 15 := by omega
      clear h ht key hd hd'
      rcases w with rfl | rfl | rfl | rfl | rfl | rfl | rfl | rfl | rfl | rfl | rfl | rfl | rfl | rfl | rfl | rfl
      · show (zd_pp p 0 : Int) - zd_pp p 0 ≤ d 0
        omega
      · show (zd_pp p 0 : Int) - zd_pp p 1 ≤ d 1
        omega
      · show (zd_pp p 0 : Int) - zd_pp p 2 ≤ d 2
        omega
      · show (zd_pp p 0 : Int) - zd_pp p 3 ≤ d 3
        omega
      · show (zd_pp p 1 : Int) - zd_pp p 0 ≤ d 4
        omega
      · show (zd_pp p 1 : Int) - zd_pp p 1 ≤ d 5
        omega
      · show (zd_pp p 1 : Int) - zd_pp p 2 ≤ d 6
        omega
      · show (zd_pp p 1 : Int) - zd_pp p 3 ≤ d 7
        omega
      · show (zd_pp p 2 : Int) - zd_pp p 0 ≤ d 8
        omega
      · show (zd_pp p 2 : Int) - zd_pp p 1 ≤ d 9
        omega
      · show (zd_pp p 2 : Int) - zd_pp p 2 ≤ d 10
        omega
      · show (zd_pp p 2 : Int) - zd_pp p 3 ≤ d 11
        omega
      · show (zd_pp p 3 : Int) - zd_pp p 0 ≤ d 12
        omega
      · show (zd_pp p 3 : Int) - zd_pp p 1 ≤ d 13
        omega
      · show (zd_pp p 3 : Int) - zd_pp p 2 ≤ d 14
        omega
      · show (zd_pp p 3 : Int) - zd_pp p 3 ≤ d 15
        omega
    · rw [if_neg c] at h
      exact absurd h (by decide)
theorem zc_01 (d : Nat → Int) (a b c : Nat) : zc_F d a b c = 0 ∨ zc_F d a b c = 1 := by
  unfold zc_F
  split
  · exact Or.inr rfl
  · exact Or.inl rfl
/-- the sum is the count -/
theorem zc_ct {B : Nat → Int32} {z : Nat} {S : Nat → Prop} (hCl : zd_Cl (zd_D B z)) (hS : ∀ p, p < 1000 → (S p ↔ zd_in (zd_D B z) p)) : zd_Ct S (nI (zs (zc_f1 (fun t => (B (16 * z + t)).toInt)) 10)) := by
  refine ⟨fun p => zc_F (fun t => (B (16 * z + t)).toInt) (p % 10) (p / 10 % 10) (p / 100), fun p hp => ⟨fun s => (zc_in hCl).mp ((hS p hp).mp s), fun s => ?_⟩, ?_⟩
  · rcases zc_01 (fun t => (B (16 * z + t)).toInt) (p % 10) (p / 10 % 10) (p / 100) with e | e
    · exact e
    · exact absurd ((hS p hp).mpr ((zc_in hCl).mpr e)) s
  · rw [zc_sum, zc_1000 (zc_F (fun t => (B (16 * z + t)).toInt))]
end
section
/-! the component's count -/
theorem zx_gr {post : Int32 → Prop} {u : SX} {a b : Int32} (h : ∀ r : Int32, a.toInt ≤ r.toInt → b.toInt ≤ r.toInt → (r.toInt = a.toInt ∨ r.toInt = b.toInt) → post r) : wpX_greater post u a b := by
  obtain ⟨B, H⟩ := u
  refine br_c (fun c => h b ?_ (Int.le_refl _) (Or.inr rfl)) (fun c => h a (Int.le_refl _) ?_ (Or.inl rfl))
  · rw [Int32.le_iff_toInt_le] at c
    exact c
  · rw [Int32.le_iff_toInt_le] at c
    omega
theorem zx_le {post : Int32 → Prop} {u : SX} {a b : Int32} (h : ∀ r : Int32, r.toInt ≤ a.toInt → r.toInt ≤ b.toInt → (r.toInt = a.toInt ∨ r.toInt = b.toInt) → post r) : wpX_lesser post u a b := by
  obtain ⟨B, H⟩ := u
  refine br_c (fun c => h b ?_ (Int.le_refl _) (Or.inr rfl)) (fun c => h a (Int.le_refl _) ?_ (Or.inl rfl))
  · rw [Int32.le_iff_toInt_le] at c
    exact c
  · rw [Int32.le_iff_toInt_le] at c
    omega
theorem zx_at (z k : Nat) : nI (16 * z) + nI k = nI (16 * z + k) := nI_add (16 * z) k
/-- the entries of a zone, by number -/
def zc_d (B : Nat → Int32) (z : Nat) : Nat → Int := fun t => (B (16 * z + t)).toInt
theorem zc_d_r {B : Nat → Int32} {z : Nat} (hCl : zd_Cl (zd_D B z)) {t : Nat} (ht : t < 16) : -9 ≤ (B (16 * z + t)).toInt ∧ (B (16 * z + t)).toInt ≤ 9 := by
  have w := zd_rg hCl (i := t / 4) (j := t % 4) (by omega) (by omega)
  have e : zd_D B z (t / 4) (t % 4) = (B (16 * z + t)).toInt := by
    show (B (16 * z + 4 * (t / 4) + t % 4)).toInt = _
    rw [show 16 * z + 4 * (t / 4) + t % 4 = 16 * z + t from by omega]
  omega
theorem zx_thirds {post : Int32 → Prop} {B H : Nat → Int32} {z a b : Nat} (hz : z < 4) (hCl : zd_Cl (zd_D B z)) (ha : a < 30) (hb : b < 30) (h : post (nI (zs (zc_f3 (zc_d B z) a b) 10))) : wpX_thirds post (B, H) (nI (16 * z)) (nI a) (nI b) := by
  have r3 := zc_d_r hCl (t := 3) (by omega)
  have r7 := zc_d_r hCl (t := 7) (by omega)
  have r11 := zc_d_r hCl (t := 11) (by omega)
  have r12 := zc_d_r hCl (t := 12) (by omega)
  have r13 := zc_d_r hCl (t := 13) (by omega)
  have r14 := zc_d_r hCl (t := 14) (by omega)
  have l3 : (B (16 * z + 3)).toInt ≤ 0 := hCl.2.2.1 3 (by omega)
  have ea : (nI a).toInt = a := nI_toInt (by omega)
  have eb : (nI b).toInt = b := nI_toInt (by omega)
  have i3 : nI (16 * z) + 3 = nI (16 * z + 3) := zx_at z 3
  have i7 : nI (16 * z) + 7 = nI (16 * z + 7) := zx_at z 7
  have i11 : nI (16 * z) + 11 = nI (16 * z + 11) := zx_at z 11
  have i12 : nI (16 * z) + 12 = nI (16 * z + 12) := zx_at z 12
  have i13 : nI (16 * z) + 13 = nI (16 * z + 13) := zx_at z 13
  have i14 : nI (16 * z) + 14 = nI (16 * z + 14) := zx_at z 14
  have vi : ∀ k, k < 16 → vp_in (nI (16 * z + k)) 96 := fun k hk => vp_in_nI (by omega) (by decide)
  have n3 := zn_neg (x := B (16 * z + 3)) (by omega) (by omega)
  have n7 := zn_sub (x := nI a) (y := B (16 * z + 7)) (by omega) (by omega) (by omega) (by omega)
  have n11 := zn_sub (x := nI b) (y := B (16 * z + 11)) (by omega) (by omega) (by omega) (by omega)
  have n13 := zn_add (x := nI a) (y := B (16 * z + 13)) (by omega) (by omega) (by omega) (by omega)
  have n14 := zn_add (x := nI b) (y := B (16 * z + 14)) (by omega) (by omega) (by omega) (by omega)
  unfold wpX_thirds
  dsimp only
  rw [i3, i7, i11, i12, i13, i14, nI_clamp (n := 16 * z + 3) (by omega), nI_clamp (n := 16 * z + 7) (by omega), nI_clamp (n := 16 * z + 11) (by omega), nI_clamp (n := 16 * z + 12) (by omega), nI_clamp (n := 16 * z + 13) (by omega), nI_clamp (n := 16 * z + 14) (by omega)]
  refine ⟨vi 3 (by omega), vi 7 (by omega), zx_gr (fun x x1 x2 x3 => ⟨vi 11 (by omega), zx_gr (fun L L1 L2 L3 => ⟨vi 12 (by omega), vi 13 (by omega), zx_le (fun y y1 y2 y3 => ⟨vi 14 (by omega), zx_le (fun R R1 R2 R3 => ?_)⟩)⟩)⟩)⟩
  have hsum : (zs (zc_f3 (zc_d B z) a b) 10 : Int) = if L.toInt ≤ R.toInt then R.toInt - L.toInt + 1 else 0 := by
    have e : zs (zc_f3 (zc_d B z) a b) 10 = zs (fun c => if L.toInt ≤ (c : Int) ∧ (c : Int) ≤ R.toInt then 1 else 0) 10 := by
      refine zs_c 10 (fun c _ => ?_)
      have q : (-zc_d B z 3 ≤ (c : Int) ∧ (a : Int) - zc_d B z 7 ≤ c ∧ (b : Int) - zc_d B z 11 ≤ c ∧ (c : Int) ≤ zc_d B z 12 ∧ (c : Int) ≤ a + zc_d B z 13 ∧ (c : Int) ≤ b + zc_d B z 14) ↔ (L.toInt ≤ (c : Int) ∧ (c : Int) ≤ R.toInt) := by
        unfold zc_d
        constructor
        · rintro ⟨c1, c2, c3, c4, c5, c6⟩
          exact ⟨by omega, by omega⟩
        · rintro ⟨c1, c2⟩
          exact ⟨by omega, by omega, by omega, by omega, by omega, by omega⟩
      unfold zc_f3
      by_cases w : L.toInt ≤ (c : Int) ∧ (c : Int) ≤ R.toInt
      · rw [if_pos w, if_pos (q.mpr w)]
      · rw [if_neg w, if_neg (fun v => w (q.mp v))]
    rw [e, zs_iv _ _ (by omega) 10, if_pos (by omega)]
  refine br_c (fun c => ?_) (fun c => ?_)
  · rw [Int32.le_iff_toInt_le] at c
    rw [if_pos c] at hsum
    have m1 := zn_sub (x := R) (y := L) (by omega) (by omega) (by omega) (by omega)
    have one : (1 : Int32).toInt = 1 := by decide
    have m2 := zn_add (x := R - L) (y := 1) (by omega) (by omega) (by omega) (by omega)
    rw [zn_i (x := R - L + 1) (n := zs (zc_f3 (zc_d B z) a b) 10) (by omega) (by omega)]
    exact h
  · rw [Int32.le_iff_toInt_le] at c
    rw [if_neg c] at hsum
    have e0 : zs (zc_f3 (zc_d B z) a b) 10 = 0 := by omega
    rw [e0] at h
    exact h
theorem zx_c112 {post : Int32 → Prop} {J : Int32 → Int32 → Prop} {B H : Nat → Int32} {z a s : Nat} {hi : Int32} {lo : Int} (hz : z < 4) (hCl : zd_Cl (zd_D B z)) (ha : a < 30) (hh : hi.toInt ≤ 9) (hlo : ∀ b : Nat, lo ≤ (b : Int) ↔ (-zc_d B z 2 ≤ (b : Int) ∧ (a : Int) - zc_d B z 6 ≤ b)) (hhi : ∀ b : Nat, (b : Int) ≤ hi.toInt ↔ ((b : Int) ≤ zc_d B z 8 ∧ (b : Int) ≤ a + zc_d B z 9)) (h : J (nI (s + zs (zc_f2 (zc_d B z) a) 10)) (nI (a + 1))) : ∀ n b : Nat, b < 30 → lo ≤ (b : Int) → 10 ≤ n + b → wX_count_112 post J (nI (16 * z)) (nI a) hi B H (n + 1) (nI (s + zs (zc_f2 (zc_d B z) a) b)) (nI b) := by
  have out : ∀ i : Nat, hi.toInt < (i : Int) → zc_f2 (zc_d B z) a i = 0 := fun i hi' => if_neg (fun q => by
    have w := (hhi i).mpr q.2.2
    omega)
  have exit : ∀ n b : Nat, hi.toInt < (b : Int) → b < 30 → wX_count_112 post J (nI (16 * z)) (nI a) hi B H (n + 1) (nI (s + zs (zc_f2 (zc_d B z) a) b)) (nI b) := by
    intro n b hb hb30
    have e : zs (zc_f2 (zc_d B z) a) b = zs (zc_f2 (zc_d B z) a) 10 := by
      by_cases c : b ≤ 10
      · exact (zs_stop c (fun i hi' => out i (by omega))).symm
      · exact zs_stop (by omega) (fun i hi' => out i (by omega))
    rw [e]
    refine br_t ?_ (nm_r (nI_1 a) h)
    rw [Int32.lt_iff_toInt_lt, nI_toInt (by omega)]
    exact hb
  intro n
  induction n with
  | zero =>
    intro b hb hl hn
    exact exit 0 b (by omega) hb
  | succ n ih =>
    intro b hb hl hn
    by_cases c : hi.toInt < (b : Int)
    · exact exit (n + 1) b c hb
    · refine br_f ?_ (zx_thirds hz hCl ha hb (nm_r (nI_add _ _) (nm_r (nI_1 b) ?_)))
      · rw [Int32.lt_iff_toInt_lt, nI_toInt (by omega)]
        exact c
      · have K := ih (b + 1) (by omega) (by omega) (by omega)
        have e : zs (zc_f2 (zc_d B z) a) (b + 1) = zs (zc_f2 (zc_d B z) a) b + zs (zc_f3 (zc_d B z) a b) 10 := by
          show zs (zc_f2 (zc_d B z) a) b + zc_f2 (zc_d B z) a b = _
          have q1 := (hlo b).mp hl
          have q2 := (hhi b).mp (by omega)
          have w : zc_f2 (zc_d B z) a b = zs (zc_f3 (zc_d B z) a b) 10 := if_pos ⟨q1.1, q1.2, q2.1, q2.2⟩
          rw [w]
        rw [e, ← Nat.add_assoc] at K
        exact K
theorem zx_c41 {post : Int32 → Prop} {B H : Nat → Int32} {z : Nat} (hz : z < 4) (hCl : zd_Cl (zd_D B z)) (h : post (nI (zs (zc_f1 (zc_d B z)) 10))) : ∀ n a : Nat, a < 20 → -zc_d B z 1 ≤ (a : Int) → 10 ≤ n + a → wX_count_41 post (nI (16 * z)) B H (n + 1) (nI (zs (zc_f1 (zc_d B z)) a)) (nI a) := by
  have r2 := zc_d_r hCl (t := 2) (by omega)
  have r4 := zc_d_r hCl (t := 4) (by omega)
  have r6 := zc_d_r hCl (t := 6) (by omega)
  have r8 := zc_d_r hCl (t := 8) (by omega)
  have r9 := zc_d_r hCl (t := 9) (by omega)
  have l2 : (B (16 * z + 2)).toInt ≤ 0 := hCl.2.2.1 2 (by omega)
  have i2 : nI (16 * z) + 2 = nI (16 * z + 2) := zx_at z 2
  have i4 : nI (16 * z) + 4 = nI (16 * z + 4) := zx_at z 4
  have i6 : nI (16 * z) + 6 = nI (16 * z + 6) := zx_at z 6
  have i8 : nI (16 * z) + 8 = nI (16 * z + 8) := zx_at z 8
  have i9 : nI (16 * z) + 9 = nI (16 * z + 9) := zx_at z 9
  have vi : ∀ k, k < 16 → vp_in (nI (16 * z + k)) 96 := fun k hk => vp_in_nI (by omega) (by decide)
  have out : ∀ i : Nat, (B (16 * z + 4)).toInt < (i : Int) → zc_f1 (zc_d B z) i = 0 := fun i hi' => if_neg (fun q => by
    have w : (i : Int) ≤ (B (16 * z + 4)).toInt := q.2
    omega)
  have exit : ∀ n a : Nat, (B (16 * z + 4)).toInt < (a : Int) → a < 20 → wX_count_41 post (nI (16 * z)) B H (n + 1) (nI (zs (zc_f1 (zc_d B z)) a)) (nI a) := by
    intro n a hb hb30
    have e : zs (zc_f1 (zc_d B z)) a = zs (zc_f1 (zc_d B z)) 10 := by
      by_cases c : a ≤ 10
      · exact (zs_stop c (fun i hi' => out i (by omega))).symm
      · exact zs_stop (by omega) (fun i hi' => out i (by omega))
    rw [e]
    refine And.intro (by rw [i4]; exact vi 4 (by omega)) (br_t ?_ h)
    rw [i4, nI_clamp (n := 16 * z + 4) (by omega), Int32.lt_iff_toInt_lt, nI_toInt (by omega)]
    exact hb
  intro n
  induction n with
  | zero =>
    intro a ha hl hn
    exact exit 0 a (by omega) ha
  | succ n ih =>
    intro a ha hl hn
    by_cases c : (B (16 * z + 4)).toInt < (a : Int)
    · exact exit (n + 1) a c ha
    · have ea : (nI a).toInt = a := nI_toInt (by omega)
      have n2 := zn_neg (x := B (16 * z + 2)) (by omega) (by omega)
      have n6 := zn_sub (x := nI a) (y := B (16 * z + 6)) (by omega) (by omega) (by omega) (by omega)
      have n9 := zn_add (x := nI a) (y := B (16 * z + 9)) (by omega) (by omega) (by omega) (by omega)
      refine And.intro (by rw [i4]; exact vi 4 (by omega)) (br_f ?_ ?_)
      · rw [i4, nI_clamp (n := 16 * z + 4) (by omega), Int32.lt_iff_toInt_lt, ea]
        exact c
      · rw [i2, i6, i8, i9, nI_clamp (n := 16 * z + 2) (by omega), nI_clamp (n := 16 * z + 6) (by omega), nI_clamp (n := 16 * z + 8) (by omega), nI_clamp (n := 16 * z + 9) (by omega)]
        refine ⟨vi 2 (by omega), vi 6 (by omega), zx_gr (fun L L1 L2 L3 => ⟨vi 8 (by omega), vi 9 (by omega), zx_le (fun R R1 R2 R3 => ?_)⟩)⟩
        obtain ⟨b, hb⟩ : ∃ b : Nat, (b : Int) = L.toInt := ⟨L.toInt.toNat, by omega⟩
        have eL : L = nI b := zn_i hb.symm (by omega)
        have K := zx_c112 (post := post) (J := wX_count_41 post (nI (16 * z)) B H (n + 1)) (B := B) (H := H) (a := a) (s := zs (zc_f1 (zc_d B z)) a) (hi := R) (lo := L.toInt) hz hCl (by omega) (by omega) (fun b' => by
          unfold zc_d
          constructor
          · intro q
            exact ⟨by omega, by omega⟩
          · rintro ⟨q1, q2⟩
            omega) (fun b' => by
          unfold zc_d
          constructor
          · intro q
            exact ⟨by omega, by omega⟩
          · rintro ⟨q1, q2⟩
            omega) (by
          have K2 := ih (a + 1) (by omega) (by omega) (by omega)
          have e : zs (zc_f1 (zc_d B z)) (a + 1) = zs (zc_f1 (zc_d B z)) a + zs (zc_f2 (zc_d B z) a) 10 := by
            show zs (zc_f1 (zc_d B z)) a + zc_f1 (zc_d B z) a = _
            have w : zc_f1 (zc_d B z) a = zs (zc_f2 (zc_d B z) a) 10 := if_pos ⟨hl, by show (a : Int) ≤ (B (16 * z + 4)).toInt; omega⟩
            rw [w]
          rw [e] at K2
          exact K2) 10 b (by omega) (by omega) (by omega)
        have z0 : zs (zc_f2 (zc_d B z) a) b = 0 := zs_z b (fun i hi' => if_neg (fun q => by
          have q1 : -(B (16 * z + 2)).toInt ≤ (i : Int) := q.1
          have q2 : (a : Int) - (B (16 * z + 6)).toInt ≤ i := q.2.1
          omega))
        rw [z0, Nat.add_zero, ← eL] at K
        exact ⟨11, K⟩
theorem zx_vcount {post : Int32 → Prop} {S : Nat → Nat → Prop} {B H : Nat → Int32} {z : Nat} (hX : zd_XR S B H) (hz : z < 4) (h : ∀ r, zd_Ct (S z) r → post r) : wpX_count post (B, H) (nI z) := by
  unfold wpX_count
  dsimp only
  refine zx_bad0 hz ?_
  refine br_t rfl ?_
  refine ⟨vp_in_nI (by omega) (by decide), ?_⟩
  rw [nI_clamp (n := z) (by omega)]
  rcases hX z hz with ⟨a, b⟩ | ⟨a, b, e⟩
  · refine br_f (by rw [a]; decide) (h 0 ⟨fun _ => 0, fun p hp => ⟨fun s => absurd s (b p hp), fun _ => rfl⟩, ?_⟩)
    rw [zs_z 1000 (fun _ _ => rfl)]
    rfl
  · refine br_t a ?_
    intro x3 ex3
    rw [show 16 * nI z = nI (16 * z) from pk_mul 16 z] at ex3
    subst ex3
    have i1 : nI (16 * z) + 1 = nI (16 * z + 1) := zx_at z 1
    have r1 := zc_d_r b (t := 1) (by omega)
    have l1 : (B (16 * z + 1)).toInt ≤ 0 := b.2.2.1 1 (by omega)
    rw [i1, nI_clamp (n := 16 * z + 1) (by omega)]
    refine ⟨vp_in_nI (by omega) (by decide), ?_⟩
    intro x4 ex4
    obtain ⟨v, hv⟩ : ∃ v : Nat, (v : Int) = -(B (16 * z + 1)).toInt := ⟨(-(B (16 * z + 1)).toInt).toNat, by omega⟩
    have ev : -(B (16 * z + 1)) = nI v := by
      refine zn_i ?_ (by omega)
      rw [zn_neg (by omega) (by omega)]
      exact hv.symm
    rw [ev] at ex4
    subst ex4
    have K := zx_c41 (post := post) (H := H) hz b (h _ (zc_ct b e)) 10 v (by omega) (by show -(B (16 * z + 1)).toInt ≤ (v : Int); omega) (by omega)
    have z0 : zs (zc_f1 (zc_d B z)) v = 0 := zs_z v (fun i hi' => if_neg (fun q => by
      have q1 : -(B (16 * z + 1)).toInt ≤ (i : Int) := q.1
      omega))
    rw [z0] at K
    exact ⟨11, K⟩
end
section
/-! spread -/
def zd_Sp (S : Nat → Prop) (m : Nat) (r : Int32) : Prop := ∃ f : Nat → Nat, (∀ t : Nat, t < 19 → ((∃ p, p < 1000 ∧ S p ∧ zd_df p (m / 4) (m % 4) + 9 = (t : Int)) → f t = 1) ∧ (¬ (∃ p, p < 1000 ∧ S p ∧ zd_df p (m / 4) (m % 4) + 9 = (t : Int)) → f t = 0)) ∧ r = nI (zs f 19)
theorem zd_Sp_u {S : Nat → Prop} {m : Nat} {r r' : Int32} (h : zd_Sp S m r) (h' : zd_Sp S m r') : r' = r := by
  obtain ⟨f, hf, e⟩ := h
  obtain ⟨f', hf', e'⟩ := h'
  rw [e, e', zs_c 19 (fun t ht => ?_)]
  by_cases s : ∃ p, p < 1000 ∧ S p ∧ zd_df p (m / 4) (m % 4) + 9 = (t : Int)
  · rw [(hf t ht).1 s, (hf' t ht).1 s]
  · rw [(hf t ht).2 s, (hf' t ht).2 s]
theorem zx_vspread {post : Int32 → Prop} {S : Nat → Nat → Prop} {B H : Nat → Int32} {z m : Nat} (hX : zd_XR S B H) (hz : z < 4) (hm : m < 16) (hd : m / 4 ≠ m % 4) (h : ∀ r, zd_Sp (S z) m r → post r) : wpX_spread post (B, H) (nI z) (nI m) := by
  unfold wpX_spread
  dsimp only
  refine zx_bad0 hz ?_
  refine br_t rfl ?_
  refine zx_bp0 hm hd ?_
  refine br_t rfl ?_
  refine ⟨by decide, by decide, ?_⟩
  intro x3 ex3
  rw [zn_rem4 hm, zn_div4 hm, show (4 : Int32) = nI 4 from rfl, pk_mul, nI_add] at ex3
  subst ex3
  refine ⟨vp_in_nI (by omega) (by decide), ?_⟩
  rw [nI_clamp (n := z) (by omega)]
  rcases hX z hz with ⟨a, b⟩ | ⟨a, b, e⟩
  · refine br_f (by rw [a]; decide) (h 0 ⟨fun _ => 0, fun t ht => ⟨fun ⟨p, hp, s, _⟩ => absurd s (b p hp), fun _ => rfl⟩, ?_⟩)
    rw [zs_z 19 (fun _ _ => rfl)]
    rfl
  · refine br_t a ⟨by rw [zn_ix2]; exact vp_in_nI (by omega) (by decide), by rw [zn_ix2]; exact vp_in_nI (by omega) (by decide), h _ ?_⟩
    rw [zn_ix2, zn_ix2, nI_clamp (n := 16 * z + m) (by omega), nI_clamp (n := 16 * z + (4 * (m % 4) + m / 4)) (by omega)]
    have e1 : zd_D B z (m / 4) (m % 4) = (B (16 * z + m)).toInt := by
      show (B (16 * z + 4 * (m / 4) + m % 4)).toInt = _
      rw [show 16 * z + 4 * (m / 4) + m % 4 = 16 * z + m from by omega]
    have e2 : zd_D B z (m % 4) (m / 4) = (B (16 * z + (4 * (m % 4) + m / 4))).toInt := by
      show (B (16 * z + 4 * (m % 4) + m / 4)).toInt = _
      rw [Nat.add_assoc]
    have g1 := zd_rg b (i := m / 4) (j := m % 4) (by omega) (by omega)
    have g2 := zd_rg b (i := m % 4) (j := m / 4) (by omega) (by omega)
    have g3 := zd_sum0 b (i := m / 4) (j := m % 4) (by omega) (by omega)
    refine ⟨fun t => if 9 - zd_D B z (m % 4) (m / 4) ≤ (t : Int) ∧ (t : Int) ≤ zd_D B z (m / 4) (m % 4) + 9 then 1 else 0, fun t ht => ⟨fun s => ?_, fun s => ?_⟩, ?_⟩
    · obtain ⟨p, hp, sp, ep⟩ := s
      have hin := (e p hp).mp sp
      have w1 := hin (m / 4) (m % 4) (by omega) (by omega)
      have w2 := hin (m % 4) (m / 4) (by omega) (by omega)
      have w3 := zd_df_t p (m / 4) (m / 4) (m % 4)
      rw [zd_df_s] at w3
      exact if_pos ⟨by omega, by omega⟩
    · refine if_neg (fun q => s ?_)
      obtain ⟨p, hp, hin, ep⟩ := zd_val b (i := m / 4) (j := m % 4) (by omega) (by omega) ((t : Int) - 9) (by omega) (by omega)
      exact ⟨p, hp, (e p hp).mpr hin, by omega⟩
    · have one : (1 : Int32).toInt = 1 := by decide
      have s1 := zn_add (x := B (16 * z + m)) (y := B (16 * z + (4 * (m % 4) + m / 4))) (by omega) (by omega) (by omega) (by omega)
      have s2 := zn_add (x := B (16 * z + m) + B (16 * z + (4 * (m % 4) + m / 4))) (y := 1) (by omega) (by omega) (by omega) (by omega)
      have q := zs_iv (9 - zd_D B z (m % 4) (m / 4)) (zd_D B z (m / 4) (m % 4) + 9) (by omega) 19
      rw [if_pos (by omega), if_pos (by omega)] at q
      exact zn_i (by omega) (by omega)
/-- one bit -/
theorem zb_1 : ∀ j, j < 32 → bt 1 j = decide (j = 0) := by decide +kernel
theorem zb_or {x : Int32} {k t : Nat} (hk : k < 32) (ht : t < 32) : bt (x ||| ((1 : Int32) <<< (nI k &&& 31))) t = true ↔ (bt x t = true ∨ t = k) := by
  rw [b_or, b_shl k hk 1 ht, Bool.or_eq_true, Bool.and_eq_true, decide_eq_true_eq, zb_1 (t - k) (by omega), decide_eq_true_eq]
  have q : (k ≤ t ∧ t - k = 0) ↔ t = k := by omega
  rw [q]
theorem zb_bit {x : Int32} {t : Nat} (ht : t < 32) : (x >>> (nI t &&& 31)) &&& 1 = nI (if bt x t = true then 1 else 0) := by
  apply b_ext
  intro i hi
  rw [b_and, b_sshr t ht x hi, zb_1 i hi]
  by_cases c : i = 0
  · subst c
    rw [if_pos (by omega), Nat.add_zero]
    by_cases q : bt x t = true
    · rw [if_pos q, q]
      decide
    · rw [if_neg q]
      have q' : bt x t = false := by
        cases h : bt x t
        · rfl
        · exact absurd h q
      rw [q']
      decide
  · rw [decide_eq_false c, Bool.and_false]
    by_cases q : bt x t = true
    · rw [if_pos q]
      have w := zb_1 i hi
      rw [decide_eq_false c] at w
      exact w.symm
    · rw [if_neg q]
      exact (b_0 i).symm
def zy_sf (x : Int32) : Nat → Nat := fun t => if bt x t = true then 1 else 0
theorem zy_s80 {post : Int32 → Prop} {P M : Nat → Int32} {x : Int32} (h : post (nI (zs (zy_sf x) 19))) : ∀ d t, t + d = 19 → wY_spread_80 post x P M (d + 1) (nI (zs (zy_sf x) t)) (nI t) := by
  intro d
  induction d with
  | zero =>
    intro t ht
    have e : t = 19 := by omega
    subst e
    exact br_t (nI_le (a := 19) (b := 19) (by omega) (by decide)) h
  | succ d ih =>
    intro t ht
    refine br_f (nI_ge (a := t) (b := 19) (by omega) (by decide)) ?_
    rw [zb_bit (by omega)]
    exact nm_r (nI_add _ _) (nm_r (nI_1 t) (ih (t + 1) (by omega)))
theorem zy_s25 {post : Int32 → Prop} {P M : Nat → Int32} {z m : Nat} {S : Nat → Prop} (hz : z < 4) (hm : m < 16) (hY : zd_Y P (1000 * z) S) (h : ∀ x : Int32, (∀ t : Nat, t < 32 → (bt x t = true ↔ ∃ p, p < 1000 ∧ S p ∧ zd_df p (m / 4) (m % 4) + 9 = (t : Int))) → post (nI (zs (zy_sf x) 19))) : ∀ d p x, p + d = 1000 → (∀ t : Nat, t < 32 → (bt x t = true ↔ ∃ q, q < p ∧ S q ∧ zd_df q (m / 4) (m % 4) + 9 = (t : Int))) → wY_spread_25 post (nI z) (nI m) P M (d + 1) x (nI p) := by
  intro d
  induction d with
  | zero =>
    intro p x hp hx
    have e : p = 1000 := by omega
    subst e
    exact br_t (nI_le (a := 1000) (b := 1000) (by omega) (by decide)) ⟨20, zy_s80 (h x hx) 19 0 rfl⟩
  | succ d ih =>
    intro p x hp hx
    refine br_f (nI_ge (a := p) (b := 1000) (by omega) (by decide)) ⟨by rw [zn_iy]; exact vp_in_nI (by omega) (by decide), ?_⟩
    rw [zn_iy, nI_clamp (n := 1000 * z + p) (by omega)]
    have q := zd_Y_0 hY (p := p) (by omega)
    refine br_c (fun c => nm_r (nI_1 p) (ih (p + 1) x (by omega) (fun t ht => ?_))) (fun c => zy_df (by omega) hm ?_)
    · rw [hx t ht]
      constructor
      · rintro ⟨k, hk, s, e⟩
        exact ⟨k, by omega, s, e⟩
      · rintro ⟨k, hk, s, e⟩
        by_cases w : k = p
        · exact absurd (w ▸ s) (q.mp c)
        · exact ⟨k, by omega, s, e⟩
    · have sp : S p := by
        by_cases s : S p
        · exact s
        · exact absurd (q.mpr s) c
      have dt := zy_dI_t (p := p) (m := m) (by omega)
      have db := zd_df_b (p := p) (i := m / 4) (j := m % 4) (by omega)
      have nine : (9 : Int32).toInt = 9 := by decide
      obtain ⟨k, hk⟩ : ∃ k : Nat, (k : Int) = zd_df p (m / 4) (m % 4) + 9 := ⟨(zd_df p (m / 4) (m % 4) + 9).toNat, by omega⟩
      have ek : zy_dI p m + 9 = nI k := by
        refine zn_i ?_ (by omega)
        rw [zn_add (by omega) (by omega) (by omega) (by omega), dt, nine]
        exact hk.symm
      rw [ek]
      refine nm_e (nm_r (nI_1 p) (ih (p + 1) _ (by omega) (fun t ht => ?_)))
      rw [zb_or (by omega) ht, hx t ht]
      constructor
      · rintro (⟨j, hj, s, e⟩ | e)
        · exact ⟨j, by omega, s, e⟩
        · exact ⟨p, by omega, sp, by omega⟩
      · rintro ⟨j, hj, s, e⟩
        by_cases w : j = p
        · subst w
          exact Or.inr (by omega)
        · exact Or.inl ⟨j, by omega, s, e⟩
theorem zy_vspread {post : Int32 → Prop} {S : Nat → Nat → Prop} {P M : Nat → Int32} {z m : Nat} (hY : zd_YR S P) (hz : z < 4) (hm : m < 16) (hd : m / 4 ≠ m % 4) (h : ∀ r, zd_Sp (S z) m r → post r) : wpY_spread post (P, M) (nI z) (nI m) := by
  unfold wpY_spread
  dsimp only
  refine zy_z1 hz ?_
  refine br_f (by decide) ?_
  refine zy_p1 hm hd ?_
  refine br_f (by decide) ?_
  refine ⟨1001, zy_s25 hz hm (hY z hz) (fun x hx => h _ ⟨zy_sf x, fun t ht => ⟨fun s => if_pos ((hx t (by omega)).mpr s), fun s => if_neg (fun q => s ((hx t (by omega)).mp q))⟩, rfl⟩) 1000 0 0 rfl (fun t ht => ?_)⟩
  rw [b_0]
  exact ⟨fun q => absurd q (by decide), fun ⟨k, hk, _⟩ => absurd hk (by omega)⟩
end
section
/-! what is owed -/
theorem zx_i22 {post : SX → Prop} (h : ∀ B H, (∀ w, w < 4 → zd_X B H w (fun _ => True)) → post (B, H)) : ∀ d i B H, i + d = 4 → (∀ w, w < i → zd_X B H w (fun _ => True)) → wX_init_22 post (d + 1) (nI i) B H := by
  intro d
  induction d with
  | zero =>
    intro i B H hi hX
    have e : i = 4 := by omega
    subst e
    exact br_t (nI_le (a := 4) (b := 4) (by omega) (by decide)) (h B H hX)
  | succ d ih =>
    intro i B H hi hX
    refine br_f (nI_ge (a := i) (b := 4) (by omega) (by decide)) (zx_setFresh (by omega) ?_)
    refine nm_r (nI_1 i) (ih (i + 1) _ _ (by omega) (fun w hw => ?_))
    by_cases e : w = i
    · subst e
      exact zx_fresh_X B H w
    · exact zd_X_f (zd_fB_zf (by omega)) (zd_fH_u i H 0) e (hX w (by omega))
theorem zy_i24 {post : SY → Prop} {P M : Nat → Int32} (h : post (zf P 0 4000 zy_k1, M)) : ∀ d p, p + d = 4000 → wY_init_24 post (d + 1) (nI p) (zf P 0 p zy_k1) M := by
  intro d
  induction d with
  | zero =>
    intro p hp
    have e : p = 4000 := by omega
    subst e
    exact br_t (nI_le (a := 4000) (b := 4000) (by omega) (by decide)) h
  | succ d ih =>
    intro p hp
    refine br_f (nI_ge (a := p) (b := 4000) (by omega) (by decide)) ⟨vp_in_nI (by omega) (by decide), ?_⟩
    intro a ea x e
    rw [nI_clamp (n := p) (by omega), zn_b (x := 1) (Or.inr rfl), zf_w (a := 0) (m := p) (q := p) (f := zy_k1) (x := 1) (by omega) rfl] at ea
    rw [nI_1] at e
    subst e ea
    exact ih (p + 1) (by omega)
theorem i_vc0 : wpX_init (fun u => wpY_init (fun v => i_Rel 0 u v)) := by
  refine ⟨5, zx_i22 (fun B H hX => ?_) 4 0 _ _ rfl (fun w hw => absurd hw (by omega))⟩
  have K := zy_i24 (post := fun v => i_Rel 0 (B, H) v) (P := fun _ => 0) (M := fun _ => 0) ⟨fun _ _ => True, hX, fun z hz p hp => ?_⟩ 4000 0 rfl
  · rw [zf_0] at K
    exact ⟨4001, K⟩
  · have e : zf (fun _ => 0) 0 4000 zy_k1 (1000 * z + p) = 1 := by
      have t := zf_at (B := fun _ => (0 : Int32)) (a := 0) (m := 4000) (f := zy_k1) (t := 1000 * z + p) (by omega)
      rw [Nat.zero_add] at t
      exact t
    exact ⟨fun _ => e, fun n => absurd trivial n⟩
theorem zd_i3 {v : Int32} (h1 : ¬ v < 1) (h3 : v ≤ 3) : ∃ i, 1 ≤ i ∧ i < 4 ∧ v = nI i := by
  rw [Int32.lt_iff_toInt_lt, show (1 : Int32).toInt = 1 from by decide] at h1
  rw [Int32.le_iff_toInt_le, show (3 : Int32).toInt = 3 from by decide] at h3
  exact ⟨v.toInt.toNat, by omega, by omega, zn_i (by omega) (by omega)⟩
theorem i_vc_fresh {k : Nat} {u : SX} {v : SY} (I : i_Rel k u v) (hk : k + 4 ≤ 2048) (v1 : Int32) : wpX_fresh (fun r u' => wpY_fresh (fun r' v' => r' = r ∧ i_Rel (k + 4) u' v') v v1) u v1 := by
  obtain ⟨B, H⟩ := u
  obtain ⟨Q, M⟩ := v
  obtain ⟨S, hX, hY⟩ := I
  have hX : zd_XR S B H := hX
  have hY : zd_YR S Q := hY
  rcases zd_zc v1 with b1 | ⟨z, hz, rfl⟩
  · unfold wpX_fresh
    dsimp only
    refine zx_bad1 b1 ?_
    refine br_f (by decide) ?_
    unfold wpY_fresh
    dsimp only
    refine zy_z0 b1 ?_
    refine br_t rfl ?_
    exact ⟨rfl, S, hX, hY⟩
  · exact zx_vfresh hX hz (fun B' H' hX' => zy_vfresh hY hz (fun P' M' hY' => ⟨rfl, _, hX', hY'⟩))
theorem i_vc_copy {k : Nat} {u : SX} {v : SY} (I : i_Rel k u v) (hk : k + 4 ≤ 2048) (v1 : Int32) (v2 : Int32) : wpX_copy (fun r u' => wpY_copy (fun r' v' => r' = r ∧ i_Rel (k + 4) u' v') v v1 v2) u v1 v2 := by
  obtain ⟨B, H⟩ := u
  obtain ⟨Q, M⟩ := v
  obtain ⟨S, hX, hY⟩ := I
  have hX : zd_XR S B H := hX
  have hY : zd_YR S Q := hY
  rcases zd_zc v1 with b1 | ⟨z, hz, rfl⟩
  · unfold wpX_copy
    dsimp only
    refine zx_bad1 b1 ?_
    refine br_f (by decide) ?_
    unfold wpY_copy
    dsimp only
    refine zy_z0 b1 ?_
    refine br_t rfl ?_
    exact ⟨rfl, S, hX, hY⟩
  rcases zd_zc v2 with b2 | ⟨y, hy, rfl⟩
  · unfold wpX_copy
    dsimp only
    refine zx_bad0 hz ?_
    refine br_t rfl ?_
    refine zx_bad1 b2 ?_
    refine br_f (by decide) ?_
    unfold wpY_copy
    dsimp only
    refine zy_z1 hz ?_
    refine br_f (by decide) ?_
    refine zy_z0 b2 ?_
    refine br_t rfl ?_
    exact ⟨rfl, S, hX, hY⟩
  · exact zx_vcopy hX hz hy (fun B' H' hX' => zy_vcopy hY hz hy (fun P' M' hY' => ⟨rfl, _, hX', hY'⟩))
theorem i_vc_constrain {k : Nat} {u : SX} {v : SY} (I : i_Rel k u v) (hk : k + 4 ≤ 2048) (v1 : Int32) (v2 : Int32) (v3 : Int32) : wpX_constrain (fun r u' => wpY_constrain (fun r' v' => r' = r ∧ i_Rel (k + 4) u' v') v v1 v2 v3) u v1 v2 v3 := by
  obtain ⟨B, H⟩ := u
  obtain ⟨Q, M⟩ := v
  obtain ⟨S, hX, hY⟩ := I
  have hX : zd_XR S B H := hX
  have hY : zd_YR S Q := hY
  rcases zd_zc v1 with b1 | ⟨z, hz, rfl⟩
  · unfold wpX_constrain
    dsimp only
    refine zx_bad1 b1 ?_
    refine br_f (by decide) ?_
    unfold wpY_constrain
    dsimp only
    refine zy_z0 b1 ?_
    refine br_t rfl ?_
    exact ⟨rfl, S, hX, hY⟩
  rcases zd_pc v2 with b2 | ⟨m, hm, rfl, hd⟩
  · unfold wpX_constrain
    dsimp only
    refine zx_bad0 hz ?_
    refine br_t rfl ?_
    refine zx_bp1 b2 ?_
    refine br_f (by decide) ?_
    unfold wpY_constrain
    dsimp only
    refine zy_z1 hz ?_
    refine br_f (by decide) ?_
    refine zy_p0 b2 ?_
    refine br_t rfl ?_
    exact ⟨rfl, S, hX, hY⟩
  by_cases c1 : v3 < -9
  · unfold wpX_constrain
    dsimp only
    refine zx_bad0 hz ?_
    refine br_t rfl ?_
    refine zx_bp0 hm hd ?_
    refine br_t rfl ?_
    refine br_t c1 ?_
    unfold wpY_constrain
    dsimp only
    refine zy_z1 hz ?_
    refine br_f (by decide) ?_
    refine zy_p1 hm hd ?_
    refine br_f (by decide) ?_
    refine br_t c1 ?_
    exact ⟨rfl, S, hX, hY⟩
  by_cases c2 : v3 ≤ 9
  · exact zx_vconstrain hX hz hm hd c1 c2 (fun r B' H' hr hX' => zy_vconstrain hY hz hm hd c1 c2 (fun r' P' M' hr' hY' => ⟨zd_An_u hr hr', _, hX', hY'⟩))
  · unfold wpX_constrain
    dsimp only
    refine zx_bad0 hz ?_
    refine br_t rfl ?_
    refine zx_bp0 hm hd ?_
    refine br_t rfl ?_
    refine br_f c1 ?_
    refine br_f c2 ?_
    unfold wpY_constrain
    dsimp only
    refine zy_z1 hz ?_
    refine br_f (by decide) ?_
    refine zy_p1 hm hd ?_
    refine br_f (by decide) ?_
    refine br_f c1 ?_
    refine br_f c2 ?_
    exact ⟨rfl, S, hX, hY⟩
theorem i_vc_meet {k : Nat} {u : SX} {v : SY} (I : i_Rel k u v) (hk : k + 4 ≤ 2048) (v1 : Int32) (v2 : Int32) : wpX_meet (fun r u' => wpY_meet (fun r' v' => r' = r ∧ i_Rel (k + 4) u' v') v v1 v2) u v1 v2 := by
  obtain ⟨B, H⟩ := u
  obtain ⟨Q, M⟩ := v
  obtain ⟨S, hX, hY⟩ := I
  have hX : zd_XR S B H := hX
  have hY : zd_YR S Q := hY
  rcases zd_zc v1 with b1 | ⟨z, hz, rfl⟩
  · unfold wpX_meet
    dsimp only
    refine zx_bad1 b1 ?_
    refine br_f (by decide) ?_
    unfold wpY_meet
    dsimp only
    refine zy_z0 b1 ?_
    refine br_t rfl ?_
    exact ⟨rfl, S, hX, hY⟩
  rcases zd_zc v2 with b2 | ⟨y, hy, rfl⟩
  · unfold wpX_meet
    dsimp only
    refine zx_bad0 hz ?_
    refine br_t rfl ?_
    refine zx_bad1 b2 ?_
    refine br_f (by decide) ?_
    unfold wpY_meet
    dsimp only
    refine zy_z1 hz ?_
    refine br_f (by decide) ?_
    refine zy_z0 b2 ?_
    refine br_t rfl ?_
    exact ⟨rfl, S, hX, hY⟩
  · exact zx_vmeet hX hz hy (fun r B' H' hr hX' => zy_vmeet hY hz hy (fun r' P' M' hr' hY' => ⟨zd_An_u hr hr', _, hX', hY'⟩))
theorem i_vc_hull {k : Nat} {u : SX} {v : SY} (I : i_Rel k u v) (hk : k + 4 ≤ 2048) (v1 : Int32) (v2 : Int32) : wpX_hull (fun r u' => wpY_hull (fun r' v' => r' = r ∧ i_Rel (k + 4) u' v') v v1 v2) u v1 v2 := by
  obtain ⟨B, H⟩ := u
  obtain ⟨Q, M⟩ := v
  obtain ⟨S, hX, hY⟩ := I
  have hX : zd_XR S B H := hX
  have hY : zd_YR S Q := hY
  rcases zd_zc v1 with b1 | ⟨z, hz, rfl⟩
  · unfold wpX_hull
    dsimp only
    refine zx_bad1 b1 ?_
    refine br_f (by decide) ?_
    unfold wpY_hull
    dsimp only
    refine zy_z0 b1 ?_
    refine br_t rfl ?_
    exact ⟨rfl, S, hX, hY⟩
  rcases zd_zc v2 with b2 | ⟨y, hy, rfl⟩
  · unfold wpX_hull
    dsimp only
    refine zx_bad0 hz ?_
    refine br_t rfl ?_
    refine zx_bad1 b2 ?_
    refine br_f (by decide) ?_
    unfold wpY_hull
    dsimp only
    refine zy_z1 hz ?_
    refine br_f (by decide) ?_
    refine zy_z0 b2 ?_
    refine br_t rfl ?_
    exact ⟨rfl, S, hX, hY⟩
  · exact zx_vhull hX hz hy (fun r B' H' hr hX' => zy_vhull hY hz hy (fun r' P' M' hr' hY' => ⟨zd_An_u hr hr', _, hX', hY'⟩))
theorem i_vc_delay {k : Nat} {u : SX} {v : SY} (I : i_Rel k u v) (hk : k + 4 ≤ 2048) (v1 : Int32) : wpX_delay (fun r u' => wpY_delay (fun r' v' => r' = r ∧ i_Rel (k + 4) u' v') v v1) u v1 := by
  obtain ⟨B, H⟩ := u
  obtain ⟨Q, M⟩ := v
  obtain ⟨S, hX, hY⟩ := I
  have hX : zd_XR S B H := hX
  have hY : zd_YR S Q := hY
  rcases zd_zc v1 with b1 | ⟨z, hz, rfl⟩
  · unfold wpX_delay
    dsimp only
    refine zx_bad1 b1 ?_
    refine br_f (by decide) ?_
    unfold wpY_delay
    dsimp only
    refine zy_z0 b1 ?_
    refine br_t rfl ?_
    exact ⟨rfl, S, hX, hY⟩
  · exact zx_vdelay hX hz (fun r B' H' hr hX' => zy_vdelay hY hz (fun r' P' M' hr' hY' => ⟨zd_An_u hr hr', _, hX', hY'⟩))
theorem i_vc_past {k : Nat} {u : SX} {v : SY} (I : i_Rel k u v) (hk : k + 4 ≤ 2048) (v1 : Int32) : wpX_past (fun r u' => wpY_past (fun r' v' => r' = r ∧ i_Rel (k + 4) u' v') v v1) u v1 := by
  obtain ⟨B, H⟩ := u
  obtain ⟨Q, M⟩ := v
  obtain ⟨S, hX, hY⟩ := I
  have hX : zd_XR S B H := hX
  have hY : zd_YR S Q := hY
  rcases zd_zc v1 with b1 | ⟨z, hz, rfl⟩
  · unfold wpX_past
    dsimp only
    refine zx_bad1 b1 ?_
    refine br_f (by decide) ?_
    unfold wpY_past
    dsimp only
    refine zy_z0 b1 ?_
    refine br_t rfl ?_
    exact ⟨rfl, S, hX, hY⟩
  · exact zx_vpast hX hz (fun r B' H' hr hX' => zy_vpast hY hz (fun r' P' M' hr' hY' => ⟨zd_An_u hr hr', _, hX', hY'⟩))
theorem i_vc_reset {k : Nat} {u : SX} {v : SY} (I : i_Rel k u v) (hk : k + 4 ≤ 2048) (v1 : Int32) (v2 : Int32) (v3 : Int32) : wpX_reset (fun r u' => wpY_reset (fun r' v' => r' = r ∧ i_Rel (k + 4) u' v') v v1 v2 v3) u v1 v2 v3 := by
  obtain ⟨B, H⟩ := u
  obtain ⟨Q, M⟩ := v
  obtain ⟨S, hX, hY⟩ := I
  have hX : zd_XR S B H := hX
  have hY : zd_YR S Q := hY
  rcases zd_zc v1 with b1 | ⟨z, hz, rfl⟩
  · unfold wpX_reset
    dsimp only
    refine zx_bad1 b1 ?_
    refine br_f (by decide) ?_
    unfold wpY_reset
    dsimp only
    refine zy_z0 b1 ?_
    refine br_t rfl ?_
    exact ⟨rfl, S, hX, hY⟩
  by_cases c1 : v2 < 1
  · unfold wpX_reset
    dsimp only
    refine zx_bad0 hz ?_
    refine br_t rfl ?_
    refine br_t c1 ?_
    unfold wpY_reset
    dsimp only
    refine zy_z1 hz ?_
    refine br_f (by decide) ?_
    refine br_t c1 ?_
    exact ⟨rfl, S, hX, hY⟩
  by_cases c2 : 3 < v2
  · unfold wpX_reset
    dsimp only
    refine zx_bad0 hz ?_
    refine br_t rfl ?_
    refine br_f c1 ?_
    refine br_t c2 ?_
    unfold wpY_reset
    dsimp only
    refine zy_z1 hz ?_
    refine br_f (by decide) ?_
    refine br_f c1 ?_
    refine br_t c2 ?_
    exact ⟨rfl, S, hX, hY⟩
  by_cases c3 : v3 < 0
  · unfold wpX_reset
    dsimp only
    refine zx_bad0 hz ?_
    refine br_t rfl ?_
    refine br_f c1 ?_
    refine br_f c2 ?_
    refine br_t c3 ?_
    unfold wpY_reset
    dsimp only
    refine zy_z1 hz ?_
    refine br_f (by decide) ?_
    refine br_f c1 ?_
    refine br_f c2 ?_
    refine br_t c3 ?_
    exact ⟨rfl, S, hX, hY⟩
  by_cases c4 : v3 ≤ 9
  · obtain ⟨i, hi1, hi, rfl⟩ := zd_i3 c1 (Int32.not_lt.mp c2)
    obtain ⟨c, hc, rfl⟩ := nI_of2 (M := 9) (n := 9) (by decide) c3 c4
    exact zx_vreset hX hz hi1 hi (by omega) (fun r B' H' hr hX' => zy_vreset hY hz hi1 hi (by omega) (fun r' P' M' hr' hY' => ⟨zd_An_u hr hr', _, hX', hY'⟩))
  · unfold wpX_reset
    dsimp only
    refine zx_bad0 hz ?_
    refine br_t rfl ?_
    refine br_f c1 ?_
    refine br_f c2 ?_
    refine br_f c3 ?_
    refine br_f c4 ?_
    unfold wpY_reset
    dsimp only
    refine zy_z1 hz ?_
    refine br_f (by decide) ?_
    refine br_f c1 ?_
    refine br_f c2 ?_
    refine br_f c3 ?_
    refine br_f c4 ?_
    exact ⟨rfl, S, hX, hY⟩
theorem i_vc_forget {k : Nat} {u : SX} {v : SY} (I : i_Rel k u v) (hk : k + 4 ≤ 2048) (v1 : Int32) (v2 : Int32) : wpX_forget (fun r u' => wpY_forget (fun r' v' => r' = r ∧ i_Rel (k + 4) u' v') v v1 v2) u v1 v2 := by
  obtain ⟨B, H⟩ := u
  obtain ⟨Q, M⟩ := v
  obtain ⟨S, hX, hY⟩ := I
  have hX : zd_XR S B H := hX
  have hY : zd_YR S Q := hY
  rcases zd_zc v1 with b1 | ⟨z, hz, rfl⟩
  · unfold wpX_forget
    dsimp only
    refine zx_bad1 b1 ?_
    refine br_f (by decide) ?_
    unfold wpY_forget
    dsimp only
    refine zy_z0 b1 ?_
    refine br_t rfl ?_
    exact ⟨rfl, S, hX, hY⟩
  by_cases c1 : v2 < 1
  · unfold wpX_forget
    dsimp only
    refine zx_bad0 hz ?_
    refine br_t rfl ?_
    refine br_t c1 ?_
    unfold wpY_forget
    dsimp only
    refine zy_z1 hz ?_
    refine br_f (by decide) ?_
    refine br_t c1 ?_
    exact ⟨rfl, S, hX, hY⟩
  by_cases c2 : v2 ≤ 3
  · obtain ⟨i, hi1, hi, rfl⟩ := zd_i3 c1 c2
    exact zx_vforget hX hz hi1 hi (fun r B' H' hr hX' => zy_vforget hY hz hi1 hi (fun r' P' M' hr' hY' => ⟨zd_An_u hr hr', _, hX', hY'⟩))
  · unfold wpX_forget
    dsimp only
    refine zx_bad0 hz ?_
    refine br_t rfl ?_
    refine br_f c1 ?_
    refine br_f c2 ?_
    unfold wpY_forget
    dsimp only
    refine zy_z1 hz ?_
    refine br_f (by decide) ?_
    refine br_f c1 ?_
    refine br_f c2 ?_
    exact ⟨rfl, S, hX, hY⟩
theorem i_vc_empty {k : Nat} {u : SX} {v : SY} (I : i_Rel k u v) (hk : k + 4 ≤ 2048) (v1 : Int32) : wpX_empty (fun r => wpY_empty (fun r' => r' = r ∧ i_Rel (k + 4) u v) v v1) u v1 := by
  obtain ⟨B, H⟩ := u
  obtain ⟨Q, M⟩ := v
  obtain ⟨S, hX, hY⟩ := I
  have hX : zd_XR S B H := hX
  have hY : zd_YR S Q := hY
  rcases zd_zc v1 with b1 | ⟨z, hz, rfl⟩
  · unfold wpX_empty
    dsimp only
    refine zx_bad1 b1 ?_
    refine br_f (by decide) ?_
    unfold wpY_empty
    dsimp only
    refine zy_z0 b1 ?_
    refine br_t rfl ?_
    exact ⟨rfl, S, hX, hY⟩
  · exact zx_vempty hX hz (fun r hr => zy_vempty hY hz (fun r' hr' => ⟨zd_Em_u hr hr', S, hX, hY⟩))
theorem i_vc_has {k : Nat} {u : SX} {v : SY} (I : i_Rel k u v) (hk : k + 4 ≤ 2048) (v1 : Int32) (v2 : Int32) : wpX_has (fun r => wpY_has (fun r' => r' = r ∧ i_Rel (k + 4) u v) v v1 v2) u v1 v2 := by
  obtain ⟨B, H⟩ := u
  obtain ⟨Q, M⟩ := v
  obtain ⟨S, hX, hY⟩ := I
  have hX : zd_XR S B H := hX
  have hY : zd_YR S Q := hY
  rcases zd_zc v1 with b1 | ⟨z, hz, rfl⟩
  · unfold wpX_has
    dsimp only
    refine zx_bad1 b1 ?_
    refine br_f (by decide) ?_
    unfold wpY_has
    dsimp only
    refine zy_z0 b1 ?_
    refine br_t rfl ?_
    exact ⟨rfl, S, hX, hY⟩
  by_cases c1 : v2 < 0
  · exact zx_vhas0 hX hz (Or.inl c1) (zy_vhas0 hz (Or.inl c1) ⟨rfl, S, hX, hY⟩)
  by_cases c2 : v2 ≤ 999
  · obtain ⟨p, hp, rfl⟩ := nI_of2 (M := 999) (n := 999) (by decide) c1 c2
    exact zx_vhas hX hz (by omega) (fun r hr => zy_vhas hY hz (by omega) (fun r' hr' => ⟨zd_Ha_u hr hr', S, hX, hY⟩))
  · exact zx_vhas0 hX hz (Or.inr c2) (zy_vhas0 hz (Or.inr c2) ⟨rfl, S, hX, hY⟩)
theorem i_vc_bound {k : Nat} {u : SX} {v : SY} (I : i_Rel k u v) (hk : k + 4 ≤ 2048) (v1 : Int32) (v2 : Int32) : wpX_bound (fun r => wpY_bound (fun r' => r' = r ∧ i_Rel (k + 4) u v) v v1 v2) u v1 v2 := by
  obtain ⟨B, H⟩ := u
  obtain ⟨Q, M⟩ := v
  obtain ⟨S, hX, hY⟩ := I
  have hX : zd_XR S B H := hX
  have hY : zd_YR S Q := hY
  rcases zd_zc v1 with b1 | ⟨z, hz, rfl⟩
  · unfold wpX_bound
    dsimp only
    refine zx_bad1 b1 ?_
    refine br_f (by decide) ?_
    unfold wpY_bound
    dsimp only
    refine zy_z0 b1 ?_
    refine br_t rfl ?_
    exact ⟨rfl, S, hX, hY⟩
  rcases zd_pc v2 with b2 | ⟨m, hm, rfl, hd⟩
  · unfold wpX_bound
    dsimp only
    refine zx_bad0 hz ?_
    refine br_t rfl ?_
    refine zx_bp1 b2 ?_
    refine br_f (by decide) ?_
    unfold wpY_bound
    dsimp only
    refine zy_z1 hz ?_
    refine br_f (by decide) ?_
    refine zy_p0 b2 ?_
    refine br_t rfl ?_
    exact ⟨rfl, S, hX, hY⟩
  · exact zx_vbound hX hz hm hd (fun r hr => zy_vbound hY hz hm hd (fun r' hr' => ⟨zd_Gr_u hr hr', S, hX, hY⟩))
theorem i_vc_count {k : Nat} {u : SX} {v : SY} (I : i_Rel k u v) (hk : k + 4 ≤ 2048) (v1 : Int32) : wpX_count (fun r => wpY_count (fun r' => r' = r ∧ i_Rel (k + 4) u v) v v1) u v1 := by
  obtain ⟨B, H⟩ := u
  obtain ⟨Q, M⟩ := v
  obtain ⟨S, hX, hY⟩ := I
  have hX : zd_XR S B H := hX
  have hY : zd_YR S Q := hY
  rcases zd_zc v1 with b1 | ⟨z, hz, rfl⟩
  · unfold wpX_count
    dsimp only
    refine zx_bad1 b1 ?_
    refine br_f (by decide) ?_
    unfold wpY_count
    dsimp only
    refine zy_z0 b1 ?_
    refine br_t rfl ?_
    exact ⟨rfl, S, hX, hY⟩
  · exact zx_vcount hX hz (fun r hr => zy_vcount hY hz (fun r' hr' => ⟨zd_Ct_u hr hr', S, hX, hY⟩))
theorem i_vc_within {k : Nat} {u : SX} {v : SY} (I : i_Rel k u v) (hk : k + 4 ≤ 2048) (v1 : Int32) (v2 : Int32) : wpX_within (fun r => wpY_within (fun r' => r' = r ∧ i_Rel (k + 4) u v) v v1 v2) u v1 v2 := by
  obtain ⟨B, H⟩ := u
  obtain ⟨Q, M⟩ := v
  obtain ⟨S, hX, hY⟩ := I
  have hX : zd_XR S B H := hX
  have hY : zd_YR S Q := hY
  rcases zd_zc v1 with b1 | ⟨z, hz, rfl⟩
  · unfold wpX_within
    dsimp only
    refine zx_bad1 b1 ?_
    refine br_f (by decide) ?_
    unfold wpY_within
    dsimp only
    refine zy_z0 b1 ?_
    refine br_t rfl ?_
    exact ⟨rfl, S, hX, hY⟩
  rcases zd_zc v2 with b2 | ⟨y, hy, rfl⟩
  · unfold wpX_within
    dsimp only
    refine zx_bad0 hz ?_
    refine br_t rfl ?_
    refine zx_bad1 b2 ?_
    refine br_f (by decide) ?_
    unfold wpY_within
    dsimp only
    refine zy_z1 hz ?_
    refine br_f (by decide) ?_
    refine zy_z0 b2 ?_
    refine br_t rfl ?_
    exact ⟨rfl, S, hX, hY⟩
  · exact zx_vwithin hX hz hy (fun r hr => zy_vwithin hY hz hy (fun r' hr' => ⟨zd_Wi_u hr hr', S, hX, hY⟩))
theorem i_vc_touches {k : Nat} {u : SX} {v : SY} (I : i_Rel k u v) (hk : k + 4 ≤ 2048) (v1 : Int32) (v2 : Int32) : wpX_touches (fun r u' => wpY_touches (fun r' => r' = r ∧ i_Rel (k + 4) u' v) v v1 v2) u v1 v2 := by
  obtain ⟨B, H⟩ := u
  obtain ⟨Q, M⟩ := v
  obtain ⟨S, hX, hY⟩ := I
  have hX : zd_XR S B H := hX
  have hY : zd_YR S Q := hY
  rcases zd_zc v1 with b1 | ⟨z, hz, rfl⟩
  · unfold wpX_touches
    dsimp only
    refine zx_bad1 b1 ?_
    refine br_f (by decide) ?_
    unfold wpY_touches
    dsimp only
    refine zy_z0 b1 ?_
    refine br_t rfl ?_
    exact ⟨rfl, S, hX, hY⟩
  rcases zd_zc v2 with b2 | ⟨y, hy, rfl⟩
  · unfold wpX_touches
    dsimp only
    refine zx_bad0 hz ?_
    refine br_t rfl ?_
    refine zx_bad1 b2 ?_
    refine br_f (by decide) ?_
    unfold wpY_touches
    dsimp only
    refine zy_z1 hz ?_
    refine br_f (by decide) ?_
    refine zy_z0 b2 ?_
    refine br_t rfl ?_
    exact ⟨rfl, S, hX, hY⟩
  · exact zx_vtouches hX hz hy (fun r B' H' hr hX' => zy_vtouches hY hz hy (fun r' hr' => ⟨zd_An_u hr hr', S, hX', hY⟩))
theorem i_vc_least {k : Nat} {u : SX} {v : SY} (I : i_Rel k u v) (hk : k + 4 ≤ 2048) (v1 : Int32) : wpX_least (fun r u' => wpY_least (fun r' => r' = r ∧ i_Rel (k + 4) u' v) v v1) u v1 := by
  obtain ⟨B, H⟩ := u
  obtain ⟨Q, M⟩ := v
  obtain ⟨S, hX, hY⟩ := I
  have hX : zd_XR S B H := hX
  have hY : zd_YR S Q := hY
  rcases zd_zc v1 with b1 | ⟨z, hz, rfl⟩
  · unfold wpX_least
    dsimp only
    refine zx_bad1 b1 ?_
    refine br_f (by decide) ?_
    unfold wpY_least
    dsimp only
    refine zy_z0 b1 ?_
    refine br_t rfl ?_
    exact ⟨rfl, S, hX, hY⟩
  · exact zx_vleast hX hz (fun r B' H' hr hX' => zy_vleast hY hz (fun r' hr' => ⟨zd_Le_u hr hr', S, hX', hY⟩))
theorem i_vc_spread {k : Nat} {u : SX} {v : SY} (I : i_Rel k u v) (hk : k + 4 ≤ 2048) (v1 : Int32) (v2 : Int32) : wpX_spread (fun r => wpY_spread (fun r' => r' = r ∧ i_Rel (k + 4) u v) v v1 v2) u v1 v2 := by
  obtain ⟨B, H⟩ := u
  obtain ⟨Q, M⟩ := v
  obtain ⟨S, hX, hY⟩ := I
  have hX : zd_XR S B H := hX
  have hY : zd_YR S Q := hY
  rcases zd_zc v1 with b1 | ⟨z, hz, rfl⟩
  · unfold wpX_spread
    dsimp only
    refine zx_bad1 b1 ?_
    refine br_f (by decide) ?_
    unfold wpY_spread
    dsimp only
    refine zy_z0 b1 ?_
    refine br_t rfl ?_
    exact ⟨rfl, S, hX, hY⟩
  rcases zd_pc v2 with b2 | ⟨m, hm, rfl, hd⟩
  · unfold wpX_spread
    dsimp only
    refine zx_bad0 hz ?_
    refine br_t rfl ?_
    refine zx_bp1 b2 ?_
    refine br_f (by decide) ?_
    unfold wpY_spread
    dsimp only
    refine zy_z1 hz ?_
    refine br_f (by decide) ?_
    refine zy_p0 b2 ?_
    refine br_t rfl ?_
    exact ⟨rfl, S, hX, hY⟩
  · exact zx_vspread hX hz hm hd (fun r hr => zy_vspread hY hz hm hd (fun r' hr' => ⟨zd_Sp_u hr hr', S, hX, hY⟩))
theorem i_vc_meeting {k : Nat} {u : SX} {v : SY} (I : i_Rel k u v) (hk : k + 4 ≤ 2048) (v1 : Int32) (v2 : Int32) : wpX_meeting (fun r u' => wpY_meeting (fun r' => r' = r ∧ i_Rel (k + 4) u' v) v v1 v2) u v1 v2 := by
  obtain ⟨B, H⟩ := u
  obtain ⟨Q, M⟩ := v
  obtain ⟨S, hX, hY⟩ := I
  have hX : zd_XR S B H := hX
  have hY : zd_YR S Q := hY
  rcases zd_zc v1 with b1 | ⟨z, hz, rfl⟩
  · unfold wpX_meeting
    dsimp only
    refine zx_bad1 b1 ?_
    refine br_f (by decide) ?_
    unfold wpY_meeting
    dsimp only
    refine zy_z0 b1 ?_
    refine br_t rfl ?_
    exact ⟨rfl, S, hX, hY⟩
  rcases zd_zc v2 with b2 | ⟨y, hy, rfl⟩
  · unfold wpX_meeting
    dsimp only
    refine zx_bad0 hz ?_
    refine br_t rfl ?_
    refine zx_bad1 b2 ?_
    refine br_f (by decide) ?_
    unfold wpY_meeting
    dsimp only
    refine zy_z1 hz ?_
    refine br_f (by decide) ?_
    refine zy_z0 b2 ?_
    refine br_t rfl ?_
    exact ⟨rfl, S, hX, hY⟩
  · exact zx_vmeeting hX hz hy (fun r B' H' hr hX' => zy_vmeeting hY hz hy (fun r' hr' => ⟨zd_Me_u hr hr', S, hX', hY⟩))
end
