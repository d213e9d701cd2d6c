section
/-! pure rows to paste: stores, nI and lN arithmetic, masks, shifts, narrowing, branches by naturals (pk_le, pk_lt, pk_eq), loops (lp1 .. lp16: the measure of the state; rp1 ..: recursion), negatives. Take what you need -/
theorem pk_us {f : Nat → Int32} {k : Nat} {x : Int32} : upd f k x k = x := if_pos rfl
theorem pk_un {f : Nat → Int32} {k j : Nat} {x : Int32} (h : j ≠ k) : upd f k x j = f j := if_neg h
theorem pk_sub {a b : Nat} (h : b ≤ a) : nI a - nI b = nI (a - b) := by
  obtain ⟨c, rfl⟩ : ∃ c, a = c + b := ⟨a - b, by omega⟩
  rw [← nI_add, Int32.add_sub_cancel, Nat.add_sub_cancel]
theorem pk_m1 (n : Nat) : nI (n + 1) + (-1) = nI n := by
  rw [← nI_1, Int32.add_assoc, show (1 : Int32) + (-1) = 0 from rfl, Int32.add_zero]
theorem pk_mul (a b : Nat) : nI a * nI b = nI (a * b) := (Int32.ofNat_mul a b).symm
theorem pk_div {a d : Nat} (ha : a < 2 ^ 31) (h0 : 0 < d) (hd : d < 2 ^ 31) : nI a / nI d = nI (a / d) := by
  apply Int32.toInt_inj.mp
  rw [lg_idiv_nonneg (by rw [nI_toInt ha]; omega) (by rw [nI_toInt hd]; omega), nI_toInt ha, nI_toInt hd, nI_toInt (Nat.lt_of_le_of_lt (Nat.div_le_self a d) ha)]
  first | rfl | exact (Int.natCast_ediv _ _).symm
theorem pk_rem {a d : Nat} (ha : a < 2 ^ 31) (h0 : 0 < d) (hd : d < 2 ^ 31) : nI a - nI a / nI d * nI d = nI (a % d) := by
  rw [pk_div ha h0 hd, pk_mul, pk_sub (Nat.div_mul_le_self a d)]
  exact congrArg nI (by have := Nat.div_add_mod' a d; omega)
theorem pk_sub_toInt {a b : Nat} (ha : a < 2 ^ 30) (hb : b < 2 ^ 30) : (nI a - nI b).toInt = (a : Int) - b := by
  rw [Int32.toInt_sub, nI_toInt (by omega), nI_toInt (by omega)]
  exact Int.bmod_eq_of_le (by omega) (by omega)
theorem pk_sneg {a b : Nat} (hb : b < 2 ^ 30) (h : a < b) : nI a - nI b < 0 := by
  rw [Int32.lt_iff_toInt_lt, pk_sub_toInt (by omega) hb, show (0 : Int32).toInt = 0 from by decide]
  omega
theorem pk_ix (x : Int32) {n : Nat} (hn : n < 2 ^ 31) : x < 0 ∨ nI n ≤ x ∨ ∃ j : Nat, j < n ∧ x = nI j := by
  by_cases h : x < 0
  · exact Or.inl h
  · obtain ⟨j, hj, rfl⟩ := nI_of h
    by_cases h2 : j < n
    · exact Or.inr (Or.inr ⟨j, h2, rfl⟩)
    · exact Or.inr (Or.inl (nI_le (by omega) hj))
theorem pk_le {x y : Int32} {A B : Prop} (a b : Nat) (f : a ≤ b → A) (g : b < a → B) (hx : x = nI a := by rfl) (hy : y = nI b := by rfl) (ha : a < 2 ^ 31 := by omega) (hb : b < 2 ^ 31 := by omega) : (x ≤ y → A) ∧ (¬ x ≤ y → B) := by
  subst hx hy
  rw [nI_leI ha hb]
  exact ⟨f, fun z => g (by omega)⟩
theorem pk_lt {x y : Int32} {A B : Prop} (a b : Nat) (f : a < b → A) (g : b ≤ a → B) (hx : x = nI a := by rfl) (hy : y = nI b := by rfl) (ha : a < 2 ^ 31 := by omega) (hb : b < 2 ^ 31 := by omega) : (x < y → A) ∧ (¬ x < y → B) := by
  subst hx hy
  rw [nI_ltI ha hb]
  exact ⟨f, fun z => g (by omega)⟩
theorem pk_eq {x y : Int32} {A B : Prop} (a b : Nat) (f : a = b → A) (g : a ≠ b → B) (hx : x = nI a := by rfl) (hy : y = nI b := by rfl) (ha : a < 2 ^ 31 := by omega) (hb : b < 2 ^ 31 := by omega) : (x = y → A) ∧ (¬ x = y → B) := by
  subst hx hy
  rw [nI_eq ha hb]
  exact ⟨f, g⟩
theorem pk_in {x : Int32} (n N : Nat) (h : n < N) (hx : x = nI n := by rfl) (hN : N < 2 ^ 31 := by omega) : vp_in x N := by
  subst hx
  exact vp_in_nI h hN
theorem pk_cl {x : Int32} (n : Nat) (hx : x = nI n := by rfl) (h : n < 2 ^ 31 := by omega) : x.toNatClampNeg = n := by
  subst hx
  exact nI_clamp h
theorem pk_tn {n : Nat} (h : n < 2 ^ 32) : (nI n).toBitVec.toNat = n := Nat.mod_eq_of_lt h
theorem pk_and (x : Int32) {m : Int32} (k : Nat) (hm : m.toBitVec.toNat = 2 ^ k - 1) : x &&& m = nI (x.toBitVec.toNat % 2 ^ k) := by
  apply Int32.toBitVec_inj.mp
  apply BitVec.eq_of_toNat_eq
  rw [Int32.toBitVec_and, BitVec.toNat_and, hm, Nat.and_two_pow_sub_one_eq_mod]
  show _ = (BitVec.ofNat 32 _).toNat
  rw [BitVec.toNat_ofNat]
  exact (Nat.mod_eq_of_lt (Nat.lt_of_le_of_lt (Nat.mod_le _ _) x.toBitVec.isLt)).symm
theorem pk_andN {n : Nat} (h : n < 2 ^ 32) {m : Int32} (k : Nat) (hm : m.toBitVec.toNat = 2 ^ k - 1) : nI n &&& m = nI (n % 2 ^ k) := by
  rw [pk_and _ k hm, pk_tn h]
theorem pk_andE (x : Int32) {m : Int32} (k : Nat) (hm : m.toBitVec.toNat = 2 ^ k - 1) : ∃ j : Nat, j < 2 ^ k ∧ x &&& m = nI j := ⟨_, Nat.mod_lt _ (Nat.two_pow_pos k), pk_and x k hm⟩
theorem pk_andIn (x : Int32) {m : Int32} (k : Nat) (hm : m.toBitVec.toNat = 2 ^ k - 1) (hk : k ≤ 30) : vp_in (x &&& m) (2 ^ k) := by
  obtain ⟨j, hj, e⟩ := pk_andE x k hm
  rw [e]
  exact vp_in_nI hj (Nat.lt_of_le_of_lt (Nat.pow_le_pow_right (by decide) hk) (by decide))
theorem pk_shl (a s : Int32) (k : Nat) (hs : (s.toBitVec.smod 32).toNat = k) : (a <<< s).toBitVec.toNat = a.toBitVec.toNat * 2 ^ k % 2 ^ 32 := by
  show (a.toBitVec <<< (s.toBitVec.smod 32).toNat).toNat = _
  rw [hs, BitVec.toNat_shiftLeft, Nat.shiftLeft_eq]
theorem pk_shlN {n : Nat} (s : Int32) (k : Nat) (hs : (s.toBitVec.smod 32).toNat = k) (h : n * 2 ^ k < 2 ^ 32) : nI n <<< s = nI (n * 2 ^ k) := by
  apply Int32.toBitVec_inj.mp
  apply BitVec.eq_of_toNat_eq
  have hn : n < 2 ^ 32 := Nat.lt_of_le_of_lt (Nat.le_mul_of_pos_right n (Nat.two_pow_pos k)) h
  rw [pk_shl _ _ k hs, pk_tn hn, pk_tn h, Nat.mod_eq_of_lt h]
theorem pk_shr (a s : Int32) (k : Nat) (hs : (s.toBitVec.smod 32).toNat = k) : (a >>> s).toInt = a.toInt >>> k := by
  show (a.toBitVec.sshiftRight (s.toBitVec.smod 32).toNat).toInt = _
  rw [hs, BitVec.toInt_sshiftRight]
  rfl
theorem pk_shrN {n : Nat} (h : n < 2 ^ 31) (s : Int32) (k : Nat) (hs : (s.toBitVec.smod 32).toNat = k) : nI n >>> s = nI (n / 2 ^ k) := by
  apply Int32.toInt_inj.mp
  have h2 : n / 2 ^ k ≤ n := Nat.div_le_self _ _
  rw [pk_shr _ _ k hs, nI_toInt h, nI_toInt (by omega), Int.shiftRight_eq_div_pow]
  rfl
/-! own rows: numbers -/
theorem za_16 (s : Nat) : (16 : Int32) * nI s = nI (16 * s) := pk_mul 16 s
theorem za_ix (s n : Nat) : (16 : Int32) * nI s + nI n = nI (16 * s + n) := by rw [za_16, nI_add]
theorem za_2 (s : Nat) : (2 : Int32) * nI s = nI (2 * s) := pk_mul 2 s
theorem za_97 {a : Nat} (ha : a < 2 ^ 31) : nI a - nI a / 97 * 97 = nI (a % 97) := pk_rem (d := 97) ha (by decide) (by decide)
theorem za_d16 {a : Nat} (ha : a < 2 ^ 31) : nI a / 16 = nI (a / 16) := pk_div (d := 16) ha (by decide) (by decide)
theorem za_m16 {a : Nat} (ha : a < 2 ^ 31) : nI a - nI a / 16 * 16 = nI (a % 16) := pk_rem (d := 16) ha (by decide) (by decide)
theorem za_s4 {p : Nat} (h : p < 128) : nI p >>> ((4 : Int32) &&& 31) = nI (p / 16) := pk_shrN (by omega) _ 4 (by decide)
theorem za_a15 {p : Nat} (h : p < 128) : nI p &&& 15 = nI (p % 16) := pk_andN (by omega) 4 (by decide)
theorem za_a7 {p : Nat} (h : p < 2 ^ 31) : nI p &&& 7 = nI (p % 8) := pk_andN (by omega) 3 (by decide)
theorem za_n97 : ¬ (97 : Int32) = 0 := by decide
theorem za_n16 : ¬ (16 : Int32) = 0 := by decide
theorem za_s1 {a : Nat} (h : 1 ≤ a) : nI a - 1 = nI (a - 1) := pk_sub (b := 1) h
theorem za_m1 : ¬ (-1 : Int32) = 0 := by decide
theorem za_nm {a : Nat} (h : a < 2 ^ 31) : ¬ nI a = -1 := by
  intro e
  have h1 := congrArg Int32.toInt e
  rw [nI_toInt h, show (-1 : Int32).toInt = -1 from by decide] at h1
  omega
theorem za_neg : (nI 0 + (-1) : Int32) < 0 := by decide
theorem za_mul_le {x y : Nat} (hx : x < 97) (hy : y < 97) : x * y ≤ 9216 := Nat.mul_le_mul (Nat.le_of_lt_succ hx) (Nat.le_of_lt_succ hy)
/-- a fuel for loops -/
theorem za_fx {P : Nat → Prop} (m : Nat) (h : ∀ n, m < n → P n) : ∃ n, P n := ⟨m + 1, h _ (Nat.lt_succ_self m)⟩
theorem za_updN (f : Nat → Nat) (k x : Nat) : upd (fun j => nI (f j)) k (nI x) = fun j => nI (if j = k then x else f j) := by
  funext j
  unfold upd
  split <;> rfl
end
section
/-! sums from the front: zs_sm g i d = g i + .. + g (i + d - 1) -/
def zs_sm (g : Nat → Nat) : Nat → Nat → Nat
  | _, 0 => 0
  | i, d + 1 => g i + zs_sm g (i + 1) d
theorem zs_sm_s (g : Nat → Nat) (i d : Nat) : zs_sm g i (d + 1) = g i + zs_sm g (i + 1) d := rfl
theorem zs_sm_z (g : Nat → Nat) (i : Nat) : zs_sm g i 0 = 0 := by unfold zs_sm; rfl
theorem zs_sm_congr {g h : Nat → Nat} : ∀ d i, (∀ j, i ≤ j → j < i + d → g j = h j) → zs_sm g i d = zs_sm h i d := by
  intro d
  induction d with
  | zero => intro i _; rw [zs_sm_z, zs_sm_z]
  | succ d ih =>
    intro i H
    rw [zs_sm_s, zs_sm_s, H i (Nat.le_refl i) (by omega), ih (i + 1) (fun j h1 h2 => H j (by omega) (by omega))]
theorem zs_sm_mod {g h : Nat → Nat} : ∀ d i, (∀ j, i ≤ j → j < i + d → g j % 97 = h j % 97) → zs_sm g i d % 97 = zs_sm h i d % 97 := by
  intro d
  induction d with
  | zero => intro i _; rw [zs_sm_z, zs_sm_z]
  | succ d ih =>
    intro i H
    have h1 := H i (Nat.le_refl i) (by omega)
    have h2 := ih (i + 1) (fun j h1 h2 => H j (by omega) (by omega))
    rw [zs_sm_s, zs_sm_s]
    omega
theorem zs_sm_le {g : Nat → Nat} (M : Nat) : ∀ d i, (∀ j, i ≤ j → j < i + d → g j ≤ M) → zs_sm g i d ≤ M * d := by
  intro d
  induction d with
  | zero => intro i _; rw [zs_sm_z]; exact Nat.zero_le _
  | succ d ih =>
    intro i H
    have h1 := H i (Nat.le_refl i) (by omega)
    have h2 := ih (i + 1) (fun j h1 h2 => H j (by omega) (by omega))
    rw [zs_sm_s, Nat.mul_succ]
    omega
theorem zs_sm_add (g h : Nat → Nat) : ∀ d i, zs_sm (fun j => g j + h j) i d = zs_sm g i d + zs_sm h i d := by
  intro d
  induction d with
  | zero => intro i; simp only [zs_sm_z]
  | succ d ih => intro i; rw [zs_sm_s, zs_sm_s, zs_sm_s, ih]; omega
theorem zs_sm_mul (c : Nat) (g : Nat → Nat) : ∀ d i, zs_sm (fun j => c * g j) i d = c * zs_sm g i d := by
  intro d
  induction d with
  | zero => intro i; simp only [zs_sm_z, Nat.mul_zero]
  | succ d ih => intro i; rw [zs_sm_s, zs_sm_s, ih, Nat.mul_add]
theorem zs_sm_zero : ∀ d i, zs_sm (fun _ => 0) i d = 0 := by
  intro d
  induction d with
  | zero => intro i; rw [zs_sm_z]
  | succ d ih => intro i; rw [zs_sm_s, ih]
theorem zs_sm_swap (F : Nat → Nat → Nat) (e k : Nat) : ∀ d i, zs_sm (fun x => zs_sm (fun y => F x y) k e) i d = zs_sm (fun y => zs_sm (fun x => F x y) i d) k e := by
  intro d
  induction d with
  | zero => intro i; simp only [zs_sm_z]; exact (zs_sm_zero e k).symm
  | succ d ih => intro i; simp only [zs_sm_s]; rw [ih, ← zs_sm_add]
theorem zs_sm_last (g : Nat → Nat) : ∀ d i, zs_sm g i (d + 1) = zs_sm g i d + g (i + d) := by
  intro d
  induction d with
  | zero => intro i; rw [zs_sm_s, zs_sm_z, zs_sm_z]; simp
  | succ d ih => intro i; rw [zs_sm_s, ih, zs_sm_s g i d, show i + 1 + d = i + (d + 1) from by omega]; omega
theorem zs_sm_shift (g : Nat → Nat) : ∀ d i, zs_sm g (i + 1) d = zs_sm (fun j => g (j + 1)) i d := by
  intro d
  induction d with
  | zero => intro i; rw [zs_sm_z, zs_sm_z]
  | succ d ih => intro i; rw [zs_sm_s, zs_sm_s, ih]
theorem zs_sm_rev (g : Nat → Nat) : ∀ n, zs_sm g 0 (n + 1) = zs_sm (fun k => g (n - k)) 0 (n + 1) := by
  intro n
  induction n with
  | zero => rfl
  | succ n ih =>
    rw [zs_sm_last g (n + 1) 0, ih, zs_sm_s (fun k => g (n + 1 - k)) 0 (n + 1), zs_sm_shift (fun k => g (n + 1 - k)) (n + 1) 0]
    have e : zs_sm (fun j => g (n + 1 - (j + 1))) 0 (n + 1) = zs_sm (fun k => g (n - k)) 0 (n + 1) := zs_sm_congr _ _ (fun j _ _ => congrArg g (by omega))
    rw [e]
    simp only [Nat.sub_zero, Nat.zero_add]
    omega
/-- residues: only the rest of a factor counts -/
theorem zs_mm (x y : Nat) : x * (y % 97) % 97 = x * y % 97 := by rw [Nat.mul_mod, Nat.mod_mod, ← Nat.mul_mod]
theorem zs_mm' (x y : Nat) : (x % 97) * y % 97 = x * y % 97 := by rw [Nat.mul_mod, Nat.mod_mod, ← Nat.mul_mod]
/-! powers of a series, exact -/
def zs_pw (b : Nat → Nat) : Nat → Nat → Nat
  | 0, i => if i = 0 then 1 else 0
  | j + 1, i => zs_sm (fun k => zs_pw b j k * b (i - k)) 0 (i + 1)
theorem zs_pw_0 (b : Nat → Nat) (i : Nat) : zs_pw b 0 i = if i = 0 then 1 else 0 := rfl
theorem zs_pw_s (b : Nat → Nat) (j i : Nat) : zs_pw b (j + 1) i = zs_sm (fun k => zs_pw b j k * b (i - k)) 0 (i + 1) := rfl
theorem zs_pw_congr {b c : Nat → Nat} : ∀ j i, (∀ k, k ≤ i → b k = c k) → zs_pw b j i = zs_pw c j i := by
  intro j
  induction j with
  | zero => intro i _; rfl
  | succ j ih =>
    intro i H
    rw [zs_pw_s, zs_pw_s]
    refine zs_sm_congr _ _ (fun k _ h2 => ?_)
    rw [ih k (fun l hl => H l (by omega)), H (i - k) (by omega)]
/-- the tail of the composition that Horner holds: zs_tl a b c d i = sum over j < d of a (c + j) * (b ^ j) i -/
def zs_tl (a b : Nat → Nat) (c d i : Nat) : Nat := zs_sm (fun j => a (c + j) * zs_pw b j i) 0 d
theorem zs_tl_0 (a b : Nat → Nat) (c d : Nat) (h0 : b 0 = 0) : zs_tl a b c (d + 1) 0 = a c := by
  unfold zs_tl
  rw [zs_sm_s, zs_sm_shift, zs_pw_0, if_pos rfl]
  have e : zs_sm (fun j => a (c + (j + 1)) * zs_pw b (j + 1) 0) 0 d = zs_sm (fun _ => 0) 0 d := by
    refine zs_sm_congr _ _ (fun j _ _ => ?_)
    rw [zs_pw_s, zs_sm_s, zs_sm_z]
    show a _ * (zs_pw b j 0 * b 0 + 0) = 0
    rw [h0]
    simp
  rw [e, zs_sm_zero]
  simp
theorem zs_pw_rev (b : Nat → Nat) (j i : Nat) (h0 : b 0 = 0) : zs_pw b (j + 1) i = zs_sm (fun k => b k * zs_pw b j (i - k)) 1 i := by
  rw [zs_pw_s, zs_sm_rev, zs_sm_s]
  have e0 : zs_pw b j (i - 0) * b (i - (i - 0)) = 0 := by
    rw [show i - (i - 0) = 0 from by omega, h0, Nat.mul_zero]
  rw [e0, Nat.zero_add]
  refine zs_sm_congr _ _ (fun k h1 h2 => ?_)
  rw [show i - (i - k) = k from by omega, Nat.mul_comm]
theorem zs_tl_s (a b : Nat → Nat) (c d i : Nat) (h0 : b 0 = 0) (hi : i ≠ 0) : zs_tl a b c (d + 1) i = zs_sm (fun k => b k * zs_tl a b (c + 1) d (i - k)) 1 i := by
  have e1 : zs_sm (fun k => b k * zs_tl a b (c + 1) d (i - k)) 1 i = zs_sm (fun k => zs_sm (fun j => b k * (a (c + 1 + j) * zs_pw b j (i - k))) 0 d) 1 i :=
    zs_sm_congr _ _ (fun k _ _ => (zs_sm_mul _ _ _ _).symm)
  rw [e1, zs_sm_swap]
  unfold zs_tl
  rw [zs_sm_s, zs_pw_0, if_neg hi, Nat.mul_zero, Nat.zero_add, zs_sm_shift]
  refine zs_sm_congr _ _ (fun j _ _ => ?_)
  rw [zs_pw_rev b j i h0, ← zs_sm_mul]
  refine zs_sm_congr _ _ (fun k _ _ => ?_)
  rw [show c + (j + 1) = c + 1 + j from by omega, Nat.mul_left_comm]
/-! inverses modulo 97 -/
def zs_iv (n : Nat) : Nat := n ^ 95 % 97
theorem zs_iv_lt (n : Nat) : zs_iv n < 97 := Nat.mod_lt _ (by decide)
theorem zs_iv_1 : zs_iv 1 = 1 := by decide
theorem zs_iv_ok : ∀ n, n < 97 → n = 0 ∨ n * zs_iv n % 97 = 1 := by decide +kernel
theorem zs_iv_st : ∀ y, y < 97 → y < 2 ∨ (97 - 97 / y) * zs_iv (97 % y) % 97 = zs_iv y := by decide +kernel
/-- the quotient: z = x * iv y is the only one -/
theorem zs_quo {x y z : Nat} (hy : y < 97) (h0 : y ≠ 0) (hx : x < 97) (hz : z < 97) : y * z % 97 = x ↔ z = x * zs_iv y % 97 := by
  have hi : y * zs_iv y % 97 = 1 := (zs_iv_ok y hy).resolve_left h0
  constructor
  · intro h
    have e : z * (y * zs_iv y) % 97 = z := by rw [← zs_mm, hi, Nat.mul_one, Nat.mod_eq_of_lt hz]
    rw [← h, zs_mm', show y * z * zs_iv y = z * (y * zs_iv y) from by rw [Nat.mul_comm y z, Nat.mul_assoc]]
    exact e.symm
  · intro h
    rw [h, zs_mm, show y * (x * zs_iv y) = x * (y * zs_iv y) from Nat.mul_left_comm _ _ _, ← zs_mm, hi, Nat.mul_one, Nat.mod_eq_of_lt hx]
/-! counting zeros of an array below n -/
def zs_cn (a : Nat → Int32) : Nat → Nat
  | 0 => 0
  | n + 1 => zs_cn a n + (if a n = 0 then 1 else 0)
theorem zs_cn_s (a : Nat → Int32) (n : Nat) : zs_cn a (n + 1) = zs_cn a n + (if a n = 0 then 1 else 0) := rfl
theorem zs_cn_le (a : Nat → Int32) : ∀ n, zs_cn a n ≤ n := by
  intro n
  induction n with
  | zero => exact Nat.le_refl 0
  | succ n ih => rw [zs_cn_s]; split <;> omega
theorem zs_cn_congr {a b : Nat → Int32} : ∀ n, (∀ j, j < n → (a j = 0 ↔ b j = 0)) → zs_cn a n = zs_cn b n := by
  intro n
  induction n with
  | zero => intro _; rfl
  | succ n ih =>
    intro h
    rw [zs_cn_s, zs_cn_s, ih (fun j hj => h j (by omega))]
    by_cases z : a n = 0
    · rw [if_pos z, if_pos ((h n (by omega)).mp z)]
    · rw [if_neg z, if_neg (fun y => z ((h n (by omega)).mpr y))]
theorem zs_cn_pos {a : Nat → Int32} {k : Nat} : ∀ n, k < n → a k = 0 → 1 ≤ zs_cn a n := by
  intro n
  induction n with
  | zero => intro h; omega
  | succ n ih =>
    intro h z
    rw [zs_cn_s]
    by_cases e : k = n
    · subst e; rw [if_pos z]; omega
    · have := ih (by omega) z; omega
theorem zs_cn_upd {a : Nat → Int32} {k : Nat} {x : Int32} (hx : ¬ x = 0) (z : a k = 0) : ∀ n, k < n → zs_cn (upd a k x) n + 1 = zs_cn a n := by
  intro n
  induction n with
  | zero => intro h; omega
  | succ n ih =>
    intro h
    rw [zs_cn_s, zs_cn_s]
    by_cases e : k = n
    · subst e
      rw [pk_us, if_neg hx, if_pos z, zs_cn_congr k (b := a)]
      intro j hj
      rw [pk_un (by omega)]
    · rw [pk_un (fun y => e y.symm)]
      have := ih (by omega)
      omega
theorem zs_cn_updn {a : Nat → Int32} {k : Nat} {x : Int32} (hx : ¬ x = 0) (z : ¬ a k = 0) (n : Nat) : zs_cn (upd a k x) n = zs_cn a n := by
  refine zs_cn_congr n (fun j _ => ?_)
  by_cases e : j = k
  · subst e; rw [pk_us]; exact ⟨fun h => absurd h hx, fun h => absurd h z⟩
  · rw [pk_un e]
theorem zs_cn_two {a : Nat → Int32} {k j n : Nat} (hk : k < n) (hj : j < n) (hne : j ≠ k) (zk : a k = 0) (zj : a j = 0) : 2 ≤ zs_cn a n := by
  have h1 := zs_cn_upd (x := 1) (by decide) zk n hk
  have h2 : 1 ≤ zs_cn (upd a k 1) n := zs_cn_pos n hj (by rw [pk_un hne]; exact zj)
  omega
theorem zs_cn_all {a : Nat → Int32} : ∀ n, (∀ j, j < n → a j = 0) → zs_cn a n = n := by
  intro n
  induction n with
  | zero => intro _; rfl
  | succ n ih => intro h; rw [zs_cn_s, ih (fun j hj => h j (by omega)), if_pos (h n (by omega))]
end
section
/-! the pure meaning: needs of a place, the worked value, the least relation -/
def zs_dr (k a b s n t m : Nat) : Prop :=
  (k = 2 ∧ m = n ∧ (t = a ∨ t = b)) ∨ ((k = 3 ∨ k = 9) ∧ m ≤ n ∧ (t = a ∨ t = b)) ∨ (k = 4 ∧ m = n ∧ t = a) ∨ (k = 5 ∧ n < 15 ∧ m = n + 1 ∧ t = a) ∨ ((k = 6 ∨ k = 8) ∧ 0 < n ∧ m + 1 = n ∧ t = a) ∨ (k = 7 ∧ ((m ≤ n ∧ t = a) ∨ (m < n ∧ t = s)))
def zs_nx (k a b s n i : Nat) : Option Nat :=
  if k = 3 ∨ k = 9 then (if i ≤ n then some (16 * a + i) else if i ≤ 2 * n + 1 then some (16 * b + i - n - 1) else none)
  else if k = 7 then (if i ≤ n then some (16 * a + i) else if i ≤ 2 * n then some (16 * s + i - n - 1) else none)
  else if k = 2 ∧ i = 1 then some (16 * b + n)
  else if 0 < i ∨ k ≤ 1 then none
  else if k = 5 then (if n < 15 then some (16 * a + n + 1) else none)
  else if k = 6 ∨ k = 8 then (if 0 < n then some (16 * a + n - 1) else none)
  else some (16 * a + n)
def zs_wk (k a b s n : Nat) (f : Nat → Nat) : Option Nat :=
  if k = 0 then some (if n = 0 then b % 97 else 0)
  else if k = 1 then some (if n = 1 then 1 else 0)
  else if k = 2 then some ((f (16 * a + n) + f (16 * b + n)) % 97)
  else if k = 3 then some (zs_sm (fun i => f (16 * a + i) * f (16 * b + n - i)) 0 (n + 1) % 97)
  else if k = 4 then some (b * f (16 * a + n) % 97)
  else if k = 5 then (if n = 15 then none else some ((n + 1) * f (16 * a + n + 1) % 97))
  else if k = 6 then some (if n = 0 then b % 97 else f (16 * a + n - 1) * zs_iv n % 97)
  else if k = 7 then (if f (16 * a) = 0 then none else some (if n = 0 then zs_iv (f (16 * a)) else (97 - zs_sm (fun i => f (16 * a + i) * f (16 * s + n - i)) 1 n % 97) * zs_iv (f (16 * a)) % 97))
  else if k = 8 then some (if n = 0 then b % 97 else f (16 * a + n - 1) % 97)
  else (if f (16 * b) = 0 then some (zs_sm (fun j => f (16 * a + j) * zs_pw (fun i => f (16 * b + i)) j n) 0 (n + 1) % 97) else none)
/-- a well formed definition -/
def zs_ok (k a b : Nat) : Prop := k ≤ 9 ∧ a < 8 ∧ b < 97 ∧ ((k = 2 ∨ k = 3 ∨ k = 9) → b < 8)
theorem zs_dr2 {k a b s n t m : Nat} (hk : k = 2) : zs_dr k a b s n t m ↔ (m = n ∧ (t = a ∨ t = b)) := by subst hk; simp [zs_dr]
theorem zs_dr39 {k a b s n t m : Nat} (hk : k = 3 ∨ k = 9) : zs_dr k a b s n t m ↔ (m ≤ n ∧ (t = a ∨ t = b)) := by rcases hk with hk | hk <;> (subst hk; simp [zs_dr])
theorem zs_dr4 {k a b s n t m : Nat} (hk : k = 4) : zs_dr k a b s n t m ↔ (m = n ∧ t = a) := by subst hk; simp [zs_dr]
theorem zs_dr5 {k a b s n t m : Nat} (hk : k = 5) : zs_dr k a b s n t m ↔ (n < 15 ∧ m = n + 1 ∧ t = a) := by subst hk; simp [zs_dr]
theorem zs_dr68 {k a b s n t m : Nat} (hk : k = 6 ∨ k = 8) : zs_dr k a b s n t m ↔ (0 < n ∧ m + 1 = n ∧ t = a) := by rcases hk with hk | hk <;> (subst hk; simp [zs_dr])
theorem zs_dr7 {k a b s n t m : Nat} (hk : k = 7) : zs_dr k a b s n t m ↔ ((m ≤ n ∧ t = a) ∨ (m < n ∧ t = s)) := by subst hk; simp [zs_dr]
theorem zs_dr01 {k a b s n t m : Nat} (hk : k ≤ 1) : ¬ zs_dr k a b s n t m := by
  have : k = 0 ∨ k = 1 := by omega
  rcases this with h | h <;> (subst h; simp [zs_dr])
theorem zs_dr_t {k a b s n t m : Nat} (hk : zs_ok k a b) (h : zs_dr k a b s n t m) : t = a ∨ t = b % 8 ∨ t = s := by
  obtain ⟨_, _, _, h4⟩ := hk
  rcases h with ⟨hk2, hm, ht⟩ | ⟨hk3, hm, ht⟩ | ⟨hk4, hm, ht⟩ | ⟨hk5, hn5, hm, ht⟩ | ⟨hk6, hn0, hm, ht⟩ | ⟨hk7, h7⟩
  · have := h4 (Or.inl hk2); omega
  · have := h4 (Or.inr hk3); omega
  · omega
  · omega
  · omega
  · omega
theorem zs_nx_nd {k a b s n i q : Nat} (hn : n < 16) (hk : zs_ok k a b) (hs : s < 8) (h : zs_nx k a b s n i = some q) : q < 128 ∧ i < 32 ∧ zs_dr k a b s n (q / 16) (q % 16) := by
  obtain ⟨h9, ha, _, hb⟩ := hk
  unfold zs_nx at h
  by_cases h1 : k = 3 ∨ k = 9
  · have hb8 := hb (Or.inr h1)
    rw [if_pos h1] at h
    rw [zs_dr39 h1]
    split at h
    · cases h; omega
    · split at h
      · cases h; omega
      · cases h
  · rw [if_neg h1] at h
    by_cases h2 : k = 7
    · rw [if_pos h2] at h
      rw [zs_dr7 h2]
      split at h
      · cases h; omega
      · split at h
        · cases h; omega
        · cases h
    · rw [if_neg h2] at h
      by_cases h3 : k = 2 ∧ i = 1
      · have hb8 := hb (Or.inl h3.1)
        rw [if_pos h3] at h
        rw [zs_dr2 h3.1]
        cases h
        omega
      · rw [if_neg h3] at h
        by_cases h4 : 0 < i ∨ k ≤ 1
        · rw [if_pos h4] at h; cases h
        · rw [if_neg h4] at h
          by_cases h5 : k = 5
          · rw [if_pos h5] at h
            rw [zs_dr5 h5]
            split at h
            · cases h; omega
            · cases h
          · rw [if_neg h5] at h
            by_cases h6 : k = 6 ∨ k = 8
            · rw [if_pos h6] at h
              rw [zs_dr68 h6]
              split at h
              · cases h; omega
              · cases h
            · rw [if_neg h6] at h
              cases h
              have : k = 2 ∨ k = 4 := by omega
              rcases this with e | e
              · rw [zs_dr2 e]; omega
              · rw [zs_dr4 e]; omega
theorem zs_nd_nx {k a b s n q : Nat} (hn : n < 16) (hk : zs_ok k a b) (h : zs_dr k a b s n (q / 16) (q % 16)) : ∃ i, i < 32 ∧ zs_nx k a b s n i = some q := by
  unfold zs_ok at hk
  unfold zs_dr at h
  unfold zs_nx
  rcases h with ⟨hk2, hm, ht⟩ | ⟨hk3, hm, ht⟩ | ⟨hk4, hm, ht⟩ | ⟨hk5, hn5, hm, ht⟩ | ⟨hk6, hn0, hm, ht⟩ | ⟨hk7, h7⟩
  · subst hk2
    rcases ht with ht | ht
    · refine ⟨0, by omega, ?_⟩
      simp only [Nat.reduceEqDiff, false_or, or_false, if_false, false_and, and_false, Nat.lt_irrefl, Nat.reduceLeDiff, Nat.zero_ne_one]
      exact congrArg some (by omega)
    · refine ⟨1, by omega, ?_⟩
      simp only [Nat.reduceEqDiff, false_or, or_false, if_false, and_self, if_true]
      exact congrArg some (by omega)
  · rw [show (∃ i, i < 32 ∧ _ = some q) = (∃ i, i < 32 ∧ (if i ≤ n then some (16 * a + i) else if i ≤ 2 * n + 1 then some (16 * b + i - n - 1) else none) = some q) from by simp only [if_pos hk3]]
    rcases ht with ht | ht
    · refine ⟨q % 16, by omega, ?_⟩
      rw [if_pos hm]
      exact congrArg some (by omega)
    · refine ⟨n + 1 + q % 16, by omega, ?_⟩
      rw [if_neg (by omega), if_pos (by omega)]
      exact congrArg some (by omega)
  · subst hk4
    refine ⟨0, by omega, ?_⟩
    simp only [Nat.reduceEqDiff, false_or, or_false, if_false, false_and, and_false, Nat.lt_irrefl, Nat.reduceLeDiff]
    exact congrArg some (by omega)
  · subst hk5
    refine ⟨0, by omega, ?_⟩
    simp only [Nat.reduceEqDiff, false_or, or_false, if_false, false_and, and_false, Nat.lt_irrefl, Nat.reduceLeDiff, if_true]
    rw [if_pos hn5]
    exact congrArg some (by omega)
  · refine ⟨0, by omega, ?_⟩
    rw [if_neg (by omega), if_neg (by omega), if_neg (by omega), if_neg (by omega), if_neg (by omega), if_pos hk6, if_pos hn0]
    exact congrArg some (by omega)
  · subst hk7
    rcases h7 with ⟨hm, ht⟩ | ⟨hm, ht⟩
    · refine ⟨q % 16, by omega, ?_⟩
      simp only [Nat.reduceEqDiff, or_self, if_false, if_true]
      rw [if_pos hm]
      exact congrArg some (by omega)
    · refine ⟨n + 1 + q % 16, by omega, ?_⟩
      simp only [Nat.reduceEqDiff, or_self, if_false, if_true]
      rw [if_neg (by omega), if_pos (by omega)]
      exact congrArg some (by omega)
/-- the needs come without gaps -/
theorem zs_nx_pre {k a b s n i j q : Nat} (h : zs_nx k a b s n i = none) (hj : zs_nx k a b s n j = some q) : j < i := by
  unfold zs_nx at h hj
  by_cases h1 : k = 3 ∨ k = 9
  · rw [if_pos h1] at h hj
    repeat' split at h
    all_goals cases h
    repeat' split at hj
    all_goals cases hj
    all_goals omega
  · rw [if_neg h1] at h hj
    by_cases h2 : k = 7
    · rw [if_pos h2] at h hj
      repeat' split at h
      all_goals cases h
      repeat' split at hj
      all_goals cases hj
      all_goals omega
    · rw [if_neg h2] at h hj
      repeat' split at h
      all_goals cases h
      all_goals (repeat' split at hj)
      all_goals cases hj
      all_goals omega
theorem zs_wk_lt {k a b s n v : Nat} {f : Nat → Nat} (h : zs_wk k a b s n f = some v) : v < 97 := by
  have m97 : ∀ x : Nat, x % 97 < 97 := fun x => Nat.mod_lt x (by decide)
  unfold zs_wk at h
  by_cases h0 : k = 0
  · rw [if_pos h0] at h
    cases h; split <;> first | exact m97 _ | decide
  rw [if_neg h0] at h
  by_cases h1 : k = 1
  · rw [if_pos h1] at h
    cases h; split <;> decide
  rw [if_neg h1] at h
  by_cases h2 : k = 2
  · rw [if_pos h2] at h
    cases h; exact m97 _
  rw [if_neg h2] at h
  by_cases h3 : k = 3
  · rw [if_pos h3] at h
    cases h; exact m97 _
  rw [if_neg h3] at h
  by_cases h4 : k = 4
  · rw [if_pos h4] at h
    cases h; exact m97 _
  rw [if_neg h4] at h
  by_cases h5 : k = 5
  · rw [if_pos h5] at h
    split at h
    · cases h
    · cases h; exact m97 _
  rw [if_neg h5] at h
  by_cases h6 : k = 6
  · rw [if_pos h6] at h
    cases h; split <;> exact m97 _
  rw [if_neg h6] at h
  by_cases h7 : k = 7
  · rw [if_pos h7] at h
    split at h
    · cases h
    · cases h; split
      · exact zs_iv_lt _
      · exact m97 _
  rw [if_neg h7] at h
  by_cases h8 : k = 8
  · rw [if_pos h8] at h
    cases h; split <;> exact m97 _
  rw [if_neg h8] at h
  split at h
  · cases h; exact m97 _
  · cases h
theorem zs_wk_congr {k a b s n : Nat} {f g : Nat → Nat} (hn : n < 16) (hk : zs_ok k a b) (H : ∀ q, zs_dr k a b s n (q / 16) (q % 16) → f q = g q) : zs_wk k a b s n f = zs_wk k a b s n g := by
  obtain ⟨h9, _⟩ := hk
  unfold zs_wk
  by_cases h0 : k = 0
  · rw [if_pos h0, if_pos h0]
  rw [if_neg h0, if_neg h0]
  by_cases h1 : k = 1
  · rw [if_pos h1, if_pos h1]
  rw [if_neg h1, if_neg h1]
  by_cases h2 : k = 2
  · rw [if_pos h2, if_pos h2, H (16 * a + n) ((zs_dr2 h2).mpr (by omega)), H (16 * b + n) ((zs_dr2 h2).mpr (by omega))]
  rw [if_neg h2, if_neg h2]
  by_cases h3 : k = 3
  · rw [if_pos h3, if_pos h3]
    refine congrArg (fun x => some (x % 97)) (zs_sm_congr _ _ (fun j _ hj => ?_))
    rw [H (16 * a + j) ((zs_dr39 (Or.inl h3)).mpr (by omega)), H (16 * b + n - j) ((zs_dr39 (Or.inl h3)).mpr (by omega))]
  rw [if_neg h3, if_neg h3]
  by_cases h4 : k = 4
  · rw [if_pos h4, if_pos h4, H (16 * a + n) ((zs_dr4 h4).mpr (by omega))]
  rw [if_neg h4, if_neg h4]
  by_cases h5 : k = 5
  · rw [if_pos h5, if_pos h5]
    by_cases n15 : n = 15
    · rw [if_pos n15, if_pos n15]
    · rw [if_neg n15, if_neg n15, H (16 * a + n + 1) ((zs_dr5 h5).mpr (by omega))]
  rw [if_neg h5, if_neg h5]
  by_cases h6 : k = 6
  · rw [if_pos h6, if_pos h6]
    by_cases n0 : n = 0
    · rw [if_pos n0, if_pos n0]
    · rw [if_neg n0, if_neg n0, H (16 * a + n - 1) ((zs_dr68 (Or.inl h6)).mpr (by omega))]
  rw [if_neg h6, if_neg h6]
  by_cases h7 : k = 7
  · rw [if_pos h7, if_pos h7, H (16 * a) ((zs_dr7 h7).mpr (by omega))]
    have e : zs_sm (fun i => f (16 * a + i) * f (16 * s + n - i)) 1 n = zs_sm (fun i => g (16 * a + i) * g (16 * s + n - i)) 1 n := by
      refine zs_sm_congr _ _ (fun j _ hj => ?_)
      rw [H (16 * a + j) ((zs_dr7 h7).mpr (by omega)), H (16 * s + n - j) ((zs_dr7 h7).mpr (by omega))]
    rw [e]
  rw [if_neg h7, if_neg h7]
  by_cases h8 : k = 8
  · rw [if_pos h8, if_pos h8]
    by_cases n0 : n = 0
    · rw [if_pos n0, if_pos n0]
    · rw [if_neg n0, if_neg n0, H (16 * a + n - 1) ((zs_dr68 (Or.inr h8)).mpr (by omega))]
  have g9 : k = 9 := by omega
  rw [if_neg h8, if_neg h8, H (16 * b) ((zs_dr39 (Or.inr g9)).mpr (by omega))]
  have e : zs_sm (fun j => f (16 * a + j) * zs_pw (fun i => f (16 * b + i)) j n) 0 (n + 1) = zs_sm (fun j => g (16 * a + j) * zs_pw (fun i => g (16 * b + i)) j n) 0 (n + 1) := by
    refine zs_sm_congr _ _ (fun j _ hj => ?_)
    rw [H (16 * a + j) ((zs_dr39 (Or.inr g9)).mpr (by omega)), zs_pw_congr (b := fun i => f (16 * b + i)) (c := fun i => g (16 * b + i)) j n (fun i hi => H (16 * b + i) ((zs_dr39 (Or.inr g9)).mpr (by omega)))]
  rw [e]
/-! over the tables kd, ka, kb -/
def zs_nd (kd ka kb : Nat → Nat) (p q : Nat) : Prop := zs_dr (kd (p / 16)) (ka (p / 16)) (kb (p / 16)) (p / 16) (p % 16) (q / 16) (q % 16)
def zs_W (kd ka kb : Nat → Nat) (p : Nat) (f : Nat → Nat) : Option Nat := zs_wk (kd (p / 16)) (ka (p / 16)) (kb (p / 16)) (p / 16) (p % 16) f
def zs_N (kd ka kb : Nat → Nat) (p i : Nat) : Option Nat := zs_nx (kd (p / 16)) (ka (p / 16)) (kb (p / 16)) (p / 16) (p % 16) i
def zs_wf (kd ka kb : Nat → Nat) : Prop := ∀ s, s < 8 → zs_ok (kd s) (ka s) (kb s)
def zs_cl (kd ka kb : Nat → Nat) (S : Nat → Nat → Prop) : Prop := ∀ p f v, p < 128 → (∀ q, zs_nd kd ka kb p q → S q (f q)) → zs_W kd ka kb p f = some v → S p v
def zs_H (kd ka kb : Nat → Nat) (p v : Nat) : Prop := ∀ S, zs_cl kd ka kb S → S p v
def zs_D (kd ka kb : Nat → Nat) (p : Nat) : Prop := ∃ v, zs_H kd ka kb p v
noncomputable def zs_tv (kd ka kb : Nat → Nat) (p : Nat) : Nat := Classical.epsilon (fun v => zs_H kd ka kb p v)
section
variable {kd ka kb : Nat → Nat}
theorem zs_ok_p (hw : zs_wf kd ka kb) {p : Nat} (hp : p < 128) : zs_ok (kd (p / 16)) (ka (p / 16)) (kb (p / 16)) := hw _ (by omega)
theorem zs_N_nd (hw : zs_wf kd ka kb) {p i q : Nat} (hp : p < 128) (h : zs_N kd ka kb p i = some q) : q < 128 ∧ i < 32 ∧ zs_nd kd ka kb p q := zs_nx_nd (Nat.mod_lt _ (by decide)) (zs_ok_p hw hp) (by omega) h
theorem zs_nd_N (hw : zs_wf kd ka kb) {p q : Nat} (hp : p < 128) (h : zs_nd kd ka kb p q) : ∃ i, i < 32 ∧ zs_N kd ka kb p i = some q := zs_nd_nx (Nat.mod_lt _ (by decide)) (zs_ok_p hw hp) h
theorem zs_nd_lt (hw : zs_wf kd ka kb) {p q : Nat} (hp : p < 128) (h : zs_nd kd ka kb p q) : q < 128 := by
  obtain ⟨i, _, e⟩ := zs_nd_N hw hp h
  exact (zs_N_nd hw hp e).1
theorem zs_W_congr (hw : zs_wf kd ka kb) {p : Nat} (hp : p < 128) {f g : Nat → Nat} (H : ∀ q, zs_nd kd ka kb p q → f q = g q) : zs_W kd ka kb p f = zs_W kd ka kb p g := zs_wk_congr (Nat.mod_lt _ (by decide)) (zs_ok_p hw hp) H
theorem zs_H_in : zs_cl kd ka kb (zs_H kd ka kb) := fun p f v hp hq hv S hS => hS p f v hp (fun q h => hq q h S hS) hv
theorem zs_H_inv {p v : Nat} (h : zs_H kd ka kb p v) : p < 128 ∧ ∃ f, (∀ q, zs_nd kd ka kb p q → zs_H kd ka kb q (f q)) ∧ zs_W kd ka kb p f = some v := by
  have := h (fun p v => zs_H kd ka kb p v ∧ p < 128 ∧ ∃ f, (∀ q, zs_nd kd ka kb p q → zs_H kd ka kb q (f q)) ∧ zs_W kd ka kb p f = some v)
    (fun p f v hp hq hv => ⟨zs_H_in p f v hp (fun q hn => (hq q hn).1) hv, hp, f, fun q hn => (hq q hn).1, hv⟩)
  exact this.2
theorem zs_H_fn (hw : zs_wf kd ka kb) {p v w : Nat} (h : zs_H kd ka kb p v) (h' : zs_H kd ka kb p w) : w = v := by
  have := h (fun p v => ∀ w, zs_H kd ka kb p w → w = v) (fun p f v hp hq hv w hw' => by
    obtain ⟨_, g, hg, ew⟩ := zs_H_inv hw'
    have e := zs_W_congr hw hp (f := g) (g := f) (fun q hn => hq q hn _ (hg q hn))
    rw [ew, hv] at e
    injection e)
  exact this w h'
theorem zs_tvH {p : Nat} (h : zs_D kd ka kb p) : zs_H kd ka kb p (zs_tv kd ka kb p) := Classical.epsilon_spec h
theorem zs_tv_eq (hw : zs_wf kd ka kb) {p v : Nat} (h : zs_H kd ka kb p v) : zs_tv kd ka kb p = v := zs_H_fn hw h (zs_tvH ⟨v, h⟩)
theorem zs_D_lt {p : Nat} (h : zs_D kd ka kb p) : p < 128 := by
  obtain ⟨v, hv⟩ := h
  exact (zs_H_inv hv).1
theorem zs_D_in (hw : zs_wf kd ka kb) {p v : Nat} (hp : p < 128) (hq : ∀ q, zs_nd kd ka kb p q → zs_D kd ka kb q) (hv : zs_W kd ka kb p (zs_tv kd ka kb) = some v) : zs_D kd ka kb p ∧ zs_tv kd ka kb p = v := by
  have h : zs_H kd ka kb p v := zs_H_in p (zs_tv kd ka kb) v hp (fun q hn => zs_tvH (hq q hn)) hv
  exact ⟨⟨v, h⟩, zs_tv_eq hw h⟩
theorem zs_D_el (hw : zs_wf kd ka kb) {p : Nat} (h : zs_D kd ka kb p) : (∀ q, zs_nd kd ka kb p q → zs_D kd ka kb q) ∧ zs_W kd ka kb p (zs_tv kd ka kb) = some (zs_tv kd ka kb p) := by
  obtain ⟨hp, f, hf, e⟩ := zs_H_inv (zs_tvH h)
  refine ⟨fun q hn => ⟨_, hf q hn⟩, ?_⟩
  rw [← e]
  exact zs_W_congr hw hp (fun q hn => zs_tv_eq hw (hf q hn))
theorem zs_D_ind (hw : zs_wf kd ka kb) (C : Nat → Prop) (hC : ∀ p, p < 128 → (∀ q, zs_nd kd ka kb p q → zs_D kd ka kb q ∧ C q) → ¬ zs_W kd ka kb p (zs_tv kd ka kb) = none → C p) {p : Nat} (h : zs_D kd ka kb p) : C p := by
  obtain ⟨v, hv⟩ := h
  have := hv (fun q w => zs_H kd ka kb q w ∧ C q) (fun p f v hp hq hv => by
    refine ⟨zs_H_in p f v hp (fun q hn => (hq q hn).1) hv, hC p hp (fun q hn => ⟨⟨_, (hq q hn).1⟩, (hq q hn).2⟩) ?_⟩
    rw [zs_W_congr hw hp (g := f) (fun q hn => zs_tv_eq hw (hq q hn).1), hv]
    simp)
  exact this.2
theorem zs_tv_lt (hw : zs_wf kd ka kb) {p : Nat} (h : zs_D kd ka kb p) : zs_tv kd ka kb p < 97 := zs_wk_lt (zs_D_el hw h).2
/-- a set each of whose members needs a member has no values -/
theorem zs_no (hw : zs_wf kd ka kb) (C : Nat → Prop) (hC : ∀ p, C p → ∃ q, zs_nd kd ka kb p q ∧ C q) {p : Nat} (h : C p) : ¬ zs_D kd ka kb p := by
  intro hD
  refine zs_D_ind hw (fun q => ¬ C q) (fun p _ hq _ hc => ?_) hD h
  obtain ⟨q, hn, hcq⟩ := hC p hc
  exact (hq q hn).2 hcq
end
end
section
/-! X's small walks -/
def zx_oi : Option Nat → Int32
  | none => -1
  | some q => nI q
def zx_T (kd ka kb : Nat → Nat) (K A B : Nat → Int32) : Prop := zs_wf kd ka kb ∧ (∀ j, K j = nI (kd j)) ∧ (∀ j, A j = nI (ka j)) ∧ (∀ j, B j = nI (kb j))
def zx_vf (vl : Nat → Int32) (f : Nat → Nat) (q : Nat) : Prop := q < 128 ∧ vl q = nI (f q) ∧ f q < 97
theorem zx_ps {post : Int32 → Prop} {k a b s n i : Nat} (o : Option Nat) (e : zs_nx k a b s n i = o) (h : post (zx_oi (zs_nx k a b s n i))) : post (zx_oi o) := e ▸ h
section
variable {kd ka kb : Nat → Nat} {K A B st vl sk tn sc iv : Nat → Int32} {f : Nat → Nat}
theorem zx_K (T : zx_T kd ka kb K A B) {s : Nat} (hs : s < 8) : K (nI s).toNatClampNeg = nI (kd s) := by rw [nI_clamp (by omega)]; exact T.2.1 s
theorem zx_A (T : zx_T kd ka kb K A B) {s : Nat} (hs : s < 8) : A (nI s).toNatClampNeg = nI (ka s) := by rw [nI_clamp (by omega)]; exact T.2.2.1 s
theorem zx_B (T : zx_T kd ka kb K A B) {s : Nat} (hs : s < 8) : B (nI s).toNatClampNeg = nI (kb s) := by rw [nI_clamp (by omega)]; exact T.2.2.2 s
theorem zx_i8 {s : Nat} (hs : s < 8) : vp_in (nI s) 8 := vp_in_nI hs (by decide)
theorem zx_vr {q : Nat} (h : zx_vf vl f q) : vl (nI q).toNatClampNeg = nI (f q) := by rw [nI_clamp (by have := h.1; omega)]; exact h.2.1
theorem zx_vi {q : Nat} (h : zx_vf vl f q) : vp_in (nI q) 128 := vp_in_nI h.1 (by decide)
theorem zx_ser {post : Int32 → Prop} (x : Int32) (h0 : (¬ ∃ s, s < 8 ∧ x = nI s) → post 0) (h1 : ∀ s, s < 8 → x = nI s → post 1) : wpX_isSeries post x := by
  unfold wpX_isSeries
  refine br_c (fun h => h0 ?_) (fun h => ?_)
  · rintro ⟨s, hs, rfl⟩
    exact nI_pos (by omega) h
  · obtain ⟨j, hj, rfl⟩ := nI_of h
    refine pk_lt 7 j (fun h7 => h0 ?_) (fun h7 => h1 j (by omega) rfl)
    rintro ⟨s, hs, e⟩
    rw [nI_eq hj (by omega)] at e
    omega
theorem zx_need (T : zx_T kd ka kb K A B) {p i : Nat} (hp : p < 128) (hi : i < 64) {post : Int32 → Prop} (h : post (zx_oi (zs_N kd ka kb p i))) : wpX_need post (K, A, B, st, vl, sk, tn, sc, iv) (nI p) (nI i) := by
  have hs : p / 16 < 8 := by omega
  have hn : p % 16 < 16 := Nat.mod_lt _ (by decide)
  obtain ⟨h9, ha, hb, hb2⟩ := zs_ok_p T.1 hp
  unfold zs_N at h
  have eK := zx_K T hs
  have eA := zx_A T hs
  have eB := zx_B T hs
  unfold wpX_need
  dsimp only
  refine nm_r (za_s4 hp) (nm_r (za_a15 hp) ⟨zx_i8 hs, ?_⟩)
  rw [eA]
  refine nm_r (za_16 _) ⟨zx_i8 hs, ?_⟩
  rw [eK]
  refine nm_e ?_
  generalize kd (p / 16) = k at *
  generalize ka (p / 16) = a at *
  generalize kb (p / 16) = b at *
  generalize p / 16 = s at *
  generalize p % 16 = n at *
  have e42 : (k = 3 ∨ k = 9) → wX_need_42 post (nI i) (nI s) (nI n) (nI (16 * a)) K A B st vl sk tn sc iv := by
    intro hk
    unfold wX_need_42
    refine pk_lt n i (fun h1 => ?_) (fun h1 => ?_)
    · refine pk_lt (2 * n + 1) i (fun h2 => ?_) (fun h2 => ?_) (hx := by rw [za_2, nI_1])
      · exact zx_ps none (by unfold zs_nx; (repeat' split) <;> first | omega | rfl) h
      · refine ⟨zx_i8 hs, ?_⟩
        rw [eB, za_16, nI_add, pk_sub (by omega), za_s1 (by omega)]
        exact zx_ps (some (16 * b + i - n - 1)) (by unfold zs_nx; (repeat' split) <;> first | omega | rfl) h
    · rw [nI_add]
      exact zx_ps (some (16 * a + i)) (by unfold zs_nx; (repeat' split) <;> first | omega | rfl) h
  have e201 : (k = 6 ∨ k = 8) → i = 0 → wX_need_201 post (nI n) (nI (16 * a)) K A B st vl sk tn sc iv := by
    intro hk h0
    unfold wX_need_201
    refine pk_le n 0 (fun h1 => ?_) (fun h1 => ?_)
    · exact zx_ps none (by unfold zs_nx; (repeat' split) <;> first | omega | rfl) h
    · rw [nI_add, za_s1 (by omega)]
      exact zx_ps (some (16 * a + n - 1)) (by unfold zs_nx; (repeat' split) <;> first | omega | rfl) h
  have e150 : ¬ (k = 3 ∨ k = 9) → ¬ k = 7 → ¬ (k = 2 ∧ i = 1) → wX_need_150 post (nI i) (nI n) (nI (16 * a)) (nI k) K A B st vl sk tn sc iv := by
    intro hk3 hk7 hk2
    unfold wX_need_150
    refine pk_lt 0 i (fun h1 => ?_) (fun h1 => ?_)
    · exact zx_ps none (by unfold zs_nx; (repeat' split) <;> first | omega | rfl) h
    · refine pk_lt 1 k (fun h2 => ?_) (fun h2 => ?_)
      · refine pk_eq k 5 (fun h5 => ?_) (fun h5 => ?_)
        · refine pk_le 15 n (fun h3 => ?_) (fun h3 => ?_)
          · exact zx_ps none (by unfold zs_nx; (repeat' split) <;> first | omega | rfl) h
          · rw [nI_add, nI_1]
            exact zx_ps (some (16 * a + n + 1)) (by unfold zs_nx; (repeat' split) <;> first | omega | rfl) h
        · refine pk_eq k 6 (fun h6 => e201 (Or.inl h6) (by omega)) (fun h6 => ?_)
          refine pk_eq k 8 (fun h8 => e201 (Or.inr h8) (by omega)) (fun h8 => ?_)
          rw [nI_add]
          exact zx_ps (some (16 * a + n)) (by unfold zs_nx; (repeat' split) <;> first | omega | rfl) h
      · exact zx_ps none (by unfold zs_nx; (repeat' split) <;> first | omega | rfl) h
  refine pk_eq k 3 (fun h3 => e42 (Or.inl h3)) (fun h3 => ?_)
  refine pk_eq k 9 (fun h4 => e42 (Or.inr h4)) (fun h4 => ?_)
  refine pk_eq k 7 (fun h7 => ?_) (fun h7 => ?_)
  · refine pk_lt n i (fun h1 => ?_) (fun h1 => ?_)
    · refine pk_lt (2 * n) i (fun h2 => ?_) (fun h2 => ?_) (hx := za_2 n)
      · exact zx_ps none (by unfold zs_nx; (repeat' split) <;> first | omega | rfl) h
      · rw [za_16, nI_add, pk_sub (by omega), za_s1 (by omega)]
        exact zx_ps (some (16 * s + i - n - 1)) (by unfold zs_nx; (repeat' split) <;> first | omega | rfl) h
    · rw [nI_add]
      exact zx_ps (some (16 * a + i)) (by unfold zs_nx; (repeat' split) <;> first | omega | rfl) h
  · refine pk_eq k 2 (fun h2 => ?_) (fun h2 => ?_)
    · refine pk_eq i 1 (fun h1 => ?_) (fun h1 => ?_)
      · refine ⟨zx_i8 hs, ?_⟩
        rw [eB, za_16, nI_add]
        exact zx_ps (some (16 * b + n)) (by unfold zs_nx; (repeat' split) <;> first | omega | rfl) h
      · exact e150 (by omega) h7 (by omega)
    · exact e150 (by omega) h7 (by omega)
theorem zx_prod6 {post : Int32 → Prop} {L R n lo : Nat} (hL : ∀ i, lo ≤ i → i ≤ n → zx_vf vl f (L + i)) (hR : ∀ i, lo ≤ i → i ≤ n → zx_vf vl f (R + n - i)) (hn : n < 16) : ∀ d i acc, lo ≤ i → i + d = n + 1 → acc < 97 → post (nI ((acc + zs_sm (fun i => f (L + i) * f (R + n - i)) i d) % 97)) → wX_product_6 post (nI L) (nI R) (nI n) K A B st vl sk tn sc iv (d + 1) (nI acc) (nI i) := by
  intro d
  induction d with
  | zero =>
    intro i acc h1 h2 h3 hp
    rw [zs_sm_z, Nat.add_zero, Nat.mod_eq_of_lt h3] at hp
    exact br_t (nI_lt (by omega) (by omega)) hp
  | succ d ih =>
    intro i acc h1 h2 h3 hp
    have hl := hL i h1 (by omega)
    have hr := hR i h1 (by omega)
    have hm := za_mul_le hl.2.2 hr.2.2
    have hRn := hr.1
    refine br_f (nI_nlt (by omega) (by omega)) ?_
    rw [nI_add L i, nI_add R n, pk_sub (by omega), zx_vr hl, zx_vr hr, pk_mul, nI_add, za_97 (by omega)]
    refine ⟨zx_vi hl, zx_vi hr, za_n97, nm_e (nm_r (nI_1 i) (ih (i + 1) _ (by omega) (by omega) (Nat.mod_lt _ (by decide)) ?_))⟩
    rw [zs_sm_s] at hp
    rw [Nat.mod_add_mod, Nat.add_assoc]
    exact hp
theorem zx_prod {post : Int32 → Prop} {L R n lo : Nat} (hL : ∀ i, lo ≤ i → i ≤ n → zx_vf vl f (L + i)) (hR : ∀ i, lo ≤ i → i ≤ n → zx_vf vl f (R + n - i)) (hn : n < 16) (hlo : lo ≤ n + 1) (hp : post (nI (zs_sm (fun i => f (L + i) * f (R + n - i)) lo (n + 1 - lo) % 97))) : wpX_product post (K, A, B, st, vl, sk, tn, sc, iv) (nI L) (nI R) (nI lo) (nI n) := by
  unfold wpX_product
  dsimp only
  exact ⟨n + 1 - lo + 1, zx_prod6 hL hR hn (n + 1 - lo) lo 0 (Nat.le_refl _) (by omega) (by decide) (by rw [Nat.zero_add]; exact hp)⟩
theorem zx_ti5 {post : Int32 → Prop} {bb i : Nat} {h : Nat → Nat} (hb : ∀ k, 1 ≤ k → k ≤ i → zx_vf vl f (bb + k)) (hs : ∀ j, j < i → sc j = nI (h j) ∧ h j < 97) (hi : i < 16) : ∀ d k acc, 1 ≤ k → k + d = i + 1 → acc < 97 → post (nI ((acc + zs_sm (fun k => f (bb + k) * h (i - k)) k d) % 97)) → wX_timesInner_5 post (nI bb) (nI i) K A B st vl sk tn sc iv (d + 1) (nI acc) (nI k) := by
  intro d
  induction d with
  | zero =>
    intro k acc h1 h2 h3 hp
    rw [zs_sm_z, Nat.add_zero, Nat.mod_eq_of_lt h3] at hp
    exact br_t (nI_lt (by omega) (by omega)) hp
  | succ d ih =>
    intro k acc h1 h2 h3 hp
    have hl := hb k h1 (by omega)
    obtain ⟨es, hs97⟩ := hs (i - k) (by omega)
    have hm := za_mul_le hl.2.2 hs97
    refine br_f (nI_nlt (by omega) (by omega)) ?_
    rw [nI_add bb k, pk_sub (by omega), zx_vr hl, nI_clamp (n := i - k) (by omega), es, pk_mul, nI_add, za_97 (by omega)]
    refine ⟨zx_vi hl, vp_in_nI (by omega) (by decide), za_n97, nm_e (nm_r (nI_1 k) (ih (k + 1) _ (by omega) (by omega) (Nat.mod_lt _ (by decide)) ?_))⟩
    rw [zs_sm_s] at hp
    rw [Nat.mod_add_mod, Nat.add_assoc]
    exact hp
theorem zx_ti {post : Int32 → Prop} {bb i : Nat} {h : Nat → Nat} (hb : ∀ k, 1 ≤ k → k ≤ i → zx_vf vl f (bb + k)) (hs : ∀ j, j < i → sc j = nI (h j) ∧ h j < 97) (hi : i < 16) (hp : post (nI (zs_sm (fun k => f (bb + k) * h (i - k)) 1 i % 97))) : wpX_timesInner post (K, A, B, st, vl, sk, tn, sc, iv) (nI bb) (nI i) := by
  unfold wpX_timesInner
  dsimp only
  exact ⟨i + 1, zx_ti5 hb hs hi i 1 0 (Nat.le_refl _) (by omega) (by decide) (by rw [Nat.zero_add]; exact hp)⟩
end
end
section
/-! X: composed, computeLong, compute -/
section
variable {kd ka kb : Nat → Nat} {K A B st vl sk tn sc iv : Nat → Int32} {f : Nat → Nat}
/-- what one round of Horner leaves at i -/
def zx_hn (f h : Nat → Nat) (bb x i : Nat) : Nat := (zs_sm (fun k => f (bb + k) * h (i - k)) 1 i + (if i = 0 then x else 0)) % 97
theorem zx_c34 {post : Int32 → SX → Prop} {J : Int32 → (Nat → Int32) → (Nat → Int32) → (Nat → Int32) → (Nat → Int32) → (Nat → Int32) → (Nat → Int32) → (Nat → Int32) → (Nat → Int32) → (Nat → Int32) → Prop} {aa bb n j : Nat} {h : Nat → Nat} (hb : ∀ k, 1 ≤ k → k ≤ n → zx_vf vl f (bb + k)) (ha : zx_vf vl f (aa + j)) (hn : n < 16) (hh : ∀ i, i ≤ n → h i < 97)
    (hJ : ∀ sc', (∀ i, i ≤ n → sc' i = nI (zx_hn f h bb (f (aa + j)) i)) → J (nI j + (-1)) K A B st vl sk tn sc' iv) : ∀ c x sc, x = nI c + (-1) → c ≤ n + 1 → (∀ i, i < c → sc i = nI (h i)) → (∀ i, c ≤ i → i ≤ n → sc i = nI (zs_sm (fun k => f (bb + k) * h (i - k)) 1 i % 97)) → wX_composed_34 post J (nI aa) (nI bb) (nI n) (nI j) (c + 1) x K A B st vl sk tn sc iv := by
  intro c
  induction c with
  | zero =>
    intro x sc hx _ _ h2
    subst hx
    refine br_t za_neg ?_
    have e0 := h2 0 (Nat.le_refl 0) (Nat.zero_le n)
    rw [zs_sm_z] at e0
    have h97 := ha.2.2
    rw [nI_add, zx_vr ha, e0, nI_add, za_97 (by omega)]
    refine ⟨zx_vi ha, za_n97, nm_e (nm_e (hJ _ (fun i hi => ?_)))⟩
    unfold zx_hn
    by_cases z : i = 0
    · subst z
      rw [pk_us, zs_sm_z, if_pos rfl]
    · rw [pk_un z, if_neg z, h2 i (by omega) hi, Nat.add_zero]
  | succ c ih =>
    intro x sc hx hc h1 h2
    rw [pk_m1] at hx
    subst hx
    refine br_f (nI_pos (by omega)) ?_
    refine zx_ti (h := h) (fun k k1 k2 => hb k k1 (by omega)) (fun i hi => ⟨h1 i (by omega), hh i (by omega)⟩) (by omega) ?_
    refine ⟨vp_in_nI (by omega) (by decide), nm_e (nm_e (ih _ _ rfl (by omega) (fun i hi => ?_) (fun i hi1 hi2 => ?_)))⟩
    · rw [nI_clamp (by omega), pk_un (by omega)]
      exact h1 i (by omega)
    · rw [nI_clamp (by omega)]
      by_cases z : i = c
      · subst z
        rw [pk_us]
      · rw [pk_un z]
        exact h2 i (by omega) hi2
theorem zx_hn_tl {aa bb n c i : Nat} (h0 : f bb = 0) (hc : c ≤ n) (hi : i ≤ n) {h : Nat → Nat} (hh : ∀ i, i ≤ n → h i = zs_tl (fun j => f (aa + j)) (fun k => f (bb + k)) (c + 1) (n - c) i % 97) : zx_hn f h bb (f (aa + c)) i = zs_tl (fun j => f (aa + j)) (fun k => f (bb + k)) c (n + 1 - c) i % 97 := by
  unfold zx_hn
  rw [show n + 1 - c = n - c + 1 from by omega]
  by_cases z : i = 0
  · subst z
    rw [zs_sm_z, if_pos rfl, zs_tl_0 _ _ _ _ (by exact h0), Nat.zero_add]
  · rw [if_neg z, Nat.add_zero, zs_tl_s _ _ _ _ _ (by exact h0) z]
    refine zs_sm_mod _ _ (fun k k1 k2 => ?_)
    rw [hh (i - k) (by omega), zs_mm]
theorem zx_c26 {post : Int32 → SX → Prop} {aa bb n : Nat} (ha : ∀ j, j ≤ n → zx_vf vl f (aa + j)) (hb : ∀ k, k ≤ n → zx_vf vl f (bb + k)) (hn : n < 16) (h0 : f bb = 0)
    (hp : ∀ sc', post (nI (zs_tl (fun j => f (aa + j)) (fun k => f (bb + k)) 0 (n + 1) n % 97)) (K, A, B, st, vl, sk, tn, sc', iv)) : ∀ c x sc, x = nI c + (-1) → c ≤ n + 1 → (∀ i, i ≤ n → sc i = nI (zs_tl (fun j => f (aa + j)) (fun k => f (bb + k)) c (n + 1 - c) i % 97)) → wX_composed_26 post (nI aa) (nI bb) (nI n) (c + 1) x K A B st vl sk tn sc iv := by
  intro c
  induction c with
  | zero =>
    intro x sc hx _ h1
    subst hx
    refine br_t za_neg ⟨vp_in_nI hn (by decide), ?_⟩
    rw [nI_clamp (by omega), h1 n (Nat.le_refl n)]
    exact hp sc
  | succ c ih =>
    intro x sc hx hc h1
    rw [pk_m1] at hx
    subst hx
    refine br_f (nI_pos (by omega)) ⟨n + 2, ?_⟩
    refine zx_c34 (h := fun i => zs_tl (fun j => f (aa + j)) (fun k => f (bb + k)) (c + 1) (n - c) i % 97) (fun k _ k2 => hb k k2) (ha c (by omega)) hn (fun i _ => Nat.mod_lt _ (by decide)) (fun sc' hs => ih _ sc' rfl (by omega) (fun i hi => ?_)) (n + 1) _ sc (pk_m1 n).symm (Nat.le_refl _) (fun i hi => ?_) (fun i hi1 hi2 => ?_)
    · rw [hs i hi, zx_hn_tl h0 (by omega) hi (fun _ _ => rfl)]
    · rw [h1 i (by omega), show n + 1 - (c + 1) = n - c from by omega]
    · omega
theorem zx_c3 {post : Int32 → SX → Prop} {aa bb n : Nat} (ha : ∀ j, j ≤ n → zx_vf vl f (aa + j)) (hb : ∀ k, k ≤ n → zx_vf vl f (bb + k)) (hn : n < 16) (h0 : f bb = 0)
    (hp : ∀ sc', post (nI (zs_tl (fun j => f (aa + j)) (fun k => f (bb + k)) 0 (n + 1) n % 97)) (K, A, B, st, vl, sk, tn, sc', iv)) : ∀ d i sc, i + d = n + 1 → (∀ j, j < i → sc j = nI 0) → wX_composed_3 post (nI aa) (nI bb) (nI n) (d + 1) (nI i) K A B st vl sk tn sc iv := by
  intro d
  induction d with
  | zero =>
    intro i sc hi h1
    refine br_t (nI_lt (by omega) (by omega)) ⟨n + 2, ?_⟩
    refine zx_c26 ha hb hn h0 hp (n + 1) _ sc (pk_m1 n).symm (Nat.le_refl _) (fun j hj => ?_)
    rw [h1 j (by omega), Nat.sub_self]
    unfold zs_tl
    rw [zs_sm_z]
  | succ d ih =>
    intro i sc hi h1
    refine br_f (nI_nlt (by omega) (by omega)) ⟨vp_in_nI (by omega) (by decide), nm_e (nm_r (nI_1 i) (ih (i + 1) _ (by omega) (fun j hj => ?_)))⟩
    rw [nI_clamp (by omega)]
    by_cases z : j = i
    · subst z
      rw [pk_us]
      rfl
    · rw [pk_un z]
      exact h1 j (by omega)
theorem zx_comp {post : Int32 → SX → Prop} {aa bb n : Nat} (ha : ∀ j, j ≤ n → zx_vf vl f (aa + j)) (hb : ∀ k, k ≤ n → zx_vf vl f (bb + k)) (hn : n < 16) (h0 : f bb = 0)
    (hp : ∀ sc', post (nI (zs_sm (fun j => f (aa + j) * zs_pw (fun i => f (bb + i)) j n) 0 (n + 1) % 97)) (K, A, B, st, vl, sk, tn, sc', iv)) : wpX_composed post (K, A, B, st, vl, sk, tn, sc, iv) (nI aa) (nI bb) (nI n) := by
  unfold wpX_composed
  dsimp only
  refine ⟨n + 2, zx_c3 (f := f) ha hb hn h0 (fun sc' => ?_) (n + 1) 0 sc (by omega) (fun j hj => absurd hj (by omega))⟩
  unfold zs_tl
  rw [zs_sm_congr (h := fun j => f (aa + j) * zs_pw (fun i => f (bb + i)) j n) _ _ (fun j _ _ => by rw [Nat.zero_add])]
  exact hp sc'
/-- X's computeLong: kinds 3, 7, 9 -/
theorem zx_long (T : zx_T kd ka kb K A B) {p : Nat} (hp : p < 128) (hk : kd (p / 16) = 3 ∨ kd (p / 16) = 7 ∨ kd (p / 16) = 9) (hv : ∀ q, zs_nd kd ka kb p q → zx_vf vl f q) (hiv : ∀ j, j < 97 → iv j = nI (zs_iv j)) {post : Int32 → SX → Prop}
    (h1 : ∀ v sc', zs_W kd ka kb p f = some v → post 1 (K, A, B, st, upd vl p (nI v), sk, tn, sc', iv)) (h0 : zs_W kd ka kb p f = none → post 0 (K, A, B, st, vl, sk, tn, sc, iv)) : wpX_computeLong post (K, A, B, st, vl, sk, tn, sc, iv) (nI p) := by
  have hs : p / 16 < 8 := by omega
  have hn : p % 16 < 16 := Nat.mod_lt _ (by decide)
  obtain ⟨h9, ha, hb, hb2⟩ := zs_ok_p T.1 hp
  have eK := zx_K T hs
  have eA := zx_A T hs
  have eB := zx_B T hs
  have ip : vp_in (nI p) 128 := vp_in_nI hp (by decide)
  unfold zs_W at h1 h0
  unfold zs_nd at hv
  unfold wpX_computeLong
  dsimp only
  refine nm_r (za_s4 hp) (nm_r (za_a15 hp) ⟨zx_i8 hs, ?_⟩)
  rw [eA]
  refine nm_r (za_16 _) ⟨zx_i8 hs, ?_⟩
  rw [eB]
  refine nm_r (za_16 _) ⟨zx_i8 hs, ?_⟩
  rw [eK, nI_clamp (n := p) (by omega)]
  generalize kd (p / 16) = k at *
  generalize ka (p / 16) = a at *
  generalize kb (p / 16) = b at *
  generalize p / 16 = s at *
  generalize p % 16 = n at *
  refine pk_eq k 3 (fun h3 => ?_) (fun h3 => ⟨zx_i8 hs, ?_⟩)
  · subst h3
    refine zx_prod (lo := 0) (f := f) (fun i _ hi => hv _ ((zs_dr39 (Or.inl rfl)).mpr (by omega))) (fun i _ hi => hv _ ((zs_dr39 (Or.inl rfl)).mpr (by omega))) hn (by omega) ⟨ip, nm_e ?_⟩
    exact h1 _ sc (by unfold zs_wk; rfl)
  · refine pk_eq k 7 (fun h7 => ?_) (fun h7 => ?_)
    · subst h7
      have v0 : zx_vf vl f (16 * a) := hv _ ((zs_dr7 rfl).mpr (by omega))
      have v97 := v0.2.2
      refine ⟨zx_vi v0, ?_⟩
      rw [zx_vr v0]
      refine pk_eq (f (16 * a)) 0 (fun z => h0 ?_) (fun z => ⟨zx_vi v0, vp_in_nI v97 (by decide), ?_⟩)
      · unfold zs_wk
        simp only [Nat.reduceEqDiff, if_false, if_true]
        rw [if_pos z]
      · rw [nI_clamp (n := f (16 * a)) (by omega), hiv _ v97, za_16]
        refine nm_e ?_
        refine zx_prod (lo := 1) (f := f) (fun i _ hi => hv _ ((zs_dr7 rfl).mpr (by omega))) (fun i _ hi => hv _ ((zs_dr7 rfl).mpr (by omega))) hn (by omega) ?_
        have hr : zs_sm (fun i => f (16 * a + i) * f (16 * s + n - i)) 1 (n + 1 - 1) % 97 < 97 := Nat.mod_lt _ (by decide)
        rw [show n + 1 - 1 = n from by omega] at *
        have hi := zs_iv_lt (f (16 * a))
        refine pk_eq n 0 (fun n0 => ⟨ip, nm_e (h1 _ sc ?_)⟩) (fun n0 => ⟨za_n97, ip, ?_⟩)
        · unfold zs_wk
          simp only [Nat.reduceEqDiff, if_false, if_true]
          rw [if_neg z, if_pos n0]
        · have hm : (97 - zs_sm (fun i => f (16 * a + i) * f (16 * s + n - i)) 1 n % 97) * zs_iv (f (16 * a)) ≤ 97 * 97 := Nat.mul_le_mul (by omega) (by omega)
          rw [show (97 : Int32) - nI (zs_sm (fun i => f (16 * a + i) * f (16 * s + n - i)) 1 n % 97) = nI (97 - zs_sm (fun i => f (16 * a + i) * f (16 * s + n - i)) 1 n % 97) from pk_sub (a := 97) (by omega), pk_mul, za_97 (by omega)]
          refine nm_e (h1 _ sc ?_)
          unfold zs_wk
          simp only [Nat.reduceEqDiff, if_false, if_true]
          rw [if_neg z, if_neg n0]
    · have h9 : k = 9 := by omega
      subst h9
      have v0 : zx_vf vl f (16 * b) := hv _ ((zs_dr39 (Or.inr rfl)).mpr (by omega))
      have v97 := v0.2.2
      refine ⟨zx_vi v0, ?_⟩
      rw [zx_vr v0]
      refine pk_eq (f (16 * b)) 0 (fun z => ?_) (fun z => h0 ?_)
      · refine zx_comp (f := f) (fun i hi => hv _ ((zs_dr39 (Or.inr rfl)).mpr (by omega))) (fun i hi => hv _ ((zs_dr39 (Or.inr rfl)).mpr (by omega))) hn z (fun sc' => ⟨ip, nm_e (h1 _ sc' ?_)⟩)
        unfold zs_wk
        simp only [Nat.reduceEqDiff, if_false]
        rw [if_pos z]
      · unfold zs_wk
        simp only [Nat.reduceEqDiff, if_false]
        rw [if_neg z]
theorem zx_247 {post : Int32 → SX → Prop} {p v : Nat} (hp : p < 128) (hv : v < 2 ^ 31) (h : post 1 (K, A, B, st, upd vl p (nI (v % 97)), sk, tn, sc, iv)) : wX_compute_247 post (nI p) (nI v) K A B st vl sk tn sc iv := by
  unfold wX_compute_247
  rw [za_97 hv, nI_clamp (n := p) (by omega)]
  exact ⟨za_n97, vp_in_nI hp (by decide), nm_e h⟩
theorem zx_compute (T : zx_T kd ka kb K A B) {p : Nat} (hp : p < 128) (hv : ∀ q, zs_nd kd ka kb p q → zx_vf vl f q) (hiv : ∀ j, j < 97 → iv j = nI (zs_iv j)) {post : Int32 → SX → Prop}
    (h1 : ∀ v sc', zs_W kd ka kb p f = some v → post 1 (K, A, B, st, upd vl p (nI v), sk, tn, sc', iv)) (h0 : zs_W kd ka kb p f = none → post 0 (K, A, B, st, vl, sk, tn, sc, iv)) : wpX_compute post (K, A, B, st, vl, sk, tn, sc, iv) (nI p) := by
  have hs : p / 16 < 8 := by omega
  have hn : p % 16 < 16 := Nat.mod_lt _ (by decide)
  obtain ⟨h9, ha, hb, hb2⟩ := zs_ok_p T.1 hp
  have eK := zx_K T hs
  have eA := zx_A T hs
  have eB := zx_B T hs
  have hL : (kd (p / 16) = 3 ∨ kd (p / 16) = 7 ∨ kd (p / 16) = 9) → wpX_computeLong (fun r_16 u => match u with | (a_kinds_17, a_firstPart_18, a_secondPart_19, a_state_20, a_value_21, a_stack_22, a_turn_23, a_scratch_24, a_inverses_25) => (narrow .boolean (.int r_16) = .int r_16 ∧ (post r_16 (a_kinds_17, a_firstPart_18, a_secondPart_19, a_state_20, a_value_21, a_stack_22, a_turn_23, a_scratch_24, a_inverses_25)))) (K, A, B, st, vl, sk, tn, sc, iv) (nI p) :=
    fun hk => zx_long T hp hk hv hiv (fun v sc' e => ⟨rfl, h1 v sc' e⟩) (fun e => ⟨rfl, h0 e⟩)
  unfold zs_W at h1 h0
  unfold zs_nd at hv
  unfold wpX_compute
  dsimp only
  refine nm_r (za_s4 hp) (nm_r (za_a15 hp) ⟨zx_i8 hs, ?_⟩)
  rw [eA]
  refine nm_r (za_16 _) ⟨zx_i8 hs, ?_⟩
  rw [eB]
  refine nm_e ⟨zx_i8 hs, ?_⟩
  rw [eK]
  refine nm_e ?_
  generalize kd (p / 16) = k at *
  generalize ka (p / 16) = a at *
  generalize kb (p / 16) = b at *
  generalize p / 16 = s at *
  generalize p % 16 = n at *
  refine pk_eq k 0 (fun h => ?_) (fun g0 => ?_)
  · subst h
    refine pk_eq n 0 (fun z => ?_) (fun z => ?_)
    · exact zx_247 hp (by omega) (h1 _ sc (by unfold zs_wk; simp only [if_true]; rw [if_pos z]))
    · exact zx_247 (v := 0) hp (by omega) (h1 _ sc (by unfold zs_wk; simp only [if_true]; rw [if_neg z]))
  refine pk_eq k 1 (fun h => ?_) (fun g1 => ?_)
  · subst h
    refine pk_eq n 1 (fun z => ?_) (fun z => ?_)
    · exact zx_247 (v := 1) hp (by omega) (h1 _ sc (by unfold zs_wk; simp only [Nat.reduceEqDiff, if_false, if_true]; rw [if_pos z]))
    · exact zx_247 (v := 0) hp (by omega) (h1 _ sc (by unfold zs_wk; simp only [Nat.reduceEqDiff, if_false, if_true]; rw [if_neg z]))
  refine pk_eq k 2 (fun h => ?_) (fun g2 => ?_)
  · subst h
    have v1 : zx_vf vl f (16 * a + n) := hv _ ((zs_dr2 rfl).mpr (by omega))
    have v2 : zx_vf vl f (16 * b + n) := hv _ ((zs_dr2 rfl).mpr (by omega))
    have l1 := v1.2.2
    have l2 := v2.2.2
    rw [nI_add, za_16, nI_add, zx_vr v1, zx_vr v2, nI_add]
    exact ⟨zx_vi v1, zx_vi v2, nm_e (zx_247 hp (by omega) (h1 _ sc (by unfold zs_wk; simp only [Nat.reduceEqDiff, if_false, if_true])))⟩
  refine pk_eq k 4 (fun h => ?_) (fun g4 => ?_)
  · subst h
    have v1 : zx_vf vl f (16 * a + n) := hv _ ((zs_dr4 rfl).mpr (by omega))
    have l1 := v1.2.2
    have hm := za_mul_le hb l1
    rw [nI_add, zx_vr v1, pk_mul]
    exact ⟨zx_vi v1, nm_e (zx_247 hp (by omega) (h1 _ sc (by unfold zs_wk; simp only [Nat.reduceEqDiff, if_false, if_true])))⟩
  refine pk_eq k 5 (fun h => ?_) (fun g5 => ?_)
  · subst h
    refine pk_eq n 15 (fun z => h0 ?_) (fun z => ?_)
    · unfold zs_wk
      simp only [Nat.reduceEqDiff, if_false, if_true]
      rw [if_pos z]
    · have v1 : zx_vf vl f (16 * a + n + 1) := hv _ ((zs_dr5 rfl).mpr (by omega))
      have l1 := v1.2.2
      have hm : (n + 1) * f (16 * a + n + 1) ≤ 9216 := za_mul_le (by omega) l1
      rw [nI_add, nI_1 (16 * a + n), zx_vr v1, nI_1 n, pk_mul]
      exact ⟨zx_vi v1, nm_e (zx_247 hp (by omega) (h1 _ sc (by unfold zs_wk; simp only [Nat.reduceEqDiff, if_false, if_true]; rw [if_neg z])))⟩
  refine pk_eq k 6 (fun h => ?_) (fun g6 => ?_)
  · subst h
    refine pk_eq n 0 (fun z => ?_) (fun z => ?_)
    · exact zx_247 hp (by omega) (h1 _ sc (by unfold zs_wk; simp only [Nat.reduceEqDiff, if_false, if_true]; rw [if_pos z]))
    · have v1 : zx_vf vl f (16 * a + n - 1) := hv _ ((zs_dr68 (Or.inl rfl)).mpr (by omega))
      have l1 := v1.2.2
      have hm := za_mul_le l1 (zs_iv_lt n)
      rw [nI_add, za_s1 (by omega), zx_vr v1, nI_clamp (n := n) (by omega), hiv n (by omega), pk_mul]
      exact ⟨zx_vi v1, vp_in_nI (by omega) (by decide), zx_247 hp (by omega) (h1 _ sc (by unfold zs_wk; simp only [Nat.reduceEqDiff, if_false, if_true]; rw [if_neg z]))⟩
  refine pk_eq k 8 (fun h => ?_) (fun g8 => ?_)
  · subst h
    refine pk_eq n 0 (fun z => ?_) (fun z => ?_)
    · exact zx_247 hp (by omega) (h1 _ sc (by unfold zs_wk; simp only [Nat.reduceEqDiff, if_false, if_true]; rw [if_pos z]))
    · have v1 : zx_vf vl f (16 * a + n - 1) := hv _ ((zs_dr68 (Or.inr rfl)).mpr (by omega))
      have l1 := v1.2.2
      rw [nI_add, za_s1 (by omega), zx_vr v1]
      exact ⟨zx_vi v1, zx_247 hp (by omega) (h1 _ sc (by unfold zs_wk; simp only [Nat.reduceEqDiff, if_false, if_true]; rw [if_neg z]))⟩
  exact hL (by omega)
end
end
section
/-! X: force -/
def zx_I (kd ka kb : Nat → Nat) (st vl : Nat → Int32) : Prop := ∀ p, p < 128 → st p = 0 ∨ (st p = 2 ∧ zs_D kd ka kb p ∧ vl p = nI (zs_tv kd ka kb p)) ∨ (st p = 3 ∧ ¬ zs_D kd ka kb p)
/-- the invariant with c places on the stack: pk i the place, tk i its turn -/
def zx_F (kd ka kb : Nat → Nat) (st vl sk tn : Nat → Int32) (pk tk : Nat → Nat) (c : Nat) : Prop :=
  (∀ p, p < 128 → st p = 0 ∨ (st p = 1 ∧ ∃ i, i < c ∧ pk i = p) ∨ (st p = 2 ∧ zs_D kd ka kb p ∧ vl p = nI (zs_tv kd ka kb p)) ∨ (st p = 3 ∧ ¬ zs_D kd ka kb p)) ∧
  (∀ i, i < c → pk i < 128 ∧ sk i = nI (pk i) ∧ st (pk i) = 1 ∧ tn i = nI (tk i) ∧ tk i ≤ 32 ∧ (∀ j q, j < tk i → zs_N kd ka kb (pk i) j = some q → st q = 2)) ∧
  (∀ i j, i < j → j < c → ¬ pk i = pk j) ∧
  (∀ i, i + 1 < c → zs_N kd ka kb (pk i) (tk i) = some (pk (i + 1))) ∧
  zs_cn st 128 + c ≤ 128
def zx_P (st : Nat → Int32) (tk : Nat → Nat) (c : Nat) : Nat := 35 * zs_cn st 128 + zs_sm (fun i => 34 - tk i) 0 c
def zs_un (f : Nat → Nat) (k x : Nat) : Nat → Nat := fun j => if j = k then x else f j
theorem zs_us {f : Nat → Nat} {k x : Nat} : zs_un f k x k = x := if_pos rfl
theorem zs_uo {f : Nat → Nat} {k j x : Nat} (h : ¬ j = k) : zs_un f k x j = f j := if_neg h
theorem zx_12 : ¬ (1 : Int32) = 2 := by decide
theorem zx_10 : ¬ (1 : Int32) = 0 := by decide
theorem zx_13 : ¬ (1 : Int32) = 3 := by decide
theorem zx_20 : ¬ (2 : Int32) = 0 := by decide
theorem zx_30 : ¬ (3 : Int32) = 0 := by decide
theorem zx_32 : ¬ (3 : Int32) = 2 := by decide
theorem zx_02 : ¬ (0 : Int32) = 2 := by decide
section
variable {kd ka kb : Nat → Nat} {st vl sk tn : Nat → Int32} {pk tk : Nat → Nat} {c : Nat}
theorem zx_F_pop (F : zx_F kd ka kb st vl sk tn pk tk (c + 1)) {vl' : Nat → Int32} {x : Int32} (hvl : ∀ q, ¬ q = pk c → vl' q = vl q) (hx : (x = 2 ∧ zs_D kd ka kb (pk c) ∧ vl' (pk c) = nI (zs_tv kd ka kb (pk c))) ∨ (x = 3 ∧ ¬ zs_D kd ka kb (pk c))) :
    zx_F kd ka kb (upd st (pk c) x) vl' sk tn pk tk c ∧ zx_P (upd st (pk c) x) tk c < zx_P st tk (c + 1) := by
  obtain ⟨F1, F2, F3, F4, F5⟩ := F
  have hc := F2 c (by omega)
  have x0 : ¬ x = 0 := by
    rcases hx with ⟨e, _⟩ | ⟨e, _⟩
    · rw [e]; exact zx_20
    · rw [e]; exact zx_30
  have ecn : zs_cn (upd st (pk c) x) 128 = zs_cn st 128 := zs_cn_updn x0 (by rw [hc.2.2.1]; exact zx_10) 128
  refine ⟨⟨fun q hq => ?_, fun i hi => ?_, fun i j h1 h2 => F3 i j h1 (by omega), fun i hi => F4 i (by omega), by rw [ecn]; omega⟩, ?_⟩
  · by_cases e : q = pk c
    · subst e
      rw [pk_us]
      rcases hx with h | h
      · exact Or.inr (Or.inr (Or.inl h))
      · exact Or.inr (Or.inr (Or.inr h))
    · rw [pk_un e, hvl q e]
      rcases F1 q hq with h | ⟨h, i, hi, ei⟩ | h | h
      · exact Or.inl h
      · refine Or.inr (Or.inl ⟨h, i, ?_, ei⟩)
        by_cases z : i = c
        · subst z; exact absurd ei.symm e
        · omega
      · exact Or.inr (Or.inr (Or.inl h))
      · exact Or.inr (Or.inr (Or.inr h))
  · obtain ⟨a1, a2, a3, a4, a5, a6⟩ := F2 i (by omega)
    refine ⟨a1, a2, ?_, a4, a5, fun j q hj hq => ?_⟩
    · rw [pk_un (F3 i c hi (by omega))]; exact a3
    · have h2 := a6 j q hj hq
      rw [pk_un (fun e => ?_)]
      · exact h2
      · rw [e, hc.2.2.1] at h2
        exact zx_12 h2
  · unfold zx_P
    rw [ecn, zs_sm_last, Nat.zero_add]
    have := hc.2.2.2.2.1
    omega
theorem zx_F_turn (hw : zs_wf kd ka kb) (F : zx_F kd ka kb st vl sk tn pk tk (c + 1)) {q : Nat} (hN : zs_N kd ka kb (pk c) (tk c) = some q) (hq : st q = 2) :
    zx_F kd ka kb st vl sk (upd tn c (nI (tk c + 1))) pk (zs_un tk c (tk c + 1)) (c + 1) ∧ zx_P st (zs_un tk c (tk c + 1)) (c + 1) < zx_P st tk (c + 1) := by
  obtain ⟨F1, F2, F3, F4, F5⟩ := F
  have hc := F2 c (by omega)
  have ht := (zs_N_nd hw hc.1 hN).2.1
  refine ⟨⟨F1, fun i hi => ?_, F3, fun i hi => ?_, F5⟩, ?_⟩
  · obtain ⟨a1, a2, a3, a4, a5, a6⟩ := F2 i hi
    by_cases e : i = c
    · subst e
      refine ⟨a1, a2, a3, ?_, ?_, fun j r hj hr => ?_⟩
      · rw [pk_us, zs_us]
      · rw [zs_us]; omega
      · rw [zs_us] at hj
        by_cases z : j = tk i
        · subst z
          rw [hN] at hr
          injection hr with hr
          rw [← hr]; exact hq
        · exact a6 j r (by omega) hr
    · refine ⟨a1, a2, a3, ?_, ?_, fun j r hj hr => ?_⟩
      · rw [pk_un e, zs_uo e]; exact a4
      · rw [zs_uo e]; exact a5
      · rw [zs_uo e] at hj
        exact a6 j r hj hr
  · rw [zs_uo (by omega)]
    exact F4 i hi
  · unfold zx_P
    rw [zs_sm_last, zs_sm_last, Nat.zero_add, zs_sm_congr (g := fun i => 34 - zs_un tk c (tk c + 1) i) (h := fun i => 34 - tk i) c 0 (fun j _ hj => by rw [zs_uo (by omega)])]
    have := hc.2.2.2.2.1
    rw [zs_us]
    omega
theorem zx_F_push (hw : zs_wf kd ka kb) (F : zx_F kd ka kb st vl sk tn pk tk (c + 1)) {q : Nat} (hN : zs_N kd ka kb (pk c) (tk c) = some q) (hq : st q = 0) :
    c + 1 < 128 ∧ zx_F kd ka kb (upd st q 1) vl (upd sk (c + 1) (nI q)) (upd tn (c + 1) 0) (zs_un pk (c + 1) q) (zs_un tk (c + 1) 0) (c + 1 + 1) ∧ zx_P (upd st q 1) (zs_un tk (c + 1) 0) (c + 1 + 1) < zx_P st tk (c + 1) := by
  obtain ⟨F1, F2, F3, F4, F5⟩ := F
  have hc := F2 c (by omega)
  have q128 := (zs_N_nd hw hc.1 hN).1
  have ecn : zs_cn (upd st q 1) 128 + 1 = zs_cn st 128 := zs_cn_upd zx_10 hq 128 q128
  have ne : ∀ i, i < c + 1 → ¬ pk i = q := fun i hi e => by
    have h1 := (F2 i hi).2.2.1
    rw [e, hq] at h1
    exact absurd h1 (by decide)
  refine ⟨by omega, ⟨fun p hp => ?_, fun i hi => ?_, fun i j h1 h2 => ?_, fun i hi => ?_, by omega⟩, ?_⟩
  · by_cases e : p = q
    · subst e
      rw [pk_us]
      exact Or.inr (Or.inl ⟨rfl, c + 1, by omega, zs_us⟩)
    · rw [pk_un e]
      rcases F1 p hp with h | ⟨h, i, hi, ei⟩ | h | h
      · exact Or.inl h
      · exact Or.inr (Or.inl ⟨h, i, by omega, by rw [zs_uo (by omega)]; exact ei⟩)
      · exact Or.inr (Or.inr (Or.inl h))
      · exact Or.inr (Or.inr (Or.inr h))
  · by_cases e : i = c + 1
    · subst e
      rw [zs_us, zs_us, pk_us, pk_us, pk_us]
      exact ⟨q128, rfl, rfl, rfl, by omega, fun j r hj _ => absurd hj (by omega)⟩
    · rw [zs_uo e, zs_uo e, pk_un e, pk_un e, pk_un (ne i (by omega))]
      obtain ⟨a1, a2, a3, a4, a5, a6⟩ := F2 i (by omega)
      refine ⟨a1, a2, a3, a4, a5, fun j r hj hr => ?_⟩
      have h2 := a6 j r hj hr
      rw [pk_un (fun e => ?_)]
      · exact h2
      · rw [e, hq] at h2
        exact zx_02 h2
  · by_cases e : j = c + 1
    · subst e
      rw [zs_us, zs_uo (by omega)]
      exact ne i h1
    · rw [zs_uo e, zs_uo (by omega)]
      exact F3 i j h1 (by omega)
  · by_cases e : i = c
    · subst e
      rw [zs_uo (by omega), zs_uo (by omega), zs_us]
      exact hN
    · rw [zs_uo (by omega), zs_uo (by omega), zs_uo (by omega)]
      exact F4 i (by omega)
  · unfold zx_P
    rw [zs_sm_last (fun i => 34 - zs_un tk (c + 1) 0 i), Nat.zero_add, zs_sm_congr (g := fun i => 34 - zs_un tk (c + 1) 0 i) (h := fun i => 34 - tk i) (c + 1) 0 (fun j _ hj => by rw [zs_uo (by omega)])]
    rw [zs_us]
    omega
/-- a need that is being forced, or is dead: the top has no value -/
theorem zx_F_dead (hw : zs_wf kd ka kb) (F : zx_F kd ka kb st vl sk tn pk tk (c + 1)) {q : Nat} (hN : zs_N kd ka kb (pk c) (tk c) = some q) (h2 : ¬ st q = 2) (h0 : ¬ st q = 0) : ¬ zs_D kd ka kb (pk c) := by
  obtain ⟨F1, F2, F3, F4, F5⟩ := F
  have hc := F2 c (by omega)
  obtain ⟨q128, _, hnd⟩ := zs_N_nd hw hc.1 hN
  rcases F1 q q128 with h | ⟨h, i0, hi0, ei⟩ | h | h
  · exact absurd h h0
  · refine zs_no hw (fun x => ∃ i, i0 ≤ i ∧ i < c + 1 ∧ pk i = x) (fun x hx => ?_) ⟨c, by omega, by omega, rfl⟩
    obtain ⟨i, h1, h3, e⟩ := hx
    by_cases z : i = c
    · subst z
      subst e
      exact ⟨q, hnd, i0, Nat.le_refl _, hi0, ei⟩
    · refine ⟨pk (i + 1), ?_, i + 1, by omega, by omega, rfl⟩
      rw [← e]
      exact (zs_N_nd hw (F2 i h3).1 (F4 i (by omega))).2.2
  · exact absurd h.1 h2
  · exact fun hD => h.2 ((zs_D_el hw hD).1 q hnd)
theorem zx_F_needs (hw : zs_wf kd ka kb) (F : zx_F kd ka kb st vl sk tn pk tk (c + 1)) (hN : zs_N kd ka kb (pk c) (tk c) = none) : ∀ q, zs_nd kd ka kb (pk c) q → zs_D kd ka kb q ∧ zx_vf vl (zs_tv kd ka kb) q := by
  obtain ⟨F1, F2, F3, F4, F5⟩ := F
  have hc := F2 c (by omega)
  intro q hq
  obtain ⟨i, hi, e⟩ := zs_nd_N hw hc.1 hq
  have q128 := (zs_N_nd hw hc.1 e).1
  have h2 := hc.2.2.2.2.2 i q (zs_nx_pre hN e) e
  rcases F1 q q128 with h | ⟨h, _⟩ | h | h
  · rw [h2] at h; exact absurd h (by decide)
  · rw [h2] at h; exact absurd h (by decide)
  · exact ⟨h.2.1, q128, h.2.2, zs_tv_lt hw h.2.1⟩
  · rw [h2] at h; exact absurd h.1 (by decide)
end
section
variable {kd ka kb : Nat → Nat} {K A B iv : Nat → Int32}
theorem zx_enter {st vl sk tn sc : Nat → Int32} {post : SX → Prop} {d q : Nat} (hd : d < 128) (hq : q < 128) (h : post (K, A, B, upd st q 1, vl, upd sk d (nI q), upd tn d 0, sc, iv)) : wpX_enter post (K, A, B, st, vl, sk, tn, sc, iv) (nI d) (nI q) := by
  unfold wpX_enter
  dsimp only
  rw [nI_clamp (n := d) (by omega), nI_clamp (n := q) (by omega)]
  exact ⟨vp_in_nI hd (by decide), nm_e ⟨vp_in_nI hd (by decide), nm_e ⟨vp_in_nI hq (by decide), nm_e h⟩⟩⟩
theorem zx_f35 (T : zx_T kd ka kb K A B) (hiv : ∀ j, j < 97 → iv j = nI (zs_iv j)) {post : Int32 → SX → Prop} {p0 : Nat} (st0 : Nat → Int32)
    (hpost : ∀ st vl sk tn sc : Nat → Int32, zx_I kd ka kb st vl → (∀ q, st0 q = 2 → st q = 2) → ¬ st p0 = 0 → wX_force_165 post (nI p0) K A B st vl sk tn sc iv) :
    ∀ m c x e st vl sk tn sc pk tk, x = nI c + (-1) → zx_F kd ka kb st vl sk tn pk tk c → (∀ q, st0 q = 2 → st q = 2) → ¬ st p0 = 0 → zx_P st tk c < m → e + zx_P st tk c ≤ 5000 → wX_force_35 post (nI p0) m x (nI e) K A B st vl sk tn sc iv := by
  have hw := T.1
  intro m
  induction m with
  | zero => intro c x e st vl sk tn sc pk tk _ _ _ _ h; omega
  | succ m ih =>
    intro c x e st vl sk tn sc pk tk hx F hm hp0 hP he
    refine br_f (nI_ge (b := 20000) (by omega) (by decide)) ?_
    cases c with
    | zero =>
      subst hx
      refine br_t za_neg (hpost st vl sk tn sc (fun p hp => ?_) hm hp0)
      rcases F.1 p hp with h | ⟨_, i, hi, _⟩ | h | h
      · exact Or.inl h
      · exact absurd hi (by omega)
      · exact Or.inr (Or.inl h)
      · exact Or.inr (Or.inr h)
    | succ c =>
      have hc := F.2.1 c (by omega)
      have h5 := F.2.2.2.2
      rw [pk_m1] at hx
      subst hx
      have ic : vp_in (nI c) 128 := vp_in_nI (by omega) (by decide)
      refine br_f (nI_pos (by omega)) ⟨ic, ?_⟩
      rw [nI_clamp (n := c) (by omega)]
      refine nm_r hc.2.1 ⟨ic, ?_⟩
      have ipc : vp_in (nI (pk c)) 128 := vp_in_nI hc.1 (by decide)
      rw [hc.2.2.2.1]
      refine zx_need T hc.1 (by have := hc.2.2.2.2.1; omega) ?_
      have cp : (nI (pk c)).toNatClampNeg = pk c := nI_clamp (by have := hc.1; omega)
      have sp : st (pk c) = 1 := hc.2.2.1
      have keep : ∀ (x : Int32) q, st0 q = 2 → upd st (pk c) x q = 2 := fun x q h => by
        have := hm q h
        rw [pk_un (fun e => ?_)]
        · exact this
        · rw [e, sp] at this; exact zx_12 this
      have keep0 : ∀ x : Int32, ¬ x = 0 → ¬ upd st (pk c) x p0 = 0 := fun x hx => by
        by_cases e : p0 = pk c
        · rw [e, pk_us]; exact hx
        · rw [pk_un e]; exact hp0
      cases hN : zs_N kd ka kb (pk c) (tk c) with
      | none =>
        have hnd := zx_F_needs hw F hN
        refine br_t rfl (zx_compute (f := zs_tv kd ka kb) T hc.1 (fun q hq => (hnd q hq).2) hiv (fun v sc' e1 => ?_) (fun e0 => ?_))
        · obtain ⟨hD, etv⟩ := zs_D_in hw hc.1 (fun q hq => (hnd q hq).1) e1
          obtain ⟨F', P'⟩ := zx_F_pop (vl' := upd vl (pk c) (nI v)) (x := 2) F (fun q hq => pk_un hq) (Or.inl ⟨rfl, hD, by rw [pk_us, etv]⟩)
          refine br_f zx_10 ⟨ipc, ?_⟩
          rw [cp]
          exact nm_e (nm_e (nm_r (nI_1 e) (ih c _ (e + 1) _ _ _ _ _ pk tk rfl F' (keep 2) (keep0 2 zx_20) (by omega) (by omega))))
        · have hD : ¬ zs_D kd ka kb (pk c) := fun h => by
            have := (zs_D_el hw h).2
            rw [e0] at this
            exact absurd this (by simp)
          obtain ⟨F', P'⟩ := zx_F_pop (vl' := vl) (x := 3) F (fun q hq => rfl) (Or.inr ⟨rfl, hD⟩)
          refine br_t rfl ⟨ipc, ?_⟩
          rw [cp]
          exact nm_e (nm_e (nm_r (nI_1 e) (ih c _ (e + 1) _ _ _ _ _ pk tk rfl F' (keep 3) (keep0 3 zx_30) (by omega) (by omega))))
      | some q =>
        have q128 := (zs_N_nd hw hc.1 hN).1
        have iq : vp_in (nI q) 128 := vp_in_nI q128 (by decide)
        rw [show zx_oi (some q) = nI q from rfl]
        refine br_f (za_nm (by omega)) ⟨iq, ?_⟩
        rw [nI_clamp (n := q) (by omega), cp]
        refine br_c (fun z2 => ⟨ic, ic, ?_⟩) (fun z2 => ⟨iq, br_c (fun z0 => ?_) (fun z0 => ⟨ipc, ?_⟩)⟩)
        · obtain ⟨F', P'⟩ := zx_F_turn hw F hN z2
          rw [nI_1 (tk c)]
          refine nm_e (nm_r (nI_1 e) ?_)
          exact ih (c + 1) _ (e + 1) _ _ _ _ _ pk _ (pk_m1 c).symm F' hm hp0 (by omega) (by omega)
        · obtain ⟨hc1, F', P'⟩ := zx_F_push hw F hN z0
          refine nm_r (nI_1 c) (zx_enter hc1 q128 (nm_r (nI_1 e) ?_))
          refine ih (c + 1 + 1) _ (e + 1) _ _ _ _ _ _ _ (pk_m1 (c + 1)).symm F' (fun r hr => ?_) ?_ (by omega) (by omega)
          · have := hm r hr
            rw [pk_un (fun e => ?_)]
            · exact this
            · rw [e, z0] at this; exact zx_02 this
          · by_cases e : p0 = q
            · rw [e, pk_us]; exact zx_10
            · rw [pk_un e]; exact hp0
        · obtain ⟨F', P'⟩ := zx_F_pop (vl' := vl) (x := 3) F (fun q hq => rfl) (Or.inr ⟨rfl, zx_F_dead hw F hN z2 z0⟩)
          exact nm_e (nm_e (nm_r (nI_1 e) (ih c _ (e + 1) _ _ _ _ _ pk tk rfl F' (keep 3) (keep0 3 zx_30) (by omega) (by omega))))
theorem zx_force (T : zx_T kd ka kb K A B) (hiv : ∀ j, j < 97 → iv j = nI (zs_iv j)) {post : Int32 → SX → Prop} {p : Nat} (hp : p < 128) {st vl sk tn sc : Nat → Int32} (hI : zx_I kd ka kb st vl)
    (h1 : ∀ st' vl' sk' tn' sc' : Nat → Int32, zx_I kd ka kb st' vl' → (∀ q, st q = 2 → st' q = 2) → st' p = 2 → zs_D kd ka kb p → post 1 (K, A, B, st', vl', sk', tn', sc', iv))
    (h0 : ∀ st' vl' sk' tn' sc' : Nat → Int32, zx_I kd ka kb st' vl' → (∀ q, st q = 2 → st' q = 2) → ¬ zs_D kd ka kb p → post 0 (K, A, B, st', vl', sk', tn', sc', iv)) : wpX_force post (K, A, B, st, vl, sk, tn, sc, iv) (nI p) := by
  have ip : vp_in (nI p) 128 := vp_in_nI hp (by decide)
  have fin : ∀ st' vl' sk' tn' sc' : Nat → Int32, zx_I kd ka kb st' vl' → (∀ q, st q = 2 → st' q = 2) → ¬ st' p = 0 → (st' p = 2 → post 1 (K, A, B, st', vl', sk', tn', sc', iv)) ∧ (¬ st' p = 2 → post 0 (K, A, B, st', vl', sk', tn', sc', iv)) := by
    intro st' vl' sk' tn' sc' hI' hm hz
    rcases hI' p hp with h | h | h
    · exact absurd h hz
    · exact br_t h.1 (h1 _ _ _ _ _ hI' hm h.1 h.2.1)
    · exact br_f (by rw [h.1]; exact zx_32) (h0 _ _ _ _ _ hI' hm h.2)
  unfold wpX_force
  dsimp only
  rw [nI_clamp (n := p) (by omega)]
  refine ⟨ip, br_c (fun z => ?_) (fun z => ⟨ip, fin st vl sk tn sc hI (fun q h => h) z⟩)⟩
  refine zx_enter (d := 0) (by decide) hp ?_
  have ecn : zs_cn (upd st p 1) 128 + 1 = zs_cn st 128 := zs_cn_upd zx_10 z 128 hp
  have hle := zs_cn_le st 128
  have F : zx_F kd ka kb (upd st p 1) vl (upd sk 0 (nI p)) (upd tn 0 0) (fun _ => p) (fun _ => 0) 1 := by
    refine ⟨fun q hq => ?_, fun i hi => ?_, fun i j h1 h2 => absurd h2 (by omega), fun i hi => absurd hi (by omega), by omega⟩
    · by_cases e : q = p
      · subst e
        rw [pk_us]
        exact Or.inr (Or.inl ⟨rfl, 0, by omega, rfl⟩)
      · rw [pk_un e]
        rcases hI q hq with h | h | h
        · exact Or.inl h
        · exact Or.inr (Or.inr (Or.inl h))
        · exact Or.inr (Or.inr (Or.inr h))
    · have : i = 0 := by omega
      subst this
      rw [pk_us, pk_us, pk_us]
      exact ⟨hp, rfl, rfl, rfl, Nat.zero_le _, fun j r hj _ => absurd hj (Nat.not_lt_zero j)⟩
  have eP : zx_P (upd st p 1) (fun _ => 0) 1 = 35 * zs_cn (upd st p 1) 128 + 34 := rfl
  have L := zx_f35 (iv := iv) T hiv (post := post) (p0 := p) st (fun st' vl' sk' tn' sc' hI' hm hz => by
      unfold wX_force_165
      rw [nI_clamp (n := p) (by omega)]
      exact ⟨ip, fin st' vl' sk' tn' sc' hI' hm hz⟩) 5000 1 (nI 0) 0 (upd st p 1) vl (upd sk 0 (nI p)) (upd tn 0 0) sc (fun _ => p) (fun _ => 0) (pk_m1 0).symm F
    (fun q hq => by
      rw [pk_un (fun e => ?_)]
      · exact hq
      · rw [e, z] at hq; exact zx_02 hq) (by rw [pk_us]; exact zx_10) (by omega) (by omega)
  exact ⟨5000, L⟩
end
end
section
/-! Y's small walks -/
section
variable {kd ka kb : Nat → Nat} {K A B hs vl nd pw pr : Nat → Int32} {f : Nat → Nat}
theorem zy_bad {post : Int32 → Prop} (x : Int32) (h1 : (¬ ∃ s, s < 8 ∧ x = nI s) → post 1) (h0 : ∀ s, s < 8 → x = nI s → post 0) : wpY_bad post (K, A, B, hs, vl, nd, pw, pr) x := by
  unfold wpY_bad
  dsimp only
  refine br_c (fun h => h1 ?_) (fun h => ?_)
  · rintro ⟨s, hs, rfl⟩
    exact nI_pos (by omega) h
  · obtain ⟨j, hj, rfl⟩ := nI_of h
    refine pk_le j 7 (fun h7 => h0 j (by omega) rfl) (fun h7 => h1 ?_)
    rintro ⟨s, hs, e⟩
    rw [nI_eq hj (by omega)] at e
    omega
theorem zy_direct (T : zx_T kd ka kb K A B) {s n t m : Nat} (hs8 : s < 8) (hn : n < 16) (ht : t < 8) (hm : m < 16) {post : Int32 → Prop} (h1 : zs_dr (kd s) (ka s) (kb s) s n t m → post 1) (h0 : ¬ zs_dr (kd s) (ka s) (kb s) s n t m → post 0) : wpY_direct post (K, A, B, hs, vl, nd, pw, pr) (nI s) (nI n) (nI t) (nI m) := by
  obtain ⟨h9, ha, hb, hb2⟩ := T.1 s hs8
  have eK := zx_K T hs8
  have eA := zx_A T hs8
  have eB := zx_B T hs8
  have i8 := zx_i8 hs8
  unfold wpY_direct
  dsimp only
  refine ⟨i8, nm_r eK ?_⟩
  rw [eA, eB]
  generalize kd s = k at *
  generalize ka s = a at *
  generalize kb s = b at *
  have e59 : (k = 3 ∨ k = 9) → wY_direct_59 post (nI s) (nI n) (nI t) (nI m) K A B hs vl nd pw pr := by
    intro hk
    unfold wY_direct_59
    rw [eA, eB]
    refine pk_lt n m (fun z => h0 (mt (zs_dr39 hk).mp (by omega))) (fun z => ⟨i8, ?_⟩)
    refine pk_eq t a (fun y => h1 ((zs_dr39 hk).mpr (by omega))) (fun y => ⟨i8, ?_⟩)
    exact pk_eq t b (fun x => h1 ((zs_dr39 hk).mpr (by omega))) (fun x => h0 (mt (zs_dr39 hk).mp (by omega)))
  have e169 : (k = 6 ∨ k = 8) → wY_direct_169 post (nI s) (nI n) (nI t) (nI m) K A B hs vl nd pw pr := by
    intro hk
    unfold wY_direct_169
    rw [eA]
    refine pk_le n 0 (fun z => h0 (mt (zs_dr68 hk).mp (by omega))) (fun z => ?_)
    rw [za_s1 (by omega)]
    refine pk_eq m (n - 1) (fun y => ⟨i8, ?_⟩) (fun y => h0 (mt (zs_dr68 hk).mp (by omega)))
    exact pk_eq t a (fun x => h1 ((zs_dr68 hk).mpr (by omega))) (fun x => h0 (mt (zs_dr68 hk).mp (by omega)))
  have e220 : k = 7 → ¬ (m ≤ n ∧ t = a) → wY_direct_220 post (nI s) (nI n) (nI t) (nI m) K A B hs vl nd pw pr := by
    intro hk hz
    unfold wY_direct_220
    refine pk_le n m (fun z => h0 (mt (zs_dr7 hk).mp (by omega))) (fun z => ?_)
    exact pk_eq t s (fun x => h1 ((zs_dr7 hk).mpr (by omega))) (fun x => h0 (mt (zs_dr7 hk).mp (by omega)))
  refine pk_eq k 2 (fun z => ?_) (fun z2 => ?_)
  · refine pk_eq m n (fun y => ⟨i8, ?_⟩) (fun y => h0 (mt (zs_dr2 z).mp (by omega)))
    refine pk_eq t a (fun x => h1 ((zs_dr2 z).mpr (by omega))) (fun x => ⟨i8, ?_⟩)
    exact pk_eq t b (fun w => h1 ((zs_dr2 z).mpr (by omega))) (fun w => h0 (mt (zs_dr2 z).mp (by omega)))
  refine pk_eq k 3 (fun z => e59 (Or.inl z)) (fun z3 => ?_)
  refine pk_eq k 9 (fun z => e59 (Or.inr z)) (fun z9 => ?_)
  refine pk_eq k 4 (fun z => ?_) (fun z4 => ?_)
  · refine pk_eq m n (fun y => ⟨i8, ?_⟩) (fun y => h0 (mt (zs_dr4 z).mp (by omega)))
    exact pk_eq t a (fun x => h1 ((zs_dr4 z).mpr (by omega))) (fun x => h0 (mt (zs_dr4 z).mp (by omega)))
  refine pk_eq k 5 (fun z => ?_) (fun z5 => ?_)
  · refine pk_le 15 n (fun y => h0 (mt (zs_dr5 z).mp (by omega))) (fun y => ?_)
    rw [nI_1 n]
    refine pk_eq m (n + 1) (fun x => ⟨i8, ?_⟩) (fun x => h0 (mt (zs_dr5 z).mp (by omega)))
    exact pk_eq t a (fun w => h1 ((zs_dr5 z).mpr (by omega))) (fun w => h0 (mt (zs_dr5 z).mp (by omega)))
  refine pk_eq k 6 (fun z => e169 (Or.inl z)) (fun z6 => ?_)
  refine pk_eq k 8 (fun z => e169 (Or.inr z)) (fun z8 => ?_)
  refine pk_eq k 7 (fun z => ?_) (fun z7 => h0 (zs_dr01 (by omega)))
  refine pk_lt n m (fun y => e220 z (by omega)) (fun y => ⟨i8, ?_⟩)
  exact pk_eq t a (fun x => h1 ((zs_dr7 z).mpr (by omega))) (fun x => e220 z (by omega))
theorem zy_r13 (T : zx_T kd ka kb K A B) {s n : Nat} (hs8 : s < 8) (hn : n < 16) {post : Int32 → Prop} (h1 : (∀ t m, t < 8 → m < 16 → zs_dr (kd s) (ka s) (kb s) s n t m → ¬ hs (16 * t + m) = 0) → post 1) (h0 : ∀ t m, t < 8 → m < 16 → zs_dr (kd s) (ka s) (kb s) s n t m → hs (16 * t + m) = 0 → post 0) :
    ∀ d m, m + d = 16 → (∀ t m', t < 8 → m' < m → zs_dr (kd s) (ka s) (kb s) s n t m' → ¬ hs (16 * t + m') = 0) → wY_ready_13 post (nI s) (nI n) (nI (kb s % 8)) K A B hs vl nd pw pr (d + 1) (nI m) := by
  obtain ⟨h9, ha, hb, hb2⟩ := T.1 s hs8
  have eA := zx_A T hs8
  have i8 := zx_i8 hs8
  intro d
  induction d with
  | zero =>
    intro m hm H
    refine br_t (nI_le (a := 16) (by omega) (by omega)) (h1 (fun t m' ht hm' hd => H t m' ht (by omega) hd))
  | succ d ih =>
    intro m hm H
    refine br_f (nI_ge (b := 16) (by omega) (by decide)) ⟨i8, ?_⟩
    rw [eA, za_ix]
    have nxt : (zs_dr (kd s) (ka s) (kb s) s n (ka s) m → ¬ hs (16 * ka s + m) = 0) → (zs_dr (kd s) (ka s) (kb s) s n (kb s % 8) m → ¬ hs (16 * (kb s % 8) + m) = 0) → (zs_dr (kd s) (ka s) (kb s) s n s m → ¬ hs (16 * s + m) = 0) → wY_ready_13 post (nI s) (nI n) (nI (kb s % 8)) K A B hs vl nd pw pr (d + 1) (nI (m + 1)) := by
      intro ca cb cs
      refine ih (m + 1) (by omega) (fun t m' ht hm' hd => ?_)
      by_cases z : m' = m
      · subst z
        have ht3 : t = ka s ∨ t = kb s % 8 ∨ t = s := by
          exact zs_dr_t (T.1 s hs8) hd
        rcases ht3 with e | e | e
        · rw [e] at hd ⊢; exact ca hd
        · rw [e] at hd ⊢; exact cb hd
        · rw [e] at hd ⊢; exact cs hd
      · exact H t m' ht (by omega) hd
    have c88 : (zs_dr (kd s) (ka s) (kb s) s n (ka s) m → ¬ hs (16 * ka s + m) = 0) → (zs_dr (kd s) (ka s) (kb s) s n (kb s % 8) m → ¬ hs (16 * (kb s % 8) + m) = 0) → wY_ready_88 post (wY_ready_13 post (nI s) (nI n) (nI (kb s % 8)) K A B hs vl nd pw pr (d + 1)) (nI s) (nI n) (nI (kb s % 8)) (nI m) K A B hs vl nd pw pr := by
      intro ca cb
      unfold wY_ready_88
      refine zy_direct T hs8 hn hs8 (by omega) (fun dr => br_f zx_10 ?_) (fun dr => br_t rfl (nm_r (nI_1 m) (nxt ca cb (fun h => absurd h dr))))
      rw [za_ix, nI_clamp (n := 16 * s + m) (by omega)]
      exact ⟨vp_in_nI (by omega) (by decide), br_c (fun z => h0 s m hs8 (by omega) dr z) (fun z => nm_r (nI_1 m) (nxt ca cb (fun _ => z)))⟩
    have c59 : (zs_dr (kd s) (ka s) (kb s) s n (ka s) m → ¬ hs (16 * ka s + m) = 0) → wY_ready_59 post (wY_ready_13 post (nI s) (nI n) (nI (kb s % 8)) K A B hs vl nd pw pr (d + 1)) (nI s) (nI n) (nI (kb s % 8)) (nI m) K A B hs vl nd pw pr := by
      intro ca
      unfold wY_ready_59
      have h8 : kb s % 8 < 8 := Nat.mod_lt _ (by decide)
      refine zy_direct T hs8 hn h8 (by omega) (fun dr => br_f zx_10 ?_) (fun dr => br_t rfl (c88 ca (fun h => absurd h dr)))
      rw [za_ix, nI_clamp (n := 16 * (kb s % 8) + m) (by omega)]
      exact ⟨vp_in_nI (by omega) (by decide), br_c (fun z => h0 (kb s % 8) m h8 (by omega) dr z) (fun z => c88 ca (fun _ => z))⟩
    refine zy_direct T hs8 hn ha (by omega) (fun dr => br_f zx_10 ⟨i8, ?_⟩) (fun dr => br_t rfl (c59 (fun h => absurd h dr)))
    rw [nI_clamp (n := 16 * ka s + m) (by omega)]
    exact ⟨vp_in_nI (by omega) (by decide), br_c (fun z => h0 (ka s) m ha (by omega) dr z) (fun z => c59 (fun _ => z))⟩
theorem zy_ready (T : zx_T kd ka kb K A B) {s n : Nat} (hs8 : s < 8) (hn : n < 16) {post : Int32 → Prop} (h1 : (∀ t m, t < 8 → m < 16 → zs_dr (kd s) (ka s) (kb s) s n t m → ¬ hs (16 * t + m) = 0) → post 1) (h0 : ∀ t m, t < 8 → m < 16 → zs_dr (kd s) (ka s) (kb s) s n t m → hs (16 * t + m) = 0 → post 0) : wpY_ready post (K, A, B, hs, vl, nd, pw, pr) (nI s) (nI n) := by
  unfold wpY_ready
  dsimp only
  rw [zx_B T hs8, za_a7 (by have := (T.1 s hs8).2.2.1; omega)]
  exact ⟨zx_i8 hs8, nm_e ⟨17, zy_r13 T hs8 hn h1 h0 16 0 (by omega) (fun t m' _ hm' => absurd hm' (by omega))⟩⟩
theorem zy_q2 {post : Int32 → Prop} {x y : Nat} (hy : y < 97) (y0 : y ≠ 0) (hx : x < 97) (h : post (nI (x * zs_iv y % 97))) : ∀ d z, z + d = x * zs_iv y % 97 → wY_quotient_2 post (nI x) (nI y) K A B hs vl nd pw pr (d + 1) (nI z) := by
  have l := Nat.mod_lt (x * zs_iv y) (show 97 > 0 from by decide)
  intro d
  induction d with
  | zero =>
    intro z hz
    rw [Nat.add_zero] at hz
    have hq := (zs_quo hy y0 hx (by omega)).mpr hz
    have hm := za_mul_le hy (show z < 97 from by omega)
    refine br_f (nI_ge (b := 97) (by omega) (by decide)) ⟨za_n97, ?_⟩
    rw [pk_mul, za_97 (by omega), hq]
    refine br_t rfl ?_
    rw [show z = x * zs_iv y % 97 from hz]
    exact h
  | succ d ih =>
    intro z hz
    have hm := za_mul_le hy (show z < 97 from by omega)
    refine br_f (nI_ge (b := 97) (by omega) (by decide)) ⟨za_n97, ?_⟩
    rw [pk_mul, za_97 (by omega)]
    refine pk_eq (y * z % 97) x (fun e => ?_) (fun _ => nm_r (nI_1 z) (ih (z + 1) (by omega)))
    have := (zs_quo hy y0 hx (by omega)).mp e
    omega
theorem zy_quo {post : Int32 → Prop} {x y : Nat} (hy : y < 97) (y0 : y ≠ 0) (hx : x < 97) (h : post (nI (x * zs_iv y % 97))) : wpY_quotient post (K, A, B, hs, vl, nd, pw, pr) (nI x) (nI y) := by
  unfold wpY_quotient
  dsimp only
  exact ⟨_, zy_q2 hy y0 hx h (x * zs_iv y % 97) 0 (by omega)⟩
theorem zy_cv5 (T : zx_T kd ka kb K A B) {post : Int32 → Prop} {s n : Nat} (hs8 : s < 8) (hL : ∀ i, i ≤ n → zx_vf vl f (16 * ka s + i)) (hR : ∀ i, i ≤ n → zx_vf vl f (16 * kb s + n - i)) (hn : n < 16) : ∀ d i acc, i + d = n + 1 → acc ≤ 9216 * i → post (nI ((acc + zs_sm (fun i => f (16 * ka s + i) * f (16 * kb s + n - i)) i d) % 97)) → wY_convolved_5 post (nI s) (nI n) K A B hs vl nd pw pr (d + 1) (nI acc) (nI i) := by
  intro d
  induction d with
  | zero =>
    intro i acc h2 h3 hp
    rw [zs_sm_z, Nat.add_zero] at hp
    refine br_t (nI_lt (by omega) (by omega)) ?_
    rw [za_97 (by omega)]
    exact ⟨za_n97, hp⟩
  | succ d ih =>
    intro i acc h2 h3 hp
    have hl := hL i (by omega)
    have hr := hR i (by omega)
    have hm := za_mul_le hl.2.2 hr.2.2
    refine br_f (nI_nlt (by omega) (by omega)) ?_
    rw [zx_A T hs8, zx_B T hs8, za_ix, za_ix, pk_sub (by omega), zx_vr hl, zx_vr hr, pk_mul, nI_add]
    refine ⟨zx_i8 hs8, zx_vi hl, zx_i8 hs8, zx_vi hr, nm_e (nm_r (nI_1 i) (ih (i + 1) _ (by omega) (by omega) ?_))⟩
    rw [zs_sm_s, ← Nat.add_assoc] at hp
    exact hp
theorem zy_conv (T : zx_T kd ka kb K A B) {post : Int32 → Prop} {s n : Nat} (hs8 : s < 8) (hL : ∀ i, i ≤ n → zx_vf vl f (16 * ka s + i)) (hR : ∀ i, i ≤ n → zx_vf vl f (16 * kb s + n - i)) (hn : n < 16) (hp : post (nI (zs_sm (fun i => f (16 * ka s + i) * f (16 * kb s + n - i)) 0 (n + 1) % 97))) : wpY_convolved post (K, A, B, hs, vl, nd, pw, pr) (nI s) (nI n) := by
  unfold wpY_convolved
  dsimp only
  exact ⟨n + 2, zy_cv5 T hs8 hL hR hn (n + 1) 0 0 (by omega) (by omega) (by rw [Nat.zero_add]; exact hp)⟩
theorem zy_rc32 (T : zx_T kd ka kb K A B) {post : Int32 → Prop} {s n : Nat} (hs8 : s < 8) (hL : ∀ i, 1 ≤ i → i ≤ n → zx_vf vl f (16 * ka s + i)) (hR : ∀ i, 1 ≤ i → i ≤ n → zx_vf vl f (16 * s + n - i)) (h16 : zx_vf vl f (16 * s)) (hn : n < 16) : ∀ d i acc, 1 ≤ i → i + d = n + 1 → acc ≤ 9216 * i → post (nI ((97 - (acc + zs_sm (fun i => f (16 * ka s + i) * f (16 * s + n - i)) i d) % 97) * f (16 * s) % 97)) → wY_reciprocal_32 post (nI s) (nI n) K A B hs vl nd pw pr (d + 1) (nI acc) (nI i) := by
  intro d
  induction d with
  | zero =>
    intro i acc h1 h2 h3 hp
    rw [zs_sm_z, Nat.add_zero] at hp
    have l := h16.2.2
    have l2 := Nat.mod_lt acc (show 97 > 0 from by decide)
    have hm : (97 - acc % 97) * f (16 * s) ≤ 97 * 97 := Nat.mul_le_mul (by omega) (by omega)
    refine br_t (nI_lt (by omega) (by omega)) ?_
    rw [za_97 (a := acc) (by omega), za_16, zx_vr h16, show (97 : Int32) - nI (acc % 97) = nI (97 - acc % 97) from pk_sub (a := 97) (by omega), pk_mul, za_97 (by omega)]
    exact ⟨za_n97, zx_vi h16, za_n97, hp⟩
  | succ d ih =>
    intro i acc h1 h2 h3 hp
    have hl := hL i h1 (by omega)
    have hr := hR i h1 (by omega)
    have hm := za_mul_le hl.2.2 hr.2.2
    refine br_f (nI_nlt (by omega) (by omega)) ?_
    rw [zx_A T hs8, za_ix, za_ix, pk_sub (by omega), zx_vr hl, zx_vr hr, pk_mul, nI_add]
    refine ⟨zx_i8 hs8, zx_vi hl, zx_vi hr, nm_e (nm_r (nI_1 i) (ih (i + 1) _ (by omega) (by omega) (by omega) ?_))⟩
    rw [zs_sm_s, ← Nat.add_assoc] at hp
    exact hp
end
end
section
/-! Y: reciprocal, raise, composed, barren, worked -/
section
variable {kd ka kb : Nat → Nat} {K A B hs vl nd pw pr : Nat → Int32} {f : Nat → Nat}
theorem zy_recip (T : zx_T kd ka kb K A B) {post : Int32 → Prop} {s n : Nat} (hs8 : s < 8) (hn : n < 16) (hL : ∀ i, i ≤ n → zx_vf vl f (16 * ka s + i)) (hR : ∀ i, 1 ≤ i → i ≤ n → zx_vf vl f (16 * s + n - i)) (h0 : f (16 * ka s) ≠ 0) (hr : n ≠ 0 → f (16 * s) = zs_iv (f (16 * ka s)))
    (hp : post (nI (if n = 0 then zs_iv (f (16 * ka s)) else (97 - zs_sm (fun i => f (16 * ka s + i) * f (16 * s + n - i)) 1 n % 97) * zs_iv (f (16 * ka s)) % 97))) : wpY_reciprocal post (K, A, B, hs, vl, nd, pw, pr) (nI s) (nI n) := by
  have v0 : zx_vf vl f (16 * ka s) := hL 0 (Nat.zero_le _)
  unfold wpY_reciprocal
  dsimp only
  rw [zx_A T hs8, za_16, zx_vr v0]
  refine ⟨zx_i8 hs8, zx_vi v0, nm_e ?_⟩
  refine pk_eq n 0 (fun z => ?_) (fun z => ?_)
  · rw [if_pos z] at hp
    refine zy_quo (x := 1) v0.2.2 h0 (by decide) ?_
    rw [Nat.one_mul, Nat.mod_eq_of_lt (zs_iv_lt _)]
    exact hp
  · rw [if_neg z, ← hr z] at hp
    have v16 : zx_vf vl f (16 * s) := by
      have := hR n (by omega) (Nat.le_refl n)
      rw [Nat.add_sub_cancel] at this
      exact this
    exact ⟨n + 1, zy_rc32 T hs8 (fun i _ h => hL i h) hR v16 hn n 1 0 (Nat.le_refl _) (by omega) (by omega) (by rw [Nat.zero_add]; exact hp)⟩
/-- copying the product to the power -/
theorem zy_ra77 {post : SY → Prop} {n : Nat} {g : Nat → Nat} (hn : n < 16) (hpr : ∀ i, i ≤ n → pr i = nI (g i)) (hp : ∀ pw', (∀ i, i ≤ n → pw' i = nI (g i)) → post (K, A, B, hs, vl, nd, pw', pr)) : ∀ d i pw, i + d = n + 1 → (∀ j, j < i → pw j = nI (g j)) → wY_raise_77 post (nI n) (d + 1) (nI i) K A B hs vl nd pw pr := by
  intro d
  induction d with
  | zero =>
    intro i pw hi H
    exact br_t (nI_lt (by omega) (by omega)) (hp pw (fun j hj => H j (by omega)))
  | succ d ih =>
    intro i pw hi H
    have ii : vp_in (nI i) 16 := vp_in_nI (by omega) (by decide)
    refine br_f (nI_nlt (by omega) (by omega)) (br_f (nI_ge (b := 16) (by omega) (by decide)) ?_)
    rw [nI_clamp (n := i) (by omega), hpr i (by omega)]
    refine ⟨ii, ii, nm_e (nm_r (nI_1 i) (ih (i + 1) _ (by omega) (fun j hj => ?_)))⟩
    by_cases z : j = i
    · subst z; rw [pk_us]
    · rw [pk_un z]; exact H j (by omega)
theorem zy_ra19 {post : SY → Prop} {J : Int32 → (Nat → Int32) → (Nat → Int32) → (Nat → Int32) → (Nat → Int32) → (Nat → Int32) → (Nat → Int32) → (Nat → Int32) → (Nat → Int32) → Prop} {t n i : Nat} {g : Nat → Nat} (hn : n < 16) (hi : i ≤ n) (ht : t < 8) (hv : ∀ j, j ≤ n → zx_vf vl f (16 * t + j)) (hg : ∀ j, j ≤ n → pw j = nI (g j) ∧ g j < 97)
    (hJ : J (nI (i + 1)) K A B hs vl nd pw (upd pr i (nI (zs_sm (fun j => g j * f (16 * t + i - j)) 0 (i + 1) % 97)))) : ∀ d j acc, j + d = i + 1 → acc ≤ 9216 * j → acc + zs_sm (fun j => g j * f (16 * t + i - j)) j d = zs_sm (fun j => g j * f (16 * t + i - j)) 0 (i + 1) → wY_raise_19 post J (nI t) (nI n) (nI i) K A B hs vl nd pw pr (d + 1) (nI acc) (nI j) := by
  intro d
  induction d with
  | zero =>
    intro j acc hj ha he
    rw [zs_sm_z, Nat.add_zero] at he
    refine br_t (nI_lt (by omega) (by omega)) ?_
    rw [za_97 (by omega), nI_clamp (n := i) (by omega), he]
    exact ⟨za_n97, vp_in_nI (by omega) (by decide), nm_e (nm_r (nI_1 i) hJ)⟩
  | succ d ih =>
    intro j acc hj ha he
    obtain ⟨eg, lg⟩ := hg j (by omega)
    have hr : zx_vf vl f (16 * t + i - j) := by
      have := hv (i - j) (by omega)
      rw [show 16 * t + (i - j) = 16 * t + i - j from by omega] at this
      exact this
    have hm := za_mul_le lg hr.2.2
    refine br_f (nI_nlt (by omega) (by omega)) ?_
    rw [za_ix, pk_sub (by omega), nI_clamp (n := j) (by omega), eg, zx_vr hr, pk_mul, nI_add]
    refine ⟨vp_in_nI (by omega) (by decide), zx_vi hr, nm_e (nm_r (nI_1 j) (ih (j + 1) _ (by omega) (by omega) ?_))⟩
    rw [zs_sm_s, ← Nat.add_assoc] at he
    exact he
theorem zy_ra2 {post : SY → Prop} {t n : Nat} {g : Nat → Nat} (hn : n < 16) (ht : t < 8) (hv : ∀ j, j ≤ n → zx_vf vl f (16 * t + j)) (hg : ∀ j, j ≤ n → pw j = nI (g j) ∧ g j < 97)
    (hp : ∀ pw' pr', (∀ i, i ≤ n → pw' i = nI (zs_sm (fun j => g j * f (16 * t + i - j)) 0 (i + 1) % 97)) → post (K, A, B, hs, vl, nd, pw', pr')) : ∀ d i pr, i + d = n + 1 → (∀ j, j < i → pr j = nI (zs_sm (fun k => g k * f (16 * t + j - k)) 0 (j + 1) % 97)) → wY_raise_2 post (nI t) (nI n) (d + 1) (nI i) K A B hs vl nd pw pr := by
  intro d
  induction d with
  | zero =>
    intro i pr hi H
    exact br_t (nI_lt (by omega) (by omega)) ⟨n + 2, zy_ra77 (g := fun i => zs_sm (fun j => g j * f (16 * t + i - j)) 0 (i + 1) % 97) hn (fun j hj => H j (by omega)) (fun pw' h => hp pw' pr h) (n + 1) 0 pw (by omega) (fun j hj => absurd hj (by omega))⟩
  | succ d ih =>
    intro i pr hi H
    refine br_f (nI_nlt (by omega) (by omega)) (br_f (nI_ge (b := 16) (by omega) (by decide)) ⟨i + 2, zy_ra19 (g := g) hn (by omega) ht hv hg (ih (i + 1) _ (by omega) (fun j hj => ?_)) (i + 1) 0 0 (by omega) (by omega) (by rw [Nat.zero_add])⟩)
    by_cases z : j = i
    · subst z; rw [pk_us]
    · rw [pk_un z]; exact H j (by omega)
theorem zy_raise {post : SY → Prop} {t n : Nat} {g : Nat → Nat} (hn : n < 16) (ht : t < 8) (hv : ∀ j, j ≤ n → zx_vf vl f (16 * t + j)) (hg : ∀ j, j ≤ n → pw j = nI (g j) ∧ g j < 97)
    (hp : ∀ pw' pr', (∀ i, i ≤ n → pw' i = nI (zs_sm (fun j => g j * f (16 * t + i - j)) 0 (i + 1) % 97)) → post (K, A, B, hs, vl, nd, pw', pr')) : wpY_raise post (K, A, B, hs, vl, nd, pw, pr) (nI t) (nI n) := by
  unfold wpY_raise
  dsimp only
  exact ⟨n + 2, zy_ra2 hn ht hv hg hp (n + 1) 0 pr (by omega) (fun j hj => absurd hj (by omega))⟩
theorem zy_co34 (T : zx_T kd ka kb K A B) {post : Int32 → SY → Prop} {s n : Nat} (hs8 : s < 8) (hb8 : kb s < 8) (hn : n < 16) (ha : ∀ j, j ≤ n → zx_vf vl f (16 * ka s + j)) (hb : ∀ j, j ≤ n → zx_vf vl f (16 * kb s + j))
    (hp : ∀ pw' pr', post (nI (zs_sm (fun j => f (16 * ka s + j) * zs_pw (fun i => f (16 * kb s + i)) j n) 0 (n + 1) % 97)) (K, A, B, hs, vl, nd, pw', pr')) : ∀ d j acc pw pr, j + d = n + 1 → acc ≤ 9216 * j → (∀ i, i ≤ n → pw i = nI (zs_pw (fun i => f (16 * kb s + i)) j i % 97)) → (acc + zs_sm (fun j => f (16 * ka s + j) * zs_pw (fun i => f (16 * kb s + i)) j n) j d) % 97 = zs_sm (fun j => f (16 * ka s + j) * zs_pw (fun i => f (16 * kb s + i)) j n) 0 (n + 1) % 97 → wY_composed_34 post (nI s) (nI n) (d + 1) (nI acc) (nI j) K A B hs vl nd pw pr := by
  intro d
  induction d with
  | zero =>
    intro j acc pw pr hj hacc _ he
    rw [zs_sm_z, Nat.add_zero] at he
    refine br_t (nI_lt (by omega) (by omega)) ?_
    rw [za_97 (by omega), he]
    exact ⟨za_n97, hp pw pr⟩
  | succ d ih =>
    intro j acc pw pr hj hacc hpw he
    have hl := ha j (by omega)
    have m97 := Nat.mod_lt (zs_pw (fun i => f (16 * kb s + i)) j n) (show 97 > 0 from by decide)
    have hm := za_mul_le hl.2.2 m97
    refine br_f (nI_nlt (by omega) (by omega)) ?_
    rw [zx_A T hs8, zx_B T hs8, za_ix, zx_vr hl, nI_clamp (n := n) (by omega), hpw n (Nat.le_refl n), pk_mul, nI_add]
    refine ⟨zx_i8 hs8, zx_vi hl, vp_in_nI hn (by decide), nm_e ⟨zx_i8 hs8, ?_⟩⟩
    refine zy_raise (g := fun i => zs_pw (fun i => f (16 * kb s + i)) j i % 97) hn hb8 hb (fun i hi => ⟨hpw i hi, Nat.mod_lt _ (by decide)⟩) (fun pw' pr' hpw' => ?_)
    refine nm_r (nI_1 j) (ih (j + 1) _ pw' pr' (by omega) (by omega) (fun i hi => ?_) ?_)
    · rw [hpw' i hi, zs_pw_s]
      refine congrArg nI (zs_sm_mod _ _ (fun k _ hk => ?_))
      rw [zs_mm', show 16 * kb s + i - k = 16 * kb s + (i - k) from by omega]
    · rw [zs_sm_s] at he
      have := zs_mm (f (16 * ka s + j)) (zs_pw (fun i => f (16 * kb s + i)) j n)
      omega
theorem zy_co2 (T : zx_T kd ka kb K A B) {post : Int32 → SY → Prop} {s n : Nat} (hs8 : s < 8) (hb8 : kb s < 8) (hn : n < 16) (ha : ∀ j, j ≤ n → zx_vf vl f (16 * ka s + j)) (hb : ∀ j, j ≤ n → zx_vf vl f (16 * kb s + j))
    (hp : ∀ pw' pr', post (nI (zs_sm (fun j => f (16 * ka s + j) * zs_pw (fun i => f (16 * kb s + i)) j n) 0 (n + 1) % 97)) (K, A, B, hs, vl, nd, pw', pr')) : ∀ d i pw, i + d = 16 → (∀ j, j < i → pw j = nI (if j = 0 then 1 else 0)) → wY_composed_2 post (nI s) (nI n) (d + 1) (nI i) K A B hs vl nd pw pr := by
  intro d
  induction d with
  | zero =>
    intro i pw hi H
    refine br_t (nI_le (a := 16) (by omega) (by omega)) ⟨n + 2, zy_co34 T hs8 hb8 hn ha hb hp (n + 1) 0 0 pw pr (by omega) (by omega) (fun j hj => ?_) (by rw [Nat.zero_add])⟩
    rw [H j (by omega), zs_pw_0]
    split <;> rfl
  | succ d ih =>
    intro i pw hi H
    have ii : vp_in (nI i) 16 := vp_in_nI (by omega) (by decide)
    refine br_f (nI_ge (b := 16) (by omega) (by decide)) ?_
    rw [nI_clamp (n := i) (by omega)]
    refine pk_eq i 0 (fun z => ⟨ii, nm_e (nm_r (nI_1 i) (ih (i + 1) _ (by omega) (fun j hj => ?_)))⟩) (fun z => ⟨ii, nm_e (nm_r (nI_1 i) (ih (i + 1) _ (by omega) (fun j hj => ?_)))⟩)
    · have : j = i := by omega
      subst this
      rw [pk_us, if_pos z]
      rfl
    · by_cases y : j = i
      · subst y; rw [pk_us, if_neg z]; rfl
      · rw [pk_un y]; exact H j (by omega)
theorem zy_comp (T : zx_T kd ka kb K A B) {post : Int32 → SY → Prop} {s n : Nat} (hs8 : s < 8) (hb8 : kb s < 8) (hn : n < 16) (ha : ∀ j, j ≤ n → zx_vf vl f (16 * ka s + j)) (hb : ∀ j, j ≤ n → zx_vf vl f (16 * kb s + j))
    (hp : ∀ pw' pr', post (nI (zs_sm (fun j => f (16 * ka s + j) * zs_pw (fun i => f (16 * kb s + i)) j n) 0 (n + 1) % 97)) (K, A, B, hs, vl, nd, pw', pr')) : wpY_composed post (K, A, B, hs, vl, nd, pw, pr) (nI s) (nI n) := by
  unfold wpY_composed
  dsimp only
  exact ⟨17, zy_co2 T hs8 hb8 hn ha hb hp 16 0 pw (by omega) (fun j hj => absurd hj (by omega))⟩
theorem zy_barren (T : zx_T kd ka kb K A B) {s n : Nat} (hs8 : s < 8) (hn : n < 16) (hv : ∀ t m, m < 16 → zs_dr (kd s) (ka s) (kb s) s n t m → zx_vf vl f (16 * t + m)) {post : Int32 → Prop}
    (h1 : zs_wk (kd s) (ka s) (kb s) s n f = none → post 1) (h0 : ¬ zs_wk (kd s) (ka s) (kb s) s n f = none → post 0) : wpY_barren post (K, A, B, hs, vl, nd, pw, pr) (nI s) (nI n) := by
  obtain ⟨h9, ha, hb, hb2⟩ := T.1 s hs8
  have i8 := zx_i8 hs8
  unfold wpY_barren
  dsimp only
  rw [zx_K T hs8, zx_A T hs8, zx_B T hs8, za_16, za_16]
  generalize kd s = k at *
  generalize ka s = a at *
  generalize kb s = b at *
  refine ⟨i8, pk_eq k 5 (fun g => ?_) (fun g5 => ⟨i8, ?_⟩)⟩
  · subst g
    refine pk_eq n 15 (fun z => h1 ?_) (fun z => h0 ?_)
    · unfold zs_wk
      simp only [Nat.reduceEqDiff, if_false, if_true]
      rw [if_pos z]
    · unfold zs_wk
      simp only [Nat.reduceEqDiff, if_false, if_true]
      rw [if_neg z]
      exact fun h => nomatch h
  refine pk_eq k 7 (fun g => ⟨i8, ?_⟩) (fun g7 => ⟨i8, ?_⟩)
  · subst g
    have v0 : zx_vf vl f (16 * a) := hv a 0 (by omega) ((zs_dr7 rfl).mpr (by omega))
    have l := v0.2.2
    refine ⟨zx_vi v0, ?_⟩
    rw [zx_vr v0]
    refine pk_eq (f (16 * a)) 0 (fun z => h1 ?_) (fun z => h0 ?_)
    · unfold zs_wk
      simp only [Nat.reduceEqDiff, if_false, if_true]
      rw [if_pos z]
    · unfold zs_wk
      simp only [Nat.reduceEqDiff, if_false, if_true]
      rw [if_neg z]
      exact fun h => nomatch h
  refine pk_eq k 9 (fun g => ⟨i8, ?_⟩) (fun g9 => ?_)
  · subst g
    have v0 : zx_vf vl f (16 * b) := hv b 0 (by omega) ((zs_dr39 (Or.inr rfl)).mpr (by omega))
    have l := v0.2.2
    refine ⟨zx_vi v0, ?_⟩
    rw [zx_vr v0]
    refine pk_eq (f (16 * b)) 0 (fun z => h0 ?_) (fun z => h1 ?_)
    · unfold zs_wk
      simp only [Nat.reduceEqDiff, if_false, if_true]
      rw [if_pos z]
      exact fun h => nomatch h
    · unfold zs_wk
      simp only [Nat.reduceEqDiff, if_false, if_true]
      rw [if_neg z]
  · have : ∃ v, zs_wk k a b s n f = some v := by
      unfold zs_wk
      have : k = 0 ∨ k = 1 ∨ k = 2 ∨ k = 3 ∨ k = 4 ∨ k = 6 ∨ k = 8 := by omega
      rcases this with e | e | e | e | e | e | e <;> (subst e; simp only [Nat.reduceEqDiff, if_false, if_true]; exact ⟨_, rfl⟩)
    obtain ⟨v, ev⟩ := this
    exact h0 (by rw [ev]; exact fun h => nomatch h)
theorem zy_worked (T : zx_T kd ka kb K A B) {s n : Nat} (hs8 : s < 8) (hn : n < 16) (hv : ∀ t m, m < 16 → zs_dr (kd s) (ka s) (kb s) s n t m → zx_vf vl f (16 * t + m)) (hr : kd s = 7 → n ≠ 0 → f (16 * s) = zs_iv (f (16 * ka s))) {v : Nat} (ev : zs_wk (kd s) (ka s) (kb s) s n f = some v) {post : Int32 → SY → Prop}
    (h : ∀ pw' pr', post (nI v) (K, A, B, hs, vl, nd, pw', pr')) : wpY_worked post (K, A, B, hs, vl, nd, pw, pr) (nI s) (nI n) := by
  obtain ⟨h9, ha, hb, hb2⟩ := T.1 s hs8
  have i8 := zx_i8 hs8
  have hC : kd s = 3 → post (nI (zs_sm (fun i => f (16 * ka s + i) * f (16 * kb s + n - i)) 0 (n + 1) % 97)) (K, A, B, hs, vl, nd, pw, pr) → wpY_convolved (fun r_50 => (post r_50 (K, A, B, hs, vl, nd, pw, pr))) (K, A, B, hs, vl, nd, pw, pr) (nI s) (nI n) := fun e hp =>
    zy_conv T hs8 (fun i hi => hv _ i (by omega) ((zs_dr39 (Or.inl e)).mpr (by omega))) (fun i hi => by
      have := hv (kb s) (n - i) (by omega) ((zs_dr39 (Or.inl e)).mpr (by omega))
      rw [show 16 * kb s + (n - i) = 16 * kb s + n - i from by omega] at this
      exact this) hn hp
  have hRc : kd s = 7 → f (16 * ka s) ≠ 0 → post (nI (if n = 0 then zs_iv (f (16 * ka s)) else (97 - zs_sm (fun i => f (16 * ka s + i) * f (16 * s + n - i)) 1 n % 97) * zs_iv (f (16 * ka s)) % 97)) (K, A, B, hs, vl, nd, pw, pr) → wpY_reciprocal (fun r_36 => (post r_36 (K, A, B, hs, vl, nd, pw, pr))) (K, A, B, hs, vl, nd, pw, pr) (nI s) (nI n) := fun e z hp =>
    zy_recip T hs8 hn (fun i hi => hv _ i (by omega) ((zs_dr7 e).mpr (by omega))) (fun i h1 hi => by
      have := hv s (n - i) (by omega) ((zs_dr7 e).mpr (by omega))
      rw [show 16 * s + (n - i) = 16 * s + n - i from by omega] at this
      exact this) z (hr e) hp
  have hCo : kd s = 9 → (∀ pw' pr', post (nI (zs_sm (fun j => f (16 * ka s + j) * zs_pw (fun i => f (16 * kb s + i)) j n) 0 (n + 1) % 97)) (K, A, B, hs, vl, nd, pw', pr')) → wpY_composed (fun r_27 u => match u with | (a_kind_28, a_a_29, a_b_30, a_has_31, a_value_32, a_needed_33, a_power_34, a_product_35) => (post r_27 (a_kind_28, a_a_29, a_b_30, a_has_31, a_value_32, a_needed_33, a_power_34, a_product_35))) (K, A, B, hs, vl, nd, pw, pr) (nI s) (nI n) := fun e hp =>
    zy_comp T hs8 (hb2 (Or.inr (Or.inr e))) hn (fun i hi => hv _ i (by omega) ((zs_dr39 (Or.inr e)).mpr (by omega))) (fun i hi => hv _ i (by omega) ((zs_dr39 (Or.inr e)).mpr (by omega))) hp
  unfold wpY_worked
  dsimp only
  rw [zx_K T hs8, zx_A T hs8, zx_B T hs8]
  refine ⟨i8, nm_e ⟨i8, nm_r (za_16 _) ?_⟩⟩
  generalize kd s = k at *
  generalize ka s = a at *
  generalize kb s = b at *
  refine pk_eq k 0 (fun g => ?_) (fun g0 => ?_)
  · subst g
    unfold zs_wk at ev
    simp only [if_true] at ev
    cases ev
    refine pk_eq n 0 (fun z => ⟨i8, ?_⟩) (fun z => ?_)
    · have := h pw pr
      rw [if_pos z, Nat.mod_eq_of_lt hb] at this
      exact this
    · have := h pw pr
      rw [if_neg z] at this
      exact this
  refine pk_eq k 1 (fun g => ?_) (fun g1 => ?_)
  · subst g
    unfold zs_wk at ev
    simp only [Nat.reduceEqDiff, if_false, if_true] at ev
    cases ev
    refine pk_eq n 1 (fun z => ?_) (fun z => ?_)
    · have := h pw pr
      rw [if_pos z] at this
      exact this
    · have := h pw pr
      rw [if_neg z] at this
      exact this
  refine pk_eq k 2 (fun g => ?_) (fun g2 => ?_)
  · subst g
    unfold zs_wk at ev
    simp only [Nat.reduceEqDiff, if_false, if_true] at ev
    cases ev
    have v1 : zx_vf vl f (16 * a + n) := hv a n hn ((zs_dr2 rfl).mpr (by omega))
    have v2 : zx_vf vl f (16 * b + n) := hv b n hn ((zs_dr2 rfl).mpr (by omega))
    have l1 := v1.2.2
    have l2 := v2.2.2
    rw [nI_add, za_ix, zx_vr v1, zx_vr v2, nI_add, za_97 (by omega)]
    exact ⟨zx_vi v1, i8, zx_vi v2, za_n97, h pw pr⟩
  refine pk_eq k 3 (fun g => ?_) (fun g3 => ?_)
  · subst g
    unfold zs_wk at ev
    simp only [Nat.reduceEqDiff, if_false, if_true] at ev
    cases ev
    exact hC rfl (h pw pr)
  refine pk_eq k 4 (fun g => ?_) (fun g4 => ?_)
  · subst g
    unfold zs_wk at ev
    simp only [Nat.reduceEqDiff, if_false, if_true] at ev
    cases ev
    have v1 : zx_vf vl f (16 * a + n) := hv a n hn ((zs_dr4 rfl).mpr (by omega))
    have hm := za_mul_le hb v1.2.2
    rw [nI_add, zx_vr v1, pk_mul, za_97 (by omega)]
    exact ⟨i8, zx_vi v1, za_n97, h pw pr⟩
  refine pk_eq k 5 (fun g => ?_) (fun g5 => ?_)
  · subst g
    unfold zs_wk at ev
    simp only [Nat.reduceEqDiff, if_false, if_true] at ev
    by_cases z : n = 15
    · rw [if_pos z] at ev; cases ev
    · rw [if_neg z] at ev
      cases ev
      have v1 : zx_vf vl f (16 * a + n + 1) := hv a (n + 1) (by omega) ((zs_dr5 rfl).mpr (by omega))
      have hm : (n + 1) * f (16 * a + n + 1) ≤ 9216 := za_mul_le (by omega) v1.2.2
      rw [nI_add, nI_1 (16 * a + n), zx_vr v1, nI_1 n, pk_mul, za_97 (by omega)]
      exact ⟨zx_vi v1, za_n97, h pw pr⟩
  refine pk_eq k 7 (fun g => ?_) (fun g7 => ?_)
  · subst g
    unfold zs_wk at ev
    simp only [Nat.reduceEqDiff, if_false, if_true] at ev
    by_cases z : f (16 * a) = 0
    · rw [if_pos z] at ev; cases ev
    · rw [if_neg z] at ev
      cases ev
      exact hRc rfl z (h pw pr)
  refine pk_eq k 9 (fun g => ?_) (fun g9 => ?_)
  · subst g
    unfold zs_wk at ev
    simp only [Nat.reduceEqDiff, if_false, if_true] at ev
    by_cases z : f (16 * b) = 0
    · rw [if_pos z] at ev
      cases ev
      exact hCo rfl h
    · rw [if_neg z] at ev; cases ev
  refine pk_eq n 0 (fun z => ⟨i8, ?_⟩) (fun z => ?_)
  · have e : zs_wk k a b s n f = some b := by
      have : k = 6 ∨ k = 8 := by omega
      unfold zs_wk
      rcases this with e | e <;> (subst e; simp only [Nat.reduceEqDiff, if_false, if_true]; rw [if_pos z, Nat.mod_eq_of_lt hb])
    rw [e] at ev
    cases ev
    exact h pw pr
  · have v1 : zx_vf vl f (16 * a + n - 1) := by
      have := hv a (n - 1) (by omega) ((zs_dr68 (by omega)).mpr (by omega))
      rw [show 16 * a + (n - 1) = 16 * a + n - 1 from by omega] at this
      exact this
    rw [nI_add, za_s1 (by omega), zx_vr v1]
    refine pk_eq k 8 (fun g => ⟨zx_vi v1, ?_⟩) (fun g8 => ⟨zx_vi v1, ?_⟩)
    · subst g
      unfold zs_wk at ev
      simp only [Nat.reduceEqDiff, if_false, if_true] at ev
      rw [if_neg z, Nat.mod_eq_of_lt v1.2.2] at ev
      cases ev
      exact h pw pr
    · have : k = 6 := by omega
      subst this
      unfold zs_wk at ev
      simp only [Nat.reduceEqDiff, if_false, if_true] at ev
      rw [if_neg z] at ev
      cases ev
      exact zy_quo (by omega) z v1.2.2 (h pw pr)
end
end
section
/-! Y: pass, workOut -/
def zy_I (kd ka kb : Nat → Nat) (hs vl : Nat → Int32) : Prop := ∀ p, p < 128 → hs p = 0 ∨ (hs p = 1 ∧ zs_D kd ka kb p ∧ vl p = nI (zs_tv kd ka kb p))
def zy_R (kd ka kb : Nat → Nat) (hs vl : Nat → Int32) : Prop := ∀ p, p < 128 → (hs p = 1 ∧ zs_D kd ka kb p ∧ vl p = nI (zs_tv kd ka kb p)) ∨ (hs p = 0 ∧ ¬ zs_D kd ka kb p)
/-- nothing keeps p from being worked out -/
def zy_ad (kd ka kb : Nat → Nat) (hs : Nat → Int32) (p : Nat) : Prop := (∀ q, zs_nd kd ka kb p q → ¬ hs q = 0) ∧ ¬ zs_W kd ka kb p (zs_tv kd ka kb) = none
def zy_Q (kd ka kb : Nat → Nat) (hs0 hs : Nat → Int32) (mo : Int32) (V : Nat → Prop) : Prop :=
  (mo = 0 ∧ hs = hs0 ∧ ∀ p, p < 128 → V p → hs0 p = 0 → ¬ zy_ad kd ka kb hs0 p) ∨ (mo = 1 ∧ zs_cn hs 128 < zs_cn hs0 128)
theorem zy_b1 : vp_nar .boolean 1 = 1 := rfl
theorem zy_b0 : vp_nar .boolean 0 = 0 := rfl
section
variable {kd ka kb : Nat → Nat} {K A B nd : Nat → Int32}
theorem zy_Q_mono {hs0 hs : Nat → Int32} {mo : Int32} {V V' : Nat → Prop} (h : zy_Q kd ka kb hs0 hs mo V) (hV : ∀ p, p < 128 → V' p → V p) : zy_Q kd ka kb hs0 hs mo V' := by
  rcases h with ⟨a, b, c⟩ | h
  · exact Or.inl ⟨a, b, fun p hp hv => c p hp (hV p hp hv)⟩
  · exact Or.inr h
theorem zy_p12 (T : zx_T kd ka kb K A B) {n : Nat} (hn : n < 16) (hs0 : Nat → Int32) {post : Int32 → SY → Prop} {J : Int32 → Int32 → (Nat → Int32) → (Nat → Int32) → (Nat → Int32) → (Nat → Int32) → (Nat → Int32) → (Nat → Int32) → (Nat → Int32) → (Nat → Int32) → Prop}
    (hJ : ∀ mo hs vl pw pr, zy_I kd ka kb hs vl → zy_Q kd ka kb hs0 hs mo (fun p => p % 16 < n + 1) → J mo (nI (n + 1)) K A B hs vl nd pw pr) :
    ∀ d s mo hs vl pw pr, s + d = 8 → zy_I kd ka kb hs vl → zy_Q kd ka kb hs0 hs mo (fun p => p % 16 < n ∨ (p % 16 = n ∧ p / 16 < s)) → wY_pass_12 post J (nI n) (d + 1) mo (nI s) K A B hs vl nd pw pr := by
  have hw := T.1
  intro d
  induction d with
  | zero =>
    intro s mo hs vl pw pr hd hI hQ
    exact br_t (nI_le (a := 8) (by omega) (by omega)) (nm_r (nI_1 n) (hJ mo hs vl pw pr hI (zy_Q_mono hQ (fun p hp hv => by omega))))
  | succ d ih =>
    intro s mo hs vl pw pr hd hI hQ
    have hs8 : s < 8 := by omega
    have e1 : (16 * s + n) / 16 = s := by omega
    have e2 : (16 * s + n) % 16 = n := by omega
    have p128 : 16 * s + n < 128 := by omega
    have eW : ∀ f, zs_W kd ka kb (16 * s + n) f = zs_wk (kd s) (ka s) (kb s) s n f := fun f => by unfold zs_W; rw [e1, e2]
    have eN : ∀ t m, m < 16 → (zs_nd kd ka kb (16 * s + n) (16 * t + m) ↔ zs_dr (kd s) (ka s) (kb s) s n t m) := fun t m hm => by
      unfold zs_nd
      rw [e1, e2, show (16 * t + m) / 16 = t from by omega, show (16 * t + m) % 16 = m from by omega]
    have eN' : ∀ q, zs_nd kd ka kb (16 * s + n) q → zs_dr (kd s) (ka s) (kb s) s n (q / 16) (q % 16) := fun q h => by
      unfold zs_nd at h
      rw [e1, e2] at h
      exact h
    have ip : vp_in (nI (16 * s + n)) 128 := vp_in_nI p128 (by decide)
    refine br_f (nI_ge (b := 8) (by omega) (by decide)) ?_
    rw [za_ix, nI_clamp (n := 16 * s + n) (by omega)]
    have skip : (hs (16 * s + n) = 0 → ¬ zy_ad kd ka kb hs (16 * s + n)) → wY_pass_12 post J (nI n) (d + 1) mo (nI (s + 1)) K A B hs vl nd pw pr := by
      intro hz
      refine ih (s + 1) mo hs vl pw pr (by omega) hI ?_
      rcases hQ with ⟨a, b, c⟩ | h
      · refine Or.inl ⟨a, b, fun p hp hv hp0 => ?_⟩
        by_cases e : p = 16 * s + n
        · subst e
          subst b
          exact hz hp0
        · exact c p hp (by omega) hp0
      · exact Or.inr h
    refine ⟨ip, br_c (fun z => ?_) (fun z => nm_r (nI_1 s) (skip (fun y => absurd y z)))⟩
    refine zy_ready T hs8 hn (fun hall => br_f zx_10 ?_) (fun t m ht hm hd0 hz => br_t rfl (nm_r (nI_1 s) (skip (fun _ had => had.1 _ ((eN t m hm).mpr hd0) hz))))
    have hall' : ∀ q, zs_nd kd ka kb (16 * s + n) q → q < 128 ∧ ¬ hs q = 0 := fun q hq => by
      have q128 := zs_nd_lt hw p128 hq
      have := hall (q / 16) (q % 16) (by omega) (Nat.mod_lt _ (by decide)) (eN' q hq)
      rw [show 16 * (q / 16) + q % 16 = q from by omega] at this
      exact ⟨q128, this⟩
    have hD : ∀ q, zs_nd kd ka kb (16 * s + n) q → zs_D kd ka kb q ∧ zx_vf vl (zs_tv kd ka kb) q := fun q hq => by
      obtain ⟨q128, hq0⟩ := hall' q hq
      rcases hI q q128 with h | h
      · exact absurd h hq0
      · exact ⟨h.2.1, q128, h.2.2, zs_tv_lt hw h.2.1⟩
    have hv : ∀ t m, m < 16 → zs_dr (kd s) (ka s) (kb s) s n t m → zx_vf vl (zs_tv kd ka kb) (16 * t + m) := fun t m hm h => (hD _ ((eN t m hm).mpr h)).2
    refine zy_barren T hs8 hn hv (fun hno => br_f zx_10 (nm_r (nI_1 s) (skip (fun _ had => had.2 (by rw [eW]; exact hno))))) (fun hso => br_t rfl ?_)
    obtain ⟨v, ev⟩ : ∃ v, zs_wk (kd s) (ka s) (kb s) s n (zs_tv kd ka kb) = some v := by
      cases h : zs_wk (kd s) (ka s) (kb s) s n (zs_tv kd ka kb) with
      | none => exact absurd h hso
      | some v => exact ⟨v, rfl⟩
    obtain ⟨Dp, etv⟩ := zs_D_in hw p128 (fun q hq => (hD q hq).1) (by rw [eW]; exact ev)
    refine zy_worked T hs8 hn hv (fun hk7 hn0 => ?_) ev (fun pw' pr' => ⟨ip, nm_e ⟨ip, nm_e (nm_r (nI_1 s) ?_)⟩⟩)
    · have D16 := (hD (16 * s + 0) ((eN s 0 (by omega)).mpr ((zs_dr7 hk7).mpr (by omega)))).1
      rw [Nat.add_zero] at D16
      have h := (zs_D_el hw D16).2
      unfold zs_W at h
      rw [show 16 * s / 16 = s from by omega, show 16 * s % 16 = 0 from by omega, hk7] at h
      unfold zs_wk at h
      simp only [Nat.reduceEqDiff, if_false, if_true] at h
      split at h
      · cases h
      · exact (Option.some.inj h).symm
    · rw [zy_b1]
      refine ih (s + 1) 1 _ _ pw' pr' (by omega) (fun p hp => ?_) (Or.inr ⟨rfl, ?_⟩)
      · by_cases e : p = 16 * s + n
        · rw [e, pk_us, pk_us]
          exact Or.inr ⟨rfl, Dp, by rw [etv]⟩
        · rw [pk_un e, pk_un e]
          exact hI p hp
      · have h1 := zs_cn_upd zx_10 z 128 p128
        rcases hQ with ⟨_, b, _⟩ | h
        · rw [b] at h1 ⊢; omega
        · have := h.2; omega
theorem zy_p4 (T : zx_T kd ka kb K A B) (hs0 : Nat → Int32) {post : Int32 → SY → Prop} (hp : ∀ mo hs vl pw pr, zy_I kd ka kb hs vl → zy_Q kd ka kb hs0 hs mo (fun _ => True) → post mo (K, A, B, hs, vl, nd, pw, pr)) :
    ∀ d n mo hs vl pw pr, n + d = 16 → zy_I kd ka kb hs vl → zy_Q kd ka kb hs0 hs mo (fun p => p % 16 < n) → wY_pass_4 post (d + 1) mo (nI n) K A B hs vl nd pw pr := by
  intro d
  induction d with
  | zero =>
    intro n mo hs vl pw pr hd hI hQ
    refine br_t (nI_le (a := 16) (by omega) (by omega)) ⟨?_, hp mo hs vl pw pr hI (zy_Q_mono hQ (fun p _ _ => by omega))⟩
    rcases hQ with h | h
    · rw [h.1]; rfl
    · rw [h.1]; rfl
  | succ d ih =>
    intro n mo hs vl pw pr hd hI hQ
    exact br_f (nI_ge (b := 16) (by omega) (by decide)) ⟨9, zy_p12 T (by omega) hs0 (fun mo hs vl pw pr hI' hQ' => ih (n + 1) mo hs vl pw pr (by omega) hI' hQ') 8 0 mo hs vl pw pr (by omega) hI (zy_Q_mono hQ (fun p _ hv => by omega))⟩
theorem zy_pass (T : zx_T kd ka kb K A B) {hs vl pw pr : Nat → Int32} (hI : zy_I kd ka kb hs vl) {post : Int32 → SY → Prop} (hp : ∀ mo hs' vl' pw' pr', zy_I kd ka kb hs' vl' → zy_Q kd ka kb hs hs' mo (fun _ => True) → post mo (K, A, B, hs', vl', nd, pw', pr')) : wpY_pass post (K, A, B, hs, vl, nd, pw, pr) := by
  unfold wpY_pass
  dsimp only
  exact ⟨17, zy_p4 T hs hp 16 0 0 hs vl pw pr (by omega) hI (Or.inl ⟨rfl, rfl, fun p _ h => absurd h (by omega)⟩)⟩
theorem zy_fix (hw : zs_wf kd ka kb) {hs vl : Nat → Int32} (hI : zy_I kd ka kb hs vl) (hf : ∀ p, p < 128 → hs p = 0 → ¬ zy_ad kd ka kb hs p) : zy_R kd ka kb hs vl := by
  intro p hp
  rcases hI p hp with h | h
  · refine Or.inr ⟨h, fun hD => ?_⟩
    exact zs_D_ind hw (fun q => ¬ hs q = 0) (fun q hq hn hW hz => hf q hq hz ⟨fun r hr => (hn r hr).2, hW⟩) hD h
  · exact Or.inl h
theorem zy_w26 (T : zx_T kd ka kb K A B) {post : SY → Prop} (hp : ∀ hs vl pw pr, zy_R kd ka kb hs vl → post (K, A, B, hs, vl, nd, pw, pr)) :
    ∀ d r mo hs vl pw pr, r + d = 129 → zy_I kd ka kb hs vl → ((mo = 1 ∧ r + zs_cn hs 128 ≤ 128) ∨ (mo = 0 ∧ ∀ p, p < 128 → hs p = 0 → ¬ zy_ad kd ka kb hs p)) → wY_workOut_26 post (d + 1) mo (nI r) K A B hs vl nd pw pr := by
  intro d
  induction d with
  | zero =>
    intro r mo hs vl pw pr hd hI hc
    rcases hc with h | h
    · omega
    · exact br_t (nI_le (a := 129) (by omega) (by omega)) (hp hs vl pw pr (zy_fix T.1 hI h.2))
  | succ d ih =>
    intro r mo hs vl pw pr hd hI hc
    refine br_f (nI_ge (b := 129) (by omega) (by decide)) ?_
    rcases hc with ⟨e, h⟩ | ⟨e, h⟩
    · subst e
      refine br_f zx_10 (zy_pass T hI (fun mo' hs' vl' pw' pr' hI' hQ => nm_r (nI_1 r) (ih (r + 1) mo' hs' vl' pw' pr' (by omega) hI' ?_)))
      rcases hQ with ⟨a, b, c⟩ | ⟨a, b⟩
      · subst b
        exact Or.inr ⟨a, fun p hp => c p hp trivial⟩
      · exact Or.inl ⟨a, by omega⟩
    · subst e
      exact br_t rfl (hp hs vl pw pr (zy_fix T.1 hI h))
theorem zy_w2 (T : zx_T kd ka kb K A B) {vl pw pr : Nat → Int32} {post : SY → Prop} (hp : ∀ hs vl pw pr, zy_R kd ka kb hs vl → post (K, A, B, hs, vl, nd, pw, pr)) :
    ∀ d i hs, i + d = 128 → (∀ j, j < i → hs j = 0) → wY_workOut_2 post (d + 1) (nI i) K A B hs vl nd pw pr := by
  intro d
  induction d with
  | zero =>
    intro i hs hd H
    have h0 : ∀ j, j < 128 → hs j = 0 := fun j hj => H j (by omega)
    refine br_t (nI_le (a := 128) (by omega) (by omega)) ⟨130, zy_w26 T hp 129 0 1 hs vl pw pr (by omega) (fun p hp => Or.inl (h0 p hp)) (Or.inl ⟨rfl, ?_⟩)⟩
    rw [zs_cn_all 128 h0]
    omega
  | succ d ih =>
    intro i hs hd H
    refine br_f (nI_ge (b := 128) (by omega) (by decide)) ?_
    rw [zy_b0, nI_clamp (n := i) (by omega)]
    refine ⟨vp_in_nI (by omega) (by decide), nm_e (nm_r (nI_1 i) (ih (i + 1) _ (by omega) (fun j hj => ?_)))⟩
    by_cases z : j = i
    · subst z; rw [pk_us]
    · rw [pk_un z]; exact H j (by omega)
theorem zy_workOut (T : zx_T kd ka kb K A B) {hs vl pw pr : Nat → Int32} {post : SY → Prop} (hp : ∀ hs vl pw pr, zy_R kd ka kb hs vl → post (K, A, B, hs, vl, nd, pw, pr)) : wpY_workOut post (K, A, B, hs, vl, nd, pw, pr) := by
  unfold wpY_workOut
  dsimp only
  exact ⟨129, zy_w2 T hp 128 0 hs (by omega) (fun j hj => absurd hj (by omega))⟩
end
end
section
/-! the relation, the constructors, define, kindOf -/
def i_Rel (k : Nat) (u : SX) (v : SY) : Prop := ∃ (kd ka kb : Nat → Nat) (K A B st vl sk tn sc iv hs vl' nd pw pr : Nat → Int32), zx_T kd ka kb K A B ∧ zx_I kd ka kb st vl ∧ (∀ j, j < 97 → iv j = nI (zs_iv j)) ∧ u = (K, A, B, st, vl, sk, tn, sc, iv) ∧ v = (K, A, B, hs, vl', nd, pw, pr) ∧ k = k
theorem zr_mk {k : Nat} {kd ka kb : Nat → Nat} {K A B st vl sk tn sc iv hs vl' nd pw pr : Nat → Int32} (T : zx_T kd ka kb K A B) (hI : zx_I kd ka kb st vl) (hiv : ∀ j, j < 97 → iv j = nI (zs_iv j)) : i_Rel k (K, A, B, st, vl, sk, tn, sc, iv) (K, A, B, hs, vl', nd, pw, pr) := ⟨kd, ka, kb, K, A, B, st, vl, sk, tn, sc, iv, hs, vl', nd, pw, pr, T, hI, hiv, rfl, rfl, rfl⟩
theorem i_up {k : Nat} {u : SX} {v : SY} (h : i_Rel k u v) : i_Rel (k + 5) u v := by
  obtain ⟨kd, ka, kb, K, A, B, st, vl, sk, tn, sc, iv, hs, vl', nd, pw, pr, T, hI, hiv, rfl, rfl, _⟩ := h
  exact zr_mk T hI hiv
theorem zr_init {post : SX → Prop} {K A B st vl sk tn sc : Nat → Int32} (hp : ∀ iv, (∀ j, j < 97 → iv j = nI (zs_iv j)) → post (K, A, B, st, vl, sk, tn, sc, iv)) : ∀ d y iv, y + d = 97 → 2 ≤ y → (∀ j, j < y → iv j = nI (zs_iv j)) → wX_init_89 post (d + 1) (nI y) K A B st vl sk tn sc iv := by
  intro d
  induction d with
  | zero =>
    intro y iv hd h2 H
    exact br_t (nI_le (a := 97) (by omega) (by omega)) (hp iv (fun j hj => H j (by omega)))
  | succ d ih =>
    intro y iv hd h2 H
    have l1 : 97 % y < y := Nat.mod_lt _ (by omega)
    have l2 : 97 / y ≤ 97 := Nat.div_le_self _ _
    have e1 : (97 : Int32) - 97 / nI y * nI y = nI (97 % y) := pk_rem (a := 97) (by decide) (by omega) (by omega)
    have e2 : (97 : Int32) - 97 / nI y = nI (97 - 97 / y) := by
      rw [show (97 : Int32) / nI y = nI (97 / y) from pk_div (a := 97) (by decide) (by omega) (by omega)]
      exact pk_sub (a := 97) l2
    have hm : (97 - 97 / y) * zs_iv (97 % y) ≤ 97 * 97 := Nat.mul_le_mul (Nat.sub_le _ _) (Nat.le_of_lt (zs_iv_lt _))
    have n0 : ¬ nI y = 0 := nI_ne0 (by omega) (by omega)
    have est : (97 - 97 / y) * zs_iv (97 % y) % 97 = zs_iv y := (zs_iv_st y (by omega)).resolve_left (by omega)
    refine br_f (nI_ge (b := 97) (by omega) (by decide)) ?_
    rw [e1, e2, nI_clamp (n := 97 % y) (by omega), H (97 % y) (by omega), pk_mul, za_97 (by omega), est, nI_clamp (n := y) (by omega)]
    refine ⟨n0, n0, vp_in_nI (by omega) (by decide), za_n97, vp_in_nI (by omega) (by decide), nm_e (nm_r (nI_1 y) (ih (y + 1) _ (by omega) (by omega) (fun j hj => ?_)))⟩
    by_cases z : j = y
    · subst z; rw [pk_us]
    · rw [pk_un z]; exact H j (by omega)
theorem zr_ok0 : zs_ok 0 0 0 := by unfold zs_ok; omega
theorem zr_T0 : zx_T (fun _ => 0) (fun _ => 0) (fun _ => 0) (fun _ => 0) (fun _ => 0) (fun _ => 0) :=
  ⟨fun _ _ => zr_ok0, fun _ => rfl, fun _ => rfl, fun _ => rfl⟩
theorem i_vc0 : wpX_init (fun u => wpY_init (fun v => i_Rel 0 u v)) := by
  unfold wpX_init wpY_init
  refine nm_e ⟨96, zr_init (fun iv hiv => zr_mk zr_T0 (fun p _ => Or.inl rfl) hiv) 95 2 _ (by omega) (by omega) (fun j hj => ?_)⟩
  have : j = 0 ∨ j = 1 := by omega
  rcases this with e | e
  · subst e; decide
  · subst e; decide
theorem zr_sN {post : Int32 → Prop} {x : Int32} (h : ¬ ∃ s, s < 8 ∧ x = nI s) (hp : post 0) : wpX_isSeries post x := zx_ser x (fun _ => hp) (fun s hs e => absurd ⟨s, hs, e⟩ h)
theorem zr_sS {post : Int32 → Prop} {s : Nat} (hs : s < 8) (hp : post 1) : wpX_isSeries post (nI s) := zx_ser (nI s) (fun h => absurd ⟨s, hs, rfl⟩ h) (fun _ _ _ => hp)
section
variable {kd ka kb : Nat → Nat} {K A B st vl sk tn sc iv hs vl' nd pw pr : Nat → Int32}
theorem zr_bN {post : Int32 → Prop} {x : Int32} (h : ¬ ∃ s, s < 8 ∧ x = nI s) (hp : post 1) : wpY_bad post (K, A, B, hs, vl, nd, pw, pr) x := zy_bad x (fun _ => hp) (fun s hs e => absurd ⟨s, hs, e⟩ h)
theorem zr_bS {post : Int32 → Prop} {s : Nat} (hs8 : s < 8) (hp : post 0) : wpY_bad post (K, A, B, hs, vl, nd, pw, pr) (nI s) := zy_bad (nI s) (fun h => absurd ⟨s, hs8, rfl⟩ h) (fun _ _ _ => hp)
theorem zr_red (x : Int32) : ∃ r, r < 97 ∧ (∀ post : Int32 → Prop, post (nI r) → wpX_reduced post x) ∧ (∀ (post : Int32 → Prop) (u : SY), post (nI r) → wpY_reduced post u x) := by
  have e := rem_toInt x 97
  rw [show (97 : Int32).toInt = 97 from by decide] at e
  have hb := tmod_bounds (a := x.toInt) (M := 97) (by decide)
  have hX : ∀ r, (((0 : Int32) ≤ x - x / 97 * 97 ∧ x - x / 97 * 97 = nI r) ∨ (¬ (0 : Int32) ≤ x - x / 97 * 97 ∧ x - x / 97 * 97 + 97 = nI r)) → (∀ post : Int32 → Prop, post (nI r) → wpX_reduced post x) ∧ (∀ (post : Int32 → Prop) (u : SY), post (nI r) → wpY_reduced post u x) := by
    intro r hr
    refine ⟨fun post hp => ?_, fun post u hp => ?_⟩
    · unfold wpX_reduced
      refine ⟨za_n97, nm_e ?_⟩
      rcases hr with ⟨h, e⟩ | ⟨h, e⟩
      · exact br_t h (by rw [e]; exact hp)
      · exact br_f h (by rw [e]; exact hp)
    · obtain ⟨a1, a2, a3, a4, a5, a6, a7, a8⟩ := u
      unfold wpY_reduced
      dsimp only
      refine ⟨za_n97, nm_e ?_⟩
      rcases hr with ⟨h, e⟩ | ⟨h, e⟩
      · exact br_t h (by rw [e]; exact hp)
      · exact br_f h (by rw [e]; exact hp)
  generalize x - x / 97 * 97 = y at *
  by_cases h : (0 : Int32) ≤ y
  · obtain ⟨j, hj, rfl⟩ := nI_of (x := y) (Int32.not_lt.mpr h)
    rw [nI_toInt hj] at e
    exact ⟨j, by omega, hX j (Or.inl ⟨h, rfl⟩)⟩
  · have h' := h
    rw [Int32.le_iff_toInt_le, show (0 : Int32).toInt = 0 from by decide] at h'
    have e2 : (y + 97).toInt = y.toInt + 97 := by
      rw [Int32.toInt_add, show (97 : Int32).toInt = 97 from by decide]
      exact Int.bmod_eq_of_le (by omega) (by omega)
    have hn : ¬ (y + 97 : Int32) < 0 := by
      rw [Int32.lt_iff_toInt_lt, e2, show (0 : Int32).toInt = 0 from by decide]
      omega
    obtain ⟨j, hj, ej⟩ := nI_of hn
    rw [ej, nI_toInt hj] at e2
    exact ⟨j, by omega, hX j (Or.inr ⟨h, ej⟩)⟩
theorem zr_T (T : zx_T kd ka kb K A B) {s k a b : Nat} (hk : zs_ok k a b) : zx_T (zs_un kd s k) (zs_un ka s a) (zs_un kb s b) (upd K s (nI k)) (upd A s (nI a)) (upd B s (nI b)) := by
  refine ⟨fun t ht => ?_, fun j => ?_, fun j => ?_, fun j => ?_⟩
  · by_cases e : t = s
    · rw [e, zs_us, zs_us, zs_us]; exact hk
    · rw [zs_uo e, zs_uo e, zs_uo e]; exact T.1 t ht
  · by_cases e : j = s
    · rw [e, zs_us, pk_us]
    · rw [zs_uo e, pk_un e]; exact T.2.1 j
  · by_cases e : j = s
    · rw [e, zs_us, pk_us]
    · rw [zs_uo e, pk_un e]; exact T.2.2.1 j
  · by_cases e : j = s
    · rw [e, zs_us, pk_us]
    · rw [zs_uo e, pk_un e]; exact T.2.2.2 j
theorem zr_d131 {post : Int32 → SX → Prop} {x6 : Int32} (hp : ∀ st', (∀ p, p < 128 → st' p = 0) → post x6 (K, A, B, st', vl, sk, tn, sc, iv)) : ∀ d i st, i + d = 128 → (∀ j, j < i → st j = 0) → wX_define_131 post x6 (d + 1) (nI i) K A B st vl sk tn sc iv := by
  intro d
  induction d with
  | zero =>
    intro i st hd H
    exact br_t (nI_le (a := 128) (by omega) (by omega)) (hp st (fun p h => H p (by omega)))
  | succ d ih =>
    intro i st hd H
    refine br_f (nI_ge (b := 128) (by omega) (by decide)) ?_
    rw [nI_clamp (n := i) (by omega)]
    refine ⟨vp_in_nI (by omega) (by decide), nm_e (nm_r (nI_1 i) (ih (i + 1) _ (by omega) (fun j hj => ?_)))⟩
    by_cases z : j = i
    · subst z; rw [pk_us]
    · rw [pk_un z]; exact H j (by omega)
/-- X: behind the checks. x5: 1 for two series (then v4 is one), 0 else -/
theorem zr_x76 {post : Int32 → SX → Prop} {s k : Nat} (hs8 : s < 8) (hk : k ≤ 9) {v3 v4 x5 : Int32} {a b : Nat} (ha : (k ≤ 1 ∧ a = 0) ∨ (1 < k ∧ v3 = nI a)) (hb : (x5 = 0 ∧ ∀ post : Int32 → Prop, post (nI b) → wpX_reduced post v4) ∨ (¬ x5 = 0 ∧ v4 = nI b))
    (hp : ∀ st', (∀ p, p < 128 → st' p = 0) → post (K s) (upd K s (nI k), upd A s (nI a), upd B s (nI b), st', vl, sk, tn, sc, iv)) : wX_define_76 post (nI s) (nI k) v3 v4 x5 K A B st vl sk tn sc iv := by
  have i8 := zx_i8 hs8
  have h106 : wX_define_106 post (nI s) v4 x5 (K s) (nI a) (nI s) (upd K s (nI k)) A B st vl sk tn sc iv := by
    unfold wX_define_106
    rw [nI_clamp (n := s) (by omega)]
    refine ⟨i8, nm_e ?_⟩
    rcases hb with ⟨e, h⟩ | ⟨e, h⟩
    · exact br_t e (h _ ⟨i8, nm_e ⟨129, zr_d131 hp 128 0 st (by omega) (fun j hj => absurd hj (by omega))⟩⟩)
    · rw [h]
      exact br_f e ⟨i8, nm_e ⟨129, zr_d131 hp 128 0 st (by omega) (fun j hj => absurd hj (by omega))⟩⟩
  unfold wX_define_76
  rw [nI_clamp (n := s) (by omega)]
  refine ⟨i8, nm_e ⟨i8, nm_e ?_⟩⟩
  rcases ha with ⟨h1, e⟩ | ⟨h1, e⟩
  · subst e
    exact pk_le k 1 (fun _ => h106) (fun z => absurd z (by omega))
  · subst e
    exact pk_le k 1 (fun z => absurd z (by omega)) (fun _ => h106)
theorem zr_y79 {post : Int32 → SY → Prop} {s k : Nat} (hs8 : s < 8) (hk : k ≤ 9) {v3 v4 x5 : Int32} {a b : Nat} (ha : (k ≤ 1 ∧ a = 0) ∨ (1 < k ∧ v3 = nI a)) (hb : (x5 = 0 ∧ ∀ (post : Int32 → Prop) (u : SY), post (nI b) → wpY_reduced post u v4) ∨ (¬ x5 = 0 ∧ v4 = nI b))
    (hp : post (K s) (upd K s (nI k), upd A s (nI a), upd B s (nI b), hs, vl', nd, pw, pr)) : wY_define_79 post (nI s) (nI k) v3 v4 x5 K A B hs vl' nd pw pr := by
  have i8 := zx_i8 hs8
  have h109 : wY_define_109 post (nI s) v4 x5 (K s) (nI a) (nI s) (upd K s (nI k)) A B hs vl' nd pw pr := by
    unfold wY_define_109
    rw [nI_clamp (n := s) (by omega)]
    refine ⟨i8, nm_e ?_⟩
    rcases hb with ⟨e, h⟩ | ⟨e, h⟩
    · exact br_t e (h _ _ ⟨i8, nm_e hp⟩)
    · rw [h]
      exact br_f e ⟨i8, nm_e hp⟩
  unfold wY_define_79
  rw [nI_clamp (n := s) (by omega)]
  refine ⟨i8, nm_e ⟨i8, nm_e ?_⟩⟩
  rcases ha with ⟨h1, e⟩ | ⟨h1, e⟩
  · subst e
    exact pk_le k 1 (fun _ => h109) (fun z => absurd z (by omega))
  · subst e
    exact pk_le k 1 (fun z => absurd z (by omega)) (fun _ => h109)
end
theorem i_vc_kindOf {k : Nat} {u : SX} {v : SY} (I : i_Rel k u v) (hk : k + 5 ≤ 2560) (v1 : Int32) : wpX_kindOf (fun r => wpY_kindOf (fun r' => r' = r ∧ i_Rel (k + 5) u v) v v1) u v1 := by
  have I5 := i_up I
  obtain ⟨kd, ka, kb, K, A, B, st, vl, sk, tn, sc, iv, hs, vl', nd, pw, pr, T, hI, hiv, rfl, rfl, _⟩ := I
  unfold wpX_kindOf wpY_kindOf
  dsimp only
  by_cases c : ∃ s, s < 8 ∧ v1 = nI s
  · obtain ⟨s, hs8, rfl⟩ := c
    exact zr_sS hs8 (br_f zx_10 ⟨zx_i8 hs8, zr_bS hs8 (br_t rfl ⟨zx_i8 hs8, rfl, I5⟩)⟩)
  · exact zr_sN c (br_t rfl (zr_bN c (br_f zx_10 ⟨rfl, I5⟩)))
end
section
/-! define -/
theorem zd_m4 {v1 v2 v3 v4 : Int32} {k : Nat} {s q : Nat} {kd ka kb : Nat → Nat} {K A B st vl sk tn sc iv hs vl' nd pw pr : Nat → Int32} (T : zx_T kd ka kb K A B) (hI : zx_I kd ka kb st vl) (hiv : ∀ j, j < 97 → iv j = nI (zs_iv j)) (e1 : v1 = nI s) (hs8 : s < 8) (e2 : v2 = nI q) (hq : q ≤ 9) (ha : q ≤ 1 ∨ ∃ a, a < 8 ∧ v3 = nI a) :
    wX_define_37 (fun r u' => wpY_define (fun r' v' => r' = r ∧ i_Rel (k + 5) u' v') (K, A, B, hs, vl', nd, pw, pr) v1 v2 v3 v4) v1 v2 v3 v4 K A B st vl sk tn sc iv := by
  subst e1 e2
  have Y : ∀ post : Int32 → SY → Prop, wY_define_39 post (nI s) (nI q) v3 v4 K A B hs vl' nd pw pr → wpY_define post (K, A, B, hs, vl', nd, pw, pr) (nI s) (nI q) v3 v4 := by
    intro post h
    unfold wpY_define
    dsimp only
    refine zr_bS hs8 (br_t rfl (br_f (nI_pos (by omega)) (br_t (nI_le (b := 9) hq (by decide)) ?_)))
    refine pk_le q 1 (fun _ => h) (fun z => ?_)
    rcases ha with y | ⟨a, ha8, rfl⟩
    · omega
    · exact zr_bS ha8 (br_t rfl h)
  have ha' : ∃ a, a < 8 ∧ ((q ≤ 1 ∧ a = 0) ∨ (1 < q ∧ v3 = nI a)) := by
    by_cases z : q ≤ 1
    · exact ⟨0, by decide, Or.inl ⟨z, rfl⟩⟩
    · rcases ha with y | ⟨a, ha8, e⟩
      · exact absurd y z
      · exact ⟨a, ha8, Or.inr ⟨by omega, e⟩⟩
  obtain ⟨a, ha8, hA⟩ := ha'
  -- two series
  have two : (q = 2 ∨ q = 3 ∨ q = 9) → wX_define_53 (fun r u' => wpY_define (fun r' v' => r' = r ∧ i_Rel (k + 5) u' v') (K, A, B, hs, vl', nd, pw, pr) (nI s) (nI q) v3 v4) (nI s) (nI q) v3 v4 K A B st vl sk tn sc iv := by
    intro hq3
    have Y53 : ∀ post : Int32 → SY → Prop, wY_define_55 post (nI s) (nI q) v3 v4 K A B hs vl' nd pw pr → wpY_define post (K, A, B, hs, vl', nd, pw, pr) (nI s) (nI q) v3 v4 := by
      intro post h
      refine Y post ?_
      unfold wY_define_39
      exact pk_eq q 2 (fun _ => h) (fun z2 => pk_eq q 3 (fun _ => h) (fun z3 => pk_eq q 9 (fun _ => h) (fun z9 => by omega)))
    unfold wX_define_53 wX_define_58
    refine br_f zx_10 ?_
    by_cases c : ∃ b, b < 8 ∧ v4 = nI b
    · obtain ⟨b, hb8, rfl⟩ := c
      refine zr_sS hb8 (br_f zx_10 (zr_x76 hs8 hq hA (Or.inr ⟨zx_10, rfl⟩) (fun st' hst => ?_)))
      refine Y53 _ ?_
      unfold wY_define_55 wY_define_60
      exact br_f zx_10 (zr_bS hb8 (br_t rfl (zr_y79 hs8 hq hA (Or.inr ⟨zx_10, rfl⟩) ⟨rfl, zr_mk (zr_T T ⟨hq, ha8, by omega, fun _ => hb8⟩) (fun p hp => Or.inl (hst p hp)) hiv⟩)))
    · refine zr_sN c (br_t rfl (Y53 _ ?_))
      unfold wY_define_55 wY_define_60
      exact br_f zx_10 (zr_bN c (br_f zx_10 ⟨rfl, zr_mk T hI hiv⟩))
  unfold wX_define_37
  refine pk_eq q 2 (fun z => two (Or.inl z)) (fun z2 => pk_eq q 3 (fun z => two (Or.inr (Or.inl z))) (fun z3 => pk_eq q 9 (fun z => two (Or.inr (Or.inr z))) (fun z9 => ?_)))
  obtain ⟨b, hb, hX, hY⟩ := zr_red v4
  unfold wX_define_58
  refine br_t rfl (zr_x76 hs8 hq hA (Or.inl ⟨rfl, hX⟩) (fun st' hst => Y _ ?_))
  unfold wY_define_39
  refine pk_eq q 2 (fun z => absurd z z2) (fun _ => pk_eq q 3 (fun z => absurd z z3) (fun _ => pk_eq q 9 (fun z => absurd z z9) (fun _ => ?_)))
  unfold wY_define_60
  exact br_t rfl (zr_y79 hs8 hq hA (Or.inl ⟨rfl, hY⟩) ⟨rfl, zr_mk (zr_T T ⟨hq, ha8, hb, fun h => by omega⟩) (fun p hp => Or.inl (hst p hp)) hiv⟩)
theorem i_vc_define {k : Nat} {u : SX} {v : SY} (I : i_Rel k u v) (hk : k + 5 ≤ 2560) (v1 : Int32) (v2 : Int32) (v3 : Int32) (v4 : Int32) : wpX_define (fun r u' => wpY_define (fun r' v' => r' = r ∧ i_Rel (k + 5) u' v') v v1 v2 v3 v4) u v1 v2 v3 v4 := by
  have I5 := i_up I
  obtain ⟨kd, ka, kb, K, A, B, st, vl, sk, tn, sc, iv, hs, vl', nd, pw, pr, T, hI, hiv, rfl, rfl, _⟩ := I
  by_cases c1 : ∃ s, s < 8 ∧ v1 = nI s
  · obtain ⟨s, hs8, rfl⟩ := c1
    unfold wpX_define
    dsimp only
    refine zr_sS hs8 (br_f zx_10 (br_c (fun n0 => ?_) (fun n0 => br_c (fun n9 => ?_) (fun n9 => ?_))))
    · unfold wpY_define
      dsimp only
      exact zr_bS hs8 (br_t rfl (br_t n0 ⟨rfl, I5⟩))
    · obtain ⟨q, hq, rfl⟩ := nI_of2 (M := 9) (n := 9) (by decide) n0 n9
      refine pk_le q 1 (fun z => zd_m4 T hI hiv rfl hs8 rfl hq (Or.inl z)) (fun z => ?_)
      by_cases c3 : ∃ a, a < 8 ∧ v3 = nI a
      · obtain ⟨a, ha8, rfl⟩ := c3
        exact zr_sS ha8 (br_f zx_10 (zd_m4 T hI hiv rfl hs8 rfl hq (Or.inr ⟨a, ha8, rfl⟩)))
      · refine zr_sN c3 (br_t rfl ?_)
        unfold wpY_define
        dsimp only
        exact zr_bS hs8 (br_t rfl (br_f n0 (br_t n9 (pk_le q 1 (fun y => absurd y (by omega)) (fun _ => zr_bN c3 (br_f zx_10 ⟨rfl, I5⟩))))))
    · unfold wpY_define
      dsimp only
      exact zr_bS hs8 (br_t rfl (br_f n0 (br_f n9 ⟨rfl, I5⟩)))
  · unfold wpX_define
    dsimp only
    refine zr_sN c1 (br_t rfl ?_)
    unfold wpY_define
    dsimp only
    exact zr_bN c1 (br_f zx_10 ⟨rfl, I5⟩)
end
section
/-! coefficient, known, valued, order, agreeing -/
section
variable {kd ka kb : Nat → Nat} {K A B st vl sk tn sc iv hs nd pw pr : Nat → Int32}
theorem zq_in {s n : Nat} (hs8 : s < 8) (hn : n < 16) : vp_in (nI (16 * s + n)) 128 := vp_in_nI (by omega) (by decide)
/-- X's force at 16 * s + n when there is a value -/
theorem zq_f1 (T : zx_T kd ka kb K A B) (hiv : ∀ j, j < 97 → iv j = nI (zs_iv j)) {post : Int32 → SX → Prop} {s n : Nat} (hs8 : s < 8) (hn : n < 16) (hI : zx_I kd ka kb st vl) (hD : zs_D kd ka kb (16 * s + n))
    (h1 : ∀ st' vl' sk' tn' sc' : Nat → Int32, zx_I kd ka kb st' vl' → (∀ q, st q = 2 → st' q = 2) → st' (16 * s + n) = 2 → vl' (nI (16 * s + n)).toNatClampNeg = nI (zs_tv kd ka kb (16 * s + n)) → post 1 (K, A, B, st', vl', sk', tn', sc', iv)) : wpX_force post (K, A, B, st, vl, sk, tn, sc, iv) (16 * nI s + nI n) := by
  rw [za_ix]
  refine zx_force T hiv (by omega) hI (fun st' vl' sk' tn' sc' hI' hm h2 _ => h1 st' vl' sk' tn' sc' hI' hm h2 ?_) (fun _ _ _ _ _ _ _ hn => absurd hD hn)
  rw [nI_clamp (by omega)]
  rcases hI' (16 * s + n) (by omega) with h | h | h
  · rw [h2] at h; exact absurd h (by decide)
  · exact h.2.2
  · rw [h2] at h; exact absurd h.1 (by decide)
theorem zq_f0 (T : zx_T kd ka kb K A B) (hiv : ∀ j, j < 97 → iv j = nI (zs_iv j)) {post : Int32 → SX → Prop} {s n : Nat} (hs8 : s < 8) (hn : n < 16) (hI : zx_I kd ka kb st vl) (hD : ¬ zs_D kd ka kb (16 * s + n))
    (h0 : ∀ st' vl' sk' tn' sc' : Nat → Int32, zx_I kd ka kb st' vl' → post 0 (K, A, B, st', vl', sk', tn', sc', iv)) : wpX_force post (K, A, B, st, vl, sk, tn, sc, iv) (16 * nI s + nI n) := by
  rw [za_ix]
  exact zx_force T hiv (by omega) hI (fun _ _ _ _ _ _ _ _ h => absurd h hD) (fun st' vl' sk' tn' sc' hI' _ _ => h0 st' vl' sk' tn' sc' hI')
theorem zq_y1 (hR : zy_R kd ka kb hs vl) {s n : Nat} (hs8 : s < 8) (hn : n < 16) (hD : zs_D kd ka kb (16 * s + n)) : hs (nI (16 * s + n)).toNatClampNeg = 1 ∧ vl (nI (16 * s + n)).toNatClampNeg = nI (zs_tv kd ka kb (16 * s + n)) := by
  rw [nI_clamp (by omega)]
  rcases hR (16 * s + n) (by omega) with h | h
  · exact ⟨h.1, h.2.2⟩
  · exact absurd hD h.2
theorem zq_y0 (hR : zy_R kd ka kb hs vl) {s n : Nat} (hs8 : s < 8) (hn : n < 16) (hD : ¬ zs_D kd ka kb (16 * s + n)) : hs (nI (16 * s + n)).toNatClampNeg = 0 := by
  rw [nI_clamp (by omega)]
  rcases hR (16 * s + n) (by omega) with h | h
  · exact absurd h.2.1 hD
  · exact h.1
theorem zq_known (T : zx_T kd ka kb K A B) (hiv : ∀ j, j < 97 → iv j = nI (zs_iv j)) {s : Nat} (hs8 : s < 8) : ∀ d n, n + d = 16 → ∃ r : Int32,
    (∀ (post : Int32 → SX → Prop) (st vl sk tn sc : Nat → Int32), zx_I kd ka kb st vl → (∀ st' vl' sk' tn' sc', zx_I kd ka kb st' vl' → post r (K, A, B, st', vl', sk', tn', sc', iv)) → wX_known_11 post (nI s) (d + 1) (nI n) K A B st vl sk tn sc iv) ∧
    (∀ (post : Int32 → SY → Prop) (hs vl nd pw pr : Nat → Int32), zy_R kd ka kb hs vl → post r (K, A, B, hs, vl, nd, pw, pr) → wY_known_16 post (nI s) K A B hs vl nd pw pr (d + 1) (nI n)) := by
  intro d
  induction d with
  | zero =>
    intro n hd
    have e : n = 16 := by omega
    subst e
    exact ⟨nI 16, fun post st vl sk tn sc hI hp => br_t (nI_le (a := 16) (by omega) (by omega)) (hp _ _ _ _ _ hI), fun post hs vl nd pw pr hR hp => br_t (nI_le (a := 16) (by omega) (by omega)) hp⟩
  | succ d ih =>
    intro n hd
    have h16 : ¬ (16 : Int32) ≤ nI n := nI_ge (b := 16) (by omega) (by decide)
    have hn : n < 16 := by omega
    by_cases D : zs_D kd ka kb (16 * s + n)
    · obtain ⟨r, hX, hY⟩ := ih (n + 1) (by omega)
      refine ⟨r, fun post st vl sk tn sc hI hp => br_f h16 (zq_f1 T hiv hs8 hn hI D (fun st' vl' sk' tn' sc' hI' _ _ _ => br_f zx_10 (nm_r (nI_1 n) (hX post _ _ _ _ _ hI' hp)))), fun post hs vl nd pw pr hR hp => br_f h16 ?_⟩
      rw [za_ix]
      exact ⟨zq_in hs8 hn, br_f (by rw [(zq_y1 hR hs8 hn D).1]; exact zx_10) (nm_r (nI_1 n) (hY post _ _ _ _ _ hR hp))⟩
    · refine ⟨nI n, fun post st vl sk tn sc hI hp => br_f h16 (zq_f0 T hiv hs8 hn hI D (fun st' vl' sk' tn' sc' hI' => br_t rfl (hp _ _ _ _ _ hI'))), fun post hs vl nd pw pr hR hp => br_f h16 ?_⟩
      rw [za_ix]
      exact ⟨zq_in hs8 hn, br_t (zq_y0 hR hs8 hn D) hp⟩
theorem zq_valued (T : zx_T kd ka kb K A B) (hiv : ∀ j, j < 97 → iv j = nI (zs_iv j)) {s : Nat} (hs8 : s < 8) : ∀ d n (x : Int32), n + d = 16 → ∃ r : Int32,
    (∀ (post : Int32 → SX → Prop) (st vl sk tn sc : Nat → Int32), zx_I kd ka kb st vl → (∀ st' vl' sk' tn' sc', zx_I kd ka kb st' vl' → post r (K, A, B, st', vl', sk', tn', sc', iv)) → wX_valued_13 post (nI s) (d + 1) x (nI n) K A B st vl sk tn sc iv) ∧
    (∀ (post : Int32 → SY → Prop) (hs vl nd pw pr : Nat → Int32), zy_R kd ka kb hs vl → post r (K, A, B, hs, vl, nd, pw, pr) → wY_valued_18 post (nI s) K A B hs vl nd pw pr (d + 1) x (nI n)) := by
  intro d
  induction d with
  | zero =>
    intro n x hd
    have e : n = 16 := by omega
    subst e
    exact ⟨x, fun post st vl sk tn sc hI hp => br_t (nI_le (a := 16) (by omega) (by omega)) (hp _ _ _ _ _ hI), fun post hs vl nd pw pr hR hp => br_t (nI_le (a := 16) (by omega) (by omega)) hp⟩
  | succ d ih =>
    intro n x hd
    have h16 : ¬ (16 : Int32) ≤ nI n := nI_ge (b := 16) (by omega) (by decide)
    have hn : n < 16 := by omega
    by_cases D : zs_D kd ka kb (16 * s + n)
    · obtain ⟨r, hX, hY⟩ := ih (n + 1) (x + 1) (by omega)
      refine ⟨r, fun post st vl sk tn sc hI hp => br_f h16 (zq_f1 T hiv hs8 hn hI D (fun st' vl' sk' tn' sc' hI' _ _ _ => br_f zx_10 (nm_e (nm_r (nI_1 n) (hX post _ _ _ _ _ hI' hp))))), fun post hs vl nd pw pr hR hp => br_f h16 ?_⟩
      rw [za_ix]
      exact ⟨zq_in hs8 hn, br_f (by rw [(zq_y1 hR hs8 hn D).1]; exact zx_10) (nm_e (nm_r (nI_1 n) (hY post _ _ _ _ _ hR hp)))⟩
    · obtain ⟨r, hX, hY⟩ := ih (n + 1) x (by omega)
      refine ⟨r, fun post st vl sk tn sc hI hp => br_f h16 (zq_f0 T hiv hs8 hn hI D (fun st' vl' sk' tn' sc' hI' => br_t rfl (nm_r (nI_1 n) (hX post _ _ _ _ _ hI' hp)))), fun post hs vl nd pw pr hR hp => br_f h16 ?_⟩
      rw [za_ix]
      exact ⟨zq_in hs8 hn, br_t (zq_y0 hR hs8 hn D) (nm_r (nI_1 n) (hY post _ _ _ _ _ hR hp))⟩
theorem zq_order (T : zx_T kd ka kb K A B) (hiv : ∀ j, j < 97 → iv j = nI (zs_iv j)) {s : Nat} (hs8 : s < 8) : ∀ d n, n + d = 16 → ∃ r : Int32,
    (∀ (post : Int32 → SX → Prop) (st vl sk tn sc : Nat → Int32), zx_I kd ka kb st vl → (∀ st' vl' sk' tn' sc', zx_I kd ka kb st' vl' → post r (K, A, B, st', vl', sk', tn', sc', iv)) → wX_order_11 post (nI s) (d + 1) (nI n) K A B st vl sk tn sc iv) ∧
    (∀ (post : Int32 → SY → Prop) (hs vl nd pw pr : Nat → Int32), zy_R kd ka kb hs vl → post r (K, A, B, hs, vl, nd, pw, pr) → wY_order_16 post (nI s) K A B hs vl nd pw pr (d + 1) (nI n)) := by
  intro d
  induction d with
  | zero =>
    intro n hd
    exact ⟨-2, fun post st vl sk tn sc hI hp => br_t (nI_le (a := 16) (by omega) (by omega)) (hp _ _ _ _ _ hI), fun post hs vl nd pw pr hR hp => br_t (nI_le (a := 16) (by omega) (by omega)) hp⟩
  | succ d ih =>
    intro n hd
    have h16 : ¬ (16 : Int32) ≤ nI n := nI_ge (b := 16) (by omega) (by decide)
    have hn : n < 16 := by omega
    by_cases D : zs_D kd ka kb (16 * s + n)
    · by_cases z : nI (zs_tv kd ka kb (16 * s + n)) = 0
      · obtain ⟨r, hX, hY⟩ := ih (n + 1) (by omega)
        refine ⟨r, fun post st vl sk tn sc hI hp => br_f h16 (zq_f1 T hiv hs8 hn hI D (fun st' vl' sk' tn' sc' hI' _ _ ev => br_f zx_10 ?_)), fun post hs vl nd pw pr hR hp => br_f h16 ?_⟩
        · rw [za_ix, ev]
          exact ⟨zq_in hs8 hn, br_t z (nm_r (nI_1 n) (hX post _ _ _ _ _ hI' hp))⟩
        · rw [za_ix, (zq_y1 hR hs8 hn D).1, (zq_y1 hR hs8 hn D).2]
          exact ⟨zq_in hs8 hn, br_f zx_10 ⟨zq_in hs8 hn, br_t z (nm_r (nI_1 n) (hY post _ _ _ _ _ hR hp))⟩⟩
      · refine ⟨nI n, fun post st vl sk tn sc hI hp => br_f h16 (zq_f1 T hiv hs8 hn hI D (fun st' vl' sk' tn' sc' hI' _ _ ev => br_f zx_10 ?_)), fun post hs vl nd pw pr hR hp => br_f h16 ?_⟩
        · rw [za_ix, ev]
          exact ⟨zq_in hs8 hn, br_f z (hp _ _ _ _ _ hI')⟩
        · rw [za_ix, (zq_y1 hR hs8 hn D).1, (zq_y1 hR hs8 hn D).2]
          exact ⟨zq_in hs8 hn, br_f zx_10 ⟨zq_in hs8 hn, br_f z hp⟩⟩
    · refine ⟨-2, fun post st vl sk tn sc hI hp => br_f h16 (zq_f0 T hiv hs8 hn hI D (fun st' vl' sk' tn' sc' hI' => br_t rfl (hp _ _ _ _ _ hI'))), fun post hs vl nd pw pr hR hp => br_f h16 ?_⟩
      rw [za_ix]
      exact ⟨zq_in hs8 hn, br_t (zq_y0 hR hs8 hn D) hp⟩
theorem zq_agree (T : zx_T kd ka kb K A B) (hiv : ∀ j, j < 97 → iv j = nI (zs_iv j)) {s t : Nat} (hs8 : s < 8) (ht8 : t < 8) : ∀ d n, n + d = 16 → ∃ r : Int32,
    (∀ (post : Int32 → SX → Prop) (st vl sk tn sc : Nat → Int32), zx_I kd ka kb st vl → (∀ st' vl' sk' tn' sc', zx_I kd ka kb st' vl' → post r (K, A, B, st', vl', sk', tn', sc', iv)) → wX_agreeing_18 post (nI s) (nI t) (d + 1) (nI n) K A B st vl sk tn sc iv) ∧
    (∀ (post : Int32 → SY → Prop) (hs vl nd pw pr : Nat → Int32), zy_R kd ka kb hs vl → post r (K, A, B, hs, vl, nd, pw, pr) → wY_agreeing_24 post (nI s) (nI t) K A B hs vl nd pw pr (d + 1) (nI n)) := by
  intro d
  induction d with
  | zero =>
    intro n hd
    exact ⟨16, fun post st vl sk tn sc hI hp => br_t (nI_le (a := 16) (by omega) (by omega)) (hp _ _ _ _ _ hI), fun post hs vl nd pw pr hR hp => br_t (nI_le (a := 16) (by omega) (by omega)) hp⟩
  | succ d ih =>
    intro n hd
    have h16 : ¬ (16 : Int32) ≤ nI n := nI_ge (b := 16) (by omega) (by decide)
    have hn : n < 16 := by omega
    by_cases D : zs_D kd ka kb (16 * s + n)
    · by_cases D' : zs_D kd ka kb (16 * t + n)
      · -- X's value at s lasts through the second force
        have keep : ∀ st1 st2 vl2 : Nat → Int32, zx_I kd ka kb st2 vl2 → (∀ q, st1 q = 2 → st2 q = 2) → st1 (16 * s + n) = 2 → vl2 (nI (16 * s + n)).toNatClampNeg = nI (zs_tv kd ka kb (16 * s + n)) := by
          intro st1 st2 vl2 hI2 hm h1
          have h2 := hm _ h1
          rw [nI_clamp (by omega)]
          rcases hI2 (16 * s + n) (by omega) with h | h | h
          · rw [h2] at h; exact absurd h (by decide)
          · exact h.2.2
          · rw [h2] at h; exact absurd h.1 (by decide)
        by_cases z : nI (zs_tv kd ka kb (16 * s + n)) = nI (zs_tv kd ka kb (16 * t + n))
        · obtain ⟨r, hX, hY⟩ := ih (n + 1) (by omega)
          refine ⟨r, fun post st vl sk tn sc hI hp => br_f h16 (zq_f1 T hiv hs8 hn hI D (fun st1 vl1 sk1 tn1 sc1 hI1 _ h1 _ => br_f zx_10 (zq_f1 T hiv ht8 hn hI1 D' (fun st2 vl2 sk2 tn2 sc2 hI2 hm2 _ ev => br_f zx_10 ?_)))), fun post hs vl nd pw pr hR hp => br_f h16 ?_⟩
          · rw [za_ix, za_ix, ev, keep st1 st2 vl2 hI2 hm2 h1]
            exact ⟨zq_in hs8 hn, zq_in ht8 hn, br_t z (nm_r (nI_1 n) (hX post _ _ _ _ _ hI2 hp))⟩
          · rw [za_ix, za_ix, (zq_y1 hR hs8 hn D).1, (zq_y1 hR hs8 hn D).2, (zq_y1 hR ht8 hn D').1, (zq_y1 hR ht8 hn D').2]
            exact ⟨zq_in hs8 hn, br_f zx_10 ⟨zq_in ht8 hn, br_f zx_10 ⟨zq_in hs8 hn, zq_in ht8 hn, br_t z (nm_r (nI_1 n) (hY post _ _ _ _ _ hR hp))⟩⟩⟩
        · refine ⟨nI n, fun post st vl sk tn sc hI hp => br_f h16 (zq_f1 T hiv hs8 hn hI D (fun st1 vl1 sk1 tn1 sc1 hI1 _ h1 _ => br_f zx_10 (zq_f1 T hiv ht8 hn hI1 D' (fun st2 vl2 sk2 tn2 sc2 hI2 hm2 _ ev => br_f zx_10 ?_)))), fun post hs vl nd pw pr hR hp => br_f h16 ?_⟩
          · rw [za_ix, za_ix, ev, keep st1 st2 vl2 hI2 hm2 h1]
            exact ⟨zq_in hs8 hn, zq_in ht8 hn, br_f z (hp _ _ _ _ _ hI2)⟩
          · rw [za_ix, za_ix, (zq_y1 hR hs8 hn D).1, (zq_y1 hR hs8 hn D).2, (zq_y1 hR ht8 hn D').1, (zq_y1 hR ht8 hn D').2]
            exact ⟨zq_in hs8 hn, br_f zx_10 ⟨zq_in ht8 hn, br_f zx_10 ⟨zq_in hs8 hn, zq_in ht8 hn, br_f z hp⟩⟩⟩
      · refine ⟨nI n, fun post st vl sk tn sc hI hp => br_f h16 (zq_f1 T hiv hs8 hn hI D (fun st1 vl1 sk1 tn1 sc1 hI1 _ h1 _ => br_f zx_10 (zq_f0 T hiv ht8 hn hI1 D' (fun st' vl' sk' tn' sc' hI' => br_t rfl (hp _ _ _ _ _ hI'))))), fun post hs vl nd pw pr hR hp => br_f h16 ?_⟩
        rw [za_ix, za_ix, (zq_y1 hR hs8 hn D).1]
        exact ⟨zq_in hs8 hn, br_f zx_10 ⟨zq_in ht8 hn, br_t (zq_y0 hR ht8 hn D') hp⟩⟩
    · refine ⟨nI n, fun post st vl sk tn sc hI hp => br_f h16 (zq_f0 T hiv hs8 hn hI D (fun st' vl' sk' tn' sc' hI' => br_t rfl (hp _ _ _ _ _ hI'))), fun post hs vl nd pw pr hR hp => br_f h16 ?_⟩
      rw [za_ix]
      exact ⟨zq_in hs8 hn, br_t (zq_y0 hR hs8 hn D) hp⟩
end
theorem i_vc_coefficient {k : Nat} {u : SX} {v : SY} (I : i_Rel k u v) (hk : k + 5 ≤ 2560) (v1 : Int32) (v2 : Int32) : wpX_coefficient (fun r u' => wpY_coefficient (fun r' v' => r' = r ∧ i_Rel (k + 5) u' v') v v1 v2) u v1 v2 := by
  have I5 := i_up I
  obtain ⟨kd, ka, kb, K, A, B, st, vl, sk, tn, sc, iv, hs, vl', nd, pw, pr, T, hI, hiv, rfl, rfl, _⟩ := I
  unfold wpX_coefficient wpY_coefficient
  dsimp only
  by_cases c : ∃ s, s < 8 ∧ v1 = nI s
  · obtain ⟨s, hs8, rfl⟩ := c
    refine zr_sS hs8 (br_f zx_10 (br_c (fun n0 => zr_bS hs8 (br_t rfl (br_t n0 ⟨rfl, I5⟩))) (fun n0 => ?_)))
    obtain ⟨n, hn, rfl⟩ := nI_of n0
    refine pk_lt n 16 (fun hn16 => ?_) (fun hn16 => zr_bS hs8 (br_t rfl (br_f n0 (br_f (nI_ge (a := 15) (by omega) (by omega)) ⟨rfl, I5⟩))))
    have h15 : nI n ≤ 15 := nI_le (b := 15) (by omega) (by decide)
    by_cases D : zs_D kd ka kb (16 * s + n)
    · refine zq_f1 T hiv hs8 hn16 hI D (fun st1 vl1 sk1 tn1 sc1 hI1 _ _ ev => br_f zx_10 ?_)
      dsimp only
      rw [za_ix, ev]
      refine ⟨zq_in hs8 hn16, zr_bS hs8 (br_t rfl (br_f n0 (br_t h15 (zy_workOut T (fun hs vl pw pr hR => ?_)))))⟩
      dsimp only
      rw [(zq_y1 hR hs8 hn16 D).1, (zq_y1 hR hs8 hn16 D).2]
      exact ⟨zq_in hs8 hn16, br_f zx_10 ⟨zq_in hs8 hn16, rfl, zr_mk T hI1 hiv⟩⟩
    · refine zq_f0 T hiv hs8 hn16 hI D (fun st1 vl1 sk1 tn1 sc1 hI1 => br_t rfl ?_)
      refine zr_bS hs8 (br_t rfl (br_f n0 (br_t h15 (zy_workOut T (fun hs vl pw pr hR => ?_)))))
      rw [za_ix]
      exact ⟨zq_in hs8 hn16, br_t (zq_y0 hR hs8 hn16 D) ⟨rfl, zr_mk T hI1 hiv⟩⟩
  · exact zr_sN c (br_t rfl (zr_bN c (br_f zx_10 ⟨rfl, I5⟩)))
theorem i_vc_known {k : Nat} {u : SX} {v : SY} (I : i_Rel k u v) (hk : k + 5 ≤ 2560) (v1 : Int32) : wpX_known (fun r u' => wpY_known (fun r' v' => r' = r ∧ i_Rel (k + 5) u' v') v v1) u v1 := by
  have I5 := i_up I
  obtain ⟨kd, ka, kb, K, A, B, st, vl, sk, tn, sc, iv, hs, vl', nd, pw, pr, T, hI, hiv, rfl, rfl, _⟩ := I
  unfold wpX_known wpY_known
  dsimp only
  by_cases c : ∃ s, s < 8 ∧ v1 = nI s
  · obtain ⟨s, hs8, rfl⟩ := c
    obtain ⟨r, hX, hY⟩ := zq_known T hiv hs8 16 0 (by omega)
    exact zr_sS hs8 (br_f zx_10 ⟨17, hX _ st vl sk tn sc hI (fun st1 vl1 sk1 tn1 sc1 hI1 => zr_bS hs8 (br_t rfl (zy_workOut T (fun hs vl pw pr hR => ⟨17, hY _ _ _ _ _ _ hR ⟨rfl, zr_mk T hI1 hiv⟩⟩))))⟩)
  · exact zr_sN c (br_t rfl (zr_bN c (br_f zx_10 ⟨rfl, I5⟩)))
theorem i_vc_valued {k : Nat} {u : SX} {v : SY} (I : i_Rel k u v) (hk : k + 5 ≤ 2560) (v1 : Int32) : wpX_valued (fun r u' => wpY_valued (fun r' v' => r' = r ∧ i_Rel (k + 5) u' v') v v1) u v1 := by
  have I5 := i_up I
  obtain ⟨kd, ka, kb, K, A, B, st, vl, sk, tn, sc, iv, hs, vl', nd, pw, pr, T, hI, hiv, rfl, rfl, _⟩ := I
  unfold wpX_valued wpY_valued
  dsimp only
  by_cases c : ∃ s, s < 8 ∧ v1 = nI s
  · obtain ⟨s, hs8, rfl⟩ := c
    obtain ⟨r, hX, hY⟩ := zq_valued T hiv hs8 16 0 0 (by omega)
    exact zr_sS hs8 (br_f zx_10 ⟨17, hX _ st vl sk tn sc hI (fun st1 vl1 sk1 tn1 sc1 hI1 => zr_bS hs8 (br_t rfl (zy_workOut T (fun hs vl pw pr hR => ⟨17, hY _ _ _ _ _ _ hR ⟨rfl, zr_mk T hI1 hiv⟩⟩))))⟩)
  · exact zr_sN c (br_t rfl (zr_bN c (br_f zx_10 ⟨rfl, I5⟩)))
theorem i_vc_order {k : Nat} {u : SX} {v : SY} (I : i_Rel k u v) (hk : k + 5 ≤ 2560) (v1 : Int32) : wpX_order (fun r u' => wpY_order (fun r' v' => r' = r ∧ i_Rel (k + 5) u' v') v v1) u v1 := by
  have I5 := i_up I
  obtain ⟨kd, ka, kb, K, A, B, st, vl, sk, tn, sc, iv, hs, vl', nd, pw, pr, T, hI, hiv, rfl, rfl, _⟩ := I
  unfold wpX_order wpY_order
  dsimp only
  by_cases c : ∃ s, s < 8 ∧ v1 = nI s
  · obtain ⟨s, hs8, rfl⟩ := c
    obtain ⟨r, hX, hY⟩ := zq_order T hiv hs8 16 0 (by omega)
    exact zr_sS hs8 (br_f zx_10 ⟨17, hX _ st vl sk tn sc hI (fun st1 vl1 sk1 tn1 sc1 hI1 => zr_bS hs8 (br_t rfl (zy_workOut T (fun hs vl pw pr hR => ⟨17, hY _ _ _ _ _ _ hR ⟨rfl, zr_mk T hI1 hiv⟩⟩))))⟩)
  · exact zr_sN c (br_t rfl (zr_bN c (br_f zx_10 ⟨rfl, I5⟩)))
theorem i_vc_agreeing {k : Nat} {u : SX} {v : SY} (I : i_Rel k u v) (hk : k + 5 ≤ 2560) (v1 : Int32) (v2 : Int32) : wpX_agreeing (fun r u' => wpY_agreeing (fun r' v' => r' = r ∧ i_Rel (k + 5) u' v') v v1 v2) u v1 v2 := by
  have I5 := i_up I
  obtain ⟨kd, ka, kb, K, A, B, st, vl, sk, tn, sc, iv, hs, vl', nd, pw, pr, T, hI, hiv, rfl, rfl, _⟩ := I
  unfold wpX_agreeing wpY_agreeing
  dsimp only
  by_cases c : ∃ s, s < 8 ∧ v1 = nI s
  · obtain ⟨s, hs8, rfl⟩ := c
    by_cases c2 : ∃ t, t < 8 ∧ v2 = nI t
    · obtain ⟨t, ht8, rfl⟩ := c2
      obtain ⟨r, hX, hY⟩ := zq_agree T hiv hs8 ht8 16 0 (by omega)
      exact zr_sS hs8 (br_f zx_10 (zr_sS ht8 (br_f zx_10 ⟨17, hX _ st vl sk tn sc hI (fun st1 vl1 sk1 tn1 sc1 hI1 => zr_bS hs8 (br_t rfl (zr_bS ht8 (br_t rfl (zy_workOut T (fun hs vl pw pr hR => ⟨17, hY _ _ _ _ _ _ hR ⟨rfl, zr_mk T hI1 hiv⟩⟩))))))⟩)))
    · exact zr_sS hs8 (br_f zx_10 (zr_sN c2 (br_t rfl (zr_bS hs8 (br_t rfl (zr_bN c2 (br_f zx_10 ⟨rfl, I5⟩)))))))
  · exact zr_sN c (br_t rfl (zr_bN c (br_f zx_10 ⟨rfl, I5⟩)))
end
section
/-! evaluate, sum -/
section
variable {kd ka kb : Nat → Nat} {K A B st vl sk tn sc iv hs nd pw pr : Nat → Int32}
/-- X's Horner from c - 1 down -/
theorem ze_x36 (T : zx_T kd ka kb K A B) (hiv : ∀ j, j < 97 → iv j = nI (zs_iv j)) {post : Int32 → SX → Prop} {s at' : Nat} (hs8 : s < 8) (hat : at' < 97) : ∀ c x acc (st vl sk tn sc : Nat → Int32), x = nI c + (-1) → c ≤ 16 → acc < 97 → zx_I kd ka kb st vl →
    ((∀ i, i < c → zs_D kd ka kb (16 * s + i)) → ∀ st' vl' sk' tn' sc', zx_I kd ka kb st' vl' → post (nI ((acc * at' ^ c + zs_sm (fun i => zs_tv kd ka kb (16 * s + i) * at' ^ i) 0 c) % 97)) (K, A, B, st', vl', sk', tn', sc', iv)) →
    ((¬ ∀ i, i < c → zs_D kd ka kb (16 * s + i)) → ∀ st' vl' sk' tn' sc', zx_I kd ka kb st' vl' → post (-3) (K, A, B, st', vl', sk', tn', sc', iv)) → wX_evaluate_36 post (nI s) (nI at') (c + 1) (nI acc) x K A B st vl sk tn sc iv := by
  intro c
  induction c with
  | zero =>
    intro x acc st vl sk tn sc hx hc hacc hI h1 h0
    subst hx
    have := h1 (fun i hi => absurd hi (by omega)) st vl sk tn sc hI
    rw [zs_sm_z, Nat.add_zero, Nat.pow_zero, Nat.mul_one, Nat.mod_eq_of_lt hacc] at this
    exact br_t za_neg this
  | succ c ih =>
    intro x acc st vl sk tn sc hx hc hacc hI h1 h0
    rw [pk_m1] at hx
    subst hx
    refine br_f (nI_pos (by omega)) ?_
    by_cases D : zs_D kd ka kb (16 * s + c)
    · refine zq_f1 T hiv hs8 (by omega) hI D (fun st' vl' sk' tn' sc' hI' _ _ ev => br_f zx_10 ?_)
      have l := zs_tv_lt T.1 D
      have hm := za_mul_le hacc hat
      rw [za_ix, ev, pk_mul, nI_add, za_97 (by omega)]
      refine ⟨zq_in hs8 (by omega), za_n97, nm_e (nm_e (ih _ _ st' vl' sk' tn' sc' rfl (by omega) (Nat.mod_lt _ (by decide)) hI' (fun hall st2 vl2 sk2 tn2 sc2 hI2 => ?_) (fun hno => h0 (fun h => hno (fun i hi => h i (by omega))))))⟩
      have := h1 (fun i hi => by
        by_cases e : i = c
        · rw [e]; exact D
        · exact hall i (by omega)) st2 vl2 sk2 tn2 sc2 hI2
      rw [zs_sm_last, Nat.zero_add] at this
      rw [show ((acc * at' + zs_tv kd ka kb (16 * s + c)) % 97 * at' ^ c + zs_sm (fun i => zs_tv kd ka kb (16 * s + i) * at' ^ i) 0 c) % 97 = (acc * at' ^ (c + 1) + (zs_sm (fun i => zs_tv kd ka kb (16 * s + i) * at' ^ i) 0 c + zs_tv kd ka kb (16 * s + c) * at' ^ c)) % 97 from ?_]
      · exact this
      · rw [Nat.add_mod, zs_mm', ← Nat.add_mod, Nat.add_mul, Nat.mul_assoc, Nat.mul_comm at' (at' ^ c), ← Nat.pow_succ, Nat.add_assoc, Nat.add_comm (zs_tv kd ka kb (16 * s + c) * at' ^ c)]
    · exact zq_f0 T hiv hs8 (by omega) hI D (fun st' vl' sk' tn' sc' hI' => br_t rfl (h0 (fun h => D (h c (by omega))) _ _ _ _ _ hI'))
theorem ze_y36 {vl : Nat → Int32} (T : zx_T kd ka kb K A B) (hR : zy_R kd ka kb hs vl) {post : Int32 → SY → Prop} {s t at' : Nat} {x3 : Int32} (hs8 : s < 8) (ht : t ≤ 16) (hat : at' < 97) (hred : ∀ (post : Int32 → Prop) (u : SY), post (nI at') → wpY_reduced post u x3)
    (h1 : (∀ i, i < t → zs_D kd ka kb (16 * s + i)) → post (nI (zs_sm (fun i => zs_tv kd ka kb (16 * s + i) * at' ^ i) 0 t % 97)) (K, A, B, hs, vl, nd, pw, pr))
    (h0 : (¬ ∀ i, i < t → zs_D kd ka kb (16 * s + i)) → post (-3) (K, A, B, hs, vl, nd, pw, pr)) : ∀ d n acc, n + d = t → acc < 97 → (∀ i, i < n → zs_D kd ka kb (16 * s + i)) → (acc + zs_sm (fun i => zs_tv kd ka kb (16 * s + i) * at' ^ i) n d) % 97 = zs_sm (fun i => zs_tv kd ka kb (16 * s + i) * at' ^ i) 0 t % 97 → wY_evaluate_36 post (nI s) (nI t) x3 K A B hs vl nd pw pr (d + 1) (nI acc) (nI (at' ^ n % 97)) (nI n) := by
  intro d
  induction d with
  | zero =>
    intro n acc hd hacc hall he
    rw [zs_sm_z, Nat.add_zero, Nat.mod_eq_of_lt hacc] at he
    rw [he]
    exact br_t (nI_le (by omega) (by omega)) (h1 (fun i hi => hall i (by omega)))
  | succ d ih =>
    intro n acc hd hacc hall he
    refine br_f (nI_ge (by omega) (by omega)) ?_
    by_cases D : zs_D kd ka kb (16 * s + n)
    · have l := zs_tv_lt T.1 D
      have l2 := Nat.mod_lt (at' ^ n) (show 97 > 0 from by decide)
      have hm := za_mul_le l l2
      have hm2 := za_mul_le l2 hat
      rw [za_ix, (zq_y1 hR hs8 (by omega) D).1, (zq_y1 hR hs8 (by omega) D).2, pk_mul, nI_add, za_97 (by omega)]
      refine ⟨zq_in hs8 (by omega), br_f zx_10 ⟨zq_in hs8 (by omega), za_n97, nm_e (hred _ _ ⟨za_n97, ?_⟩)⟩⟩
      rw [pk_mul, za_97 (by omega), zs_mm', ← Nat.pow_succ]
      refine nm_e (nm_r (nI_1 n) (ih (n + 1) _ (by omega) (Nat.mod_lt _ (by decide)) (fun i hi => ?_) ?_))
      · by_cases e : i = n
        · rw [e]; exact D
        · exact hall i (by omega)
      · rw [zs_sm_s] at he
        have := zs_mm (zs_tv kd ka kb (16 * s + n)) (at' ^ n)
        omega
    · rw [za_ix]
      exact ⟨zq_in hs8 (by omega), br_t (zq_y0 hR hs8 (by omega) D) (h0 (fun h => D (h n (by omega))))⟩
theorem ze_sum (T : zx_T kd ka kb K A B) (hiv : ∀ j, j < 97 → iv j = nI (zs_iv j)) {s j : Nat} (hs8 : s < 8) (hj : j < 16) : ∀ d n acc, n + d = j + 1 → acc ≤ 97 * n → ∃ r : Int32,
    (∀ (post : Int32 → SX → Prop) (st vl sk tn sc : Nat → Int32), zx_I kd ka kb st vl → (∀ st' vl' sk' tn' sc', zx_I kd ka kb st' vl' → post r (K, A, B, st', vl', sk', tn', sc', iv)) → wX_sum_33 post (nI s) (nI j) (d + 1) (nI (acc % 97)) (nI n) K A B st vl sk tn sc iv) ∧
    (∀ (post : Int32 → SY → Prop) (hs vl nd pw pr : Nat → Int32), zy_R kd ka kb hs vl → post r (K, A, B, hs, vl, nd, pw, pr) → wY_sum_38 post (nI s) (nI j) K A B hs vl nd pw pr (d + 1) (nI acc) (nI n)) := by
  intro d
  induction d with
  | zero =>
    intro n acc hd ha
    have h : nI j < nI n := nI_lt (by omega) (by omega)
    refine ⟨nI (acc % 97), fun post st vl sk tn sc hI hp => br_t h (hp _ _ _ _ _ hI), fun post hs vl nd pw pr hR hp => br_t h ⟨za_n97, ?_⟩⟩
    rw [za_97 (by omega)]
    exact hp
  | succ d ih =>
    intro n acc hd ha
    have h : ¬ nI j < nI n := nI_nlt (by omega) (by omega)
    have hn : n < 16 := by omega
    by_cases D : zs_D kd ka kb (16 * s + n)
    · have l := zs_tv_lt T.1 D
      obtain ⟨r, hX, hY⟩ := ih (n + 1) (acc + zs_tv kd ka kb (16 * s + n)) (by omega) (by omega)
      refine ⟨r, fun post st vl sk tn sc hI hp => br_f h (zq_f1 T hiv hs8 hn hI D (fun st' vl' sk' tn' sc' hI' _ _ ev => br_f zx_10 ?_)), fun post hs vl nd pw pr hR hp => br_f h ?_⟩
      · rw [za_ix, ev, nI_add, za_97 (by omega), Nat.mod_add_mod]
        exact ⟨zq_in hs8 hn, za_n97, nm_e (nm_r (nI_1 n) (hX post _ _ _ _ _ hI' hp))⟩
      · rw [za_ix, (zq_y1 hR hs8 hn D).1, (zq_y1 hR hs8 hn D).2, nI_add]
        exact ⟨zq_in hs8 hn, br_f zx_10 ⟨zq_in hs8 hn, nm_e (nm_r (nI_1 n) (hY post _ _ _ _ _ hR hp))⟩⟩
    · refine ⟨-3, fun post st vl sk tn sc hI hp => br_f h (zq_f0 T hiv hs8 hn hI D (fun st' vl' sk' tn' sc' hI' => br_t rfl (hp _ _ _ _ _ hI'))), fun post hs vl nd pw pr hR hp => br_f h ?_⟩
      rw [za_ix]
      exact ⟨zq_in hs8 hn, br_t (zq_y0 hR hs8 hn D) hp⟩
end
theorem i_vc_evaluate {k : Nat} {u : SX} {v : SY} (I : i_Rel k u v) (hk : k + 5 ≤ 2560) (v1 : Int32) (v2 : Int32) (v3 : Int32) : wpX_evaluate (fun r u' => wpY_evaluate (fun r' v' => r' = r ∧ i_Rel (k + 5) u' v') v v1 v2 v3) u v1 v2 v3 := by
  have I5 := i_up I
  obtain ⟨kd, ka, kb, K, A, B, st, vl, sk, tn, sc, iv, hs, vl', nd, pw, pr, T, hI, hiv, rfl, rfl, _⟩ := I
  unfold wpX_evaluate wpY_evaluate
  dsimp only
  by_cases c : ∃ s, s < 8 ∧ v1 = nI s
  · obtain ⟨s, hs8, rfl⟩ := c
    refine zr_sS hs8 (br_f zx_10 (br_c (fun n0 => zr_bS hs8 (br_t rfl (br_t n0 ⟨rfl, I5⟩))) (fun n0 => br_c (fun n16 => ?_) (fun n16 => zr_bS hs8 (br_t rfl (br_f n0 (br_f n16 ⟨rfl, I5⟩)))))))
    obtain ⟨t, ht, rfl⟩ := nI_of2 (M := 16) (n := 16) (by decide) n0 n16
    obtain ⟨a, ha, hX, hY⟩ := zr_red v3
    refine hX _ (nm_e ⟨t + 1, ?_⟩)
    refine ze_x36 T hiv (at' := a) hs8 ha t _ 0 st vl sk tn sc (by rw [Int32.sub_eq_add_neg]) ht (by decide) hI (fun hall st1 vl1 sk1 tn1 sc1 hI1 => ?_) (fun hno st1 vl1 sk1 tn1 sc1 hI1 => ?_)
    · rw [Nat.zero_mul, Nat.zero_add]
      exact zr_bS hs8 (br_t rfl (br_f n0 (br_t n16 (zy_workOut T (fun hs vl pw pr hR => ⟨t + 1, ze_y36 T hR hs8 ht ha hY (fun _ => ⟨rfl, zr_mk T hI1 hiv⟩) (fun h => absurd hall h) t 0 0 (by omega) (by decide) (fun i hi => absurd hi (by omega)) (by rw [Nat.zero_add])⟩)))))
    · exact zr_bS hs8 (br_t rfl (br_f n0 (br_t n16 (zy_workOut T (fun hs vl pw pr hR => ⟨t + 1, ze_y36 T hR hs8 ht ha hY (fun h => absurd h hno) (fun _ => ⟨rfl, zr_mk T hI1 hiv⟩) t 0 0 (by omega) (by decide) (fun i hi => absurd hi (by omega)) (by rw [Nat.zero_add])⟩)))))
  · exact zr_sN c (br_t rfl (zr_bN c (br_f zx_10 ⟨rfl, I5⟩)))
theorem i_vc_sum {k : Nat} {u : SX} {v : SY} (I : i_Rel k u v) (hk : k + 5 ≤ 2560) (v1 : Int32) (v2 : Int32) (v3 : Int32) : wpX_sum (fun r u' => wpY_sum (fun r' v' => r' = r ∧ i_Rel (k + 5) u' v') v v1 v2 v3) u v1 v2 v3 := by
  have I5 := i_up I
  obtain ⟨kd, ka, kb, K, A, B, st, vl, sk, tn, sc, iv, hs, vl', nd, pw, pr, T, hI, hiv, rfl, rfl, _⟩ := I
  unfold wpX_sum wpY_sum
  dsimp only
  by_cases c : ∃ s, s < 8 ∧ v1 = nI s
  · obtain ⟨s, hs8, rfl⟩ := c
    refine zr_sS hs8 (br_f zx_10 (br_c (fun n0 => zr_bS hs8 (br_t rfl (br_t n0 ⟨rfl, I5⟩))) (fun n0 => br_c (fun nlt => zr_bS hs8 (br_t rfl (br_f n0 (br_t nlt ⟨rfl, I5⟩)))) (fun nlt => ?_))))
    obtain ⟨i, hi, rfl⟩ := nI_of n0
    obtain ⟨j, hj, rfl⟩ := nI_of (x := v3) (fun h => nlt (Int32.lt_of_lt_of_le h (nI_pos' hi)))
    have hij : i ≤ j := by
      rw [nI_ltI hj hi] at nlt
      omega
    refine pk_lt j 16 (fun h16 => ?_) (fun h16 => zr_bS hs8 (br_t rfl (br_f n0 (br_f nlt (br_f (nI_ge (a := 15) (by omega) (by omega)) ⟨rfl, I5⟩)))))
    have h15 : nI j ≤ 15 := nI_le (b := 15) (by omega) (by decide)
    obtain ⟨r, hX, hY⟩ := ze_sum T hiv hs8 h16 (j + 1 - i) i 0 (by omega) (by omega)
    exact ⟨_, hX _ st vl sk tn sc hI (fun st1 vl1 sk1 tn1 sc1 hI1 => zr_bS hs8 (br_t rfl (br_f n0 (br_f nlt (br_t h15 (zy_workOut T (fun hs vl pw pr hR => ⟨_, hY _ _ _ _ _ _ hR ⟨rfl, zr_mk T hI1 hiv⟩⟩)))))))⟩
  · exact zr_sN c (br_t rfl (zr_bN c (br_f zx_10 ⟨rfl, I5⟩)))
end
section
/-! needs: both sides against the least set that holds p's needs and their needs -/
def zn_R (kd ka kb : Nat → Nat) (p q : Nat) : Prop := ∀ S : Nat → Prop, (∀ q, zs_nd kd ka kb p q → S q) → (∀ q r, S q → zs_nd kd ka kb q r → S r) → S q
theorem zn_R1 {kd ka kb : Nat → Nat} {p q : Nat} (h : zs_nd kd ka kb p q) : zn_R kd ka kb p q := fun _ h1 _ => h1 q h
theorem zn_Rs {kd ka kb : Nat → Nat} {p q r : Nat} (h : zn_R kd ka kb p q) (h' : zs_nd kd ka kb q r) : zn_R kd ka kb p r := fun S h1 h2 => h2 q r (h S h1 h2) h'
/-- X: c places queued, the k-th at hand, its needs below i done -/
def zn_X (kd ka kb : Nat → Nat) (p o : Nat) (sk tn : Nat → Int32) (pk : Nat → Nat) (c k i : Nat) : Prop :=
  (1 ≤ c ∧ pk 0 = p) ∧ (∀ j, j < c → pk j < 128 ∧ sk j = nI (pk j) ∧ (j = 0 ∨ zn_R kd ka kb p (pk j))) ∧
  (∀ q, q < 128 → tn q = 0 ∨ (tn q = 1 ∧ ∃ j, j < c ∧ pk j = q)) ∧ tn o = 0 ∧
  (∀ j q, j < k → zs_nd kd ka kb (pk j) q → tn q = 1) ∧ (∀ i' q, i' < i → zs_N kd ka kb (pk k) i' = some q → tn q = 1) ∧ zs_cn tn 128 + c ≤ 129
theorem zn_01 : ¬ (0 : Int32) = 1 := by decide
section
variable {kd ka kb : Nat → Nat} {K A B st vl sc iv : Nat → Int32} {p o : Nat}
theorem zn_X_c {sk tn : Nat → Int32} {pk : Nat → Nat} {c k i : Nat} (ho : o < 128) (h : zn_X kd ka kb p o sk tn pk c k i) : c ≤ 128 := by
  have h1 := zs_cn_pos 128 ho h.2.2.2.1
  have := h.2.2.2.2.2.2
  omega
theorem zn_X_i {sk tn : Nat → Int32} {pk : Nat → Nat} {c k i : Nat} (h : zn_X kd ka kb p o sk tn pk c k i) (hi : ∀ q, zs_N kd ka kb (pk k) i = some q → tn q = 1) : zn_X kd ka kb p o sk tn pk c k (i + 1) := by
  obtain ⟨a1, a2, a3, a4, a5, a6, a7⟩ := h
  refine ⟨a1, a2, a3, a4, a5, fun i' q h1 h2 => ?_, a7⟩
  by_cases e : i' = i
  · subst e; exact hi q h2
  · exact a6 i' q (by omega) h2
theorem zn_X_k (hw : zs_wf kd ka kb) {sk tn : Nat → Int32} {pk : Nat → Nat} {c k i : Nat} (hk : k < c) (hi : 32 ≤ i) (h : zn_X kd ka kb p o sk tn pk c k i) : zn_X kd ka kb p o sk tn pk c (k + 1) 0 := by
  obtain ⟨a1, a2, a3, a4, a5, a6, a7⟩ := h
  refine ⟨a1, a2, a3, a4, fun j q hj hn => ?_, fun i' q h1 _ => absurd h1 (by omega), a7⟩
  by_cases e : j = k
  · subst e
    obtain ⟨i', hi', e'⟩ := zs_nd_N hw (a2 j hk).1 hn
    exact a6 i' q (by omega) e'
  · exact a5 j q (by omega) hn
theorem zn_X_m (hw : zs_wf kd ka kb) {sk tn : Nat → Int32} {pk : Nat → Nat} {c k i q : Nat} (hk : k < c) (ho : o < 128) (h : zn_X kd ka kb p o sk tn pk c k i) (hN : zs_N kd ka kb (pk k) i = some q) (hq : tn q = 0) (hqo : q ≠ o) :
    c < 128 ∧ zn_X kd ka kb p o (upd sk c (nI q)) (upd tn q 1) (zs_un pk c q) (c + 1) k (i + 1) := by
  obtain ⟨a1, a2, a3, a4, a5, a6, a7⟩ := h
  obtain ⟨q128, _, hnd⟩ := zs_N_nd hw (a2 k hk).1 hN
  have h2 := zs_cn_two ho q128 hqo a4 hq
  have h3 := zs_cn_upd zx_10 hq 128 q128
  have mono : ∀ r, tn r = 1 → upd tn q 1 r = 1 := fun r hr => by
    by_cases e : r = q
    · rw [e, pk_us]
    · rw [pk_un e]; exact hr
  refine ⟨by omega, ⟨by omega, by rw [zs_uo (by omega)]; exact a1.2⟩, fun j hj => ?_, fun r hr => ?_, by rw [pk_un (fun e => hqo e.symm)]; exact a4, fun j r hj hn => ?_, fun i' r hi' hr => ?_, by omega⟩
  · by_cases e : j = c
    · rw [e, zs_us, pk_us]
      refine ⟨q128, rfl, Or.inr ?_⟩
      rcases (a2 k hk).2.2 with e0 | hR
      · rw [e0, a1.2] at hnd; exact zn_R1 hnd
      · exact zn_Rs hR hnd
    · rw [zs_uo e, pk_un e]; exact a2 j (by omega)
  · by_cases e : r = q
    · rw [e, pk_us]; exact Or.inr ⟨rfl, c, by omega, zs_us⟩
    · rw [pk_un e]
      rcases a3 r hr with h | ⟨h, j, hj, ej⟩
      · exact Or.inl h
      · exact Or.inr ⟨h, j, by omega, by rw [zs_uo (by omega)]; exact ej⟩
  · rw [zs_uo (by omega)] at hn
    exact mono r (a5 j r hj hn)
  · rw [zs_uo (by omega)] at hr
    by_cases e : i' = i
    · subst e
      rw [hN] at hr
      cases hr
      rw [pk_us]
    · exact mono r (a6 i' r (by omega) hr)
theorem zn_X_no (hw : zs_wf kd ka kb) {sk tn : Nat → Int32} {pk : Nat → Nat} {c k i : Nat} (hp : p < 128) (hk : c ≤ k) (h : zn_X kd ka kb p o sk tn pk c k i) : ¬ zn_R kd ka kb p o := by
  obtain ⟨a1, a2, a3, a4, a5, a6, a7⟩ := h
  intro hR
  have := hR (fun q => q < 128 ∧ tn q = 1) (fun q hq => ⟨zs_nd_lt hw hp hq, a5 0 q (by omega) (by rw [a1.2]; exact hq)⟩) (fun q r hq hn => by
    refine ⟨zs_nd_lt hw hq.1 hn, ?_⟩
    rcases a3 q hq.1 with h | ⟨_, j, hj, ej⟩
    · rw [hq.2] at h; exact absurd h zx_10
    · exact a5 j r (by omega) (by rw [ej]; exact hn))
  rw [a4] at this
  exact zn_01 this.2
theorem zn_x75 (T : zx_T kd ka kb K A B) (ho : o < 128) {post : Int32 → SX → Prop} {J : Int32 → Int32 → (Nat → Int32) → (Nat → Int32) → (Nat → Int32) → (Nat → Int32) → (Nat → Int32) → (Nat → Int32) → (Nat → Int32) → (Nat → Int32) → (Nat → Int32) → Prop} {k : Nat}
    (h1 : zn_R kd ka kb p o → ∀ sk tn, post 1 (K, A, B, st, vl, sk, tn, sc, iv)) (hJ : ∀ c sk tn pk, k < c → zn_X kd ka kb p o sk tn pk c (k + 1) 0 → J (nI c) (nI (k + 1)) K A B st vl sk tn sc iv) :
    ∀ d i c sk tn pk, i + d = 32 → k < c → zn_X kd ka kb p o sk tn pk c k i → wX_needs_75 post J (nI o) (nI k) (d + 1) (nI c) (nI i) K A B st vl sk tn sc iv := by
  have hw := T.1
  intro d
  induction d with
  | zero =>
    intro i c sk tn pk hd hk hX
    exact br_t (nI_le (a := 32) (by omega) (by omega)) (nm_r (nI_1 k) (hJ c sk tn pk hk (zn_X_k hw hk (by omega) hX)))
  | succ d ih =>
    intro i c sk tn pk hd hk hX
    have c128 := zn_X_c ho hX
    have hk2 := hX.2.1 k hk
    refine br_f (nI_ge (b := 32) (by omega) (by decide)) ⟨vp_in_nI (by omega) (by decide), ?_⟩
    rw [nI_clamp (n := k) (by omega), hk2.2.1]
    refine zx_need T hk2.1 (by omega) ?_
    cases hN : zs_N kd ka kb (pk k) i with
    | none =>
      exact br_f (fun e => za_nm (by omega) e.symm) (br_t rfl (nm_r (nI_1 i) (ih (i + 1) c sk tn pk (by omega) hk (zn_X_i hX (fun q hq => by rw [hN] at hq; cases hq)))))
    | some q =>
      obtain ⟨q128, _, hnd⟩ := zs_N_nd hw hk2.1 hN
      have iq : vp_in (nI q) 128 := vp_in_nI q128 (by decide)
      rw [show zx_oi (some q) = nI q from rfl]
      refine pk_eq q o (fun e => h1 ?_ sk tn) (fun ne => br_f (za_nm (by omega)) ⟨iq, ?_⟩)
      · subst e
        rcases hk2.2.2 with e0 | hR
        · rw [e0, hX.1.2] at hnd; exact zn_R1 hnd
        · exact zn_Rs hR hnd
      · rw [nI_clamp (n := q) (by omega)]
        refine br_c (fun z => ?_) (fun z => nm_r (nI_1 i) (ih (i + 1) c sk tn pk (by omega) hk (zn_X_i hX (fun r hr => ?_))))
        · obtain ⟨hc, hX'⟩ := zn_X_m hw hk ho hX hN z ne
          refine pk_le 128 c (fun h => absurd h (by omega)) (fun _ => ⟨iq, nm_e ⟨vp_in_nI hc (by decide), ?_⟩⟩)
          rw [nI_clamp (n := c) (by omega)]
          exact nm_e (nm_r (nI_1 c) (nm_r (nI_1 i) (ih (i + 1) (c + 1) _ _ _ (by omega) (by omega) hX')))
        · rw [hN] at hr
          cases hr
          rcases hX.2.2.1 q q128 with h | h
          · exact absurd h z
          · exact h.1
theorem zn_x58 (T : zx_T kd ka kb K A B) (hp : p < 128) (ho : o < 128) {post : Int32 → SX → Prop}
    (h1 : zn_R kd ka kb p o → ∀ sk tn, post 1 (K, A, B, st, vl, sk, tn, sc, iv)) (h0 : ¬ zn_R kd ka kb p o → ∀ sk tn, post 0 (K, A, B, st, vl, sk, tn, sc, iv)) :
    ∀ d k c sk tn pk, k + d = 129 → k ≤ c → zn_X kd ka kb p o sk tn pk c k 0 → wX_needs_58 post (nI o) (d + 1) (nI c) (nI k) K A B st vl sk tn sc iv := by
  intro d
  induction d with
  | zero =>
    intro k c sk tn pk hd hk hX
    have := zn_X_c ho hX
    omega
  | succ d ih =>
    intro k c sk tn pk hd hk hX
    have c128 := zn_X_c ho hX
    refine pk_le 128 k (fun h => h0 (zn_X_no T.1 hp (by omega) hX) sk tn) (fun _ => pk_le c k (fun h => h0 (zn_X_no T.1 hp h hX) sk tn) (fun h => ⟨33, ?_⟩))
    exact zn_x75 T ho h1 (fun c' sk' tn' pk' hc' hX' => ih (k + 1) c' sk' tn' pk' (by omega) (by omega) hX') 32 0 c sk tn pk (by omega) h hX
theorem zn_x26 (T : zx_T kd ka kb K A B) (hp : p < 128) (ho : o < 128) {post : Int32 → SX → Prop} {sk : Nat → Int32}
    (h1 : zn_R kd ka kb p o → ∀ sk tn, post 1 (K, A, B, st, vl, sk, tn, sc, iv)) (h0 : ¬ zn_R kd ka kb p o → ∀ sk tn, post 0 (K, A, B, st, vl, sk, tn, sc, iv)) :
    ∀ d i tn, i + d = 128 → (∀ j, j < i → tn j = 0) → wX_needs_26 post (nI p) (nI o) (d + 1) (nI i) K A B st vl sk tn sc iv := by
  intro d
  induction d with
  | zero =>
    intro i tn hd H
    have H0 : ∀ j, j < 128 → tn j = 0 := fun j hj => H j (by omega)
    refine br_t (nI_le (a := 128) (by omega) (by omega)) (nm_e ⟨130, zn_x58 T hp ho h1 h0 129 0 1 _ tn (fun _ => p) (by omega) (by omega) ⟨⟨by omega, rfl⟩, fun j hj => ?_, fun q hq => Or.inl (H0 q hq), H0 o ho, fun j q hj _ => absurd hj (by omega), fun i' q hi' _ => absurd hi' (by omega), ?_⟩⟩)
    · have : j = 0 := by omega
      subst this
      exact ⟨hp, pk_us, Or.inl rfl⟩
    · rw [zs_cn_all 128 H0]
      omega
  | succ d ih =>
    intro i tn hd H
    refine br_f (nI_ge (b := 128) (by omega) (by decide)) ?_
    rw [nI_clamp (n := i) (by omega)]
    refine ⟨vp_in_nI (by omega) (by decide), nm_e (nm_r (nI_1 i) (ih (i + 1) _ (by omega) (fun j hj => ?_)))⟩
    by_cases z : j = i
    · subst z; rw [pk_us]
    · rw [pk_un z]; exact H j (by omega)
end
/-! Y -/
def zn_S (kd ka kb : Nat → Nat) (p : Nat) (n0 ne : Nat → Int32) (mo : Int32) (b : Nat) : Prop :=
  (∀ j, j < 128 → ne j = 0 ∨ ne j = 1) ∧ (∀ j, j < 128 → n0 j = 1 → ne j = 1) ∧ (∀ j, j < 128 → ne j = 1 → n0 j = 1 ∨ zs_nd kd ka kb p j) ∧ (∀ j, j < b → zs_nd kd ka kb p j → ne j = 1) ∧ ((mo = 0 ∧ ne = n0) ∨ (mo = 1 ∧ zs_cn ne 128 < zs_cn n0 128))
/-- what holds of the marks all the time -/
def zn_G (kd ka kb : Nat → Nat) (p : Nat) (ne : Nat → Int32) : Prop :=
  (∀ j, j < 128 → ne j = 0 ∨ ne j = 1) ∧ (∀ j, j < 128 → ne j = 1 → zn_R kd ka kb p j) ∧ (∀ j, j < 128 → zs_nd kd ka kb p j → ne j = 1)
section
variable {kd ka kb : Nat → Nat} {K A B hs vl pw pr : Nat → Int32} {p o : Nat}
theorem zn_y4 (T : zx_T kd ka kb K A B) {q : Nat} (hq : q < 128) {n0 : Nat → Int32} {post : Int32 → SY → Prop} (hp : ∀ mo ne, zn_S kd ka kb q n0 ne mo 128 → post mo (K, A, B, hs, vl, ne, pw, pr)) :
    ∀ d b mo ne, b + d = 128 → zn_S kd ka kb q n0 ne mo b → wY_spread_4 post (nI q) (d + 1) mo (nI b) K A B hs vl ne pw pr := by
  intro d
  induction d with
  | zero =>
    intro b mo ne hd hS
    have e : b = 128 := by omega
    subst e
    refine br_t (nI_le (a := 128) (by omega) (by omega)) ⟨?_, hp mo ne hS⟩
    rcases hS.2.2.2.2 with h | h
    · rw [h.1]; rfl
    · rw [h.1]; rfl
  | succ d ih =>
    intro b mo ne hd hS
    have hb : b < 128 := by omega
    have ib : vp_in (nI b) 128 := vp_in_nI hb (by decide)
    obtain ⟨a1, a2, a3, a4, a5⟩ := hS
    have skip : (zs_nd kd ka kb q b → ne b = 1) → wY_spread_4 post (nI q) (d + 1) mo (nI (b + 1)) K A B hs vl ne pw pr := by
      intro h
      refine ih (b + 1) mo ne (by omega) ⟨a1, a2, a3, fun j hj hn => ?_, a5⟩
      by_cases e : j = b
      · subst e; exact h hn
      · exact a4 j (by omega) hn
    refine br_f (nI_ge (b := 128) (by omega) (by decide)) ?_
    rw [nI_clamp (n := b) (by omega), za_m16 (a := q) (by omega), za_m16 (a := b) (by omega), za_d16 (a := q) (by omega), za_d16 (a := b) (by omega), zy_b1]
    refine ⟨ib, br_c (fun z => ⟨za_n16, za_n16, za_n16, za_n16, ?_⟩) (fun z => nm_r (nI_1 b) (skip (fun _ => (a1 b hb).resolve_left z)))⟩
    refine zy_direct T (by omega) (by omega) (by omega) (by omega) (fun dr => br_f zx_10 ⟨ib, nm_e (nm_r (nI_1 b) ?_)⟩) (fun dr => br_t rfl (nm_r (nI_1 b) (skip (fun h => absurd h dr))))
    have hcn := zs_cn_upd zx_10 z 128 hb
    refine ih (b + 1) 1 _ (by omega) ⟨fun j hj => ?_, fun j hj h => ?_, fun j hj h => ?_, fun j hj h => ?_, Or.inr ⟨rfl, ?_⟩⟩
    · by_cases e : j = b
      · rw [e, pk_us]; exact Or.inr rfl
      · rw [pk_un e]; exact a1 j hj
    · by_cases e : j = b
      · rw [e, pk_us]
      · rw [pk_un e]; exact a2 j hj h
    · by_cases e : j = b
      · rw [e]; exact Or.inr dr
      · rw [pk_un e] at h; exact a3 j hj h
    · by_cases e : j = b
      · rw [e, pk_us]
      · rw [pk_un e]; exact a4 j (by omega) h
    · rcases a5 with ⟨_, e⟩ | ⟨_, h⟩
      · rw [e] at hcn ⊢; omega
      · omega
theorem zn_spread (T : zx_T kd ka kb K A B) {q : Nat} (hq : q < 128) {n0 : Nat → Int32} (hb : ∀ j, j < 128 → n0 j = 0 ∨ n0 j = 1) {post : Int32 → SY → Prop} (hp : ∀ mo ne, zn_S kd ka kb q n0 ne mo 128 → post mo (K, A, B, hs, vl, ne, pw, pr)) : wpY_spread post (K, A, B, hs, vl, n0, pw, pr) (nI q) := by
  unfold wpY_spread
  dsimp only
  exact ⟨129, zn_y4 T hq hp 128 0 0 n0 (by omega) ⟨hb, fun _ _ h => h, fun _ _ h => Or.inl h, fun j hj => absurd hj (by omega), Or.inl ⟨rfl, rfl⟩⟩⟩
/-- one round: b places looked at since the marks n0 -/
def zn_Q (kd ka kb : Nat → Nat) (n0 ne : Nat → Int32) (mo : Int32) (b : Nat) : Prop :=
  (mo = 0 ∧ ne = n0 ∧ ∀ j r, j < b → n0 j = 1 → zs_nd kd ka kb j r → n0 r = 1) ∨ (mo = 1 ∧ zs_cn ne 128 < zs_cn n0 128)
theorem zn_y70 (T : zx_T kd ka kb K A B) {n0 : Nat → Int32} {rd : Nat} {post : Int32 → SY → Prop} {J : Int32 → Int32 → (Nat → Int32) → (Nat → Int32) → (Nat → Int32) → (Nat → Int32) → (Nat → Int32) → (Nat → Int32) → (Nat → Int32) → (Nat → Int32) → Prop}
    (hJ : ∀ mo ne, zn_G kd ka kb p ne → zn_Q kd ka kb n0 ne mo 128 → J mo (nI (rd + 1)) K A B hs vl ne pw pr) :
    ∀ d b mo ne, b + d = 128 → zn_G kd ka kb p ne → zn_Q kd ka kb n0 ne mo b → wY_needs_70 post J (nI o) (nI rd) (d + 1) mo (nI b) K A B hs vl ne pw pr := by
  intro d
  induction d with
  | zero =>
    intro b mo ne hd hG hQ
    have e : b = 128 := by omega
    subst e
    exact br_t (nI_le (a := 128) (by omega) (by omega)) (nm_r (nI_1 rd) (hJ mo ne hG hQ))
  | succ d ih =>
    intro b mo ne hd hG hQ
    have hb : b < 128 := by omega
    refine br_f (nI_ge (b := 128) (by omega) (by decide)) ⟨vp_in_nI hb (by decide), ?_⟩
    rw [nI_clamp (n := b) (by omega)]
    refine br_c (fun z => nm_r (nI_1 b) (ih (b + 1) mo ne (by omega) hG ?_)) (fun z => ?_)
    · rcases hQ with ⟨e1, e2, h⟩ | h
      · refine Or.inl ⟨e1, e2, fun j r hj hn hr => ?_⟩
        by_cases e : j = b
        · subst e
          rw [← e2, z] at hn
          exact absurd hn zn_01
        · exact h j r (by omega) hn hr
      · exact Or.inr h
    · have zb : ne b = 1 := (hG.1 b hb).resolve_left z
      refine zn_spread T hb hG.1 (fun mo' ne' hS => ?_)
      obtain ⟨s1, s2, s3, s4, s5⟩ := hS
      have hG' : zn_G kd ka kb p ne' := by
        refine ⟨s1, fun j hj h => ?_, fun j hj hn => ?_⟩
        · rcases s3 j hj h with h | h
          · exact hG.2.1 j hj h
          · exact zn_Rs (hG.2.1 b hb zb) h
        · exact s2 j hj (hG.2.2 j hj hn)
      rcases s5 with ⟨e, e'⟩ | ⟨e, h⟩
      · subst e e'
        refine br_t rfl (nm_r (nI_1 b) (ih (b + 1) mo ne' (by omega) hG' ?_))
        rcases hQ with ⟨e1, e2, h⟩ | h
        · refine Or.inl ⟨e1, e2, fun j r hj hn hr => ?_⟩
          by_cases e : j = b
          · subst e
            rw [← e2]
            exact s4 r (zs_nd_lt T.1 hb hr) hr
          · exact h j r (by omega) hn hr
        · exact Or.inr h
      · subst e
        refine br_f zx_10 (nm_r (nI_1 b) (ih (b + 1) 1 ne' (by omega) hG' (Or.inr ⟨rfl, ?_⟩)))
        rcases hQ with ⟨_, e2, _⟩ | h'
        · rw [e2] at h; exact h
        · have := h'.2; omega
theorem zn_done (hw : zs_wf kd ka kb) {ne : Nat → Int32} (hp8 : p < 128) (ho : o < 128) (hG : zn_G kd ka kb p ne) (hc : ∀ j r, j < 128 → ne j = 1 → zs_nd kd ka kb j r → ne r = 1) : (ne o = 0 ∧ ¬ zn_R kd ka kb p o) ∨ (ne o = 1 ∧ zn_R kd ka kb p o) := by
  rcases hG.1 o ho with h | h
  · refine Or.inl ⟨h, fun hR => ?_⟩
    have := hR (fun q => q < 128 ∧ ne q = 1) (fun q hq => ⟨zs_nd_lt hw hp8 hq, hG.2.2 q (zs_nd_lt hw hp8 hq) hq⟩) (fun q r hq hn => ⟨zs_nd_lt hw hq.1 hn, hc q r hq.1 hq.2 hn⟩)
    rw [h] at this
    exact zn_01 this.2
  · exact Or.inr ⟨h, hG.2.1 o ho h⟩
theorem zn_y111 (hw : zs_wf kd ka kb) {ne : Nat → Int32} (hp8 : p < 128) (ho : o < 128) {post : Int32 → SY → Prop} (h1 : zn_R kd ka kb p o → ∀ ne, post 1 (K, A, B, hs, vl, ne, pw, pr)) (h0 : ¬ zn_R kd ka kb p o → ∀ ne, post 0 (K, A, B, hs, vl, ne, pw, pr)) (hG : zn_G kd ka kb p ne) (hc : ∀ j r, j < 128 → ne j = 1 → zs_nd kd ka kb j r → ne r = 1) : wY_needs_111 post (nI o) K A B hs vl ne pw pr := by
  unfold wY_needs_111
  rw [nI_clamp (n := o) (by omega)]
  refine ⟨vp_in_nI ho (by decide), ?_⟩
  rcases zn_done hw hp8 ho hG hc with ⟨e, h⟩ | ⟨e, h⟩
  · exact br_t e (h0 h ne)
  · exact br_f (by rw [e]; exact zx_10) (h1 h ne)
theorem zn_y53 (T : zx_T kd ka kb K A B) (hp8 : p < 128) (ho : o < 128) {post : Int32 → SY → Prop} (h1 : zn_R kd ka kb p o → ∀ ne, post 1 (K, A, B, hs, vl, ne, pw, pr)) (h0 : ¬ zn_R kd ka kb p o → ∀ ne, post 0 (K, A, B, hs, vl, ne, pw, pr)) :
    ∀ d rd mo ne, rd + d = 128 → zn_G kd ka kb p ne → ((mo = 1 ∧ rd + zs_cn ne 128 ≤ 127) ∨ (mo = 0 ∧ ∀ j r, j < 128 → ne j = 1 → zs_nd kd ka kb j r → ne r = 1)) → wY_needs_53 post (nI o) (d + 1) mo (nI rd) K A B hs vl ne pw pr := by
  intro d
  induction d with
  | zero =>
    intro rd mo ne hd hG hc
    rcases hc with h | h
    · omega
    · exact br_t (nI_le (a := 128) (by omega) (by omega)) (zn_y111 T.1 hp8 ho h1 h0 hG h.2)
  | succ d ih =>
    intro rd mo ne hd hG hc
    refine br_f (nI_ge (b := 128) (by omega) (by decide)) ?_
    rcases hc with ⟨e, h⟩ | ⟨e, h⟩
    · subst e
      refine br_f zx_10 ⟨129, zn_y70 (p := p) (o := o) (n0 := ne) (rd := rd) T (fun mo' ne' hG' hQ => ih (rd + 1) mo' ne' (by omega) hG' ?_) 128 0 0 ne (by omega) hG (Or.inl ⟨rfl, rfl, fun j r hj => absurd hj (by omega)⟩)⟩
      rcases hQ with ⟨e1, e2, h'⟩ | ⟨e1, h'⟩
      · subst e2
        exact Or.inr ⟨e1, h'⟩
      · exact Or.inl ⟨e1, by omega⟩
    · subst e
      exact br_t rfl (zn_y111 T.1 hp8 ho h1 h0 hG h)
theorem zn_y24 (T : zx_T kd ka kb K A B) (hp8 : p < 128) (ho : o < 128) {post : Int32 → SY → Prop} (h1 : zn_R kd ka kb p o → ∀ ne, post 1 (K, A, B, hs, vl, ne, pw, pr)) (h0 : ¬ zn_R kd ka kb p o → ∀ ne, post 0 (K, A, B, hs, vl, ne, pw, pr)) :
    ∀ d i ne, i + d = 128 → (∀ j, j < i → ne j = 0) → wY_needs_24 post (nI p) (nI o) (d + 1) (nI i) K A B hs vl ne pw pr := by
  intro d
  induction d with
  | zero =>
    intro i ne hd H
    have H0 : ∀ j, j < 128 → ne j = 0 := fun j hj => H j (by omega)
    refine br_t (nI_le (a := 128) (by omega) (by omega)) (zn_spread T hp8 (fun j hj => Or.inl (H0 j hj)) (fun mo ne' hS => ?_))
    obtain ⟨s1, s2, s3, s4, s5⟩ := hS
    have hG : zn_G kd ka kb p ne' := by
      refine ⟨s1, fun j hj h => ?_, s4⟩
      rcases s3 j hj h with h | h
      · rw [H0 j hj] at h; exact absurd h zn_01
      · exact zn_R1 h
    refine ⟨129, zn_y53 T hp8 ho h1 h0 128 0 mo ne' (by omega) hG ?_⟩
    rcases s5 with ⟨e, e'⟩ | ⟨e, h⟩
    · subst e'
      exact Or.inr ⟨e, fun j r hj hn _ => by rw [H0 j hj] at hn; exact absurd hn zn_01⟩
    · rw [zs_cn_all 128 H0] at h
      exact Or.inl ⟨e, by omega⟩
  | succ d ih =>
    intro i ne hd H
    refine br_f (nI_ge (b := 128) (by omega) (by decide)) ?_
    rw [zy_b0, nI_clamp (n := i) (by omega)]
    refine ⟨vp_in_nI (by omega) (by decide), nm_e (nm_r (nI_1 i) (ih (i + 1) _ (by omega) (fun j hj => ?_)))⟩
    by_cases z : j = i
    · subst z; rw [pk_us]
    · rw [pk_un z]; exact H j (by omega)
end
theorem i_vc_needs {k : Nat} {u : SX} {v : SY} (I : i_Rel k u v) (hk : k + 5 ≤ 2560) (v1 : Int32) (v2 : Int32) : wpX_needs (fun r u' => wpY_needs (fun r' v' => r' = r ∧ i_Rel (k + 5) u' v') v v1 v2) u v1 v2 := by
  have I5 := i_up I
  obtain ⟨kd, ka, kb, K, A, B, st, vl, sk, tn, sc, iv, hs, vl', nd, pw, pr, T, hI, hiv, rfl, rfl, _⟩ := I
  unfold wpX_needs wpY_needs
  dsimp only
  refine br_c (fun a0 => br_t a0 ⟨rfl, I5⟩) (fun a0 => ?_)
  obtain ⟨p, hp, rfl⟩ := nI_of a0
  refine pk_le 128 p (fun a1 => br_f a0 (br_t (nI_lt (a := 127) (by omega) (by omega)) ⟨rfl, I5⟩)) (fun a1 => ?_)
  have b1 : ¬ (127 : Int32) < nI p := nI_nlt (a := 127) (by omega) (by omega)
  refine br_c (fun a2 => br_f a0 (br_f b1 (br_t a2 ⟨rfl, I5⟩))) (fun a2 => ?_)
  obtain ⟨o, ho, rfl⟩ := nI_of a2
  refine pk_lt o 128 (fun a3 => ?_) (fun a3 => br_f a0 (br_f b1 (br_f a2 (br_f (nI_ge (a := 127) (by omega) (by omega)) ⟨rfl, I5⟩))))
  have b3 : nI o ≤ 127 := nI_le (b := 127) (by omega) (by decide)
  refine ⟨129, zn_x26 T a1 a3 (fun hR sk' tn' => br_f a0 (br_f b1 (br_f a2 (br_t b3 ⟨129, ?_⟩)))) (fun hR sk' tn' => br_f a0 (br_f b1 (br_f a2 (br_t b3 ⟨129, ?_⟩)))) 128 0 tn (by omega) (fun j hj => absurd hj (by omega))⟩
  · exact zn_y24 T a1 a3 (fun _ ne => ⟨rfl, zr_mk T hI hiv⟩) (fun h => absurd hR h) 128 0 nd (by omega) (fun j hj => absurd hj (by omega))
  · exact zn_y24 T a1 a3 (fun h => absurd h hR) (fun _ ne => ⟨rfl, zr_mk T hI hiv⟩) 128 0 nd (by omega) (fun j hj => absurd hj (by omega))
end
