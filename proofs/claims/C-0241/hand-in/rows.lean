section
theorem pk_us {f : Nat → Int32} {k : Nat} {x : Int32} : upd f k x k = x := if_pos rfl
theorem pk_un {f : Nat → Int32} {k j : Nat} {x : Int32} (h : j ≠ k) : upd f k x j = f j := if_neg h
theorem pk_sub {a b : Nat} (h : b ≤ a) : nI a - nI b = nI (a - b) := by
  obtain ⟨c, rfl⟩ : ∃ c, a = c + b := ⟨a - b, by omega⟩
  rw [← nI_add, Int32.add_sub_cancel, Nat.add_sub_cancel]
theorem pk_m1 (n : Nat) : nI (n + 1) + (-1) = nI n := by
  rw [← nI_1, Int32.add_assoc, show (1 : Int32) + (-1) = 0 from rfl, Int32.add_zero]
theorem pk_mul (a b : Nat) : nI a * nI b = nI (a * b) := (Int32.ofNat_mul a b).symm
theorem pk_div {a d : Nat} (ha : a < 2 ^ 31) (h0 : 0 < d) (hd : d < 2 ^ 31) : nI a / nI d = nI (a / d) := by
  apply Int32.toInt_inj.mp
  rw [lg_idiv_nonneg (by rw [nI_toInt ha]; omega) (by rw [nI_toInt hd]; omega), nI_toInt ha, nI_toInt hd, nI_toInt (Nat.lt_of_le_of_lt (Nat.div_le_self a d) ha)]
  first | rfl | exact (Int.natCast_ediv _ _).symm
theorem pk_rem {a d : Nat} (ha : a < 2 ^ 31) (h0 : 0 < d) (hd : d < 2 ^ 31) : nI a - nI a / nI d * nI d = nI (a % d) := by
  rw [pk_div ha h0 hd, pk_mul, pk_sub (Nat.div_mul_le_self a d)]
  exact congrArg nI (by have := Nat.div_add_mod' a d; omega)
theorem pk_ix (x : Int32) {n : Nat} (hn : n < 2 ^ 31) : x < 0 ∨ nI n ≤ x ∨ ∃ j : Nat, j < n ∧ x = nI j := by
  by_cases h : x < 0
  · exact Or.inl h
  · obtain ⟨j, hj, rfl⟩ := nI_of h
    by_cases h2 : j < n
    · exact Or.inr (Or.inr ⟨j, h2, rfl⟩)
    · exact Or.inr (Or.inl (nI_le (by omega) hj))
theorem pk_le {x y : Int32} {A B : Prop} (a b : Nat) (f : a ≤ b → A) (g : b < a → B) (hx : x = nI a := by rfl) (hy : y = nI b := by rfl) (ha : a < 2 ^ 31 := by omega) (hb : b < 2 ^ 31 := by omega) : (x ≤ y → A) ∧ (¬ x ≤ y → B) := by
  subst hx hy
  rw [nI_leI ha hb]
  exact ⟨f, fun z => g (by omega)⟩
theorem pk_lt {x y : Int32} {A B : Prop} (a b : Nat) (f : a < b → A) (g : b ≤ a → B) (hx : x = nI a := by rfl) (hy : y = nI b := by rfl) (ha : a < 2 ^ 31 := by omega) (hb : b < 2 ^ 31 := by omega) : (x < y → A) ∧ (¬ x < y → B) := by
  subst hx hy
  rw [nI_ltI ha hb]
  exact ⟨f, fun z => g (by omega)⟩
theorem pk_eq {x y : Int32} {A B : Prop} (a b : Nat) (f : a = b → A) (g : a ≠ b → B) (hx : x = nI a := by rfl) (hy : y = nI b := by rfl) (ha : a < 2 ^ 31 := by omega) (hb : b < 2 ^ 31 := by omega) : (x = y → A) ∧ (¬ x = y → B) := by
  subst hx hy
  rw [nI_eq ha hb]
  exact ⟨f, g⟩
theorem pk_in {x : Int32} (n N : Nat) (h : n < N) (hx : x = nI n := by rfl) (hN : N < 2 ^ 31 := by omega) : vp_in x N := by
  subst hx
  exact vp_in_nI h hN
theorem pk_cl {x : Int32} (n : Nat) (hx : x = nI n := by rfl) (h : n < 2 ^ 31 := by omega) : x.toNatClampNeg = n := by
  subst hx
  exact nI_clamp h
theorem pk_tn {n : Nat} (h : n < 2 ^ 32) : (nI n).toBitVec.toNat = n := Nat.mod_eq_of_lt h
theorem pk_and (x : Int32) {m : Int32} (k : Nat) (hm : m.toBitVec.toNat = 2 ^ k - 1) : x &&& m = nI (x.toBitVec.toNat % 2 ^ k) := by
  apply Int32.toBitVec_inj.mp
  apply BitVec.eq_of_toNat_eq
  rw [Int32.toBitVec_and, BitVec.toNat_and, hm, Nat.and_two_pow_sub_one_eq_mod]
  show _ = (BitVec.ofNat 32 _).toNat
  rw [BitVec.toNat_ofNat]
  exact (Nat.mod_eq_of_lt (Nat.lt_of_le_of_lt (Nat.mod_le _ _) x.toBitVec.isLt)).symm
theorem pk_andN {n : Nat} (h : n < 2 ^ 32) {m : Int32} (k : Nat) (hm : m.toBitVec.toNat = 2 ^ k - 1) : nI n &&& m = nI (n % 2 ^ k) := by
  rw [pk_and _ k hm, pk_tn h]
theorem pk_shl (a s : Int32) (k : Nat) (hs : (s.toBitVec.smod 32).toNat = k) : (a <<< s).toBitVec.toNat = a.toBitVec.toNat * 2 ^ k % 2 ^ 32 := by
  show (a.toBitVec <<< (s.toBitVec.smod 32).toNat).toNat = _
  rw [hs, BitVec.toNat_shiftLeft, Nat.shiftLeft_eq]
theorem pk_shlN {n : Nat} (s : Int32) (k : Nat) (hs : (s.toBitVec.smod 32).toNat = k) (h : n * 2 ^ k < 2 ^ 32) : nI n <<< s = nI (n * 2 ^ k) := by
  apply Int32.toBitVec_inj.mp
  apply BitVec.eq_of_toNat_eq
  have hn : n < 2 ^ 32 := Nat.lt_of_le_of_lt (Nat.le_mul_of_pos_right n (Nat.two_pow_pos k)) h
  rw [pk_shl _ _ k hs, pk_tn hn, pk_tn h, Nat.mod_eq_of_lt h]
theorem pk_shr (a s : Int32) (k : Nat) (hs : (s.toBitVec.smod 32).toNat = k) : (a >>> s).toInt = a.toInt >>> k := by
  show (a.toBitVec.sshiftRight (s.toBitVec.smod 32).toNat).toInt = _
  rw [hs, BitVec.toInt_sshiftRight]
  rfl
theorem pk_shrN {n : Nat} (h : n < 2 ^ 31) (s : Int32) (k : Nat) (hs : (s.toBitVec.smod 32).toNat = k) : nI n >>> s = nI (n / 2 ^ k) := by
  apply Int32.toInt_inj.mp
  have h2 : n / 2 ^ k ≤ n := Nat.div_le_self _ _
  rw [pk_shr _ _ k hs, nI_toInt h, nI_toInt (by omega), Int.shiftRight_eq_div_pow]
  rfl
theorem s_l : ∀ n, n < 32 → ((nI n &&& 31).toBitVec.smod 32).toNat = n := by decide +kernel
/-! own rows: an int32 as the image of an integer -/
def bk_I (z : Int) : Int32 := Int32.ofInt z
theorem bk_nat (n : Nat) : bk_I (n : Int) = nI n := Int32.ofInt_eq_ofNat
theorem bk_nat' (n : Nat) : nI n = bk_I (n : Int) := (bk_nat n).symm
theorem bk_add (a b : Int) : bk_I a + bk_I b = bk_I (a + b) := (Int32.ofInt_add a b).symm
theorem bk_sub (a b : Int) : bk_I a - bk_I b = bk_I (a - b) := (Int32.ofInt_sub a b).symm
theorem bk_mul (a b : Int) : bk_I a * bk_I b = bk_I (a * b) := (Int32.ofInt_mul a b).symm
theorem bk_neg (a : Int) : -bk_I a = bk_I (-a) := (Int32.ofInt_neg a).symm
theorem bk_self (x : Int32) : bk_I x.toInt = x := Int32.ofInt_toInt x
theorem bk_self' (x : Int32) : x = bk_I x.toInt := (Int32.ofInt_toInt x).symm
theorem bk_toInt {a : Int} (h : -2147483648 ≤ a) (h2 : a < 2147483648) : (bk_I a).toInt = a := Int32.toInt_ofInt_of_le (by omega) (by omega)
theorem bk_le {a b : Int} (ha : -2147483648 ≤ a) (ha2 : a < 2147483648) (hb : -2147483648 ≤ b) (hb2 : b < 2147483648) : bk_I a ≤ bk_I b ↔ a ≤ b := by
  rw [Int32.le_iff_toInt_le, bk_toInt ha ha2, bk_toInt hb hb2]
theorem bk_lt {a b : Int} (ha : -2147483648 ≤ a) (ha2 : a < 2147483648) (hb : -2147483648 ≤ b) (hb2 : b < 2147483648) : bk_I a < bk_I b ↔ a < b := by
  rw [Int32.lt_iff_toInt_lt, bk_toInt ha ha2, bk_toInt hb hb2]
theorem bk_lex {a : Int} (x : Int32) (ha : -2147483648 ≤ a) (ha2 : a < 2147483648) : x ≤ bk_I a ↔ x.toInt ≤ a := by
  rw [Int32.le_iff_toInt_le, bk_toInt ha ha2]
theorem bk_xle {a : Int} (x : Int32) (ha : -2147483648 ≤ a) (ha2 : a < 2147483648) : bk_I a ≤ x ↔ a ≤ x.toInt := by
  rw [Int32.le_iff_toInt_le, bk_toInt ha ha2]
theorem bk_xlt {a : Int} (x : Int32) (ha : -2147483648 ≤ a) (ha2 : a < 2147483648) : bk_I a < x ↔ a < x.toInt := by
  rw [Int32.lt_iff_toInt_lt, bk_toInt ha ha2]
theorem bk_ltx {a : Int} (x : Int32) (ha : -2147483648 ≤ a) (ha2 : a < 2147483648) : x < bk_I a ↔ x.toInt < a := by
  rw [Int32.lt_iff_toInt_lt, bk_toInt ha ha2]
theorem bk_x0 (x : Int32) : x < 0 ↔ x.toInt < 0 := by
  rw [Int32.lt_iff_toInt_lt]; exact Iff.rfl
theorem bk_0x (x : Int32) : 0 < x ↔ 0 < x.toInt := by
  rw [Int32.lt_iff_toInt_lt]; exact Iff.rfl
/-- a shift to the left is a product -/
theorem bk_shl (x : Int32) {h : Nat} (hh : h < 32) : x <<< (nI h &&& 31) = x * nI (2 ^ h) := by
  apply Int32.toBitVec_inj.mp
  apply BitVec.eq_of_toNat_eq
  rw [pk_shl _ _ h (s_l h hh), Int32.toBitVec_mul, BitVec.toNat_mul]
  have e : (nI (2 ^ h)).toBitVec.toNat = 2 ^ h := pk_tn (Nat.pow_lt_pow_right (by decide) hh)
  rw [e]
theorem bk_shln {n h : Nat} (hh : h < 32) : nI n <<< (nI h &&& 31) = nI (n * 2 ^ h) := by
  rw [bk_shl _ hh, pk_mul]
theorem bk_shrn {n h : Nat} (hn : n < 2 ^ 31) (hh : h < 32) : nI n >>> (nI h &&& 31) = nI (n / 2 ^ h) := pk_shrN hn _ h (s_l h hh)
theorem bk_and1 {n : Nat} (h : n < 2 ^ 32) : nI n &&& 1 = nI (n % 2) := pk_andN h 1 (by decide)
theorem bk_nar0 : vp_nar .boolean 0 = 0 := rfl
theorem bk_nar1 : vp_nar .boolean 1 = 1 := rfl
theorem bk_nar {x : Int32} (h : x = 0 ∨ x = 1) : vp_nar .boolean x = x := by
  rcases h with rfl | rfl <;> rfl
end
section
/-! balances B (B 0 = 0 ahead of the first day, B (d + 1) behind day d); the least of them and their sum over a stretch; the nodes of the tree -/
def bk_mn (B : Nat → Int) (lo : Nat) : Nat → Int
  | 0 => B lo + 2147483647
  | w + 1 => min (bk_mn B lo w) (B (lo + w + 1))
def bk_ar (B : Nat → Int) (lo : Nat) : Nat → Int
  | 0 => 0
  | w + 1 => bk_ar B lo w + B (lo + w + 1)
def bk_bd (B : Nat → Int) : Prop := ∀ j, -600000 ≤ B j ∧ B j ≤ 600000
theorem bk_mn_le {B : Nat → Int} {lo : Nat} : ∀ {w k : Nat}, 1 ≤ k → k ≤ w → bk_mn B lo w ≤ B (lo + k)
  | 0, k, h1, h2 => by omega
  | w + 1, k, h1, h2 => by
    show min (bk_mn B lo w) (B (lo + w + 1)) ≤ B (lo + k)
    by_cases e : k = w + 1
    · subst e
      exact Int.min_le_right _ _
    · have := bk_mn_le (B := B) (lo := lo) (w := w) (k := k) h1 (by omega)
      exact Int.le_trans (Int.min_le_left _ _) this
theorem bk_mn_1 {B : Nat → Int} (hb : bk_bd B) (lo : Nat) : bk_mn B lo 1 = B (lo + 1) := by
  show min (B lo + 2147483647) (B (lo + 0 + 1)) = B (lo + 1)
  have h1 := hb lo
  have h2 := hb (lo + 1)
  rw [Nat.add_zero]
  generalize B lo = x at *
  generalize B (lo + 1) = y at *
  omega
theorem bk_mn_ex {B : Nat → Int} (hb : bk_bd B) {lo : Nat} : ∀ {w : Nat}, 1 ≤ w → ∃ k, 1 ≤ k ∧ k ≤ w ∧ bk_mn B lo w = B (lo + k)
  | 0, h => by omega
  | w + 1, _ => by
    by_cases hw : w = 0
    · subst hw
      exact ⟨1, by omega, by omega, bk_mn_1 hb lo⟩
    · obtain ⟨k, h1, h2, h3⟩ := bk_mn_ex hb (lo := lo) (w := w) (by omega)
      show ∃ k, 1 ≤ k ∧ k ≤ w + 1 ∧ min (bk_mn B lo w) (B (lo + w + 1)) = B (lo + k)
      by_cases c : bk_mn B lo w ≤ B (lo + w + 1)
      · exact ⟨k, h1, by omega, by rw [Int.min_eq_left c, h3]⟩
      · exact ⟨w + 1, by omega, by omega, by rw [Int.min_eq_right (by omega)]; rfl⟩
theorem bk_mn_add {B : Nat → Int} (hb : bk_bd B) (f a : Nat) : ∀ {b : Nat}, 1 ≤ b → bk_mn B f (a + b) = min (bk_mn B f a) (bk_mn B (f + a) b)
  | 0, h => by omega
  | b + 1, _ => by
    by_cases hw : b = 0
    · subst hw
      rw [bk_mn_1 hb]
      rfl
    · have ih := bk_mn_add hb f a (b := b) (by omega)
      show min (bk_mn B f (a + b)) (B (f + (a + b) + 1)) = min (bk_mn B f a) (min (bk_mn B (f + a) b) (B (f + a + b + 1)))
      rw [ih, Nat.add_assoc f a b]
      generalize bk_mn B f a = x
      generalize bk_mn B (f + a) b = y
      generalize B (f + (a + b) + 1) = z
      omega
theorem bk_ar_add (B : Nat → Int) (f a : Nat) : ∀ b : Nat, bk_ar B f (a + b) = bk_ar B f a + bk_ar B (f + a) b
  | 0 => by show bk_ar B f a = bk_ar B f a + 0; omega
  | b + 1 => by
    have ih := bk_ar_add B f a b
    show bk_ar B f (a + b) + B (f + (a + b) + 1) = bk_ar B f a + (bk_ar B (f + a) b + B (f + a + b + 1))
    rw [ih, Nat.add_assoc f a b]
    omega
theorem bk_mn_bd {B : Nat → Int} (hb : bk_bd B) {lo w : Nat} (h : 1 ≤ w) : -600000 ≤ bk_mn B lo w ∧ bk_mn B lo w ≤ 600000 := by
  obtain ⟨k, _, _, e⟩ := bk_mn_ex hb (lo := lo) h
  rw [e]
  exact hb _
/-- also of no days -/
theorem bk_mn_bd0 {B : Nat → Int} (hb : bk_bd B) {lo w : Nat} : -600000 ≤ bk_mn B lo w ∧ bk_mn B lo w - B lo ≤ 2147483647 := by
  by_cases h : w = 0
  · subst h
    show -600000 ≤ B lo + 2147483647 ∧ B lo + 2147483647 - B lo ≤ 2147483647
    have := hb lo
    omega
  · have h1 := bk_mn_bd hb (lo := lo) (w := w) (by omega)
    have := hb lo
    omega
theorem bk_mn_shift {B C : Nat → Int} {lo : Nat} {t : Int} : ∀ {w : Nat}, (∀ k, k ≤ w → C (lo + k) = B (lo + k) + t) → bk_mn C lo w = bk_mn B lo w + t
  | 0, h => by
    show C lo + 2147483647 = B lo + 2147483647 + t
    have := h 0 (by omega)
    rw [Nat.add_zero] at this
    omega
  | w + 1, h => by
    have ih := bk_mn_shift (B := B) (C := C) (lo := lo) (t := t) (w := w) (fun k hk => h k (by omega))
    have e := h (w + 1) (by omega)
    show min (bk_mn C lo w) (C (lo + w + 1)) = min (bk_mn B lo w) (B (lo + w + 1)) + t
    rw [ih]
    rw [show lo + w + 1 = lo + (w + 1) from rfl, e]
    omega
theorem bk_ar_shift {B C : Nat → Int} {lo : Nat} {t : Int} : ∀ {w : Nat}, (∀ k, k ≤ w → C (lo + k) = B (lo + k) + t) → bk_ar C lo w = bk_ar B lo w + (w : Int) * t
  | 0, h => by
    show (0 : Int) = 0 + ((0 : Nat) : Int) * t
    rw [show ((0 : Nat) : Int) = 0 from rfl, Int.zero_mul]
    rfl
  | w + 1, h => by
    have ih := bk_ar_shift (B := B) (C := C) (lo := lo) (t := t) (w := w) (fun k hk => h k (by omega))
    have e := h (w + 1) (by omega)
    show bk_ar C lo w + C (lo + w + 1) = bk_ar B lo w + B (lo + w + 1) + ((w + 1 : Nat) : Int) * t
    rw [ih, show lo + w + 1 = lo + (w + 1) from rfl, e, Int.natCast_add, Int.add_mul, show ((1 : Nat) : Int) = 1 from rfl, Int.one_mul]
    omega
/-- width and first day of a node -/
def bk_wd (n : Nat) : Nat := if 64 ≤ n then 1 else if 32 ≤ n then 2 else if 16 ≤ n then 4 else if 8 ≤ n then 8 else if 4 ≤ n then 16 else if 2 ≤ n then 32 else 64
def bk_lo (n : Nat) : Nat := n * bk_wd n - 64
theorem bk_kid : ∀ n, n < 64 → 1 ≤ n → bk_wd (2 * n) = bk_wd (2 * n + 1) ∧ bk_wd n = 2 * bk_wd (2 * n) ∧ bk_lo (2 * n) = bk_lo n ∧ bk_lo (2 * n + 1) = bk_lo n + bk_wd (2 * n) := by decide +kernel
theorem bk_fit : ∀ n, n < 128 → 1 ≤ n → bk_lo n + bk_wd n ≤ 64 ∧ 1 ≤ bk_wd n ∧ 64 ≤ n * bk_wd n := by decide +kernel
theorem bk_pow : ∀ n, n < 128 → ∀ l, l < 6 → bk_wd n ≤ 2 ^ (l + 1) → bk_wd n = 2 ^ (l + 1) ∨ bk_wd n ≤ 2 ^ l := by decide +kernel
theorem bk_leaf : ∀ d, d < 64 → bk_wd (64 + d) = 1 ∧ bk_lo (64 + d) = d := by decide +kernel
theorem bk_at' : ∀ t, t < 64 → ∀ h, h < 7 → (t % 2 ^ h = 0 ∧ t + 2 ^ h ≤ 64) → (bk_wd ((64 + t) / 2 ^ h) = 2 ^ h ∧ bk_lo ((64 + t) / 2 ^ h) = t ∧ 1 ≤ (64 + t) / 2 ^ h ∧ (64 + t) / 2 ^ h < 128) := by decide +kernel
theorem bk_at (t : Nat) (ht : t < 64) (h : Nat) (hh : h < 7) (h1 : t % 2 ^ h = 0) (h2 : t + 2 ^ h ≤ 64) : bk_wd ((64 + t) / 2 ^ h) = 2 ^ h ∧ bk_lo ((64 + t) / 2 ^ h) = t ∧ 1 ≤ (64 + t) / 2 ^ h ∧ (64 + t) / 2 ^ h < 128 := bk_at' t ht h hh ⟨h1, h2⟩
theorem bk_over : ∀ d, d < 64 → ∀ l, l < 7 → bk_wd ((64 + d) / 2 ^ l) = 2 ^ l ∧ bk_lo ((64 + d) / 2 ^ l) ≤ d ∧ d < bk_lo ((64 + d) / 2 ^ l) + 2 ^ l ∧ 1 ≤ (64 + d) / 2 ^ l ∧ (64 + d) / 2 ^ l < 128 / 2 ^ l := by decide +kernel
theorem bk_uniq {n d : Nat} (h1 : 1 ≤ n) (h2 : n < 128) (a : bk_lo n ≤ d) (b : d < bk_lo n + bk_wd n) : n = (64 + d) / bk_wd n := by
  obtain ⟨_, q, r⟩ := bk_fit n h2 h1
  unfold bk_lo at a b
  generalize hw : bk_wd n = w at *
  have e : n * w ≤ 64 + d ∧ 64 + d < n * w + w := by omega
  apply Eq.symm
  apply Nat.div_eq_of_lt_le
  · exact e.1
  · rw [Nat.succ_mul]; exact e.2
/-- a node as it must be: change, least running sum, sum of running sums -/
def bk_N (B : Nat → Int) (ch le ar : Nat → Int32) (o n : Nat) : Prop :=
  ch (o + n) = bk_I (B (bk_lo n + bk_wd n) - B (bk_lo n)) ∧ le (o + n) = bk_I (bk_mn B (bk_lo n) (bk_wd n) - B (bk_lo n)) ∧ ar (o + n) = bk_I (bk_ar B (bk_lo n) (bk_wd n) - (bk_wd n : Int) * B (bk_lo n))
theorem bk_N_shift {B C : Nat → Int} {ch le ar : Nat → Int32} {o n : Nat} {t : Int} (h : ∀ k, k ≤ bk_wd n → C (bk_lo n + k) = B (bk_lo n + k) + t) (H : bk_N B ch le ar o n) : bk_N C ch le ar o n := by
  obtain ⟨a, b, c⟩ := H
  have e0 := h 0 (by omega)
  rw [Nat.add_zero] at e0
  refine ⟨?_, ?_, ?_⟩
  · rw [a, h _ (Nat.le_refl _), e0]
    exact congrArg bk_I (by omega)
  · rw [b, bk_mn_shift h, e0]
    exact congrArg bk_I (by omega)
  · rw [c, bk_ar_shift h, e0, Int.mul_add]
    exact congrArg bk_I (by omega)
/-- the walk's widest node, and that fourteen of them are enough -/
def bk_wi (t l : Nat) : Nat → Nat → Nat
  | 0, h => h
  | f + 1, h => if t / 2 ^ h % 2 = 0 ∧ t + 2 * 2 ^ h - 1 ≤ l then bk_wi t l f (h + 1) else h
def bk_cov (e : Nat) : Nat → Nat → Bool
  | 0, t => decide (e ≤ t)
  | k + 1, t => decide (e ≤ t) || bk_cov e k (t + 2 ^ bk_wi t (e - 1) 6 0)
theorem bk_wi_ok : ∀ t, t < 48 → ∀ l, l < 48 → t ≤ l → bk_wi t l 6 0 < 6 ∧ t % 2 ^ bk_wi t l 6 0 = 0 ∧ t + 2 ^ bk_wi t l 6 0 ≤ l + 1 := by decide +kernel
theorem bk_cov_ok : ∀ t, t < 49 → ∀ e, e < 49 → t ≤ e → bk_cov e 14 t = true := by decide +kernel
theorem bk_cov_0 {e t : Nat} (h : bk_cov e 0 t = true) : e ≤ t := of_decide_eq_true h
theorem bk_cov_s {e k t : Nat} (h : bk_cov e (k + 1) t = true) (h2 : t < e) : bk_cov e k (t + 2 ^ bk_wi t (e - 1) 6 0) = true := by
  have h3 : (decide (e ≤ t) || bk_cov e k (t + 2 ^ bk_wi t (e - 1) 6 0)) = true := h
  rw [decide_eq_false (by omega), Bool.false_or] at h3
  exact h3
end
section
/-! the component's readers over the tree: widest, walk, lowestIn, bears, isSound -/
theorem bk_mn_ge {B : Nat → Int} (hb : bk_bd B) {lo w : Nat} {z : Int} (h : 1 ≤ w) : z ≤ bk_mn B lo w ↔ ∀ k, 1 ≤ k → k ≤ w → z ≤ B (lo + k) := by
  constructor
  · intro hz k h1 h2
    exact Int.le_trans hz (bk_mn_le h1 h2)
  · intro hz
    obtain ⟨k, h1, h2, e⟩ := bk_mn_ex hb (lo := lo) h
    rw [e]
    exact hz k h1 h2
theorem bk_two {h : Nat} (hh : h < 7) : 2 ^ h ≤ 64 := by
  show 2 ^ h ≤ 2 ^ 6
  exact Nat.pow_le_pow_right (by decide) (by omega)
theorem bk_two' (h : Nat) : 1 ≤ 2 ^ h := Nat.two_pow_pos h
theorem bk_widest_l {post : Int32 → Prop} {t l : Nat} (ht : t < 64) (hl : l < 64) : ∀ (f h n : Nat), f + h = 6 → f < n → post (nI (bk_wi t l f h)) → wX_widest_2 post (nI t) (nI l) n (nI h) := by
  intro f
  induction f with
  | zero =>
    intro h n e hn H
    obtain ⟨m, rfl⟩ : ∃ m, n = m + 1 := ⟨n - 1, by omega⟩
    exact br_t (nI_le (a := 6) (b := h) (by omega) (by omega)) H
  | succ f ih =>
    intro h n e hn H
    obtain ⟨m, rfl⟩ : ∃ m, n = m + 1 := ⟨n - 1, by omega⟩
    have hp := bk_two (h := h) (by omega)
    have hq := bk_two' h
    have h6 : ¬ (6 : Int32) ≤ nI h := nI_ge (a := h) (b := 6) (by omega) (by decide)
    have e1 : (nI t >>> (nI h &&& 31)) &&& 1 = nI (t / 2 ^ h % 2) := by
      rw [bk_shrn (by omega) (by omega), bk_and1]
      exact Nat.lt_of_le_of_lt (Nat.div_le_self _ _) (by omega)
    have e2 : nI t + (2 : Int32) <<< (nI h &&& 31) - 1 = nI (t + 2 * 2 ^ h - 1) := by
      show nI t + nI 2 <<< (nI h &&& 31) - nI 1 = nI (t + 2 * 2 ^ h - 1)
      rw [bk_shln (by omega), nI_add, pk_sub (by omega)]
    refine br_f h6 ?_
    by_cases c1 : t / 2 ^ h % 2 = 0
    · refine br_t (by rw [e1, c1]; rfl) ?_
      by_cases c2 : t + 2 * 2 ^ h - 1 ≤ l
      · refine br_f (by rw [e2]; exact nI_nlt c2 (by omega)) (nm_r (nI_1 h) ?_)
        refine ih (h + 1) m (by omega) (by omega) ?_
        rw [bk_wi, if_pos ⟨c1, c2⟩] at H
        exact H
      · refine br_t (by rw [e2]; exact nI_lt (by omega) (by omega)) ?_
        rw [bk_wi, if_neg (fun q => c2 q.2)] at H
        exact H
    · refine br_f (fun q => c1 ?_) ?_
      · rw [e1] at q
        exact (nI_eq (b := 0) (by omega) (by omega)).mp q
      · rw [bk_wi, if_neg (fun q => c1 q.1)] at H
        exact H
theorem bk_widest {post : Int32 → Prop} {t l : Nat} (ht : t < 64) (hl : l < 64) (H : post (nI (bk_wi t l 6 0))) : wpX_widest post (nI t) (nI l) := ⟨7, bk_widest_l ht hl 6 0 7 rfl (by decide) H⟩
section
variable {fc fg fm fb wc wl wa : Int32} {ac dy am gn fl ch le ar lg : Nat → Int32}
theorem bk_walk_l {post : SX → Prop} {B : Nat → Int} {a f z : Nat} (ha : a < 4) (hb : bk_bd B) (hT : ∀ n, 1 ≤ n → n < 128 → bk_N B ch le ar (128 * a) n) (he : f + z ≤ 48) {p2 : Int32} (hp : p2 = bk_I (((f + z : Nat) : Int) - 1))
    (H : post (fc, fg, fm, fb, bk_I (B (f + z) - B f), bk_I (bk_mn B f z - B f), bk_I (bk_ar B f z - (z : Int) * B f), ac, dy, am, gn, fl, ch, le, ar, lg)) :
    ∀ (k s : Nat), s ≤ z → k ≤ 14 → bk_cov (f + z) k (f + s) = true → wX_walk_29 post p2 (nI (128 * a)) fc fg fm fb ac dy am gn fl ch le ar lg (k + 1) (nI (f + s)) (nI (14 - k)) (bk_I (B (f + s) - B f)) (bk_I (bk_mn B f s - B f)) (bk_I (bk_ar B f s - (s : Int) * B f)) := by
  intro k
  induction k with
  | zero =>
    intro s hs hk hc
    have h := bk_cov_0 hc
    obtain rfl : s = z := by omega
    exact br_t (nI_le (a := 14) (b := 14 - 0) (by decide) (by decide)) H
  | succ k ih =>
    intro s hs hk hc
    refine br_f (nI_ge (a := 14 - (k + 1)) (b := 14) (by omega) (by decide)) ?_
    by_cases c : s = z
    · subst c
      refine br_t ?_ H
      rw [hp, bk_nat', bk_lt (by omega) (by omega) (by omega) (by omega)]
      omega
    · refine br_f ?_ ?_
      · rw [hp, bk_nat', bk_lt (by omega) (by omega) (by omega) (by omega)]
        omega
      · have hp' : p2 = nI (f + z - 1) := by
          rw [hp, bk_nat']
          exact congrArg bk_I (by omega)
        rw [hp']
        refine bk_widest (by omega) (by omega) ?_
        obtain ⟨w1, w2, w3⟩ := bk_wi_ok (f + s) (by omega) (f + z - 1) (by omega) (by omega)
        have hc' := bk_cov_s hc (by omega)
        generalize hh : bk_wi (f + s) (f + z - 1) 6 0 = h at *
        have hp2 := bk_two (h := h) (by omega)
        have hq := bk_two' h
        obtain ⟨n1, n2, n3, n4⟩ := bk_at (f + s) (by omega) h (by omega) w2 (by omega)
        have hN := hT _ n3 n4
        generalize hn : (64 + (f + s)) / 2 ^ h = N at *
        unfold bk_N at hN
        rw [n1, n2] at hN
        generalize hw : 2 ^ h = w at *
        obtain ⟨N1, N2, N3⟩ := hN
        have e1 : nI (128 * a) + ((64 + nI (f + s)) >>> (nI h &&& 31)) = nI (128 * a + N) := by
          show nI (128 * a) + ((nI 64 + nI (f + s)) >>> (nI h &&& 31)) = nI (128 * a + N)
          rw [nI_add, bk_shrn (by omega) (by omega), hw, hn, nI_add]
        have hcl : (nI (128 * a + N)).toNatClampNeg = 128 * a + N := nI_clamp (by omega)
        have hin : vp_in (nI (128 * a + N)) 512 := vp_in_nI (by omega) (by decide)
        have e2 : bk_I (B (f + s) - B f) + le (nI (128 * a + N)).toNatClampNeg = bk_I (bk_mn B (f + s) w - B f) := by
          rw [hcl, N2, bk_add]
          exact congrArg bk_I (by omega)
        have mm := bk_mn_add hb f s (b := w) hq
        have aa := bk_ar_add B f s w
        have b1 := bk_mn_bd0 hb (lo := f) (w := s)
        have b2 := bk_mn_bd hb (lo := f + s) (w := w) hq
        have b3 := hb f
        have key : ∀ z0 : Int32, z0 = bk_I (bk_mn B f (s + w) - B f) → wX_walk_96 post (wX_walk_29 post (nI (f + z - 1)) (nI (128 * a)) fc fg fm fb ac dy am gn fl ch le ar lg (k + 1)) (nI (f + z - 1)) (nI (128 * a)) (nI (f + s)) (nI (14 - (k + 1))) (nI h) (nI (128 * a + N)) z0 fc fg fm fb (bk_I (B (f + s) - B f)) (bk_I (bk_mn B f s - B f)) (bk_I (bk_ar B f s - (s : Int) * B f)) ac dy am gn fl ch le ar lg := by
          intro z0 hz
          subst hz
          refine ⟨hin, nm_r (e' := bk_I (bk_ar B f (s + w) - ((s + w : Nat) : Int) * B f)) ?_ ⟨hin, nm_r (e' := bk_I (B (f + (s + w)) - B f)) ?_ (nm_r (e' := nI (f + (s + w))) ?_ (nm_r (e' := nI (14 - k)) ?_ ?_))⟩⟩
          · rw [hcl, N3, bk_shl _ (by omega), hw, bk_nat', bk_mul, bk_add, bk_add, aa]
            refine congrArg bk_I ?_
            rw [Int.natCast_add]
            generalize B f = x
            generalize B (f + s) = y
            generalize bk_ar B f s = p
            generalize bk_ar B (f + s) w = q
            generalize (s : Int) = m
            generalize (w : Int) = n
            grind
          · rw [hcl, N1, bk_add, Nat.add_assoc]
            exact congrArg bk_I (by omega)
          · show nI (f + s) + nI 1 <<< (nI h &&& 31) = _
            rw [bk_shln (by omega), nI_add, hw, Nat.one_mul, Nat.add_assoc]
          · rw [nI_1]
            exact congrArg nI (by omega)
          · rw [← hp']
            refine ih (s + w) (by omega) (by omega) ?_
            rw [← Nat.add_assoc]
            exact hc'
        refine nm_r e1 ⟨hin, nm_r e2 ?_⟩
        by_cases cc : bk_mn B f s ≤ bk_mn B (f + s) w
        · refine br_t ?_ (key _ ?_)
          · rw [bk_le (by omega) (by omega) (by omega) (by omega)]
            omega
          · rw [mm, Int.min_eq_left cc]
        · refine br_f ?_ (key _ ?_)
          · rw [bk_le (by omega) (by omega) (by omega) (by omega)]
            omega
          · rw [mm, Int.min_eq_right (by omega)]
theorem bk_walk {post : SX → Prop} {B : Nat → Int} {a f z : Nat} {p0 p1 p2 : Int32} (ha : a < 4) (hb : bk_bd B) (hT : ∀ n, 1 ≤ n → n < 128 → bk_N B ch le ar (128 * a) n) (he : f + z ≤ 48) (h0 : p0 = nI a) (h1 : p1 = nI f) (hp : p2 = bk_I (((f + z : Nat) : Int) - 1))
    (H : post (fc, fg, fm, fb, bk_I (B (f + z) - B f), bk_I (bk_mn B f z - B f), bk_I (bk_ar B f z - (z : Int) * B f), ac, dy, am, gn, fl, ch, le, ar, lg)) : wpX_walk post (fc, fg, fm, fb, wc, wl, wa, ac, dy, am, gn, fl, ch, le, ar, lg) p0 p1 p2 := by
  subst h0 h1
  have K := bk_walk_l ha hb hT he hp H 14 0 (Nat.zero_le _) (Nat.le_refl _) (bk_cov_ok f (by omega) (f + z) (by omega) (by omega))
  have e1 : bk_I (B (f + 0) - B f) = 0 := by rw [Nat.add_zero, Int.sub_self]; rfl
  have e2 : bk_I (bk_mn B f 0 - B f) = 2147483647 := by
    rw [show bk_mn B f 0 - B f = 2147483647 from by show B f + 2147483647 - B f = 2147483647; omega]; rfl
  have e3 : bk_I (bk_ar B f 0 - ((0 : Nat) : Int) * B f) = 0 := by
    rw [show bk_ar B f 0 - ((0 : Nat) : Int) * B f = 0 from by show (0 : Int) - ((0 : Nat) : Int) * B f = 0; rw [show ((0 : Nat) : Int) = 0 from rfl, Int.zero_mul]; rfl]; rfl
  rw [e1, e2, e3] at K
  exact nm_r (e' := nI (128 * a)) (pk_mul 128 a) ⟨15, K⟩
theorem bk_lowestIn {post : Int32 → SX → Prop} {B : Nat → Int} {a f z : Nat} {p0 p1 p2 : Int32} (ha : a < 4) (hb : bk_bd B) (hB : B 0 = 0) (hT : ∀ n, 1 ≤ n → n < 128 → bk_N B ch le ar (128 * a) n) (he : f + z ≤ 48) (h0 : p0 = nI a) (h1 : p1 = nI f) (hp : p2 = bk_I (((f + z : Nat) : Int) - 1))
    (H : ∀ wc' wl' wa' : Int32, post (bk_I (bk_mn B f z)) (fc, fg, fm, fb, wc', wl', wa', ac, dy, am, gn, fl, ch, le, ar, lg)) : wpX_lowestIn post (fc, fg, fm, fb, wc, wl, wa, ac, dy, am, gn, fl, ch, le, ar, lg) p0 p1 p2 := by
  unfold wpX_lowestIn
  refine bk_walk (f := 0) (z := f) ha hb hT (by omega) h0 rfl ?_ ?_
  · rw [h1, bk_nat', show (1 : Int32) = bk_I 1 from rfl, bk_sub, Nat.zero_add]
  · refine bk_walk ha hb hT he h0 h1 hp ?_
    have e : bk_I (B (0 + f) - B 0) + bk_I (bk_mn B f z - B f) = bk_I (bk_mn B f z) := by
      rw [bk_add, hB, Nat.zero_add]
      exact congrArg bk_I (by omega)
    show post (bk_I (B (0 + f) - B 0) + bk_I (bk_mn B f z - B f)) _
    rw [e]
    exact H _ _ _
theorem bk_bears {post : Int32 → SX → Prop} {B : Nat → Int} {a d : Nat} {x : Int} {p0 p1 p2 : Int32} (ha : a < 4) (hd : d < 48) (hb : bk_bd B) (hB : B 0 = 0) (hT : ∀ n, 1 ≤ n → n < 128 → bk_N B ch le ar (128 * a) n) (h0 : p0 = nI a) (h1 : p1 = nI d) (h2 : p2 = bk_I x) (hx : -10000 ≤ x ∧ x ≤ 10000)
    (H1 : 0 < x ∨ (fl a).toInt ≤ bk_mn B d (48 - d) + x → ∀ wc' wl' wa' : Int32, post 1 (fc, fg, fm, fb, wc', wl', wa', ac, dy, am, gn, fl, ch, le, ar, lg))
    (H0 : ¬ (0 < x ∨ (fl a).toInt ≤ bk_mn B d (48 - d) + x) → ∀ wc' wl' wa' : Int32, post 0 (fc, fg, fm, fb, wc', wl', wa', ac, dy, am, gn, fl, ch, le, ar, lg)) : wpX_bears post (fc, fg, fm, fb, wc, wl, wa, ac, dy, am, gn, fl, ch, le, ar, lg) p0 p1 p2 := by
  have hbd := bk_mn_bd hb (lo := d) (w := 48 - d) (by omega)
  have hp : 0 < p2 ↔ 0 < x := by rw [h2, bk_0x, bk_toInt (by omega) (by omega)]
  unfold wpX_bears
  by_cases c : 0 < x
  · exact br_t (hp.mpr c) (H1 (Or.inl c) _ _ _)
  · refine br_f (fun q => c (hp.mp q)) ?_
    refine bk_lowestIn (B := B) (f := d) (z := 48 - d) ha hb hB hT (by omega) h0 h1 ?_ ?_
    · rw [show ((d + (48 - d) : Nat) : Int) - 1 = 47 from by omega]; rfl
    · intro wc' wl' wa'
      have hcl : p0.toNatClampNeg = a := by rw [h0]; exact nI_clamp (by omega)
      refine ⟨by rw [h0]; exact vp_in_nI (by omega) (by decide), ?_⟩
      have hlt : bk_I (bk_mn B d (48 - d)) + p2 < fl p0.toNatClampNeg ↔ ¬ (fl a).toInt ≤ bk_mn B d (48 - d) + x := by
        rw [hcl, h2, bk_add, bk_xlt _ (by omega) (by omega)]
        omega
      by_cases q : (fl a).toInt ≤ bk_mn B d (48 - d) + x
      · exact br_f (fun y => hlt.mp y q) (H1 (Or.inr q) _ _ _)
      · exact br_t (hlt.mpr q) (H0 (fun y => y.elim c q) _ _ _)
end
end
section
/-! isSound; add: a change of one leaf and the nodes above it -/
def bk_T (B : Nat → Nat → Int) (ch le ar : Nat → Int32) : Prop := ∀ a, a < 4 → ∀ n, 1 ≤ n → n < 128 → bk_N (B a) ch le ar (128 * a) n
def bk_so (B : Nat → Nat → Int) (fl : Nat → Int32) : Prop := ∀ a, a < 4 → ∀ d, d < 48 → (fl a).toInt ≤ B a (d + 1)
theorem bk_so_mn {B : Nat → Int} (hb : bk_bd B) {z : Int} : z ≤ bk_mn B 0 48 ↔ ∀ d, d < 48 → z ≤ B (d + 1) := by
  rw [bk_mn_ge hb (by decide)]
  constructor
  · intro h d hd
    have := h (d + 1) (by omega) (by omega)
    rw [Nat.zero_add] at this
    exact this
  · intro h k h1 h2
    have := h (k - 1) (by omega)
    rw [show k - 1 + 1 = 0 + k from by omega] at this
    exact this
section
variable {fc fg fm fb wc wl wa : Int32} {ac dy am gn fl ch le ar lg : Nat → Int32}
theorem bk_isSound_l {post : Int32 → SX → Prop} {B : Nat → Nat → Int} (hb : ∀ a, bk_bd (B a)) (hB : ∀ a, B a 0 = 0) (hT : bk_T B ch le ar)
    (H1 : bk_so B fl → ∀ wc' wl' wa' : Int32, post 1 (fc, fg, fm, fb, wc', wl', wa', ac, dy, am, gn, fl, ch, le, ar, lg))
    (H0 : ¬ bk_so B fl → ∀ wc' wl' wa' : Int32, post 0 (fc, fg, fm, fb, wc', wl', wa', ac, dy, am, gn, fl, ch, le, ar, lg)) :
    ∀ (k a : Nat) (wc wl wa : Int32), a + k = 4 → (∀ b, b < a → ∀ d, d < 48 → (fl b).toInt ≤ B b (d + 1)) → wX_isSound_2 post (k + 1) (nI a) fc fg fm fb wc wl wa ac dy am gn fl ch le ar lg := by
  intro k
  induction k with
  | zero =>
    intro a wc wl wa e h
    obtain rfl : a = 4 := by omega
    exact br_t (nI_le (a := 4) (b := 4) (by decide) (by decide)) (H1 h _ _ _)
  | succ k ih =>
    intro a wc wl wa e h
    refine br_f (nI_ge (a := a) (b := 4) (by omega) (by decide)) ?_
    refine bk_walk (f := 0) (z := 48) (B := B a) (by omega) (hb a) (hT a (by omega)) (by decide) rfl rfl rfl ?_
    have hcl : (nI a).toNatClampNeg = a := nI_clamp (by omega)
    refine And.intro (vp_in_nI (by omega) (by decide)) ?_
    have b1 := bk_mn_bd (hb a) (lo := 0) (w := 48) (by decide)
    have hlt : fl (nI a).toNatClampNeg ≤ bk_I (bk_mn (B a) 0 48 - B a 0) ↔ ∀ d, d < 48 → (fl a).toInt ≤ B a (d + 1) := by
      rw [hcl, hB a, Int.sub_zero, bk_lex _ (by omega) (by omega), bk_so_mn (hb a)]
    by_cases c : ∀ d, d < 48 → (fl a).toInt ≤ B a (d + 1)
    · refine br_t (hlt.mpr c) (nm_r (nI_1 a) ?_)
      refine ih (a + 1) _ _ _ (by omega) ?_
      intro b hb'
      by_cases q : b = a
      · subst q
        exact c
      · exact h b (by omega)
    · exact br_f (fun q => c (hlt.mp q)) (H0 (fun q => c (q a (by omega))) _ _ _)
theorem bk_isSound {post : Int32 → SX → Prop} {B : Nat → Nat → Int} (hb : ∀ a, bk_bd (B a)) (hB : ∀ a, B a 0 = 0) (hT : bk_T B ch le ar)
    (H1 : bk_so B fl → ∀ wc' wl' wa' : Int32, post 1 (fc, fg, fm, fb, wc', wl', wa', ac, dy, am, gn, fl, ch, le, ar, lg))
    (H0 : ¬ bk_so B fl → ∀ wc' wl' wa' : Int32, post 0 (fc, fg, fm, fb, wc', wl', wa', ac, dy, am, gn, fl, ch, le, ar, lg)) : wpX_isSound post (fc, fg, fm, fb, wc, wl, wa, ac, dy, am, gn, fl, ch, le, ar, lg) :=
  ⟨5, bk_isSound_l hb hB hT H1 H0 4 0 wc wl wa rfl (fun b h => absurd h (Nat.not_lt_zero b))⟩
end
/-- the nodes that are right while the path above day d is worked out anew, up to level l -/
def bk_up (B : Nat → Nat → Int) (ch le ar : Nat → Int32) (a d l : Nat) : Prop :=
  (∀ b, b < 4 → b ≠ a → ∀ n, 1 ≤ n → n < 128 → bk_N (B b) ch le ar (128 * b) n) ∧
  (∀ n, 1 ≤ n → n < 128 → (bk_wd n ≤ 2 ^ l ∨ ¬ (bk_lo n ≤ d ∧ d < bk_lo n + bk_wd n)) → bk_N (B a) ch le ar (128 * a) n)
theorem bk_N_upd {B : Nat → Int} {ch le ar : Nat → Int32} {o n k : Nat} {x y z : Int32} (h : o + n ≠ k) (H : bk_N B ch le ar o n) : bk_N B (upd ch k x) (upd le k y) (upd ar k z) o n := by
  obtain ⟨a, b, c⟩ := H
  exact ⟨by rw [pk_un h, a], by rw [pk_un h, b], by rw [pk_un h, c]⟩
theorem bk_up_0 {B C : Nat → Nat → Int} {ch le ar : Nat → Int32} {a d : Nat} {x : Int} {v : Int32} (ha : a < 4) (hd : d < 48) (hbC : ∀ b, bk_bd (C b)) (hT : bk_T B ch le ar) (hC : ∀ b, b < 4 → ∀ j, C b j = B b j + if b = a ∧ d < j then x else 0) (hv : v = ch (128 * a + (64 + d)) + bk_I x) :
    bk_up C (upd ch (128 * a + (64 + d)) v) (upd le (128 * a + (64 + d)) v) (upd ar (128 * a + (64 + d)) v) a d 0 := by
  refine ⟨?_, ?_⟩
  · intro b hb hne n h1 h2
    refine bk_N_upd (by omega) ?_
    refine bk_N_shift (B := B b) (t := 0) ?_ (hT b hb n h1 h2)
    intro k _
    rw [hC b hb, if_neg (fun q => hne q.1)]
  · intro n h1 h2 hc
    by_cases e : n = 64 + d
    · subst e
      obtain ⟨l1, l2⟩ := bk_leaf d (by omega)
      have hN := hT a ha (64 + d) h1 h2
      unfold bk_N at hN ⊢
      rw [l1, l2] at hN ⊢
      obtain ⟨N1, N2, N3⟩ := hN
      have c1 := hC a ha d
      have c2 := hC a ha (d + 1)
      rw [if_neg (by omega)] at c1
      rw [if_pos ⟨rfl, by omega⟩] at c2
      have hv' : v = bk_I (C a (d + 1) - C a d) := by
        rw [hv, N1, bk_add, c1, c2]
        exact congrArg bk_I (by omega)
      rw [pk_us, pk_us, pk_us, bk_mn_1 (hbC a)]
      refine ⟨hv', hv', ?_⟩
      rw [hv']
      show bk_I (C a (d + 1) - C a d) = bk_I (0 + C a (d + 0 + 1) - ((1 : Nat) : Int) * C a d)
      refine congrArg bk_I ?_
      rw [show ((1 : Nat) : Int) = 1 from rfl, Int.one_mul, Nat.add_zero]
      omega
    · refine bk_N_upd (by omega) ?_
      have hc' : ¬ (bk_lo n ≤ d ∧ d < bk_lo n + bk_wd n) := by
        rcases hc with hc | hc
        · intro q
          obtain ⟨_, f2, _⟩ := bk_fit n h2 h1
          have hw : bk_wd n = 1 := by
            have : (2 : Nat) ^ 0 = 1 := rfl
            omega
          have u := bk_uniq h1 h2 q.1 q.2
          rw [hw, Nat.div_one] at u
          exact e u
        · exact hc
      by_cases q : d < bk_lo n
      · refine bk_N_shift (B := B a) (t := x) ?_ (hT a ha n h1 h2)
        intro k _
        rw [hC a ha, if_pos ⟨rfl, by omega⟩]
      · refine bk_N_shift (B := B a) (t := 0) ?_ (hT a ha n h1 h2)
        intro k hk
        rw [hC a ha, if_neg (fun z => by omega)]
theorem bk_up_6 {C : Nat → Nat → Int} {ch le ar : Nat → Int32} {a d : Nat} (h : bk_up C ch le ar a d 6) : bk_T C ch le ar := by
  intro b hb n h1 h2
  by_cases e : b = a
  · subst e
    refine h.2 n h1 h2 (Or.inl ?_)
    obtain ⟨f1, _, _⟩ := bk_fit n h2 h1
    have : (2 : Nat) ^ 6 = 64 := rfl
    omega
  · exact h.1 b hb e n h1 h2
theorem bk_up_s {C : Nat → Nat → Int} {ch le ar : Nat → Int32} {a d l q : Nat} {x y z : Int32} (ha : a < 4) (hd : d < 64) (hl : l < 6) (hq : q = (64 + d) / 2 ^ (l + 1)) (h : bk_up C ch le ar a d l) (hN : bk_N (C a) (upd ch (128 * a + q) x) (upd le (128 * a + q) y) (upd ar (128 * a + q) z) (128 * a) q) :
    bk_up C (upd ch (128 * a + q) x) (upd le (128 * a + q) y) (upd ar (128 * a + q) z) a d (l + 1) := by
  obtain ⟨o1, o2, o3, o4, o5⟩ := bk_over d hd (l + 1) (by omega)
  rw [← hq] at o1 o2 o3 o4 o5
  have o6 : q < 128 := Nat.lt_of_lt_of_le o5 (Nat.div_le_self _ _)
  refine ⟨?_, ?_⟩
  · intro b hb hne n h1 h2
    exact bk_N_upd (by omega) (h.1 b hb hne n h1 h2)
  · intro n h1 h2 hc
    by_cases e : n = q
    · rw [e]
      exact hN
    · refine bk_N_upd (by omega) (h.2 n h1 h2 ?_)
      by_cases c : bk_lo n ≤ d ∧ d < bk_lo n + bk_wd n
      · rcases hc with hc | hc
        · rcases bk_pow n h2 l hl hc with p | p
          · have u := bk_uniq h1 h2 c.1 c.2
            rw [p, ← hq] at u
            exact absurd u e
          · exact Or.inl p
        · exact absurd c hc
      · exact Or.inr c
section
variable {fc fg fm fb wc wl wa : Int32} {ac dy am gn fl ch le ar lg : Nat → Int32}
theorem bk_add_l {post : SX → Prop} {C : Nat → Nat → Int} {a d : Nat} (ha : a < 4) (hd : d < 64) (hb : bk_bd (C a)) (H : ∀ ch' le' ar' : Nat → Int32, bk_T C ch' le' ar' → post (fc, fg, fm, fb, wc, wl, wa, ac, dy, am, gn, fl, ch', le', ar', lg)) :
    ∀ (k l : Nat) (ch le ar : Nat → Int32), l + k = 6 → bk_up C ch le ar a d l → wX_add_73 post (nI (128 * a)) fc fg fm fb wc wl wa (k + 1) (nI ((64 + d) / 2 ^ l)) (nI (2 ^ l)) (nI l) ac dy am gn fl ch le ar lg := by
  intro k
  induction k with
  | zero =>
    intro l ch le ar e hu
    obtain rfl : l = 6 := by omega
    exact br_t (nI_le (a := 6) (b := 6) (by decide) (by decide)) (H _ _ _ (bk_up_6 hu))
  | succ k ih =>
    intro l ch le ar e hu
    refine br_f (nI_ge (a := l) (b := 6) (by omega) (by decide)) ?_
    obtain ⟨o1, o2, o3, o4, o5⟩ := bk_over d hd (l + 1) (by omega)
    have hqq : (64 + d) / 2 ^ l / 2 = (64 + d) / 2 ^ (l + 1) := by rw [Nat.div_div_eq_div_mul, Nat.pow_succ]
    have hsm : (64 + d) / 2 ^ l < 2 ^ 31 := Nat.lt_of_le_of_lt (Nat.div_le_self _ _) (by omega)
    have o6 : (64 + d) / 2 ^ (l + 1) < 64 := by
      have : 128 / 2 ^ (l + 1) ≤ 64 := by
        refine Nat.div_le_of_le_mul ?_
        have := bk_two' l
        rw [Nat.pow_succ]
        omega
      omega
    have hup := fun (x y z : Int32) => bk_up_s (x := x) (y := y) (z := z) ha hd (show l < 6 by omega) rfl hu
    generalize hq : (64 + d) / 2 ^ (l + 1) = q at *
    obtain ⟨k1, k2, k3, k4⟩ := bk_kid q o6 o4
    have hw : bk_wd (2 * q) = 2 ^ l := by
      rw [o1, Nat.pow_succ] at k2
      omega
    have hL := hu.2 (2 * q) (by omega) (by omega) (Or.inl (Nat.le_of_eq hw))
    have hR := hu.2 (2 * q + 1) (by omega) (by omega) (Or.inl (Nat.le_of_eq (by rw [← k1, hw])))
    unfold bk_N at hL hR hup
    rw [hw, k3] at hL
    rw [← k1, hw, k4, hw] at hR
    rw [k2, hw] at hup
    have hwp := bk_two' l
    have hwq := bk_two (h := l) (by omega)
    have pw : 2 * 2 ^ l = 2 ^ (l + 1) := by rw [Nat.pow_succ]; omega
    generalize hww : 2 ^ l = w at *
    generalize hlo : bk_lo q = lo at *
    obtain ⟨L1, L2, L3⟩ := hL
    obtain ⟨R1, R2, R3⟩ := hR
    have e1 : nI ((64 + d) / w) >>> ((1 : Int32) &&& 31) = nI q := by
      show nI ((64 + d) / w) >>> (nI 1 &&& 31) = nI q
      rw [bk_shrn hsm (by decide), Nat.pow_one, hqq]
    have e2 : nI (128 * a) + 2 * nI q = nI (128 * a + 2 * q) := by
      show nI (128 * a) + nI 2 * nI q = _
      rw [pk_mul, nI_add]
    have e3 : nI (128 * a + 2 * q) + 1 = nI (128 * a + (2 * q + 1)) := by
      rw [nI_1]; rfl
    have e4 : nI (128 * a) + nI q = nI (128 * a + q) := nI_add _ _
    have c1 : (nI (128 * a + 2 * q)).toNatClampNeg = 128 * a + 2 * q := nI_clamp (by omega)
    have c2 : (nI (128 * a + (2 * q + 1))).toNatClampNeg = 128 * a + (2 * q + 1) := nI_clamp (by omega)
    have c3 : (nI (128 * a + q)).toNatClampNeg = 128 * a + q := nI_clamp (by omega)
    have i1 : vp_in (nI (128 * a + 2 * q)) 512 := vp_in_nI (by omega) (by decide)
    have i2 : vp_in (nI (128 * a + 2 * q) + 1) 512 := by rw [e3]; exact vp_in_nI (by omega) (by decide)
    have i3 : vp_in (nI (128 * a) + nI q) 512 := by rw [e4]; exact vp_in_nI (by omega) (by decide)
    have mm := bk_mn_add hb lo w (b := w) hwp
    have aa := bk_ar_add (C a) lo w w
    rw [← Nat.two_mul] at mm aa
    have b1 := bk_mn_bd hb (lo := lo) (w := w) hwp
    have b2 := bk_mn_bd hb (lo := lo + w) (w := w) hwp
    have b3 := hb lo
    have e5 : ch (nI (128 * a + 2 * q)).toNatClampNeg + le (nI (128 * a + 2 * q) + 1).toNatClampNeg = bk_I (bk_mn (C a) (lo + w) w - C a lo) := by
      rw [e3, c1, c2, L1, R2, bk_add]
      exact congrArg bk_I (by omega)
    have e6 : upd ch (nI (128 * a) + nI q).toNatClampNeg (ch (nI (128 * a + 2 * q)).toNatClampNeg + ch (nI (128 * a + 2 * q) + 1).toNatClampNeg) = upd ch (128 * a + q) (bk_I (C a (lo + 2 * w) - C a lo)) := by
      rw [e3, e4, c1, c2, c3, L1, R1, bk_add]
      refine congrArg (fun z => upd ch (128 * a + q) (bk_I z)) ?_
      rw [show lo + 2 * w = lo + w + w from by omega]
      omega
    have key : ∀ z0 : Int32, z0 = bk_I (bk_mn (C a) lo (2 * w) - C a lo) → wX_add_174 post (wX_add_73 post (nI (128 * a)) fc fg fm fb wc wl wa (k + 1)) (nI (128 * a)) (nI q) (nI w) (nI l) (nI (128 * a + 2 * q)) z0 (nI (128 * a) + nI q) fc fg fm fb wc wl wa ac dy am gn fl (upd ch (128 * a + q) (bk_I (C a (lo + 2 * w) - C a lo))) le ar lg := by
      intro z0 hz
      refine ⟨i3, nm_r (e' := upd le (128 * a + q) z0) (by rw [e4, c3]) ⟨i1, i2, i1, i3, nm_r (e' := upd ar (128 * a + q) (bk_I (bk_ar (C a) lo (2 * w) - ((2 * w : Nat) : Int) * C a lo))) ?_ (nm_r (e' := nI (2 ^ (l + 1))) ?_ (nm_r (nI_1 l) ?_))⟩⟩
      · rw [e3, e4, c1, c2, c3, L3, R3, pk_un (by omega), L1, bk_nat', bk_mul, bk_add, bk_add, aa]
        refine congrArg (fun z => upd ar (128 * a + q) (bk_I z)) ?_
        rw [Int.natCast_mul, show ((2 : Nat) : Int) = 2 from rfl]
        generalize C a lo = x
        generalize C a (lo + w) = y
        generalize bk_ar (C a) lo w = p
        generalize bk_ar (C a) (lo + w) w = r
        generalize (w : Int) = n
        grind
      · show nI 2 * nI w = _
        rw [pk_mul, pw]
      · have K := ih (l + 1) (upd ch (128 * a + q) (bk_I (C a (lo + 2 * w) - C a lo))) (upd le (128 * a + q) z0) (upd ar (128 * a + q) (bk_I (bk_ar (C a) lo (2 * w) - ((2 * w : Nat) : Int) * C a lo))) (by omega) (hup _ _ _ ⟨pk_us, by rw [pk_us, hz], pk_us⟩)
        rw [hq] at K
        exact K
    refine nm_r e1 (nm_r e2 ⟨i1, i2, nm_r e5 ⟨i1, i2, i3, nm_r e6 ⟨i1, ?_⟩⟩⟩)
    have e7 : le (nI (128 * a + 2 * q)).toNatClampNeg = bk_I (bk_mn (C a) lo w - C a lo) := by rw [c1, L2]
    by_cases cc : bk_mn (C a) (lo + w) w ≤ bk_mn (C a) lo w
    · refine br_t ?_ (key _ ?_)
      · rw [e7, bk_le (by omega) (by omega) (by omega) (by omega)]
        omega
      · rw [mm, Int.min_eq_right cc]
    · refine br_f ?_ ⟨i1, key _ ?_⟩
      · rw [e7, bk_le (by omega) (by omega) (by omega) (by omega)]
        omega
      · rw [e7, mm, Int.min_eq_left (by omega)]
theorem bk_addX {post : SX → Prop} {B C : Nat → Nat → Int} {a d : Nat} {x : Int} {p0 p1 p2 : Int32} (ha : a < 4) (hd : d < 48) (hb : ∀ b, bk_bd (C b)) (hT : bk_T B ch le ar) (hC : ∀ b, b < 4 → ∀ j, C b j = B b j + if b = a ∧ d < j then x else 0) (h0 : p0 = nI a) (h1 : p1 = nI d) (h2 : p2 = bk_I x)
    (H : ∀ ch' le' ar' : Nat → Int32, bk_T C ch' le' ar' → post (fc, fg, fm, fb, wc, wl, wa, ac, dy, am, gn, fl, ch', le', ar', lg)) : wpX_add post (fc, fg, fm, fb, wc, wl, wa, ac, dy, am, gn, fl, ch, le, ar, lg) p0 p1 p2 := by
  subst h0 h1 h2
  have e1 : nI (128 * a) + nI (64 + d) = nI (128 * a + (64 + d)) := nI_add _ _
  have c1 : (nI (128 * a + (64 + d))).toNatClampNeg = 128 * a + (64 + d) := nI_clamp (by omega)
  have i1 : vp_in (nI (128 * a) + nI (64 + d)) 512 := by rw [e1]; exact vp_in_nI (by omega) (by decide)
  have U := bk_up_0 (v := ch (128 * a + (64 + d)) + bk_I x) ha hd hb hT hC rfl
  have K := bk_add_l (fc := fc) (fg := fg) (fm := fm) (fb := fb) (wc := wc) (wl := wl) (wa := wa) (ac := ac) (dy := dy) (am := am) (gn := gn) (fl := fl) (lg := lg) ha (by omega) (hb a) H 6 0 _ _ _ rfl U
  rw [Nat.pow_zero, Nat.div_one] at K
  refine nm_r (e' := nI (128 * a)) (pk_mul 128 a) (nm_r (e' := nI (64 + d)) (nI_add 64 d) ⟨i1, i1, nm_r (e' := upd ch (128 * a + (64 + d)) (ch (128 * a + (64 + d)) + bk_I x)) (by rw [e1, c1]) ⟨i1, i1, nm_r (e' := upd le (128 * a + (64 + d)) (ch (128 * a + (64 + d)) + bk_I x)) (by rw [e1, c1, pk_us]) ⟨i1, i1, nm_r (e' := upd ar (128 * a + (64 + d)) (ch (128 * a + (64 + d)) + bk_I x)) (by rw [e1, c1, pk_us]) ⟨7, K⟩⟩⟩⟩)
end
end
section
/-! the component's searches: descend, search, lastBelow, daysBelow -/
theorem bk_isleaf : ∀ n, n < 128 → bk_wd n ≤ 1 → 64 ≤ n := by decide +kernel
theorem bk_nleaf : ∀ n, n < 128 → 2 ≤ bk_wd n → n < 64 := by decide +kernel
section
variable {fc fg fm fb wc wl wa : Int32} {ac dy am gn fl ch le ar lg : Nat → Int32}
theorem bk_descend_l {post : Int32 → Prop} {B : Nat → Int} {a s u : Nat} {y : Int32} (ha : a < 4) (hb : bk_bd B) (hT : ∀ n, 1 ≤ n → n < 128 → bk_N B ch le ar (128 * a) n)
    (H : ∀ r, s ≤ r → r < u → B (r + 1) < y.toInt → (∀ j, s ≤ j → j < r → y.toInt ≤ B (j + 1)) → post (nI r)) :
    ∀ (k n l : Nat), l + k = 6 → 1 ≤ n → n < 128 → bk_wd n ≤ 2 ^ k → s ≤ bk_lo n → bk_lo n + bk_wd n ≤ u → (∀ j, s ≤ j → j < bk_lo n → y.toInt ≤ B (j + 1)) → bk_mn B (bk_lo n) (bk_wd n) < y.toInt →
      wX_descend_16 post y (nI (128 * a)) fc fg fm fb wc wl wa ac dy am gn fl ch le ar lg (k + 1) (nI n) (bk_I (B (bk_lo n))) (nI l) := by
  have fin : ∀ n, 64 ≤ n → n < 128 → s ≤ bk_lo n → bk_lo n + bk_wd n ≤ u → (∀ j, s ≤ j → j < bk_lo n → y.toInt ≤ B (j + 1)) → bk_mn B (bk_lo n) (bk_wd n) < y.toInt → post (nI n - 64) := by
    intro n h1 h2 h3 h4 h5 h6
    obtain ⟨d, rfl⟩ : ∃ d, n = 64 + d := ⟨n - 64, by omega⟩
    obtain ⟨l1, l2⟩ := bk_leaf d (by omega)
    rw [l2] at h3 h4 h5 h6
    rw [l1] at h4 h6
    rw [bk_mn_1 hb] at h6
    have e : nI (64 + d) - 64 = nI d := by
      show nI (64 + d) - nI 64 = nI d
      rw [pk_sub (by omega)]
      exact congrArg nI (by omega)
    rw [e]
    exact H d h3 (by omega) h6 h5
  intro k
  induction k with
  | zero =>
    intro n l e h1 h2 hw h3 h4 h5 h6
    exact br_t (nI_le (a := 6) (b := l) (by omega) (by omega)) (fin n (bk_isleaf n h2 hw) h2 h3 h4 h5 h6)
  | succ k ih =>
    intro n l e h1 h2 hw h3 h4 h5 h6
    refine br_f (nI_ge (a := l) (b := 6) (by omega) (by decide)) ?_
    by_cases c : 64 ≤ n
    · exact br_t (nI_le (a := 64) (b := n) c (by omega)) (fin n c h2 h3 h4 h5 h6)
    · refine br_f (nI_ge (a := n) (b := 64) (by omega) (by decide)) ?_
      obtain ⟨k1, k2, k3, k4⟩ := bk_kid n (by omega) h1
      have hN := hT (2 * n) (by omega) (by omega)
      have g1 := ih (2 * n) (l + 1) (by omega) (by omega) (by omega)
      have g2 := ih (2 * n + 1) (l + 1) (by omega) (by omega) (by omega)
      obtain ⟨_, q2, _⟩ := bk_fit (2 * n) (by omega) (by omega)
      unfold bk_N at hN
      rw [k3] at hN g1
      rw [k4, ← k1] at g2
      rw [k2] at hw h4 h6
      rw [Nat.pow_succ] at hw
      generalize bk_wd (2 * n) = w at *
      generalize bk_lo n = lo at *
      obtain ⟨N1, N2, _⟩ := hN
      have mm := bk_mn_add hb lo w (b := w) q2
      rw [← Nat.two_mul] at mm
      have b1 := bk_mn_bd hb (lo := lo) (w := w) q2
      have e1 : nI (128 * a) + nI (2 * n) = nI (128 * a + 2 * n) := nI_add _ _
      have c1 : (nI (128 * a) + nI (2 * n)).toNatClampNeg = 128 * a + 2 * n := by rw [e1]; exact nI_clamp (by omega)
      have i1 : vp_in (nI (128 * a) + nI (2 * n)) 512 := by rw [e1]; exact vp_in_nI (by omega) (by decide)
      have e2 : bk_I (B lo) + le (nI (128 * a) + nI (2 * n)).toNatClampNeg < y ↔ bk_mn B lo w < y.toInt := by
        rw [c1, N2, bk_add, show B lo + (bk_mn B lo w - B lo) = bk_mn B lo w from by omega, bk_xlt _ (by omega) (by omega)]
      have e3 : bk_I (B lo) + ch (nI (128 * a) + nI (2 * n)).toNatClampNeg = bk_I (B (lo + w)) := by
        rw [c1, N1, bk_add]
        exact congrArg bk_I (by omega)
      refine nm_r (e' := nI (2 * n)) (pk_mul 2 n) ⟨i1, ?_⟩
      by_cases q : bk_mn B lo w < y.toInt
      · exact br_t (e2.mpr q) (nm_r (nI_1 l) (g1 (by omega) h3 (by omega) h5 q))
      · refine br_f (fun z => q (e2.mp z)) ⟨i1, nm_r e3 (nm_r (nI_1 (2 * n)) (nm_r (nI_1 l) (g2 (by omega) (by omega) (by omega) ?_ (by omega))))⟩
        intro j j1 j2
        by_cases z : j < lo
        · exact h5 j j1 z
        · have := bk_mn_le (B := B) (lo := lo) (w := w) (k := j - lo + 1) (by omega) (by omega)
          rw [show lo + (j - lo + 1) = j + 1 from by omega] at this
          omega
theorem bk_search_l {post : Int32 → SX → Prop} {B : Nat → Int} {a s : Nat} {y : Int32} (ha : a < 4) (hb : bk_bd B) (hT : ∀ n, 1 ≤ n → n < 128 → bk_N B ch le ar (128 * a) n)
    (H : ∀ r, s ≤ r → r < 48 → B (r + 1) < y.toInt → (∀ j, s ≤ j → j < r → y.toInt ≤ B (j + 1)) → post (nI r) (fc, fg, fm, fb, wc, wl, wa, ac, dy, am, gn, fl, ch, le, ar, lg))
    (Hn : (∀ j, s ≤ j → j < 48 → y.toInt ≤ B (j + 1)) → post (-1) (fc, fg, fm, fb, wc, wl, wa, ac, dy, am, gn, fl, ch, le, ar, lg)) :
    ∀ (k t : Nat), s ≤ t → t ≤ 48 → k ≤ 14 → bk_cov 48 k t = true → (∀ j, s ≤ j → j < t → y.toInt ≤ B (j + 1)) →
      wX_search_28 post (nI a) y (nI (128 * a)) fc fg fm fb wc wl wa ac dy am gn fl ch le ar lg (k + 1) (bk_I (B t)) (nI t) (nI (14 - k)) := by
  intro k
  induction k with
  | zero =>
    intro t h1 h2 hk hc h3
    have h := bk_cov_0 hc
    exact br_t (nI_le (a := 14) (b := 14 - 0) (by decide) (by decide)) (Hn (fun j j1 j2 => h3 j j1 (by omega)))
  | succ k ih =>
    intro t h1 h2 hk hc h3
    refine br_f (nI_ge (a := 14 - (k + 1)) (b := 14) (by omega) (by decide)) ?_
    by_cases c : t = 48
    · subst c
      exact br_t (nI_le (a := 48) (b := 48) (by decide) (by decide)) (Hn h3)
    · refine br_f (nI_ge (a := t) (b := 48) (by omega) (by decide)) ?_
      refine bk_widest (l := 47) (by omega) (by decide) ?_
      obtain ⟨w1, w2, w3⟩ := bk_wi_ok t (by omega) 47 (by decide) (by omega)
      have hc' : bk_cov 48 k (t + 2 ^ bk_wi t 47 6 0) = true := bk_cov_s hc (by omega)
      generalize hh : bk_wi t 47 6 0 = h at *
      have hp2 := bk_two (h := h) (by omega)
      have hq := bk_two' h
      obtain ⟨n1, n2, n3, n4⟩ := bk_at t (by omega) h (by omega) w2 (by omega)
      have hN := hT _ n3 n4
      have D := bk_descend_l (post := fun r => post r (fc, fg, fm, fb, wc, wl, wa, ac, dy, am, gn, fl, ch, le, ar, lg)) (fc := fc) (fg := fg) (fm := fm) (fb := fb) (wc := wc) (wl := wl) (wa := wa) (ac := ac) (dy := dy) (am := am) (gn := gn) (fl := fl) (lg := lg) (s := s) (u := 48) (y := y) ha hb hT H 6 ((64 + t) / 2 ^ h) 0 rfl n3 n4
      generalize hn : (64 + t) / 2 ^ h = N at *
      unfold bk_N at hN
      rw [n1, n2] at hN D
      generalize hw : 2 ^ h = w at *
      obtain ⟨N1, N2, _⟩ := hN
      have e1 : (64 + nI t) >>> (nI h &&& 31) = nI N := by
        show (nI 64 + nI t) >>> (nI h &&& 31) = nI N
        rw [nI_add, bk_shrn (by omega) (by omega), hw, hn]
      have e0 : nI (128 * a) + nI N = nI (128 * a + N) := nI_add _ _
      have c1 : (nI (128 * a) + nI N).toNatClampNeg = 128 * a + N := by rw [e0]; exact nI_clamp (by omega)
      have i1 : vp_in (nI (128 * a) + nI N) 512 := by rw [e0]; exact vp_in_nI (by omega) (by decide)
      have b1 := bk_mn_bd hb (lo := t) (w := w) hq
      have e2 : y ≤ bk_I (B t) + le (nI (128 * a) + nI N).toNatClampNeg ↔ y.toInt ≤ bk_mn B t w := by
        rw [c1, N2, bk_add, show B t + (bk_mn B t w - B t) = bk_mn B t w from by omega, bk_lex _ (by omega) (by omega)]
      have e3 : bk_I (B t) + ch (nI (128 * a) + nI N).toNatClampNeg = bk_I (B (t + w)) := by
        rw [c1, N1, bk_add]
        exact congrArg bk_I (by omega)
      have e4 : nI t + (1 : Int32) <<< (nI h &&& 31) = nI (t + w) := by
        show nI t + nI 1 <<< (nI h &&& 31) = _
        rw [bk_shln (by omega), nI_add, hw, Nat.one_mul]
      have e5 : nI (14 - (k + 1)) + 1 = nI (14 - k) := by
        rw [nI_1]
        exact congrArg nI (by omega)
      refine nm_r e1 ⟨i1, ?_⟩
      by_cases q : y.toInt ≤ bk_mn B t w
      · refine br_t (e2.mpr q) ⟨i1, nm_r e3 (nm_r e4 (nm_r e5 (ih (t + w) (by omega) (by omega) (by omega) hc' ?_)))⟩
        intro j j1 j2
        by_cases z : j < t
        · exact h3 j j1 z
        · have := bk_mn_le (B := B) (lo := t) (w := w) (k := j - t + 1) (by omega) (by omega)
          rw [show t + (j - t + 1) = j + 1 from by omega] at this
          omega
      · refine br_f (fun z => q (e2.mp z)) ?_
        exact nm_r (e' := nI (128 * a)) (pk_mul 128 a) ⟨7, D (by show w ≤ 64; omega) h1 (by omega) h3 (by omega)⟩
theorem bk_search {post : Int32 → SX → Prop} {B : Nat → Int} {a s : Nat} {p0 p1 y : Int32} (ha : a < 4) (hs : s < 48) (hb : bk_bd B) (hB : B 0 = 0) (hT : ∀ n, 1 ≤ n → n < 128 → bk_N B ch le ar (128 * a) n) (h0 : p0 = nI a) (h1 : p1 = nI s)
    (H : ∀ r, s ≤ r → r < 48 → B (r + 1) < y.toInt → (∀ j, s ≤ j → j < r → y.toInt ≤ B (j + 1)) → ∀ wc' wl' wa' : Int32, post (nI r) (fc, fg, fm, fb, wc', wl', wa', ac, dy, am, gn, fl, ch, le, ar, lg))
    (Hn : (∀ j, s ≤ j → j < 48 → y.toInt ≤ B (j + 1)) → ∀ wc' wl' wa' : Int32, post (-1) (fc, fg, fm, fb, wc', wl', wa', ac, dy, am, gn, fl, ch, le, ar, lg)) : wpX_search post (fc, fg, fm, fb, wc, wl, wa, ac, dy, am, gn, fl, ch, le, ar, lg) p0 p1 y := by
  subst h0 h1
  refine nm_r (e' := nI (128 * a)) (pk_mul 128 a) ?_
  refine bk_walk (f := 0) (z := s) ha hb hT (by omega) rfl rfl ?_ ?_
  · rw [bk_nat', show (1 : Int32) = bk_I 1 from rfl, bk_sub, Nat.zero_add]
  · have K := bk_search_l (post := post) (fc := fc) (fg := fg) (fm := fm) (fb := fb) (wc := bk_I (B (0 + s) - B 0)) (wl := bk_I (bk_mn B 0 s - B 0)) (wa := bk_I (bk_ar B 0 s - (s : Int) * B 0)) (ac := ac) (dy := dy) (am := am) (gn := gn) (fl := fl) (lg := lg) (s := s) (y := y) ha hb hT (fun r r1 r2 r3 r4 => H r r1 r2 r3 r4 _ _ _) (fun z => Hn z _ _ _) 14 s (Nat.le_refl _) (by omega) (Nat.le_refl _) (bk_cov_ok s (by omega) 48 (by decide) (by omega)) (fun j j1 j2 => by omega)
    have e : bk_I (B s) = bk_I (B (0 + s) - B 0) := by rw [hB, Nat.zero_add, Int.sub_zero]
    rw [e] at K
    exact ⟨15, K⟩
theorem bk_last_l {post : Int32 → Prop} {B : Nat → Int} {a : Nat} {y : Int32} (ha : a < 4) (hb : bk_bd B) (hT : ∀ n, 1 ≤ n → n < 128 → bk_N B ch le ar (128 * a) n)
    (H : ∀ r, r < 64 → B (r + 1) < y.toInt → (∀ j, r < j → j < 64 → y.toInt ≤ B (j + 1)) → (r ≤ 47 → post (nI r)) ∧ (47 < r → post 47)) :
    ∀ (k n l : Nat), l + k = 6 → 1 ≤ n → n < 128 → bk_wd n = 2 ^ k → (∀ j, bk_lo n + bk_wd n ≤ j → j < 64 → y.toInt ≤ B (j + 1)) → bk_mn B (bk_lo n) (bk_wd n) < y.toInt →
      wX_lastBelow_29 post y (nI (128 * a)) fc fg fm fb wc wl wa ac dy am gn fl ch le ar lg (k + 1) (nI n) (bk_I (B (bk_lo n))) (nI l) := by
  intro k
  induction k with
  | zero =>
    intro n l e h1 h2 hw h5 h6
    have h64 := bk_isleaf n h2 (by rw [hw]; decide)
    obtain ⟨d, rfl⟩ : ∃ d, n = 64 + d := ⟨n - 64, by omega⟩
    obtain ⟨l1, l2⟩ := bk_leaf d (by omega)
    rw [l1, l2] at h5 h6
    rw [bk_mn_1 hb] at h6
    have e1 : nI (64 + d) - 64 = nI d := by
      show nI (64 + d) - nI 64 = nI d
      rw [pk_sub (by omega)]
      exact congrArg nI (by omega)
    have HH := H d (by omega) h6 (fun j j1 j2 => h5 j (by omega) j2)
    refine br_t (nI_le (a := 6) (b := l) (by omega) (by omega)) (nm_r e1 ?_)
    by_cases c : d ≤ 47
    · exact br_t (nI_le (a := d) (b := 47) c (by decide)) (HH.1 c)
    · exact br_f (nI_ge (a := 47) (b := d) (by omega) (by omega)) (HH.2 (by omega))
  | succ k ih =>
    intro n l e h1 h2 hw h5 h6
    refine br_f (nI_ge (a := l) (b := 6) (by omega) (by decide)) ?_
    have hkp := bk_two' k
    have c : n < 64 := bk_nleaf n h2 (by rw [hw, Nat.pow_succ]; omega)
    obtain ⟨k1, k2, k3, k4⟩ := bk_kid n c h1
    have hN := hT (2 * n) (by omega) (by omega)
    have hM := hT (2 * n + 1) (by omega) (by omega)
    have g1 := ih (2 * n) (l + 1) (by omega) (by omega) (by omega)
    have g2 := ih (2 * n + 1) (l + 1) (by omega) (by omega) (by omega)
    obtain ⟨_, q2, _⟩ := bk_fit (2 * n) (by omega) (by omega)
    unfold bk_N at hN hM
    rw [k3] at hN g1
    rw [k4, ← k1] at g2 hM
    rw [k2] at hw h5 h6
    rw [Nat.pow_succ] at hw
    generalize bk_wd (2 * n) = w at *
    generalize bk_lo n = lo at *
    obtain ⟨N1, _, _⟩ := hN
    obtain ⟨_, M2, _⟩ := hM
    have mm := bk_mn_add hb lo w (b := w) q2
    rw [← Nat.two_mul] at mm
    have b1 := bk_mn_bd hb (lo := lo + w) (w := w) q2
    have e1 : nI (128 * a) + nI (2 * n) = nI (128 * a + 2 * n) := nI_add _ _
    have e1' : nI (128 * a) + nI (2 * n) + 1 = nI (128 * a + (2 * n + 1)) := by rw [e1, nI_1]; rfl
    have c1 : (nI (128 * a) + nI (2 * n)).toNatClampNeg = 128 * a + 2 * n := by rw [e1]; exact nI_clamp (by omega)
    have c2 : (nI (128 * a) + nI (2 * n) + 1).toNatClampNeg = 128 * a + (2 * n + 1) := by rw [e1']; exact nI_clamp (by omega)
    have i1 : vp_in (nI (128 * a) + nI (2 * n)) 512 := by rw [e1]; exact vp_in_nI (by omega) (by decide)
    have i2 : vp_in (nI (128 * a) + nI (2 * n) + 1) 512 := by rw [e1']; exact vp_in_nI (by omega) (by decide)
    have e3 : bk_I (B lo) + ch (nI (128 * a) + nI (2 * n)).toNatClampNeg = bk_I (B (lo + w)) := by
      rw [c1, N1, bk_add]
      exact congrArg bk_I (by omega)
    have e2 : y ≤ bk_I (B (lo + w)) + le (nI (128 * a) + nI (2 * n) + 1).toNatClampNeg ↔ y.toInt ≤ bk_mn B (lo + w) w := by
      rw [c2, M2, bk_add, show B (lo + w) + (bk_mn B (lo + w) w - B (lo + w)) = bk_mn B (lo + w) w from by omega, bk_lex _ (by omega) (by omega)]
    refine nm_r (e' := nI (2 * n)) (pk_mul 2 n) ⟨i1, nm_r e3 ⟨i2, ?_⟩⟩
    by_cases q : y.toInt ≤ bk_mn B (lo + w) w
    · refine br_t (e2.mpr q) (nm_r (nI_1 l) (g1 (by omega) ?_ (by omega)))
      intro j j1 j2
      by_cases z : lo + w + w ≤ j
      · exact h5 j (by omega) j2
      · have := bk_mn_le (B := B) (lo := lo + w) (w := w) (k := j - (lo + w) + 1) (by omega) (by omega)
        rw [show lo + w + (j - (lo + w) + 1) = j + 1 from by omega] at this
        omega
    · refine br_f (fun z => q (e2.mp z)) (nm_r (nI_1 (2 * n)) (nm_r (nI_1 l) (g2 (by omega) ?_ (by omega))))
      intro j j1 j2
      exact h5 j (by omega) j2
theorem bk_last {post : Int32 → Prop} {B : Nat → Int} {a : Nat} {p0 y : Int32} (ha : a < 4) (hb : bk_bd B) (hB : B 0 = 0) (hT : ∀ n, 1 ≤ n → n < 128 → bk_N B ch le ar (128 * a) n) (h0 : p0 = nI a)
    (H : ∀ r, r < 64 → B (r + 1) < y.toInt → (∀ j, r < j → j < 64 → y.toInt ≤ B (j + 1)) → (r ≤ 47 → post (nI r)) ∧ (47 < r → post 47))
    (Hn : (∀ j, j < 64 → y.toInt ≤ B (j + 1)) → post (-1)) : wpX_lastBelow post (fc, fg, fm, fb, wc, wl, wa, ac, dy, am, gn, fl, ch, le, ar, lg) p0 y := by
  subst h0
  have hN := hT 1 (by decide) (by decide)
  have l1 : bk_lo 1 = 0 := by decide
  have l2 : bk_wd 1 = 64 := by decide
  have K := bk_last_l (fc := fc) (fg := fg) (fm := fm) (fb := fb) (wc := wc) (wl := wl) (wa := wa) (ac := ac) (dy := dy) (am := am) (gn := gn) (fl := fl) (lg := lg) (y := y) ha hb hT H 6 1 0 rfl (by decide) (by decide) rfl
  unfold bk_N at hN
  rw [l1, l2] at hN K
  obtain ⟨_, N2, _⟩ := hN
  have b1 := bk_mn_bd hb (lo := 0) (w := 64) (by decide)
  have e1 : nI (128 * a) + 1 = nI (128 * a + 1) := nI_1 _
  have c1 : (nI (128 * a) + 1).toNatClampNeg = 128 * a + 1 := by rw [e1]; exact nI_clamp (by omega)
  have i1 : vp_in (nI (128 * a) + 1) 512 := by rw [e1]; exact vp_in_nI (by omega) (by decide)
  have e2 : le (nI (128 * a) + 1).toNatClampNeg < y ↔ bk_mn B 0 64 < y.toInt := by
    rw [c1, N2, hB, Int.sub_zero, bk_xlt _ (by omega) (by omega)]
  refine nm_r (e' := nI (128 * a)) (pk_mul 128 a) ⟨i1, ?_⟩
  by_cases q : bk_mn B 0 64 < y.toInt
  · refine br_t (e2.mpr q) ⟨7, ?_⟩
    have K2 := K (fun j j1 j2 => by omega) q
    rw [hB] at K2
    exact K2
  · refine br_f (fun z => q (e2.mp z)) (Hn ?_)
    intro j j2
    have := bk_mn_le (B := B) (lo := 0) (w := 64) (k := j + 1) (by omega) (by omega)
    rw [Nat.zero_add] at this
    omega
end
/-- how many of the days ahead of day d lie below z -/
def bk_cb (B : Nat → Int) (z : Int) : Nat → Nat
  | 0 => 0
  | d + 1 => bk_cb B z d + if B (d + 1) < z then 1 else 0
theorem bk_cb_le (B : Nat → Int) (z : Int) : ∀ d, bk_cb B z d ≤ d
  | 0 => Nat.le_refl _
  | d + 1 => by
    have := bk_cb_le B z d
    show bk_cb B z d + (if B (d + 1) < z then 1 else 0) ≤ d + 1
    split <;> omega
theorem bk_cb_none {B : Nat → Int} {z : Int} {s : Nat} : ∀ {t : Nat}, s ≤ t → (∀ j, s ≤ j → j < t → z ≤ B (j + 1)) → bk_cb B z t = bk_cb B z s
  | 0, h, _ => by obtain rfl : s = 0 := by omega
                  rfl
  | t + 1, h, H => by
    by_cases e : s = t + 1
    · rw [e]
    · have ih := bk_cb_none (B := B) (z := z) (s := s) (t := t) (by omega) (fun j j1 j2 => H j j1 (by omega))
      have q := H t (by omega) (by omega)
      show bk_cb B z t + (if B (t + 1) < z then 1 else 0) = _
      rw [if_neg (by omega), ih]
      rfl
section
variable {fc fg fm fb wc wl wa : Int32} {ac dy am gn fl ch le ar lg : Nat → Int32}
theorem bk_days_l {post : Int32 → SX → Prop} {B : Nat → Int} {a : Nat} {y : Int32} (ha : a < 4) (hb : bk_bd B) (hB : B 0 = 0) (hT : ∀ n, 1 ≤ n → n < 128 → bk_N B ch le ar (128 * a) n)
    (H : ∀ wc' wl' wa' : Int32, post (nI (bk_cb B y.toInt 48)) (fc, fg, fm, fb, wc', wl', wa', ac, dy, am, gn, fl, ch, le, ar, lg)) :
    ∀ (k : Nat), (∀ t (wc wl wa : Int32), t < 48 → 48 < t + k → B (t + 1) < y.toInt → wX_daysBelow_23 post (nI a) y k (nI (bk_cb B y.toInt t)) (nI t) (nI (bk_cb B y.toInt t)) fc fg fm fb wc wl wa ac dy am gn fl ch le ar lg) ∧
      (∀ (wc wl wa : Int32), wX_daysBelow_23 post (nI a) y (k + 1) (nI (bk_cb B y.toInt 48)) (-1) (nI (bk_cb B y.toInt 48)) fc fg fm fb wc wl wa ac dy am gn fl ch le ar lg) := by
  intro k
  have hz : ∀ (k : Nat) (wc wl wa : Int32), wX_daysBelow_23 post (nI a) y (k + 1) (nI (bk_cb B y.toInt 48)) (-1) (nI (bk_cb B y.toInt 48)) fc fg fm fb wc wl wa ac dy am gn fl ch le ar lg := by
    intro k wc wl wa
    exact br_c (fun _ => H _ _ _) (fun _ => br_t (by decide) (H _ _ _))
  refine ⟨?_, hz k⟩
  induction k with
  | zero =>
    intro t wc wl wa h1 h2 h3
    omega
  | succ k ih =>
    intro t wc wl wa h1 h2 h3
    have hc := bk_cb_le B y.toInt t
    have e1 : bk_cb B y.toInt (t + 1) = bk_cb B y.toInt t + 1 := by
      show bk_cb B y.toInt t + (if B (t + 1) < y.toInt then 1 else 0) = _
      rw [if_pos h3]
    have e2 : nI (bk_cb B y.toInt t) + 1 = nI (bk_cb B y.toInt (t + 1)) := by rw [nI_1, e1]
    refine br_f (nI_ge (a := bk_cb B y.toInt t) (b := 48) (by omega) (by decide)) (br_f (nI_pos (by omega)) (nm_r e2 ?_))
    by_cases c : t = 47
    · subst c
      refine br_t rfl (nm_r e2 ?_)
      obtain ⟨m, rfl⟩ : ∃ m, k = m + 1 := ⟨k - 1, by omega⟩
      exact hz m _ _ _
    · refine br_f (fun q => c ((nI_eq (b := 47) (by omega) (by decide)).mp q)) ?_
      refine bk_search (s := t + 1) ha (by omega) hb hB hT rfl (nI_1 t) ?_ ?_
      · intro r r1 r2 r3 r4 wc' wl' wa'
        refine nm_r e2 ?_
        have e3 := bk_cb_none r1 r4
        rw [← e3]
        exact ih r _ _ _ r2 (by omega) r3
      · intro hn wc' wl' wa'
        refine nm_r e2 ?_
        have e3 := bk_cb_none (t := 48) (by omega) hn
        rw [← e3]
        obtain ⟨m, rfl⟩ : ∃ m, k = m + 1 := ⟨k - 1, by omega⟩
        exact hz m _ _ _
end
end
section
/-! the reference: balances from the entries, and its loops over an account whose balances are B -/
def bk_B (ac dy am gn : Nat → Int32) : Nat → Nat → Nat → Int
  | 0, _, _ => 0
  | e + 1, a, j => bk_B ac dy am gn e a j + if gn e = 0 ∧ ac e = nI a ∧ (dy e).toInt < (j : Int) then (am e).toInt else 0
theorem bk_B_s (ac dy am gn : Nat → Int32) (e a j : Nat) : bk_B ac dy am gn (e + 1) a j = bk_B ac dy am gn e a j + if gn e = 0 ∧ ac e = nI a ∧ (dy e).toInt < (j : Int) then (am e).toInt else 0 := rfl
section
variable {yc yb yp : Int32} {ya yd ym yo yf yq : Nat → Int32}
theorem bk_worth_l {post : Int32 → Prop} {a d c : Nat} (hc : c ≤ 60) (hd : d < 64) (H : post (bk_I (bk_B ya yd ym yo c a (d + 1)))) :
    ∀ (k e : Nat), e + k = c → wY_worth_5 post (nI a) (nI d) (nI c) yb yp ya yd ym yo yf yq (k + 1) (bk_I (bk_B ya yd ym yo e a (d + 1))) (nI e) := by
  intro k
  induction k with
  | zero =>
    intro e h
    obtain rfl : e = c := by omega
    exact br_t (nI_le (by omega) (by omega)) H
  | succ k ih =>
    intro e h
    have hcl : (nI e).toNatClampNeg = e := nI_clamp (by omega)
    have hin : vp_in (nI e) 60 := vp_in_nI (by omega) (by decide)
    have hi := ih (e + 1) (by omega)
    rw [bk_B_s] at hi
    refine br_f (nI_ge (by omega) (by omega)) (br_f (nI_ge (a := e) (b := 60) (by omega) (by decide)) ⟨hin, ?_⟩)
    by_cases c1 : yo e = 0
    · refine br_t (by rw [hcl]; exact c1) ⟨hin, ?_⟩
      by_cases c2 : ya e = nI a
      · refine br_t (by rw [hcl]; exact c2) ⟨hin, ?_⟩
        have hlt : nI d < yd (nI e).toNatClampNeg ↔ ¬ (yd e).toInt < ((d + 1 : Nat) : Int) := by
          rw [hcl, bk_nat', bk_xlt _ (by omega) (by omega)]
          omega
        by_cases c3 : (yd e).toInt < ((d + 1 : Nat) : Int)
        · refine br_f (fun q => hlt.mp q c3) ⟨hin, nm_r (e' := bk_I (bk_B ya yd ym yo e a (d + 1) + (ym e).toInt)) ?_ (nm_r (nI_1 e) ?_)⟩
          · rw [hcl, ← bk_add, bk_self]
          · rw [if_pos ⟨c1, c2, c3⟩] at hi
            exact hi
        · refine br_t (hlt.mpr c3) (nm_r (nI_1 e) ?_)
          rw [if_neg (fun q => c3 q.2.2), Int.add_zero] at hi
          exact hi
      · refine br_f (by rw [hcl]; exact c2) (nm_r (nI_1 e) ?_)
        rw [if_neg (fun q => c2 q.2.1), Int.add_zero] at hi
        exact hi
    · refine br_f (by rw [hcl]; exact c1) (nm_r (nI_1 e) ?_)
      rw [if_neg (fun q => c1 q.1), Int.add_zero] at hi
      exact hi
/-- what the reference knows of an account -/
def bk_W (v : SY) (a : Nat) (B : Nat → Int) : Prop := ∀ (post : Int32 → Prop) (d : Nat), d < 48 → post (bk_I (B (d + 1))) → wpY_worth post v (nI a) (nI d)
theorem bk_worth {a c : Nat} (hc : c ≤ 60) : bk_W (nI c, yb, yp, ya, yd, ym, yo, yf, yq) a (bk_B ya yd ym yo c a) := by
  intro post d hd H
  exact ⟨c + 1, bk_worth_l hc (by omega) H c 0 (by omega)⟩
theorem bk_holds_l {post : Int32 → Prop} {B : Nat → Int} {a : Nat} (ha : a < 4) (hb : bk_bd B) (hW : bk_W (yc, yb, yp, ya, yd, ym, yo, yf, yq) a B)
    (H1 : (∀ d, d < 48 → (yf a).toInt ≤ B (d + 1)) → post 1) (H0 : ¬ (∀ d, d < 48 → (yf a).toInt ≤ B (d + 1)) → post 0) :
    ∀ (k d : Nat), d + k = 48 → (∀ j, j < d → (yf a).toInt ≤ B (j + 1)) → wY_holds_2 post (nI a) yc yb yp ya yd ym yo yf yq (k + 1) (nI d) := by
  intro k
  induction k with
  | zero =>
    intro d e h
    obtain rfl : d = 48 := by omega
    exact br_t (nI_le (a := 48) (b := 48) (by decide) (by decide)) (H1 h)
  | succ k ih =>
    intro d e h
    refine br_f (nI_ge (a := d) (b := 48) (by omega) (by decide)) ?_
    refine hW _ d (by omega) ?_
    have hcl : (nI a).toNatClampNeg = a := nI_clamp (by omega)
    have b1 := hb (d + 1)
    have hlt : yf (nI a).toNatClampNeg ≤ bk_I (B (d + 1)) ↔ (yf a).toInt ≤ B (d + 1) := by
      rw [hcl, bk_lex _ (by omega) (by omega)]
    refine ⟨vp_in_nI (by omega) (by decide), ?_⟩
    by_cases c : (yf a).toInt ≤ B (d + 1)
    · refine br_t (hlt.mpr c) (nm_r (nI_1 d) (ih (d + 1) (by omega) ?_))
      intro j hj
      by_cases q : j = d
      · rw [q]; exact c
      · exact h j (by omega)
    · exact br_f (fun q => c (hlt.mp q)) (H0 (fun q => c (q d (by omega))))
theorem bk_holds {post : Int32 → Prop} {B : Nat → Int} {a : Nat} (ha : a < 4) (hb : bk_bd B) (hW : bk_W (yc, yb, yp, ya, yd, ym, yo, yf, yq) a B)
    (H1 : (∀ d, d < 48 → (yf a).toInt ≤ B (d + 1)) → post 1) (H0 : ¬ (∀ d, d < 48 → (yf a).toInt ≤ B (d + 1)) → post 0) : wpY_holds post (yc, yb, yp, ya, yd, ym, yo, yf, yq) (nI a) :=
  ⟨49, bk_holds_l ha hb hW H1 H0 48 0 rfl (fun j h => absurd h (Nat.not_lt_zero j))⟩
theorem bk_all {post : Int32 → Prop} {B : Nat → Nat → Int} (hb : ∀ a, bk_bd (B a)) (hW : ∀ a, a < 4 → bk_W (yc, yb, yp, ya, yd, ym, yo, yf, yq) a (B a))
    (H1 : bk_so B yf → post 1) (H0 : ¬ bk_so B yf → post 0) : wpY_allSound post (yc, yb, yp, ya, yd, ym, yo, yf, yq) := by
  unfold wpY_allSound
  refine bk_holds (a := 0) (by decide) (hb 0) (hW 0 (by decide)) (fun z0 => br_f (by decide) ?_) (fun z => br_t rfl (H0 (fun q => z (q 0 (by decide)))))
  refine bk_holds (a := 1) (by decide) (hb 1) (hW 1 (by decide)) (fun z1 => br_f (by decide) ?_) (fun z => br_t rfl (H0 (fun q => z (q 1 (by decide)))))
  refine bk_holds (a := 2) (by decide) (hb 2) (hW 2 (by decide)) (fun z2 => br_f (by decide) ?_) (fun z => br_t rfl (H0 (fun q => z (q 2 (by decide)))))
  refine bk_holds (a := 3) (by decide) (hb 3) (hW 3 (by decide)) (fun z3 => br_f (by decide) (H1 ?_)) (fun z => br_t rfl (H0 (fun q => z (q 3 (by decide)))))
  intro a ha
  match a, ha with
  | 0, _ => exact z0
  | 1, _ => exact z1
  | 2, _ => exact z2
  | 3, _ => exact z3
/-- the least so far: of the first day ahead of the first step -/
def bk_ms (B : Nat → Int) (f s : Nat) (m : Int) : Prop := (1 ≤ s ∧ m = bk_mn B f s) ∨ (s = 0 ∧ m = B (f + 1))
theorem bk_ms_bd {B : Nat → Int} (hb : bk_bd B) {f s : Nat} {m : Int} (h : bk_ms B f s m) : -600000 ≤ m ∧ m ≤ 600000 := by
  rcases h with ⟨h, rfl⟩ | ⟨_, rfl⟩
  · exact bk_mn_bd hb h
  · exact hb _
theorem bk_ms_s {B : Nat → Int} (hb : bk_bd B) {f s : Nat} {m : Int} (h : bk_ms B f s m) : bk_ms B f (s + 1) (min m (B (f + s + 1))) := by
  refine Or.inl ⟨by omega, ?_⟩
  rcases h with ⟨h, rfl⟩ | ⟨rfl, rfl⟩
  · rfl
  · rw [bk_mn_1 hb, Nat.add_zero]
    omega
theorem bk_ylow_l {post : Int32 → Prop} {B : Nat → Int} {a f z : Nat} (hb : bk_bd B) (hW : bk_W (yc, yb, yp, ya, yd, ym, yo, yf, yq) a B) (he : f + (z + 1) ≤ 48) (H : post (bk_I (bk_mn B f (z + 1)))) :
    ∀ (k s : Nat) (m : Int), s + k = z + 1 → bk_ms B f s m → wY_lowest_34 post (nI a) (nI (f + z)) yc yb yp ya yd ym yo yf yq (k + 1) (bk_I m) (nI (f + s)) := by
  intro k
  induction k with
  | zero =>
    intro s m e hm
    obtain rfl : s = z + 1 := by omega
    refine br_t (nI_lt (by omega) (by omega)) ?_
    rcases hm with ⟨_, rfl⟩ | ⟨h, _⟩
    · exact H
    · omega
  | succ k ih =>
    intro s m e hm
    refine br_f (nI_nlt (by omega) (by omega)) ?_
    refine hW _ (f + s) (by omega) ?_
    have b1 := hb (f + s + 1)
    have b2 := bk_ms_bd hb hm
    have hs := bk_ms_s hb hm
    have hlt : bk_I m ≤ bk_I (B (f + s + 1)) ↔ m ≤ B (f + s + 1) := bk_le (by omega) (by omega) (by omega) (by omega)
    by_cases c : m ≤ B (f + s + 1)
    · rw [Int.min_eq_left c] at hs
      exact br_t (hlt.mpr c) (nm_r (nI_1 (f + s)) (ih (s + 1) m (by omega) hs))
    · rw [Int.min_eq_right (by omega)] at hs
      exact br_f (fun q => c (hlt.mp q)) (nm_r (nI_1 (f + s)) (ih (s + 1) _ (by omega) hs))
theorem bk_ytot_l {post : Int32 → Prop} {B : Nat → Int} {a f z : Nat} (hW : bk_W (yc, yb, yp, ya, yd, ym, yo, yf, yq) a B) (he : f + (z + 1) ≤ 48) (H : post (bk_I (bk_ar B f (z + 1)))) :
    ∀ (k s : Nat), s + k = z + 1 → wY_total_26 post (nI a) (nI (f + z)) yc yb yp ya yd ym yo yf yq (k + 1) (bk_I (bk_ar B f s)) (nI (f + s)) := by
  intro k
  induction k with
  | zero =>
    intro s e
    obtain rfl : s = z + 1 := by omega
    exact br_t (nI_lt (by omega) (by omega)) H
  | succ k ih =>
    intro s e
    refine br_f (nI_nlt (by omega) (by omega)) ?_
    exact hW _ (f + s) (by omega) (nm_r (e' := bk_I (bk_ar B f (s + 1))) (bk_add _ _) (nm_r (nI_1 (f + s)) (ih (s + 1) (by omega))))
theorem bk_yfirst_l {post : Int32 → Prop} {B : Nat → Int} {a s : Nat} {y : Int32} (hb : bk_bd B) (hW : bk_W (yc, yb, yp, ya, yd, ym, yo, yf, yq) a B) {r : Nat} (hr : r < 48) (hy : B (r + 1) < y.toInt) (H : post (nI r)) :
    ∀ (k d : Nat), d + k = r → (∀ j, d ≤ j → j < r → y.toInt ≤ B (j + 1)) → wY_firstBelow_24 post (nI a) y yc yb yp ya yd ym yo yf yq (k + 1) (nI d) := by
  intro k
  induction k with
  | zero =>
    intro d e h
    obtain rfl : d = r := by omega
    have b1 := hb (d + 1)
    refine br_f (nI_ge (a := d) (b := 48) hr (by decide)) (hW _ d hr (br_f ?_ H))
    rw [bk_lex _ (by omega) (by omega)]
    omega
  | succ k ih =>
    intro d e h
    have b1 := hb (d + 1)
    refine br_f (nI_ge (a := d) (b := 48) (by omega) (by decide)) (hW _ d (by omega) (br_t ?_ (nm_r (nI_1 d) (ih (d + 1) (by omega) (fun j j1 j2 => h j (by omega) j2)))))
    rw [bk_lex _ (by omega) (by omega)]
    exact h d (Nat.le_refl _) (by omega)
theorem bk_ynone_l {post : Int32 → Prop} {B : Nat → Int} {a : Nat} {y : Int32} (hb : bk_bd B) (hW : bk_W (yc, yb, yp, ya, yd, ym, yo, yf, yq) a B) (H : post (-3)) :
    ∀ (k d : Nat), d + k = 48 → (∀ j, d ≤ j → j < 48 → y.toInt ≤ B (j + 1)) → wY_firstBelow_24 post (nI a) y yc yb yp ya yd ym yo yf yq (k + 1) (nI d) := by
  intro k
  induction k with
  | zero =>
    intro d e h
    obtain rfl : d = 48 := by omega
    exact br_t (nI_le (a := 48) (b := 48) (by decide) (by decide)) H
  | succ k ih =>
    intro d e h
    have b1 := hb (d + 1)
    refine br_f (nI_ge (a := d) (b := 48) (by omega) (by decide)) (hW _ d (by omega) (br_t ?_ (nm_r (nI_1 d) (ih (d + 1) (by omega) (fun j j1 j2 => h j (by omega) j2)))))
    rw [bk_lex _ (by omega) (by omega)]
    exact h d (Nat.le_refl _) (by omega)
theorem bk_ydays_l {post : Int32 → Prop} {B : Nat → Int} {a : Nat} {y : Int32} (hb : bk_bd B) (hW : bk_W (yc, yb, yp, ya, yd, ym, yo, yf, yq) a B) (H : post (nI (bk_cb B y.toInt 48))) :
    ∀ (k d : Nat), d + k = 48 → wY_daysBelow_15 post (nI a) y yc yb yp ya yd ym yo yf yq (k + 1) (nI (bk_cb B y.toInt d)) (nI d) := by
  intro k
  induction k with
  | zero =>
    intro d e
    obtain rfl : d = 48 := by omega
    exact br_t (nI_le (a := 48) (b := 48) (by decide) (by decide)) H
  | succ k ih =>
    intro d e
    have b1 := hb (d + 1)
    have hi := ih (d + 1) (by omega)
    have e1 : bk_cb B y.toInt (d + 1) = bk_cb B y.toInt d + if B (d + 1) < y.toInt then 1 else 0 := rfl
    have hlt : y ≤ bk_I (B (d + 1)) ↔ ¬ B (d + 1) < y.toInt := by
      rw [bk_lex _ (by omega) (by omega)]
      omega
    refine br_f (nI_ge (a := d) (b := 48) (by omega) (by decide)) (hW _ d (by omega) ?_)
    by_cases c : B (d + 1) < y.toInt
    · rw [if_pos c] at e1
      rw [e1] at hi
      exact br_f (fun q => hlt.mp q c) (nm_r (nI_1 _) (nm_r (nI_1 d) hi))
    · rw [if_neg c] at e1
      rw [e1] at hi
      exact br_t (hlt.mpr c) (nm_r (nI_1 d) hi)
theorem bk_yspare_l {post : Int32 → Prop} {B : Nat → Int} {a f z : Nat} (ha : a < 4) (hb : bk_bd B) (hF : -10000 ≤ (yf a).toInt ∧ (yf a).toInt ≤ 10000) (hW : bk_W (yc, yb, yp, ya, yd, ym, yo, yf, yq) a B) (he : f + (z + 1) = 48)
    (H1 : 0 ≤ bk_mn B f (z + 1) - (yf a).toInt → post (bk_I (bk_mn B f (z + 1) - (yf a).toInt))) (H0 : ¬ 0 ≤ bk_mn B f (z + 1) - (yf a).toInt → post 0) :
    ∀ (k s : Nat) (m : Int), s + k = z + 1 → bk_ms B f s m → wY_spare_17 post (nI a) yc yb yp ya yd ym yo yf yq (k + 1) (bk_I (m - (yf a).toInt)) (nI (f + s)) := by
  have hcl : (nI a).toNatClampNeg = a := nI_clamp (by omega)
  intro k
  induction k with
  | zero =>
    intro s m e hm
    obtain rfl : s = z + 1 := by omega
    have b2 := bk_ms_bd hb hm
    refine br_t (nI_le (a := 48) (by omega) (by omega)) ?_
    have hlt : 0 ≤ bk_I (m - (yf a).toInt) ↔ 0 ≤ m - (yf a).toInt := by
      rw [show (0 : Int32) = bk_I 0 from rfl, bk_le (by omega) (by omega) (by omega) (by omega)]
    rcases hm with ⟨_, rfl⟩ | ⟨h, _⟩
    · by_cases c : 0 ≤ bk_mn B f (z + 1) - (yf a).toInt
      · exact br_t (hlt.mpr c) (H1 c)
      · exact br_f (fun q => c (hlt.mp q)) (H0 c)
    · omega
  | succ k ih =>
    intro s m e hm
    refine br_f (nI_ge (a := f + s) (b := 48) (by omega) (by decide)) ?_
    refine hW _ (f + s) (by omega) ⟨vp_in_nI (by omega) (by decide), nm_r (e' := bk_I (B (f + s + 1) - (yf a).toInt)) (by rw [hcl, ← bk_sub, bk_self]) ?_⟩
    have b1 := hb (f + s + 1)
    have b2 := bk_ms_bd hb hm
    have hs := bk_ms_s hb hm
    have hlt : bk_I (m - (yf a).toInt) ≤ bk_I (B (f + s + 1) - (yf a).toInt) ↔ m ≤ B (f + s + 1) := by
      rw [bk_le (by omega) (by omega) (by omega) (by omega)]
      omega
    by_cases c : m ≤ B (f + s + 1)
    · rw [Int.min_eq_left c] at hs
      exact br_t (hlt.mpr c) (nm_r (nI_1 (f + s)) (ih (s + 1) m (by omega) hs))
    · rw [Int.min_eq_right (by omega)] at hs
      exact br_f (fun q => c (hlt.mp q)) (nm_r (nI_1 (f + s)) (ih (s + 1) _ (by omega) hs))
theorem bk_yspare {post : Int32 → Prop} {B : Nat → Int} {a f : Nat} (ha : a < 4) (hf : f < 48) (hb : bk_bd B) (hF : -10000 ≤ (yf a).toInt ∧ (yf a).toInt ≤ 10000) (hW : bk_W (yc, yb, yp, ya, yd, ym, yo, yf, yq) a B)
    (H1 : 0 ≤ bk_mn B f (48 - f) - (yf a).toInt → post (bk_I (bk_mn B f (48 - f) - (yf a).toInt))) (H0 : ¬ 0 ≤ bk_mn B f (48 - f) - (yf a).toInt → post 0) : wpY_spare post (yc, yb, yp, ya, yd, ym, yo, yf, yq) (nI a) (nI f) := by
  have hcl : (nI a).toNatClampNeg = a := nI_clamp (by omega)
  obtain ⟨z, hz⟩ : ∃ z, 48 - f = z + 1 := ⟨47 - f, by omega⟩
  rw [hz] at H1 H0
  unfold wpY_spare
  refine hW _ f hf ⟨vp_in_nI (by omega) (by decide), nm_r (e' := bk_I (B (f + 1) - (yf a).toInt)) (by rw [hcl, ← bk_sub, bk_self]) ?_⟩
  exact ⟨z + 1 + 1, bk_yspare_l ha hb hF hW (by omega) H1 H0 (z + 1) 0 (B (f + 1)) (by omega) (Or.inr ⟨rfl, rfl⟩)⟩
/-- the reference's firstFree: from a day on, none has room x ahead of r -/
theorem bk_yfree_l {post : Int32 → Prop} {B : Nat → Int} {a r : Nat} {x : Int32} (ha : a < 4) (hb : bk_bd B) (hF : -10000 ≤ (yf a).toInt ∧ (yf a).toInt ≤ 10000) (hW : bk_W (yc, yb, yp, ya, yd, ym, yo, yf, yq) a B) (hx : 1 ≤ x.toInt ∧ x.toInt ≤ 1000000) (hr : r ≤ 48)
    (hlow : ∀ d, d < r → ¬ (yf a).toInt + x.toInt ≤ bk_mn B d (48 - d)) (hok : r < 48 → (yf a).toInt + x.toInt ≤ bk_mn B r (48 - r)) (H1 : r < 48 → post (nI r)) (H0 : r = 48 → post (-3)) :
    ∀ (k d : Nat), d + k = r → wY_firstFree_26 post (nI a) x yc yb yp ya yd ym yo yf yq (k + 1) (nI d) := by
  intro k
  induction k with
  | zero =>
    intro d e
    obtain rfl : d = r := by omega
    by_cases c : d = 48
    · subst c
      exact br_t (nI_le (a := 48) (b := 48) (by decide) (by decide)) (H0 rfl)
    · have ho := hok (by omega)
      have b1 := bk_mn_bd hb (lo := d) (w := 48 - d) (by omega)
      refine br_f (nI_ge (a := d) (b := 48) (by omega) (by decide)) (bk_yspare ha (by omega) hb hF hW (fun z => br_f ?_ (H1 (by omega))) (fun z => absurd (show 0 ≤ bk_mn B d (48 - d) - (yf a).toInt by omega) z))
      rw [bk_xlt _ (by omega) (by omega)]
      omega
  | succ k ih =>
    intro d e
    have hl := hlow d (by omega)
    have b1 := bk_mn_bd hb (lo := d) (w := 48 - d) (by omega)
    have hi := ih (d + 1) (by omega)
    refine br_f (nI_ge (a := d) (b := 48) (by omega) (by decide)) (bk_yspare ha (by omega) hb hF hW (fun z => br_t ?_ (nm_r (nI_1 d) hi)) (fun z => br_t ?_ (nm_r (nI_1 d) hi)))
    · rw [bk_xlt _ (by omega) (by omega)]
      omega
    · rw [show (0 : Int32) = bk_I 0 from rfl, bk_xlt _ (by omega) (by omega)]
      omega
end
end
section
/-! the entries: valid ones, the balances' bounds, one entry more, one flipped, one dropped; soundness; counts -/
def bk_V (c : Nat) (ac dy am : Nat → Int32) : Prop := ∀ e, e < c → (∃ a, a < 4 ∧ ac e = nI a) ∧ (∃ d, d < 48 ∧ dy e = nI d) ∧ (-10000 ≤ (am e).toInt ∧ (am e).toInt ≤ 10000) ∧ am e ≠ 0
theorem bk_V_le {c m : Nat} {ac dy am : Nat → Int32} (h : bk_V c ac dy am) (hm : m ≤ c) : bk_V m ac dy am := fun e he => h e (by omega)
theorem bk_V_put {c a d : Nat} {ac dy am : Nat → Int32} {x : Int32} (h : bk_V c ac dy am) (ha : a < 4) (hd : d < 48) (hx : -10000 ≤ x.toInt ∧ x.toInt ≤ 10000) (hx0 : x ≠ 0) : bk_V (c + 1) (upd ac c (nI a)) (upd dy c (nI d)) (upd am c x) := by
  intro e he
  by_cases q : e = c
  · subst q
    rw [pk_us, pk_us, pk_us]
    exact ⟨⟨a, ha, rfl⟩, ⟨d, hd, rfl⟩, hx, hx0⟩
  · rw [pk_un q, pk_un q, pk_un q]
    exact h e (by omega)
theorem bk_B_congr {ac dy am gn ac' dy' am' gn' : Nat → Int32} : ∀ {c : Nat}, (∀ e, e < c → ac' e = ac e ∧ dy' e = dy e ∧ am' e = am e ∧ (gn' e = 0 ↔ gn e = 0)) → ∀ a j, bk_B ac' dy' am' gn' c a j = bk_B ac dy am gn c a j
  | 0, _, _, _ => rfl
  | c + 1, h, a, j => by
    have ih := bk_B_congr (c := c) (fun e he => h e (by omega)) a j
    obtain ⟨h1, h2, h3, h4⟩ := h c (by omega)
    rw [bk_B_s, bk_B_s, ih, h1, h2, h3]
    by_cases q : gn c = 0 ∧ ac c = nI a ∧ (dy c).toInt < (j : Int)
    · rw [if_pos q, if_pos ⟨h4.mpr q.1, q.2⟩]
    · rw [if_neg q, if_neg (fun z => q ⟨h4.mp z.1, z.2⟩)]
theorem bk_B_lim {ac dy am gn : Nat → Int32} : ∀ {c : Nat}, bk_V c ac dy am → ∀ a j, -(10000 * (c : Int)) ≤ bk_B ac dy am gn c a j ∧ bk_B ac dy am gn c a j ≤ 10000 * (c : Int)
  | 0, _, _, _ => by
    show -(10000 * ((0 : Nat) : Int)) ≤ 0 ∧ (0 : Int) ≤ 10000 * ((0 : Nat) : Int)
    omega
  | c + 1, h, a, j => by
    have ih := bk_B_lim (gn := gn) (c := c) (bk_V_le h (by omega)) a j
    obtain ⟨_, _, h3, _⟩ := h c (by omega)
    rw [bk_B_s]
    split <;> omega
theorem bk_B_bd {ac dy am gn : Nat → Int32} {c : Nat} (hc : c ≤ 60) (h : bk_V c ac dy am) (a : Nat) : bk_bd (bk_B ac dy am gn c a) := by
  intro j
  have := bk_B_lim (gn := gn) h a j
  omega
theorem bk_B_0 {ac dy am gn : Nat → Int32} : ∀ {c : Nat}, bk_V c ac dy am → ∀ a, bk_B ac dy am gn c a 0 = 0
  | 0, _, _ => rfl
  | c + 1, h, a => by
    have ih := bk_B_0 (gn := gn) (c := c) (bk_V_le h (by omega)) a
    obtain ⟨_, ⟨d, hd, e⟩, _, _⟩ := h c (by omega)
    have e2 : (dy c).toInt = (d : Int) := by rw [e]; exact nI_toInt (by omega)
    rw [bk_B_s, ih, if_neg (fun q => by omega)]
    rfl
theorem bk_B_48 {ac dy am gn : Nat → Int32} : ∀ {c : Nat}, bk_V c ac dy am → ∀ a j, 48 ≤ j → bk_B ac dy am gn c a j = bk_B ac dy am gn c a 48
  | 0, _, _, _, _ => rfl
  | c + 1, h, a, j, hj => by
    have ih := bk_B_48 (gn := gn) (c := c) (bk_V_le h (by omega)) a j hj
    obtain ⟨_, ⟨d, hd, e⟩, _, _⟩ := h c (by omega)
    have e2 : (dy c).toInt = (d : Int) := by rw [e]; exact nI_toInt (by omega)
    rw [bk_B_s, bk_B_s, ih]
    by_cases q : gn c = 0 ∧ ac c = nI a
    · rw [if_pos ⟨q.1, q.2, by omega⟩, if_pos ⟨q.1, q.2, by omega⟩]
    · rw [if_neg (fun z => q ⟨z.1, z.2.1⟩), if_neg (fun z => q ⟨z.1, z.2.1⟩)]
theorem bk_cond {ac dy : Nat → Int32} {e a d b j : Nat} {x : Int} (ha : a < 4) (hd : d < 48) (hb : b < 4) (h1 : ac e = nI a) (h2 : dy e = nI d) : (if ac e = nI b ∧ (dy e).toInt < (j : Int) then x else 0) = if b = a ∧ d < j then x else 0 := by
  have e2 : (dy e).toInt = (d : Int) := by rw [h2]; exact nI_toInt (by omega)
  by_cases q : b = a ∧ d < j
  · rw [if_pos q, if_pos ⟨by rw [h1, q.1], by omega⟩]
  · rw [if_neg q, if_neg]
    intro z
    apply q
    rw [h1, nI_eq (by omega) (by omega)] at z
    omega
theorem bk_B_flip {ac dy am gn : Nat → Int32} {e : Nat} (a j : Nat) : ∀ {c : Nat}, e < c → bk_B ac dy am (upd gn e 0) c a j = bk_B ac dy am (upd gn e 1) c a j + if ac e = nI a ∧ (dy e).toInt < (j : Int) then (am e).toInt else 0
  | 0, h => by omega
  | c + 1, h => by
    rw [bk_B_s, bk_B_s]
    by_cases q : e = c
    · subst q
      rw [bk_B_congr (gn := gn) (gn' := upd gn e 0) (ac := ac) (dy := dy) (am := am) (fun i hi => ⟨rfl, rfl, rfl, by rw [pk_un (by omega)]⟩), bk_B_congr (gn := gn) (gn' := upd gn e 1) (ac := ac) (dy := dy) (am := am) (fun i hi => ⟨rfl, rfl, rfl, by rw [pk_un (by omega)]⟩), pk_us, pk_us]
      rw [if_neg (c := (1 : Int32) = 0 ∧ ac e = nI a ∧ (dy e).toInt < (j : Int)) (fun z => absurd z.1 (by decide))]
      by_cases p : ac e = nI a ∧ (dy e).toInt < (j : Int)
      · rw [if_pos p, if_pos ⟨rfl, p⟩]
        omega
      · rw [if_neg p, if_neg (fun z => p z.2)]
        omega
    · have ih := bk_B_flip (ac := ac) (dy := dy) (am := am) (gn := gn) a j (c := c) (e := e) (by omega)
      rw [ih, pk_un (fun z => q z.symm), pk_un (fun z => q z.symm)]
      omega
/-- an entry is cancelled -/
theorem bk_B_off {ac dy am gn : Nat → Int32} {c e a d : Nat} (he : e < c) (ha : a < 4) (hd : d < 48) (h1 : ac e = nI a) (h2 : dy e = nI d) (hg : gn e = 0) : ∀ b, b < 4 → ∀ j, bk_B ac dy am (upd gn e 1) c b j = bk_B ac dy am gn c b j + if b = a ∧ d < j then -(am e).toInt else 0 := by
  intro b hb j
  have F := bk_B_flip (ac := ac) (dy := dy) (am := am) (gn := gn) b j he
  rw [bk_cond ha hd hb h1 h2] at F
  have G := bk_B_congr (ac := ac) (dy := dy) (am := am) (gn := gn) (gn' := upd gn e 0) (ac' := ac) (dy' := dy) (am' := am) (c := c) (fun i hi => ⟨rfl, rfl, rfl, by
    by_cases q : i = e
    · subst q
      rw [pk_us, hg]
    · rw [pk_un q]⟩) b j
  rw [G] at F
  by_cases q : b = a ∧ d < j
  · rw [if_pos q] at F ⊢
    omega
  · rw [if_neg q] at F ⊢
    omega
/-- an entry comes back -/
theorem bk_B_on {ac dy am gn : Nat → Int32} {c e a d : Nat} (he : e < c) (ha : a < 4) (hd : d < 48) (h1 : ac e = nI a) (h2 : dy e = nI d) (hg : gn e ≠ 0) : ∀ b, b < 4 → ∀ j, bk_B ac dy am (upd gn e 0) c b j = bk_B ac dy am gn c b j + if b = a ∧ d < j then (am e).toInt else 0 := by
  intro b hb j
  have F := bk_B_flip (ac := ac) (dy := dy) (am := am) (gn := gn) b j he
  rw [bk_cond ha hd hb h1 h2] at F
  have G := bk_B_congr (ac := ac) (dy := dy) (am := am) (gn := gn) (gn' := upd gn e 1) (ac' := ac) (dy' := dy) (am' := am) (c := c) (fun i hi => ⟨rfl, rfl, rfl, by
    by_cases q : i = e
    · subst q
      rw [pk_us]
      exact ⟨fun z => absurd z (by decide), fun z => absurd z hg⟩
    · rw [pk_un q]⟩) b j
  rw [G] at F
  exact F
/-- one entry more -/
theorem bk_B_put {ac dy am gn : Nat → Int32} {c a d : Nat} {x : Int32} (ha : a < 4) (hd : d < 48) : ∀ b, b < 4 → ∀ j, bk_B (upd ac c (nI a)) (upd dy c (nI d)) (upd am c x) (upd gn c 0) (c + 1) b j = bk_B ac dy am gn c b j + if b = a ∧ d < j then x.toInt else 0 := by
  intro b hb j
  rw [bk_B_s, bk_B_congr (ac := ac) (dy := dy) (am := am) (gn := gn) (fun i hi => ⟨pk_un (by omega), pk_un (by omega), pk_un (by omega), by rw [pk_un (by omega)]⟩), pk_us, pk_us, pk_us, pk_us]
  have C := bk_cond (ac := upd ac c (nI a)) (dy := upd dy c (nI d)) (e := c) (j := j) (x := x.toInt) ha hd hb pk_us pk_us
  rw [pk_us, pk_us] at C
  rw [← C]
  by_cases q : nI a = nI b ∧ (nI d).toInt < (j : Int)
  · rw [if_pos q, if_pos ⟨rfl, q⟩]
  · rw [if_neg q, if_neg (fun z => q z.2)]
/-- the last entry is dropped -/
theorem bk_B_drop {ac dy am gn : Nat → Int32} {c a d : Nat} (ha : a < 4) (hd : d < 48) (h1 : ac c = nI a) (h2 : dy c = nI d) (hg : gn c = 0) : ∀ b, b < 4 → ∀ j, bk_B ac dy am gn c b j = bk_B ac dy am gn (c + 1) b j + if b = a ∧ d < j then -(am c).toInt else 0 := by
  intro b hb j
  have C := bk_cond (j := j) (x := (am c).toInt) ha hd hb h1 h2
  rw [bk_B_s]
  by_cases q : b = a ∧ d < j
  · rw [if_pos q] at C ⊢
    by_cases p : ac c = nI b ∧ (dy c).toInt < (j : Int)
    · rw [if_pos ⟨hg, p⟩]
      omega
    · rw [if_neg p] at C
      rw [if_neg (fun z => p z.2), ← C]
      omega
  · rw [if_neg q] at C ⊢
    by_cases p : ac c = nI b ∧ (dy c).toInt < (j : Int)
    · rw [if_pos p] at C
      rw [if_pos ⟨hg, p⟩, C]
      omega
    · rw [if_neg (fun z => p z.2)]
      omega
theorem bk_B_gone {ac dy am gn : Nat → Int32} {c : Nat} (hg : gn c ≠ 0) (b j : Nat) : bk_B ac dy am gn (c + 1) b j = bk_B ac dy am gn c b j := by
  rw [bk_B_s, if_neg (fun z => hg z.1)]
  omega
theorem bk_T_eq {B C : Nat → Nat → Int} {ch le ar : Nat → Int32} (h : ∀ b, b < 4 → ∀ j, C b j = B b j) (H : bk_T B ch le ar) : bk_T C ch le ar := by
  intro a ha n h1 h2
  rw [show C a = B a from funext (h a ha)]
  exact H a ha n h1 h2
theorem bk_so_eq {B C : Nat → Nat → Int} {fl : Nat → Int32} (h : ∀ b, b < 4 → ∀ j, C b j = B b j) (H : bk_so B fl) : bk_so C fl := by
  intro a ha d hd
  rw [h a ha]
  exact H a ha d hd
/-- a sound book and one change -/
theorem bk_so_one {B C : Nat → Nat → Int} {fl : Nat → Int32} {a d : Nat} {x : Int} (hb : ∀ a, bk_bd (B a)) (ha : a < 4) (hd : d < 48) (hC : ∀ b, b < 4 → ∀ j, C b j = B b j + if b = a ∧ d < j then x else 0) (hs : bk_so B fl) : (0 < x ∨ (fl a).toInt ≤ bk_mn (B a) d (48 - d) + x) ↔ bk_so C fl := by
  constructor
  · intro h b hb' j hj
    have s := hs b hb' j hj
    rw [hC b hb']
    by_cases q : b = a ∧ d < j + 1
    · rw [if_pos q]
      obtain ⟨rfl, q⟩ := q
      rcases h with h | h
      · omega
      · have := bk_mn_le (B := B b) (lo := d) (w := 48 - d) (k := j + 1 - d) (by omega) (by omega)
        rw [show d + (j + 1 - d) = j + 1 from by omega] at this
        omega
    · rw [if_neg q]
      omega
  · intro h
    by_cases c : 0 < x
    · exact Or.inl c
    · refine Or.inr ?_
      obtain ⟨k, k1, k2, e⟩ := bk_mn_ex (hb a) (lo := d) (w := 48 - d) (by omega)
      have := h a ha (d + k - 1) (by omega)
      rw [show d + k - 1 + 1 = d + k from by omega, hC a ha, if_pos ⟨rfl, by omega⟩] at this
      rw [e]
      exact this
/-- a second change for the better, of another account -/
theorem bk_so_two {B C D : Nat → Nat → Int} {fl : Nat → Int32} {a b d : Nat} {x y : Int} (hne : a ≠ b) (hy : 0 ≤ y) (hC : ∀ i, i < 4 → ∀ j, C i j = B i j + if i = a ∧ d < j then x else 0) (hD : ∀ i, i < 4 → ∀ j, D i j = C i j + if i = b ∧ d < j then y else 0) (hs : bk_so B fl) : bk_so C fl ↔ bk_so D fl := by
  constructor
  · intro h i hi j hj
    have s := h i hi j hj
    rw [hD i hi]
    split <;> omega
  · intro h i hi j hj
    have s := h i hi j hj
    rw [hD i hi] at s
    by_cases q : i = b
    · have t := hs i hi j hj
      rw [hC i hi, if_neg (fun z => hne (z.1.symm.trans q))]
      omega
    · rw [if_neg (fun z => q z.1)] at s
      omega
theorem bk_so_floor {B : Nat → Nat → Int} {fl : Nat → Int32} {a : Nat} {x : Int32} (hb : bk_bd (B a)) (ha : a < 4) (hs : bk_so B fl) : x.toInt ≤ bk_mn (B a) 0 48 ↔ bk_so B (upd fl a x) := by
  rw [bk_so_mn hb]
  constructor
  · intro h b hb' d hd
    by_cases q : b = a
    · subst q
      rw [pk_us]
      exact h d hd
    · rw [pk_un q]
      exact hs b hb' d hd
  · intro h d hd
    have := h a ha d hd
    rw [pk_us] at this
    exact this
/-- how many entries are gone -/
def bk_cg (gn : Nat → Int32) : Nat → Nat
  | 0 => 0
  | e + 1 => bk_cg gn e + if gn e = 0 then 0 else 1
theorem bk_cg_le (gn : Nat → Int32) : ∀ c, bk_cg gn c ≤ c
  | 0 => Nat.le_refl _
  | c + 1 => by
    have := bk_cg_le gn c
    show bk_cg gn c + (if gn c = 0 then 0 else 1) ≤ c + 1
    split <;> omega
theorem bk_cg_congr {gn gn' : Nat → Int32} : ∀ {c : Nat}, (∀ e, e < c → gn' e = gn e) → bk_cg gn' c = bk_cg gn c
  | 0, _ => rfl
  | c + 1, h => by
    have ih := bk_cg_congr (gn := gn) (gn' := gn') (c := c) (fun e he => h e (by omega))
    show bk_cg gn' c + (if gn' c = 0 then 0 else 1) = bk_cg gn c + (if gn c = 0 then 0 else 1)
    rw [ih, h c (by omega)]
theorem bk_cg_put (gn : Nat → Int32) (c : Nat) : bk_cg (upd gn c 0) (c + 1) = bk_cg gn c := by
  show bk_cg (upd gn c 0) c + (if upd gn c 0 c = 0 then 0 else 1) = _
  rw [pk_us, if_pos rfl, Nat.add_zero]
  exact bk_cg_congr (fun e he => pk_un (by omega))
theorem bk_cg_off {gn : Nat → Int32} {e : Nat} (hg : gn e = 0) : ∀ {c : Nat}, e < c → bk_cg (upd gn e 1) c = bk_cg gn c + 1
  | 0, h => by omega
  | c + 1, h => by
    show bk_cg (upd gn e 1) c + (if upd gn e 1 c = 0 then 0 else 1) = bk_cg gn c + (if gn c = 0 then 0 else 1) + 1
    by_cases q : e = c
    · subst q
      rw [bk_cg_congr (gn := gn) (gn' := upd gn e 1) (fun i hi => pk_un (by omega)), pk_us, if_neg (by decide), hg, if_pos rfl]
    · have ih := bk_cg_off (gn := gn) (e := e) hg (c := c) (by omega)
      rw [ih, pk_un (fun z => q z.symm)]
      omega
end
section
/-! what changes a state: enter, put, the loops of open and close; the checks of arguments -/
section
variable {fc fg fm fb wc wl wa : Int32} {ac dy am gn fl ch le ar lg : Nat → Int32}
theorem bk_enter {post : Int32 → SX → Prop} {c a d : Nat} {x : Int32} (hc : c < 60) (hV : bk_V c ac dy am) (ha : a < 4) (hd : d < 48) (hx : -10000 ≤ x.toInt ∧ x.toInt ≤ 10000) (hx0 : x ≠ 0) (hT : bk_T (bk_B ac dy am gn c) ch le ar)
    (H : ∀ ch' le' ar' : Nat → Int32, bk_T (bk_B (upd ac c (nI a)) (upd dy c (nI d)) (upd am c x) (upd gn c 0) (c + 1)) ch' le' ar' → post (nI c) (nI (c + 1), fg, fm, fb, wc, wl, wa, upd ac c (nI a), upd dy c (nI d), upd am c x, upd gn c 0, fl, ch', le', ar', lg)) : wpX_enter post (nI c, fg, fm, fb, wc, wl, wa, ac, dy, am, gn, fl, ch, le, ar, lg) (nI a) (nI d) x := by
  have hcl : (nI c).toNatClampNeg = c := nI_clamp (by omega)
  have hin : vp_in (nI c) 60 := vp_in_nI hc (by decide)
  refine ⟨hin, nm_r (e' := upd ac c (nI a)) (by rw [hcl]) ⟨hin, nm_r (e' := upd dy c (nI d)) (by rw [hcl]) ⟨hin, nm_r (e' := upd am c x) (by rw [hcl]) ⟨hin, nm_r (e' := upd gn c 0) (by rw [hcl, bk_nar0]) ?_⟩⟩⟩⟩
  refine bk_addX (x := x.toInt) ha hd (bk_B_bd (by omega) (bk_V_put hV ha hd hx hx0)) hT (bk_B_put ha hd) rfl rfl (bk_self' x) ?_
  intro ch' le' ar' hT'
  refine nm_r (nI_1 c) ?_
  have e : nI (c + 1) - 1 = nI c := nI_pred c
  rw [e]
  exact H _ _ _ hT'
end
section
variable {yc yb yp : Int32} {ya yd ym yo yf yq : Nat → Int32}
theorem bk_put {post : SY → Prop} {c : Nat} {p0 p1 p2 : Int32} (hc : c < 60) (H : post (nI (c + 1), yb, yp, upd ya c p0, upd yd c p1, upd ym c p2, upd yo c 0, yf, yq)) : wpY_put post (nI c, yb, yp, ya, yd, ym, yo, yf, yq) p0 p1 p2 := by
  have hcl : (nI c).toNatClampNeg = c := nI_clamp (by omega)
  have hin : vp_in (nI c) 60 := vp_in_nI hc (by decide)
  exact br_t (nI_lt (b := 60) hc (by decide)) ⟨hin, nm_r (e' := upd ya c p0) (by rw [hcl]) ⟨hin, nm_r (e' := upd yd c p1) (by rw [hcl]) ⟨hin, nm_r (e' := upd ym c p2) (by rw [hcl]) ⟨hin, nm_r (e' := upd yo c 0) (by rw [hcl, bk_nar0]) (nm_r (nI_1 c) H)⟩⟩⟩⟩
theorem bk_yopen_l {post : Int32 → SY → Prop} (H : ∀ yq' : Nat → Int32, (∀ e, e < 60 → yq' e = vp_nar .boolean (yo e)) → post 0 (yc, yb, yp, ya, yd, ym, yo, yf, yq')) :
    ∀ (k i : Nat) (yq : Nat → Int32), i + k = 60 → (∀ e, e < i → yq e = vp_nar .boolean (yo e)) → wY_open_24 post yc yb yp (k + 1) (nI i) ya yd ym yo yf yq := by
  intro k
  induction k with
  | zero =>
    intro i yq e h
    obtain rfl : i = 60 := by omega
    exact br_t (nI_le (a := 60) (b := 60) (by decide) (by decide)) (H yq h)
  | succ k ih =>
    intro i yq e h
    have hcl : (nI i).toNatClampNeg = i := nI_clamp (by omega)
    have hin : vp_in (nI i) 60 := vp_in_nI (by omega) (by decide)
    refine br_f (nI_ge (a := i) (b := 60) (by omega) (by decide)) ⟨hin, hin, nm_r (e' := upd yq i (vp_nar .boolean (yo i))) (by rw [hcl]) (nm_r (nI_1 i) (ih (i + 1) _ (by omega) ?_))⟩
    intro j hj
    by_cases q : j = i
    · subst q
      exact pk_us
    · rw [pk_un q]
      exact h j (by omega)
theorem bk_yclose_l {post : Int32 → SY → Prop} (H : ∀ yo' : Nat → Int32, (∀ e, e < 60 → yo' e = vp_nar .boolean (yq e)) → post 0 (yc, yb, yp, ya, yd, ym, yo', yf, yq)) :
    ∀ (k i : Nat) (yo : Nat → Int32), i + k = 60 → (∀ e, e < i → yo e = vp_nar .boolean (yq e)) → wY_close_33 post yc yb yp (k + 1) (nI i) ya yd ym yo yf yq := by
  intro k
  induction k with
  | zero =>
    intro i yo e h
    obtain rfl : i = 60 := by omega
    exact br_t (nI_le (a := 60) (b := 60) (by decide) (by decide)) (H yo h)
  | succ k ih =>
    intro i yo e h
    have hcl : (nI i).toNatClampNeg = i := nI_clamp (by omega)
    have hin : vp_in (nI i) 60 := vp_in_nI (by omega) (by decide)
    refine br_f (nI_ge (a := i) (b := 60) (by omega) (by decide)) ⟨hin, hin, nm_r (e' := upd yo i (vp_nar .boolean (yq i))) (by rw [hcl]) (nm_r (nI_1 i) (ih (i + 1) _ (by omega) ?_))⟩
    intro j hj
    by_cases q : j = i
    · subst q
      exact pk_us
    · rw [pk_un q]
      exact h j (by omega)
end
/-- what a batch keeps: the mark, the log, and which entries were gone ahead of it -/
def bk_L (c m g : Nat) (gn yq lg : Nat → Int32) : Prop :=
  m ≤ c ∧ g ≤ bk_cg gn c ∧ (∀ i, i < g → ∃ e, e < c ∧ lg i = nI e ∧ gn e ≠ 0) ∧ (∀ i k, i < k → k < g → lg i ≠ lg k) ∧
  (∀ e, e < m → (yq e = 0 ∨ yq e = 1) ∧ (gn e ≠ 0 ↔ (yq e ≠ 0 ∨ ∃ i, i < g ∧ lg i = nI e))) ∧ (∀ i e, i < g → e < m → lg i = nI e → yq e = 0)
theorem bk_L_0 {c : Nat} {gn yq lg : Nat → Int32} (h : ∀ e, e < c → (gn e = 0 ∨ gn e = 1) ∧ yq e = gn e) : bk_L c c 0 gn yq lg := by
  refine ⟨Nat.le_refl _, Nat.zero_le _, fun i hi => by omega, fun i k _ hk => by omega, ?_, fun i e hi => by omega⟩
  intro e he
  obtain ⟨h1, h2⟩ := h e he
  rw [h2]
  exact ⟨h1, fun z => Or.inl z, fun z => z.elim id (fun ⟨i, hi, _⟩ => absurd hi (Nat.not_lt_zero i))⟩
theorem bk_L_put {c m g : Nat} {gn yq lg : Nat → Int32} (h : bk_L c m g gn yq lg) : bk_L (c + 1) m g (upd gn c 0) yq lg := by
  obtain ⟨h1, h2, h3, h4, h5, h6⟩ := h
  refine ⟨by omega, by rw [bk_cg_put]; exact h2, ?_, h4, ?_, h6⟩
  · intro i hi
    obtain ⟨e, e1, e2, e3⟩ := h3 i hi
    exact ⟨e, by omega, e2, by rw [pk_un (by omega)]; exact e3⟩
  · intro e he
    rw [pk_un (by omega)]
    exact h5 e he
theorem bk_L_off {c m g e : Nat} {gn yq lg : Nat → Int32} (hc : c ≤ 60) (he : e < c) (hg : gn e = 0) (h : bk_L c m g gn yq lg) : g < 60 ∧ bk_L c m (g + 1) (upd gn e 1) yq (upd lg g (nI e)) := by
  obtain ⟨h1, h2, h3, h4, h5, h6⟩ := h
  have n1 := bk_cg_off hg he
  have n2 := bk_cg_le (upd gn e 1) c
  have fresh : ∀ i, i < g → lg i ≠ nI e := by
    intro i hi q
    obtain ⟨e', e1, e2, e3⟩ := h3 i hi
    rw [e2, nI_eq (by omega) (by omega)] at q
    subst q
    exact e3 hg
  refine ⟨by omega, h1, by omega, ?_, ?_, ?_, ?_⟩
  · intro i hi
    by_cases q : i = g
    · subst q
      exact ⟨e, he, pk_us, by rw [pk_us]; decide⟩
    · rw [pk_un q]
      obtain ⟨e', e1, e2, e3⟩ := h3 i (by omega)
      refine ⟨e', e1, e2, ?_⟩
      by_cases p : e' = e
      · subst p
        rw [pk_us]; decide
      · rw [pk_un p]
        exact e3
  · intro i k hi hk
    rw [pk_un (by omega)]
    by_cases q : k = g
    · subst q
      rw [pk_us]
      exact fresh i hi
    · rw [pk_un q]
      exact h4 i k hi (by omega)
  · intro e' he'
    obtain ⟨h51, h52⟩ := h5 e' he'
    refine ⟨h51, ?_⟩
    by_cases p : e' = e
    · subst p
      rw [pk_us]
      exact ⟨fun _ => Or.inr ⟨g, by omega, pk_us⟩, fun _ => by decide⟩
    · rw [pk_un p, h52]
      constructor
      · rintro (z | ⟨i, i1, i2⟩)
        · exact Or.inl z
        · exact Or.inr ⟨i, by omega, by rw [pk_un (by omega)]; exact i2⟩
      · rintro (z | ⟨i, i1, i2⟩)
        · exact Or.inl z
        · by_cases q : i = g
          · subst q
            rw [pk_us, nI_eq (by omega) (by omega)] at i2
            exact absurd i2.symm p
          · rw [pk_un q] at i2
            exact Or.inr ⟨i, by omega, i2⟩
  · intro i e' hi he' q
    by_cases p : i = g
    · subst p
      rw [pk_us, nI_eq (by omega) (by omega)] at q
      subst q
      by_cases z : yq e = 0
      · exact z
      · exact absurd hg ((h5 e he').2.mpr (Or.inl z))
    · rw [pk_un p] at q
      exact h6 i e' (by omega) he' q
section
variable {fc fg fm fb wc wl wa : Int32} {ac dy am gn fl ch le ar lg : Nat → Int32}
theorem bk_close85 {post : Int32 → SX → Prop} {m g : Nat} {yq : Nat → Int32} (hm : m ≤ 60) (hg : g ≤ 60) (hV : bk_V m ac dy am) (hlg : ∀ i, i < g → ∃ e, e < 60 ∧ lg i = nI e) (hdi : ∀ i k, i < k → k < g → lg i ≠ lg k) (hq : ∀ e, e < m → yq e = 0 ∨ yq e = 1) (hl0 : ∀ i e, i < g → e < m → lg i = nI e → yq e = 0)
    (H : ∀ gn' ch' le' ar' : Nat → Int32, (∀ e, e < m → gn' e = yq e) → bk_T (bk_B ac dy am gn' m) ch' le' ar' → post 0 (nI m, nI g, nI m, fb, wc, wl, wa, ac, dy, am, gn', fl, ch', le', ar', lg)) :
    ∀ (k i : Nat) (gn ch le ar : Nat → Int32), i + k = g → bk_T (bk_B ac dy am gn m) ch le ar → (∀ e, e < m → (gn e = 0 ∨ gn e = 1) ∧ (gn e ≠ 0 ↔ (yq e ≠ 0 ∨ ∃ j, i ≤ j ∧ j < g ∧ lg j = nI e))) →
      wX_close_85 post (k + 1) (nI i) fc (nI g) (nI m) fb wc wl wa ac dy am gn fl ch le ar lg := by
  intro k
  induction k with
  | zero =>
    intro i gn ch le ar e hT hG
    obtain rfl : i = g := by omega
    refine br_t (nI_le (Nat.le_refl _) (by omega)) (H gn ch le ar ?_ hT)
    intro e he
    obtain ⟨h1, h2⟩ := hG e he
    have h3 : gn e ≠ 0 ↔ yq e ≠ 0 := h2.trans ⟨fun z => z.elim id (fun ⟨j, j1, j2, _⟩ => by omega), Or.inl⟩
    rcases h1 with h1 | h1 <;> rcases hq e he with h4 | h4
    · rw [h1, h4]
    · exact absurd h1 (h3.mpr (by rw [h4]; decide))
    · exact absurd h4 (h3.mp (by rw [h1]; decide))
    · rw [h1, h4]
  | succ k ih =>
    intro i gn ch le ar e hT hG
    have hcl : (nI i).toNatClampNeg = i := nI_clamp (by omega)
    have hin : vp_in (nI i) 60 := vp_in_nI (by omega) (by decide)
    obtain ⟨x, x1, x2⟩ := hlg i (by omega)
    refine br_f (nI_ge (by omega) (by omega)) ⟨hin, nm_r (e' := nI x) (by rw [hcl, x2]) ?_⟩
    by_cases c : m ≤ x
    · refine br_t (nI_le c (by omega)) (nm_r (nI_1 i) (ih (i + 1) gn ch le ar (by omega) hT ?_))
      intro e' he'
      obtain ⟨h1, h2⟩ := hG e' he'
      refine ⟨h1, h2.trans ⟨?_, ?_⟩⟩
      · rintro (z | ⟨j, j1, j2, j3⟩)
        · exact Or.inl z
        · by_cases q : j = i
          · subst q
            rw [x2, nI_eq (by omega) (by omega)] at j3
            omega
          · exact Or.inr ⟨j, by omega, j2, j3⟩
      · rintro (z | ⟨j, j1, j2, j3⟩)
        · exact Or.inl z
        · exact Or.inr ⟨j, by omega, j2, j3⟩
    · have hcx : (nI x).toNatClampNeg = x := nI_clamp (by omega)
      have hix : vp_in (nI x) 60 := vp_in_nI (by omega) (by decide)
      obtain ⟨⟨a, ha, va⟩, ⟨d, hd, vd⟩, vx, _⟩ := hV x (by omega)
      have hgx : gn x ≠ 0 := (hG x (by omega)).2.mpr (Or.inr ⟨i, Nat.le_refl _, by omega, x2⟩)
      refine br_f (nI_ge (by omega) (by omega)) ⟨hix, nm_r (e' := upd gn x 0) (by rw [hcx, bk_nar0]) ⟨hix, hix, hix, ?_⟩⟩
      refine bk_addX (x := (am x).toInt) (B := bk_B ac dy am gn m) (C := bk_B ac dy am (upd gn x 0) m) ha hd (bk_B_bd hm hV) hT (bk_B_on (by omega) ha hd va vd hgx) (by rw [hcx, va]) (by rw [hcx, vd]) (by rw [hcx]; exact bk_self' _) ?_
      intro ch' le' ar' hT'
      refine nm_r (nI_1 i) (ih (i + 1) _ _ _ _ (by omega) hT' ?_)
      intro e' he'
      obtain ⟨h1, h2⟩ := hG e' he'
      by_cases q : e' = x
      · subst q
        rw [pk_us]
        refine ⟨Or.inl rfl, fun z => absurd rfl z, ?_⟩
        rintro (z | ⟨j, j1, j2, j3⟩)
        · exact absurd (hl0 i e' (by omega) he' x2) z
        · exact absurd (x2.trans j3.symm) (hdi i j (by omega) j2)
      · rw [pk_un q]
        refine ⟨h1, h2.trans ⟨?_, ?_⟩⟩
        · rintro (z | ⟨j, j1, j2, j3⟩)
          · exact Or.inl z
          · by_cases p : j = i
            · subst p
              rw [x2, nI_eq (by omega) (by omega)] at j3
              exact absurd j3.symm q
            · exact Or.inr ⟨j, by omega, j2, j3⟩
        · rintro (z | ⟨j, j1, j2, j3⟩)
          · exact Or.inl z
          · exact Or.inr ⟨j, by omega, j2, j3⟩
theorem bk_close30 {post : Int32 → SX → Prop} {c m : Nat} {g0 : Nat → Int32} (hc : c ≤ 60) (hV : bk_V c ac dy am)
    (H : ∀ gn' ch' le' ar' : Nat → Int32, (∀ e, e < m → gn' e = g0 e) → bk_T (bk_B ac dy am gn' m) ch' le' ar' → ∃ n85 : Nat, wX_close_85 post n85 0 fc fg (nI m) fb wc wl wa ac dy am (gn') fl (ch') (le') (ar') lg) :
    ∀ (k e : Nat) (gn ch le ar : Nat → Int32), m + k = e → e ≤ c → (∀ i, i < e → gn i = g0 i) → bk_T (bk_B ac dy am gn e) ch le ar → wX_close_30 post (k + 1) (bk_I ((e : Int) - 1)) fc fg (nI m) fb wc wl wa ac dy am gn fl ch le ar lg := by
  intro k
  induction k with
  | zero =>
    intro e gn ch le ar h1 h2 hg hT
    obtain rfl : e = m := by omega
    refine br_t ?_ (H gn ch le ar hg hT)
    rw [bk_nat', bk_lt (by omega) (by omega) (by omega) (by omega)]
    omega
  | succ k ih =>
    intro e gn ch le ar h1 h2 hg hT
    obtain ⟨x, rfl⟩ : ∃ x, e = x + 1 := ⟨e - 1, by omega⟩
    have e0 : bk_I (((x + 1 : Nat) : Int) - 1) = nI x := by
      rw [bk_nat']
      exact congrArg bk_I (by omega)
    rw [e0]
    have hcl : (nI x).toNatClampNeg = x := nI_clamp (by omega)
    have hin : vp_in (nI x) 60 := vp_in_nI (by omega) (by decide)
    have e1 : nI x + (-1) = bk_I ((x : Int) - 1) := by
      rw [bk_nat', show (-1 : Int32) = bk_I (-1) from rfl, bk_add]
      exact congrArg bk_I (by omega)
    obtain ⟨⟨a, ha, va⟩, ⟨d, hd, vd⟩, vx, _⟩ := hV x (by omega)
    have hg' : ∀ i, i < x → upd gn x 0 i = g0 i := by
      intro i hi
      rw [pk_un (by omega)]
      exact hg i (by omega)
    have hBe : ∀ b, b < 4 → ∀ j, bk_B ac dy am (upd gn x 0) x b j = bk_B ac dy am gn x b j := by
      intro b _ j
      exact bk_B_congr (fun i hi => ⟨rfl, rfl, rfl, by rw [pk_un (by omega)]⟩) b j
    refine br_f (nI_nlt (by omega) (by omega)) ⟨hin, ?_⟩
    by_cases c0 : gn x = 0
    · refine br_t (by rw [hcl]; exact c0) ⟨hin, hin, hin, ?_⟩
      refine bk_addX (x := -(am x).toInt) (B := bk_B ac dy am gn (x + 1)) (C := bk_B ac dy am gn x) ha hd (bk_B_bd (by omega) (bk_V_le hV (by omega))) hT (bk_B_drop ha hd va vd c0) (by rw [hcl, va]) (by rw [hcl, vd]) (by rw [hcl, ← bk_neg, bk_self]) ?_
      intro ch' le' ar' hT'
      exact ⟨hin, nm_r (e' := upd gn x 0) (by rw [hcl, bk_nar0]) (nm_r e1 (ih x _ _ _ _ (by omega) (by omega) hg' (bk_T_eq hBe hT')))⟩
    · refine br_f (by rw [hcl]; exact c0) ⟨hin, nm_r (e' := upd gn x 0) (by rw [hcl, bk_nar0]) (nm_r e1 (ih x _ _ _ _ (by omega) (by omega) hg' (bk_T_eq ?_ hT)))⟩
      intro b hb j
      rw [hBe b hb j, bk_B_gone c0]
end
end
section
/-! the relation, and the checks of arguments on both sides -/
def bk_Q (c : Nat) (ac dy am gn ya yd ym yo : Nat → Int32) : Prop := ∀ e, e < c → ya e = ac e ∧ yd e = dy e ∧ ym e = am e ∧ yo e = gn e ∧ (gn e = 0 ∨ gn e = 1)
def bk_F (fl : Nat → Int32) : Prop := ∀ a, a < 4 → -10000 ≤ (fl a).toInt ∧ (fl a).toInt ≤ 10000
def bk_S (c : Nat) (fg fm fb yp : Int32) (ac dy am gn fl lg yq : Nat → Int32) : Prop :=
  (fb = 0 ∧ bk_so (bk_B ac dy am gn c) fl) ∨ (fb = 1 ∧ ∃ m g, fm = nI m ∧ yp = nI m ∧ fg = nI g ∧ bk_L c m g gn yq lg ∧ bk_so (bk_B ac dy am yq m) fl)
def bk_P (c : Nat) (fg fm fb yp : Int32) (ac dy am gn fl ch le ar lg ya yd ym yo yq : Nat → Int32) : Prop :=
  c ≤ 60 ∧ bk_V c ac dy am ∧ bk_Q c ac dy am gn ya yd ym yo ∧ bk_F fl ∧ bk_T (bk_B ac dy am gn c) ch le ar ∧ bk_S c fg fm fb yp ac dy am gn fl lg yq
def i_Rel (_ : Nat) (u : SX) (v : SY) : Prop := match u, v with
  | (fc, fg, fm, fb, wc, wl, wa, ac, dy, am, gn, fl, ch, le, ar, lg), (yc, yb, yp, ya, yd, ym, yo, yf, yq) => ∃ c, fc = nI c ∧ yc = nI c ∧ yb = fb ∧ yf = fl ∧ bk_P c fg fm fb yp ac dy am gn fl ch le ar lg ya yd ym yo yq
theorem i_up {k : Nat} {u : SX} {v : SY} (h : i_Rel k u v) : i_Rel (k + 4) u v := h
theorem bk_el {P : SX → SY → Prop} {k : Nat} {u : SX} {v : SY} (h : ∀ (c : Nat) (fg fm fb wc wl wa : Int32) (ac dy am gn fl ch le ar lg : Nat → Int32) (yp : Int32) (ya yd ym yo yq : Nat → Int32), bk_P c fg fm fb yp ac dy am gn fl ch le ar lg ya yd ym yo yq → P (nI c, fg, fm, fb, wc, wl, wa, ac, dy, am, gn, fl, ch, le, ar, lg) (nI c, fb, yp, ya, yd, ym, yo, fl, yq)) (I : i_Rel k u v) : P u v := by
  obtain ⟨fc, fg, fm, fb, wc, wl, wa, ac, dy, am, gn, fl, ch, le, ar, lg⟩ := u
  obtain ⟨yc, yb, yp, ya, yd, ym, yo, yf, yq⟩ := v
  obtain ⟨c, h1, h2, h3, h4, H⟩ := I
  subst h1 h2 h3 h4
  exact h _ _ _ _ _ _ _ _ _ _ _ _ _ _ _ _ _ _ _ _ _ _ H
section
variable {fc fg fm fb wc wl wa : Int32} {ac dy am gn fl ch le ar lg : Nat → Int32}
variable {yc yb yp : Int32} {ya yd ym yo yf yq : Nat → Int32}
theorem bk_in {k c : Nat} (H : bk_P c fg fm fb yp ac dy am gn fl ch le ar lg ya yd ym yo yq) : i_Rel k (nI c, fg, fm, fb, wc, wl, wa, ac, dy, am, gn, fl, ch, le, ar, lg) (nI c, fb, yp, ya, yd, ym, yo, fl, yq) := ⟨c, rfl, rfl, rfl, rfl, H⟩
theorem bk_QW {c a : Nat} (hc : c ≤ 60) (hQ : bk_Q c ac dy am gn ya yd ym yo) : bk_W (nI c, yb, yp, ya, yd, ym, yo, yf, yq) a (bk_B ac dy am gn c a) := by
  have h := bk_worth (yb := yb) (yp := yp) (ya := ya) (yd := yd) (ym := ym) (yo := yo) (yf := yf) (yq := yq) (a := a) hc
  rw [show bk_B ya yd ym yo c a = bk_B ac dy am gn c a from funext (fun j => bk_B_congr (fun e he => ⟨(hQ e he).1, (hQ e he).2.1, (hQ e he).2.2.1, by rw [(hQ e he).2.2.2.1]⟩) a j)] at h
  exact h
theorem bk_Q_put {c : Nat} {p q r : Int32} (hQ : bk_Q c ac dy am gn ya yd ym yo) : bk_Q (c + 1) (upd ac c p) (upd dy c q) (upd am c r) (upd gn c 0) (upd ya c p) (upd yd c q) (upd ym c r) (upd yo c 0) := by
  intro e he
  by_cases z : e = c
  · subst z
    rw [pk_us, pk_us, pk_us, pk_us, pk_us, pk_us, pk_us, pk_us]
    exact ⟨rfl, rfl, rfl, rfl, Or.inl rfl⟩
  · rw [pk_un z, pk_un z, pk_un z, pk_un z, pk_un z, pk_un z, pk_un z, pk_un z]
    exact hQ e (by omega)
theorem bk_Q_junk {c k : Nat} {p q r s : Int32} (hk : c ≤ k) (hQ : bk_Q c ac dy am gn ya yd ym yo) : bk_Q c ac dy am gn (upd ya k p) (upd yd k q) (upd ym k r) (upd yo k s) := by
  intro e he
  rw [pk_un (by omega), pk_un (by omega), pk_un (by omega), pk_un (by omega)]
  exact hQ e he
theorem bk_S_put {c : Nat} {p q r : Int32} (hL : bk_so (bk_B (upd ac c p) (upd dy c q) (upd am c r) (upd gn c 0) (c + 1)) fl ∨ fb = 1) (hS : bk_S c fg fm fb yp ac dy am gn fl lg yq) : bk_S (c + 1) fg fm fb yp (upd ac c p) (upd dy c q) (upd am c r) (upd gn c 0) fl lg yq := by
  rcases hS with ⟨h1, _⟩ | ⟨h1, m, g, h2, h3, h4, h5, h6⟩
  · refine Or.inl ⟨h1, hL.elim id (fun z => ?_)⟩
    rw [h1] at z
    exact absurd z (by decide)
  · refine Or.inr ⟨h1, m, g, h2, h3, h4, bk_L_put h5, bk_so_eq ?_ h6⟩
    intro b _ j
    have := h5.1
    exact bk_B_congr (fun e he => ⟨pk_un (by omega), pk_un (by omega), pk_un (by omega), Iff.rfl⟩) b j
/-! an account, a day, an entry, a stretch -/
theorem bk_ix4 (x : Int32) : (x < 0 ∨ nI 4 ≤ x) ∨ ∃ a, a < 4 ∧ x = nI a := by
  rcases pk_ix x (n := 4) (by decide) with h | h | h
  · exact Or.inl (Or.inl h)
  · exact Or.inl (Or.inr h)
  · exact Or.inr h
theorem bk_ix48 (x : Int32) : (x < 0 ∨ nI 48 ≤ x) ∨ ∃ a, a < 48 ∧ x = nI a := by
  rcases pk_ix x (n := 48) (by decide) with h | h | h
  · exact Or.inl (Or.inl h)
  · exact Or.inl (Or.inr h)
  · exact Or.inr h
theorem bk_ixc (x : Int32) {c : Nat} (hc : c ≤ 60) : (x < 0 ∨ nI c ≤ x) ∨ ∃ a, a < c ∧ x = nI a := by
  rcases pk_ix x (n := c) (by omega) with h | h | h
  · exact Or.inl (Or.inl h)
  · exact Or.inl (Or.inr h)
  · exact Or.inr h
theorem bk_nle {x : Int32} {n : Nat} (hn : n + 1 < 2 ^ 31) (h : nI (n + 1) ≤ x) : ¬ x ≤ nI n := by
  rw [Int32.le_iff_toInt_le, nI_toInt (by omega)] at h
  rw [Int32.le_iff_toInt_le, nI_toInt (by omega)]
  omega
theorem bk_xacc0 {post : Int32 → Prop} {x : Int32} (h : x < 0 ∨ nI 4 ≤ x) (H : post 0) : wpX_isAccount post x := by
  by_cases z : x < 0
  · exact br_t z H
  · exact br_f z (br_t (h.resolve_left z) H)
theorem bk_xacc1 {post : Int32 → Prop} {a : Nat} (ha : a < 4) (H : post 1) : wpX_isAccount post (nI a) := br_f (nI_pos (by omega)) (br_f (nI_ge (b := 4) ha (by decide)) H)
theorem bk_xday0 {post : Int32 → Prop} {x : Int32} (h : x < 0 ∨ nI 48 ≤ x) (H : post 0) : wpX_isDay post x := by
  by_cases z : x < 0
  · exact br_t z H
  · exact br_f z (br_t (h.resolve_left z) H)
theorem bk_xday1 {post : Int32 → Prop} {a : Nat} (ha : a < 48) (H : post 1) : wpX_isDay post (nI a) := br_f (nI_pos (by omega)) (br_f (nI_ge (b := 48) ha (by decide)) H)
theorem bk_yacc1 {post : Int32 → Prop} {x : Int32} (h : x < 0 ∨ nI 4 ≤ x) (H : post 1) : wpY_bad post (yc, yb, yp, ya, yd, ym, yo, yf, yq) x := by
  by_cases z : x < 0
  · exact br_t z H
  · exact br_f z (br_f (bk_nle (n := 3) (by decide) (h.resolve_left z)) H)
theorem bk_yacc0 {post : Int32 → Prop} {a : Nat} (ha : a < 4) (H : post 0) : wpY_bad post (yc, yb, yp, ya, yd, ym, yo, yf, yq) (nI a) := br_f (nI_pos (by omega)) (br_t (nI_le (b := 3) (by omega) (by decide)) H)
theorem bk_yday1 {post : Int32 → Prop} {x : Int32} (h : x < 0 ∨ nI 48 ≤ x) (H : post 1) : wpY_badDay post (yc, yb, yp, ya, yd, ym, yo, yf, yq) x := by
  by_cases z : x < 0
  · exact br_t z H
  · exact br_f z (br_f (bk_nle (n := 47) (by decide) (h.resolve_left z)) H)
theorem bk_yday0 {post : Int32 → Prop} {a : Nat} (ha : a < 48) (H : post 0) : wpY_badDay post (yc, yb, yp, ya, yd, ym, yo, yf, yq) (nI a) := br_f (nI_pos (by omega)) (br_t (nI_le (b := 47) (by omega) (by decide)) H)
theorem bk_xent0 {post : Int32 → Prop} {x : Int32} {c : Nat} (h : x < 0 ∨ nI c ≤ x) (H : post 0) : wpX_isEntry post (nI c, fg, fm, fb, wc, wl, wa, ac, dy, am, gn, fl, ch, le, ar, lg) x := by
  by_cases z : x < 0
  · exact br_t z H
  · exact br_f z (br_t (h.resolve_left z) H)
theorem bk_xent1 {post : Int32 → Prop} {e c : Nat} (hc : c ≤ 60) (he : e < c) (H : post 1) : wpX_isEntry post (nI c, fg, fm, fb, wc, wl, wa, ac, dy, am, gn, fl, ch, le, ar, lg) (nI e) := br_f (nI_pos (by omega)) (br_f (nI_ge he (by omega)) H)
theorem bk_yent1 {post : Int32 → Prop} {x : Int32} {c : Nat} (h : x < 0 ∨ nI c ≤ x) (H : post 1) : wpY_badEntry post (nI c, yb, yp, ya, yd, ym, yo, yf, yq) x := by
  by_cases z : x < 0
  · exact br_t z H
  · exact br_f z (br_t (h.resolve_left z) H)
theorem bk_yent0 {post : Int32 → Prop} {e c : Nat} (hc : c ≤ 60) (he : e < c) (H : post 0) : wpY_badEntry post (nI c, yb, yp, ya, yd, ym, yo, yf, yq) (nI e) := br_f (nI_pos (by omega)) (br_f (nI_ge he (by omega)) (br_t (nI_lt (b := 60) (by omega) (by decide)) H))
def bk_nost (x y : Int32) : Prop := x < 0 ∨ y < x ∨ nI 48 ≤ y
theorem bk_ixs (x y : Int32) : bk_nost x y ∨ ∃ f z, f + z < 48 ∧ x = nI f ∧ y = nI (f + z) := by
  by_cases h1 : x < 0
  · exact Or.inl (Or.inl h1)
  · by_cases h2 : y < x
    · exact Or.inl (Or.inr (Or.inl h2))
    · by_cases h3 : nI 48 ≤ y
      · exact Or.inl (Or.inr (Or.inr h3))
      · refine Or.inr ?_
        obtain ⟨f, hf, rfl⟩ := nI_of h1
        have h4 : ¬ y < 0 := by
          rw [bk_x0]
          rw [Int32.lt_iff_toInt_lt, nI_toInt hf] at h2
          omega
        obtain ⟨e, he, rfl⟩ := nI_of h4
        rw [nI_ltI he hf] at h2
        rw [nI_leI (by decide) he] at h3
        exact ⟨f, e - f, by omega, rfl, congrArg nI (by omega)⟩
theorem bk_xst0 {post : Int32 → Prop} {x y : Int32} (h : bk_nost x y) (H : post 0) : wpX_isStretch post x y := by
  by_cases z : x < 0
  · exact br_t z H
  · by_cases w : y < x
    · exact br_f z (br_t w H)
    · exact br_f z (br_f w (br_t ((h.resolve_left z).resolve_left w) H))
theorem bk_xst1 {post : Int32 → Prop} {f z : Nat} (h : f + z < 48) (H : post 1) : wpX_isStretch post (nI f) (nI (f + z)) := br_f (nI_pos (by omega)) (br_f (nI_nlt (by omega) (by omega)) (br_f (nI_ge (b := 48) h (by decide)) H))
theorem bk_yst1 {post : Int32 → Prop} {x y : Int32} (h : bk_nost x y) (H : post 1) : wpY_badStretch post (yc, yb, yp, ya, yd, ym, yo, yf, yq) x y := by
  by_cases z : x < 0
  · exact br_t z H
  · by_cases w : y < x
    · exact br_f z (br_t w H)
    · exact br_f z (br_f w (br_f (bk_nle (n := 47) (by decide) ((h.resolve_left z).resolve_left w)) H))
theorem bk_yst0 {post : Int32 → Prop} {f z : Nat} (h : f + z < 48) (H : post 0) : wpY_badStretch post (yc, yb, yp, ya, yd, ym, yo, yf, yq) (nI f) (nI (f + z)) := br_f (nI_pos (by omega)) (br_f (nI_nlt (by omega) (by omega)) (br_t (nI_le (b := 47) (by omega) (by decide)) H))
end
end
section
/-! owed: the constructors and what only reads -/
theorem bk_mn_0 {B : Nat → Int} (hz : ∀ j, B j = 0) (lo : Nat) {w : Nat} (hw : 1 ≤ w) : bk_mn B lo w = 0 := by
  obtain ⟨k, _, _, e⟩ := bk_mn_ex (B := B) (fun j => by rw [hz]; omega) (lo := lo) hw
  rw [e, hz]
theorem bk_ar_0 {B : Nat → Int} (hz : ∀ j, B j = 0) (lo : Nat) : ∀ w, bk_ar B lo w = 0
  | 0 => rfl
  | w + 1 => by
    show bk_ar B lo w + B (lo + w + 1) = 0
    rw [bk_ar_0 hz lo w, hz]
    rfl
theorem i_vc0 : wpX_init (fun u => wpY_init (fun v => i_Rel 0 u v)) := by
  refine ⟨0, rfl, rfl, rfl, rfl, by decide, fun e he => absurd he (Nat.not_lt_zero e), fun e he => absurd he (Nat.not_lt_zero e), fun a _ => (by decide : -10000 ≤ (0 : Int32).toInt ∧ (0 : Int32).toInt ≤ 10000), ?_, Or.inl ⟨rfl, fun a _ d _ => (by decide : (0 : Int32).toInt ≤ 0)⟩⟩
  intro a ha n h1 h2
  obtain ⟨_, q, _⟩ := bk_fit n h2 h1
  have hz : ∀ j, bk_B (fun _ => 0) (fun _ => 0) (fun _ => 0) (fun _ => 0) 0 a j = 0 := fun j => rfl
  unfold bk_N
  rw [bk_mn_0 hz _ q, bk_ar_0 hz, hz, hz, Int.mul_zero]
  exact ⟨rfl, rfl, rfl⟩
theorem i_vc_isOpen {k : Nat} {u : SX} {v : SY} (I : i_Rel k u v) (hk : k + 4 ≤ 2048) : wpX_isOpen (fun r => wpY_isOpen (fun r' => r' = r ∧ i_Rel (k + 4) u v) v) u := by
  refine bk_el (P := fun u v => wpX_isOpen (fun r => wpY_isOpen (fun r' => r' = r ∧ i_Rel (k + 4) u v) v) u) ?_ I
  intro c fg fm fb wc wl wa ac dy am gn fl ch le ar lg yp ya yd ym yo yq hP
  by_cases z : fb = 0
  · exact br_t z (br_t z ⟨rfl, bk_in hP⟩)
  · exact br_f z (br_f z ⟨rfl, bk_in hP⟩)
theorem i_vc_entries {k : Nat} {u : SX} {v : SY} (I : i_Rel k u v) (hk : k + 4 ≤ 2048) : wpX_entries (fun r => wpY_entries (fun r' => r' = r ∧ i_Rel (k + 4) u v) v) u := by
  refine bk_el (P := fun u v => wpX_entries (fun r => wpY_entries (fun r' => r' = r ∧ i_Rel (k + 4) u v) v) u) ?_ I
  intro c fg fm fb wc wl wa ac dy am gn fl ch le ar lg yp ya yd ym yo yq hP
  exact ⟨rfl, bk_in hP⟩
theorem i_vc_cancelled {k : Nat} {u : SX} {v : SY} (I : i_Rel k u v) (hk : k + 4 ≤ 2048) (v1 : Int32) : wpX_cancelled (fun r => wpY_cancelled (fun r' => r' = r ∧ i_Rel (k + 4) u v) v v1) u v1 := by
  refine bk_el (P := fun u v => wpX_cancelled (fun r => wpY_cancelled (fun r' => r' = r ∧ i_Rel (k + 4) u v) v v1) u v1) ?_ I
  intro c fg fm fb wc wl wa ac dy am gn fl ch le ar lg yp ya yd ym yo yq hP
  unfold wpX_cancelled wpY_cancelled
  have J := bk_in (wc := wc) (wl := wl) (wa := wa) (k := k + 4) hP
  obtain ⟨hc, hV, hQ, hF, hT, hS⟩ := hP
  rcases bk_ixc v1 hc with h | ⟨e, he, rfl⟩
  · exact bk_xent0 h (br_t rfl (bk_yent1 h (br_f (by decide) ⟨rfl, J⟩)))
  · have hcl : (nI e).toNatClampNeg = e := nI_clamp (by omega)
    have hin : vp_in (nI e) 60 := vp_in_nI (by omega) (by decide)
    obtain ⟨_, _, _, q, _⟩ := hQ e he
    refine bk_xent1 hc he (br_f (by decide) ⟨hin, ?_⟩)
    by_cases z : gn e = 0
    · exact br_t (by rw [hcl]; exact z) (bk_yent0 hc he (br_t rfl ⟨hin, br_t (by rw [hcl, q]; exact z) ⟨rfl, J⟩⟩))
    · exact br_f (by rw [hcl]; exact z) (bk_yent0 hc he (br_t rfl ⟨hin, br_f (by rw [hcl, q]; exact z) ⟨rfl, J⟩⟩))
theorem i_vc_amountOf {k : Nat} {u : SX} {v : SY} (I : i_Rel k u v) (hk : k + 4 ≤ 2048) (v1 : Int32) : wpX_amountOf (fun r => wpY_amountOf (fun r' => r' = r ∧ i_Rel (k + 4) u v) v v1) u v1 := by
  refine bk_el (P := fun u v => wpX_amountOf (fun r => wpY_amountOf (fun r' => r' = r ∧ i_Rel (k + 4) u v) v v1) u v1) ?_ I
  intro c fg fm fb wc wl wa ac dy am gn fl ch le ar lg yp ya yd ym yo yq hP
  unfold wpX_amountOf wpY_amountOf
  have J := bk_in (wc := wc) (wl := wl) (wa := wa) (k := k + 4) hP
  obtain ⟨hc, hV, hQ, hF, hT, hS⟩ := hP
  rcases bk_ixc v1 hc with h | ⟨e, he, rfl⟩
  · exact bk_xent0 h (br_t rfl (bk_yent1 h (br_f (by decide) ⟨rfl, J⟩)))
  · have hcl : (nI e).toNatClampNeg = e := nI_clamp (by omega)
    have hin : vp_in (nI e) 60 := vp_in_nI (by omega) (by decide)
    obtain ⟨_, _, q, _, _⟩ := hQ e he
    exact bk_xent1 hc he (br_f (by decide) ⟨hin, bk_yent0 hc he (br_t rfl ⟨hin, by rw [hcl, q], J⟩)⟩)
theorem i_vc_sound {k : Nat} {u : SX} {v : SY} (I : i_Rel k u v) (hk : k + 4 ≤ 2048) : wpX_sound (fun r u' => wpY_sound (fun r' => r' = r ∧ i_Rel (k + 4) u' v) v) u := by
  refine bk_el (P := fun u v => wpX_sound (fun r u' => wpY_sound (fun r' => r' = r ∧ i_Rel (k + 4) u' v) v) u) ?_ I
  intro c fg fm fb wc wl wa ac dy am gn fl ch le ar lg yp ya yd ym yo yq hP
  unfold wpX_sound wpY_sound
  have J := fun wc wl wa => bk_in (wc := wc) (wl := wl) (wa := wa) (k := k + 4) hP
  obtain ⟨hc, hV, hQ, hF, hT, hS⟩ := hP
  have hb := fun a => bk_B_bd (gn := gn) hc hV a
  have hW := fun a (_ : a < 4) => bk_QW (yb := fb) (yp := yp) (yf := fl) (yq := yq) (a := a) hc hQ
  refine bk_isSound hb (bk_B_0 hV) hT (fun s wc' wl' wa' => br_f (by decide) ?_) (fun s wc' wl' wa' => br_t rfl ?_)
  · exact bk_all hb hW (fun _ => br_f (by decide) ⟨rfl, J _ _ _⟩) (fun z => absurd s z)
  · exact bk_all hb hW (fun z => absurd z s) (fun _ => br_t rfl ⟨rfl, J _ _ _⟩)
theorem i_vc_balance {k : Nat} {u : SX} {v : SY} (I : i_Rel k u v) (hk : k + 4 ≤ 2048) (v1 : Int32) (v2 : Int32) : wpX_balance (fun r u' => wpY_balance (fun r' => r' = r ∧ i_Rel (k + 4) u' v) v v1 v2) u v1 v2 := by
  refine bk_el (P := fun u v => wpX_balance (fun r u' => wpY_balance (fun r' => r' = r ∧ i_Rel (k + 4) u' v) v v1 v2) u v1 v2) ?_ I
  intro c fg fm fb wc wl wa ac dy am gn fl ch le ar lg yp ya yd ym yo yq hP
  unfold wpX_balance wpY_balance
  have J := fun wc wl wa => bk_in (wc := wc) (wl := wl) (wa := wa) (k := k + 4) hP
  obtain ⟨hc, hV, hQ, hF, hT, hS⟩ := hP
  have hb := fun a => bk_B_bd (gn := gn) hc hV a
  rcases bk_ix4 v1 with h | ⟨a, ha, rfl⟩
  · exact bk_xacc0 h (br_t rfl (bk_yacc1 h (br_f (by decide) ⟨rfl, J _ _ _⟩)))
  · refine bk_xacc1 ha (br_f (by decide) ?_)
    rcases bk_ix48 v2 with h | ⟨d, hd, rfl⟩
    · exact bk_xday0 h (br_t rfl (bk_yacc0 ha (br_t rfl (bk_yday1 h (br_f (by decide) ⟨rfl, J _ _ _⟩)))))
    · refine bk_xday1 hd (br_f (by decide) ?_)
      refine bk_walk (f := 0) (z := d + 1) ha (hb a) (hT a ha) (by omega) rfl rfl ?_ ?_
      · rw [bk_nat']
        exact congrArg bk_I (by omega)
      · refine bk_yacc0 ha (br_t rfl (bk_yday0 hd (br_t rfl ?_)))
        refine bk_QW hc hQ _ d hd ⟨?_, J _ _ _⟩
        rw [bk_B_0 hV, Int.sub_zero, Nat.zero_add]
theorem i_vc_lowest {k : Nat} {u : SX} {v : SY} (I : i_Rel k u v) (hk : k + 4 ≤ 2048) (v1 : Int32) (v2 : Int32) (v3 : Int32) : wpX_lowest (fun r u' => wpY_lowest (fun r' => r' = r ∧ i_Rel (k + 4) u' v) v v1 v2 v3) u v1 v2 v3 := by
  refine bk_el (P := fun u v => wpX_lowest (fun r u' => wpY_lowest (fun r' => r' = r ∧ i_Rel (k + 4) u' v) v v1 v2 v3) u v1 v2 v3) ?_ I
  intro c fg fm fb wc wl wa ac dy am gn fl ch le ar lg yp ya yd ym yo yq hP
  unfold wpX_lowest wpY_lowest
  have J := fun wc wl wa => bk_in (wc := wc) (wl := wl) (wa := wa) (k := k + 4) hP
  obtain ⟨hc, hV, hQ, hF, hT, hS⟩ := hP
  have hb := fun a => bk_B_bd (gn := gn) hc hV a
  rcases bk_ix4 v1 with h | ⟨a, ha, rfl⟩
  · exact bk_xacc0 h (br_t rfl (bk_yacc1 h (br_f (by decide) ⟨rfl, J _ _ _⟩)))
  · refine bk_xacc1 ha (br_f (by decide) ?_)
    rcases bk_ixs v2 v3 with h | ⟨f, z, hz, rfl, rfl⟩
    · exact bk_xst0 h (br_t rfl (bk_yacc0 ha (br_t rfl (bk_yst1 h (br_f (by decide) ⟨rfl, J _ _ _⟩)))))
    · refine bk_xst1 hz (br_f (by decide) ?_)
      refine bk_lowestIn (f := f) (z := z + 1) ha (hb a) (bk_B_0 hV a) (hT a ha) (by omega) rfl rfl ?_ ?_
      · rw [bk_nat']
        exact congrArg bk_I (by omega)
      · intro wc' wl' wa'
        refine bk_yacc0 ha (br_t rfl (bk_yst0 hz (br_t rfl ?_)))
        have hW := bk_QW (yb := fb) (yp := yp) (yf := fl) (yq := yq) (a := a) hc hQ
        refine hW _ f (by omega) ⟨z + 1 + 1, ?_⟩
        exact bk_ylow_l (f := f) (z := z) (hb a) hW (by omega) ⟨rfl, J _ _ _⟩ (z + 1) 0 _ (by omega) (Or.inr ⟨rfl, rfl⟩)
theorem i_vc_total {k : Nat} {u : SX} {v : SY} (I : i_Rel k u v) (hk : k + 4 ≤ 2048) (v1 : Int32) (v2 : Int32) (v3 : Int32) : wpX_total (fun r u' => wpY_total (fun r' => r' = r ∧ i_Rel (k + 4) u' v) v v1 v2 v3) u v1 v2 v3 := by
  refine bk_el (P := fun u v => wpX_total (fun r u' => wpY_total (fun r' => r' = r ∧ i_Rel (k + 4) u' v) v v1 v2 v3) u v1 v2 v3) ?_ I
  intro c fg fm fb wc wl wa ac dy am gn fl ch le ar lg yp ya yd ym yo yq hP
  unfold wpX_total wpY_total
  have J := fun wc wl wa => bk_in (wc := wc) (wl := wl) (wa := wa) (k := k + 4) hP
  obtain ⟨hc, hV, hQ, hF, hT, hS⟩ := hP
  have hb := fun a => bk_B_bd (gn := gn) hc hV a
  rcases bk_ix4 v1 with h | ⟨a, ha, rfl⟩
  · exact bk_xacc0 h (br_t rfl (bk_yacc1 h (br_f (by decide) ⟨rfl, J _ _ _⟩)))
  · refine bk_xacc1 ha (br_f (by decide) ?_)
    rcases bk_ixs v2 v3 with h | ⟨f, z, hz, rfl, rfl⟩
    · exact bk_xst0 h (br_t rfl (bk_yacc0 ha (br_t rfl (bk_yst1 h (br_f (by decide) ⟨rfl, J _ _ _⟩)))))
    · refine bk_xst1 hz (br_f (by decide) ?_)
      have hW := bk_QW (yb := fb) (yp := yp) (yf := fl) (yq := yq) (a := a) hc hQ
      have h0 := bk_B_0 (gn := gn) hV a
      refine bk_walk (f := 0) (z := f) ha (hb a) (hT a ha) (by omega) rfl rfl ?_ ?_
      · rw [bk_nat', show (1 : Int32) = bk_I 1 from rfl, bk_sub, Nat.zero_add]
      · refine bk_walk (f := f) (z := z + 1) ha (hb a) (hT a ha) (by omega) rfl rfl ?_ ?_
        · rw [bk_nat']
          exact congrArg bk_I (by omega)
        · refine bk_yacc0 ha (br_t rfl (bk_yst0 hz (br_t rfl ?_)))
          refine ⟨z + 1 + 1, bk_ytot_l (f := f) (z := z) hW (by omega) ⟨?_, J _ _ _⟩ (z + 1) 0 (by omega)⟩
          have e1 : nI (f + z) - nI f + 1 = bk_I ((z + 1 : Nat) : Int) := by
            rw [pk_sub (by omega), nI_1, bk_nat]
            exact congrArg nI (by omega)
          rw [e1, bk_mul, bk_add, h0, Nat.zero_add]
          refine congrArg bk_I ?_
          generalize bk_ar (bk_B ac dy am gn c a) f (z + 1) = p
          generalize bk_B ac dy am gn c a f = q
          generalize ((z + 1 : Nat) : Int) = n
          grind
theorem i_vc_firstBelow {k : Nat} {u : SX} {v : SY} (I : i_Rel k u v) (hk : k + 4 ≤ 2048) (v1 : Int32) (v2 : Int32) (v3 : Int32) : wpX_firstBelow (fun r u' => wpY_firstBelow (fun r' => r' = r ∧ i_Rel (k + 4) u' v) v v1 v2 v3) u v1 v2 v3 := by
  refine bk_el (P := fun u v => wpX_firstBelow (fun r u' => wpY_firstBelow (fun r' => r' = r ∧ i_Rel (k + 4) u' v) v v1 v2 v3) u v1 v2 v3) ?_ I
  intro c fg fm fb wc wl wa ac dy am gn fl ch le ar lg yp ya yd ym yo yq hP
  unfold wpX_firstBelow wpY_firstBelow
  have J := fun wc wl wa => bk_in (wc := wc) (wl := wl) (wa := wa) (k := k + 4) hP
  obtain ⟨hc, hV, hQ, hF, hT, hS⟩ := hP
  have hb := fun a => bk_B_bd (gn := gn) hc hV a
  rcases bk_ix4 v1 with h | ⟨a, ha, rfl⟩
  · exact bk_xacc0 h (br_t rfl (bk_yacc1 h (br_f (by decide) ⟨rfl, J _ _ _⟩)))
  · refine bk_xacc1 ha (br_f (by decide) ?_)
    rcases bk_ix48 v2 with h | ⟨d, hd, rfl⟩
    · exact bk_xday0 h (br_t rfl (bk_yacc0 ha (br_t rfl (bk_yday1 h (br_f (by decide) ⟨rfl, J _ _ _⟩)))))
    · refine bk_xday1 hd (br_f (by decide) ?_)
      have hW := bk_QW (yb := fb) (yp := yp) (yf := fl) (yq := yq) (a := a) hc hQ
      refine bk_search (s := d) ha hd (hb a) (bk_B_0 hV a) (hT a ha) rfl rfl ?_ ?_
      · intro r r1 r2 r3 r4 wc' wl' wa'
        refine br_t (nI_pos' (by omega)) (bk_yacc0 ha (br_t rfl (bk_yday0 hd (br_t rfl ⟨r - d + 1, ?_⟩))))
        exact bk_yfirst_l (s := d) (hb a) hW r2 r3 ⟨rfl, J _ _ _⟩ (r - d) d (by omega) r4
      · intro hn wc' wl' wa'
        refine br_f (by decide) (bk_yacc0 ha (br_t rfl (bk_yday0 hd (br_t rfl ⟨48 - d + 1, ?_⟩))))
        exact bk_ynone_l (hb a) hW ⟨rfl, J _ _ _⟩ (48 - d) d (by omega) hn
theorem i_vc_free {k : Nat} {u : SX} {v : SY} (I : i_Rel k u v) (hk : k + 4 ≤ 2048) (v1 : Int32) (v2 : Int32) : wpX_free (fun r u' => wpY_free (fun r' => r' = r ∧ i_Rel (k + 4) u' v) v v1 v2) u v1 v2 := by
  refine bk_el (P := fun u v => wpX_free (fun r u' => wpY_free (fun r' => r' = r ∧ i_Rel (k + 4) u' v) v v1 v2) u v1 v2) ?_ I
  intro c fg fm fb wc wl wa ac dy am gn fl ch le ar lg yp ya yd ym yo yq hP
  unfold wpX_free wpY_free
  have J := fun wc wl wa => bk_in (wc := wc) (wl := wl) (wa := wa) (k := k + 4) hP
  obtain ⟨hc, hV, hQ, hF, hT, hS⟩ := hP
  have hb := fun a => bk_B_bd (gn := gn) hc hV a
  rcases bk_ix4 v1 with h | ⟨a, ha, rfl⟩
  · exact bk_xacc0 h (br_t rfl (bk_yacc1 h (br_f (by decide) ⟨rfl, J _ _ _⟩)))
  · refine bk_xacc1 ha (br_f (by decide) ?_)
    rcases bk_ix48 v2 with h | ⟨d, hd, rfl⟩
    · exact bk_xday0 h (br_t rfl (bk_yacc0 ha (br_t rfl (bk_yday1 h (br_f (by decide) ⟨rfl, J _ _ _⟩)))))
    · refine bk_xday1 hd (br_f (by decide) ?_)
      have hW := bk_QW (yb := fb) (yp := yp) (yf := fl) (yq := yq) (a := a) hc hQ
      have hcl : (nI a).toNatClampNeg = a := nI_clamp (by omega)
      have fa := hF a ha
      have b1 := bk_mn_bd (hb a) (lo := d) (w := 48 - d) (by omega)
      refine bk_lowestIn (f := d) (z := 48 - d) ha (hb a) (bk_B_0 hV a) (hT a ha) (by omega) rfl rfl ?_ ?_
      · rw [show ((d + (48 - d) : Nat) : Int) - 1 = 47 from by omega]; rfl
      · intro wc' wl' wa'
        refine ⟨vp_in_nI (by omega) (by decide), nm_r (e' := bk_I (bk_mn (bk_B ac dy am gn c a) d (48 - d) - (fl a).toInt)) (by rw [hcl, ← bk_sub, bk_self]) ?_⟩
        have hlt : 0 ≤ bk_I (bk_mn (bk_B ac dy am gn c a) d (48 - d) - (fl a).toInt) ↔ 0 ≤ bk_mn (bk_B ac dy am gn c a) d (48 - d) - (fl a).toInt := by
          rw [show (0 : Int32) = bk_I 0 from rfl, bk_le (by omega) (by omega) (by omega) (by omega)]
        by_cases q : 0 ≤ bk_mn (bk_B ac dy am gn c a) d (48 - d) - (fl a).toInt
        · exact br_t (hlt.mpr q) (bk_yacc0 ha (br_t rfl (bk_yday0 hd (br_t rfl (bk_yspare ha hd (hb a) fa hW (fun _ => ⟨rfl, J _ _ _⟩) (fun z => absurd q z))))))
        · exact br_f (fun z => q (hlt.mp z)) (bk_yacc0 ha (br_t rfl (bk_yday0 hd (br_t rfl (bk_yspare ha hd (hb a) fa hW (fun z => absurd z q) (fun z => ⟨rfl, J _ _ _⟩))))))
end
section
/-! owed: firstFree, daysBelow -/
theorem i_vc_firstFree {k : Nat} {u : SX} {v : SY} (I : i_Rel k u v) (hk : k + 4 ≤ 2048) (v1 : Int32) (v2 : Int32) : wpX_firstFree (fun r => wpY_firstFree (fun r' => r' = r ∧ i_Rel (k + 4) u v) v v1 v2) u v1 v2 := by
  refine bk_el (P := fun u v => wpX_firstFree (fun r => wpY_firstFree (fun r' => r' = r ∧ i_Rel (k + 4) u v) v v1 v2) u v1 v2) ?_ I
  intro c fg fm fb wc wl wa ac dy am gn fl ch le ar lg yp ya yd ym yo yq hP
  unfold wpX_firstFree wpY_firstFree
  have J := bk_in (wc := wc) (wl := wl) (wa := wa) (k := k + 4) hP
  obtain ⟨hc, hV, hQ, hF, hT, hS⟩ := hP
  have hb := fun a => bk_B_bd (gn := gn) hc hV a
  rcases bk_ix4 v1 with h | ⟨a, ha, rfl⟩
  · exact bk_xacc0 h (br_t rfl (bk_yacc1 h (br_f (by decide) ⟨rfl, J⟩)))
  · refine bk_xacc1 ha (br_f (by decide) ?_)
    by_cases z1 : v2 < 1
    · exact br_t z1 (bk_yacc0 ha (br_t rfl (br_t z1 ⟨rfl, J⟩)))
    · by_cases z2 : v2 ≤ 1000000
      · have hx : 1 ≤ v2.toInt ∧ v2.toInt ≤ 1000000 := by
          rw [Int32.lt_iff_toInt_lt, show (1 : Int32).toInt = 1 from by decide] at z1
          rw [Int32.le_iff_toInt_le, show (1000000 : Int32).toInt = 1000000 from by decide] at z2
          omega
        have hW := bk_QW (yb := fb) (yp := yp) (yf := fl) (yq := yq) (a := a) hc hQ
        have hcl : (nI a).toNatClampNeg = a := nI_clamp (by omega)
        have fa := hF a ha
        have hy : (fl (nI a).toNatClampNeg + v2).toInt = (fl a).toInt + v2.toInt := by
          rw [hcl, show fl a + v2 = bk_I ((fl a).toInt + v2.toInt) from by rw [← bk_add, bk_self, bk_self], bk_toInt (by omega) (by omega)]
        have h48 := bk_B_48 (gn := gn) hV a
        have yw : ∀ r, r ≤ 48 → (∀ d, d < r → ¬ (fl a).toInt + v2.toInt ≤ bk_mn (bk_B ac dy am gn c a) d (48 - d)) → (r < 48 → (fl a).toInt + v2.toInt ≤ bk_mn (bk_B ac dy am gn c a) r (48 - r)) → ∀ post : Int32 → Prop, (r < 48 → post (nI r)) → (r = 48 → post (-3)) → ∃ n26 : Nat, wY_firstFree_26 post (nI a) v2 (nI c) (fb) yp ya yd ym yo (fl) yq n26 0 := by
          intro r hr h1 h2 post h3 h4
          exact ⟨r + 1, bk_yfree_l ha (hb a) fa hW hx hr h1 h2 h3 h4 r 0 (by omega)⟩
        have low : ∀ r d, d ≤ r → r < 48 → bk_B ac dy am gn c a (r + 1) < (fl a).toInt + v2.toInt → ¬ (fl a).toInt + v2.toInt ≤ bk_mn (bk_B ac dy am gn c a) d (48 - d) := by
          intro r d h1 h2 h3 h4
          have := bk_mn_le (B := bk_B ac dy am gn c a) (lo := d) (w := 48 - d) (k := r + 1 - d) (by omega) (by omega)
          rw [show d + (r + 1 - d) = r + 1 from by omega] at this
          omega
        refine br_f z1 (br_t z2 ⟨vp_in_nI (by omega) (by decide), ?_⟩)
        refine bk_last ha (hb a) (bk_B_0 hV a) (hT a ha) rfl ?_ ?_
        · intro r r1 r2 r3
          rw [hy] at r2 r3
          refine ⟨fun hr => ?_, fun hr => ?_⟩
          · by_cases q : r = 47
            · subst q
              exact br_t rfl (bk_yacc0 ha (br_t rfl (br_f z1 (br_t z2 (yw 48 (by omega) (fun d hd => low 47 d (by omega) (by omega) r2) (fun z => absurd z (by omega)) _ (fun z => absurd z (by omega)) (fun _ => ⟨rfl, J⟩))))))
            · refine br_f (fun z => q ((nI_eq (b := 47) (by omega) (by decide)).mp z)) (bk_yacc0 ha (br_t rfl (br_f z1 (br_t z2 (yw (r + 1) (by omega) (fun d hd => low r d (by omega) (by omega) r2) (fun _ => ?_) _ (fun _ => ⟨(nI_1 r).symm, J⟩) (fun z => absurd z (by omega)))))))
              rw [bk_mn_ge (hb a) (by omega)]
              intro i i1 i2
              have := r3 (r + i) (by omega) (by omega)
              rw [show r + i + 1 = r + 1 + i from by omega] at this
              exact this
          · have e : bk_B ac dy am gn c a (47 + 1) < (fl a).toInt + v2.toInt := by
              rw [← h48 (r + 1) (by omega)]
              exact r2
            exact br_t rfl (bk_yacc0 ha (br_t rfl (br_f z1 (br_t z2 (yw 48 (by omega) (fun d hd => low 47 d (by omega) (by omega) e) (fun z => absurd z (by omega)) _ (fun z => absurd z (by omega)) (fun _ => ⟨rfl, J⟩))))))
        · intro hn
          rw [hy] at hn
          refine br_f (by decide) (bk_yacc0 ha (br_t rfl (br_f z1 (br_t z2 (yw 0 (by omega) (fun d hd => absurd hd (Nat.not_lt_zero d)) (fun _ => ?_) _ (fun _ => ⟨by decide, J⟩) (fun z => absurd z (by omega)))))))
          rw [bk_so_mn (hb a)]
          intro d hd
          exact hn d (by omega)
      · exact br_f z1 (br_f z2 (bk_yacc0 ha (br_t rfl (br_f z1 (br_f z2 ⟨rfl, J⟩)))))
section
variable {fc fg fm fb wc wl wa : Int32} {ac dy am gn fl ch le ar lg : Nat → Int32}
theorem bk_days0 {post : Int32 → SX → Prop} {B : Nat → Int} {a r : Nat} {y : Int32} (ha : a < 4) (hb : bk_bd B) (hB : B 0 = 0) (hT : ∀ n, 1 ≤ n → n < 128 → bk_N B ch le ar (128 * a) n)
    (H : ∀ wc' wl' wa' : Int32, post (nI (bk_cb B y.toInt 48)) (fc, fg, fm, fb, wc', wl', wa', ac, dy, am, gn, fl, ch, le, ar, lg)) (r2 : r < 48) (r3 : B (r + 1) < y.toInt) (r4 : ∀ j, 0 ≤ j → j < r → y.toInt ≤ B (j + 1)) : ∃ n23 : Nat, wX_daysBelow_23 post (nI a) y n23 0 (nI r) 0 fc fg fm fb wc wl wa ac dy am gn fl ch le ar lg := by
  have K := (bk_days_l ha hb hB hT H 49).1 r wc wl wa r2 (by omega) r3
  rw [bk_cb_none (Nat.zero_le r) r4] at K
  exact ⟨49, K⟩
theorem bk_days1 {post : Int32 → SX → Prop} {B : Nat → Int} {a : Nat} {y : Int32} (ha : a < 4) (hb : bk_bd B) (hB : B 0 = 0) (hT : ∀ n, 1 ≤ n → n < 128 → bk_N B ch le ar (128 * a) n)
    (H : ∀ wc' wl' wa' : Int32, post (nI (bk_cb B y.toInt 48)) (fc, fg, fm, fb, wc', wl', wa', ac, dy, am, gn, fl, ch, le, ar, lg)) (hn : ∀ j, 0 ≤ j → j < 48 → y.toInt ≤ B (j + 1)) : ∃ n23 : Nat, wX_daysBelow_23 post (nI a) y n23 0 (-1) 0 fc fg fm fb wc wl wa ac dy am gn fl ch le ar lg := by
  have K := (bk_days_l ha hb hB hT H 0).2 wc wl wa
  rw [bk_cb_none (Nat.zero_le 48) hn] at K
  exact ⟨1, K⟩
end
theorem i_vc_daysBelow {k : Nat} {u : SX} {v : SY} (I : i_Rel k u v) (hk : k + 4 ≤ 2048) (v1 : Int32) (v2 : Int32) : wpX_daysBelow (fun r u' => wpY_daysBelow (fun r' => r' = r ∧ i_Rel (k + 4) u' v) v v1 v2) u v1 v2 := by
  refine bk_el (P := fun u v => wpX_daysBelow (fun r u' => wpY_daysBelow (fun r' => r' = r ∧ i_Rel (k + 4) u' v) v v1 v2) u v1 v2) ?_ I
  intro c fg fm fb wc wl wa ac dy am gn fl ch le ar lg yp ya yd ym yo yq hP
  unfold wpX_daysBelow wpY_daysBelow
  have J := fun wc wl wa => bk_in (wc := wc) (wl := wl) (wa := wa) (k := k + 4) hP
  obtain ⟨hc, hV, hQ, hF, hT, hS⟩ := hP
  have hb := fun a => bk_B_bd (gn := gn) hc hV a
  rcases bk_ix4 v1 with h | ⟨a, ha, rfl⟩
  · exact bk_xacc0 h (br_t rfl (bk_yacc1 h (br_f (by decide) ⟨rfl, J _ _ _⟩)))
  · refine bk_xacc1 ha (br_f (by decide) ?_)
    have hW := bk_QW (yb := fb) (yp := yp) (yf := fl) (yq := yq) (a := a) hc hQ
    refine bk_search (s := 0) ha (by decide) (hb a) (bk_B_0 hV a) (hT a ha) rfl rfl ?_ ?_
    · intro r r1 r2 r3 r4 wc' wl' wa'
      refine bk_days0 ha (hb a) (bk_B_0 hV a) (hT a ha) ?_ r2 r3 r4
      intro wc wl wa
      exact bk_yacc0 ha (br_t rfl ⟨49, bk_ydays_l (hb a) hW ⟨rfl, J _ _ _⟩ 48 0 rfl⟩)
    · intro hn wc' wl' wa'
      refine bk_days1 ha (hb a) (bk_B_0 hV a) (hT a ha) ?_ hn
      intro wc wl wa
      exact bk_yacc0 ha (br_t rfl ⟨49, bk_ydays_l (hb a) hW ⟨rfl, J _ _ _⟩ 48 0 rfl⟩)
end
section
/-! owed: open, floor, post -/
theorem i_vc_open {k : Nat} {u : SX} {v : SY} (I : i_Rel k u v) (hk : k + 4 ≤ 2048) : wpX_open (fun r u' => wpY_open (fun r' v' => r' = r ∧ i_Rel (k + 4) u' v') v) u := by
  refine bk_el (P := fun u v => wpX_open (fun r u' => wpY_open (fun r' v' => r' = r ∧ i_Rel (k + 4) u' v') v) u) ?_ I
  intro c fg fm fb wc wl wa ac dy am gn fl ch le ar lg yp ya yd ym yo yq hP
  unfold wpX_open wpY_open
  have J := bk_in (wc := wc) (wl := wl) (wa := wa) (k := k + 4) hP
  obtain ⟨hc, hV, hQ, hF, hT, hS⟩ := hP
  rcases hS with ⟨rfl, hso⟩ | ⟨rfl, m, g, rfl, rfl, rfl, hL, hso⟩
  · refine br_t rfl (br_t rfl ⟨61, bk_yopen_l ?_ 60 0 yq rfl (fun e he => absurd he (Nat.not_lt_zero e))⟩)
    intro yq' hq
    have hq' : ∀ e, e < c → yq' e = gn e := by
      intro e he
      obtain ⟨_, _, _, h1, h2⟩ := hQ e he
      rw [hq e (by omega), h1, bk_nar h2]
    refine ⟨rfl, bk_in ⟨hc, hV, hQ, hF, hT, Or.inr ⟨rfl, c, 0, rfl, rfl, rfl, bk_L_0 (fun e he => ⟨(hQ e he).2.2.2.2, hq' e he⟩), bk_so_eq ?_ hso⟩⟩⟩
    intro b _ j
    exact bk_B_congr (fun e he => ⟨rfl, rfl, rfl, by rw [hq' e he]⟩) b j
  · exact br_f (by decide) (br_f (by decide) ⟨rfl, J⟩)
theorem bk_uu {f : Nat → Int32} {a : Nat} {x y : Int32} (h : y = f a) : upd (upd f a x) a y = f := by
  funext j
  by_cases q : j = a
  · subst q
    rw [pk_us, h]
  · rw [pk_un q, pk_un q]
theorem bk_rng {x : Int32} (h1 : ¬ x < (-10000)) (h2 : x ≤ 10000) : -10000 ≤ x.toInt ∧ x.toInt ≤ 10000 := by
  rw [Int32.lt_iff_toInt_lt, show (-10000 : Int32).toInt = -10000 from by decide] at h1
  rw [Int32.le_iff_toInt_le, show (10000 : Int32).toInt = 10000 from by decide] at h2
  omega
theorem i_vc_floor {k : Nat} {u : SX} {v : SY} (I : i_Rel k u v) (hk : k + 4 ≤ 2048) (v1 : Int32) (v2 : Int32) : wpX_floor (fun r u' => wpY_floor (fun r' v' => r' = r ∧ i_Rel (k + 4) u' v') v v1 v2) u v1 v2 := by
  refine bk_el (P := fun u v => wpX_floor (fun r u' => wpY_floor (fun r' v' => r' = r ∧ i_Rel (k + 4) u' v') v v1 v2) u v1 v2) ?_ I
  intro c fg fm fb wc wl wa ac dy am gn fl ch le ar lg yp ya yd ym yo yq hP
  unfold wpX_floor wpY_floor
  have J := fun wc wl wa => bk_in (wc := wc) (wl := wl) (wa := wa) (k := k + 4) hP
  obtain ⟨hc, hV, hQ, hF, hT, hS⟩ := hP
  have hb := fun a => bk_B_bd (gn := gn) hc hV a
  rcases bk_ix4 v1 with h | ⟨a, ha, rfl⟩
  · exact bk_xacc0 h (br_t rfl (bk_yacc1 h (br_f (by decide) ⟨rfl, J _ _ _⟩)))
  · refine bk_xacc1 ha (br_f (by decide) ?_)
    by_cases z1 : v2 < (-10000)
    · exact br_t z1 (bk_yacc0 ha (br_t rfl (br_t z1 ⟨rfl, J _ _ _⟩)))
    · by_cases z2 : v2 ≤ 10000
      · rcases hS with ⟨rfl, hso⟩ | ⟨rfl, m, g, rfl, rfl, rfl, hL, hso⟩
        · refine br_f z1 (br_t z2 (br_t rfl ?_))
          have hcl : (nI a).toNatClampNeg = a := nI_clamp (by omega)
          have hin : vp_in (nI a) 4 := vp_in_nI ha (by decide)
          have hr := bk_rng z1 z2
          have b1 := bk_mn_bd (hb a) (lo := 0) (w := 48) (by decide)
          have hiff := bk_so_floor (x := v2) (hb a) ha hso
          have hW := fun b (_ : b < 4) => bk_QW (yb := 0) (yp := yp) (yf := upd fl a v2) (yq := yq) (a := b) hc hQ
          refine bk_walk (f := 0) (z := 48) ha (hb a) (hT a ha) (by decide) rfl rfl rfl ?_
          have hlt : v2 ≤ bk_I (bk_mn (bk_B ac dy am gn c a) 0 48 - bk_B ac dy am gn c a 0) ↔ v2.toInt ≤ bk_mn (bk_B ac dy am gn c a) 0 48 := by
            rw [bk_B_0 hV, Int.sub_zero, bk_lex _ (by omega) (by omega)]
          by_cases q : v2.toInt ≤ bk_mn (bk_B ac dy am gn c a) 0 48
          · refine br_t (hlt.mpr q) ⟨hin, nm_r (e' := fl a) (by rw [hcl]) ⟨hin, nm_r (e' := upd fl a v2) (by rw [hcl]) ?_⟩⟩
            refine bk_yacc0 ha (br_t rfl (br_f z1 (br_t z2 (br_t rfl ⟨hin, nm_r (e' := fl a) (by rw [hcl]) ⟨hin, nm_r (e' := upd fl a v2) (by rw [hcl]) ?_⟩⟩))))
            refine bk_all hb hW (fun s => br_f (by decide) ⟨rfl, bk_in ⟨hc, hV, hQ, ?_, hT, Or.inl ⟨rfl, s⟩⟩⟩) (fun s => absurd (hiff.mp q) s)
            intro b hb'
            by_cases p : b = a
            · subst p
              rw [pk_us]
              exact hr
            · rw [pk_un p]
              exact hF b hb'
          · refine br_f (fun z => q (hlt.mp z)) ?_
            refine bk_yacc0 ha (br_t rfl (br_f z1 (br_t z2 (br_t rfl ⟨hin, nm_r (e' := fl a) (by rw [hcl]) ⟨hin, nm_r (e' := upd fl a v2) (by rw [hcl]) ?_⟩⟩))))
            refine bk_all hb hW (fun s => absurd (hiff.mpr s) q) (fun s => br_t rfl ⟨hin, nm_r (e' := fl) ?_ ⟨rfl, J _ _ _⟩⟩)
            rw [hcl]
            exact bk_uu rfl
        · exact br_f z1 (br_t z2 (br_f (by decide) (bk_yacc0 ha (br_t rfl (br_f z1 (br_t z2 (br_f (by decide) ⟨rfl, J _ _ _⟩)))))))
      · exact br_f z1 (br_f z2 (bk_yacc0 ha (br_t rfl (br_f z1 (br_f z2 ⟨rfl, J _ _ _⟩)))))
theorem i_vc_post {k : Nat} {u : SX} {v : SY} (I : i_Rel k u v) (hk : k + 4 ≤ 2048) (v1 : Int32) (v2 : Int32) (v3 : Int32) : wpX_post (fun r u' => wpY_post (fun r' v' => r' = r ∧ i_Rel (k + 4) u' v') v v1 v2 v3) u v1 v2 v3 := by
  refine bk_el (P := fun u v => wpX_post (fun r u' => wpY_post (fun r' v' => r' = r ∧ i_Rel (k + 4) u' v') v v1 v2 v3) u v1 v2 v3) ?_ I
  intro c fg fm fb wc wl wa ac dy am gn fl ch le ar lg yp ya yd ym yo yq hP
  unfold wpX_post wpY_post
  have J := fun wc wl wa => bk_in (wc := wc) (wl := wl) (wa := wa) (k := k + 4) hP
  obtain ⟨hc, hV, hQ, hF, hT, hS⟩ := hP
  have hb := fun a => bk_B_bd (gn := gn) hc hV a
  rcases bk_ix4 v1 with h | ⟨a, ha, rfl⟩
  · exact bk_xacc0 h (br_t rfl (bk_yacc1 h (br_f (by decide) ⟨rfl, J _ _ _⟩)))
  · refine bk_xacc1 ha (br_f (by decide) ?_)
    rcases bk_ix48 v2 with h | ⟨d, hd, rfl⟩
    · exact bk_xday0 h (br_t rfl (bk_yacc0 ha (br_t rfl (bk_yday1 h (br_f (by decide) ⟨rfl, J _ _ _⟩)))))
    · refine bk_xday1 hd (br_f (by decide) ?_)
      by_cases z0 : v3 = 0
      · exact br_t z0 (bk_yacc0 ha (br_t rfl (bk_yday0 hd (br_t rfl (br_t z0 ⟨rfl, J _ _ _⟩)))))
      · by_cases z1 : v3 < (-10000)
        · exact br_f z0 (br_t z1 (bk_yacc0 ha (br_t rfl (bk_yday0 hd (br_t rfl (br_f z0 (br_t z1 ⟨rfl, J _ _ _⟩)))))))
        · by_cases z2 : v3 ≤ 10000
          · refine br_f z0 (br_f z1 (br_t z2 ?_))
            by_cases c6 : c = 60
            · subst c6
              exact br_t rfl (bk_yacc0 ha (br_t rfl (bk_yday0 hd (br_t rfl (br_f z0 (br_f z1 (br_t z2 (br_f (by decide) ⟨rfl, J _ _ _⟩))))))))
            · refine br_f (fun z => c6 ((nI_eq (b := 60) (by omega) (by decide)).mp z)) ?_
              have c7 : c < 60 := by omega
              have hr := bk_rng z1 z2
              have hV' := bk_V_put (c := c) hV ha hd hr z0
              have hQ' := bk_Q_put (p := nI a) (q := nI d) (r := v3) hQ
              have hb' := fun b => bk_B_bd (gn := upd gn c 0) (c := c + 1) (by omega) hV' b
              have e1 : nI (c + 1) - 1 = nI c := nI_pred c
              rcases hS with ⟨rfl, hso⟩ | ⟨rfl, hS⟩
              · refine br_t rfl ?_
                have hiff := bk_so_one hb ha hd (bk_B_put (ac := ac) (dy := dy) (am := am) (gn := gn) (c := c) (x := v3) ha hd) hso
                have hW' := fun b (_ : b < 4) => bk_QW (yb := 0) (yp := yp) (yf := fl) (yq := yq) (a := b) (c := c + 1) (by omega) hQ'
                refine bk_bears ha hd (hb a) (bk_B_0 hV a) (hT a ha) rfl rfl (bk_self' v3) hr ?_ ?_
                · intro q wc' wl' wa'
                  refine br_f (by decide) ?_
                  refine bk_enter c7 hV ha hd hr z0 hT ?_
                  intro ch' le' ar' hT'
                  refine bk_yacc0 ha (br_t rfl (bk_yday0 hd (br_t rfl (br_f z0 (br_f z1 (br_t z2 (br_t (nI_lt (b := 60) c7 (by decide)) (bk_put c7 (br_t rfl ?_)))))))))
                  refine bk_all hb' hW' (fun s => br_f (by decide) ⟨e1, ?_⟩) (fun s => absurd (hiff.mp q) s)
                  exact bk_in ⟨by omega, hV', hQ', hF, hT', Or.inl ⟨rfl, s⟩⟩
                · intro q wc' wl' wa'
                  refine br_t rfl ?_
                  refine bk_yacc0 ha (br_t rfl (bk_yday0 hd (br_t rfl (br_f z0 (br_f z1 (br_t z2 (br_t (nI_lt (b := 60) c7 (by decide)) (bk_put c7 (br_t rfl ?_)))))))))
                  refine bk_all hb' hW' (fun s => absurd (hiff.mpr s) q) (fun s => br_t rfl (nm_r e1 ⟨rfl, ?_⟩))
                  exact bk_in ⟨hc, hV, bk_Q_junk (Nat.le_refl _) hQ, hF, hT, Or.inl ⟨rfl, hso⟩⟩
              · refine br_f (by decide) ?_
                refine bk_enter c7 hV ha hd hr z0 hT ?_
                intro ch' le' ar' hT'
                refine bk_yacc0 ha (br_t rfl (bk_yday0 hd (br_t rfl (br_f z0 (br_f z1 (br_t z2 (br_t (nI_lt (b := 60) c7 (by decide)) (bk_put c7 (br_f (by decide) ⟨e1, ?_⟩)))))))))
                exact bk_in ⟨by omega, hV', hQ', hF, hT', bk_S_put (Or.inr rfl) (Or.inr ⟨rfl, hS⟩)⟩
          · exact br_f z0 (br_f z1 (br_f z2 (bk_yacc0 ha (br_t rfl (bk_yday0 hd (br_t rfl (br_f z0 (br_f z1 (br_f z2 ⟨rfl, J _ _ _⟩)))))))))
end
section
/-! owed: transfer -/
theorem bk_route {r : Nat} (hr : r < 16) : nI r >>> ((2 : Int32) &&& 31) = nI (r / 4) ∧ nI r &&& 3 = nI (r % 4) ∧ nI r / 4 = nI (r / 4) ∧ nI r - nI r / 4 * 4 = nI (r % 4) := by
  refine ⟨bk_shrn (n := r) (h := 2) (by omega) (by decide), pk_andN (by omega) 2 (by decide), pk_div (d := 4) (by omega) (by decide) (by decide), pk_rem (d := 4) (by omega) (by decide) (by decide)⟩
theorem bk_ngr {x : Int32} (h1 : ¬ x < 1) (h2 : x ≤ 10000) : 1 ≤ x.toInt ∧ x.toInt ≤ 10000 := by
  rw [Int32.lt_iff_toInt_lt, show (1 : Int32).toInt = 1 from by decide] at h1
  rw [Int32.le_iff_toInt_le, show (10000 : Int32).toInt = 10000 from by decide] at h2
  omega
theorem bk_negT {x : Int32} (h : -10000 ≤ x.toInt ∧ x.toInt ≤ 10000) : (-x).toInt = -x.toInt := by
  rw [show -x = bk_I (-x.toInt) from by rw [← bk_neg, bk_self], bk_toInt (by omega) (by omega)]
theorem bk_ne0 {x : Int32} (h : x.toInt ≠ 0) : x ≠ 0 := by
  intro z
  rw [z] at h
  exact h (by decide)
theorem i_vc_transfer {k : Nat} {u : SX} {v : SY} (I : i_Rel k u v) (hk : k + 4 ≤ 2048) (v1 : Int32) (v2 : Int32) (v3 : Int32) : wpX_transfer (fun r u' => wpY_transfer (fun r' v' => r' = r ∧ i_Rel (k + 4) u' v') v v1 v2 v3) u v1 v2 v3 := by
  refine bk_el (P := fun u v => wpX_transfer (fun r u' => wpY_transfer (fun r' v' => r' = r ∧ i_Rel (k + 4) u' v') v v1 v2 v3) u v1 v2 v3) ?_ I
  intro c fg fm fb wc wl wa ac dy am gn fl ch le ar lg yp ya yd ym yo yq hP
  unfold wpX_transfer wpY_transfer
  have J := fun wc wl wa => bk_in (wc := wc) (wl := wl) (wa := wa) (k := k + 4) hP
  obtain ⟨hc, hV, hQ, hF, hT, hS⟩ := hP
  have hb := fun a => bk_B_bd (gn := gn) hc hV a
  have n4 : ¬ (4 : Int32) = 0 := by decide
  by_cases y0 : v1 < 0
  · exact nm_e (nm_e (br_t y0 (br_t y0 ⟨rfl, J _ _ _⟩)))
  · by_cases y1 : 15 < v1
    · exact nm_e (nm_e (br_f y0 (br_t y1 (br_f y0 (br_t y1 ⟨rfl, J _ _ _⟩)))))
    · obtain ⟨r, hr, rfl⟩ : ∃ r, r < 16 ∧ v1 = nI r := by
        obtain ⟨j, hj, rfl⟩ := nI_of y0
        refine ⟨j, ?_, rfl⟩
        have : ¬ nI 15 < nI j := y1
        rw [nI_ltI (by decide) hj] at this
        omega
      obtain ⟨x1, x2, x3, x4⟩ := bk_route hr
      have hA : r / 4 < 4 := by omega
      have hB : r % 4 < 4 := by omega
      refine nm_r x1 (nm_r x2 (br_f y0 (br_f y1 ?_)))
      rw [x4, x3]
      generalize r / 4 = a at *
      generalize r % 4 = b at *
      by_cases y2 : a = b
      · subst y2
        exact br_t rfl (br_f y0 (br_f y1 ⟨n4, n4, br_t rfl ⟨rfl, J _ _ _⟩⟩))
      · have y3 : ¬ nI a = nI b := fun z => y2 ((nI_eq (by omega) (by omega)).mp z)
        refine br_f y3 ?_
        rcases bk_ix48 v2 with h | ⟨d, hd, rfl⟩
        · exact bk_xday0 h (br_t rfl (br_f y0 (br_f y1 ⟨n4, n4, br_f y3 (bk_yday1 h (br_f (by decide) ⟨rfl, J _ _ _⟩))⟩)))
        · refine bk_xday1 hd (br_f (by decide) ?_)
          by_cases z1 : v3 < 1
          · exact br_t z1 (br_f y0 (br_f y1 ⟨n4, n4, br_f y3 (bk_yday0 hd (br_t rfl (br_t z1 ⟨rfl, J _ _ _⟩)))⟩))
          · by_cases z2 : v3 ≤ 10000
            · by_cases c6 : c ≤ 58
              · have c7 : nI c ≤ 58 := nI_le (b := 58) c6 (by decide)
                refine br_f z1 (br_t z2 (br_t c7 ?_))
                have hr' := bk_ngr z1 z2
                have hn := bk_negT (x := v3) (by omega)
                have hnr : -10000 ≤ (-v3).toInt ∧ (-v3).toInt ≤ 10000 := by rw [hn]; omega
                have hn0 : -v3 ≠ 0 := bk_ne0 (by rw [hn]; omega)
                have h0 : v3 ≠ 0 := bk_ne0 (by omega)
                have hr2 : -10000 ≤ v3.toInt ∧ v3.toInt ≤ 10000 := by omega
                have hV1 := bk_V_put (c := c) hV hA hd hnr hn0
                have hV2 := bk_V_put (c := c + 1) hV1 hB hd hr2 h0
                have hQ1 := bk_Q_put (p := nI a) (q := nI d) (r := -v3) hQ
                have hQ2 := bk_Q_put (p := nI b) (q := nI d) (r := v3) hQ1
                have hb2 := fun i => bk_B_bd (gn := upd (upd gn c 0) (c + 1) 0) (c := c + 1 + 1) (by omega) hV2 i
                have e1 : nI (c + 1 + 1) - 2 = nI c := by
                  show nI (c + 1 + 1) - nI 2 = nI c
                  rw [pk_sub (by omega)]
                  exact congrArg nI (by omega)
                rcases hS with ⟨rfl, hso⟩ | ⟨rfl, hS⟩
                · refine br_t rfl ?_
                  have hC := bk_B_put (ac := ac) (dy := dy) (am := am) (gn := gn) (c := c) (x := -v3) hA hd
                  have hD := bk_B_put (ac := upd ac c (nI a)) (dy := upd dy c (nI d)) (am := upd am c (-v3)) (gn := upd gn c 0) (c := c + 1) (x := v3) hB hd
                  have hiff := (bk_so_one hb hA hd hC hso).trans (bk_so_two y2 (by omega) hC hD hso)
                  have hW2 := fun i (_ : i < 4) => bk_QW (yb := 0) (yp := yp) (yf := fl) (yq := yq) (a := i) (c := c + 1 + 1) (by omega) hQ2
                  refine bk_bears hA hd (hb a) (bk_B_0 hV a) (hT a hA) rfl rfl (bk_self' (-v3)) hnr ?_ ?_
                  · intro q wc' wl' wa'
                    refine br_f (by decide) ?_
                    refine bk_enter (by omega) hV hA hd hnr hn0 hT ?_
                    intro ch' le' ar' hT1
                    refine bk_enter (by omega) hV1 hB hd hr2 h0 hT1 ?_
                    intro ch'' le'' ar'' hT2
                    refine br_f y0 (br_f y1 ⟨n4, n4, br_f y3 (bk_yday0 hd (br_t rfl (br_f z1 (br_t z2 (br_t c7 ⟨n4, bk_put (by omega) ⟨n4, bk_put (by omega) (br_t rfl ?_)⟩⟩)))))⟩)
                    refine bk_all hb2 hW2 (fun s => br_f (by decide) ⟨e1, ?_⟩) (fun s => absurd (hiff.mp q) s)
                    exact bk_in ⟨by omega, hV2, hQ2, hF, hT2, Or.inl ⟨rfl, s⟩⟩
                  · intro q wc' wl' wa'
                    refine br_t rfl ?_
                    refine br_f y0 (br_f y1 ⟨n4, n4, br_f y3 (bk_yday0 hd (br_t rfl (br_f z1 (br_t z2 (br_t c7 ⟨n4, bk_put (by omega) ⟨n4, bk_put (by omega) (br_t rfl ?_)⟩⟩)))))⟩)
                    refine bk_all hb2 hW2 (fun s => absurd (hiff.mpr s) q) (fun s => br_t rfl (nm_r e1 ⟨rfl, ?_⟩))
                    exact bk_in ⟨hc, hV, bk_Q_junk (by omega) (bk_Q_junk (Nat.le_refl _) hQ), hF, hT, Or.inl ⟨rfl, hso⟩⟩
                · refine br_f (by decide) ?_
                  refine bk_enter (by omega) hV hA hd hnr hn0 hT ?_
                  intro ch' le' ar' hT1
                  refine bk_enter (by omega) hV1 hB hd hr2 h0 hT1 ?_
                  intro ch'' le'' ar'' hT2
                  refine br_f y0 (br_f y1 ⟨n4, n4, br_f y3 (bk_yday0 hd (br_t rfl (br_f z1 (br_t z2 (br_t c7 ⟨n4, bk_put (by omega) ⟨n4, bk_put (by omega) (br_f (by decide) ⟨e1, ?_⟩)⟩⟩)))))⟩)
                  exact bk_in ⟨by omega, hV2, hQ2, hF, hT2, bk_S_put (Or.inr rfl) (bk_S_put (Or.inr rfl) (Or.inr ⟨rfl, hS⟩))⟩
              · have c7 : ¬ nI c ≤ 58 := nI_ge (a := 58) (by omega) (by omega)
                exact br_f z1 (br_t z2 (br_f c7 (br_f y0 (br_f y1 ⟨n4, n4, br_f y3 (bk_yday0 hd (br_t rfl (br_f z1 (br_t z2 (br_f c7 ⟨rfl, J _ _ _⟩)))))⟩))))
            · exact br_f z1 (br_f z2 (br_f y0 (br_f y1 ⟨n4, n4, br_f y3 (bk_yday0 hd (br_t rfl (br_f z1 (br_f z2 ⟨rfl, J _ _ _⟩))))⟩)))
end
section
/-! owed: cancel, close -/
section
variable {fc fg fm fb wc wl wa : Int32} {ac dy am gn fl ch le ar lg : Nat → Int32}
variable {yc yb yp : Int32} {ya yd ym yo yf yq : Nat → Int32}
theorem bk_Q_off {c e : Nat} (he : e < c) (hQ : bk_Q c ac dy am gn ya yd ym yo) : bk_Q c ac dy am (upd gn e 1) ya yd ym (upd yo e 1) := by
  intro i hi
  obtain ⟨h1, h2, h3, h4, h5⟩ := hQ i hi
  by_cases z : i = e
  · subst z
    rw [pk_us, pk_us]
    exact ⟨h1, h2, h3, rfl, Or.inr rfl⟩
  · rw [pk_un z, pk_un z]
    exact ⟨h1, h2, h3, h4, h5⟩
theorem bk_cancel60 {post : Int32 → SX → Prop} {c e a d : Nat} (hc : c ≤ 60) (hV : bk_V c ac dy am) (he : e < c) (ha : a < 4) (hd : d < 48) (va : ac e = nI a) (vd : dy e = nI d) (hg : gn e = 0) (hT : bk_T (bk_B ac dy am gn c) ch le ar)
    (H0 : fb = 0 → ∀ ch' le' ar' : Nat → Int32, bk_T (bk_B ac dy am (upd gn e 1) c) ch' le' ar' → post (am e) (fc, fg, fm, fb, wc, wl, wa, ac, dy, am, upd gn e 1, fl, ch', le', ar', lg))
    (H1 : fb ≠ 0 → ∃ g, g < 60 ∧ fg = nI g ∧ ∀ ch' le' ar' : Nat → Int32, bk_T (bk_B ac dy am (upd gn e 1) c) ch' le' ar' → post (am e) (fc, nI (g + 1), fm, fb, wc, wl, wa, ac, dy, am, upd gn e 1, fl, ch', le', ar', upd lg g (nI e))) :
    wX_cancel_60 post (nI e) (am e) fc fg fm fb wc wl wa ac dy am gn fl ch le ar lg := by
  have hcl : (nI e).toNatClampNeg = e := nI_clamp (by omega)
  have hin : vp_in (nI e) 60 := vp_in_nI (by omega) (by decide)
  refine ⟨hin, nm_r (e' := upd gn e 1) (by rw [hcl, bk_nar1]) ⟨hin, hin, ?_⟩⟩
  refine bk_addX (x := -(am e).toInt) ha hd (bk_B_bd hc hV) hT (bk_B_off he ha hd va vd hg) (by rw [hcl, va]) (by rw [hcl, vd]) (by rw [← bk_neg, bk_self]) ?_
  intro ch' le' ar' hT'
  by_cases z : fb = 0
  · exact br_t z (H0 z _ _ _ hT')
  · obtain ⟨g, hg', e1, H⟩ := H1 z
    have hcg : fg.toNatClampNeg = g := by rw [e1]; exact nI_clamp (by omega)
    refine br_f z ⟨by rw [e1]; exact vp_in_nI hg' (by decide), nm_r (e' := upd lg g (nI e)) (by rw [hcg]) (nm_r (e' := nI (g + 1)) (by rw [e1, nI_1]) (H _ _ _ hT'))⟩
end
theorem i_vc_cancel {k : Nat} {u : SX} {v : SY} (I : i_Rel k u v) (hk : k + 4 ≤ 2048) (v1 : Int32) : wpX_cancel (fun r u' => wpY_cancel (fun r' v' => r' = r ∧ i_Rel (k + 4) u' v') v v1) u v1 := by
  refine bk_el (P := fun u v => wpX_cancel (fun r u' => wpY_cancel (fun r' v' => r' = r ∧ i_Rel (k + 4) u' v') v v1) u v1) ?_ I
  intro c fg fm fb wc wl wa ac dy am gn fl ch le ar lg yp ya yd ym yo yq hP
  unfold wpX_cancel wpY_cancel
  have J := fun wc wl wa => bk_in (wc := wc) (wl := wl) (wa := wa) (k := k + 4) hP
  obtain ⟨hc, hV, hQ, hF, hT, hS⟩ := hP
  have hb := fun a => bk_B_bd (gn := gn) hc hV a
  rcases bk_ixc v1 hc with h | ⟨e, he, rfl⟩
  · exact bk_xent0 h (br_t rfl (bk_yent1 h (br_f (by decide) ⟨rfl, J _ _ _⟩)))
  · have hcl : (nI e).toNatClampNeg = e := nI_clamp (by omega)
    have hin : vp_in (nI e) 60 := vp_in_nI (by omega) (by decide)
    obtain ⟨q1, q2, q3, q4, q5⟩ := hQ e he
    obtain ⟨⟨a, ha, va⟩, ⟨d, hd, vd⟩, vx, vx0⟩ := hV e he
    refine bk_xent1 hc he (br_f (by decide) ⟨hin, ?_⟩)
    by_cases z : gn e = 0
    · have z' : yo (nI e).toNatClampNeg = 0 := by rw [hcl, q4]; exact z
      have hQ' := bk_Q_off he hQ
      have hb' := fun b => bk_B_bd (gn := upd gn e 1) hc hV b
      have hans : ym (nI e).toNatClampNeg = am e := by rw [hcl, q3]
      refine br_t (by rw [hcl]; exact z) ⟨hin, nm_r (e' := am e) (by rw [hcl]) ?_⟩
      rcases hS with ⟨rfl, hso⟩ | ⟨rfl, m, g, rfl, rfl, rfl, hL, hso⟩
      · refine br_t rfl ⟨hin, hin, ?_⟩
        have hiff := bk_so_one hb ha hd (bk_B_off (am := am) he ha hd va vd z) hso
        have hW' := fun b (_ : b < 4) => bk_QW (yb := 0) (yp := yp) (yf := fl) (yq := yq) (a := b) hc hQ'
        refine bk_bears ha hd (hb a) (bk_B_0 hV a) (hT a ha) (by rw [hcl, va]) (by rw [hcl, vd]) (x := -(am e).toInt) (by rw [← bk_neg, bk_self]) (by omega) ?_ ?_
        · intro q wc' wl' wa'
          refine br_f (by decide) ?_
          refine bk_cancel60 hc hV he ha hd va vd z hT (fun _ ch' le' ar' hT' => ?_) (fun zz => absurd rfl zz)
          refine bk_yent0 hc he (br_t rfl ⟨hin, br_t z' ⟨hin, nm_r (e' := upd yo e 1) (by rw [hcl, bk_nar1]) (br_t rfl ?_)⟩⟩)
          refine bk_all hb' hW' (fun s => br_f (by decide) ⟨hin, hans, ?_⟩) (fun s => absurd (hiff.mp q) s)
          exact bk_in ⟨hc, hV, hQ', hF, hT', Or.inl ⟨rfl, s⟩⟩
        · intro q wc' wl' wa'
          refine br_t rfl ?_
          refine bk_yent0 hc he (br_t rfl ⟨hin, br_t z' ⟨hin, nm_r (e' := upd yo e 1) (by rw [hcl, bk_nar1]) (br_t rfl ?_)⟩⟩)
          refine bk_all hb' hW' (fun s => absurd (hiff.mpr s) q) (fun s => br_t rfl ⟨hin, nm_r (e' := yo) ?_ ⟨rfl, J _ _ _⟩⟩)
          rw [hcl, bk_nar0]
          exact bk_uu (by rw [q4, z])
      · refine br_f (by decide) ?_
        obtain ⟨hg6, hL'⟩ := bk_L_off hc he z hL
        refine bk_cancel60 hc hV he ha hd va vd z hT (fun zz => absurd zz (by decide)) (fun _ => ⟨g, hg6, rfl, fun ch' le' ar' hT' => ?_⟩)
        refine bk_yent0 hc he (br_t rfl ⟨hin, br_t z' ⟨hin, nm_r (e' := upd yo e 1) (by rw [hcl, bk_nar1]) (br_f (by decide) ⟨hin, hans, ?_⟩)⟩⟩)
        exact bk_in ⟨hc, hV, hQ', hF, hT', Or.inr ⟨rfl, m, g + 1, rfl, rfl, rfl, hL', hso⟩⟩
    · have z' : ¬ yo (nI e).toNatClampNeg = 0 := by rw [hcl, q4]; exact z
      exact br_f (by rw [hcl]; exact z) (bk_yent0 hc he (br_t rfl ⟨hin, br_f z' ⟨rfl, J _ _ _⟩⟩))
theorem i_vc_close {k : Nat} {u : SX} {v : SY} (I : i_Rel k u v) (hk : k + 4 ≤ 2048) : wpX_close (fun r u' => wpY_close (fun r' v' => r' = r ∧ i_Rel (k + 4) u' v') v) u := by
  refine bk_el (P := fun u v => wpX_close (fun r u' => wpY_close (fun r' v' => r' = r ∧ i_Rel (k + 4) u' v') v) u) ?_ I
  intro c fg fm fb wc wl wa ac dy am gn fl ch le ar lg yp ya yd ym yo yq hP
  unfold wpX_close wpY_close
  have J := fun wc wl wa => bk_in (wc := wc) (wl := wl) (wa := wa) (k := k + 4) hP
  obtain ⟨hc, hV, hQ, hF, hT, hS⟩ := hP
  have hb := fun a => bk_B_bd (gn := gn) hc hV a
  rcases hS with ⟨rfl, hso⟩ | ⟨rfl, m, g, rfl, rfl, rfl, hL, hso⟩
  · exact br_t rfl (br_t rfl ⟨rfl, J _ _ _⟩)
  · refine br_f (by decide) ?_
    have hW := fun a (_ : a < 4) => bk_QW (yb := 0) (yp := nI m) (yf := fl) (yq := yq) (a := a) hc hQ
    refine bk_isSound hb (bk_B_0 hV) hT (fun s wc' wl' wa' => br_f (by decide) ?_) (fun s wc' wl' wa' => br_t rfl ?_)
    · refine br_f (by decide) (bk_all hb hW (fun _ => br_f (by decide) ⟨rfl, ?_⟩) (fun z => absurd s z))
      exact bk_in ⟨hc, hV, hQ, hF, hT, Or.inl ⟨rfl, s⟩⟩
    · obtain ⟨l1, l2, l3, l4, l5, l6⟩ := hL
      have l7 := bk_cg_le gn c
      have e0 : nI c - 1 = bk_I ((c : Int) - 1) := by
        rw [bk_nat', show (1 : Int32) = bk_I 1 from rfl, bk_sub]
      refine nm_r e0 ⟨c - m + 1, bk_close30 (g0 := gn) hc hV ?_ (c - m) c gn ch le ar (by omega) (Nat.le_refl _) (fun _ _ => rfl) hT⟩
      intro gn' ch' le' ar' hg' hT'
      refine ⟨g + 1, bk_close85 (yq := yq) (by omega) (by omega) (bk_V_le hV l1) (fun i hi => ?_) l4 (fun e he => (l5 e he).1) l6 ?_ g 0 gn' ch' le' ar' (by omega) hT' (fun e he => ?_)⟩
      · obtain ⟨e, h1, h2, _⟩ := l3 i hi
        exact ⟨e, by omega, h2⟩
      · intro gn2 ch2 le2 ar2 hg2 hT2
        refine br_f (by decide) (bk_all hb hW (fun z => absurd z s) (fun _ => br_t rfl ⟨61, bk_yclose_l ?_ 60 0 yo rfl (fun e he => absurd he (Nat.not_lt_zero e))⟩))
        intro yo' hyo
        refine ⟨rfl, bk_in ⟨by omega, bk_V_le hV l1, ?_, hF, hT2, Or.inl ⟨rfl, bk_so_eq ?_ hso⟩⟩⟩
        · intro e he
          obtain ⟨h1, h2, h3, _, _⟩ := hQ e (by omega)
          have hq := (l5 e he).1
          refine ⟨h1, h2, h3, ?_, ?_⟩
          · rw [hyo e (by omega), bk_nar hq, hg2 e he]
          · rw [hg2 e he]
            exact hq
        · intro b _ j
          exact bk_B_congr (fun e he => ⟨rfl, rfl, rfl, by rw [hg2 e he]⟩) b j
      · obtain ⟨h1, h2⟩ := l5 e he
        rw [hg' e he]
        refine ⟨(hQ e (by omega)).2.2.2.2, h2.trans ⟨?_, ?_⟩⟩
        · rintro (z | ⟨i, i1, i2⟩)
          · exact Or.inl z
          · exact Or.inr ⟨i, by omega, i1, i2⟩
        · rintro (z | ⟨i, _, i1, i2⟩)
          · exact Or.inl z
          · exact Or.inr ⟨i, i1, i2⟩
end
