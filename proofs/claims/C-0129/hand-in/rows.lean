section
theorem pk_us {f : Nat → Int32} {k : Nat} {x : Int32} : upd f k x k = x := if_pos rfl
theorem pk_un {f : Nat → Int32} {k j : Nat} {x : Int32} (h : j ≠ k) : upd f k x j = f j := if_neg h
theorem pk_sub {a b : Nat} (h : b ≤ a) : nI a - nI b = nI (a - b) := by
  obtain ⟨c, rfl⟩ : ∃ c, a = c + b := ⟨a - b, by omega⟩
  rw [← nI_add, Int32.add_sub_cancel, Nat.add_sub_cancel]
theorem pk_m1 (n : Nat) : nI (n + 1) + (-1) = nI n := by
  rw [← nI_1, Int32.add_assoc, show (1 : Int32) + (-1) = 0 from rfl, Int32.add_zero]
theorem pk_mul (a b : Nat) : nI a * nI b = nI (a * b) := (Int32.ofNat_mul a b).symm
theorem pk_div {a d : Nat} (ha : a < 2 ^ 31) (h0 : 0 < d) (hd : d < 2 ^ 31) : nI a / nI d = nI (a / d) := by
  apply Int32.toInt_inj.mp
  rw [lg_idiv_nonneg (by rw [nI_toInt ha]; omega) (by rw [nI_toInt hd]; omega), nI_toInt ha, nI_toInt hd, nI_toInt (Nat.lt_of_le_of_lt (Nat.div_le_self a d) ha)]
  first | rfl | exact (Int.natCast_ediv _ _).symm
theorem pk_rem {a d : Nat} (ha : a < 2 ^ 31) (h0 : 0 < d) (hd : d < 2 ^ 31) : nI a - nI a / nI d * nI d = nI (a % d) := by
  rw [pk_div ha h0 hd, pk_mul, pk_sub (Nat.div_mul_le_self a d)]
  exact congrArg nI (by have := Nat.div_add_mod' a d; omega)
theorem pk_sub_toInt {a b : Nat} (ha : a < 2 ^ 30) (hb : b < 2 ^ 30) : (nI a - nI b).toInt = (a : Int) - b := by
  rw [Int32.toInt_sub, nI_toInt (by omega), nI_toInt (by omega)]
  exact Int.bmod_eq_of_le (by omega) (by omega)
theorem pk_sneg {a b : Nat} (hb : b < 2 ^ 30) (h : a < b) : nI a - nI b < 0 := by
  rw [Int32.lt_iff_toInt_lt, pk_sub_toInt (by omega) hb, show (0 : Int32).toInt = 0 from by decide]
  omega
theorem pk_ix (x : Int32) {n : Nat} (hn : n < 2 ^ 31) : x < 0 ∨ nI n ≤ x ∨ ∃ j : Nat, j < n ∧ x = nI j := by
  by_cases h : x < 0
  · exact Or.inl h
  · obtain ⟨j, hj, rfl⟩ := nI_of h
    by_cases h2 : j < n
    · exact Or.inr (Or.inr ⟨j, h2, rfl⟩)
    · exact Or.inr (Or.inl (nI_le (by omega) hj))
theorem pk_le {x y : Int32} {A B : Prop} (a b : Nat) (f : a ≤ b → A) (g : b < a → B) (hx : x = nI a := by rfl) (hy : y = nI b := by rfl) (ha : a < 2 ^ 31 := by omega) (hb : b < 2 ^ 31 := by omega) : (x ≤ y → A) ∧ (¬ x ≤ y → B) := by
  subst hx hy
  rw [nI_leI ha hb]
  exact ⟨f, fun z => g (by omega)⟩
theorem pk_lt {x y : Int32} {A B : Prop} (a b : Nat) (f : a < b → A) (g : b ≤ a → B) (hx : x = nI a := by rfl) (hy : y = nI b := by rfl) (ha : a < 2 ^ 31 := by omega) (hb : b < 2 ^ 31 := by omega) : (x < y → A) ∧ (¬ x < y → B) := by
  subst hx hy
  rw [nI_ltI ha hb]
  exact ⟨f, fun z => g (by omega)⟩
theorem pk_eq {x y : Int32} {A B : Prop} (a b : Nat) (f : a = b → A) (g : a ≠ b → B) (hx : x = nI a := by rfl) (hy : y = nI b := by rfl) (ha : a < 2 ^ 31 := by omega) (hb : b < 2 ^ 31 := by omega) : (x = y → A) ∧ (¬ x = y → B) := by
  subst hx hy
  rw [nI_eq ha hb]
  exact ⟨f, g⟩
theorem pk_in {x : Int32} (n N : Nat) (h : n < N) (hx : x = nI n := by rfl) (hN : N < 2 ^ 31 := by omega) : vp_in x N := by
  subst hx
  exact vp_in_nI h hN
theorem pk_cl {x : Int32} (n : Nat) (hx : x = nI n := by rfl) (h : n < 2 ^ 31 := by omega) : x.toNatClampNeg = n := by
  subst hx
  exact nI_clamp h
theorem pk_tn {n : Nat} (h : n < 2 ^ 32) : (nI n).toBitVec.toNat = n := Nat.mod_eq_of_lt h
theorem pk_and (x : Int32) {m : Int32} (k : Nat) (hm : m.toBitVec.toNat = 2 ^ k - 1) : x &&& m = nI (x.toBitVec.toNat % 2 ^ k) := by
  apply Int32.toBitVec_inj.mp
  apply BitVec.eq_of_toNat_eq
  rw [Int32.toBitVec_and, BitVec.toNat_and, hm, Nat.and_two_pow_sub_one_eq_mod]
  show _ = (BitVec.ofNat 32 _).toNat
  rw [BitVec.toNat_ofNat]
  exact (Nat.mod_eq_of_lt (Nat.lt_of_le_of_lt (Nat.mod_le _ _) x.toBitVec.isLt)).symm
theorem pk_andN {n : Nat} (h : n < 2 ^ 32) {m : Int32} (k : Nat) (hm : m.toBitVec.toNat = 2 ^ k - 1) : nI n &&& m = nI (n % 2 ^ k) := by
  rw [pk_and _ k hm, pk_tn h]
theorem pk_andE (x : Int32) {m : Int32} (k : Nat) (hm : m.toBitVec.toNat = 2 ^ k - 1) : ∃ j : Nat, j < 2 ^ k ∧ x &&& m = nI j := ⟨_, Nat.mod_lt _ (Nat.two_pow_pos k), pk_and x k hm⟩
theorem pk_andIn (x : Int32) {m : Int32} (k : Nat) (hm : m.toBitVec.toNat = 2 ^ k - 1) (hk : k ≤ 30) : vp_in (x &&& m) (2 ^ k) := by
  obtain ⟨j, hj, e⟩ := pk_andE x k hm
  rw [e]
  exact vp_in_nI hj (Nat.lt_of_le_of_lt (Nat.pow_le_pow_right (by decide) hk) (by decide))
theorem pk_shl (a s : Int32) (k : Nat) (hs : (s.toBitVec.smod 32).toNat = k) : (a <<< s).toBitVec.toNat = a.toBitVec.toNat * 2 ^ k % 2 ^ 32 := by
  show (a.toBitVec <<< (s.toBitVec.smod 32).toNat).toNat = _
  rw [hs, BitVec.toNat_shiftLeft, Nat.shiftLeft_eq]
theorem pk_shlN {n : Nat} (s : Int32) (k : Nat) (hs : (s.toBitVec.smod 32).toNat = k) (h : n * 2 ^ k < 2 ^ 32) : nI n <<< s = nI (n * 2 ^ k) := by
  apply Int32.toBitVec_inj.mp
  apply BitVec.eq_of_toNat_eq
  have hn : n < 2 ^ 32 := Nat.lt_of_le_of_lt (Nat.le_mul_of_pos_right n (Nat.two_pow_pos k)) h
  rw [pk_shl _ _ k hs, pk_tn hn, pk_tn h, Nat.mod_eq_of_lt h]
theorem pk_shr (a s : Int32) (k : Nat) (hs : (s.toBitVec.smod 32).toNat = k) : (a >>> s).toInt = a.toInt >>> k := by
  show (a.toBitVec.sshiftRight (s.toBitVec.smod 32).toNat).toInt = _
  rw [hs, BitVec.toInt_sshiftRight]
  rfl
theorem pk_shrN {n : Nat} (h : n < 2 ^ 31) (s : Int32) (k : Nat) (hs : (s.toBitVec.smod 32).toNat = k) : nI n >>> s = nI (n / 2 ^ k) := by
  apply Int32.toInt_inj.mp
  have h2 : n / 2 ^ k ≤ n := Nat.div_le_self _ _
  rw [pk_shr _ _ k hs, nI_toInt h, nI_toInt (by omega), Int.shiftRight_eq_div_pow]
  rfl
/-! ===== Int32 by its bits: bt x i ===== -/
def bt (x : Int32) (i : Nat) : Bool := x.toBitVec.getLsbD i
theorem b_ext {x y : Int32} (h : ∀ i, i < 32 → bt x i = bt y i) : x = y := Int32.toBitVec_inj.mp (BitVec.eq_of_getLsbD_eq (fun i hi => h i hi))
theorem b_or (x y : Int32) (i : Nat) : bt (x ||| y) i = (bt x i || bt y i) := by unfold bt; rw [Int32.toBitVec_or, BitVec.getLsbD_or]
theorem b_and (x y : Int32) (i : Nat) : bt (x &&& y) i = (bt x i && bt y i) := by unfold bt; rw [Int32.toBitVec_and, BitVec.getLsbD_and]
theorem b_xor (x y : Int32) (i : Nat) : bt (x ^^^ y) i = (bt x i ^^ bt y i) := by unfold bt; rw [Int32.toBitVec_xor, BitVec.getLsbD_xor]
theorem b_big {x : Int32} {i : Nat} (h : 32 ≤ i) : bt x i = false := BitVec.getLsbD_of_ge _ _ h
theorem b_255 (i : Nat) : bt 255 i = decide (i < 8) := by
  rcases Nat.lt_or_ge i 32 with h | h
  · exact (by decide +kernel : ∀ i, i < 32 → bt 255 i = decide (i < 8)) i h
  · rw [b_big h, decide_eq_false (by omega)]
theorem b_65535 (i : Nat) : bt 65535 i = decide (i < 16) := by
  rcases Nat.lt_or_ge i 32 with h | h
  · exact (by decide +kernel : ∀ i, i < 32 → bt 65535 i = decide (i < 16)) i h
  · rw [b_big h, decide_eq_false (by omega)]
theorem b_m1 : ∀ i, i < 32 → bt (-1) i = true := by decide +kernel
theorem b_0 (i : Nat) : bt 0 i = false := BitVec.getLsbD_zero
theorem s_l : ∀ n, n < 32 → ((nI n &&& 31).toBitVec.smod 32).toNat = n := by decide +kernel
theorem s_u : ∀ n, n < 32 → (((nI n).toUInt32 &&& Int32.toUInt32 31).toBitVec % 32).toNat = n := by decide +kernel
theorem b_shl (n : Nat) (hn : n < 32) (x : Int32) {i : Nat} (hi : i < 32) : bt (x <<< (nI n &&& 31)) i = (decide (n ≤ i) && bt x (i - n)) := by
  unfold bt
  rw [Int32.toBitVec_shiftLeft]
  show (x.toBitVec <<< ((nI n &&& 31).toBitVec.smod 32).toNat).getLsbD i = _
  rw [s_l n hn, BitVec.getLsbD_shiftLeft]
  rcases Nat.lt_or_ge i n with h | h
  · simp [h, Nat.not_le.mpr h]
  · simp [hi, h, Nat.not_lt.mpr h]
theorem b_ushr (n : Nat) (hn : n < 32) (x : Int32) (i : Nat) : bt ((x.toUInt32 >>> ((nI n).toUInt32 &&& Int32.toUInt32 31)).toInt32) i = bt x (n + i) := by
  show (x.toUInt32 >>> ((nI n).toUInt32 &&& Int32.toUInt32 31)).toBitVec.getLsbD i = x.toUInt32.toBitVec.getLsbD (n + i)
  rw [UInt32.toBitVec_shiftRight]
  show (x.toUInt32.toBitVec >>> (((nI n).toUInt32 &&& Int32.toUInt32 31).toBitVec % 32).toNat).getLsbD i = _
  rw [s_u n hn, BitVec.getLsbD_ushiftRight]
theorem b_sshr (n : Nat) (hn : n < 32) (x : Int32) {i : Nat} (hi : i < 32) : bt (x >>> (nI n &&& 31)) i = if n + i < 32 then bt x (n + i) else bt x 31 := by
  unfold bt
  rw [Int32.toBitVec_shiftRight]
  show (x.toBitVec.sshiftRight ((nI n &&& 31).toBitVec.smod 32).toNat).getLsbD i = _
  rw [s_l n hn, BitVec.getLsbD_sshiftRight, BitVec.msb_eq_getLsbD_last]
  simp [hi]
theorem b_shl8 (x : Int32) {i : Nat} (hi : i < 32) : bt (x <<< ((8 : Int32) &&& 31)) i = (decide (8 ≤ i) && bt x (i - 8)) := b_shl 8 (by omega) x hi
theorem b_shl16 (x : Int32) {i : Nat} (hi : i < 32) : bt (x <<< ((16 : Int32) &&& 31)) i = (decide (16 ≤ i) && bt x (i - 16)) := b_shl 16 (by omega) x hi
theorem b_shl24 (x : Int32) {i : Nat} (hi : i < 32) : bt (x <<< ((24 : Int32) &&& 31)) i = (decide (24 ≤ i) && bt x (i - 24)) := b_shl 24 (by omega) x hi
theorem b_sshr8 (x : Int32) {i : Nat} (hi : i < 32) : bt (x >>> ((8 : Int32) &&& 31)) i = if 8 + i < 32 then bt x (8 + i) else bt x 31 := b_sshr 8 (by omega) x hi
end
section
/-! pure: widths, digits, sizes, the best base -/
/-- the number of binary digits -/
def qz_wd (v : Nat) : Nat := if v = 0 then 0 else v.log2 + 1
theorem qz_wd_lt (v i : Nat) : i < qz_wd v ↔ 2 ^ i ≤ v := by
  unfold qz_wd
  by_cases h : v = 0
  · subst h
    rw [if_pos rfl]
    have := Nat.two_pow_pos i
    omega
  · rw [if_neg h, ← Nat.le_log2 h]
    omega
theorem qz_wd_20 {v : Nat} (h : v < 2 ^ 20) : qz_wd v ≤ 20 := by
  rcases Nat.lt_or_ge 20 (qz_wd v) with h1 | h1
  · have := (qz_wd_lt v 20).mp h1
    omega
  · exact h1
theorem qz_wd_31 {v : Nat} (h : v < 2 ^ 31) : qz_wd v ≤ 31 := by
  rcases Nat.lt_or_ge 31 (qz_wd v) with h1 | h1
  · have := (qz_wd_lt v 31).mp h1
    omega
  · exact h1
theorem qz_wd_pow (v : Nat) : v < 2 ^ qz_wd v := by
  rcases Nat.lt_or_ge v (2 ^ qz_wd v) with h | h
  · exact h
  · have := (qz_wd_lt v _).mpr h
    omega
/-- the value of n digits from place c on, the first one the greatest -/
def qz_bv (B : Nat → Nat) (c : Nat) : Nat → Nat
  | 0 => 0
  | n + 1 => qz_bv B c n * 2 + B (c + n)
theorem qz_bv_congr {B B' : Nat → Nat} {c : Nat} : ∀ n : Nat, (∀ q, c ≤ q → q < c + n → B' q = B q) → qz_bv B' c n = qz_bv B c n
  | 0, _ => rfl
  | n + 1, h => by
    show qz_bv B' c n * 2 + B' (c + n) = qz_bv B c n * 2 + B (c + n)
    rw [qz_bv_congr n (fun q h1 h2 => h q h1 (by omega)), h (c + n) (by omega) (by omega)]
theorem qz_bv_lo {B B' : Nat → Nat} {c n d : Nat} (h : ∀ q, q < d → B' q = B q) (hd : c + n ≤ d) : qz_bv B' c n = qz_bv B c n :=
  qz_bv_congr n (fun q _ h2 => h q (by omega))
theorem qz_bv_head (B : Nat → Nat) (c : Nat) : ∀ n : Nat, qz_bv B c (n + 1) = B c * 2 ^ n + qz_bv B (c + 1) n
  | 0 => by
    show 0 * 2 + B (c + 0) = B c * 1 + 0
    rw [Nat.add_zero]
    omega
  | n + 1 => by
    have ih := qz_bv_head B c n
    show qz_bv B c (n + 1) * 2 + B (c + (n + 1)) = B c * 2 ^ (n + 1) + (qz_bv B (c + 1) n * 2 + B (c + 1 + n))
    rw [ih, Nat.pow_succ, show c + (n + 1) = c + 1 + n from by omega, ← Nat.mul_assoc]
    omega
/-- the digits that patches take ahead of place i -/
def qz_pq (c : Nat → Nat) (s : Nat) : Nat → Nat
  | 0 => 0
  | i + 1 => qz_pq c s i + (if s < qz_wd (c i) then 8 + (qz_wd (c i) - s) else 0)
/-- the number of patches ahead of place i -/
def qz_pn (c : Nat → Nat) (s : Nat) : Nat → Nat
  | 0 => 0
  | i + 1 => qz_pn c s i + (if s < qz_wd (c i) then 1 else 0)
/-- the size of a block of h codes at base s -/
def qz_sz (c : Nat → Nat) (s h : Nat) : Nat := 9 + h * s + qz_pq c s h
theorem qz_pq_y {c : Nat → Nat} {s i : Nat} (h : s < qz_wd (c i)) : qz_pq c s (i + 1) = qz_pq c s i + 8 + (qz_wd (c i) - s) := by
  show qz_pq c s i + (if s < qz_wd (c i) then 8 + (qz_wd (c i) - s) else 0) = _
  rw [if_pos h]; omega
theorem qz_pq_n {c : Nat → Nat} {s i : Nat} (h : ¬ s < qz_wd (c i)) : qz_pq c s (i + 1) = qz_pq c s i := by
  show qz_pq c s i + (if s < qz_wd (c i) then 8 + (qz_wd (c i) - s) else 0) = _
  rw [if_neg h]; omega
theorem qz_pn_y {c : Nat → Nat} {s i : Nat} (h : s < qz_wd (c i)) : qz_pn c s (i + 1) = qz_pn c s i + 1 := by
  show qz_pn c s i + (if s < qz_wd (c i) then 1 else 0) = _
  rw [if_pos h]
theorem qz_pn_n {c : Nat → Nat} {s i : Nat} (h : ¬ s < qz_wd (c i)) : qz_pn c s (i + 1) = qz_pn c s i := by
  show qz_pn c s i + (if s < qz_wd (c i) then 1 else 0) = _
  rw [if_neg h]; omega
theorem qz_pq_mono {c : Nat → Nat} {s i : Nat} : ∀ d : Nat, qz_pq c s i ≤ qz_pq c s (i + d)
  | 0 => Nat.le_refl _
  | d + 1 => by
    have ih := qz_pq_mono (c := c) (s := s) (i := i) d
    show _ ≤ qz_pq c s (i + d) + _
    omega
theorem qz_pq_le {c : Nat → Nat} {s i j : Nat} (h : i ≤ j) : qz_pq c s i ≤ qz_pq c s j := by
  obtain ⟨d, rfl⟩ : ∃ d, j = i + d := ⟨j - i, by omega⟩
  exact qz_pq_mono d
theorem qz_pn_mono {c : Nat → Nat} {s i : Nat} : ∀ d : Nat, qz_pn c s i ≤ qz_pn c s (i + d)
  | 0 => Nat.le_refl _
  | d + 1 => by
    have ih := qz_pn_mono (c := c) (s := s) (i := i) d
    show _ ≤ qz_pn c s (i + d) + _
    omega
theorem qz_pn_le {c : Nat → Nat} {s i j : Nat} (h : i ≤ j) : qz_pn c s i ≤ qz_pn c s j := by
  obtain ⟨d, rfl⟩ : ∃ d, j = i + d := ⟨j - i, by omega⟩
  exact qz_pn_mono d
theorem qz_pn_id {c : Nat → Nat} {s : Nat} : ∀ i : Nat, qz_pn c s i ≤ i
  | 0 => Nat.le_refl _
  | i + 1 => by
    have ih := qz_pn_id (c := c) (s := s) i
    by_cases h : s < qz_wd (c i)
    · rw [qz_pn_y h]; omega
    · rw [qz_pn_n h]; omega
theorem qz_pq_congr {c c' : Nat → Nat} {s : Nat} : ∀ h : Nat, (∀ i, i < h → c' i = c i) → qz_pq c' s h = qz_pq c s h
  | 0, _ => rfl
  | h + 1, e => by
    show qz_pq c' s h + (if s < qz_wd (c' h) then 8 + (qz_wd (c' h) - s) else 0) = qz_pq c s h + (if s < qz_wd (c h) then 8 + (qz_wd (c h) - s) else 0)
    rw [qz_pq_congr h (fun i hi => e i (by omega)), e h (by omega)]
theorem qz_pn_congr {c c' : Nat → Nat} {s : Nat} : ∀ h : Nat, (∀ i, i < h → c' i = c i) → qz_pn c' s h = qz_pn c s h
  | 0, _ => rfl
  | h + 1, e => by
    show qz_pn c' s h + (if s < qz_wd (c' h) then 1 else 0) = qz_pn c s h + (if s < qz_wd (c h) then 1 else 0)
    rw [qz_pn_congr h (fun i hi => e i (by omega)), e h (by omega)]
theorem qz_sz_congr {c c' : Nat → Nat} {s h : Nat} (e : ∀ i, i < h → c' i = c i) : qz_sz c' s h = qz_sz c s h := by
  unfold qz_sz
  rw [qz_pq_congr h e]
theorem qz_sz_y {c : Nat → Nat} {s i : Nat} (h : s < qz_wd (c i)) : qz_sz c s (i + 1) = qz_sz c s i + s + 8 + (qz_wd (c i) - s) := by
  unfold qz_sz
  rw [qz_pq_y h, Nat.succ_mul]; omega
theorem qz_sz_n {c : Nat → Nat} {s i : Nat} (h : ¬ s < qz_wd (c i)) : qz_sz c s (i + 1) = qz_sz c s i + s := by
  unfold qz_sz
  rw [qz_pq_n h, Nat.succ_mul]; omega
/-- the best of the bases 0 .. w -/
def qz_bb (c : Nat → Nat) (h : Nat) : Nat → Nat
  | 0 => 0
  | w + 1 => if qz_sz c (w + 1) h < qz_sz c (qz_bb c h w) h then w + 1 else qz_bb c h w
theorem qz_bb_le (c : Nat → Nat) (h : Nat) : ∀ w : Nat, qz_bb c h w ≤ w
  | 0 => Nat.le_refl _
  | w + 1 => by
    have ih := qz_bb_le c h w
    show (if qz_sz c (w + 1) h < qz_sz c (qz_bb c h w) h then w + 1 else qz_bb c h w) ≤ w + 1
    split
    · exact Nat.le_refl _
    · omega
theorem qz_bb_min (c : Nat → Nat) (h : Nat) : ∀ w v : Nat, v ≤ w → qz_sz c (qz_bb c h w) h ≤ qz_sz c v h
  | 0, v, hv => by
    rw [show v = 0 from by omega]
    exact Nat.le_refl _
  | w + 1, v, hv => by
    show qz_sz c (if qz_sz c (w + 1) h < qz_sz c (qz_bb c h w) h then w + 1 else qz_bb c h w) h ≤ _
    rcases Nat.lt_or_ge v (w + 1) with h1 | h1
    · have ih := qz_bb_min c h w v (by omega)
      split <;> omega
    · rw [show v = w + 1 from by omega]
      split
      · exact Nat.le_refl _
      · omega
theorem qz_bb_congr {c c' : Nat → Nat} {h : Nat} (e : ∀ i, i < h → c' i = c i) : ∀ w : Nat, qz_bb c' h w = qz_bb c h w
  | 0 => rfl
  | w + 1 => by
    show (if qz_sz c' (w + 1) h < qz_sz c' (qz_bb c' h w) h then w + 1 else qz_bb c' h w) = (if qz_sz c (w + 1) h < qz_sz c (qz_bb c h w) h then w + 1 else qz_bb c h w)
    rw [qz_bb_congr e w, qz_sz_congr e, qz_sz_congr e]
/-- the base of a block -/
def qz_bs (c : Nat → Nat) (h : Nat) : Nat := qz_bb c h 20
theorem qz_bs_20 (c : Nat → Nat) (h : Nat) : qz_bs c h ≤ 20 := qz_bb_le c h 20
theorem qz_pq_20 {c : Nat → Nat} : ∀ h : Nat, (∀ i, i < h → c i < 2 ^ 20) → qz_pq c 20 h = 0
  | 0, _ => rfl
  | h + 1, e => by
    have h1 := qz_wd_20 (e h (by omega))
    rw [qz_pq_n (by omega)]
    exact qz_pq_20 h (fun i hi => e i (by omega))
theorem qz_sz_169 {c : Nat → Nat} {h : Nat} (hh : h ≤ 8) (e : ∀ i, i < h → c i < 2 ^ 20) : qz_sz c (qz_bs c h) h ≤ 169 := by
  have h1 := qz_bb_min c h 20 20 (by omega)
  have h2 : qz_sz c 20 h ≤ 169 := by
    unfold qz_sz
    rw [qz_pq_20 h e]; omega
  exact Nat.le_trans h1 h2
end
section
/-! digits of the packed cells: put, get; width, sizeAt, bestBase -/
/-- digit p of block k -/
def qz_B (pk : Nat → Int32) (k p : Nat) : Nat := if bt (pk (6 * k + p / 32)) (p % 32) = true then 1 else 0
theorem qz_b1 : ∀ i, i < 32 → bt 1 i = decide (i = 0) := by decide +kernel
theorem qz_bit (x : Int32) (p : Nat) (hp : p < 32) : (x >>> (nI p &&& 31)) &&& 1 = nI (if bt x p = true then 1 else 0) := by
  apply b_ext
  intro i hi
  rw [b_and, b_sshr p hp x hi, qz_b1 i hi]
  by_cases h0 : i = 0
  · subst h0
    rw [if_pos (show p + 0 < 32 from hp), Nat.add_zero]
    cases bt x p <;> decide
  · rw [decide_eq_false h0, Bool.and_false]
    cases bt x p
    · exact (b_0 i).symm
    · have e : bt (nI 1) i = decide (i = 0) := qz_b1 i hi
      show false = bt (nI (if true = true then 1 else 0)) i
      rw [if_pos rfl, e, decide_eq_false h0]
theorem qz_sh1 (p i : Nat) (hp : p < 32) (hi : i < 32) : bt ((1 : Int32) <<< (nI p &&& 31)) i = decide (i = p) := by
  rw [b_shl p hp 1 hi, qz_b1 (i - p) (by omega)]
  by_cases h : i = p
  · subst h
    rw [decide_eq_true (Nat.le_refl i), decide_eq_true (show i - i = 0 from Nat.sub_self i), decide_eq_true rfl]
    rfl
  · rw [decide_eq_false h]
    by_cases h2 : p ≤ i
    · rw [decide_eq_false (show ¬ i - p = 0 from by omega), Bool.and_false]
    · rw [decide_eq_false h2, Bool.false_and]
theorem qz_set1 (x : Int32) (p : Nat) (hp : p < 32) (i : Nat) (hi : i < 32) : bt (x ||| ((1 : Int32) <<< (nI p &&& 31))) i = if i = p then true else bt x i := by
  rw [b_or, qz_sh1 p i hp hi]
  by_cases h : i = p
  · rw [if_pos h, decide_eq_true h, Bool.or_true]
  · rw [if_neg h, decide_eq_false h, Bool.or_false]
theorem qz_set0 (x : Int32) (p : Nat) (hp : p < 32) (i : Nat) (hi : i < 32) : bt (x &&& (((1 : Int32) <<< (nI p &&& 31)) ^^^ (-1))) i = if i = p then false else bt x i := by
  rw [b_and, b_xor, qz_sh1 p i hp hi, b_m1 i hi]
  by_cases h : i = p
  · rw [if_pos h, decide_eq_true h]
    cases bt x i <;> rfl
  · rw [if_neg h, decide_eq_false h]
    cases bt x i <;> rfl
theorem qz_wr {pk : Nat → Int32} {k c : Nat} {b : Bool} {y : Int32} (hy : ∀ i, i < 32 → bt y i = if i = c % 32 then b else bt (pk (6 * k + c / 32)) i) (q : Nat) :
    qz_B (upd pk (6 * k + c / 32) y) k q = if q = c then (if b = true then 1 else 0) else qz_B pk k q := by
  unfold qz_B
  by_cases h : q / 32 = c / 32
  · rw [h, pk_us, hy (q % 32) (Nat.mod_lt _ (by decide))]
    by_cases h2 : q = c
    · rw [if_pos h2, if_pos (show q % 32 = c % 32 from by rw [h2])]
    · rw [if_neg h2, if_neg (show ¬ q % 32 = c % 32 from by omega)]
  · rw [pk_un (show 6 * k + q / 32 ≠ 6 * k + c / 32 from by omega), if_neg (show ¬ q = c from fun z => h (by rw [z]))]
theorem qz_cell {k c : Nat} (hc : c < 192) : nI k * 6 + (nI c >>> ((5 : Int32) &&& 31)) = nI (6 * k + c / 32) := by
  rw [pk_shrN (show c < 2 ^ 31 from by omega) _ 5 (by decide)]
  show nI k * nI 6 + nI (c / 32) = _
  rw [pk_mul, nI_add, Nat.mul_comm]
theorem qz_m31 {c : Nat} (hc : c < 192) : nI c &&& 31 = nI (c % 32) := pk_andN (show c < 2 ^ 32 from by omega) 5 (by decide)
section
variable {hd cu : Int32} {sz la pk co nu al : Nat → Int32}
theorem qz_get_loop {post : Int32 → SX → Prop} {k n c : Nat} (hk : k < 16) (hc : c + n ≤ 192)
    (hp : post (nI (qz_bv (qz_B pk k) c n)) (hd, nI (c + n), sz, la, pk, co, nu, al)) :
    ∀ d i fuel : Nat, i + d = n → d < fuel → wX_get_5 post (nI k) (nI n) hd sz la pk co nu al fuel (nI (qz_bv (qz_B pk k) c i)) (nI i) (nI (c + i)) := by
  intro d
  induction d with
  | zero =>
    intro i fuel hi hf
    obtain ⟨m, rfl⟩ : ∃ m, fuel = m + 1 := ⟨fuel - 1, by omega⟩
    obtain rfl : i = n := by omega
    exact br_t (nI_le (Nat.le_refl i) (by omega)) hp
  | succ d ih =>
    intro i fuel hi hf
    obtain ⟨m, rfl⟩ : ∃ m, fuel = m + 1 := ⟨fuel - 1, by omega⟩
    refine br_f (nI_ge (by omega) (by omega)) (nm_r (qz_cell (by omega)) ⟨vp_in_nI (by omega) (by omega), ?_⟩)
    refine nm_r (e' := nI (qz_bv (qz_B pk k) c (i + 1))) ?_ (nm_r (nI_1 (c + i)) (nm_r (nI_1 i) (ih (i + 1) m (by omega) (by omega))))
    rw [nI_clamp (by omega), qz_m31 (by omega), qz_bit _ _ (Nat.mod_lt _ (by decide))]
    show nI (qz_bv (qz_B pk k) c i) * nI 2 + nI (qz_B pk k (c + i)) = _
    rw [pk_mul, nI_add]
    rfl
theorem qz_get {post : Int32 → SX → Prop} {k n c : Nat} (hk : k < 16) (hc : c + n ≤ 192)
    (hp : post (nI (qz_bv (qz_B pk k) c n)) (hd, nI (c + n), sz, la, pk, co, nu, al)) : wpX_get post (hd, nI c, sz, la, pk, co, nu, al) (nI k) (nI n) :=
  ⟨n + 1, qz_get_loop hk hc hp n 0 (n + 1) (by omega) (by omega)⟩
theorem qz_vbit {v m : Nat} (hv : v < 2 ^ 31) (hm : m < 32) : (nI v >>> (nI m &&& 31)) &&& 1 = nI (v / 2 ^ m % 2) := by
  rw [pk_shrN hv _ m (s_l m hm)]
  exact pk_andN (n := v / 2 ^ m) (Nat.lt_of_le_of_lt (Nat.div_le_self _ _) (by omega)) 1 (by decide)
/-- what a put of n digits of v at place c of block k does to the cells -/
def qz_Put (pk pk' : Nat → Int32) (k c n v : Nat) : Prop :=
  (∀ j, (j < 6 * k ∨ 6 * k + 6 ≤ j) → pk' j = pk j) ∧ (∀ q, q < c → qz_B pk' k q = qz_B pk k q) ∧ qz_bv (qz_B pk' k) c n = v % 2 ^ n
theorem qz_put_step {pk pk' : Nat → Int32} {k c m v : Nat} {b : Bool} {y : Int32} (hc : c < 192)
    (hy : ∀ i, i < 32 → bt y i = if i = c % 32 then b else bt (pk (6 * k + c / 32)) i) (hb : (if b = true then 1 else 0) = v / 2 ^ m % 2)
    (h : qz_Put (upd pk (6 * k + c / 32) y) pk' k (c + 1) m v) : qz_Put pk pk' k c (m + 1) v := by
  obtain ⟨h1, h2, h3⟩ := h
  refine ⟨fun j hj => ?_, fun q hq => ?_, ?_⟩
  · rw [h1 j hj, pk_un (by omega)]
  · rw [h2 q (by omega), qz_wr hy, if_neg (by omega)]
  · rw [qz_bv_head, h3, h2 c (by omega), qz_wr hy, if_pos rfl, hb, Nat.pow_succ, Nat.mod_mul, Nat.mul_comm (2 ^ m)]
    omega
theorem qz_put_loop {post : SX → Prop} {k v : Nat} (hk : k < 16) (hv : v < 2 ^ 31) :
    ∀ (m c fuel : Nat) (pk : Nat → Int32), m ≤ 31 → c + m ≤ 192 → m < fuel →
      (∀ pk', qz_Put pk pk' k c m v → post (hd, nI (c + m), sz, la, pk', co, nu, al)) →
      wX_put_5 post (nI k) (nI v) hd fuel (nI m - 1) (nI c) sz la pk co nu al := by
  intro m
  induction m with
  | zero =>
    intro c fuel pk hm hc hf hp
    obtain ⟨g, rfl⟩ : ∃ g, fuel = g + 1 := ⟨fuel - 1, by omega⟩
    exact br_t (by decide) (hp pk ⟨fun _ _ => rfl, fun _ _ => rfl, (Nat.mod_one v).symm⟩)
  | succ m ih =>
    intro c fuel pk hm hc hf hp
    obtain ⟨g, rfl⟩ : ∃ g, fuel = g + 1 := ⟨fuel - 1, by omega⟩
    rw [nI_pred]
    refine br_f (nI_pos (by omega)) (nm_r (qz_cell (by omega)) (nm_r (e' := (1 : Int32) <<< (nI (c % 32) &&& 31)) (by rw [qz_m31 (by omega)]) ?_))
    have hin : vp_in (nI (6 * k + c / 32)) 96 := vp_in_nI (by omega) (by omega)
    have hcl : (nI (6 * k + c / 32)).toNatClampNeg = 6 * k + c / 32 := nI_clamp (by omega)
    have h32 : c % 32 < 32 := Nat.mod_lt _ (by decide)
    rw [qz_vbit hv (by omega), hcl]
    have hb : v / 2 ^ m % 2 = 0 ∨ v / 2 ^ m % 2 = 1 := by omega
    rcases hb with hb | hb
    · refine br_f (by rw [hb]; decide) ⟨hin, hin, nm_e ?_⟩
      refine nm_r (nI_1 c) (nm_r (e' := nI m - 1) (Int32.sub_eq_add_neg _ _).symm ?_)
      refine ih (c + 1) g _ (by omega) (by omega) (by omega) (fun pk' h' => ?_)
      have := hp pk' (qz_put_step (b := false) (by omega) (fun i hi => qz_set0 _ _ h32 i hi) (by rw [hb]; rfl) h')
      rw [show c + (m + 1) = c + 1 + m from by omega] at this
      exact this
    · refine br_t (by rw [hb]; rfl) ⟨hin, hin, nm_e ?_⟩
      refine nm_r (nI_1 c) (nm_r (e' := nI m - 1) (Int32.sub_eq_add_neg _ _).symm ?_)
      refine ih (c + 1) g _ (by omega) (by omega) (by omega) (fun pk' h' => ?_)
      have := hp pk' (qz_put_step (b := true) (by omega) (fun i hi => qz_set1 _ _ h32 i hi) (by rw [hb]; rfl) h')
      rw [show c + (m + 1) = c + 1 + m from by omega] at this
      exact this
theorem qz_put {post : SX → Prop} {k v m c : Nat} (hk : k < 16) (hv : v < 2 ^ 31) (hm : m ≤ 31) (hc : c + m ≤ 192)
    (hp : ∀ pk', qz_Put pk pk' k c m v → post (hd, nI (c + m), sz, la, pk', co, nu, al)) :
    wpX_put post (hd, nI c, sz, la, pk, co, nu, al) (nI k) (nI m) (nI v) :=
  nm_e ⟨m + 1, qz_put_loop hk hv m c (m + 1) pk hm hc (by omega) hp⟩
theorem qz_width_loop {post : Int32 → Prop} {v : Nat} (hv : v < 2 ^ 31) (hp : post (nI (qz_wd v))) :
    ∀ d i fuel : Nat, i + d = qz_wd v → d < fuel → wX_width_4 post (nI v) hd cu sz la pk co nu al fuel (nI i) (nI i) := by
  have h31 := qz_wd_31 hv
  intro d
  induction d with
  | zero =>
    intro i fuel hi hf
    obtain ⟨m, rfl⟩ : ∃ m, fuel = m + 1 := ⟨fuel - 1, by omega⟩
    obtain rfl : i = qz_wd v := by omega
    refine pk_le 31 (qz_wd v) (fun _ => hp) (fun h => br_t ?_ hp)
    rw [pk_shrN hv _ _ (s_l _ (by omega)), Nat.div_eq_of_lt (qz_wd_pow v)]
    rfl
  | succ d ih =>
    intro i fuel hi hf
    obtain ⟨m, rfl⟩ : ∃ m, fuel = m + 1 := ⟨fuel - 1, by omega⟩
    refine pk_le 31 i (fun h => absurd h (by omega)) (fun h => br_f ?_ (nm_r (nI_1 i) (nm_r (nI_1 i) (ih (i + 1) m (by omega) (by omega)))))
    rw [pk_shrN hv _ _ (s_l _ (by omega))]
    have h1 : 2 ^ i ≤ v := (qz_wd_lt v i).mp (by omega)
    have h2 : v / 2 ^ i ≤ v := Nat.div_le_self _ _
    have h3 : 0 < v / 2 ^ i := Nat.div_pos h1 (Nat.two_pow_pos i)
    exact nI_ne0 h3 (by omega)
theorem qz_width {post : Int32 → Prop} {v : Nat} (hv : v < 2 ^ 31) (hp : post (nI (qz_wd v))) : wpX_width post (hd, cu, sz, la, pk, co, nu, al) (nI v) :=
  ⟨qz_wd v + 1, qz_width_loop hv hp (qz_wd v) 0 (qz_wd v + 1) (by omega) (by omega)⟩
/-- the first h cells hold the codes c -/
def qz_CO (co : Nat → Int32) (c : Nat → Nat) (h : Nat) : Prop := ∀ i, i < h → co i = nI (c i) ∧ c i < 2 ^ 20
theorem qz_coW {c : Nat → Nat} {h i : Nat} (hc : qz_CO co c h) (hi : i < h) (hh : h ≤ 8) {post : Int32 → Prop} (hp : post (nI (qz_wd (c i)))) :
    wpX_width post (hd, cu, sz, la, pk, co, nu, al) (co (nI i).toNatClampNeg) := by
  rw [nI_clamp (by omega), (hc i hi).1]
  exact qz_width (Nat.lt_trans (hc i hi).2 (by decide)) hp
theorem qz_sizeAt_loop {post : Int32 → Prop} {c : Nat → Nat} {h s : Nat} (hh : h ≤ 8) (hc : qz_CO co c h) (hs : s ≤ 20) (hp : post (nI (qz_sz c s h))) :
    ∀ d i fuel : Nat, i + d = h → d < fuel → wX_sizeAt_5 post (nI s) (nI h) cu sz la pk co nu al fuel (nI (qz_sz c s i)) (nI i) := by
  intro d
  induction d with
  | zero =>
    intro i fuel hi hf
    obtain ⟨m, rfl⟩ : ∃ m, fuel = m + 1 := ⟨fuel - 1, by omega⟩
    obtain rfl : i = h := by omega
    exact br_t (nI_le (Nat.le_refl i) (by omega)) hp
  | succ d ih =>
    intro i fuel hi hf
    obtain ⟨m, rfl⟩ : ∃ m, fuel = m + 1 := ⟨fuel - 1, by omega⟩
    have hw := qz_wd_20 (hc i (by omega)).2
    refine br_f (nI_ge (by omega) (by omega)) ⟨vp_in_nI (by omega) (by omega), qz_coW hc (by omega) hh ?_⟩
    refine nm_r (nI_add _ _) (pk_le (qz_wd (c i)) s (fun h1 => ?_) (fun h1 => ?_))
    · refine nm_r (nI_1 i) ?_
      have := ih (i + 1) m (by omega) (by omega)
      rw [qz_sz_n (by omega)] at this
      exact this
    · refine nm_r (e' := nI (qz_sz c s (i + 1))) ?_ (nm_r (nI_1 i) (ih (i + 1) m (by omega) (by omega)))
      show nI (qz_sz c s i + s) + nI 8 + nI (qz_wd (c i)) - nI s = _
      rw [nI_add, nI_add, pk_sub (by omega), qz_sz_y h1]
      exact congrArg nI (by omega)
theorem qz_sizeAt {post : Int32 → Prop} {c : Nat → Nat} {h s : Nat} (hh : h ≤ 8) (hc : qz_CO co c h) (hs : s ≤ 20) (hp : post (nI (qz_sz c s h))) :
    wpX_sizeAt post (nI h, cu, sz, la, pk, co, nu, al) (nI s) := by
  refine ⟨h + 1, ?_⟩
  have := qz_sizeAt_loop (cu := cu) (sz := sz) (la := la) (pk := pk) (nu := nu) (al := al) hh hc hs hp h 0 (h + 1) (by omega) (by omega)
  rw [show qz_sz c s 0 = 9 from by unfold qz_sz qz_pq; omega] at this
  exact this
theorem qz_sz_b {c : Nat → Nat} {h s : Nat} (hh : h ≤ 8) (hs : s ≤ 20) (e : ∀ i, i < h → c i < 2 ^ 20) : qz_sz c s h ≤ 9 + 28 * h := by
  revert e
  induction h with
  | zero => intro _; unfold qz_sz qz_pq; omega
  | succ h ih =>
    intro e
    have h1 := ih (by omega) (fun i hi => e i (by omega))
    have h2 := qz_wd_20 (e h (by omega))
    by_cases h3 : s < qz_wd (c h)
    · rw [qz_sz_y h3]; omega
    · rw [qz_sz_n h3]; omega
theorem qz_bestBase_loop {post : Int32 → Prop} {c : Nat → Nat} {h : Nat} (hh : h ≤ 8) (hc : qz_CO co c h) (hp : post (nI (qz_bs c h))) :
    ∀ d w fuel : Nat, w + d = 20 → d < fuel → wX_bestBase_10 post (nI h) cu sz la pk co nu al fuel (nI (qz_bb c h w)) (nI (qz_sz c (qz_bb c h w) h)) (nI (w + 1)) := by
  have e : ∀ i, i < h → c i < 2 ^ 20 := fun i hi => (hc i hi).2
  intro d
  induction d with
  | zero =>
    intro w fuel hi hf
    obtain ⟨m, rfl⟩ : ∃ m, fuel = m + 1 := ⟨fuel - 1, by omega⟩
    obtain rfl : w = 20 := by omega
    exact br_t (by decide) hp
  | succ d ih =>
    intro w fuel hi hf
    obtain ⟨m, rfl⟩ : ∃ m, fuel = m + 1 := ⟨fuel - 1, by omega⟩
    refine pk_lt 20 (w + 1) (fun h1 => absurd h1 (by omega)) (fun h1 => ?_)
    have hb1 := qz_sz_b (s := w + 1) hh (by omega) e
    have hbl := qz_bb_le c h w
    have hb2 := qz_sz_b (s := qz_bb c h w) hh (by omega) e
    have hk := ih (w + 1) m (by omega) (by omega)
    refine qz_sizeAt hh hc (by omega) (pk_le (qz_sz c (qz_bb c h w) h) (qz_sz c (w + 1) h) (fun h2 => nm_r (nI_1 (w + 1)) ?_) (fun h2 => nm_r (nI_1 (w + 1)) ?_))
    · rw [show qz_bb c h (w + 1) = qz_bb c h w from if_neg (by omega)] at hk
      exact hk
    · rw [show qz_bb c h (w + 1) = w + 1 from if_pos h2] at hk
      exact hk
theorem qz_bestBase {post : Int32 → Prop} {c : Nat → Nat} {h : Nat} (hh : h ≤ 8) (hc : qz_CO co c h) (hp : post (nI (qz_bs c h))) :
    wpX_bestBase post (nI h, cu, sz, la, pk, co, nu, al) :=
  qz_sizeAt (s := 0) hh hc (by omega) ⟨21, qz_bestBase_loop hh hc hp 20 0 21 (by omega) (by omega)⟩
end
end
section
/-! packing a block -/
/-- a patch at place p: its place, its number of digits, its digits -/
def qz_PF (B : Nat → Nat) (p i w v : Nat) : Prop := qz_bv B p 3 = i ∧ qz_bv B (p + 3) 5 = w ∧ qz_bv B (p + 8) w = v
/-- the head and the lowest digits of the first i codes -/
def qz_Fa (B : Nat → Nat) (c : Nat → Nat) (s h i : Nat) : Prop :=
  qz_bv B 0 5 = s ∧ qz_bv B 5 4 = qz_pn c s h ∧ ∀ j, j < i → qz_bv B (9 + j * s) s = c j % 2 ^ s
/-- the patches of the first i codes -/
def qz_Fb (B : Nat → Nat) (c : Nat → Nat) (s h i : Nat) : Prop :=
  ∀ j, j < i → s < qz_wd (c j) → qz_PF B (9 + h * s + qz_pq c s j) j (qz_wd (c j) - s) (c j / 2 ^ s)
/-- block k holds h codes c, packed at the best base -/
def qz_Blk (pk : Nat → Int32) (k : Nat) (c : Nat → Nat) (h : Nat) : Prop :=
  qz_Fa (qz_B pk k) c (qz_bs c h) h h ∧ qz_Fb (qz_B pk k) c (qz_bs c h) h h
/-- nothing outside block k has changed -/
def qz_Out (pk pk' : Nat → Int32) (k : Nat) : Prop := ∀ j, (j < 6 * k ∨ 6 * k + 6 ≤ j) → pk' j = pk j
theorem qz_Out_put {pk0 pk pk' : Nat → Int32} {k c n v : Nat} (o : qz_Out pk0 pk k) (h : qz_Put pk pk' k c n v) : qz_Out pk0 pk' k :=
  fun j hj => (h.1 j hj).trans (o j hj)
theorem qz_put_keep {pk pk' : Nat → Int32} {k c n v p m : Nat} (h : qz_Put pk pk' k c n v) (hp : p + m ≤ c) : qz_bv (qz_B pk' k) p m = qz_bv (qz_B pk k) p m :=
  qz_bv_lo h.2.1 hp
theorem qz_mulle {i h s : Nat} (hi : i < h) : i * s + s ≤ h * s := by
  have := Nat.mul_le_mul_right s (show i + 1 ≤ h from hi)
  rw [Nat.succ_mul] at this
  exact this
theorem qz_Fa_lo {B B' : Nat → Nat} {d s h i : Nat} {c : Nat → Nat} (H : ∀ q, q < d → B' q = B q) (hd : 9 + i * s ≤ d) (F : qz_Fa B c s h i) : qz_Fa B' c s h i := by
  obtain ⟨f1, f2, f3⟩ := F
  refine ⟨(qz_bv_lo H (by omega)).trans f1, (qz_bv_lo H (by omega)).trans f2, fun j hj => (qz_bv_lo H ?_).trans (f3 j hj)⟩
  have := qz_mulle (s := s) hj
  omega
theorem qz_Fb_lo {B B' : Nat → Nat} {d s h i : Nat} {c : Nat → Nat} (H : ∀ q, q < d → B' q = B q) (hd : 9 + h * s + qz_pq c s i ≤ d) (F : qz_Fb B c s h i) : qz_Fb B' c s h i := by
  intro j hj hw
  obtain ⟨f1, f2, f3⟩ := F j hj hw
  have h1 := qz_pq_y hw
  have h2 := qz_pq_le (c := c) (s := s) (show j + 1 ≤ i from hj)
  exact ⟨(qz_bv_lo H (by omega)).trans f1, (qz_bv_lo H (by omega)).trans f2, (qz_bv_lo H (by omega)).trans f3⟩
theorem qz_Fa_put {pk pk' : Nat → Int32} {k d n v s h i : Nat} {c : Nat → Nat} (H : qz_Put pk pk' k d n v) (hd : 9 + i * s ≤ d) (F : qz_Fa (qz_B pk k) c s h i) : qz_Fa (qz_B pk' k) c s h i :=
  qz_Fa_lo H.2.1 hd F
theorem qz_Fb_put {pk pk' : Nat → Int32} {k d n v s h i : Nat} {c : Nat → Nat} (H : qz_Put pk pk' k d n v) (hd : 9 + h * s + qz_pq c s i ≤ d) (F : qz_Fb (qz_B pk k) c s h i) : qz_Fb (qz_B pk' k) c s h i :=
  qz_Fb_lo H.2.1 hd F
theorem qz_Blk_keep {pk pk' : Nat → Int32} {k h : Nat} {c : Nat → Nat} (hh : h ≤ 8) (e : ∀ i, i < h → c i < 2 ^ 20) (H : ∀ j, 6 * k ≤ j → j < 6 * k + 6 → pk' j = pk j) (F : qz_Blk pk k c h) : qz_Blk pk' k c h := by
  have hb : ∀ q, q < 192 → qz_B pk' k q = qz_B pk k q := by
    intro q hq
    unfold qz_B
    rw [H _ (by omega) (by omega)]
  have h169 := qz_sz_169 hh e
  unfold qz_sz at h169
  exact ⟨qz_Fa_lo hb (by omega) F.1, qz_Fb_lo hb (by omega) F.2⟩
theorem qz_Blk_congr {pk : Nat → Int32} {k h : Nat} {c c' : Nat → Nat} (e : ∀ i, i < h → c' i = c i) (F : qz_Blk pk k c h) : qz_Blk pk k c' h := by
  obtain ⟨⟨f1, f2, f3⟩, f4⟩ := F
  have eb : qz_bs c' h = qz_bs c h := qz_bb_congr e 20
  unfold qz_Blk
  rw [eb]
  refine ⟨⟨f1, ?_, fun j hj => ?_⟩, fun j hj hw => ?_⟩
  · rw [qz_pn_congr h e]; exact f2
  · rw [e j hj]; exact f3 j hj
  · rw [e j hj] at hw ⊢
    rw [qz_pq_congr j (fun i hi => e i (by omega))]
    exact f4 j hj hw
theorem qz_div_w {v s : Nat} (h : s < qz_wd v) : v / 2 ^ s < 2 ^ (qz_wd v - s) := by
  apply Nat.div_lt_of_lt_mul
  rw [← Nat.pow_add, show s + (qz_wd v - s) = qz_wd v from by omega]
  exact qz_wd_pow v
theorem qz_mask : ∀ s, s < 21 → (((1 : Int32) <<< (nI s &&& 31)) - 1).toBitVec.toNat = 2 ^ s - 1 := by decide +kernel
section
variable {hd cu : Int32} {sz la pk co nu al : Nat → Int32}
theorem qz_pack_106 {post : SX → Prop} {c : Nat → Nat} {h s k : Nat} {pk0 : Nat → Int32} (hh : h ≤ 8) (hk : k < 16) (hc : qz_CO co c h) (hs : s = qz_bs c h)
    (hp : ∀ pk', qz_Out pk0 pk' k → qz_Blk pk' k c h → post (nI h, nI (qz_sz c s h), sz, la, pk', co, nu, al)) :
    ∀ (d i fuel : Nat) (pk : Nat → Int32), i + d = h → d < fuel → qz_Out pk0 pk k → qz_Fa (qz_B pk k) c s h h → qz_Fb (qz_B pk k) c s h i →
      wX_pack_106 post (nI k) (nI s) fuel (nI i) (nI h) (nI (9 + h * s + qz_pq c s i)) sz la pk co nu al := by
  have e : ∀ i, i < h → c i < 2 ^ 20 := fun i hi => (hc i hi).2
  have h169 : qz_sz c s h ≤ 169 := by rw [hs]; exact qz_sz_169 hh e
  unfold qz_sz at h169
  have hs20 : s ≤ 20 := by rw [hs]; exact qz_bs_20 c h
  intro d
  induction d with
  | zero =>
    intro i fuel pk hi hf ho ha hb
    obtain ⟨m, rfl⟩ : ∃ m, fuel = m + 1 := ⟨fuel - 1, by omega⟩
    obtain rfl : i = h := by omega
    refine br_t (nI_le (Nat.le_refl i) (by omega)) (hp pk ho ?_)
    unfold qz_Blk
    rw [← hs]
    exact ⟨ha, hb⟩
  | succ d ih =>
    intro i fuel pk hi hf ho ha hb
    obtain ⟨m, rfl⟩ : ∃ m, fuel = m + 1 := ⟨fuel - 1, by omega⟩
    have hw := qz_wd_20 (e i (by omega))
    have hin : vp_in (nI i) 8 := vp_in_nI (by omega) (by omega)
    have hmono := qz_pq_le (c := c) (s := s) (show i + 1 ≤ h from by omega)
    refine br_f (nI_ge (by omega) (by omega)) ⟨hin, qz_coW hc (by omega) hh ?_⟩
    refine pk_le (qz_wd (c i)) s (fun h1 => ?_) (fun h1 => ?_)
    · have hn : ¬ s < qz_wd (c i) := by omega
      refine nm_r (nI_1 i) ?_
      have hb' : qz_Fb (qz_B pk k) c s h (i + 1) := by
        intro j hj hj2
        rcases Nat.lt_or_ge j i with z | z
        · exact hb j z hj2
        · obtain rfl : j = i := by omega
          exact absurd hj2 hn
      have := ih (i + 1) m pk (by omega) (by omega) ho ha hb'
      rw [qz_pq_n hn] at this
      exact this
    · have hy := qz_pq_y h1
      rw [pk_sub (show s ≤ qz_wd (c i) from by omega)]
      refine qz_put (m := 3) (v := i) hk (by omega) (by omega) (by omega) (fun pk1 p1 => ?_)
      refine qz_put (m := 5) hk (by omega) (by omega) (by omega) (fun pk2 p2 => ⟨hin, ?_⟩)
      have ec : co (nI i).toNatClampNeg >>> (nI s &&& 31) = nI (c i / 2 ^ s) := by
        rw [nI_clamp (by omega), (hc i (by omega)).1]
        exact pk_shrN (Nat.lt_trans (e i (by omega)) (by decide)) _ s (s_l s (by omega))
      rw [ec]
      have hq : c i / 2 ^ s < 2 ^ 31 := Nat.lt_of_le_of_lt (Nat.div_le_self _ _) (Nat.lt_trans (e i (by omega)) (by decide))
      refine qz_put hk hq (by omega) (by omega) (fun pk3 p3 => nm_r (nI_1 i) ?_)
      have hb' : qz_Fb (qz_B pk3 k) c s h (i + 1) := by
        intro j hj hj2
        rcases Nat.lt_or_ge j i with z | z
        · exact qz_Fb_put p3 (by omega) (qz_Fb_put p2 (by omega) (qz_Fb_put p1 (by omega) hb)) j z hj2
        · obtain rfl : j = i := by omega
          refine ⟨?_, ?_, ?_⟩
          · rw [qz_put_keep p3 (by omega), qz_put_keep p2 (by omega), p1.2.2]
            exact Nat.mod_eq_of_lt (by omega)
          · rw [qz_put_keep p3 (by omega), p2.2.2]
            exact Nat.mod_eq_of_lt (by omega)
          · exact p3.2.2.trans (Nat.mod_eq_of_lt (qz_div_w h1))
      have := ih (i + 1) m pk3 (by omega) (by omega) (qz_Out_put (qz_Out_put (qz_Out_put ho p1) p2) p3)
        (qz_Fa_put p3 (by omega) (qz_Fa_put p2 (by omega) (qz_Fa_put p1 (by omega) ha))) hb'
      rw [hy, show 9 + h * s + (qz_pq c s i + 8 + (qz_wd (c i) - s)) = 9 + h * s + qz_pq c s i + 3 + 5 + (qz_wd (c i) - s) from by omega] at this
      exact this
theorem qz_pack_69 {post : SX → Prop} {c : Nat → Nat} {h s k : Nat} {pk0 : Nat → Int32} (hh : h ≤ 8) (hk : k < 16) (hc : qz_CO co c h) (hs : s = qz_bs c h)
    (hp : ∀ pk', qz_Out pk0 pk' k → qz_Blk pk' k c h → post (nI h, nI (qz_sz c s h), sz, la, pk', co, nu, al)) :
    ∀ (d i fuel : Nat) (pk : Nat → Int32), i + d = h → d < fuel → qz_Out pk0 pk k → qz_Fa (qz_B pk k) c s h i →
      wX_pack_69 post (nI k) (nI s) fuel (nI i) (nI h) (nI (9 + i * s)) sz la pk co nu al := by
  have e : ∀ i, i < h → c i < 2 ^ 20 := fun i hi => (hc i hi).2
  have h169 : qz_sz c s h ≤ 169 := by rw [hs]; exact qz_sz_169 hh e
  unfold qz_sz at h169
  have hs20 : s ≤ 20 := by rw [hs]; exact qz_bs_20 c h
  intro d
  induction d with
  | zero =>
    intro i fuel pk hi hf ho ha
    obtain ⟨m, rfl⟩ : ∃ m, fuel = m + 1 := ⟨fuel - 1, by omega⟩
    obtain rfl : i = h := by omega
    exact br_t (nI_le (Nat.le_refl i) (by omega)) ⟨i + 1, qz_pack_106 hh hk hc hs hp i 0 (i + 1) pk (by omega) (by omega) ho ha (fun j hj => absurd hj (by omega))⟩
  | succ d ih =>
    intro i fuel pk hi hf ho ha
    obtain ⟨m, rfl⟩ : ∃ m, fuel = m + 1 := ⟨fuel - 1, by omega⟩
    have hin : vp_in (nI i) 8 := vp_in_nI (by omega) (by omega)
    have hm := qz_mulle (s := s) (show i < h from by omega)
    have hci := e i (by omega)
    refine br_f (nI_ge (by omega) (by omega)) ⟨hin, ?_⟩
    have ec : co (nI i).toNatClampNeg &&& (((1 : Int32) <<< (nI s &&& 31)) - 1) = nI (c i % 2 ^ s) := by
      rw [nI_clamp (by omega), (hc i (by omega)).1]
      exact pk_andN (Nat.lt_trans hci (by decide)) s (qz_mask s (by omega))
    rw [ec]
    have hq : c i % 2 ^ s < 2 ^ 31 := Nat.lt_of_le_of_lt (Nat.mod_le _ _) (Nat.lt_trans hci (by decide))
    refine qz_put hk hq (by omega) (by omega) (fun pk1 p1 => nm_r (nI_1 i) ?_)
    have ha1 := qz_Fa_put p1 (Nat.le_refl _) ha
    have ha' : qz_Fa (qz_B pk1 k) c s h (i + 1) := by
      refine ⟨ha1.1, ha1.2.1, fun j hj => ?_⟩
      rcases Nat.lt_or_ge j i with z | z
      · exact ha1.2.2 j z
      · obtain rfl : j = i := by omega
        exact p1.2.2.trans (Nat.mod_mod _ _)
    have := ih (i + 1) m pk1 (by omega) (by omega) (qz_Out_put ho p1) ha'
    rw [Nat.succ_mul, ← Nat.add_assoc] at this
    exact this
theorem qz_pack_10 {post : SX → Prop} {c : Nat → Nat} {h s k : Nat} (hh : h ≤ 8) (hk : k < 16) (hc : qz_CO co c h) (hs : s = qz_bs c h)
    (hp : ∀ pk', qz_Out pk pk' k → qz_Blk pk' k c h → post (nI h, nI (qz_sz c s h), sz, la, pk', co, nu, al)) :
    ∀ d i fuel : Nat, i + d = h → d < fuel → wX_pack_10 post (nI k) (nI s) (nI h) cu sz la pk co nu al fuel (nI (qz_pn c s i)) (nI i) := by
  have e : ∀ i, i < h → c i < 2 ^ 20 := fun i hi => (hc i hi).2
  have hs20 : s ≤ 20 := by rw [hs]; exact qz_bs_20 c h
  intro d
  induction d with
  | zero =>
    intro i fuel hi hf
    obtain ⟨m, rfl⟩ : ∃ m, fuel = m + 1 := ⟨fuel - 1, by omega⟩
    obtain rfl : i = h := by omega
    have hpn := qz_pn_id (c := c) (s := s) i
    refine br_t (nI_le (Nat.le_refl i) (by omega)) ?_
    refine qz_put (m := 5) (c := 0) hk (by omega) (by omega) (by omega) (fun pk1 p1 => ?_)
    refine qz_put (m := 4) hk (by omega) (by omega) (by omega) (fun pk2 p2 => ?_)
    have ho : qz_Out pk pk2 k := qz_Out_put (qz_Out_put (fun _ _ => rfl) p1) p2
    have ha : qz_Fa (qz_B pk2 k) c s i 0 := by
      refine ⟨?_, ?_, fun j hj => absurd hj (by omega)⟩
      · rw [qz_put_keep p2 (by omega), p1.2.2]
        exact Nat.mod_eq_of_lt (by omega)
      · exact p2.2.2.trans (Nat.mod_eq_of_lt (by omega))
    have := qz_pack_69 hh hk hc hs hp i 0 (i + 1) pk2 (by omega) (by omega) ho ha
    rw [show 9 + 0 * s = 0 + 5 + 4 from by omega] at this
    exact ⟨i + 1, this⟩
  | succ d ih =>
    intro i fuel hi hf
    obtain ⟨m, rfl⟩ : ∃ m, fuel = m + 1 := ⟨fuel - 1, by omega⟩
    have hw := qz_wd_20 (e i (by omega))
    refine br_f (nI_ge (by omega) (by omega)) ⟨vp_in_nI (by omega) (by omega), qz_coW hc (by omega) hh ?_⟩
    have hk := ih (i + 1) m (by omega) (by omega)
    refine pk_le (qz_wd (c i)) s (fun h1 => nm_r (nI_1 i) ?_) (fun h1 => nm_r (nI_1 _) (nm_r (nI_1 i) ?_))
    · rw [qz_pn_n (by omega)] at hk
      exact hk
    · rw [qz_pn_y h1] at hk
      exact hk
theorem qz_pack {post : SX → Prop} {c : Nat → Nat} {h k : Nat} (hh : h ≤ 8) (hk : k < 16) (hc : qz_CO co c h)
    (hp : ∀ pk', qz_Out pk pk' k → qz_Blk pk' k c h → post (nI h, nI (qz_sz c (qz_bs c h) h), sz, la, pk', co, nu, al)) :
    wpX_pack post (nI h, cu, sz, la, pk, co, nu, al) (nI k) :=
  qz_bestBase hh hc ⟨h + 1, qz_pack_10 hh hk hc rfl hp h 0 (h + 1) (by omega) (by omega)⟩
end
end
section
/-! unpacking a block -/
/-- one more than the number ahead of place i -/
def qz_pv (f : Nat → Nat) (i : Nat) : Nat := if i = 0 then 0 else f (i - 1) + 1
theorem qz_pv_s (f : Nat → Nat) (i : Nat) : qz_pv f (i + 1) = f i + 1 := by
  unfold qz_pv
  rw [if_neg (by omega), Nat.add_sub_cancel]
/-- the codes of block b -/
def qz_cb (f : Nat → Nat) (b : Nat) : Nat → Nat := fun i => f (8 * b + i) - qz_pv f (8 * b + i)
/-- n numbers, ascending -/
def qz_Asc (f : Nat → Nat) (n : Nat) : Prop := (∀ i, i < n → f i ≤ 1000000) ∧ ∀ i j, i < j → j < n → f i < f j
theorem qz_pv_le {f : Nat → Nat} {n i : Nat} (h : qz_Asc f n) (hi : i < n) : qz_pv f i ≤ f i := by
  unfold qz_pv
  by_cases z : i = 0
  · rw [if_pos z]; omega
  · rw [if_neg z]
    exact h.2 (i - 1) i (by omega) hi
/-- the length of block b of n numbers -/
def qz_hl (n b : Nat) : Nat := if 8 ≤ n - 8 * b then 8 else n - 8 * b
theorem qz_hl_8 (n b : Nat) : qz_hl n b ≤ 8 := by unfold qz_hl; split <;> omega
theorem qz_hl_n (n b : Nat) (h : 8 * b ≤ n) : 8 * b + qz_hl n b ≤ n := by unfold qz_hl; split <;> omega
theorem qz_hl_0 (n b : Nat) (h : 8 * b < n) : 0 < qz_hl n b := by unfold qz_hl; split <;> omega
theorem qz_hl_f (n b : Nat) (h : 8 * b + 8 ≤ n) : qz_hl n b = 8 := by unfold qz_hl; rw [if_pos (by omega)]
theorem qz_cb_20 {f : Nat → Nat} {n b i : Nat} (h : qz_Asc f n) (hi : 8 * b + i < n) : qz_cb f b i < 2 ^ 20 := by
  have h1 := h.1 _ hi
  unfold qz_cb
  omega
/-- block b of list l is right -/
def qz_BO (l : Nat) (f : Nat → Nat) (n : Nat) (la pk : Nat → Int32) (b : Nat) : Prop :=
  la (8 * l + b) = nI (f (8 * b + qz_hl n b - 1)) ∧ qz_Blk pk (8 * l + b) (qz_cb f b) (qz_hl n b)
/-- list l is f, of length n -/
def qz_LX (l : Nat) (f : Nat → Nat) (n : Nat) (sz la pk : Nat → Int32) : Prop :=
  sz l = nI n ∧ n ≤ 64 ∧ qz_Asc f n ∧ ∀ b, 8 * b < n → qz_BO l f n la pk b
theorem qz_or (a b : Nat) : nI a ||| nI b = nI (a ||| b) := by
  apply Int32.toBitVec_inj.1
  show BitVec.ofNat 32 a ||| BitVec.ofNat 32 b = BitVec.ofNat 32 (a ||| b)
  apply BitVec.eq_of_getLsbD_eq
  intro i hi
  simp [hi]
theorem qz_glue {v s : Nat} (hv : v < 2 ^ 20) (hs : s ≤ 20) : nI (v % 2 ^ s) ||| (nI (v / 2 ^ s) <<< (nI s &&& 31)) = nI v := by
  have h1 : v / 2 ^ s * 2 ^ s ≤ v := Nat.div_mul_le_self v (2 ^ s)
  rw [pk_shlN _ s (s_l s (by omega)) (by omega), qz_or, Nat.or_comm, Nat.mul_comm, ← Nat.two_pow_add_eq_or_of_lt (Nat.mod_lt v (Nat.two_pow_pos s)), Nat.div_add_mod]
theorem qz_low {v s : Nat} (h : ¬ s < qz_wd v) : v % 2 ^ s = v := by
  apply Nat.mod_eq_of_lt
  have := mt (qz_wd_lt v s).mpr h
  omega
section
variable {hd cu : Int32} {sz la pk co nu al : Nat → Int32}
theorem qz_inBlock {post : Int32 → Prop} {l n b : Nat} (hl : l < 2) (hz : sz l = nI n) (hn : n ≤ 64) (hb : 8 * b < n) (hp : post (nI (qz_hl n b))) :
    wpX_inBlock post (hd, cu, sz, la, pk, co, nu, al) (nI l) (nI b) := by
  refine ⟨vp_in_nI hl (by omega), nm_r (e' := nI (n - 8 * b)) ?_ (pk_le 8 (n - 8 * b) (fun h => ?_) (fun h => ?_))⟩
  · rw [nI_clamp (by omega), hz]
    show nI n - nI 8 * nI b = _
    rw [pk_mul, pk_sub (by omega)]
  · rw [qz_hl, if_pos h] at hp
    exact hp
  · rw [qz_hl, if_neg (by omega)] at hp
    exact hp
theorem qz_unpack_152 {post : SX → Prop} {f : Nat → Nat} {b h n : Nat} (hh : h ≤ 8) (hn : 8 * b + h ≤ n) (hA : qz_Asc f n) (hco : ∀ i, i < h → co i = nI (qz_cb f b i))
    (hp : ∀ nu', (∀ i, i < h → nu' i = nI (f (8 * b + i))) → post (nI h, cu, sz, la, pk, co, nu', al)) :
    ∀ (d i fuel : Nat) (nu : Nat → Int32), i + d = h → d < fuel → (∀ j, j < i → nu j = nI (f (8 * b + j))) →
      wX_unpack_152 post (nI h) cu fuel (nI (qz_pv f (8 * b + i)) - 1) (nI i) sz la pk co nu al := by
  intro d
  induction d with
  | zero =>
    intro i fuel nu hi hf hI
    obtain ⟨m, rfl⟩ : ∃ m, fuel = m + 1 := ⟨fuel - 1, by omega⟩
    obtain rfl : i = h := by omega
    exact br_t (nI_le (Nat.le_refl i) (by omega)) (hp nu hI)
  | succ d ih =>
    intro i fuel nu hi hf hI
    obtain ⟨m, rfl⟩ : ∃ m, fuel = m + 1 := ⟨fuel - 1, by omega⟩
    have hin : vp_in (nI i) 8 := vp_in_nI (by omega) (by omega)
    have hcl : (nI i).toNatClampNeg = i := nI_clamp (by omega)
    have hle := qz_pv_le hA (show 8 * b + i < n from by omega)
    refine br_f (nI_ge (by omega) (by omega)) ⟨hin, nm_r (e' := nI (f (8 * b + i))) ?_ ⟨hin, nm_e (nm_r (nI_1 i) ?_)⟩⟩
    · rw [hcl, hco i (by omega)]
      show nI (qz_pv f (8 * b + i)) - 1 + nI (f (8 * b + i) - qz_pv f (8 * b + i)) + 1 = _
      have e : nI (f (8 * b + i)) = nI (qz_pv f (8 * b + i)) + nI (f (8 * b + i) - qz_pv f (8 * b + i)) := by
        rw [nI_add]
        exact congrArg nI (by omega)
      rw [e]
      generalize nI (qz_pv f (8 * b + i)) = x
      generalize nI (f (8 * b + i) - qz_pv f (8 * b + i)) = y
      grind
    · rw [hcl]
      have := ih (i + 1) m (upd nu i (nI (f (8 * b + i)))) (by omega) (by omega) (fun j hj => by
        by_cases z : j = i
        · subst z; exact pk_us
        · rw [pk_un z]; exact hI j (by omega))
      rw [show 8 * b + (i + 1) = 8 * b + i + 1 from by omega, qz_pv_s, nI_pred] at this
      exact this
theorem qz_unpack_73 {post : SX → Prop} {f : Nat → Nat} {l b h n s : Nat} (hl : l < 2) (hh : h ≤ 8) (hn : 8 * b + h ≤ n) (hn64 : n ≤ 64) (hA : qz_Asc f n)
    (hs : s = qz_bs (qz_cb f b) h) (hB : qz_Blk pk (8 * l + b) (qz_cb f b) h) (hb8 : b < 8) (hla : b ≠ 0 → la (8 * l + b - 1) = nI (qz_pv f (8 * b)) - 1)
    (hp : ∀ co' nu', (∀ i, i < h → co' i = nI (qz_cb f b i)) → (∀ i, i < h → nu' i = nI (f (8 * b + i))) → post (nI h, nI (qz_sz (qz_cb f b) s h), sz, la, pk, co', nu', al)) :
    ∀ (d i fuel : Nat) (co : Nat → Int32), i + d = h → d < fuel → (∀ j, j < i → co j = nI (qz_cb f b j)) → (∀ j, i ≤ j → j < h → co j = nI (qz_cb f b j % 2 ^ s)) →
      wX_unpack_73 post (nI b) (nI (8 * l + b)) (nI s) (nI (qz_pn (qz_cb f b) s h)) fuel (nI (qz_pn (qz_cb f b) s i)) (nI h) (nI (9 + h * s + qz_pq (qz_cb f b) s i)) sz la pk co nu al := by
  have e : ∀ i, i < h → qz_cb f b i < 2 ^ 20 := fun i hi => qz_cb_20 hA (by omega)
  have h169 : qz_sz (qz_cb f b) s h ≤ 169 := by rw [hs]; exact qz_sz_169 hh e
  have hs20 : s ≤ 20 := by rw [hs]; exact qz_bs_20 _ h
  obtain ⟨_, hFb⟩ := hB
  rw [← hs] at hFb
  have hpn := qz_pn_id (c := qz_cb f b) (s := s) h
  intro d
  induction d with
  | zero =>
    intro i fuel co hi hf hlo hhi
    obtain ⟨m, rfl⟩ : ∃ m, fuel = m + 1 := ⟨fuel - 1, by omega⟩
    obtain rfl : i = h := by omega
    refine br_t (nI_le (Nat.le_refl _) (by omega)) (pk_eq b 0 (fun hb => ?_) (fun hb => ?_))
    · subst hb
      exact ⟨i + 1, qz_unpack_152 (b := 0) hh hn hA hlo (fun nu' hnu => hp co nu' hlo hnu) i 0 (i + 1) nu (by omega) (by omega) (fun j hj => absurd hj (by omega))⟩
    · have e1 : nI (8 * l + b) - 1 = nI (8 * l + b - 1) := pk_sub (b := 1) (by omega)
      rw [e1]
      refine ⟨vp_in_nI (by omega) (by omega), nm_r (e' := nI (qz_pv f (8 * b + 0)) - 1) ?_ ⟨i + 1, qz_unpack_152 hh hn hA hlo (fun nu' hnu => hp co nu' hlo hnu) i 0 (i + 1) nu (by omega) (by omega) (fun j hj => absurd hj (by omega))⟩⟩
      rw [nI_clamp (by omega), hla hb, Nat.add_zero]
  | succ d ih =>
    intro i fuel co hi hf hlo hhi
    have hci := hhi i (Nat.le_refl i) (by omega)
    by_cases hw : s < qz_wd (qz_cb f b i)
    · obtain ⟨m, rfl⟩ : ∃ m, fuel = m + 1 := ⟨fuel - 1, by omega⟩
      have hy := qz_pn_y hw
      have hq := qz_pq_y hw
      have hle := qz_pn_le (c := qz_cb f b) (s := s) (show i + 1 ≤ h from by omega)
      have hqle := qz_pq_le (c := qz_cb f b) (s := s) (show i + 1 ≤ h from by omega)
      have hk : 8 * l + b < 16 := by omega
      obtain ⟨g1, g2, g3⟩ := hFb i (by omega) hw
      unfold qz_sz at h169
      refine br_f (nI_ge (by omega) (by omega)) ?_
      refine qz_get (n := 3) hk (by omega) ?_
      rw [g1]
      refine qz_get (n := 5) hk (by omega) ?_
      rw [g2]
      refine qz_get hk (by omega) ?_
      rw [show 9 + h * s + qz_pq (qz_cb f b) s i + 3 + 5 = 9 + h * s + qz_pq (qz_cb f b) s i + 8 from by omega, g3]
      have hin : vp_in (nI i) 8 := vp_in_nI (by omega) (by omega)
      have hcl : (nI i).toNatClampNeg = i := nI_clamp (by omega)
      refine ⟨hin, hin, nm_r (e' := upd co i (nI (qz_cb f b i))) ?_ (nm_r (nI_1 _) ?_)⟩
      · rw [hcl, hci, qz_glue (e i (by omega)) hs20]
      · have := ih (i + 1) m (upd co i (nI (qz_cb f b i))) (by omega) (by omega) (fun j hj => by
            by_cases z : j = i
            · subst z; exact pk_us
            · rw [pk_un z]; exact hlo j (by omega)) (fun j hj hj2 => by
            rw [pk_un (by omega)]; exact hhi j (by omega) hj2)
        rw [hy, hq, show 9 + h * s + (qz_pq (qz_cb f b) s i + 8 + (qz_wd (qz_cb f b i) - s)) = 9 + h * s + qz_pq (qz_cb f b) s i + 8 + (qz_wd (qz_cb f b i) - s) from by omega] at this
        exact this
    · have := ih (i + 1) fuel co (by omega) (by omega) (fun j hj => by
          rcases Nat.lt_or_ge j i with z | z
          · exact hlo j z
          · obtain rfl : j = i := by omega
            rw [hci, qz_low hw]) (fun j hj hj2 => hhi j (by omega) hj2)
      rw [qz_pn_n hw, qz_pq_n hw] at this
      exact this
theorem qz_unpack_41 {post : SX → Prop} {f : Nat → Nat} {l b h n s : Nat} (hl : l < 2) (hh : h ≤ 8) (hn : 8 * b + h ≤ n) (hn64 : n ≤ 64) (hA : qz_Asc f n)
    (hs : s = qz_bs (qz_cb f b) h) (hB : qz_Blk pk (8 * l + b) (qz_cb f b) h) (hb8 : b < 8) (hla : b ≠ 0 → la (8 * l + b - 1) = nI (qz_pv f (8 * b)) - 1)
    (hp : ∀ co' nu', (∀ i, i < h → co' i = nI (qz_cb f b i)) → (∀ i, i < h → nu' i = nI (f (8 * b + i))) → post (nI h, nI (qz_sz (qz_cb f b) s h), sz, la, pk, co', nu', al)) :
    ∀ (d i fuel : Nat) (co : Nat → Int32), i + d = h → d < fuel → (∀ j, j < i → co j = nI (qz_cb f b j % 2 ^ s)) →
      wX_unpack_41 post (nI b) (nI (8 * l + b)) (nI s) (nI (qz_pn (qz_cb f b) s h)) fuel (nI i) (nI h) (nI (9 + i * s)) sz la pk co nu al := by
  have e : ∀ i, i < h → qz_cb f b i < 2 ^ 20 := fun i hi => qz_cb_20 hA (by omega)
  have h169 : qz_sz (qz_cb f b) s h ≤ 169 := by rw [hs]; exact qz_sz_169 hh e
  have hs20 : s ≤ 20 := by rw [hs]; exact qz_bs_20 _ h
  have hFa := hB.1
  rw [← hs] at hFa
  unfold qz_sz at h169
  intro d
  induction d with
  | zero =>
    intro i fuel co hi hf hlo
    obtain ⟨m, rfl⟩ : ∃ m, fuel = m + 1 := ⟨fuel - 1, by omega⟩
    obtain rfl : i = h := by omega
    exact br_t (nI_le (Nat.le_refl _) (by omega)) ⟨i + 1, qz_unpack_73 hl hh hn hn64 hA hs hB hb8 hla hp i 0 (i + 1) co (by omega) (by omega) (fun j hj => absurd hj (by omega)) (fun j _ hj => hlo j hj)⟩
  | succ d ih =>
    intro i fuel co hi hf hlo
    obtain ⟨m, rfl⟩ : ∃ m, fuel = m + 1 := ⟨fuel - 1, by omega⟩
    have hm := qz_mulle (s := s) (show i < h from by omega)
    refine br_f (nI_ge (by omega) (by omega)) ?_
    refine qz_get (show 8 * l + b < 16 from by omega) (by omega) ?_
    rw [hFa.2.2 i (by omega)]
    refine ⟨vp_in_nI (by omega) (by omega), nm_r (e' := upd co i (nI (qz_cb f b i % 2 ^ s))) (by rw [nI_clamp (by omega)]) (nm_r (nI_1 i) ?_)⟩
    have := ih (i + 1) m (upd co i (nI (qz_cb f b i % 2 ^ s))) (by omega) (by omega) (fun j hj => by
        by_cases z : j = i
        · subst z; exact pk_us
        · rw [pk_un z]; exact hlo j (by omega))
    rw [show 9 + (i + 1) * s = 9 + i * s + s from by rw [Nat.succ_mul]; omega] at this
    exact this
/-- unpack gives back codes and numbers -/
theorem qz_unpack {post : SX → Prop} {f : Nat → Nat} {l b n : Nat} (hl : l < 2) (hb : 8 * b < n) (H : qz_LX l f n sz la pk)
    (hp : ∀ co' nu', (∀ i, i < qz_hl n b → co' i = nI (qz_cb f b i)) → (∀ i, i < qz_hl n b → nu' i = nI (f (8 * b + i))) →
      post (nI (qz_hl n b), nI (qz_sz (qz_cb f b) (qz_bs (qz_cb f b) (qz_hl n b)) (qz_hl n b)), sz, la, pk, co', nu', al)) :
    wpX_unpack post (hd, cu, sz, la, pk, co, nu, al) (nI l) (nI b) := by
  obtain ⟨hz, hn, hA, hO⟩ := H
  have hBO := hO b hb
  have hk : 8 * l + b < 16 := by omega
  have hla : b ≠ 0 → la (8 * l + b - 1) = nI (qz_pv f (8 * b)) - 1 := by
    intro h0
    obtain ⟨b', rfl⟩ : ∃ b', b = b' + 1 := ⟨b - 1, by omega⟩
    have h1 := (hO b' (by omega)).1
    rw [qz_hl_f n b' (by omega)] at h1
    rw [show 8 * l + (b' + 1) - 1 = 8 * l + b' from by omega, h1, show 8 * (b' + 1) = 8 * b' + 7 + 1 from by omega, qz_pv_s, nI_pred]
    rfl
  refine nm_r (e' := nI (8 * l + b)) ?_ (qz_inBlock hl hz hn hb ?_)
  · show nI l * nI 8 + nI b = _
    rw [pk_mul, nI_add, Nat.mul_comm]
  refine qz_get (n := 5) (c := 0) hk (by omega) ?_
  rw [hBO.2.1.1]
  refine qz_get (n := 4) hk (by omega) ?_
  rw [show (0 : Nat) + 5 = 5 from rfl, hBO.2.1.2.1]
  have := qz_unpack_41 (nu := nu) (al := al) hl (qz_hl_8 n b) (qz_hl_n n b (by omega)) hn hA rfl hBO.2 (by omega) hla hp (qz_hl n b) 0 (qz_hl n b + 1) co (by omega) (by omega) (fun j hj => absurd hj (by omega))
  rw [Nat.zero_mul] at this
  exact ⟨_, this⟩
end
end
section
/-! lists: the relation, counts, looking up -/
theorem qz_cb_congr {f f' : Nat → Nat} {b h : Nat} (e : ∀ i, i < 8 * b + h → f' i = f i) (i : Nat) (hi : i < h) : qz_cb f' b i = qz_cb f b i := by
  unfold qz_cb qz_pv
  rw [e _ (by omega)]
  by_cases z : 8 * b + i = 0
  · rw [if_pos z, if_pos z]
  · rw [if_neg z, if_neg z, e _ (by omega)]
theorem qz_BO_keep {l n n' b : Nat} {f f' : Nat → Nat} {la la' pk pk' : Nat → Int32} (hb : 8 * b < n) (A : qz_Asc f n) (hh : qz_hl n' b = qz_hl n b)
    (hf : ∀ i, i < 8 * b + qz_hl n b → f' i = f i) (hla : la' (8 * l + b) = la (8 * l + b))
    (hpk : ∀ j, 6 * (8 * l + b) ≤ j → j < 6 * (8 * l + b) + 6 → pk' j = pk j) (H : qz_BO l f n la pk b) : qz_BO l f' n' la' pk' b := by
  have h1 := qz_hl_n n b (by omega)
  have h2 := qz_hl_0 n b hb
  unfold qz_BO
  rw [hh, hla, hf _ (by omega)]
  refine ⟨H.1, qz_Blk_congr (fun i hi => qz_cb_congr hf i hi) (qz_Blk_keep (qz_hl_8 n b) (fun i hi => qz_cb_20 A (by omega)) hpk H.2)⟩
/-- all of X -/
def qz_X (F : Nat → Nat → Nat) (N : Nat → Nat) (sz la pk : Nat → Int32) : Prop := ∀ l, l < 2 → qz_LX l (F l) (N l) sz la pk
/-- list l of Y -/
def qz_LY (l : Nat) (f : Nat → Nat) (n : Nat) (nm ss : Nat → Int32) : Prop := ss l = nI n ∧ ∀ i, i < n → nm (64 * l + i) = nI (f i)
/-- all of Y -/
def qz_Y (F : Nat → Nat → Nat) (N : Nat → Nat) (nm ss : Nat → Int32) : Prop := ∀ l, l < 2 → qz_LY l (F l) (N l) nm ss
def qz_set {α : Type} (F : Nat → α) (l : Nat) (g : α) : Nat → α := fun m => if m = l then g else F m
theorem qz_set_s {α : Type} {F : Nat → α} {l : Nat} {g : α} : qz_set F l g l = g := if_pos rfl
theorem qz_set_n {α : Type} {F : Nat → α} {l m : Nat} {g : α} (h : m ≠ l) : qz_set F l g m = F m := if_neg h
/-- the first place whose number is x or greater -/
def qz_FF (f : Nat → Nat) (n : Nat) (x : Int32) (k : Nat) : Prop := k ≤ n ∧ (∀ i, i < k → (f i : Int) < x.toInt) ∧ (k < n → x.toInt ≤ (f k : Int))
theorem qz_FF_u {f : Nat → Nat} {n : Nat} {x : Int32} {k k' : Nat} (h : qz_FF f n x k) (h' : qz_FF f n x k') : k = k' := by
  obtain ⟨a1, a2, a3⟩ := h
  obtain ⟨b1, b2, b3⟩ := h'
  rcases Nat.lt_trichotomy k k' with z | z | z
  · have := b2 k z
    have := a3 (by omega)
    omega
  · exact z
  · have := a2 k' z
    have := b3 (by omega)
    omega
theorem qz_shr3 {n : Nat} (hn : n < 2 ^ 31) : nI n >>> ((3 : Int32) &&& 31) = nI (n / 8) := pk_shrN hn _ 3 (by decide)
theorem qz_and7 {n : Nat} (hn : n < 2 ^ 31) : nI n &&& 7 = nI (n % 8) := pk_andN (by omega) 3 (by decide)
theorem qz_blk (l b : Nat) : nI l * 8 + nI b = nI (8 * l + b) := by
  show nI l * nI 8 + nI b = _
  rw [pk_mul, nI_add, Nat.mul_comm]
theorem qz_ltx {n : Nat} {x : Int32} (hn : n < 2 ^ 31) : x ≤ nI n ↔ x.toInt ≤ (n : Int) := by rw [Int32.le_iff_toInt_le, nI_toInt hn]
section
variable {hd cu : Int32} {sz la pk co nu al : Nat → Int32}
theorem qz_blockCount {post : Int32 → Prop} {l n : Nat} (hl : l < 2) (hz : sz l = nI n) (hn : n ≤ 64) (hp : post (nI ((n + 7) / 8))) :
    wpX_blockCount post (hd, cu, sz, la, pk, co, nu, al) (nI l) := by
  refine ⟨vp_in_nI hl (by omega), ?_⟩
  have e : (sz (nI l).toNatClampNeg + 7) >>> ((3 : Int32) &&& 31) = nI ((n + 7) / 8) := by
    rw [nI_clamp (by omega), hz]
    show (nI n + nI 7) >>> _ = _
    rw [nI_add, qz_shr3 (by omega)]
  rw [e]
  exact hp
theorem qz_lastNumber {post : Int32 → Prop} {f : Nat → Nat} {l n : Nat} (hl : l < 2) (H : qz_LX l f n sz la pk) (hp : post (nI (qz_pv f n) - 1)) :
    wpX_lastNumber post (hd, cu, sz, la, pk, co, nu, al) (nI l) := by
  obtain ⟨hz, hn, hA, hO⟩ := H
  unfold wpX_lastNumber
  dsimp only
  refine qz_blockCount hl hz hn (pk_eq ((n + 7) / 8) 0 (fun h0 => ?_) (fun h0 => ?_))
  · obtain rfl : n = 0 := by omega
    exact hp
  · obtain ⟨b, hb⟩ : ∃ b, (n + 7) / 8 = b + 1 := ⟨(n + 7) / 8 - 1, by omega⟩
    have h1 := (hO b (by omega)).1
    have h2 : 8 * b + qz_hl n b = n := by unfold qz_hl; split <;> omega
    have e : nI l * 8 + nI ((n + 7) / 8) - 1 = nI (8 * l + b) := by
      rw [qz_blk, hb]
      exact nI_pred (8 * l + b)
    rw [e]
    refine ⟨vp_in_nI (by omega) (by omega), ?_⟩
    rw [nI_clamp (by omega), h1, h2]
    obtain ⟨m, rfl⟩ : ∃ m, n = m + 1 := ⟨n - 1, by omega⟩
    rw [qz_pv_s, nI_pred] at hp
    exact hp
theorem qz_numberAt {post : Int32 → SX → Prop} {f : Nat → Nat} {l n i : Nat} (hl : l < 2) (hi : i < n) (H : qz_LX l f n sz la pk)
    (hp : ∀ hd' cu' co' nu', post (nI (f i)) (hd', cu', sz, la, pk, co', nu', al)) : wpX_numberAt post (hd, cu, sz, la, pk, co, nu, al) (nI l) (nI i) := by
  have hn := H.2.1
  have hm : i % 8 < qz_hl n (i / 8) := by unfold qz_hl; split <;> omega
  unfold wpX_numberAt
  dsimp only
  rw [qz_shr3 (by omega)]
  refine qz_unpack hl (by omega) H (fun co' nu' h1 h2 => ?_)
  dsimp only
  rw [qz_and7 (by omega)]
  refine ⟨vp_in_nI (by omega) (by omega), ?_⟩
  rw [nI_clamp (by omega), h2 _ hm, show 8 * (i / 8) + i % 8 = i from by omega]
  exact hp _ _ _ _
/-- the last number of block b -/
def qz_lb (f : Nat → Nat) (n b : Nat) : Nat := f (8 * b + qz_hl n b - 1)
theorem qz_lb_mono {f : Nat → Nat} {n b b' : Nat} (A : qz_Asc f n) (h : b ≤ b') (hb : 8 * b' < n) : qz_lb f n b ≤ qz_lb f n b' := by
  have h1 := qz_hl_0 n b (by omega)
  have h2 := qz_hl_0 n b' hb
  have h3 := qz_hl_n n b' (by omega)
  rcases Nat.lt_or_ge b b' with z | z
  · have h4 := qz_hl_8 n b
    exact Nat.le_of_lt (A.2 _ _ (by omega) (by omega))
  · rw [show b = b' from by omega]
    exact Nat.le_refl _
theorem qz_blockFrom_12 {post : Int32 → Prop} {f : Nat → Nat} {l n : Nat} {x : Int32} (hl : l < 2) (H : qz_LX l f n sz la pk)
    (hp : ∀ b, b ≤ (n + 7) / 8 → (∀ b', b' < b → (qz_lb f n b' : Int) < x.toInt) → (b < (n + 7) / 8 → x.toInt ≤ (qz_lb f n b : Int)) → post (nI b)) :
    ∀ t r lo hi fuel : Nat, t + r = 4 → t < fuel → lo ≤ hi → hi ≤ (n + 7) / 8 → hi - lo < 2 ^ t → (∀ b', b' < lo → (qz_lb f n b' : Int) < x.toInt) →
      (hi < (n + 7) / 8 → x.toInt ≤ (qz_lb f n hi : Int)) →
      wX_blockFrom_12 post (nI l) x hd cu sz la pk co nu al fuel (nI lo) (nI hi) (nI r) := by
  obtain ⟨hz, hn, hA, hO⟩ := H
  intro t
  induction t with
  | zero =>
    intro r lo hi fuel ht hf h1 h2 h3 h4 h5
    obtain ⟨m, rfl⟩ : ∃ m, fuel = m + 1 := ⟨fuel - 1, by omega⟩
    obtain rfl : lo = hi := by omega
    exact pk_le 5 r (fun _ => hp lo h2 h4 h5) (fun _ => br_t (nI_le (Nat.le_refl _) (by omega)) (hp lo h2 h4 h5))
  | succ t ih =>
    intro r lo hi fuel ht hf h1 h2 h3 h4 h5
    obtain ⟨m, rfl⟩ : ∃ m, fuel = m + 1 := ⟨fuel - 1, by omega⟩
    rw [Nat.pow_succ] at h3
    refine pk_le 5 r (fun h => absurd h (by omega)) (fun _ => pk_le hi lo (fun h => ?_) (fun h => ?_))
    · obtain rfl : lo = hi := by omega
      exact hp lo h2 h4 h5
    · refine nm_r (e' := nI ((lo + hi) / 2)) ?_ ?_
      · rw [nI_add]
        exact pk_shrN (by omega) _ 1 (by decide)
      · have hmid : 8 * ((lo + hi) / 2) < n := by omega
        have hlb := (hO _ hmid).1
        have hlt := hA.1 (8 * ((lo + hi) / 2) + qz_hl n ((lo + hi) / 2) - 1) (by
          have := qz_hl_n n ((lo + hi) / 2) (by omega)
          have := qz_hl_0 n ((lo + hi) / 2) (by omega)
          omega)
        rw [qz_blk]
        refine ⟨vp_in_nI (by omega) (by omega), ?_⟩
        rw [nI_clamp (by omega), hlb, qz_ltx (by omega)]
        refine br_c (fun h => nm_r (nI_1 r) ?_) (fun h => nm_r (nI_1 _) (nm_r (nI_1 r) ?_))
        · exact ih (r + 1) lo ((lo + hi) / 2) m (by omega) (by omega) (by omega) (by omega) (by omega) h4 (fun _ => h)
        · refine ih (r + 1) ((lo + hi) / 2 + 1) hi m (by omega) (by omega) (by omega) (by omega) (by omega) (fun b' hb' => ?_) h5
          have := qz_lb_mono hA (show b' ≤ (lo + hi) / 2 from by omega) hmid
          unfold qz_lb at this ⊢
          omega
theorem qz_blockFrom {post : Int32 → Prop} {f : Nat → Nat} {l n : Nat} {x : Int32} (hl : l < 2) (H : qz_LX l f n sz la pk)
    (hp : ∀ b, b ≤ (n + 7) / 8 → (∀ b', b' < b → (qz_lb f n b' : Int) < x.toInt) → (b < (n + 7) / 8 → x.toInt ≤ (qz_lb f n b : Int)) → post (nI b)) :
    wpX_blockFrom post (hd, cu, sz, la, pk, co, nu, al) (nI l) x := by
  have hn := H.2.1
  unfold wpX_blockFrom
  dsimp only
  exact qz_blockCount hl H.1 hn ⟨5, qz_blockFrom_12 hl H hp 4 0 0 ((n + 7) / 8) 5 (by omega) (by omega) (by omega) (by omega) (by omega) (fun b' hb' => absurd hb' (by omega)) (fun h => absurd h (by omega))⟩
theorem qz_firstFrom_39 {post : Int32 → SX → Prop} {f : Nat → Nat} {b h n : Nat} {x : Int32} (hh : h ≤ 8) (hn : 8 * b + h ≤ n) (hn64 : n ≤ 64) (A : qz_Asc f n)
    (hnu : ∀ i, i < h → nu i = nI (f (8 * b + i))) (h0 : 0 < h) (hx : x.toInt ≤ (f (8 * b + h - 1) : Int))
    (hp : ∀ i, i < h → (∀ j, j < i → (f (8 * b + j) : Int) < x.toInt) → x.toInt ≤ (f (8 * b + i) : Int) → post (nI (8 * b + i)) (nI h, cu, sz, la, pk, co, nu, al)) :
    ∀ d i fuel : Nat, i + d = h → d < fuel → (∀ j, j < i → (f (8 * b + j) : Int) < x.toInt) →
      wX_firstFrom_39 post x (nI b) (nI h) cu sz la pk co nu al fuel (nI i) (nI i) := by
  intro d
  induction d with
  | zero =>
    intro i fuel hi hf hj
    obtain rfl : i = h := by omega
    have := hj (i - 1) (by omega)
    rw [show 8 * b + (i - 1) = 8 * b + i - 1 from by omega] at this
    omega
  | succ d ih =>
    intro i fuel hi hf hj
    obtain ⟨m, rfl⟩ : ∃ m, fuel = m + 1 := ⟨fuel - 1, by omega⟩
    have hfi := A.1 (8 * b + i) (by omega)
    refine pk_le 8 i (fun z => absurd z (by omega)) (fun _ => br_f (nI_ge (by omega) (by omega)) ⟨vp_in_nI (by omega) (by omega), ?_⟩)
    rw [nI_clamp (by omega), hnu i (by omega), qz_ltx (by omega), qz_blk]
    refine br_c (fun z => ?_) (fun z => nm_r (nI_1 i) (nm_r (nI_1 i) (ih (i + 1) m (by omega) (by omega) (fun j hj2 => ?_))))
    · exact hp i (by omega) hj z
    · rcases Nat.lt_or_ge j i with y | y
      · exact hj j y
      · obtain rfl : j = i := by omega
        omega
/-- firstFrom: the first place whose number is x or greater; the block at hand holds it -/
theorem qz_firstFrom {post : Int32 → SX → Prop} {f : Nat → Nat} {l n : Nat} {x : Int32} (hl : l < 2) (H : qz_LX l f n sz la pk)
    (hp : ∀ k hd' cu' co' nu', qz_FF f n x k → (k < n → nu' (k % 8) = nI (f k)) → post (nI k) (hd', cu', sz, la, pk, co', nu', al)) :
    wpX_firstFrom post (hd, cu, sz, la, pk, co, nu, al) (nI l) x := by
  have hz := H.1
  have hn := H.2.1
  have hA := H.2.2.1
  refine qz_blockFrom hl H (fun b h1 h2 h3 => qz_blockCount hl hz hn (pk_eq b ((n + 7) / 8) (fun e => ?_) (fun e => ?_)))
  · refine ⟨vp_in_nI hl (by omega), ?_⟩
    rw [nI_clamp (by omega), hz]
    refine hp n _ _ _ _ ⟨Nat.le_refl n, fun i hi => ?_, fun z => absurd z (by omega)⟩ (fun z => absurd z (by omega))
    have h4 := h2 (i / 8) (by omega)
    unfold qz_lb at h4
    have h5 : i ≤ 8 * (i / 8) + qz_hl n (i / 8) - 1 := by unfold qz_hl; split <;> omega
    have h6 := qz_hl_n n (i / 8) (by omega)
    rcases Nat.lt_or_ge i (8 * (i / 8) + qz_hl n (i / 8) - 1) with z | z
    · have := hA.2 _ _ z (by omega)
      omega
    · rw [show 8 * (i / 8) + qz_hl n (i / 8) - 1 = i from by omega] at h4
      exact h4
  · have hb : 8 * b < n := by omega
    have g1 := qz_hl_0 n b hb
    have g2 := qz_hl_n n b (by omega)
    have g3 := qz_hl_8 n b
    refine qz_unpack hl hb H (fun co' nu' k1 k2 => ⟨qz_hl n b + 1, qz_firstFrom_39 g3 g2 hn hA k2 g1 (h3 (by omega)) (fun i hi hj hx => ?_) (qz_hl n b) 0 (qz_hl n b + 1) (by omega) (by omega) (fun j hj => absurd hj (by omega))⟩)
    refine hp (8 * b + i) _ _ _ _ ⟨by omega, fun i' hi' => ?_, fun _ => hx⟩ (fun _ => ?_)
    · rcases Nat.lt_or_ge i' (8 * b) with z | z
      · have h4 := h2 (i' / 8) (by omega)
        unfold qz_lb at h4
        rw [qz_hl_f n (i' / 8) (by omega)] at h4
        rcases Nat.lt_or_ge i' (8 * (i' / 8) + 8 - 1) with y | y
        · have := hA.2 _ _ y (by omega)
          omega
        · rw [show 8 * (i' / 8) + 8 - 1 = i' from by omega] at h4
          exact h4
      · have := hj (i' - 8 * b) (by omega)
        rw [show 8 * b + (i' - 8 * b) = i' from by omega] at this
        exact this
    · rw [show (8 * b + i) % 8 = i from by omega]
      exact k2 i hi
end
end
section
/-! attach, spread, rebuild -/
/-- f with x at place n -/
def qz_app (f : Nat → Nat) (n x : Nat) : Nat → Nat := fun i => if i = n then x else f i
theorem qz_app_s {f : Nat → Nat} {n x : Nat} : qz_app f n x n = x := if_pos rfl
theorem qz_app_n {f : Nat → Nat} {n x i : Nat} (h : i ≠ n) : qz_app f n x i = f i := if_neg h
theorem qz_app_Asc {f : Nat → Nat} {n x : Nat} (A : qz_Asc f n) (hx : qz_pv f n ≤ x) (hx2 : x ≤ 1000000) : qz_Asc (qz_app f n x) (n + 1) := by
  have hlt : ∀ i, i < n → f i < x := by
    intro i hi
    obtain ⟨m, rfl⟩ : ∃ m, n = m + 1 := ⟨n - 1, by omega⟩
    rw [qz_pv_s] at hx
    rcases Nat.lt_or_ge i m with z | z
    · have := A.2 i m z (by omega)
      omega
    · obtain rfl : i = m := by omega
      omega
  refine ⟨fun i hi => ?_, fun i j hij hj => ?_⟩
  · by_cases z : i = n
    · rw [z, qz_app_s]; exact hx2
    · rw [qz_app_n z]; exact A.1 i (by omega)
  · rw [qz_app_n (show i ≠ n from by omega)]
    by_cases z : j = n
    · rw [z, qz_app_s]; exact hlt i (by omega)
    · rw [qz_app_n z]; exact A.2 i j hij (by omega)
/-- the lists but list l are untouched by a change of block k of list l -/
theorem qz_other {F : Nat → Nat → Nat} {N : Nat → Nat} {sz sz' la la' pk pk' : Nat → Int32} {l m b : Nat} (H : qz_X F N sz la pk) (hm : m < 2) (hl : l < 2) (hb : b < 8) (hml : m ≠ l)
    (hs : sz' m = sz m) (hla : ∀ j, j ≠ 8 * l + b → la' j = la j) (ho : qz_Out pk pk' (8 * l + b)) : qz_LX m (F m) (N m) sz' la' pk' := by
  obtain ⟨h1, h2, h3, h4⟩ := H m hm
  refine ⟨hs.trans h1, h2, h3, fun b' hb' => qz_BO_keep hb' h3 rfl (fun _ _ => rfl) (hla _ (by omega)) (fun j hj1 hj2 => ho j (by omega)) (h4 b' hb')⟩
section
variable {hd cu : Int32} {sz la pk co nu al : Nat → Int32}
theorem qz_attach_47 {post : SX → Prop} {F : Nat → Nat → Nat} {N : Nat → Nat} {l x n : Nat} (hl : l < 2) (H : qz_X F N sz la pk) (hN : N l = n) (hn : n < 64)
    (hx : qz_pv (F l) n ≤ x) (hx2 : x ≤ 1000000) (hco : ∀ i, i < n % 8 → co i = nI (qz_cb (F l) (n / 8) i))
    (hp : ∀ hd' cu' sz' la' pk' co', sz' = upd sz l (nI (n + 1)) → qz_X (qz_set F l (qz_app (F l) n x)) (qz_set N l (n + 1)) sz' la' pk' → post (hd', cu', sz', la', pk', co', nu, al)) :
    wX_attach_47 post (nI l) (nI x) (nI (x - qz_pv (F l) n)) (nI (n / 8)) (nI (n % 8)) cu sz la pk co nu al := by
  have HL := H l hl
  rw [hN] at HL
  obtain ⟨h1, h2, h3, h4⟩ := HL
  have hin : vp_in (nI l) 2 := vp_in_nI hl (by omega)
  have hcl : (nI l).toNatClampNeg = l := nI_clamp (by omega)
  have hA' := qz_app_Asc h3 hx hx2
  have hcb : ∀ i, i < n % 8 → qz_cb (qz_app (F l) n x) (n / 8) i = qz_cb (F l) (n / 8) i := fun i hi => qz_cb_congr (h := n % 8) (fun j hj => qz_app_n (by omega)) i hi
  have hcn : qz_cb (qz_app (F l) n x) (n / 8) (n % 8) = x - qz_pv (F l) n := by
    unfold qz_cb
    rw [show 8 * (n / 8) + n % 8 = n from by omega, qz_app_s]
    unfold qz_pv
    by_cases z : n = 0
    · rw [if_pos z, if_pos z]
    · rw [if_neg z, if_neg z, qz_app_n (by omega)]
  have hCO : qz_CO (upd co (n % 8) (nI (x - qz_pv (F l) n))) (qz_cb (qz_app (F l) n x) (n / 8)) (n % 8 + 1) := by
    intro i hi
    refine ⟨?_, qz_cb_20 hA' (by omega)⟩
    by_cases z : i = n % 8
    · rw [z, pk_us, hcn]
    · rw [pk_un z, hcb i (by omega)]; exact hco i (by omega)
  unfold wX_attach_47
  refine ⟨vp_in_nI (by omega) (by omega), nm_r (e' := upd co (n % 8) (nI (x - qz_pv (F l) n))) (by rw [nI_clamp (by omega)]) (nm_r (nI_1 _) ⟨hin, hin, nm_r (e' := upd sz l (nI (n + 1))) (by rw [hcl, h1, nI_1]) ?_⟩)⟩
  rw [qz_blk]
  refine qz_pack (by omega) (by omega) hCO (fun pk' ho hB => ?_)
  refine ⟨vp_in_nI (by omega) (by omega), nm_r (e' := upd la (8 * l + n / 8) (nI x)) (by rw [nI_clamp (by omega)]) (hp _ _ _ _ _ _ rfl ?_)⟩
  intro m hm
  by_cases z : m = l
  · subst z
    rw [qz_set_s, qz_set_s]
    refine ⟨pk_us, by omega, hA', fun b hb => ?_⟩
    by_cases y : b = n / 8
    · subst y
      have e : qz_hl (n + 1) (n / 8) = n % 8 + 1 := by unfold qz_hl; split <;> omega
      unfold qz_BO
      rw [e, pk_us, show 8 * (n / 8) + (n % 8 + 1) - 1 = n from by omega, qz_app_s]
      exact ⟨rfl, hB⟩
    · have e : qz_hl n b = 8 := qz_hl_f n b (by omega)
      refine qz_BO_keep (f := F m) (n := n) (by omega) h3 ?_ (fun i hi => qz_app_n (by omega)) (pk_un (by omega)) (fun j hj1 hj2 => ho j (by omega)) (h4 b (by omega))
      rw [e]; exact qz_hl_f (n + 1) b (by omega)
  · rw [qz_set_n z, qz_set_n z]
    exact qz_other H hm hl (show n / 8 < 8 from by omega) z (pk_un z) (fun j hj => pk_un hj) ho
theorem qz_gap {x p : Nat} (h : p ≤ x) : nI x - (nI p - 1) - 1 = nI (x - p) := by
  rw [← pk_sub h]
  generalize nI x = a
  generalize nI p = b
  grind
/-- attach: x behind the last number -/
theorem qz_attach {post : SX → Prop} {F : Nat → Nat → Nat} {N : Nat → Nat} {l x : Nat} (hl : l < 2) (H : qz_X F N sz la pk) (hn : N l < 64)
    (hx : qz_pv (F l) (N l) ≤ x) (hx2 : x ≤ 1000000)
    (hp : ∀ hd' cu' sz' la' pk' co' nu', sz' = upd sz l (nI (N l + 1)) → qz_X (qz_set F l (qz_app (F l) (N l) x)) (qz_set N l (N l + 1)) sz' la' pk' → post (hd', cu', sz', la', pk', co', nu', al)) :
    wpX_attach post (hd, cu, sz, la, pk, co, nu, al) (nI l) (nI x) := by
  have HL := H l hl
  have hz := HL.1
  have hin : vp_in (nI l) 2 := vp_in_nI hl (by omega)
  have hcl : (nI l).toNatClampNeg = l := nI_clamp (by omega)
  unfold wpX_attach
  dsimp only
  refine qz_lastNumber hl HL (nm_r (qz_gap hx) ⟨hin, nm_r (e' := nI (N l / 8)) (by rw [hcl, hz, qz_shr3 (by omega)]) ⟨hin, ?_⟩⟩)
  rw [hcl, hz, qz_and7 (by omega)]
  refine pk_eq (N l % 8) 0 (fun h0 => ?_) (fun h0 => ?_)
  · have := qz_attach_47 (post := post) (cu := cu) (co := co) (nu := nu) (al := al) hl H rfl hn hx hx2 (fun i hi => absurd hi (by omega)) (fun hd' cu' sz' la' pk' co' e h => hp hd' cu' sz' la' pk' co' nu e h)
    rw [h0] at this
    exact this
  · have e : qz_hl (N l) (N l / 8) = N l % 8 := by unfold qz_hl; split <;> omega
    refine qz_unpack hl (by omega) HL (fun co' nu' h1 h2 => ?_)
    rw [e] at h1 ⊢
    exact qz_attach_47 hl H rfl hn hx hx2 h1 (fun hd' cu' sz' la' pk' co' e h => hp hd' cu' sz' la' pk' co' nu' e h)
theorem qz_spread_22 {post : SX → Prop} {J : Int32 → Int32 → Int32 → (Nat → Int32) → (Nat → Int32) → (Nat → Int32) → (Nat → Int32) → (Nat → Int32) → (Nat → Int32) → Prop}
    {x1 x2 : Int32} {f : Nat → Nat} {b h : Nat} (hh : h ≤ 8) (hb : b < 8) (hnu : ∀ i, i < h → nu i = nI (f (8 * b + i)))
    (hJ : ∀ al', (∀ i, i < 8 * b + h → al' i = nI (f i)) → J (nI (b + 1)) (nI h) cu sz la pk co nu al') :
    ∀ (d i fuel : Nat) (al : Nat → Int32), i + d = h → d < fuel → (∀ j, j < 8 * b + i → al j = nI (f j)) →
      wX_spread_22 post J x1 x2 (nI b) (nI h) cu fuel (nI i) sz la pk co nu al := by
  intro d
  induction d with
  | zero =>
    intro i fuel al hi hf hI
    obtain ⟨m, rfl⟩ : ∃ m, fuel = m + 1 := ⟨fuel - 1, by omega⟩
    obtain rfl : i = h := by omega
    exact br_t (nI_le (Nat.le_refl i) (by omega)) (nm_r (nI_1 b) (hJ al hI))
  | succ d ih =>
    intro i fuel al hi hf hI
    obtain ⟨m, rfl⟩ : ∃ m, fuel = m + 1 := ⟨fuel - 1, by omega⟩
    refine br_f (nI_ge (by omega) (by omega)) ⟨vp_in_nI (by omega) (by omega), ?_⟩
    rw [qz_blk]
    refine ⟨vp_in_nI (by omega) (by omega), nm_r (e' := upd al (8 * b + i) (nI (f (8 * b + i)))) (by rw [nI_clamp (by omega), nI_clamp (by omega), hnu i (by omega)]) (nm_r (nI_1 i) ?_)⟩
    refine ih (i + 1) m _ (by omega) (by omega) (fun j hj => ?_)
    by_cases z : j = 8 * b + i
    · rw [z]; exact pk_us
    · rw [pk_un z]; exact hI j (by omega)
theorem qz_spread_8 {post : SX → Prop} {f : Nat → Nat} {l n : Nat} (hl : l < 2) (H : qz_LX l f n sz la pk)
    (hp : ∀ hd' cu' co' nu' al', (∀ i, i < n → al' i = nI (f i)) → post (hd', cu', sz, la, pk, co', nu', al')) :
    ∀ (d b fuel : Nat) (hd cu : Int32) (co nu al : Nat → Int32), b + d = (n + 7) / 8 → d < fuel → (∀ j, j < 8 * b → j < n → al j = nI (f j)) →
      wX_spread_8 post (nI l) (nI ((n + 7) / 8)) fuel (nI b) hd cu sz la pk co nu al := by
  have hn := H.2.1
  intro d
  induction d with
  | zero =>
    intro b fuel hd cu co nu al hi hf hI
    obtain ⟨m, rfl⟩ : ∃ m, fuel = m + 1 := ⟨fuel - 1, by omega⟩
    exact br_t (nI_le (by omega) (by omega)) (hp _ _ _ _ _ (fun i hi => hI i (by omega) hi))
  | succ d ih =>
    intro b fuel hd cu co nu al hi hf hI
    obtain ⟨m, rfl⟩ : ∃ m, fuel = m + 1 := ⟨fuel - 1, by omega⟩
    have hb : 8 * b < n := by omega
    have h8 := qz_hl_8 n b
    have hh : ∀ i, i < 8 * b + 8 → i < n → i < 8 * b + qz_hl n b := by intro i _ _; unfold qz_hl; split <;> omega
    refine br_f (nI_ge (by omega) (by omega)) (qz_unpack hl hb H (fun co' nu' h1 h2 => ⟨qz_hl n b + 1, ?_⟩))
    refine qz_spread_22 h8 (by omega) h2 (fun al' hal => ?_) (qz_hl n b) 0 (qz_hl n b + 1) al (by omega) (by omega) (fun j hj => hI j (by omega) (by omega))
    exact ih (b + 1) m _ _ _ _ _ (by omega) (by omega) (fun j hj hj2 => hal j (hh j (by omega) hj2))
/-- spread lays all numbers out -/
theorem qz_spread {post : SX → Prop} {f : Nat → Nat} {l n : Nat} (hl : l < 2) (H : qz_LX l f n sz la pk)
    (hp : ∀ hd' cu' co' nu' al', (∀ i, i < n → al' i = nI (f i)) → post (hd', cu', sz, la, pk, co', nu', al')) : wpX_spread post (hd, cu, sz, la, pk, co, nu, al) (nI l) := by
  unfold wpX_spread
  dsimp only
  exact qz_blockCount hl H.1 H.2.1 ⟨(n + 7) / 8 + 1, qz_spread_8 hl H hp ((n + 7) / 8) 0 _ _ _ _ _ _ (by omega) (by omega) (fun j hj _ => absurd hj (by omega))⟩
theorem qz_rebuild_63 {post : SX → Prop} {J : Int32 → Int32 → Int32 → (Nat → Int32) → (Nat → Int32) → (Nat → Int32) → (Nat → Int32) → (Nat → Int32) → (Nat → Int32) → Prop}
    {x4 : Int32} {g : Nat → Nat} {l b h n : Nat} (hl : l < 2) (hh : h ≤ 8) (h0 : 0 < h) (hn : 8 * b + h ≤ n) (hn64 : n ≤ 64) (A : qz_Asc g n) (hal : ∀ i, i < n → al i = nI (g i))
    (hJ : ∀ hd' cu' pk' co', qz_Out pk pk' (8 * l + b) → qz_Blk pk' (8 * l + b) (qz_cb g b) h → J (nI (b + 1)) hd' cu' sz (upd la (8 * l + b) (nI (g (8 * b + h - 1)))) pk' co' nu al) :
    ∀ (d i fuel : Nat) (co : Nat → Int32), i + d = h → d < fuel → (∀ j, j < i → co j = nI (qz_cb g b j)) →
      wX_rebuild_63 post J (nI l) x4 (nI b) (nI h) cu fuel (nI (qz_pv g (8 * b + i)) - 1) (nI i) sz la pk co nu al := by
  intro d
  induction d with
  | zero =>
    intro i fuel co hi hf hI
    obtain ⟨m, rfl⟩ : ∃ m, fuel = m + 1 := ⟨fuel - 1, by omega⟩
    obtain rfl : i = h := by omega
    refine br_t (nI_le (Nat.le_refl i) (by omega)) ?_
    rw [qz_blk]
    refine qz_pack hh (by omega) (fun j hj => ⟨hI j hj, qz_cb_20 A (by omega)⟩) (fun pk' ho hB => ⟨vp_in_nI (by omega) (by omega), nm_r (e' := upd la (8 * l + b) (nI (g (8 * b + i - 1)))) ?_ (nm_r (nI_1 b) (hJ _ _ _ _ ho hB))⟩)
    rw [nI_clamp (by omega)]
    obtain ⟨t, rfl⟩ : ∃ t, i = t + 1 := ⟨i - 1, by omega⟩
    rw [show 8 * b + (t + 1) = 8 * b + t + 1 from by omega, qz_pv_s, nI_pred, Nat.add_sub_cancel]
  | succ d ih =>
    intro i fuel co hi hf hI
    obtain ⟨m, rfl⟩ : ∃ m, fuel = m + 1 := ⟨fuel - 1, by omega⟩
    have hle := qz_pv_le A (show 8 * b + i < n from by omega)
    have hin : vp_in (nI (8 * b + i)) 65 := vp_in_nI (by omega) (by omega)
    have hcl : (nI (8 * b + i)).toNatClampNeg = 8 * b + i := nI_clamp (by omega)
    have hga := hal (8 * b + i) (by omega)
    refine br_f (nI_ge (by omega) (by omega)) ?_
    rw [qz_blk, hcl, hga]
    refine ⟨hin, vp_in_nI (by omega) (by omega), nm_r (e' := upd co i (nI (qz_cb g b i))) ?_ ⟨hin, nm_r (e' := nI (qz_pv g (8 * b + (i + 1))) - 1) ?_ (nm_r (nI_1 i) ?_)⟩⟩
    · rw [nI_clamp (by omega), qz_gap hle]
      rfl
    · rw [show 8 * b + (i + 1) = 8 * b + i + 1 from by omega, qz_pv_s, nI_pred]
    · refine ih (i + 1) m _ (by omega) (by omega) (fun j hj => ?_)
      by_cases z : j = i
      · rw [z]; exact pk_us
      · rw [pk_un z]; exact hI j (by omega)
theorem qz_rebuild_19 {post : SX → Prop} {F : Nat → Nat → Nat} {N : Nat → Nat} {g : Nat → Nat} {l n : Nat} (hl : l < 2) (hn : n ≤ 64) (A : qz_Asc g n)
    (hsz : sz l = nI n) (hszo : ∀ m, m < 2 → m ≠ l → sz m = nI (N m) ∧ N m ≤ 64 ∧ qz_Asc (F m) (N m)) (hal : ∀ i, i < n → al i = nI (g i))
    (hp : ∀ hd' cu' la' pk' co', qz_X (qz_set F l g) (qz_set N l n) sz la' pk' → post (hd', cu', sz, la', pk', co', nu, al)) :
    ∀ (d b fuel : Nat) (hd cu : Int32) (la pk co : Nat → Int32), (n + 7) / 8 ≤ b + d → b ≤ 8 → d < fuel → (∀ b', b' < b → 8 * b' < n → qz_BO l g n la pk b') →
      (∀ m, m < 2 → m ≠ l → ∀ b', 8 * b' < N m → qz_BO m (F m) (N m) la pk b') →
      wX_rebuild_19 post (nI l) (nI ((n + 7) / 8)) fuel (nI b) hd cu sz la pk co nu al := by
  have done : ∀ (b : Nat) (hd cu : Int32) (la pk co : Nat → Int32), (n + 7) / 8 ≤ b → (∀ b', b' < b → 8 * b' < n → qz_BO l g n la pk b') →
      (∀ m, m < 2 → m ≠ l → ∀ b', 8 * b' < N m → qz_BO m (F m) (N m) la pk b') → post (hd, cu, sz, la, pk, co, nu, al) := by
    intro b hd cu la pk co hb h1 h2
    refine hp _ _ _ _ _ (fun m hm => ?_)
    by_cases z : m = l
    · subst z
      rw [qz_set_s, qz_set_s]
      exact ⟨hsz, hn, A, fun b' hb' => h1 b' (by omega) hb'⟩
    · rw [qz_set_n z, qz_set_n z]
      obtain ⟨k1, k2, k3⟩ := hszo m hm z
      exact ⟨k1, k2, k3, h2 m hm z⟩
  intro d
  induction d with
  | zero =>
    intro b fuel hd cu la pk co hi hb8 hf h1 h2
    obtain ⟨m, rfl⟩ : ∃ m, fuel = m + 1 := ⟨fuel - 1, by omega⟩
    exact br_t (nI_le (by omega) (by omega)) (done b _ _ _ _ _ (by omega) h1 h2)
  | succ d ih =>
    intro b fuel hd cu la pk co hi hb8 hf h1 h2
    obtain ⟨m, rfl⟩ : ∃ m, fuel = m + 1 := ⟨fuel - 1, by omega⟩
    refine pk_le ((n + 7) / 8) b (fun z => done b _ _ _ _ _ z h1 h2) (fun z => ?_)
    have hb : 8 * b < n := by omega
    have g1 := qz_hl_0 n b hb
    have g2 := qz_hl_n n b (by omega)
    have g3 := qz_hl_8 n b
    have hJ : ∀ (hd' cu' : Int32) (pk' co' : Nat → Int32), qz_Out pk pk' (8 * l + b) → qz_Blk pk' (8 * l + b) (qz_cb g b) (qz_hl n b) →
        wX_rebuild_19 post (nI l) (nI ((n + 7) / 8)) m (nI (b + 1)) hd' cu' sz (upd la (8 * l + b) (nI (g (8 * b + qz_hl n b - 1)))) pk' co' nu al := by
      intro hd' cu' pk' co' ho hB
      refine ih (b + 1) m hd' cu' _ pk' co' (by omega) (by omega) (by omega) (fun b' hb' hb2 => ?_) (fun m' hm' z' b' hb' => ?_)
      · by_cases y : b' = b
        · subst y
          exact ⟨pk_us, hB⟩
        · exact qz_BO_keep hb2 A rfl (fun _ _ => rfl) (pk_un (by omega)) (fun j hj1 hj2 => ho j (by omega)) (h1 b' (by omega) hb2)
      · obtain ⟨k1, k2, k3⟩ := hszo m' hm' z'
        exact qz_BO_keep hb' k3 rfl (fun _ _ => rfl) (pk_un (by omega)) (fun j hj1 hj2 => ho j (by omega)) (h2 m' hm' z' b' hb')
    refine qz_inBlock hl hsz hn hb (pk_eq b 0 (fun y => ?_) (fun y => ?_))
    · subst y
      exact ⟨qz_hl n 0 + 1, qz_rebuild_63 (b := 0) hl g3 g1 g2 hn A hal hJ (qz_hl n 0) 0 (qz_hl n 0 + 1) co (by omega) (by omega) (fun j hj => absurd hj (by omega))⟩
    · have e1 : nI b * 8 - 1 = nI (8 * b - 1) := by
        show nI b * nI 8 - nI 1 = _
        rw [pk_mul, pk_sub (by omega), Nat.mul_comm]
      rw [e1]
      refine ⟨vp_in_nI (by omega) (by omega), nm_r (e' := nI (qz_pv g (8 * b + 0)) - 1) ?_ ⟨qz_hl n b + 1, qz_rebuild_63 hl g3 g1 g2 hn A hal hJ (qz_hl n b) 0 (qz_hl n b + 1) co (by omega) (by omega) (fun j hj => absurd hj (by omega))⟩⟩
      rw [nI_clamp (by omega), hal _ (by omega)]
      obtain ⟨t, rfl⟩ : ∃ t, b = t + 1 := ⟨b - 1, by omega⟩
      rw [show 8 * (t + 1) + 0 = 8 * t + 7 + 1 from by omega, qz_pv_s, nI_pred, show 8 * (t + 1) - 1 = 8 * t + 7 from by omega]
/-- rebuild: list l becomes g, of length n, of which the numbers ahead of place p are as before -/
theorem qz_rebuild {post : SX → Prop} {F : Nat → Nat → Nat} {N : Nat → Nat} {g : Nat → Nat} {l n p : Nat} (hl : l < 2) (H : qz_X F N sz la pk) (hn : n ≤ 64) (A : qz_Asc g n)
    (hp1 : p ≤ n) (hp2 : p ≤ N l) (hg : ∀ i, i < p → g i = F l i) (hal : ∀ i, i < n → al i = nI (g i))
    (hp : ∀ hd' cu' sz' la' pk' co', qz_X (qz_set F l g) (qz_set N l n) sz' la' pk' → post (hd', cu', sz', la', pk', co', nu, al)) :
    wpX_rebuild post (hd, cu, sz, la, pk, co, nu, al) (nI l) (nI n) (nI p) := by
  have HL := H l hl
  have hN := HL.2.1
  refine ⟨vp_in_nI hl (by omega), nm_r (e' := upd sz l (nI n)) (by rw [nI_clamp (by omega)]) (qz_blockCount hl pk_us hn (nm_r (qz_shr3 (by omega)) ⟨10, ?_⟩))⟩
  refine qz_rebuild_19 (F := F) (N := N) hl hn A pk_us (fun m hm z => ?_) hal (fun hd' cu' la' pk' co' h => hp _ _ _ _ _ _ h) 9 (p / 8) 10 _ _ _ _ _ (by omega) (by omega) (by omega) (fun b' hb' hb2 => ?_) (fun m hm z => (H m hm).2.2.2)
  · rw [pk_un z]
    obtain ⟨k1, k2, k3, k4⟩ := H m hm
    exact ⟨k1, k2, k3⟩
  · have e : qz_hl (N l) b' = 8 := qz_hl_f _ b' (by omega)
    refine qz_BO_keep (f := F l) (n := N l) (by omega) HL.2.2.1 ?_ (fun i hi => hg i (by omega)) rfl (fun _ _ _ => rfl) (HL.2.2.2 b' (by omega))
    rw [e]; exact qz_hl_f n b' (by omega)
end
end
section
/-! the reference: looking up and changing -/
def qz_bad (v : Int32) : Prop := v < 0 ∨ ¬ v ≤ 1
theorem qz_bad_or (v : Int32) : qz_bad v ∨ ∃ l, l < 2 ∧ v = nI l := by
  by_cases h0 : v < 0
  · exact Or.inl (Or.inl h0)
  · by_cases h1 : v ≤ 1
    · obtain ⟨j, hj, e⟩ := nI_of2 (n := 1) (show (1 : Int32).toInt = ((1 : Nat) : Int) from by decide) h0 h1
      exact Or.inr ⟨j, by omega, e⟩
    · exact Or.inl (Or.inr h1)
theorem qz_isN {post : Int32 → Prop} {nm ss : Nat → Int32} {v : Int32} (h : qz_bad v) (hp : post 0) : wpY_isList post (nm, ss) v := by
  have h0 : ¬ v = 0 := by
    intro e; subst e
    rcases h with h | h
    · exact absurd h (by decide)
    · exact h (by decide)
  have h1 : ¬ v = 1 := by
    intro e; subst e
    rcases h with h | h
    · exact absurd h (by decide)
    · exact h (by decide)
  exact br_f h0 (br_f h1 hp)
theorem qz_isY {post : Int32 → Prop} {nm ss : Nat → Int32} {l : Nat} (hl : l < 2) (hp : post 1) : wpY_isList post (nm, ss) (nI l) :=
  pk_eq l 0 (fun _ => hp) (fun h => br_t (show nI l = 1 from by rw [show l = 1 from by omega]; rfl) hp)
theorem qz_badY {post : Int32 → Prop} {u : SX} {v : Int32} (h : qz_bad v) (hp : post 1) : wpX_badList post u v := by
  obtain ⟨hd, cu, sz, la, pk, co, nu, al⟩ := u
  by_cases h0 : v < 0
  · exact br_t h0 hp
  · rcases h with h | h
    · exact absurd h h0
    · exact br_f h0 (br_f h hp)
theorem qz_badN {post : Int32 → Prop} {u : SX} {l : Nat} (hl : l < 2) (hp : post 0) : wpX_badList post u (nI l) := by
  obtain ⟨hd, cu, sz, la, pk, co, nu, al⟩ := u
  exact br_f (nI_pos (by omega)) (pk_le l 1 (fun _ => hp) (fun h => absurd h (by omega)))
theorem qz_i64 (l i : Nat) : 64 * nI l + nI i = nI (64 * l + i) := by
  show nI 64 * nI l + nI i = _
  rw [pk_mul, nI_add]
theorem qz_eqx {n : Nat} {x : Int32} (hn : n < 2 ^ 31) : nI n = x ↔ (n : Int) = x.toInt := by rw [← Int32.toInt_inj, nI_toInt hn]
theorem qz_ltx2 {n : Nat} {x : Int32} (hn : n < 2 ^ 31) : nI n < x ↔ (n : Int) < x.toInt := by rw [Int32.lt_iff_toInt_lt, nI_toInt hn]
theorem qz_lex2 {n : Nat} {x : Int32} (hn : n < 2 ^ 31) : nI n ≤ x ↔ (n : Int) ≤ x.toInt := by rw [Int32.le_iff_toInt_le, nI_toInt hn]
/-- x is in the list -/
def qz_In (f : Nat → Nat) (n : Nat) (x : Int32) : Prop := ∃ i, i < n ∧ (f i : Int) = x.toInt
theorem qz_In_iff {f : Nat → Nat} {n k : Nat} {x : Int32} (A : qz_Asc f n) (h : qz_FF f n x k) : qz_In f n x ↔ k < n ∧ (f k : Int) = x.toInt := by
  obtain ⟨h1, h2, h3⟩ := h
  constructor
  · intro ⟨i, hi, e⟩
    rcases Nat.lt_trichotomy i k with z | z | z
    · have := h2 i z
      omega
    · subst z; exact ⟨hi, e⟩
    · have g1 := h3 (by omega)
      have g2 := A.2 k i z hi
      omega
  · intro ⟨h, e⟩
    exact ⟨k, h, e⟩
section
variable {nm ss : Nat → Int32}
theorem qz_lastOf {post : Int32 → Prop} {f : Nat → Nat} {l n : Nat} (hl : l < 2) (hn : n ≤ 64) (H : qz_LY l f n nm ss) (hp : post (nI (qz_pv f n) - 1)) : wpY_lastOf post (nm, ss) (nI l) := by
  obtain ⟨h1, h2⟩ := H
  have hin : vp_in (nI l) 2 := vp_in_nI hl (by omega)
  have hcl : (nI l).toNatClampNeg = l := nI_clamp (by omega)
  refine ⟨hin, ?_⟩
  rw [hcl, h1]
  refine pk_eq n 0 (fun h => ?_) (fun h => ⟨hin, ?_⟩)
  · subst h; exact hp
  · obtain ⟨m, rfl⟩ : ∃ m, n = m + 1 := ⟨n - 1, by omega⟩
    rw [qz_pv_s, nI_pred] at hp
    have e : 64 * nI l + nI (m + 1) - 1 = nI (64 * l + m) := by
      rw [qz_i64]; exact nI_pred (64 * l + m)
    rw [e]
    refine ⟨vp_in_nI (by omega) (by omega), ?_⟩
    rw [nI_clamp (by omega), h2 m (by omega)]
    exact hp
theorem qz_Y_put {post : SY → Prop} {F : Nat → Nat → Nat} {N : Nat → Nat} {l x : Nat} (hl : l < 2) (hn : N l < 64) (H : qz_Y F N nm ss) (hN : ∀ m, m < 2 → N m ≤ 64)
    (hp : ∀ nm' ss', ss' = upd ss l (nI (N l + 1)) → qz_Y (qz_set F l (qz_app (F l) (N l) x)) (qz_set N l (N l + 1)) nm' ss' → post (nm', ss')) : wpY_put post (nm, ss) (nI l) (nI x) := by
  have hin : vp_in (nI l) 2 := vp_in_nI hl (by omega)
  have hcl : (nI l).toNatClampNeg = l := nI_clamp (by omega)
  have h1 := (H l hl).1
  refine ⟨hin, ?_⟩
  rw [hcl, h1, qz_i64]
  refine ⟨vp_in_nI (by omega) (by omega), nm_r (e' := upd nm (64 * l + N l) (nI x)) (by rw [nI_clamp (by omega)]) ⟨hin, hin, nm_r (e' := upd ss l (nI (N l + 1))) (by rw [nI_1]) (hp _ _ rfl ?_)⟩⟩
  intro m hm
  obtain ⟨k1, k2⟩ := H m hm
  have k3 := hN m hm
  by_cases z : m = l
  · subst z
    rw [qz_set_s, qz_set_s]
    refine ⟨pk_us, fun i hi => ?_⟩
    by_cases y : i = N m
    · rw [y, pk_us, qz_app_s]
    · rw [pk_un (by omega), qz_app_n y]
      exact k2 i (by omega)
  · rw [qz_set_n z, qz_set_n z]
    refine ⟨(pk_un z).trans k1, fun i hi => ?_⟩
    rw [pk_un (by omega)]
    exact k2 i hi
theorem qz_has_12 {post : Int32 → Prop} {f : Nat → Nat} {l n : Nat} {x : Int32} (hl : l < 2) (hn : n ≤ 64) (A : qz_Asc f n) (H : qz_LY l f n nm ss)
    (hp1 : qz_In f n x → post 1) (hp0 : ¬ qz_In f n x → post 0) :
    ∀ d i fuel : Nat, i + d = n → d < fuel → (∀ j, j < i → ¬ (f j : Int) = x.toInt) → wY_has_12 post (nI l) x nm ss fuel (nI i) := by
  obtain ⟨h1, h2⟩ := H
  have hin : vp_in (nI l) 2 := vp_in_nI hl (by omega)
  have hcl : (nI l).toNatClampNeg = l := nI_clamp (by omega)
  intro d
  induction d with
  | zero =>
    intro i fuel hi hf hj
    obtain ⟨m, rfl⟩ : ∃ m, fuel = m + 1 := ⟨fuel - 1, by omega⟩
    obtain rfl : i = n := by omega
    refine ⟨hin, ?_⟩
    rw [hcl, h1]
    refine br_t (nI_le (Nat.le_refl i) (by omega)) (hp0 ?_)
    intro ⟨j, hj1, hj2⟩
    exact hj j hj1 hj2
  | succ d ih =>
    intro i fuel hi hf hj
    obtain ⟨m, rfl⟩ : ∃ m, fuel = m + 1 := ⟨fuel - 1, by omega⟩
    have hfi := A.1 i (by omega)
    refine ⟨hin, ?_⟩
    rw [hcl, h1, qz_i64]
    refine br_f (nI_ge (by omega) (by omega)) ⟨vp_in_nI (by omega) (by omega), ?_⟩
    rw [nI_clamp (by omega), h2 i (by omega), qz_eqx (by omega)]
    refine br_c (fun z => hp1 ⟨i, by omega, z⟩) (fun z => nm_r (nI_1 i) (ih (i + 1) m (by omega) (by omega) (fun j hj2 => ?_)))
    rcases Nat.lt_or_ge j i with y | y
    · exact hj j y
    · obtain rfl : j = i := by omega
      exact z
theorem qz_Y_has {post : Int32 → Prop} {f : Nat → Nat} {l n : Nat} {x : Int32} (hl : l < 2) (hn : n ≤ 64) (A : qz_Asc f n) (H : qz_LY l f n nm ss)
    (hp1 : qz_In f n x → post 1) (hp0 : ¬ qz_In f n x → post 0) : wpY_has post (nm, ss) (nI l) x := by
  unfold wpY_has
  dsimp only
  exact qz_isY hl (br_f (by decide) ⟨n + 1, qz_has_12 hl hn A H hp1 hp0 n 0 (n + 1) (by omega) (by omega) (fun j hj => absurd hj (by omega))⟩)
theorem qz_seek_12 {post : Int32 → Prop} {f : Nat → Nat} {l n : Nat} {x : Int32} (hl : l < 2) (hn : n ≤ 64) (A : qz_Asc f n) (H : qz_LY l f n nm ss)
    (hp : ∀ k, qz_FF f n x k → post (if k < n then nI k else -4)) :
    ∀ d i fuel : Nat, i + d = n → d < fuel → (∀ j, j < i → (f j : Int) < x.toInt) → wY_seek_12 post (nI l) x nm ss fuel (nI i) := by
  obtain ⟨h1, h2⟩ := H
  have hin : vp_in (nI l) 2 := vp_in_nI hl (by omega)
  have hcl : (nI l).toNatClampNeg = l := nI_clamp (by omega)
  intro d
  induction d with
  | zero =>
    intro i fuel hi hf hj
    obtain ⟨m, rfl⟩ : ∃ m, fuel = m + 1 := ⟨fuel - 1, by omega⟩
    obtain rfl : i = n := by omega
    refine ⟨hin, ?_⟩
    rw [hcl, h1]
    have := hp i ⟨Nat.le_refl i, hj, fun z => absurd z (by omega)⟩
    rw [if_neg (by omega)] at this
    exact br_t (nI_le (Nat.le_refl i) (by omega)) this
  | succ d ih =>
    intro i fuel hi hf hj
    obtain ⟨m, rfl⟩ : ∃ m, fuel = m + 1 := ⟨fuel - 1, by omega⟩
    have hfi := A.1 i (by omega)
    refine ⟨hin, ?_⟩
    rw [hcl, h1, qz_i64]
    refine br_f (nI_ge (by omega) (by omega)) ⟨vp_in_nI (by omega) (by omega), ?_⟩
    rw [nI_clamp (by omega), h2 i (by omega), qz_ltx2 (by omega)]
    refine br_c (fun z => nm_r (nI_1 i) (ih (i + 1) m (by omega) (by omega) (fun j hj2 => ?_))) (fun z => ?_)
    · rcases Nat.lt_or_ge j i with y | y
      · exact hj j y
      · obtain rfl : j = i := by omega
        exact z
    · have := hp i ⟨by omega, hj, fun _ => by omega⟩
      rw [if_pos (by omega)] at this
      exact this
theorem qz_Y_seek {post : Int32 → Prop} {f : Nat → Nat} {l n : Nat} {x : Int32} (hl : l < 2) (hn : n ≤ 64) (A : qz_Asc f n) (H : qz_LY l f n nm ss)
    (hp : ∀ k, qz_FF f n x k → post (if k < n then nI k else -4)) : wpY_seek post (nm, ss) (nI l) x := by
  unfold wpY_seek
  dsimp only
  exact qz_isY hl (br_f (by decide) ⟨n + 1, qz_seek_12 hl hn A H hp n 0 (n + 1) (by omega) (by omega) (fun j hj => absurd hj (by omega))⟩)
end
end
section
/-! the relation, and the methods without a loop of their own -/
/-- both sides hold the same two lists -/
def i_Rel (k : Nat) (u : SX) (v : SY) : Prop := ∃ F N, qz_X F N u.2.2.1 u.2.2.2.1 u.2.2.2.2.1 ∧ qz_Y F N v.1 v.2
theorem i_up {k : Nat} {u : SX} {v : SY} (h : i_Rel k u v) : i_Rel (k + 4) u v := h
theorem qz_LX0 {l : Nat} {f : Nat → Nat} {sz la pk : Nat → Int32} (h : sz l = nI 0) : qz_LX l f 0 sz la pk :=
  ⟨h, by omega, ⟨fun i hi => absurd hi (by omega), fun i j _ hj => absurd hj (by omega)⟩, fun b hb => absurd hb (by omega)⟩
theorem i_vc0 : wpX_init (fun u => wpY_init (fun v => i_Rel 0 u v)) := by
  refine ⟨fun _ _ => 0, fun _ => 0, fun l hl => qz_LX0 rfl, fun l hl => ⟨rfl, fun i hi => absurd hi (Nat.not_lt_zero i)⟩⟩
def qz_nbad (v : Int32) : Prop := v < 0 ∨ ¬ v ≤ 1000000
theorem qz_num_or (v : Int32) : qz_nbad v ∨ ∃ x, x ≤ 1000000 ∧ v = nI x := by
  by_cases h0 : v < 0
  · exact Or.inl (Or.inl h0)
  · by_cases h1 : v ≤ 1000000
    · obtain ⟨j, hj, e⟩ := nI_of2 (n := 1000000) (show (1000000 : Int32).toInt = ((1000000 : Nat) : Int) from by decide) h0 h1
      exact Or.inr ⟨j, hj, e⟩
    · exact Or.inl (Or.inr h1)
theorem qz_nbY {post : Int32 → Prop} {u : SX} {v : Int32} (h : qz_nbad v) (hp : post 1) : wpX_badNumber post u v := by
  obtain ⟨hd, cu, sz, la, pk, co, nu, al⟩ := u
  by_cases h0 : v < 0
  · exact br_t h0 hp
  · rcases h with h | h
    · exact absurd h h0
    · exact br_f h0 (br_f h hp)
theorem qz_nbN {post : Int32 → Prop} {u : SX} {x : Nat} (hx : x ≤ 1000000) (hp : post 0) : wpX_badNumber post u (nI x) := by
  obtain ⟨hd, cu, sz, la, pk, co, nu, al⟩ := u
  exact br_f (nI_pos (by omega)) (pk_le x 1000000 (fun _ => hp) (fun h => absurd h (by omega)))
theorem qz_inN {post : Int32 → Prop} {nm ss : Nat → Int32} {v : Int32} (h : qz_nbad v) (hp : post 0) : wpY_isNumber post (nm, ss) v := by
  by_cases h0 : v < 0
  · exact br_t h0 hp
  · rcases h with h | h
    · exact absurd h h0
    · exact br_f h0 (br_t (Int32.not_le.mp h) hp)
theorem qz_inY {post : Int32 → Prop} {nm ss : Nat → Int32} {x : Nat} (hx : x ≤ 1000000) (hp : post 1) : wpY_isNumber post (nm, ss) (nI x) :=
  br_f (nI_pos (by omega)) (pk_lt 1000000 x (fun h => absurd h (by omega)) (fun _ => hp))
theorem qz_pvlt {p x : Nat} (hp : p ≤ 1000001) (hx : x ≤ 1000000) : nI p - 1 < nI x ↔ p ≤ x := by
  rw [Int32.lt_iff_toInt_lt, nI_toInt (by omega), show nI p - 1 = nI p - nI 1 from rfl, pk_sub_toInt (by omega) (by omega)]
  omega
theorem qz_pv_b {f : Nat → Nat} {n : Nat} (A : qz_Asc f n) : qz_pv f n ≤ 1000001 := by
  unfold qz_pv
  by_cases h : n = 0
  · rw [if_pos h]; omega
  · rw [if_neg h]
    have := A.1 (n - 1) (by omega)
    omega
theorem qz_N64 {F : Nat → Nat → Nat} {N : Nat → Nat} {sz la pk : Nat → Int32} (H : qz_X F N sz la pk) : ∀ m, m < 2 → N m ≤ 64 := fun m hm => (H m hm).2.1
theorem i_vc_append {k : Nat} {u : SX} {v : SY} (I : i_Rel k u v) (hk : k + 4 ≤ 2048) (v1 : Int32) (v2 : Int32) : wpX_append (fun r u' => wpY_append (fun r' v' => r' = r ∧ i_Rel (k + 4) u' v') v v1 v2) u v1 v2 := by
  obtain ⟨F, N, hX, hY⟩ := I
  obtain ⟨hd, cu, sz, la, pk, co, nu, al⟩ := u
  obtain ⟨nm, ss⟩ := v
  dsimp only at hX hY
  unfold wpX_append
  dsimp only
  rcases qz_bad_or v1 with hb | ⟨l, hl, rfl⟩
  · refine qz_badY hb (br_f (by decide) ?_)
    unfold wpY_append
    dsimp only
    exact qz_isN hb (br_t rfl ⟨rfl, F, N, hX, hY⟩)
  · refine qz_badN hl (br_t rfl ?_)
    have hin : vp_in (nI l) 2 := vp_in_nI hl (by omega)
    have hcl : (nI l).toNatClampNeg = l := nI_clamp (by omega)
    rcases qz_num_or v2 with hb | ⟨x, hx, rfl⟩
    · refine qz_nbY hb (br_f (by decide) ?_)
      unfold wpY_append
      dsimp only
      exact qz_isY hl (br_f (by decide) (qz_inN hb (br_t rfl ⟨rfl, F, N, hX, hY⟩)))
    · have hn := (hX l hl).2.1
      have hz := (hX l hl).1
      have hs := (hY l hl).1
      have hpb := qz_pv_b (hX l hl).2.2.1
      refine qz_nbN hx (br_t rfl (qz_lastNumber hl (hX l hl) ?_))
      by_cases h : qz_pv (F l) (N l) ≤ x
      · refine br_t ((qz_pvlt hpb hx).mpr h) ⟨hin, ?_⟩
        rw [hcl, hz]
        refine pk_eq (N l) 64 (fun e => ?_) (fun e => ?_)
        · unfold wpY_append
          dsimp only
          refine qz_isY hl (br_f (by decide) (qz_inY hx (br_f (by decide) (qz_lastOf hl hn (hY l hl) (br_t ((qz_pvlt hpb hx).mpr h) ⟨hin, ?_⟩)))))
          rw [hcl, hs]
          exact pk_eq (N l) 64 (fun _ => ⟨rfl, F, N, hX, hY⟩) (fun z => absurd e z)
        · refine qz_attach hl hX (by omega) h hx (fun hd' cu' sz' la' pk' co' nu' e1 hX' => ⟨hin, ?_⟩)
          unfold wpY_append
          dsimp only
          refine qz_isY hl (br_f (by decide) (qz_inY hx (br_f (by decide) (qz_lastOf hl hn (hY l hl) (br_t ((qz_pvlt hpb hx).mpr h) ⟨hin, ?_⟩)))))
          rw [hcl, hs]
          refine pk_eq (N l) 64 (fun z => absurd z e) (fun _ => qz_Y_put hl (by omega) hY (qz_N64 hX) (fun nm' ss' e2 hY' => ⟨hin, ?_, _, _, hX', hY'⟩))
          dsimp only
          rw [e1, e2, pk_us, pk_us]
      · refine br_f (fun z => h ((qz_pvlt hpb hx).mp z)) ?_
        unfold wpY_append
        dsimp only
        exact qz_isY hl (br_f (by decide) (qz_inY hx (br_f (by decide) (qz_lastOf hl hn (hY l hl) (br_f (fun z => h ((qz_pvlt hpb hx).mp z)) ⟨rfl, F, N, hX, hY⟩)))))
theorem i_vc_clear {k : Nat} {u : SX} {v : SY} (I : i_Rel k u v) (hk : k + 4 ≤ 2048) (v1 : Int32) : wpX_clear (fun r u' => wpY_clear (fun r' v' => r' = r ∧ i_Rel (k + 4) u' v') v v1) u v1 := by
  obtain ⟨F, N, hX, hY⟩ := I
  obtain ⟨hd, cu, sz, la, pk, co, nu, al⟩ := u
  obtain ⟨nm, ss⟩ := v
  dsimp only at hX hY
  unfold wpX_clear
  dsimp only
  rcases qz_bad_or v1 with hb | ⟨l, hl, rfl⟩
  · refine qz_badY hb (br_f (by decide) ?_)
    unfold wpY_clear
    dsimp only
    exact qz_isN hb (br_t rfl ⟨rfl, F, N, hX, hY⟩)
  · have hin : vp_in (nI l) 2 := vp_in_nI hl (by omega)
    have hcl : (nI l).toNatClampNeg = l := nI_clamp (by omega)
    have hz := (hX l hl).1
    have hs := (hY l hl).1
    refine qz_badN hl (br_t rfl ⟨hin, nm_r (e' := nI (N l)) (by rw [hcl, hz]) ⟨hin, nm_r (e' := upd sz l (nI 0)) (by rw [hcl]; rfl) ?_⟩⟩)
    unfold wpY_clear
    dsimp only
    refine qz_isY hl (br_f (by decide) ⟨hin, nm_r (e' := nI (N l)) (by rw [hcl, hs]) ⟨hin, nm_r (e' := upd ss l (nI 0)) (by rw [hcl]; rfl) ⟨rfl, F, qz_set N l 0, fun m hm => ?_, fun m hm => ?_⟩⟩⟩)
    · by_cases z : m = l
      · subst z
        rw [qz_set_s]
        exact ⟨pk_us, by omega, ⟨fun i hi => absurd hi (by omega), fun i j _ hj => absurd hj (by omega)⟩, fun b hb => absurd hb (by omega)⟩
      · rw [qz_set_n z]
        obtain ⟨k1, k2, k3, k4⟩ := hX m hm
        exact ⟨(pk_un z).trans k1, k2, k3, k4⟩
    · by_cases z : m = l
      · subst z
        rw [qz_set_s]
        exact ⟨pk_us, fun i hi => absurd hi (by omega)⟩
      · rw [qz_set_n z]
        exact ⟨(pk_un z).trans (hY m hm).1, (hY m hm).2⟩
theorem i_vc_size {k : Nat} {u : SX} {v : SY} (I : i_Rel k u v) (hk : k + 4 ≤ 2048) (v1 : Int32) : wpX_size (fun r => wpY_size (fun r' => r' = r ∧ i_Rel (k + 4) u v) v v1) u v1 := by
  obtain ⟨F, N, hX, hY⟩ := I
  obtain ⟨hd, cu, sz, la, pk, co, nu, al⟩ := u
  obtain ⟨nm, ss⟩ := v
  dsimp only at hX hY
  unfold wpX_size
  dsimp only
  rcases qz_bad_or v1 with hb | ⟨l, hl, rfl⟩
  · refine qz_badY hb (br_f (by decide) ?_)
    unfold wpY_size
    dsimp only
    exact qz_isN hb (br_t rfl ⟨rfl, F, N, hX, hY⟩)
  · have hin : vp_in (nI l) 2 := vp_in_nI hl (by omega)
    have hcl : (nI l).toNatClampNeg = l := nI_clamp (by omega)
    refine qz_badN hl (br_t rfl ⟨hin, ?_⟩)
    unfold wpY_size
    dsimp only
    refine qz_isY hl (br_f (by decide) ⟨hin, ?_, F, N, hX, hY⟩)
    rw [hcl, (hX l hl).1, (hY l hl).1]
theorem i_vc_at {k : Nat} {u : SX} {v : SY} (I : i_Rel k u v) (hk : k + 4 ≤ 2048) (v1 : Int32) (v2 : Int32) : wpX_at (fun r u' => wpY_at (fun r' => r' = r ∧ i_Rel (k + 4) u' v) v v1 v2) u v1 v2 := by
  obtain ⟨F, N, hX, hY⟩ := I
  obtain ⟨hd, cu, sz, la, pk, co, nu, al⟩ := u
  obtain ⟨nm, ss⟩ := v
  dsimp only at hX hY
  unfold wpX_at
  dsimp only
  rcases qz_bad_or v1 with hb | ⟨l, hl, rfl⟩
  · refine qz_badY hb (br_f (by decide) ?_)
    unfold wpY_at
    dsimp only
    exact qz_isN hb (br_t rfl ⟨rfl, F, N, hX, hY⟩)
  · have hin : vp_in (nI l) 2 := vp_in_nI hl (by omega)
    have hcl : (nI l).toNatClampNeg = l := nI_clamp (by omega)
    have hz := (hX l hl).1
    have hn := (hX l hl).2.1
    have hs := (hY l hl).1
    refine qz_badN hl (br_t rfl ?_)
    by_cases h0 : v2 < 0
    · refine br_t h0 ?_
      unfold wpY_at
      dsimp only
      exact qz_isY hl (br_f (by decide) (br_t h0 ⟨rfl, F, N, hX, hY⟩))
    · refine br_f h0 ⟨hin, ?_⟩
      obtain ⟨i, hi, rfl⟩ := nI_of h0
      rw [hcl, hz]
      refine pk_lt i (N l) (fun h => ?_) (fun h => ?_)
      · refine qz_numberAt hl h (hX l hl) (fun hd' cu' co' nu' => ?_)
        unfold wpY_at
        dsimp only
        refine qz_isY hl (br_f (by decide) (br_f h0 ⟨hin, ?_⟩))
        rw [hcl, hs, qz_i64]
        refine pk_lt i (N l) (fun _ => ⟨vp_in_nI (by omega) (by omega), ?_, F, N, hX, hY⟩) (fun z => absurd h (by omega))
        rw [nI_clamp (by omega), (hY l hl).2 i h]
      · unfold wpY_at
        dsimp only
        refine qz_isY hl (br_f (by decide) (br_f h0 ⟨hin, ?_⟩))
        rw [hcl, hs]
        exact pk_lt i (N l) (fun z => absurd h (by omega)) (fun _ => ⟨rfl, F, N, hX, hY⟩)
theorem i_vc_seek {k : Nat} {u : SX} {v : SY} (I : i_Rel k u v) (hk : k + 4 ≤ 2048) (v1 : Int32) (v2 : Int32) : wpX_seek (fun r u' => wpY_seek (fun r' => r' = r ∧ i_Rel (k + 4) u' v) v v1 v2) u v1 v2 := by
  obtain ⟨F, N, hX, hY⟩ := I
  obtain ⟨hd, cu, sz, la, pk, co, nu, al⟩ := u
  obtain ⟨nm, ss⟩ := v
  dsimp only at hX hY
  unfold wpX_seek
  dsimp only
  rcases qz_bad_or v1 with hb | ⟨l, hl, rfl⟩
  · refine qz_badY hb (br_f (by decide) ?_)
    unfold wpY_seek
    dsimp only
    exact qz_isN hb (br_t rfl ⟨rfl, F, N, hX, hY⟩)
  · have hin : vp_in (nI l) 2 := vp_in_nI hl (by omega)
    have hcl : (nI l).toNatClampNeg = l := nI_clamp (by omega)
    have hz := (hX l hl).1
    have hn := (hX l hl).2.1
    refine qz_badN hl (br_t rfl (qz_firstFrom hl (hX l hl) (fun p hd' cu' co' nu' hF _ => ⟨hin, ?_⟩)))
    have hp := hF.1
    dsimp only
    rw [hcl, hz]
    refine pk_eq p (N l) (fun e => ?_) (fun e => ?_)
    · refine qz_Y_seek hl hn (hX l hl).2.2.1 (hY l hl) (fun p' hF' => ⟨?_, F, N, hX, hY⟩)
      rw [← qz_FF_u hF hF', if_neg (by omega)]
    · refine qz_Y_seek hl hn (hX l hl).2.2.1 (hY l hl) (fun p' hF' => ⟨?_, F, N, hX, hY⟩)
      rw [← qz_FF_u hF hF', if_pos (by omega)]
section
variable {hd cu : Int32} {sz la pk co nu al : Nat → Int32}
theorem qz_X_has {post : Int32 → SX → Prop} {f : Nat → Nat} {l n : Nat} {x : Int32} (hl : l < 2) (H : qz_LX l f n sz la pk)
    (hp1 : qz_In f n x → ∀ hd' cu' co' nu', post 1 (hd', cu', sz, la, pk, co', nu', al)) (hp0 : ¬ qz_In f n x → ∀ hd' cu' co' nu', post 0 (hd', cu', sz, la, pk, co', nu', al)) :
    wpX_has post (hd, cu, sz, la, pk, co, nu, al) (nI l) x := by
  have hn := H.2.1
  have A := H.2.2.1
  unfold wpX_has
  dsimp only
  refine qz_badN hl (br_t rfl (qz_firstFrom hl H (fun p hd' cu' co' nu' hF hnu => ⟨vp_in_nI hl (by omega), ?_⟩)))
  have hp := hF.1
  dsimp only
  rw [nI_clamp (by omega), H.1]
  refine pk_le n p (fun h => ?_) (fun h => ?_)
  · exact hp0 (fun z => by have := ((qz_In_iff A hF).mp z).1; omega) _ _ _ _
  · have hfp := A.1 p h
    rw [qz_and7 (by omega)]
    refine ⟨vp_in_nI (by omega) (by omega), ?_⟩
    rw [nI_clamp (by omega), hnu h, qz_eqx (by omega)]
    exact br_c (fun z => hp1 ((qz_In_iff A hF).mpr ⟨h, z⟩) _ _ _ _) (fun z => hp0 (fun y => z ((qz_In_iff A hF).mp y).2) _ _ _ _)
end
theorem i_vc_has {k : Nat} {u : SX} {v : SY} (I : i_Rel k u v) (hk : k + 4 ≤ 2048) (v1 : Int32) (v2 : Int32) : wpX_has (fun r u' => wpY_has (fun r' => r' = r ∧ i_Rel (k + 4) u' v) v v1 v2) u v1 v2 := by
  obtain ⟨F, N, hX, hY⟩ := I
  obtain ⟨hd, cu, sz, la, pk, co, nu, al⟩ := u
  obtain ⟨nm, ss⟩ := v
  dsimp only at hX hY
  rcases qz_bad_or v1 with hb | ⟨l, hl, rfl⟩
  · unfold wpX_has
    dsimp only
    refine qz_badY hb (br_f (by decide) ?_)
    unfold wpY_has
    dsimp only
    exact qz_isN hb (br_t rfl ⟨rfl, F, N, hX, hY⟩)
  · have hn := (hX l hl).2.1
    have A := (hX l hl).2.2.1
    refine qz_X_has hl (hX l hl) (fun h hd' cu' co' nu' => ?_) (fun h hd' cu' co' nu' => ?_)
    · exact qz_Y_has hl hn A (hY l hl) (fun _ => ⟨rfl, F, N, hX, hY⟩) (fun z => absurd h z)
    · exact qz_Y_has hl hn A (hY l hl) (fun z => absurd z h) (fun _ => ⟨rfl, F, N, hX, hY⟩)
theorem i_vc_blocks {k : Nat} {u : SX} {v : SY} (I : i_Rel k u v) (hk : k + 4 ≤ 2048) (v1 : Int32) : wpX_blocks (fun r => wpY_blocks (fun r' => r' = r ∧ i_Rel (k + 4) u v) v v1) u v1 := by
  obtain ⟨F, N, hX, hY⟩ := I
  obtain ⟨hd, cu, sz, la, pk, co, nu, al⟩ := u
  obtain ⟨nm, ss⟩ := v
  dsimp only at hX hY
  unfold wpX_blocks
  dsimp only
  rcases qz_bad_or v1 with hb | ⟨l, hl, rfl⟩
  · refine qz_badY hb (br_f (by decide) ?_)
    unfold wpY_blocks
    dsimp only
    exact qz_isN hb (br_t rfl ⟨rfl, F, N, hX, hY⟩)
  · have hin : vp_in (nI l) 2 := vp_in_nI hl (by omega)
    have hn := (hX l hl).2.1
    refine qz_badN hl (br_t rfl (qz_blockCount hl (hX l hl).1 hn ?_))
    unfold wpY_blocks
    dsimp only
    refine qz_isY hl (br_f (by decide) ⟨hin, by decide, ?_, F, N, hX, hY⟩)
    rw [nI_clamp (by omega), (hY l hl).1]
    show (nI (N l) + nI 7) / nI 8 = _
    rw [nI_add, pk_div (by omega) (by omega) (by omega)]
end
section
/-! run -/
/-- f with d more numbers at steps of st -/
def qz_it (f : Nat → Nat) (n st : Nat) : Nat → Nat → Nat
  | 0 => f
  | d + 1 => qz_app (qz_it f n st d) (n + d) (qz_pv (qz_it f n st d) (n + d) + st - 1)
theorem qz_it_pv {f : Nat → Nat} {n st : Nat} (hst : 1 ≤ st) : ∀ d : Nat, qz_pv (qz_it f n st d) (n + d) = qz_pv f n + d * st
  | 0 => by rw [Nat.zero_mul]; rfl
  | d + 1 => by
    have ih := qz_it_pv (f := f) (n := n) hst d
    rw [show n + (d + 1) = n + d + 1 from by omega, qz_pv_s]
    show qz_app (qz_it f n st d) (n + d) (qz_pv (qz_it f n st d) (n + d) + st - 1) (n + d) + 1 = _
    rw [qz_app_s, ih, Nat.succ_mul]
    omega
theorem qz_set_set {α : Type} {F : Nat → α} {l : Nat} {g g' : α} : qz_set (qz_set F l g) l g' = qz_set F l g' := by
  funext m
  by_cases h : m = l
  · subst h; rw [qz_set_s, qz_set_s]
  · rw [qz_set_n h, qz_set_n h, qz_set_n h]
theorem qz_set_id {α : Type} {F : Nat → α} {l : Nat} : qz_set F l (F l) = F := by
  funext m
  by_cases h : m = l
  · subst h; rw [qz_set_s]
  · rw [qz_set_n h]
theorem qz_addst {p s : Nat} (hs : 1 ≤ s) : nI p - 1 + nI s = nI (p + s - 1) := by
  obtain ⟨t, rfl⟩ : ∃ t, s = t + 1 := ⟨s - 1, by omega⟩
  rw [show p + (t + 1) - 1 = p + t from by omega, ← nI_1 t, ← nI_add p t]
  generalize nI p = a
  generalize nI t = b
  grind
theorem qz_grd {p q : Nat} (hp : p ≤ 1000001) (hq : q ≤ 64000) : nI p - 1 + nI q ≤ 1000000 ↔ p + q ≤ 1000001 := by
  have e : nI p - 1 + nI q = nI (p + q) - nI 1 := by
    rw [← nI_add]
    show nI p - nI 1 + nI q = _
    generalize nI p = a
    generalize nI q = b
    generalize nI 1 = c
    grind
  rw [Int32.le_iff_toInt_le, e, pk_sub_toInt (by omega) (by omega), show (1000000 : Int32).toInt = 1000000 from by decide]
  omega
theorem qz_stb {i cnt st : Nat} (h : i < cnt) : i * st + st ≤ cnt * st := by
  have := Nat.mul_le_mul_right st (show i + 1 ≤ cnt from h)
  rw [Nat.succ_mul] at this
  exact this
section
variable {al : Nat → Int32}
theorem qz_run_75 {post : Int32 → SX → Prop} {F : Nat → Nat → Nat} {N : Nat → Nat} {l cnt st : Nat} (hl : l < 2) (h1 : N l + cnt ≤ 64) (h2 : qz_pv (F l) (N l) + cnt * st ≤ 1000001) (hst : 1 ≤ st)
    (hp : ∀ hd' cu' sz' la' pk' co' nu', qz_X (qz_set F l (qz_it (F l) (N l) st cnt)) (qz_set N l (N l + cnt)) sz' la' pk' → post (nI (N l + cnt)) (hd', cu', sz', la', pk', co', nu', al)) :
    ∀ (d i fuel : Nat) (hd cu : Int32) (sz la pk co nu : Nat → Int32), i + d = cnt → d < fuel → qz_X (qz_set F l (qz_it (F l) (N l) st i)) (qz_set N l (N l + i)) sz la pk →
      wX_run_75 post (nI l) (nI cnt) (nI st) fuel (nI (qz_pv (qz_it (F l) (N l) st i) (N l + i)) - 1) (nI i) hd cu sz la pk co nu al := by
  intro d
  induction d with
  | zero =>
    intro i fuel hd cu sz la pk co nu hi hf H
    obtain ⟨m, rfl⟩ : ∃ m, fuel = m + 1 := ⟨fuel - 1, by omega⟩
    obtain rfl : i = cnt := by omega
    refine br_t (nI_le (Nat.le_refl i) (by omega)) ⟨vp_in_nI hl (by omega), ?_⟩
    have hz := (H l hl).1
    rw [qz_set_s] at hz
    rw [nI_clamp (by omega), hz]
    exact hp _ _ _ _ _ _ _ H
  | succ d ih =>
    intro i fuel hd cu sz la pk co nu hi hf H
    obtain ⟨m, rfl⟩ : ∃ m, fuel = m + 1 := ⟨fuel - 1, by omega⟩
    have e1 := qz_it_pv (f := F l) (n := N l) hst i
    have e2 := qz_stb (st := st) (show i < cnt from by omega)
    refine br_f (nI_ge (by omega) (by omega)) (nm_r (qz_addst hst) ?_)
    refine qz_attach hl H (by rw [qz_set_s]; omega) (by rw [qz_set_s, qz_set_s]; omega) (by omega) (fun hd' cu' sz' la' pk' co' nu' _ H' => nm_r (nI_1 i) ?_)
    rw [qz_set_s, qz_set_s, qz_set_set, qz_set_set] at H'
    have := ih (i + 1) m hd' cu' sz' la' pk' co' nu' (by omega) (by omega) H'
    rw [show N l + (i + 1) = N l + i + 1 from by omega, qz_pv_s, nI_pred] at this
    rw [show qz_it (F l) (N l) st (i + 1) (N l + i) = qz_pv (qz_it (F l) (N l) st i) (N l + i) + st - 1 from qz_app_s] at this
    exact this
theorem qz_run_67 {post : Int32 → SY → Prop} {F : Nat → Nat → Nat} {N : Nat → Nat} {l cnt st : Nat} (hl : l < 2) (h1 : N l + cnt ≤ 64) (hN : ∀ m, m < 2 → N m ≤ 64) (hst : 1 ≤ st)
    (hp : ∀ nm' ss', qz_Y (qz_set F l (qz_it (F l) (N l) st cnt)) (qz_set N l (N l + cnt)) nm' ss' → post (nI (N l + cnt)) (nm', ss')) :
    ∀ (d i fuel : Nat) (nm ss : Nat → Int32), i + d = cnt → d < fuel → qz_Y (qz_set F l (qz_it (F l) (N l) st i)) (qz_set N l (N l + i)) nm ss →
      wY_run_67 post (nI l) (nI cnt) (nI st) fuel (nI i) nm ss := by
  intro d
  induction d with
  | zero =>
    intro i fuel nm ss hi hf H
    obtain ⟨m, rfl⟩ : ∃ m, fuel = m + 1 := ⟨fuel - 1, by omega⟩
    obtain rfl : i = cnt := by omega
    refine br_t (nI_le (Nat.le_refl i) (by omega)) ⟨vp_in_nI hl (by omega), ?_⟩
    have hz := (H l hl).1
    rw [qz_set_s] at hz
    rw [nI_clamp (by omega), hz]
    exact hp _ _ H
  | succ d ih =>
    intro i fuel nm ss hi hf H
    obtain ⟨m, rfl⟩ : ∃ m, fuel = m + 1 := ⟨fuel - 1, by omega⟩
    refine br_f (nI_ge (by omega) (by omega)) ?_
    refine qz_lastOf hl (by rw [qz_set_s]; omega) (H l hl) (nm_r (qz_addst hst) ?_)
    rw [qz_set_s, qz_set_s]
    refine qz_Y_put hl (by rw [qz_set_s]; omega) H (fun m hm => ?_) (fun nm' ss' _ H' => nm_r (nI_1 i) ?_)
    · by_cases z : m = l
      · subst z; rw [qz_set_s]; omega
      · rw [qz_set_n z]; exact hN m hm
    · rw [qz_set_s, qz_set_s, qz_set_set, qz_set_set] at H'
      exact ih (i + 1) m nm' ss' (by omega) (by omega) H'
end
theorem i_vc_run {k : Nat} {u : SX} {v : SY} (I : i_Rel k u v) (hk : k + 4 ≤ 2048) (v1 : Int32) (v2 : Int32) (v3 : Int32) : wpX_run (fun r u' => wpY_run (fun r' v' => r' = r ∧ i_Rel (k + 4) u' v') v v1 v2 v3) u v1 v2 v3 := by
  obtain ⟨F, N, hX, hY⟩ := I
  obtain ⟨hd, cu, sz, la, pk, co, nu, al⟩ := u
  obtain ⟨nm, ss⟩ := v
  dsimp only at hX hY
  unfold wpX_run
  dsimp only
  rcases qz_bad_or v1 with hb | ⟨l, hl, rfl⟩
  · refine qz_badY hb (br_f (by decide) ?_)
    unfold wpY_run
    dsimp only
    exact qz_isN hb (br_t rfl ⟨rfl, F, N, hX, hY⟩)
  · have hin : vp_in (nI l) 2 := vp_in_nI hl (by omega)
    have hcl : (nI l).toNatClampNeg = l := nI_clamp (by omega)
    have hn := (hX l hl).2.1
    have hz := (hX l hl).1
    have hs := (hY l hl).1
    have hpb := qz_pv_b (hX l hl).2.2.1
    refine qz_badN hl (br_t rfl ?_)
    by_cases a1 : v2 < 0
    · refine br_t a1 ?_
      unfold wpY_run
      dsimp only
      exact qz_isY hl (br_f (by decide) (br_t a1 ⟨rfl, F, N, hX, hY⟩))
    by_cases a2 : 64 < v2
    · refine br_f a1 (br_t a2 ?_)
      unfold wpY_run
      dsimp only
      exact qz_isY hl (br_f (by decide) (br_f a1 (br_t a2 ⟨rfl, F, N, hX, hY⟩)))
    by_cases a3 : v3 < 1
    · refine br_f a1 (br_f a2 (br_t a3 ?_))
      unfold wpY_run
      dsimp only
      exact qz_isY hl (br_f (by decide) (br_f a1 (br_f a2 (br_t a3 ⟨rfl, F, N, hX, hY⟩))))
    by_cases a4 : v3 ≤ 1000
    · refine br_f a1 (br_f a2 (br_f a3 (br_t a4 ⟨hin, ?_⟩)))
      obtain ⟨cnt, hcnt, rfl⟩ := nI_of2 (n := 64) (show (64 : Int32).toInt = ((64 : Nat) : Int) from by decide) a1 (Int32.not_lt.mp a2)
      have a5 : ¬ v3 < 0 := by
        rw [Int32.lt_iff_toInt_lt] at a3 ⊢
        rw [show (1 : Int32).toInt = 1 from by decide] at a3
        rw [show (0 : Int32).toInt = 0 from by decide]
        omega
      obtain ⟨st, hst, rfl⟩ := nI_of2 (n := 1000) (show (1000 : Int32).toInt = ((1000 : Nat) : Int) from by decide) a5 a4
      have hst1 : 1 ≤ st := by
        rcases Nat.lt_or_ge st 1 with z | z
        · exact absurd (nI_lt (b := 1) z (by decide)) a3
        · exact z
      have hmul : cnt * st ≤ 64000 := Nat.mul_le_mul hcnt hst
      rw [hcl, hz, nI_add, pk_mul]
      refine pk_le (N l + cnt) 64 (fun b1 => ?_) (fun b1 => ?_)
      · refine qz_lastNumber hl (hX l hl) ?_
        rw [qz_grd hpb hmul]
        by_cases b2 : qz_pv (F l) (N l) + cnt * st ≤ 1000001
        · have key : ∃ n75, wX_run_75 (fun r u' => wpY_run (fun r' v' => r' = r ∧ i_Rel (k + 4) u' v') (nm, ss) (nI l) (nI cnt) (nI st)) (nI l) (nI cnt) (nI st) n75 (nI (qz_pv (F l) (N l)) - 1) 0 hd cu sz la pk co nu al := by
            refine ⟨cnt + 1, qz_run_75 (F := F) (N := N) hl b1 b2 hst1 (fun hd' cu' sz' la' pk' co' nu' H' => ?_) cnt 0 (cnt + 1) hd cu sz la pk co nu (by omega) (by omega) ?_⟩
            · unfold wpY_run
              dsimp only
              refine qz_isY hl (br_f (by decide) (br_f a1 (br_f a2 (br_f a3 (br_t a4 ⟨hin, ?_⟩)))))
              rw [hcl, hs, nI_add, pk_mul]
              refine pk_le (N l + cnt) 64 (fun _ => qz_lastOf hl hn (hY l hl) ?_) (fun z => absurd z (by omega))
              rw [qz_grd hpb hmul]
              refine br_t b2 ⟨cnt + 1, qz_run_67 (F := F) (N := N) hl b1 (qz_N64 hX) hst1 (fun nm' ss' G => ⟨rfl, _, _, H', G⟩) cnt 0 (cnt + 1) nm ss (by omega) (by omega) ?_⟩
              show qz_Y (qz_set F l (F l)) (qz_set N l (N l)) nm ss
              rw [qz_set_id, qz_set_id]
              exact hY
            · show qz_X (qz_set F l (F l)) (qz_set N l (N l)) sz la pk
              rw [qz_set_id, qz_set_id]
              exact hX
          exact pk_le cnt 0 (fun _ => key) (fun _ => br_t b2 key)
        · refine pk_le cnt 0 (fun z => ?_) (fun _ => br_f b2 ?_)
          · obtain rfl : cnt = 0 := by omega
            exact absurd (by omega) b2
          · unfold wpY_run
            dsimp only
            refine qz_isY hl (br_f (by decide) (br_f a1 (br_f a2 (br_f a3 (br_t a4 ⟨hin, ?_⟩)))))
            rw [hcl, hs, nI_add, pk_mul]
            refine pk_le (N l + cnt) 64 (fun _ => qz_lastOf hl hn (hY l hl) ?_) (fun z => absurd z (by omega))
            rw [qz_grd hpb hmul]
            exact br_f b2 ⟨rfl, F, N, hX, hY⟩
      · unfold wpY_run
        dsimp only
        refine qz_isY hl (br_f (by decide) (br_f a1 (br_f a2 (br_f a3 (br_t a4 ⟨hin, ?_⟩)))))
        rw [hcl, hs, nI_add]
        exact pk_le (N l + cnt) 64 (fun z => absurd z (by omega)) (fun _ => ⟨rfl, F, N, hX, hY⟩)
    · refine br_f a1 (br_f a2 (br_f a3 (br_f a4 ?_)))
      unfold wpY_run
      dsimp only
      exact qz_isY hl (br_f (by decide) (br_f a1 (br_f a2 (br_f a3 (br_f a4 ⟨rfl, F, N, hX, hY⟩)))))
end
section
/-! insert and remove -/
def qz_ins (f : Nat → Nat) (p x : Nat) : Nat → Nat := fun i => if i < p then f i else if i = p then x else f (i - 1)
theorem qz_ins_lo {f : Nat → Nat} {p x i : Nat} (h : i < p) : qz_ins f p x i = f i := if_pos h
theorem qz_ins_at {f : Nat → Nat} {p x : Nat} : qz_ins f p x p = x := by
  unfold qz_ins
  rw [if_neg (by omega), if_pos rfl]
theorem qz_ins_hi {f : Nat → Nat} {p x i : Nat} (h : p ≤ i) : qz_ins f p x (i + 1) = f i := by
  unfold qz_ins
  rw [if_neg (by omega), if_neg (by omega), Nat.add_sub_cancel]
/-- place p parts the list at x -/
def qz_Cut (f : Nat → Nat) (n p x : Nat) : Prop := p ≤ n ∧ (∀ i, i < p → f i < x) ∧ (∀ i, p ≤ i → i < n → x < f i)
theorem qz_Cut_of {f : Nat → Nat} {n p x : Nat} (A : qz_Asc f n) (hx : x ≤ 1000000) (hF : qz_FF f n (nI x) p) (h : ¬ qz_In f n (nI x)) : qz_Cut f n p x := by
  have e := qz_In_iff A hF
  obtain ⟨h1, h2, h3⟩ := hF
  rw [nI_toInt (by omega)] at e h2 h3
  refine ⟨h1, fun i hi => by have := h2 i hi; omega, fun i hi hn => ?_⟩
  have g1 := h3 (by omega)
  have g2 : f p ≠ x := fun z => h (e.mpr ⟨by omega, by omega⟩)
  rcases Nat.lt_or_ge p i with z | z
  · have := A.2 p i z hn
    omega
  · obtain rfl : i = p := by omega
    omega
theorem qz_ins_Asc {f : Nat → Nat} {n p x : Nat} (A : qz_Asc f n) (hx : x ≤ 1000000) (C : qz_Cut f n p x) : qz_Asc (qz_ins f p x) (n + 1) := by
  obtain ⟨h1, h2, h3⟩ := C
  refine ⟨fun i hi => ?_, fun i j hij hj => ?_⟩
  · rcases Nat.lt_trichotomy i p with z | z | z
    · rw [qz_ins_lo z]; exact A.1 i (by omega)
    · rw [z, qz_ins_at]; exact hx
    · obtain ⟨t, rfl⟩ : ∃ t, i = t + 1 := ⟨i - 1, by omega⟩
      rw [qz_ins_hi (by omega)]; exact A.1 t (by omega)
  · rcases Nat.lt_trichotomy j p with z | z | z
    · rw [qz_ins_lo z, qz_ins_lo (by omega)]; exact A.2 i j hij (by omega)
    · rw [z, qz_ins_at, qz_ins_lo (by omega)]; exact h2 i (by omega)
    · obtain ⟨t, rfl⟩ : ∃ t, j = t + 1 := ⟨j - 1, by omega⟩
      rw [qz_ins_hi (show p ≤ t from by omega)]
      rcases Nat.lt_trichotomy i p with y | y | y
      · rw [qz_ins_lo y]; exact A.2 i t (by omega) (by omega)
      · rw [y, qz_ins_at]; exact h3 t (by omega) (by omega)
      · obtain ⟨s, rfl⟩ : ∃ s, i = s + 1 := ⟨i - 1, by omega⟩
        rw [qz_ins_hi (by omega)]; exact A.2 s t (by omega) (by omega)
def qz_del (f : Nat → Nat) (p : Nat) : Nat → Nat := fun i => if i < p then f i else f (i + 1)
theorem qz_del_lo {f : Nat → Nat} {p i : Nat} (h : i < p) : qz_del f p i = f i := if_pos h
theorem qz_del_hi {f : Nat → Nat} {p i : Nat} (h : p ≤ i) : qz_del f p i = f (i + 1) := if_neg (by omega)
theorem qz_del_Asc {f : Nat → Nat} {n p : Nat} (A : qz_Asc f (n + 1)) (hp : p ≤ n) : qz_Asc (qz_del f p) n := by
  refine ⟨fun i hi => ?_, fun i j hij hj => ?_⟩
  · rcases Nat.lt_or_ge i p with z | z
    · rw [qz_del_lo z]; exact A.1 i (by omega)
    · rw [qz_del_hi z]; exact A.1 (i + 1) (by omega)
  · rcases Nat.lt_or_ge i p with z | z
    · rw [qz_del_lo z]
      rcases Nat.lt_or_ge j p with y | y
      · rw [qz_del_lo y]; exact A.2 i j hij (by omega)
      · rw [qz_del_hi y]; exact A.2 i (j + 1) (by omega) (by omega)
    · rw [qz_del_hi z, qz_del_hi (by omega)]
      exact A.2 (i + 1) (j + 1) (by omega) (by omega)
theorem qz_Y_upd {F : Nat → Nat → Nat} {N : Nat → Nat} {nm nm' ss : Nat → Int32} {g : Nat → Nat} {l n' : Nat} (hl : l < 2) (H : qz_Y F N nm ss) (hN : ∀ m, m < 2 → N m ≤ 64)
    (h1 : ∀ j, j < n' → nm' (64 * l + j) = nI (g j)) (h2 : ∀ q, (q < 64 * l ∨ 64 * l + 64 ≤ q) → nm' q = nm q) : qz_Y (qz_set F l g) (qz_set N l n') nm' (upd ss l (nI n')) := by
  intro m hm
  by_cases z : m = l
  · subst z
    rw [qz_set_s, qz_set_s]
    exact ⟨pk_us, h1⟩
  · rw [qz_set_n z, qz_set_n z]
    have := hN m hm
    refine ⟨(pk_un z).trans (H m hm).1, fun i hi => ?_⟩
    rw [h2 _ (by omega)]
    exact (H m hm).2 i hi
section
variable {hd cu : Int32} {sz la pk co nu al : Nat → Int32}
theorem qz_insert_87 {post : Int32 → SX → Prop} {F : Nat → Nat → Nat} {N : Nat → Nat} {l p x : Nat} (hl : l < 2) (H : qz_X F N sz la pk) (hn : N l < 64) (hx : x ≤ 1000000) (C : qz_Cut (F l) (N l) p x)
    (hp : ∀ hd' cu' sz' la' pk' co' nu' al', qz_X (qz_set F l (qz_ins (F l) p x)) (qz_set N l (N l + 1)) sz' la' pk' → post (nI p) (hd', cu', sz', la', pk', co', nu', al')) :
    ∀ (d i fuel : Nat) (al : Nat → Int32), i = p + d → i ≤ N l → d < fuel → (∀ j, j < i → al j = nI (F l j)) → (∀ j, i < j → j ≤ N l → al j = nI (qz_ins (F l) p x j)) →
      wX_insert_87 post (nI l) (nI x) (nI p) hd cu fuel (nI i) sz la pk co nu al := by
  have HL := H l hl
  have C' := C
  obtain ⟨c1, c2, c3⟩ := C
  have hcl : (nI l).toNatClampNeg = l := nI_clamp (by omega)
  intro d
  induction d with
  | zero =>
    intro i fuel al hi hiN hf h1 h2
    obtain ⟨m, rfl⟩ : ∃ m, fuel = m + 1 := ⟨fuel - 1, by omega⟩
    obtain rfl : i = p := by omega
    refine br_t (nI_le (Nat.le_refl i) (by omega)) ⟨vp_in_nI (by omega) (by omega), nm_r (e' := upd al i (nI x)) (by rw [nI_clamp (by omega)]) ⟨vp_in_nI hl (by omega), ?_⟩⟩
    rw [hcl, HL.1, nI_1]
    refine qz_rebuild (g := qz_ins (F l) i x) hl H (by omega) (qz_ins_Asc HL.2.2.1 hx C') (by omega) c1 (fun j hj => qz_ins_lo hj) (fun j hj => ?_) (fun hd' cu' sz' la' pk' co' G => hp _ _ _ _ _ _ _ _ G)
    by_cases z : j = i
    · rw [z, pk_us, qz_ins_at]
    · rw [pk_un z]
      rcases Nat.lt_or_ge j i with y | y
      · rw [qz_ins_lo y]; exact h1 j y
      · exact h2 j (by omega) (by omega)
  | succ d ih =>
    intro i fuel al hi hiN hf h1 h2
    obtain ⟨m, rfl⟩ : ∃ m, fuel = m + 1 := ⟨fuel - 1, by omega⟩
    obtain ⟨t, rfl⟩ : ∃ t, i = t + 1 := ⟨i - 1, by omega⟩
    refine br_f (nI_ge (by omega) (by omega)) ?_
    rw [nI_pred]
    refine ⟨vp_in_nI (by omega) (by omega), vp_in_nI (by omega) (by omega), nm_r (e' := upd al (t + 1) (nI (F l t))) (by rw [nI_clamp (by omega), nI_clamp (by omega), h1 t (by omega)]) (nm_r (pk_m1 t) ?_)⟩
    refine ih t m _ (by omega) (by omega) (by omega) (fun j hj => ?_) (fun j hj hj2 => ?_)
    · rw [pk_un (by omega)]; exact h1 j (by omega)
    · by_cases z : j = t + 1
      · rw [z, pk_us, qz_ins_hi (by omega)]
      · rw [pk_un z]; exact h2 j (by omega) hj2
theorem qz_insert_50 {post : Int32 → SX → Prop} {F : Nat → Nat → Nat} {N : Nat → Nat} {l p x : Nat} (hl : l < 2) (H : qz_X F N sz la pk) (hx : x ≤ 1000000) (C : qz_Cut (F l) (N l) p x)
    (hp2 : N l = 64 → post (-2) (hd, cu, sz, la, pk, co, nu, al))
    (hp : N l < 64 → ∀ hd' cu' sz' la' pk' co' nu' al', qz_X (qz_set F l (qz_ins (F l) p x)) (qz_set N l (N l + 1)) sz' la' pk' → post (nI p) (hd', cu', sz', la', pk', co', nu', al')) :
    wX_insert_50 post (nI l) (nI x) (nI p) 0 hd cu sz la pk co nu al := by
  have HL := H l hl
  have hn := HL.2.1
  have hc := C.1
  have hin : vp_in (nI l) 2 := vp_in_nI hl (by omega)
  have hcl : (nI l).toNatClampNeg = l := nI_clamp (by omega)
  refine br_t rfl ⟨hin, ?_⟩
  rw [hcl, HL.1]
  refine pk_eq (N l) 64 (fun e => hp2 e) (fun e => ?_)
  refine qz_spread hl HL (fun hd' cu' co' nu' al' hal => ⟨hin, nm_r (e' := nI (N l)) HL.1 ⟨N l + 1, ?_⟩⟩)
  exact qz_insert_87 hl H (by omega) hx C (hp (by omega)) (N l - p) (N l) (N l + 1) al' (by omega) (by omega) (by omega) hal (fun j hj hj2 => absurd hj (by omega))
theorem qz_X_insert {post : Int32 → SX → Prop} {F : Nat → Nat → Nat} {N : Nat → Nat} {l x : Nat} (hl : l < 2) (H : qz_X F N sz la pk) (hx : x ≤ 1000000)
    (hp4 : qz_In (F l) (N l) (nI x) → ∀ hd' cu' co' nu', post (-4) (hd', cu', sz, la, pk, co', nu', al))
    (hp2 : ¬ qz_In (F l) (N l) (nI x) → N l = 64 → ∀ hd' cu' co' nu', post (-2) (hd', cu', sz, la, pk, co', nu', al))
    (hp : ∀ p, qz_Cut (F l) (N l) p x → ¬ qz_In (F l) (N l) (nI x) → N l < 64 → ∀ hd' cu' sz' la' pk' co' nu' al', qz_X (qz_set F l (qz_ins (F l) p x)) (qz_set N l (N l + 1)) sz' la' pk' → post (nI p) (hd', cu', sz', la', pk', co', nu', al')) :
    wpX_insert post (hd, cu, sz, la, pk, co, nu, al) (nI l) (nI x) := by
  have HL := H l hl
  have hn := HL.2.1
  have A := HL.2.2.1
  have hin : vp_in (nI l) 2 := vp_in_nI hl (by omega)
  have hcl : (nI l).toNatClampNeg = l := nI_clamp (by omega)
  unfold wpX_insert
  dsimp only
  refine qz_badN hl (br_t rfl (qz_nbN hx (br_t rfl (qz_firstFrom hl HL (fun p hd' cu' co' nu' hF _ => ⟨hin, ?_⟩)))))
  have hpn := hF.1
  have e := qz_In_iff A hF
  dsimp only
  rw [hcl, HL.1]
  refine pk_le (N l) p (fun h => ?_) (fun h => ?_)
  · have hno : ¬ qz_In (F l) (N l) (nI x) := fun z => by have := (e.mp z).1; omega
    have C := qz_Cut_of A hx hF hno
    exact qz_insert_50 hl H hx C (fun z => hp2 hno z _ _ _ _) (fun z => hp p C hno z)
  · refine qz_numberAt hl h HL (fun hd2 cu2 co2 nu2 => ?_)
    have hfp := A.1 p h
    dsimp only
    rw [qz_eqx (by omega)]
    refine br_c (fun z => ?_) (fun z => ?_)
    · exact br_f (by decide) (hp4 (e.mpr ⟨h, z⟩) _ _ _ _)
    · have hno : ¬ qz_In (F l) (N l) (nI x) := fun y => z (e.mp y).2
      have C := qz_Cut_of A hx hF hno
      exact qz_insert_50 hl H hx C (fun z => hp2 hno z _ _ _ _) (fun z => hp p C hno z)
theorem qz_remove_70 {post : Int32 → SX → Prop} {F : Nat → Nat → Nat} {N : Nat → Nat} {l p n : Nat} (hl : l < 2) (H : qz_X F N sz la pk) (hn : N l = n + 1) (hpn : p ≤ n)
    (hp : ∀ hd' cu' sz' la' pk' co' nu' al', qz_X (qz_set F l (qz_del (F l) p)) (qz_set N l n) sz' la' pk' → post (nI p) (hd', cu', sz', la', pk', co', nu', al')) :
    ∀ (d i fuel : Nat) (al : Nat → Int32), i + d = n → p ≤ i → d < fuel → (∀ j, j < i → al j = nI (qz_del (F l) p j)) → (∀ j, i ≤ j → j ≤ n → al j = nI (F l j)) →
      wX_remove_70 post (nI l) (nI p) (nI n) hd cu fuel (nI i) sz la pk co nu al := by
  have HL := H l hl
  have h64 := HL.2.1
  have A := HL.2.2.1
  rw [hn] at A
  intro d
  induction d with
  | zero =>
    intro i fuel al hi hpi hf h1 h2
    obtain ⟨m, rfl⟩ : ∃ m, fuel = m + 1 := ⟨fuel - 1, by omega⟩
    obtain rfl : i = n := by omega
    refine br_t (nI_le (Nat.le_refl i) (by omega)) ?_
    exact qz_rebuild (g := qz_del (F l) p) hl H (by omega) (qz_del_Asc A hpn) hpn (by omega) (fun j hj => qz_del_lo hj) h1 (fun hd' cu' sz' la' pk' co' G => hp _ _ _ _ _ _ _ _ G)
  | succ d ih =>
    intro i fuel al hi hpi hf h1 h2
    obtain ⟨m, rfl⟩ : ∃ m, fuel = m + 1 := ⟨fuel - 1, by omega⟩
    refine br_f (nI_ge (by omega) (by omega)) ?_
    rw [nI_1 i]
    refine ⟨vp_in_nI (by omega) (by omega), vp_in_nI (by omega) (by omega), nm_r (e' := upd al i (nI (F l (i + 1)))) (by rw [nI_clamp (by omega), nI_clamp (by omega), h2 (i + 1) (by omega) (by omega)]) (nm_e ?_)⟩
    refine ih (i + 1) m _ (by omega) (by omega) (by omega) (fun j hj => ?_) (fun j hj hj2 => ?_)
    · by_cases z : j = i
      · rw [z, pk_us, qz_del_hi hpi]
      · rw [pk_un z]; exact h1 j (by omega)
    · rw [pk_un (by omega)]; exact h2 j (by omega) hj2
theorem qz_X_remove {post : Int32 → SX → Prop} {F : Nat → Nat → Nat} {N : Nat → Nat} {l : Nat} {x : Int32} (hl : l < 2) (H : qz_X F N sz la pk)
    (hp4 : ¬ qz_In (F l) (N l) x → ∀ hd' cu' co' nu', post (-4) (hd', cu', sz, la, pk, co', nu', al))
    (hp : ∀ p n, qz_FF (F l) (N l) x p → qz_In (F l) (N l) x → N l = n + 1 → p ≤ n → ∀ hd' cu' sz' la' pk' co' nu' al', qz_X (qz_set F l (qz_del (F l) p)) (qz_set N l n) sz' la' pk' → post (nI p) (hd', cu', sz', la', pk', co', nu', al')) :
    wpX_remove post (hd, cu, sz, la, pk, co, nu, al) (nI l) x := by
  have HL := H l hl
  have hn := HL.2.1
  have A := HL.2.2.1
  have hin : vp_in (nI l) 2 := vp_in_nI hl (by omega)
  have hcl : (nI l).toNatClampNeg = l := nI_clamp (by omega)
  unfold wpX_remove
  dsimp only
  refine qz_badN hl (br_t rfl (qz_firstFrom hl HL (fun p hd' cu' co' nu' hF _ => ⟨hin, ?_⟩)))
  have hpn := hF.1
  have e := qz_In_iff A hF
  dsimp only
  rw [hcl, HL.1]
  refine pk_le (N l) p (fun h => ?_) (fun h => ?_)
  · exact br_t rfl (hp4 (fun z => by have := (e.mp z).1; omega) _ _ _ _)
  · refine qz_numberAt hl h HL (fun hd2 cu2 co2 nu2 => ?_)
    have hfp := A.1 p h
    dsimp only
    rw [qz_eqx (by omega)]
    refine br_c (fun z => ?_) (fun z => ?_)
    · obtain ⟨n, hN⟩ : ∃ n, N l = n + 1 := ⟨N l - 1, by omega⟩
      refine br_f (by decide) (qz_spread hl HL (fun hd3 cu3 co3 nu3 al3 hal => ⟨hin, nm_r (e' := nI n) ?_ ⟨n + 1, ?_⟩⟩))
      · show sz (nI l).toNatClampNeg - 1 = nI n
        rw [hcl, HL.1, hN, nI_pred]
      · exact qz_remove_70 hl H hN (by omega) (hp p n hF (e.mpr ⟨h, z⟩) hN (by omega)) (n - p) p (n + 1) al3 (by omega) (by omega) (by omega) (fun j hj => by rw [qz_del_lo hj]; exact hal j (by omega)) (fun j _ hj => hal j (by omega))
    · exact br_t rfl (hp4 (fun y => z (e.mp y).2) _ _ _ _)
end
section
variable {nm0 ss : Nat → Int32}
theorem qz_Yinsert_54 {post : Int32 → SY → Prop} {F : Nat → Nat → Nat} {N : Nat → Nat} {l p x : Nat} (hl : l < 2) (H : qz_Y F N nm0 ss) (hN : ∀ m, m < 2 → N m ≤ 64) (hn : N l < 64) (hx : x ≤ 1000000) (A : qz_Asc (F l) (N l)) (C : qz_Cut (F l) (N l) p x)
    (hp : ∀ nm' ss', qz_Y (qz_set F l (qz_ins (F l) p x)) (qz_set N l (N l + 1)) nm' ss' → post (nI p) (nm', ss')) :
    ∀ (i fuel : Nat) (nm : Nat → Int32), i ≤ N l → i < fuel → (∀ j, (j < i ∨ j < p) → j < N l → nm (64 * l + j) = nI (F l j)) →
      (∀ j, i < j → p < j → j ≤ N l → nm (64 * l + j) = nI (qz_ins (F l) p x j)) → (∀ q, (q < 64 * l ∨ 64 * l + 64 ≤ q) → nm q = nm0 q) →
      wY_insert_54 post (nI l) (nI x) fuel (nI (p - i)) (nI i) nm ss := by
  obtain ⟨c1, c2, c3⟩ := C
  have hin : vp_in (nI l) 2 := vp_in_nI hl (by omega)
  have hcl : (nI l).toNatClampNeg = l := nI_clamp (by omega)
  intro i
  induction i with
  | zero =>
    intro fuel nm hi hf h1 h2 h3
    obtain ⟨m, rfl⟩ : ∃ m, fuel = m + 1 := ⟨fuel - 1, by omega⟩
    refine br_t (show nI 0 ≤ 0 from by decide) ?_
    rw [qz_i64, Nat.sub_zero]
    refine ⟨vp_in_nI (by omega) (by omega), nm_r (e' := upd nm (64 * l + p) (nI x)) (by rw [nI_clamp (by omega)]) ⟨hin, hin, nm_r (e' := upd ss l (nI (N l + 1))) (by rw [hcl, (H l hl).1, nI_1]) (hp _ _ ?_)⟩⟩
    refine qz_Y_upd hl H hN (fun j hj => ?_) (fun q hq => ?_)
    · by_cases z : j = p
      · rw [z, pk_us, qz_ins_at]
      · rw [pk_un (by omega)]
        rcases Nat.lt_or_ge j p with y | y
        · rw [qz_ins_lo y]; exact h1 j (Or.inr y) (by omega)
        · exact h2 j (by omega) (by omega) (by omega)
    · rw [pk_un (by omega)]; exact h3 q hq
  | succ t ih =>
    intro fuel nm hi hf h1 h2 h3
    obtain ⟨m, rfl⟩ : ∃ m, fuel = m + 1 := ⟨fuel - 1, by omega⟩
    have e1 : 64 * nI l + nI (t + 1) - 1 = nI (64 * l + t) := by
      rw [qz_i64]; exact nI_pred (64 * l + t)
    have hft := A.1 t (by omega)
    have hnt := h1 t (Or.inl (by omega)) (by omega)
    refine br_f (nI_nle (by omega) (by omega)) ?_
    rw [e1, qz_i64, nI_clamp (by omega), hnt]
    refine ⟨vp_in_nI (by omega) (by omega), pk_le (F l t) x (fun z => ?_) (fun z => ?_)⟩
    · have ht : t < p := by
        rcases Nat.lt_or_ge t p with y | y
        · exact y
        · have := c3 t y (by omega)
          omega
      refine nm_r (e' := nI (p - t)) ?_ (nm_r (pk_m1 t) (ih m nm (by omega) (by omega) (fun j hj hj2 => h1 j (by omega) hj2) (fun j hj hj2 hj3 => h2 j (by omega) hj2 hj3) h3))
      rw [nI_1]
      exact congrArg nI (by omega)
    · have ht : p ≤ t := by
        rcases Nat.lt_or_ge t p with y | y
        · have := c2 t y
          omega
        · exact y
      refine ⟨vp_in_nI (by omega) (by omega), vp_in_nI (by omega) (by omega), nm_r (e' := upd nm (64 * l + (t + 1)) (nI (F l t))) (by rw [nI_clamp (by omega)]) (nm_r (pk_m1 t) ?_)⟩
      rw [show p - (t + 1) = p - t from by omega]
      refine ih m _ (by omega) (by omega) (fun j hj hj2 => ?_) (fun j hj hj2 hj3 => ?_) (fun q hq => ?_)
      · rw [pk_un (by omega)]; exact h1 j (by omega) hj2
      · by_cases y : j = t + 1
        · rw [y, pk_us, qz_ins_hi ht]
        · rw [pk_un (by omega)]; exact h2 j (by omega) hj2 hj3
      · rw [pk_un (by omega)]; exact h3 q hq
theorem qz_Yremove_34 {post : Int32 → SY → Prop} {F : Nat → Nat → Nat} {N : Nat → Nat} {l p n : Nat} (hl : l < 2) (H : qz_Y F N nm0 ss) (hN : ∀ m, m < 2 → N m ≤ 64) (hn : N l = n + 1) (hpn : p ≤ n)
    (hp : ∀ nm' ss', qz_Y (qz_set F l (qz_del (F l) p)) (qz_set N l n) nm' ss' → post (nI p) (nm', ss')) :
    ∀ (d i fuel : Nat) (nm : Nat → Int32), i + d = n → p ≤ i → d < fuel → (∀ j, j < i → nm (64 * l + j) = nI (qz_del (F l) p j)) → (∀ j, i ≤ j → j ≤ n → nm (64 * l + j) = nI (F l j)) →
      (∀ q, (q < 64 * l ∨ 64 * l + 64 ≤ q) → nm q = nm0 q) → wY_remove_34 post (nI l) (nI p) fuel (nI (i + 1)) nm ss := by
  have hin : vp_in (nI l) 2 := vp_in_nI hl (by omega)
  have hcl : (nI l).toNatClampNeg = l := nI_clamp (by omega)
  have h64 := hN l hl
  have hs := (H l hl).1
  rw [hn] at hs
  intro d
  induction d with
  | zero =>
    intro i fuel nm hi hpi hf h1 h2 h3
    obtain ⟨m, rfl⟩ : ∃ m, fuel = m + 1 := ⟨fuel - 1, by omega⟩
    obtain rfl : i = n := by omega
    refine ⟨hin, ?_⟩
    rw [hcl, hs]
    refine br_t (nI_le (Nat.le_refl _) (by omega)) ⟨hin, hin, nm_r (e' := upd ss l (nI i)) (by rw [nI_pred]) (hp _ _ (qz_Y_upd hl H hN h1 h3))⟩
  | succ d ih =>
    intro i fuel nm hi hpi hf h1 h2 h3
    obtain ⟨m, rfl⟩ : ∃ m, fuel = m + 1 := ⟨fuel - 1, by omega⟩
    have e1 : 64 * nI l + nI (i + 1) - 1 = nI (64 * l + i) := by
      rw [qz_i64]; exact nI_pred (64 * l + i)
    refine ⟨hin, ?_⟩
    rw [hcl, hs, e1, qz_i64]
    refine br_f (nI_ge (by omega) (by omega)) ⟨vp_in_nI (by omega) (by omega), vp_in_nI (by omega) (by omega), nm_r (e' := upd nm (64 * l + i) (nI (F l (i + 1)))) (by rw [nI_clamp (by omega), nI_clamp (by omega), h2 (i + 1) (by omega) (by omega)]) (nm_r (nI_1 (i + 1)) ?_)⟩
    refine ih (i + 1) m _ (by omega) (by omega) (by omega) (fun j hj => ?_) (fun j hj hj2 => ?_) (fun q hq => ?_)
    · by_cases z : j = i
      · rw [z, pk_us, qz_del_hi hpi]
      · rw [pk_un (by omega)]; exact h1 j (by omega)
    · rw [pk_un (by omega)]; exact h2 j (by omega) hj2
    · rw [pk_un (by omega)]; exact h3 q hq
end
theorem i_vc_insert {k : Nat} {u : SX} {v : SY} (I : i_Rel k u v) (hk : k + 4 ≤ 2048) (v1 : Int32) (v2 : Int32) : wpX_insert (fun r u' => wpY_insert (fun r' v' => r' = r ∧ i_Rel (k + 4) u' v') v v1 v2) u v1 v2 := by
  obtain ⟨F, N, hX, hY⟩ := I
  obtain ⟨hd, cu, sz, la, pk, co, nu, al⟩ := u
  obtain ⟨nm, ss⟩ := v
  dsimp only at hX hY
  rcases qz_bad_or v1 with hb | ⟨l, hl, rfl⟩
  · unfold wpX_insert
    dsimp only
    refine qz_badY hb (br_f (by decide) ?_)
    unfold wpY_insert
    dsimp only
    exact qz_isN hb (br_t rfl ⟨rfl, F, N, hX, hY⟩)
  · rcases qz_num_or v2 with hb | ⟨x, hx, rfl⟩
    · unfold wpX_insert
      dsimp only
      refine qz_badN hl (br_t rfl (qz_nbY hb (br_f (by decide) ?_)))
      unfold wpY_insert
      dsimp only
      exact qz_isY hl (br_f (by decide) (qz_inN hb (br_t rfl ⟨rfl, F, N, hX, hY⟩)))
    · have hin : vp_in (nI l) 2 := vp_in_nI hl (by omega)
      have hcl : (nI l).toNatClampNeg = l := nI_clamp (by omega)
      have hn := (hX l hl).2.1
      have A := (hX l hl).2.2.1
      have hs := (hY l hl).1
      refine qz_X_insert hl hX hx (fun h hd' cu' co' nu' => ?_) (fun h h2 hd' cu' co' nu' => ?_) (fun p C h h2 hd' cu' sz' la' pk' co' nu' al' hX' => ?_)
      · unfold wpY_insert
        dsimp only
        exact qz_isY hl (br_f (by decide) (qz_inY hx (br_f (by decide) (qz_Y_has hl hn A (hY l hl) (fun _ => br_f (by decide) ⟨rfl, F, N, hX, hY⟩) (fun z => absurd h z)))))
      · unfold wpY_insert
        dsimp only
        refine qz_isY hl (br_f (by decide) (qz_inY hx (br_f (by decide) (qz_Y_has hl hn A (hY l hl) (fun z => absurd z h) (fun _ => br_t rfl ⟨hin, ?_⟩)))))
        rw [hcl, hs]
        exact pk_eq (N l) 64 (fun _ => ⟨rfl, F, N, hX, hY⟩) (fun z => absurd h2 z)
      · have hc := C.1
        unfold wpY_insert
        dsimp only
        refine qz_isY hl (br_f (by decide) (qz_inY hx (br_f (by decide) (qz_Y_has hl hn A (hY l hl) (fun z => absurd z h) (fun _ => br_t rfl ⟨hin, ?_⟩)))))
        rw [hcl, hs]
        refine pk_eq (N l) 64 (fun z => absurd z (by omega)) (fun _ => ⟨hin, nm_e ⟨N l + 1, ?_⟩⟩)
        have := qz_Yinsert_54 (post := fun r' v' => r' = nI p ∧ i_Rel (k + 4) (hd', cu', sz', la', pk', co', nu', al') v') hl hY (qz_N64 hX) h2 hx A C (fun nm' ss' G => ⟨rfl, _, _, hX', G⟩) (N l) (N l + 1) nm (by omega) (by omega) (fun j _ hj => (hY l hl).2 j hj) (fun j hj _ hj3 => absurd hj (by omega)) (fun _ _ => rfl)
        rw [show p - N l = 0 from by omega] at this
        exact this
theorem i_vc_remove {k : Nat} {u : SX} {v : SY} (I : i_Rel k u v) (hk : k + 4 ≤ 2048) (v1 : Int32) (v2 : Int32) : wpX_remove (fun r u' => wpY_remove (fun r' v' => r' = r ∧ i_Rel (k + 4) u' v') v v1 v2) u v1 v2 := by
  obtain ⟨F, N, hX, hY⟩ := I
  obtain ⟨hd, cu, sz, la, pk, co, nu, al⟩ := u
  obtain ⟨nm, ss⟩ := v
  dsimp only at hX hY
  rcases qz_bad_or v1 with hb | ⟨l, hl, rfl⟩
  · unfold wpX_remove
    dsimp only
    refine qz_badY hb (br_f (by decide) ?_)
    unfold wpY_remove
    dsimp only
    exact qz_isN hb (br_t rfl ⟨rfl, F, N, hX, hY⟩)
  · have hn := (hX l hl).2.1
    have A := (hX l hl).2.2.1
    refine qz_X_remove hl hX (fun h hd' cu' co' nu' => ?_) (fun p n hF h hN hpn hd' cu' sz' la' pk' co' nu' al' hX' => ?_)
    · unfold wpY_remove
      dsimp only
      exact qz_isY hl (br_f (by decide) (qz_Y_has hl hn A (hY l hl) (fun z => absurd z h) (fun _ => br_t rfl ⟨rfl, F, N, hX, hY⟩)))
    · unfold wpY_remove
      dsimp only
      refine qz_isY hl (br_f (by decide) (qz_Y_has hl hn A (hY l hl) (fun _ => br_f (by decide) ?_) (fun z => absurd h z)))
      refine qz_Y_seek hl hn A (hY l hl) (fun p' hF' => ?_)
      obtain rfl := qz_FF_u hF hF'
      rw [if_pos (by omega)]
      refine nm_r (nI_1 p) ⟨n + 1, ?_⟩
      exact qz_Yremove_34 hl hY (qz_N64 hX) hN hpn (fun nm' ss' G => ⟨rfl, _, _, hX', G⟩) (n - p) p (n + 1) nm (by omega) (by omega) (by omega) (fun j hj => by rw [qz_del_lo hj]; exact (hY l hl).2 j (by omega)) (fun j _ hj => (hY l hl).2 j (by omega)) (fun _ _ => rfl)
end
section
/-! sum -/
def qz_sm (f : Nat → Nat) (i j : Int) : Nat → Nat
  | 0 => 0
  | p + 1 => qz_sm f i j p + (if i ≤ (p : Int) ∧ (p : Int) ≤ j then f p else 0)
theorem qz_sm_y {f : Nat → Nat} {i j : Int} {p : Nat} (h1 : i ≤ (p : Int)) (h2 : (p : Int) ≤ j) : qz_sm f i j (p + 1) = qz_sm f i j p + f p := by
  show qz_sm f i j p + (if i ≤ (p : Int) ∧ (p : Int) ≤ j then f p else 0) = _
  rw [if_pos ⟨h1, h2⟩]
theorem qz_sm_n {f : Nat → Nat} {i j : Int} {p : Nat} (h : (p : Int) < i ∨ j < (p : Int)) : qz_sm f i j (p + 1) = qz_sm f i j p := by
  show qz_sm f i j p + (if i ≤ (p : Int) ∧ (p : Int) ≤ j then f p else 0) = _
  rw [if_neg (by omega), Nat.add_zero]
theorem qz_sm_congr {f : Nat → Nat} {i j i' j' : Int} : ∀ n : Nat, (∀ p : Nat, p < n → ((i ≤ (p : Int) ∧ (p : Int) ≤ j) ↔ (i' ≤ (p : Int) ∧ (p : Int) ≤ j'))) → qz_sm f i j n = qz_sm f i' j' n
  | 0, _ => rfl
  | n + 1, h => by
    have ih := qz_sm_congr (f := f) n (fun p hp => h p (by omega))
    by_cases z : i ≤ (n : Int) ∧ (n : Int) ≤ j
    · have z' := (h n (by omega)).mp z
      rw [qz_sm_y z.1 z.2, qz_sm_y z'.1 z'.2, ih]
    · have z' := mt (h n (by omega)).mpr z
      rw [qz_sm_n (by omega), qz_sm_n (by omega), ih]
theorem qz_sm_0 {f : Nat → Nat} {i j : Int} : ∀ n : Nat, (∀ p : Nat, p < n → ((p : Int) < i ∨ j < (p : Int))) → qz_sm f i j n = 0
  | 0, _ => rfl
  | n + 1, h => by
    rw [qz_sm_n (h n (by omega))]
    exact qz_sm_0 n (fun p hp => h p (by omega))
theorem qz_sm_stop {f : Nat → Nat} {i : Int} {t : Nat} : ∀ d : Nat, qz_sm f i (t : Int) (t + 1 + d) = qz_sm f i (t : Int) (t + 1)
  | 0 => rfl
  | d + 1 => by
    rw [show t + 1 + (d + 1) = t + 1 + d + 1 from by omega, qz_sm_n (by omega)]
    exact qz_sm_stop d
theorem qz_sm_st {f : Nat → Nat} {i : Int} {t p q : Nat} (hp : t < p) (hq : t < q) : qz_sm f i (t : Int) p = qz_sm f i (t : Int) q := by
  obtain ⟨d, rfl⟩ : ∃ d, p = t + 1 + d := ⟨p - (t + 1), by omega⟩
  obtain ⟨e, rfl⟩ : ∃ e, q = t + 1 + e := ⟨q - (t + 1), by omega⟩
  rw [qz_sm_stop, qz_sm_stop]
section
variable {hd cu : Int32} {sz la pk co nu al : Nat → Int32}
theorem qz_sum_87 {post : Int32 → SX → Prop} {J : Int32 → Int32 → Int32 → Int32 → (Nat → Int32) → (Nat → Int32) → (Nat → Int32) → (Nat → Int32) → (Nat → Int32) → (Nat → Int32) → Prop}
    {x1 : Int32} {f : Nat → Nat} {fr t b h : Nat} (hh : h ≤ 8) (hb : b < 8) (ht : t < 64) (hfr : fr ≤ t) (hnu : ∀ i, i < h → nu i = nI (f (8 * b + i)))
    (hJ : J (nI (qz_sm f (fr : Int) (t : Int) (8 * b + h))) (nI (b + 1)) (nI h) cu sz la pk co nu al) :
    ∀ d i fuel : Nat, i + d = h → d < fuel → wX_sum_87 post J x1 (nI fr) (nI t) (nI b) (nI h) cu sz la pk co nu al fuel (nI (qz_sm f (fr : Int) (t : Int) (8 * b + i))) (nI i) := by
  intro d
  induction d with
  | zero =>
    intro i fuel hi hf
    obtain ⟨m, rfl⟩ : ∃ m, fuel = m + 1 := ⟨fuel - 1, by omega⟩
    obtain rfl : i = h := by omega
    exact br_t (nI_le (Nat.le_refl i) (by omega)) (nm_r (nI_1 b) hJ)
  | succ d ih =>
    intro i fuel hi hf
    obtain ⟨m, rfl⟩ : ∃ m, fuel = m + 1 := ⟨fuel - 1, by omega⟩
    have hk := ih (i + 1) m (by omega) (by omega)
    rw [show 8 * b + (i + 1) = 8 * b + i + 1 from by omega] at hk
    refine br_f (nI_ge (by omega) (by omega)) ?_
    rw [qz_blk]
    refine pk_lt (8 * b + i) fr (fun z => nm_r (nI_1 i) ?_) (fun z => pk_lt t (8 * b + i) (fun y => nm_r (nI_1 i) ?_) (fun y => ⟨vp_in_nI (by omega) (by omega), nm_r (e' := nI (qz_sm f (fr : Int) (t : Int) (8 * b + i + 1))) ?_ (nm_r (nI_1 i) hk)⟩))
    · rw [qz_sm_n (by omega)] at hk
      exact hk
    · rw [qz_sm_n (by omega)] at hk
      exact hk
    · rw [nI_clamp (by omega), hnu i (by omega), nI_add, qz_sm_y (by omega) (by omega)]
theorem qz_sum_54 {post : Int32 → SX → Prop} {f : Nat → Nat} {l n fr t : Nat} (hl : l < 2) (H : qz_LX l f n sz la pk) (ht : t < n) (hfr : fr ≤ t)
    (hp : ∀ hd' cu' co' nu', post (nI (qz_sm f (fr : Int) (t : Int) n)) (hd', cu', sz, la, pk, co', nu', al)) :
    ∀ (d b fuel : Nat) (hd cu : Int32) (co nu : Nat → Int32), b + d = t / 8 + 1 → d < fuel →
      wX_sum_54 post (nI l) (nI fr) (nI t) fuel (nI (qz_sm f (fr : Int) (t : Int) (8 * b))) (nI b) hd cu sz la pk co nu al := by
  have hn := H.2.1
  intro d
  induction d with
  | zero =>
    intro b fuel hd cu co nu hi hf
    obtain ⟨m, rfl⟩ : ∃ m, fuel = m + 1 := ⟨fuel - 1, by omega⟩
    have h1 := hp hd cu co nu
    rw [qz_sm_st (q := 8 * b) ht (by omega)] at h1
    unfold wX_sum_54
    dsimp only
    rw [qz_shr3 (by omega)]
    exact br_t (nI_lt (by omega) (by omega)) h1
  | succ d ih =>
    intro b fuel hd cu co nu hi hf
    obtain ⟨m, rfl⟩ : ∃ m, fuel = m + 1 := ⟨fuel - 1, by omega⟩
    have hb : 8 * b < n := by omega
    unfold wX_sum_54
    dsimp only
    rw [qz_shr3 (by omega)]
    refine br_f (nI_nlt (by omega) (by omega)) (pk_le 8 b (fun z => absurd z (by omega)) (fun _ => br_f (nI_nlt (by omega) (by omega)) ?_))
    refine qz_unpack hl hb H (fun co' nu' h1 h2 => ⟨qz_hl n b + 1, ?_⟩)
    refine qz_sum_87 (qz_hl_8 n b) (by omega) (by omega) hfr h2 ?_ (qz_hl n b) 0 (qz_hl n b + 1) (by omega) (by omega)
    have hk := ih (b + 1) m (nI (qz_hl n b)) (nI (qz_sz (qz_cb f b) (qz_bs (qz_cb f b) (qz_hl n b)) (qz_hl n b))) co' nu' (by omega) (by omega)
    have e : qz_sm f (fr : Int) (t : Int) (8 * (b + 1)) = qz_sm f (fr : Int) (t : Int) (8 * b + qz_hl n b) := by
      by_cases z : 8 * b + 8 ≤ n
      · rw [qz_hl_f n b z]
        exact congrArg _ (by omega)
      · have e2 : 8 * b + qz_hl n b = n := by unfold qz_hl; split <;> omega
        exact qz_sm_st (by omega) (by omega)
    rw [e] at hk
    exact hk
theorem qz_sum_lt {post : Int32 → SX → Prop} {x1 x4 x5 x7 : Int32} (h : x5 < x4) (hp : post 0 (hd, cu, sz, la, pk, co, nu, al)) : ∃ n, wX_sum_54 post x1 x4 x5 n 0 x7 hd cu sz la pk co nu al :=
  ⟨1, br_c (fun _ => hp) (fun _ => br_c (fun _ => hp) (fun _ => br_t h hp))⟩
theorem qz_sum_go {post : Int32 → SX → Prop} {f : Nat → Nat} {l n fr t : Nat} (hl : l < 2) (H : qz_LX l f n sz la pk) (ht : t < n) (hfr : fr < 2 ^ 31)
    (hp : ∀ hd' cu' co' nu', post (nI (qz_sm f (fr : Int) (t : Int) n)) (hd', cu', sz, la, pk, co', nu', al)) :
    ∃ m, wX_sum_54 post (nI l) (nI fr) (nI t) m 0 (nI fr >>> ((3 : Int32) &&& 31)) hd cu sz la pk co nu al := by
  have hn := H.2.1
  rcases Nat.lt_or_ge t fr with z | z
  · refine qz_sum_lt (nI_lt z hfr) ?_
    have := hp hd cu co nu
    rw [qz_sm_0 n (fun p hp => by omega)] at this
    exact this
  · rw [qz_shr3 hfr]
    have := qz_sum_54 hl H ht z hp (t / 8 + 1 - fr / 8) (fr / 8) (t / 8 + 2) hd cu co nu (by omega) (by omega)
    rw [qz_sm_0 (8 * (fr / 8)) (fun p hp => by omega)] at this
    exact ⟨_, this⟩
theorem qz_sum_19 {post : Int32 → SX → Prop} {f : Nat → Nat} {l n fr : Nat} {x3 : Int32} (hl : l < 2) (H : qz_LX l f n sz la pk) (hfr : fr < 2 ^ 31)
    (hp : ∀ hd' cu' co' nu', post (nI (qz_sm f (fr : Int) x3.toInt n)) (hd', cu', sz, la, pk, co', nu', al)) :
    wX_sum_19 post (nI l) x3 (nI fr) hd cu sz la pk co nu al := by
  have hn := H.2.1
  have hin : vp_in (nI l) 2 := vp_in_nI hl (by omega)
  have hcl : (nI l).toNatClampNeg = l := nI_clamp (by omega)
  refine ⟨hin, ?_⟩
  rw [hcl, H.1]
  by_cases h : x3 < nI n
  · refine br_t h (nm_e ?_)
    by_cases h0 : x3 < 0
    · refine qz_sum_lt ?_ ?_
      · rw [Int32.lt_iff_toInt_lt] at h0 ⊢
        rw [show (0 : Int32).toInt = 0 from by decide] at h0
        rw [nI_toInt hfr]
        omega
      · rw [Int32.lt_iff_toInt_lt] at h0
        rw [show (0 : Int32).toInt = 0 from by decide] at h0
        have := hp hd cu co nu
        rw [qz_sm_0 n (fun p hp => by omega)] at this
        exact this
    · obtain ⟨t, ht, rfl⟩ := nI_of h0
      rw [nI_toInt ht] at hp
      exact qz_sum_go hl H ((nI_ltI ht (by omega)).mp h) hfr hp
  · refine br_f h ⟨hin, nm_e (nm_e ?_)⟩
    have h' : (n : Int) ≤ x3.toInt := by
      rw [Int32.lt_iff_toInt_lt, nI_toInt (by omega)] at h
      omega
    rcases Nat.eq_zero_or_pos n with z | z
    · subst z
      refine qz_sum_lt ?_ (hp hd cu co nu)
      rw [Int32.lt_iff_toInt_lt, nI_toInt hfr, show (nI 0 - 1).toInt = -1 from by decide]
      omega
    · obtain ⟨t, rfl⟩ : ∃ t, n = t + 1 := ⟨n - 1, by omega⟩
      rw [nI_pred]
      refine qz_sum_go hl H (by omega) hfr ?_
      rw [qz_sm_congr (i' := (fr : Int)) (j' := x3.toInt) (t + 1) (fun p hp => by omega)]
      exact hp
theorem qz_X_sum {post : Int32 → SX → Prop} {f : Nat → Nat} {l n : Nat} {x2 x3 : Int32} (hl : l < 2) (H : qz_LX l f n sz la pk)
    (hp : ∀ hd' cu' co' nu', post (nI (qz_sm f x2.toInt x3.toInt n)) (hd', cu', sz, la, pk, co', nu', al)) :
    wpX_sum post (hd, cu, sz, la, pk, co, nu, al) (nI l) x2 x3 := by
  unfold wpX_sum
  dsimp only
  refine qz_badN hl (br_t rfl ?_)
  by_cases h : 0 ≤ x2
  · obtain ⟨fr, hfr, rfl⟩ := nI_of (x := x2) (Int32.not_lt.mpr h)
    rw [nI_toInt hfr] at hp
    exact br_t h (qz_sum_19 hl H hfr hp)
  · refine br_f h (qz_sum_19 (fr := 0) hl H (by omega) ?_)
    rw [Int32.le_iff_toInt_le, show (0 : Int32).toInt = 0 from by decide] at h
    rw [qz_sm_congr (i' := x2.toInt) (j' := x3.toInt) n (fun p hp => by omega)]
    exact hp
end
section
variable {nm ss : Nat → Int32}
theorem qz_Ysum_16 {post : Int32 → Prop} {f : Nat → Nat} {l n : Nat} {x2 x3 : Int32} (hl : l < 2) (hn : n ≤ 64) (H : qz_LY l f n nm ss)
    (hp : post (nI (qz_sm f x2.toInt x3.toInt n))) :
    ∀ d i fuel : Nat, i + d = n → d < fuel → wY_sum_16 post (nI l) x2 x3 nm ss fuel (nI (qz_sm f x2.toInt x3.toInt i)) (nI i) := by
  obtain ⟨h1, h2⟩ := H
  have hin : vp_in (nI l) 2 := vp_in_nI hl (by omega)
  have hcl : (nI l).toNatClampNeg = l := nI_clamp (by omega)
  intro d
  induction d with
  | zero =>
    intro i fuel hi hf
    obtain ⟨m, rfl⟩ : ∃ m, fuel = m + 1 := ⟨fuel - 1, by omega⟩
    obtain rfl : i = n := by omega
    refine ⟨hin, ?_⟩
    rw [hcl, h1]
    exact br_t (nI_le (Nat.le_refl i) (by omega)) hp
  | succ d ih =>
    intro i fuel hi hf
    obtain ⟨m, rfl⟩ : ∃ m, fuel = m + 1 := ⟨fuel - 1, by omega⟩
    have hk := ih (i + 1) m (by omega) (by omega)
    refine ⟨hin, ?_⟩
    rw [hcl, h1, qz_i64]
    refine br_f (nI_ge (by omega) (by omega)) ?_
    rw [qz_ltx2 (by omega), show (x3 < nI i) = (x3.toInt < (i : Int)) from by rw [Int32.lt_iff_toInt_lt, nI_toInt (by omega)]]
    refine br_c (fun z => nm_r (nI_1 i) ?_) (fun z => br_c (fun y => nm_r (nI_1 i) ?_) (fun y => ⟨vp_in_nI (by omega) (by omega), nm_r (e' := nI (qz_sm f x2.toInt x3.toInt (i + 1))) ?_ (nm_r (nI_1 i) hk)⟩))
    · rw [qz_sm_n (by omega)] at hk
      exact hk
    · rw [qz_sm_n (by omega)] at hk
      exact hk
    · rw [nI_clamp (by omega), h2 i (by omega), nI_add, qz_sm_y (by omega) (by omega)]
theorem qz_Y_sum {post : Int32 → Prop} {f : Nat → Nat} {l n : Nat} {x2 x3 : Int32} (hl : l < 2) (hn : n ≤ 64) (H : qz_LY l f n nm ss)
    (hp : post (nI (qz_sm f x2.toInt x3.toInt n))) : wpY_sum post (nm, ss) (nI l) x2 x3 := by
  unfold wpY_sum
  dsimp only
  exact qz_isY hl (br_f (by decide) ⟨n + 1, qz_Ysum_16 hl hn H hp n 0 (n + 1) (by omega) (by omega)⟩)
end
theorem i_vc_sum {k : Nat} {u : SX} {v : SY} (I : i_Rel k u v) (hk : k + 4 ≤ 2048) (v1 : Int32) (v2 : Int32) (v3 : Int32) : wpX_sum (fun r u' => wpY_sum (fun r' => r' = r ∧ i_Rel (k + 4) u' v) v v1 v2 v3) u v1 v2 v3 := by
  obtain ⟨F, N, hX, hY⟩ := I
  obtain ⟨hd, cu, sz, la, pk, co, nu, al⟩ := u
  obtain ⟨nm, ss⟩ := v
  dsimp only at hX hY
  rcases qz_bad_or v1 with hb | ⟨l, hl, rfl⟩
  · unfold wpX_sum
    dsimp only
    refine qz_badY hb (br_f (by decide) ?_)
    unfold wpY_sum
    dsimp only
    exact qz_isN hb (br_t rfl ⟨rfl, F, N, hX, hY⟩)
  · exact qz_X_sum hl (hX l hl) (fun hd' cu' co' nu' => qz_Y_sum hl (hX l hl).2.1 (hY l hl) ⟨rfl, F, N, hX, hY⟩)
end
section
/-! base, blockSize, packed -/
/-- the size of block b -/
def qz_bz (f : Nat → Nat) (n b : Nat) : Nat := qz_sz (qz_cb f b) (qz_bs (qz_cb f b) (qz_hl n b)) (qz_hl n b)
theorem qz_pow20 : ∀ w, w < 20 → (1 : Int32) <<< (nI w &&& 31) = nI (2 ^ w) := by decide +kernel
section
variable {nm ss : Nat → Int32}
theorem qz_Y_codeAt {post : Int32 → Prop} {f : Nat → Nat} {l n i : Nat} (hl : l < 2) (hn : n ≤ 64) (hi : i < n) (A : qz_Asc f n) (H : qz_LY l f n nm ss) (hp : post (nI (f i - qz_pv f i))) :
    wpY_codeAt post (nm, ss) (nI l) (nI i) := by
  obtain ⟨h1, h2⟩ := H
  have hle := qz_pv_le A hi
  have key : ∀ z0, z0 = nI (qz_pv f i) - 1 → wY_codeAt_21 post (nI l) (nI i) z0 nm ss := by
    intro z0 e
    unfold wY_codeAt_21
    rw [qz_i64, e]
    refine ⟨vp_in_nI (by omega) (by omega), ?_⟩
    rw [nI_clamp (by omega), h2 i hi, qz_gap hle]
    exact hp
  refine pk_eq i 0 (fun z => key _ ?_) (fun z => ?_)
  · subst z; rfl
  · obtain ⟨t, rfl⟩ : ∃ t, i = t + 1 := ⟨i - 1, by omega⟩
    have e1 : 64 * nI l + nI (t + 1) - 1 = nI (64 * l + t) := by
      rw [qz_i64]; exact nI_pred (64 * l + t)
    rw [e1]
    refine ⟨vp_in_nI (by omega) (by omega), key _ ?_⟩
    rw [nI_clamp (by omega), h2 t (by omega), qz_pv_s, nI_pred]
theorem qz_widthOf_2 {post : Int32 → Prop} {v : Nat} (hv : v < 2 ^ 20) (hp : post (nI (qz_wd v))) :
    ∀ d w fuel : Nat, w + d = qz_wd v → d < fuel → wY_widthOf_2 post (nI v) nm ss fuel (nI w) := by
  have h20 := qz_wd_20 hv
  intro d
  induction d with
  | zero =>
    intro w fuel hi hf
    obtain ⟨m, rfl⟩ : ∃ m, fuel = m + 1 := ⟨fuel - 1, by omega⟩
    obtain rfl : w = qz_wd v := by omega
    refine pk_le 20 (qz_wd v) (fun _ => hp) (fun h => br_t ?_ hp)
    rw [qz_pow20 _ h]
    exact nI_lt (qz_wd_pow v) (Nat.lt_of_le_of_lt (Nat.pow_le_pow_right (by decide) h20) (by decide))
  | succ d ih =>
    intro w fuel hi hf
    obtain ⟨m, rfl⟩ : ∃ m, fuel = m + 1 := ⟨fuel - 1, by omega⟩
    refine pk_le 20 w (fun h => absurd h (by omega)) (fun h => br_f ?_ (nm_r (nI_1 w) (ih (w + 1) m (by omega) (by omega))))
    rw [qz_pow20 _ h]
    exact nI_nlt ((qz_wd_lt v w).mp (by omega)) (Nat.lt_trans hv (by decide))
theorem qz_Y_widthOf {post : Int32 → Prop} {v : Nat} (hv : v < 2 ^ 20) (hp : post (nI (qz_wd v))) : wpY_widthOf post (nm, ss) (nI v) :=
  ⟨qz_wd v + 1, qz_widthOf_2 hv hp (qz_wd v) 0 (qz_wd v + 1) (by omega) (by omega)⟩
theorem qz_Ysize_10 {post : Int32 → Prop} {f : Nat → Nat} {l n b s : Nat} (hl : l < 2) (hn : n ≤ 64) (hb : 8 * b < n) (A : qz_Asc f n) (H : qz_LY l f n nm ss) (hs : s ≤ 20)
    (hp : post (nI (qz_sz (qz_cb f b) s (qz_hl n b)))) :
    ∀ d i fuel : Nat, i + d = qz_hl n b → d < fuel → wY_sizeAt_10 post (nI l) (nI b) (nI s) nm ss fuel (nI (qz_sz (qz_cb f b) s i)) (nI (8 * b + i)) := by
  have hin : vp_in (nI l) 2 := vp_in_nI hl (by omega)
  have hcl : (nI l).toNatClampNeg = l := nI_clamp (by omega)
  have e8 : 8 * nI b + 8 = nI (8 * b + 8) := by
    show nI 8 * nI b + nI 8 = _
    rw [pk_mul, nI_add]
  have g2 := qz_hl_n n b (by omega)
  have g3 := qz_hl_8 n b
  intro d
  induction d with
  | zero =>
    intro i fuel hi hf
    obtain ⟨m, rfl⟩ : ∃ m, fuel = m + 1 := ⟨fuel - 1, by omega⟩
    obtain rfl : i = qz_hl n b := by omega
    unfold wY_sizeAt_10
    rw [e8]
    refine pk_le (8 * b + 8) (8 * b + qz_hl n b) (fun _ => hp) (fun z => ⟨hin, ?_⟩)
    rw [hcl, H.1]
    have e2 : 8 * b + qz_hl n b = n := by
      by_cases y : 8 * b + 8 ≤ n
      · rw [qz_hl_f n b y] at z
        omega
      · unfold qz_hl
        rw [if_neg (by omega)]
        omega
    exact br_t (nI_le (by omega) (by omega)) hp
  | succ d ih =>
    intro i fuel hi hf
    obtain ⟨m, rfl⟩ : ∃ m, fuel = m + 1 := ⟨fuel - 1, by omega⟩
    have hk := ih (i + 1) m (by omega) (by omega)
    have hc20 := qz_cb_20 (b := b) A (show 8 * b + i < n from by omega)
    have hw := qz_wd_20 hc20
    unfold wY_sizeAt_10
    rw [e8]
    refine pk_le (8 * b + 8) (8 * b + i) (fun z => absurd z (by omega)) (fun _ => ⟨hin, ?_⟩)
    rw [hcl, H.1]
    refine br_f (nI_ge (by omega) (by omega)) (qz_Y_codeAt hl hn (by omega) A H (qz_Y_widthOf hc20 ?_))
    refine pk_lt s (qz_wd (qz_cb f b i)) (fun z => nm_r (e' := nI (qz_sz (qz_cb f b) s (i + 1))) ?_ (nm_r (nI_1 (8 * b + i)) hk)) (fun z => nm_r (nI_add _ _) (nm_r (nI_1 (8 * b + i)) ?_))
    · show nI (qz_sz (qz_cb f b) s i) + (nI s + nI 8 + nI (qz_wd (qz_cb f b i)) - nI s) = _
      rw [nI_add, nI_add, pk_sub (by omega), nI_add, qz_sz_y z]
      exact congrArg nI (by omega)
    · rw [qz_sz_n (by omega)] at hk
      exact hk
theorem qz_Y_sizeAt {post : Int32 → Prop} {f : Nat → Nat} {l n b s : Nat} (hl : l < 2) (hn : n ≤ 64) (hb : 8 * b < n) (A : qz_Asc f n) (H : qz_LY l f n nm ss) (hs : s ≤ 20)
    (hp : post (nI (qz_sz (qz_cb f b) s (qz_hl n b)))) : wpY_sizeAt post (nm, ss) (nI l) (nI b) (nI s) := by
  refine nm_r (e' := nI (8 * b)) (pk_mul 8 b) ⟨qz_hl n b + 1, ?_⟩
  have := qz_Ysize_10 hl hn hb A H hs hp (qz_hl n b) 0 (qz_hl n b + 1) (by omega) (by omega)
  rw [show qz_sz (qz_cb f b) s 0 = 9 from by unfold qz_sz qz_pq; omega] at this
  exact this
theorem qz_Ybase_5 {post : Int32 → Prop} {f : Nat → Nat} {l n b : Nat} (hl : l < 2) (hn : n ≤ 64) (hb : 8 * b < n) (A : qz_Asc f n) (H : qz_LY l f n nm ss)
    (hp : post (nI (qz_bs (qz_cb f b) (qz_hl n b)))) :
    ∀ d w fuel : Nat, w + d = 20 → d < fuel → wY_bestBase_5 post (nI l) (nI b) nm ss fuel (nI (qz_bb (qz_cb f b) (qz_hl n b) w)) (nI (w + 1)) := by
  have g2 := qz_hl_n n b (by omega)
  have g3 := qz_hl_8 n b
  have e : ∀ i, i < qz_hl n b → qz_cb f b i < 2 ^ 20 := fun i hi => qz_cb_20 A (by omega)
  intro d
  induction d with
  | zero =>
    intro w fuel hi hf
    obtain ⟨m, rfl⟩ : ∃ m, fuel = m + 1 := ⟨fuel - 1, by omega⟩
    obtain rfl : w = 20 := by omega
    exact br_t (by decide) hp
  | succ d ih =>
    intro w fuel hi hf
    obtain ⟨m, rfl⟩ : ∃ m, fuel = m + 1 := ⟨fuel - 1, by omega⟩
    have hb1 := qz_sz_b (s := w + 1) g3 (by omega) e
    have hbl := qz_bb_le (qz_cb f b) (qz_hl n b) w
    have hb2 := qz_sz_b (s := qz_bb (qz_cb f b) (qz_hl n b) w) g3 (by omega) e
    have hk := ih (w + 1) m (by omega) (by omega)
    refine pk_lt 20 (w + 1) (fun h1 => absurd h1 (by omega)) (fun h1 => ?_)
    refine qz_Y_sizeAt hl hn hb A H (by omega) (qz_Y_sizeAt hl hn hb A H (by omega) ?_)
    refine pk_le (qz_sz (qz_cb f b) (qz_bb (qz_cb f b) (qz_hl n b) w) (qz_hl n b)) (qz_sz (qz_cb f b) (w + 1) (qz_hl n b)) (fun h2 => nm_r (nI_1 (w + 1)) ?_) (fun h2 => nm_r (nI_1 (w + 1)) ?_)
    · rw [show qz_bb (qz_cb f b) (qz_hl n b) (w + 1) = qz_bb (qz_cb f b) (qz_hl n b) w from if_neg (by omega)] at hk
      exact hk
    · rw [show qz_bb (qz_cb f b) (qz_hl n b) (w + 1) = w + 1 from if_pos h2] at hk
      exact hk
theorem qz_Y_bestBase {post : Int32 → Prop} {f : Nat → Nat} {l n b : Nat} (hl : l < 2) (hn : n ≤ 64) (hb : 8 * b < n) (A : qz_Asc f n) (H : qz_LY l f n nm ss)
    (hp : post (nI (qz_bs (qz_cb f b) (qz_hl n b)))) : wpY_bestBase post (nm, ss) (nI l) (nI b) :=
  ⟨21, qz_Ybase_5 hl hn hb A H hp 20 0 21 (by omega) (by omega)⟩
theorem qz_Y_bc {n : Nat} (hn : n ≤ 64) : (nI n + 7) / 8 = nI ((n + 7) / 8) := by
  show (nI n + nI 7) / nI 8 = _
  rw [nI_add, pk_div (by omega) (by omega) (by omega)]
theorem qz_isBlock {post : Int32 → Prop} {f : Nat → Nat} {l n : Nat} {x : Int32} (hl : l < 2) (hn : n ≤ 64) (H : qz_LY l f n nm ss)
    (hp0 : (∀ b, 8 * b < n → x ≠ nI b) → post 0) (hp1 : ∀ b, 8 * b < n → x = nI b → post 1) : wpY_isBlock post (nm, ss) (nI l) x := by
  by_cases h0 : x < 0
  · refine br_t h0 (hp0 (fun b hb e => ?_))
    subst e
    exact nI_pos (by omega) h0
  · obtain ⟨b, hb, rfl⟩ := nI_of h0
    refine br_f h0 ⟨vp_in_nI hl (by omega), by decide, ?_⟩
    rw [nI_clamp (by omega), H.1, qz_Y_bc hn]
    refine pk_le ((n + 7) / 8) b (fun z => hp0 (fun b' hb' e => ?_)) (fun z => hp1 b (by omega) rfl)
    have := (nI_eq hb (by omega)).mp e
    omega
theorem qz_Y_blockSize {post : Int32 → Prop} {f : Nat → Nat} {l n b : Nat} (hl : l < 2) (hn : n ≤ 64) (hb : 8 * b < n) (A : qz_Asc f n) (H : qz_LY l f n nm ss)
    (hp : post (nI (qz_bz f n b))) : wpY_blockSize post (nm, ss) (nI l) (nI b) := by
  unfold wpY_blockSize
  dsimp only
  refine qz_isY hl (br_f (by decide) (qz_isBlock hl hn H (fun z => absurd rfl (z b hb)) (fun b' hb' e => br_f (by decide) (qz_Y_bestBase hl hn hb A H (qz_Y_sizeAt hl hn hb A H (qz_bs_20 _ _) hp)))))
/-- the size of the first m blocks -/
def qz_tb (f : Nat → Nat) (n : Nat) : Nat → Nat
  | 0 => 0
  | b + 1 => qz_tb f n b + qz_bz f n b
theorem qz_Ypacked_11 {post : Int32 → Prop} {J : Int32 → Int32 → Prop} {f : Nat → Nat} {l n s : Nat} (hl : l < 2) (hn : n ≤ 64) (A : qz_Asc f n) (H : qz_LY l f n nm ss)
    (hJ : J (nI (s + qz_tb f n ((n + 7) / 8))) (nI (l + 1))) :
    ∀ d b fuel : Nat, b + d = (n + 7) / 8 → d < fuel → wY_packed_11 post J (nI l) nm ss fuel (nI (s + qz_tb f n b)) (nI b) := by
  have hin : vp_in (nI l) 2 := vp_in_nI hl (by omega)
  have hcl : (nI l).toNatClampNeg = l := nI_clamp (by omega)
  intro d
  induction d with
  | zero =>
    intro b fuel hi hf
    obtain ⟨m, rfl⟩ : ∃ m, fuel = m + 1 := ⟨fuel - 1, by omega⟩
    obtain rfl : b = (n + 7) / 8 := by omega
    refine ⟨hin, by decide, ?_⟩
    rw [hcl, H.1, qz_Y_bc hn]
    exact br_t (nI_le (Nat.le_refl _) (by omega)) (nm_r (nI_1 l) hJ)
  | succ d ih =>
    intro b fuel hi hf
    obtain ⟨m, rfl⟩ : ∃ m, fuel = m + 1 := ⟨fuel - 1, by omega⟩
    refine ⟨hin, by decide, ?_⟩
    rw [hcl, H.1, qz_Y_bc hn]
    refine br_f (nI_ge (by omega) (by omega)) (qz_Y_blockSize hl hn (by omega) A H (nm_r (e' := nI (s + qz_tb f n (b + 1))) ?_ (nm_r (nI_1 b) (ih (b + 1) m (by omega) (by omega)))))
    rw [nI_add]
    exact congrArg nI (Nat.add_assoc _ _ _)
theorem qz_Y_packed {post : Int32 → Prop} {F : Nat → Nat → Nat} {N : Nat → Nat} (hN : ∀ m, m < 2 → N m ≤ 64) (hA : ∀ m, m < 2 → qz_Asc (F m) (N m)) (H : qz_Y F N nm ss)
    (hp : post (nI (0 + qz_tb (F 0) (N 0) ((N 0 + 7) / 8) + qz_tb (F 1) (N 1) ((N 1 + 7) / 8)))) : wpY_packed post (nm, ss) := by
  have k0 := hN 0 (by omega)
  have k1 := hN 1 (by omega)
  refine ⟨3, br_f (by decide) ⟨(N 0 + 7) / 8 + 1, qz_Ypacked_11 (l := 0) (s := 0) (by omega) k0 (hA 0 (by omega)) (H 0 (by omega)) ?_ ((N 0 + 7) / 8) 0 _ (by omega) (by omega)⟩⟩
  refine br_f (by decide) ⟨(N 1 + 7) / 8 + 1, qz_Ypacked_11 (l := 1) (s := 0 + qz_tb (F 0) (N 0) ((N 0 + 7) / 8)) (by omega) k1 (hA 1 (by omega)) (H 1 (by omega)) ?_ ((N 1 + 7) / 8) 0 _ (by omega) (by omega)⟩
  exact br_t (by decide) hp
end
section
variable {hd cu : Int32} {sz la pk co nu al : Nat → Int32}
theorem qz_noBlock {post : Int32 → Prop} {f : Nat → Nat} {l n : Nat} {x : Int32} (hl : l < 2) (H : qz_LX l f n sz la pk)
    (hp1 : (∀ b, 8 * b < n → x ≠ nI b) → post 1) (hp0 : ∀ b, 8 * b < n → x = nI b → post 0) : wpX_noBlock post (hd, cu, sz, la, pk, co, nu, al) (nI l) x := by
  have hn := H.2.1
  by_cases h0 : x < 0
  · refine br_t h0 (hp1 (fun b hb e => ?_))
    subst e
    exact nI_pos (by omega) h0
  · obtain ⟨b, hb, rfl⟩ := nI_of h0
    refine br_f h0 (qz_blockCount hl H.1 hn (pk_lt b ((n + 7) / 8) (fun z => hp0 b (by omega) rfl) (fun z => hp1 (fun b' hb' e => ?_))))
    have := (nI_eq hb (by omega)).mp e
    omega
theorem qz_packed_18 {post : Int32 → SX → Prop} {J : Int32 → Int32 → Int32 → Int32 → (Nat → Int32) → (Nat → Int32) → (Nat → Int32) → (Nat → Int32) → (Nat → Int32) → (Nat → Int32) → Prop}
    {f : Nat → Nat} {l n s : Nat} (hl : l < 2) (H : qz_LX l f n sz la pk)
    (hJ : ∀ hd' cu' co' nu', J (nI (s + qz_tb f n ((n + 7) / 8))) (nI (l + 1)) hd' cu' sz la pk co' nu' al) :
    ∀ (d b fuel : Nat) (hd cu : Int32) (co nu : Nat → Int32), b + d = (n + 7) / 8 → d < fuel → wX_packed_18 post J (nI l) (nI ((n + 7) / 8)) fuel (nI (s + qz_tb f n b)) (nI b) hd cu sz la pk co nu al := by
  have hn := H.2.1
  intro d
  induction d with
  | zero =>
    intro b fuel hd cu co nu hi hf
    obtain ⟨m, rfl⟩ : ∃ m, fuel = m + 1 := ⟨fuel - 1, by omega⟩
    obtain rfl : b = (n + 7) / 8 := by omega
    exact br_t (nI_le (Nat.le_refl _) (by omega)) (nm_r (nI_1 l) (hJ _ _ _ _))
  | succ d ih =>
    intro b fuel hd cu co nu hi hf
    obtain ⟨m, rfl⟩ : ∃ m, fuel = m + 1 := ⟨fuel - 1, by omega⟩
    refine br_f (nI_ge (by omega) (by omega)) (qz_unpack hl (by omega) H (fun co' nu' _ _ => nm_r (e' := nI (s + qz_tb f n (b + 1))) ?_ (nm_r (nI_1 b) (ih (b + 1) m _ _ co' nu' (by omega) (by omega)))))
    rw [nI_add]
    exact congrArg nI (Nat.add_assoc _ _ _)
theorem qz_X_packed {post : Int32 → SX → Prop} {F : Nat → Nat → Nat} {N : Nat → Nat} (H : qz_X F N sz la pk)
    (hp : ∀ hd' cu' co' nu', post (nI (0 + qz_tb (F 0) (N 0) ((N 0 + 7) / 8) + qz_tb (F 1) (N 1) ((N 1 + 7) / 8))) (hd', cu', sz, la, pk, co', nu', al)) : wpX_packed post (hd, cu, sz, la, pk, co, nu, al) := by
  have h0 := H 0 (by omega)
  have h1 := H 1 (by omega)
  refine ⟨3, br_f (by decide) (qz_blockCount (l := 0) (by omega) h0.1 h0.2.1 ⟨(N 0 + 7) / 8 + 1, qz_packed_18 (l := 0) (s := 0) (by omega) h0 (fun hd' cu' co' nu' => ?_) ((N 0 + 7) / 8) 0 _ hd cu co nu (by omega) (by omega)⟩)⟩
  refine br_f (by decide) (qz_blockCount (l := 1) (by omega) h1.1 h1.2.1 ⟨(N 1 + 7) / 8 + 1, qz_packed_18 (l := 1) (s := 0 + qz_tb (F 0) (N 0) ((N 0 + 7) / 8)) (by omega) h1 (fun hd2 cu2 co2 nu2 => ?_) ((N 1 + 7) / 8) 0 _ hd' cu' co' nu' (by omega) (by omega)⟩)
  exact br_t (by decide) (hp _ _ _ _)
end
theorem i_vc_base {k : Nat} {u : SX} {v : SY} (I : i_Rel k u v) (hk : k + 4 ≤ 2048) (v1 : Int32) (v2 : Int32) : wpX_base (fun r u' => wpY_base (fun r' => r' = r ∧ i_Rel (k + 4) u' v) v v1 v2) u v1 v2 := by
  obtain ⟨F, N, hX, hY⟩ := I
  obtain ⟨hd, cu, sz, la, pk, co, nu, al⟩ := u
  obtain ⟨nm, ss⟩ := v
  dsimp only at hX hY
  unfold wpX_base
  dsimp only
  rcases qz_bad_or v1 with hb | ⟨l, hl, rfl⟩
  · refine qz_badY hb (br_f (by decide) ?_)
    unfold wpY_base
    dsimp only
    exact qz_isN hb (br_t rfl ⟨rfl, F, N, hX, hY⟩)
  · have hn := (hX l hl).2.1
    have A := (hX l hl).2.2.1
    refine qz_badN hl (br_t rfl (qz_noBlock hl (hX l hl) (fun h => br_f (by decide) ?_) (fun b hb e => br_t rfl ?_)))
    · unfold wpY_base
      dsimp only
      exact qz_isY hl (br_f (by decide) (qz_isBlock hl hn (hY l hl) (fun _ => br_t rfl ⟨rfl, F, N, hX, hY⟩) (fun b hb e => absurd e (h b hb))))
    · subst e
      rw [qz_blk]
      refine qz_get (n := 5) (c := 0) (by omega) (by omega) ?_
      dsimp only
      rw [((hX l hl).2.2.2 b hb).2.1.1]
      unfold wpY_base
      dsimp only
      refine qz_isY hl (br_f (by decide) (qz_isBlock hl hn (hY l hl) (fun z => absurd rfl (z b hb)) (fun b' hb' e => br_f (by decide) ?_)))
      exact qz_Y_bestBase hl hn hb A (hY l hl) ⟨rfl, F, N, hX, hY⟩
theorem i_vc_blockSize {k : Nat} {u : SX} {v : SY} (I : i_Rel k u v) (hk : k + 4 ≤ 2048) (v1 : Int32) (v2 : Int32) : wpX_blockSize (fun r u' => wpY_blockSize (fun r' => r' = r ∧ i_Rel (k + 4) u' v) v v1 v2) u v1 v2 := by
  obtain ⟨F, N, hX, hY⟩ := I
  obtain ⟨hd, cu, sz, la, pk, co, nu, al⟩ := u
  obtain ⟨nm, ss⟩ := v
  dsimp only at hX hY
  unfold wpX_blockSize
  dsimp only
  rcases qz_bad_or v1 with hb | ⟨l, hl, rfl⟩
  · refine qz_badY hb (br_f (by decide) ?_)
    unfold wpY_blockSize
    dsimp only
    exact qz_isN hb (br_t rfl ⟨rfl, F, N, hX, hY⟩)
  · have hn := (hX l hl).2.1
    have A := (hX l hl).2.2.1
    refine qz_badN hl (br_t rfl (qz_noBlock hl (hX l hl) (fun h => br_f (by decide) ?_) (fun b hb e => br_t rfl ?_)))
    · unfold wpY_blockSize
      dsimp only
      exact qz_isY hl (br_f (by decide) (qz_isBlock hl hn (hY l hl) (fun _ => br_t rfl ⟨rfl, F, N, hX, hY⟩) (fun b hb e => absurd e (h b hb))))
    · subst e
      refine qz_unpack hl hb (hX l hl) (fun co' nu' _ _ => ?_)
      exact qz_Y_blockSize hl hn hb A (hY l hl) ⟨rfl, F, N, hX, hY⟩
theorem i_vc_packed {k : Nat} {u : SX} {v : SY} (I : i_Rel k u v) (hk : k + 4 ≤ 2048) : wpX_packed (fun r u' => wpY_packed (fun r' => r' = r ∧ i_Rel (k + 4) u' v) v) u := by
  obtain ⟨F, N, hX, hY⟩ := I
  obtain ⟨hd, cu, sz, la, pk, co, nu, al⟩ := u
  obtain ⟨nm, ss⟩ := v
  dsimp only at hX hY
  exact qz_X_packed hX (fun hd' cu' co' nu' => qz_Y_packed (qz_N64 hX) (fun m hm => (hX m hm).2.2.1) hY ⟨rfl, F, N, hX, hY⟩)
end
section
/-! common, commonAt, tail -/
noncomputable def qz_if {α : Type} (P : Prop) (a b : α) : α := @ite α P (Classical.propDecidable P) a b
theorem qz_if_y {α : Type} {P : Prop} {a b : α} (h : P) : qz_if P a b = a := if_pos h
theorem qz_if_n {α : Type} {P : Prop} {a b : α} (h : ¬ P) : qz_if P a b = b := if_neg h
noncomputable def qz_cn (P : Nat → Prop) : Nat → Nat
  | 0 => 0
  | i + 1 => qz_cn P i + qz_if (P i) 1 0
theorem qz_cn_y {P : Nat → Prop} {i : Nat} (h : P i) : qz_cn P (i + 1) = qz_cn P i + 1 := by
  show qz_cn P i + qz_if (P i) 1 0 = _
  rw [qz_if_y h]
theorem qz_cn_n {P : Nat → Prop} {i : Nat} (h : ¬ P i) : qz_cn P (i + 1) = qz_cn P i := by
  show qz_cn P i + qz_if (P i) 1 0 = _
  rw [qz_if_n h, Nat.add_zero]
theorem qz_cn_id {P : Nat → Prop} : ∀ i : Nat, qz_cn P i ≤ i
  | 0 => Nat.le_refl _
  | i + 1 => by
    have ih := qz_cn_id (P := P) i
    by_cases h : P i
    · rw [qz_cn_y h]; omega
    · rw [qz_cn_n h]; omega
theorem qz_cn_mono {P : Nat → Prop} {i : Nat} : ∀ d : Nat, qz_cn P i ≤ qz_cn P (i + d)
  | 0 => Nat.le_refl _
  | d + 1 => by
    have ih := qz_cn_mono (P := P) (i := i) d
    show _ ≤ qz_cn P (i + d) + _
    omega
theorem qz_cn_le {P : Nat → Prop} {i j : Nat} (h : i ≤ j) : qz_cn P i ≤ qz_cn P j := by
  obtain ⟨d, rfl⟩ : ∃ d, j = i + d := ⟨j - i, by omega⟩
  exact qz_cn_mono d
theorem qz_cn_lt {P : Nat → Prop} {i j : Nat} (h : i < j) (hi : P i) : qz_cn P i < qz_cn P j := by
  have := qz_cn_le (P := P) (show i + 1 ≤ j from h)
  rw [qz_cn_y hi] at this
  omega
theorem qz_cn_skip {P : Nat → Prop} {a : Nat} : ∀ d : Nat, (∀ j, a ≤ j → j < a + d → ¬ P j) → qz_cn P (a + d) = qz_cn P a
  | 0, _ => rfl
  | d + 1, h => by
    rw [show a + (d + 1) = a + d + 1 from by omega, qz_cn_n (h (a + d) (by omega) (by omega))]
    exact qz_cn_skip d (fun j h1 h2 => h j h1 (by omega))
/-- the number at place i of list 0 is in list 1 -/
def qz_com (F : Nat → Nat → Nat) (N : Nat → Nat) (i : Nat) : Prop := qz_In (F 1) (N 1) (nI (F 0 i))
def qz_NX (F : Nat → Nat → Nat) (N : Nat → Nat) (i k : Nat) : Prop := i ≤ k ∧ k ≤ N 0 ∧ (∀ j, i ≤ j → j < k → ¬ qz_com F N j) ∧ (k < N 0 → qz_com F N k)
theorem qz_NX_cn {F : Nat → Nat → Nat} {N : Nat → Nat} {i k : Nat} (h : qz_NX F N i k) : qz_cn (qz_com F N) k = qz_cn (qz_com F N) i := by
  obtain ⟨d, rfl⟩ : ∃ d, k = i + d := ⟨k - i, by have := h.1; omega⟩
  exact qz_cn_skip d h.2.2.1
/-- between x and y there is nothing in list 1 -/
theorem qz_gap_com {F : Nat → Nat → Nat} {N : Nat → Nat} {at' j k : Nat} (A0 : qz_Asc (F 0) (N 0)) (A1 : qz_Asc (F 1) (N 1)) (hj : at' ≤ j) (hj0 : j < N 0)
    (hF : qz_FF (F 1) (N 1) (nI (F 0 at')) k) (hy : k < N 1 → F 0 j < F 1 k) : ¬ qz_com F N j := by
  intro ⟨m, hm, e⟩
  have b0 := A0.1 at' (by omega)
  have b1 := A0.1 j hj0
  rw [nI_toInt (by omega)] at e
  obtain ⟨_, h2, _⟩ := hF
  rw [nI_toInt (by omega)] at h2
  have hle : F 0 at' ≤ F 0 j := by
    rcases Nat.lt_or_ge at' j with z | z
    · exact Nat.le_of_lt (A0.2 _ _ z hj0)
    · rw [show at' = j from by omega]; exact Nat.le_refl _
  rcases Nat.lt_or_ge m k with z | z
  · have := h2 m z
    omega
  · have := hy (by omega)
    rcases Nat.lt_or_ge k m with y | y
    · have := A1.2 k m y hm
      omega
    · rw [show k = m from by omega] at this
      omega
section
variable {sz la pk al : Nat → Int32}
theorem qz_nextCommon_4 {post : Int32 → SX → Prop} {F : Nat → Nat → Nat} {N : Nat → Nat} {i : Nat} (H : qz_X F N sz la pk)
    (hp : ∀ k hd' cu' co' nu', qz_NX F N i k → post (nI k) (hd', cu', sz, la, pk, co', nu', al)) :
    ∀ (d a r fuel : Nat) (hd cu : Int32) (co nu : Nat → Int32), i ≤ a → a ≤ N 0 → r ≤ a → N 0 - a ≤ d → d < fuel → (∀ j, i ≤ j → j < a → ¬ qz_com F N j) →
      wX_nextCommon_4 post fuel (nI a) (nI r) hd cu sz la pk co nu al := by
  have h0 := H 0 (by omega)
  have h1 := H 1 (by omega)
  have n0 := h0.2.1
  have n1 := h1.2.1
  have done : ∀ (a m : Nat) (x3 : Int32) (hd cu : Int32) (co nu : Nat → Int32), i ≤ a → a = N 0 → (∀ j, i ≤ j → j < a → ¬ qz_com F N j) → wX_nextCommon_4 post (m + 1) (nI a) x3 hd cu sz la pk co nu al := by
    intro a m x3 hd cu co nu hia ha hj
    have hq := hp (N 0) hd cu co nu ⟨by omega, Nat.le_refl _, fun j hj1 hj2 => hj j hj1 (by omega), fun z => absurd z (by omega)⟩
    rw [← h0.1] at hq
    refine br_c (fun _ => hq) (fun _ => br_t ?_ hq)
    rw [h0.1]
    exact nI_le (by omega) (by omega)
  intro d
  induction d with
  | zero =>
    intro a r fuel hd cu co nu hia ha0 hr hd0 hf hj
    obtain ⟨m, rfl⟩ : ∃ m, fuel = m + 1 := ⟨fuel - 1, by omega⟩
    exact done a m _ _ _ _ _ hia (by omega) hj
  | succ d ih =>
    intro a r fuel hd cu co nu hia ha0 hr hd0 hf hj
    obtain ⟨m, rfl⟩ : ∃ m, fuel = m + 1 := ⟨fuel - 1, by omega⟩
    rcases Nat.lt_or_ge a (N 0) with ha | ha
    · have b0 := h0.2.2.1.1 a ha
      refine pk_lt 64 r (fun z => absurd z (by omega)) (fun _ => br_f ?_ ?_)
      · rw [h0.1]
        exact nI_ge ha (by omega)
      refine qz_numberAt (l := 0) (by omega) ha h0 (fun hd' cu' co' nu' => ?_)
      refine qz_firstFrom (l := 1) (by omega) h1 (fun k hd2 cu2 co2 nu2 hF _ => ?_)
      have hk := hF.1
      dsimp only
      rw [h1.1]
      refine pk_eq k (N 1) (fun z => ?_) (fun z => ?_)
      · rw [h0.1]
        refine hp (N 0) _ _ _ _ ⟨by omega, Nat.le_refl _, fun j hj1 hj2 => ?_, fun z => absurd z (by omega)⟩
        rcases Nat.lt_or_ge j a with y | y
        · exact hj j hj1 y
        · exact qz_gap_com h0.2.2.1 h1.2.2.1 y hj2 hF (fun w => absurd w (by omega))
      · have hk1 : k < N 1 := by omega
        have b1 := h1.2.2.1.1 k hk1
        refine qz_numberAt (l := 1) (by omega) hk1 h1 (fun hd3 cu3 co3 nu3 => ?_)
        refine pk_eq (F 1 k) (F 0 a) (fun e => ?_) (fun e => ?_)
        · refine hp a _ _ _ _ ⟨hia, ha0, hj, fun _ => ⟨k, hk1, ?_⟩⟩
          rw [nI_toInt (by omega), e]
        · have hgt : F 0 a < F 1 k := by
            have := hF.2.2 hk1
            rw [nI_toInt (by omega)] at this
            omega
          refine qz_firstFrom (l := 0) (by omega) h0 (fun a' hd4 cu4 co4 nu4 hF' _ => nm_r (nI_1 r) ?_)
          obtain ⟨g1, g2, g3⟩ := hF'
          rw [nI_toInt (by omega)] at g2 g3
          have haa : a < a' := by
            rcases Nat.lt_or_ge a a' with y | y
            · exact y
            · have q1 := g3 (by omega)
              rcases Nat.lt_or_ge a' a with w | w
              · have := h0.2.2.1.2 a' a w ha
                omega
              · rw [show a' = a from by omega] at q1
                omega
          refine ih a' (r + 1) m _ _ _ _ (by omega) g1 (by omega) (by omega) (by omega) (fun j hj1 hj2 => ?_)
          rcases Nat.lt_or_ge j a with y | y
          · exact hj j hj1 y
          · have := g2 j hj2
            exact qz_gap_com h0.2.2.1 h1.2.2.1 y (by omega) hF (fun _ => by omega)
    · exact done a m _ _ _ _ _ hia (by omega) hj
theorem qz_nextCommon {post : Int32 → SX → Prop} {F : Nat → Nat → Nat} {N : Nat → Nat} {i : Nat} {hd cu : Int32} {co nu : Nat → Int32} (H : qz_X F N sz la pk) (hi : i ≤ N 0)
    (hp : ∀ k hd' cu' co' nu', qz_NX F N i k → post (nI k) (hd', cu', sz, la, pk, co', nu', al)) : wpX_nextCommon post (hd, cu, sz, la, pk, co, nu, al) (nI i) :=
  ⟨N 0 + 1, qz_nextCommon_4 H hp (N 0) i 0 (N 0 + 1) hd cu co nu (Nat.le_refl i) hi (by omega) (by omega) (by omega) (fun j h1 h2 => absurd h1 (by omega))⟩
theorem qz_common_10 {post : Int32 → SX → Prop} {F : Nat → Nat → Nat} {N : Nat → Nat} (H : qz_X F N sz la pk)
    (hp : ∀ hd' cu' co' nu', post (nI (qz_cn (qz_com F N) (N 0))) (hd', cu', sz, la, pk, co', nu', al)) :
    ∀ (d a fuel : Nat) (hd cu : Int32) (co nu : Nat → Int32), a ≤ N 0 → N 0 - a ≤ d → d < fuel → (a < N 0 → qz_com F N a) →
      wX_common_10 post fuel (nI (qz_cn (qz_com F N) a)) (nI a) (nI (qz_cn (qz_com F N) a)) hd cu sz la pk co nu al := by
  have h0 := H 0 (by omega)
  have n0 := h0.2.1
  have done : ∀ (a m : Nat) (hd cu : Int32) (co nu : Nat → Int32), a = N 0 → wX_common_10 post (m + 1) (nI (qz_cn (qz_com F N) a)) (nI a) (nI (qz_cn (qz_com F N) a)) hd cu sz la pk co nu al := by
    intro a m hd cu co nu ha
    subst ha
    refine br_c (fun _ => hp _ _ _ _) (fun _ => br_t ?_ (hp _ _ _ _))
    rw [h0.1]
    exact nI_le (Nat.le_refl _) (by omega)
  intro d
  induction d with
  | zero =>
    intro a fuel hd cu co nu ha0 hd0 hf hc
    obtain ⟨m, rfl⟩ : ∃ m, fuel = m + 1 := ⟨fuel - 1, by omega⟩
    exact done a m _ _ _ _ (by omega)
  | succ d ih =>
    intro a fuel hd cu co nu ha0 hd0 hf hc
    obtain ⟨m, rfl⟩ : ∃ m, fuel = m + 1 := ⟨fuel - 1, by omega⟩
    rcases Nat.lt_or_ge a (N 0) with ha | ha
    · have hid := qz_cn_id (P := qz_com F N) a
      refine pk_lt 64 (qz_cn (qz_com F N) a) (fun z => absurd z (by omega)) (fun _ => br_f ?_ (nm_r (nI_1 _) ?_))
      · rw [h0.1]
        exact nI_ge ha (by omega)
      rw [nI_1 a]
      refine qz_nextCommon H (by omega) (fun k hd' cu' co' nu' hN => nm_r (nI_1 _) ?_)
      have e := qz_NX_cn hN
      rw [qz_cn_y (hc ha)] at e
      have := ih k m hd' cu' co' nu' hN.2.1 (by have := hN.1; omega) (by omega) hN.2.2.2
      rw [e] at this
      exact this
    · exact done a m _ _ _ _ (by omega)
theorem qz_X_common {post : Int32 → SX → Prop} {F : Nat → Nat → Nat} {N : Nat → Nat} {hd cu : Int32} {co nu : Nat → Int32} (H : qz_X F N sz la pk)
    (hp : ∀ hd' cu' co' nu', post (nI (qz_cn (qz_com F N) (N 0))) (hd', cu', sz, la, pk, co', nu', al)) : wpX_common post (hd, cu, sz, la, pk, co, nu, al) := by
  unfold wpX_common
  dsimp only
  refine qz_nextCommon (i := 0) H (by omega) (fun k hd' cu' co' nu' hN => ⟨N 0 + 1, ?_⟩)
  have := qz_common_10 H hp (N 0) k (N 0 + 1) hd' cu' co' nu' hN.2.1 (by omega) (by omega) hN.2.2.2
  rw [qz_NX_cn hN] at this
  exact this
theorem qz_commonAt_50 {post : Int32 → SX → Prop} {F : Nat → Nat → Nat} {N : Nat → Nat} {a : Nat} {hd cu : Int32} {co nu : Nat → Int32} (H : qz_X F N sz la pk) (ha : a ≤ N 0)
    (h1 : a < N 0 → ∀ hd' cu' co' nu', post (nI (F 0 a)) (hd', cu', sz, la, pk, co', nu', al)) (h2 : a = N 0 → ∀ hd' cu' co' nu', post (-4) (hd', cu', sz, la, pk, co', nu', al)) :
    wX_commonAt_50 post (nI a) hd cu sz la pk co nu al := by
  have h0 := H 0 (by omega)
  have n0 := h0.2.1
  unfold wX_commonAt_50
  rw [h0.1]
  exact pk_le (N 0) a (fun z => h2 (by omega) _ _ _ _) (fun z => qz_numberAt (l := 0) (by omega) z h0 (fun hd' cu' co' nu' => h1 z _ _ _ _))
theorem qz_commonAt_15 {post : Int32 → SX → Prop} {F : Nat → Nat → Nat} {N : Nat → Nat} {k : Nat} (H : qz_X F N sz la pk) (hk : k < 2 ^ 31)
    (hp1 : ∀ i, i < N 0 → qz_com F N i → qz_cn (qz_com F N) i = k → ∀ hd' cu' co' nu', post (nI (F 0 i)) (hd', cu', sz, la, pk, co', nu', al))
    (hp0 : (∀ i, i < N 0 → qz_com F N i → qz_cn (qz_com F N) i ≠ k) → ∀ hd' cu' co' nu', post (-4) (hd', cu', sz, la, pk, co', nu', al)) :
    ∀ (d a fuel : Nat) (hd cu : Int32) (co nu : Nat → Int32), a ≤ N 0 → N 0 - a ≤ d → d < fuel → (a < N 0 → qz_com F N a) → qz_cn (qz_com F N) a ≤ k →
      wX_commonAt_15 post (nI k) fuel (nI a) (nI (qz_cn (qz_com F N) a)) hd cu sz la pk co nu al := by
  have h0 := H 0 (by omega)
  have n0 := h0.2.1
  have e0 : qz_cn (qz_com F N) (N 0) ≤ k → (∀ i, i < N 0 → qz_com F N i → qz_cn (qz_com F N) i ≠ k) := by
    intro h i hi hc e
    have := qz_cn_lt hi hc
    omega
  intro d
  induction d with
  | zero =>
    intro a fuel hd cu co nu ha0 hd0 hf hc hr
    obtain ⟨m, rfl⟩ : ∃ m, fuel = m + 1 := ⟨fuel - 1, by omega⟩
    obtain rfl : a = N 0 := by omega
    have hid := qz_cn_id (P := qz_com F N) (N 0)
    have h50 : wX_commonAt_50 post (nI (N 0)) hd cu sz la pk co nu al := qz_commonAt_50 H ha0 (fun z => absurd z (by omega)) (fun _ => hp0 (e0 hr))
    refine br_c (fun _ => h50) (fun _ => br_c (fun _ => h50) (fun _ => br_t ?_ h50))
    rw [h0.1]
    exact nI_le (Nat.le_refl _) (by omega)
  | succ d ih =>
    intro a fuel hd cu co nu ha0 hd0 hf hc hr
    obtain ⟨m, rfl⟩ : ∃ m, fuel = m + 1 := ⟨fuel - 1, by omega⟩
    have hid := qz_cn_id (P := qz_com F N) a
    refine pk_le k (qz_cn (qz_com F N) a) (fun z => ?_) (fun z => pk_lt 64 (qz_cn (qz_com F N) a) (fun y => absurd y (by omega)) (fun _ => ?_))
    · refine qz_commonAt_50 H ha0 (fun y => hp1 a y (hc y) (by omega)) (fun y => hp0 (e0 ?_))
      rw [← y]
      exact hr
    · rw [h0.1]
      refine pk_le (N 0) a (fun y => ?_) (fun y => ?_)
      · refine qz_commonAt_50 H ha0 (fun w => absurd w (by omega)) (fun w => hp0 (e0 ?_))
        rw [← w]
        exact hr
      · rw [nI_1 a]
        refine qz_nextCommon H (by omega) (fun b hd' cu' co' nu' hN => nm_r (nI_1 _) ?_)
        have e := qz_NX_cn hN
        rw [qz_cn_y (hc y)] at e
        have := ih b m hd' cu' co' nu' hN.2.1 (by have := hN.1; omega) (by omega) hN.2.2.2 (by omega)
        rw [e] at this
        exact this
theorem qz_X_commonAt {post : Int32 → SX → Prop} {F : Nat → Nat → Nat} {N : Nat → Nat} {x : Int32} {hd cu : Int32} {co nu : Nat → Int32} (H : qz_X F N sz la pk)
    (hp1 : ∀ i, i < N 0 → qz_com F N i → nI (qz_cn (qz_com F N) i) = x → ∀ hd' cu' co' nu', post (nI (F 0 i)) (hd', cu', sz, la, pk, co', nu', al))
    (hp0 : (∀ i, i < N 0 → qz_com F N i → nI (qz_cn (qz_com F N) i) ≠ x) → ∀ hd' cu' co' nu', post (-4) (hd', cu', sz, la, pk, co', nu', al)) :
    wpX_commonAt post (hd, cu, sz, la, pk, co, nu, al) x := by
  have n0 := (H 0 (by omega)).2.1
  by_cases h : 0 ≤ x
  · obtain ⟨k, hk, rfl⟩ := nI_of (x := x) (Int32.not_lt.mpr h)
    refine br_t h (qz_nextCommon (i := 0) H (by omega) (fun b hd' cu' co' nu' hN => ⟨N 0 + 1, ?_⟩))
    have e := qz_NX_cn hN
    have e' : qz_cn (qz_com F N) b = 0 := e
    have := qz_commonAt_15 H hk (fun i hi hc e => hp1 i hi hc (by rw [e])) (fun h' => hp0 (fun i hi hc e => h' i hi hc ?_)) (N 0) b (N 0 + 1) hd' cu' co' nu' hN.2.1 (by omega) (by omega) hN.2.2.2 (by omega)
    · rw [e'] at this
      exact this
    · have hid := qz_cn_id (P := qz_com F N) i
      exact (nI_eq (by omega) hk).mp e
  · refine br_f h (hp0 (fun i hi hc e => h ?_) _ _ _ _)
    have hid := qz_cn_id (P := qz_com F N) i
    rw [← e]
    exact nI_pos' (by omega)
end
section
variable {nm ss : Nat → Int32}
theorem qz_Ynum {F : Nat → Nat → Nat} {N : Nat → Nat} (H : qz_Y F N nm ss) {i : Nat} (hi : i < N 0) : nm i = nI (F 0 i) := by
  have := (H 0 (by omega)).2 i hi
  rw [show 64 * 0 + i = i from by omega] at this
  exact this
theorem qz_Ycommon_4 {post : Int32 → Prop} {F : Nat → Nat → Nat} {N : Nat → Nat} (hN : ∀ m, m < 2 → N m ≤ 64) (hA : ∀ m, m < 2 → qz_Asc (F m) (N m)) (H : qz_Y F N nm ss)
    (hp : post (nI (qz_cn (qz_com F N) (N 0)))) :
    ∀ d i fuel : Nat, i + d = N 0 → d < fuel → wY_common_4 post nm ss fuel (nI (qz_cn (qz_com F N) i)) (nI i) := by
  have k0 := hN 0 (by omega)
  have k1 := hN 1 (by omega)
  intro d
  induction d with
  | zero =>
    intro i fuel hi hf
    obtain ⟨m, rfl⟩ : ∃ m, fuel = m + 1 := ⟨fuel - 1, by omega⟩
    obtain rfl : i = N 0 := by omega
    refine br_t ?_ hp
    rw [(H 0 (by omega)).1]
    exact nI_le (Nat.le_refl _) (by omega)
  | succ d ih =>
    intro i fuel hi hf
    obtain ⟨m, rfl⟩ : ∃ m, fuel = m + 1 := ⟨fuel - 1, by omega⟩
    have hk := ih (i + 1) m (by omega) (by omega)
    refine br_f ?_ ⟨vp_in_nI (by omega) (by omega), ?_⟩
    · rw [(H 0 (by omega)).1]
      exact nI_ge (by omega) (by omega)
    rw [nI_clamp (by omega), qz_Ynum H (by omega)]
    refine qz_Y_has (l := 1) (by omega) k1 (hA 1 (by omega)) (H 1 (by omega)) (fun h => br_f (by decide) (nm_r (nI_1 _) (nm_r (nI_1 i) ?_))) (fun h => br_t rfl (nm_r (nI_1 i) ?_))
    · rw [qz_cn_y (P := qz_com F N) h] at hk
      exact hk
    · rw [qz_cn_n (P := qz_com F N) h] at hk
      exact hk
theorem qz_YcommonAt_4 {post : Int32 → Prop} {F : Nat → Nat → Nat} {N : Nat → Nat} {x : Int32} (hN : ∀ m, m < 2 → N m ≤ 64) (hA : ∀ m, m < 2 → qz_Asc (F m) (N m)) (H : qz_Y F N nm ss)
    (hp1 : ∀ i, i < N 0 → qz_com F N i → nI (qz_cn (qz_com F N) i) = x → post (nI (F 0 i)))
    (hp0 : (∀ i, i < N 0 → qz_com F N i → nI (qz_cn (qz_com F N) i) ≠ x) → post (-4)) :
    ∀ d i fuel : Nat, i + d = N 0 → d < fuel → (∀ j, j < i → qz_com F N j → nI (qz_cn (qz_com F N) j) ≠ x) → wY_commonAt_4 post x nm ss fuel (nI (qz_cn (qz_com F N) i)) (nI i) := by
  have k0 := hN 0 (by omega)
  have k1 := hN 1 (by omega)
  intro d
  induction d with
  | zero =>
    intro i fuel hi hf hj
    obtain ⟨m, rfl⟩ : ∃ m, fuel = m + 1 := ⟨fuel - 1, by omega⟩
    obtain rfl : i = N 0 := by omega
    refine br_t ?_ (hp0 hj)
    rw [(H 0 (by omega)).1]
    exact nI_le (Nat.le_refl _) (by omega)
  | succ d ih =>
    intro i fuel hi hf hj
    obtain ⟨m, rfl⟩ : ∃ m, fuel = m + 1 := ⟨fuel - 1, by omega⟩
    have hin : vp_in (nI i) 128 := vp_in_nI (by omega) (by omega)
    refine br_f ?_ ⟨hin, ?_⟩
    · rw [(H 0 (by omega)).1]
      exact nI_ge (by omega) (by omega)
    rw [nI_clamp (by omega), qz_Ynum H (by omega)]
    refine qz_Y_has (l := 1) (by omega) k1 (hA 1 (by omega)) (H 1 (by omega)) (fun h => br_f (by decide) (br_c (fun e => ⟨hin, hp1 i (by omega) h e⟩) (fun e => nm_r (nI_1 _) (nm_r (nI_1 i) ?_)))) (fun h => br_t rfl (nm_r (nI_1 i) ?_))
    · have hk := ih (i + 1) m (by omega) (by omega) (fun j hj2 hc => by
        rcases Nat.lt_or_ge j i with y | y
        · exact hj j y hc
        · obtain rfl : j = i := by omega
          exact e)
      rw [qz_cn_y (P := qz_com F N) h] at hk
      exact hk
    · have hk := ih (i + 1) m (by omega) (by omega) (fun j hj2 hc => by
        rcases Nat.lt_or_ge j i with y | y
        · exact hj j y hc
        · obtain rfl : j = i := by omega
          exact absurd hc h)
      rw [qz_cn_n (P := qz_com F N) h] at hk
      exact hk
end
theorem i_vc_common {k : Nat} {u : SX} {v : SY} (I : i_Rel k u v) (hk : k + 4 ≤ 2048) : wpX_common (fun r u' => wpY_common (fun r' => r' = r ∧ i_Rel (k + 4) u' v) v) u := by
  obtain ⟨F, N, hX, hY⟩ := I
  obtain ⟨hd, cu, sz, la, pk, co, nu, al⟩ := u
  obtain ⟨nm, ss⟩ := v
  dsimp only at hX hY
  exact qz_X_common hX (fun hd' cu' co' nu' => ⟨N 0 + 1, qz_Ycommon_4 (qz_N64 hX) (fun m hm => (hX m hm).2.2.1) hY ⟨rfl, F, N, hX, hY⟩ (N 0) 0 (N 0 + 1) (by omega) (by omega)⟩)
theorem i_vc_commonAt {k : Nat} {u : SX} {v : SY} (I : i_Rel k u v) (hk : k + 4 ≤ 2048) (v1 : Int32) : wpX_commonAt (fun r u' => wpY_commonAt (fun r' => r' = r ∧ i_Rel (k + 4) u' v) v v1) u v1 := by
  obtain ⟨F, N, hX, hY⟩ := I
  obtain ⟨hd, cu, sz, la, pk, co, nu, al⟩ := u
  obtain ⟨nm, ss⟩ := v
  dsimp only at hX hY
  have n0 := (hX 0 (by omega)).2.1
  refine qz_X_commonAt hX (fun i hi hc e hd' cu' co' nu' => ⟨N 0 + 1, ?_⟩) (fun h hd' cu' co' nu' => ⟨N 0 + 1, ?_⟩)
  · refine qz_YcommonAt_4 (qz_N64 hX) (fun m hm => (hX m hm).2.2.1) hY (fun j hj hcj ej => ⟨?_, F, N, hX, hY⟩) (fun h => absurd e (h i hi hc)) (N 0) 0 (N 0 + 1) (by omega) (by omega) (fun j hj => absurd hj (by omega))
    have i1 := qz_cn_id (P := qz_com F N) i
    have i2 := qz_cn_id (P := qz_com F N) j
    have e2 := (nI_eq (by omega) (by omega)).mp (ej.trans e.symm)
    rcases Nat.lt_trichotomy i j with z | z | z
    · have := qz_cn_lt z hc
      omega
    · rw [z]
    · have := qz_cn_lt z hcj
      omega
  · exact qz_YcommonAt_4 (qz_N64 hX) (fun m hm => (hX m hm).2.2.1) hY (fun j hj hcj ej => absurd ej (h j hj hcj)) (fun _ => ⟨rfl, F, N, hX, hY⟩) (N 0) 0 (N 0 + 1) (by omega) (by omega) (fun j hj => absurd hj (by omega))
/-- tail's answer from place i on down -/
noncomputable def qz_tl (P : Nat → Prop) (f : Nat → Nat) : Nat → Int32 → Int32
  | 0, r => r
  | i + 1, r => qz_if (P i) (qz_tl P f i (nI (f i))) r
theorem qz_1m {l : Nat} (hl : l < 2) : 1 - nI l = nI (1 - l) := pk_sub (a := 1) (by omega)
section
variable {sz la pk al : Nat → Int32}
theorem qz_tail_25 {post : Int32 → SX → Prop} {F : Nat → Nat → Nat} {N : Nat → Nat} {l : Nat} (hl : l < 2) (H : qz_X F N sz la pk) :
    ∀ (i fuel : Nat) (r : Int32) (hd cu : Int32) (co nu : Nat → Int32), i ≤ N l → i < fuel →
      (∀ hd' cu' co' nu', post (qz_tl (fun j => qz_In (F (1 - l)) (N (1 - l)) (nI (F l j))) (F l) i r) (hd', cu', sz, la, pk, co', nu', al)) →
      wX_tail_25 post (nI l) fuel r 1 (nI i - 1) hd cu sz la pk co nu al := by
  have n0 := (H l hl).2.1
  have hm : 1 - l < 2 := by omega
  intro i
  induction i with
  | zero =>
    intro fuel r hd cu co nu hi hf hp
    obtain ⟨m, rfl⟩ : ∃ m, fuel = m + 1 := ⟨fuel - 1, by omega⟩
    exact br_t (by decide) (hp _ _ _ _)
  | succ t ih =>
    intro fuel r hd cu co nu hi hf hp
    obtain ⟨m, rfl⟩ : ∃ m, fuel = m + 1 := ⟨fuel - 1, by omega⟩
    rw [nI_pred]
    refine br_f (nI_pos (by omega)) (br_f (by decide) (qz_numberAt hl (by omega) (H l hl) (fun hd' cu' co' nu' => ?_)))
    dsimp only
    rw [qz_1m hl]
    refine qz_X_has hm (H (1 - l) hm) (fun h hd2 cu2 co2 nu2 => br_f (by decide) (nm_r (e' := nI t - 1) (Int32.sub_eq_add_neg _ _).symm ?_)) (fun h hd2 cu2 co2 nu2 => br_t rfl (nm_e ?_))
    · refine ih m _ _ _ _ _ (by omega) (by omega) (fun hd' cu' co' nu' => ?_)
      have := hp hd' cu' co' nu'
      unfold qz_tl at this
      rw [qz_if_y h] at this
      exact this
    · obtain ⟨g, rfl⟩ : ∃ g, m = g + 1 := ⟨m - 1, by omega⟩
      have hq : ∀ hd' cu' co' nu', post r (hd', cu', sz, la, pk, co', nu', al) := by
        intro hd' cu' co' nu'
        have := hp hd' cu' co' nu'
        unfold qz_tl at this
        rw [qz_if_n h] at this
        exact this
      exact br_c (fun _ => hq _ _ _ _) (fun _ => br_t rfl (hq _ _ _ _))
theorem qz_Ytail_22 {nm ss : Nat → Int32} {post : Int32 → Prop} {F : Nat → Nat → Nat} {N : Nat → Nat} {l : Nat} (hl : l < 2) (hN : ∀ m, m < 2 → N m ≤ 64) (hA : ∀ m, m < 2 → qz_Asc (F m) (N m)) (H : qz_Y F N nm ss) :
    ∀ (i fuel : Nat) (r : Int32), i ≤ N l → i < fuel → post (qz_tl (fun j => qz_In (F (1 - l)) (N (1 - l)) (nI (F l j))) (F l) i r) →
      wY_tail_22 post (nI l) nm ss fuel r (nI i - 1) := by
  have n0 := hN l hl
  have hm : 1 - l < 2 := by omega
  intro i
  induction i with
  | zero =>
    intro fuel r hi hf hp
    obtain ⟨m, rfl⟩ : ∃ m, fuel = m + 1 := ⟨fuel - 1, by omega⟩
    exact br_t (by decide) hp
  | succ t ih =>
    intro fuel r hi hf hp
    obtain ⟨m, rfl⟩ : ∃ m, fuel = m + 1 := ⟨fuel - 1, by omega⟩
    have hin : vp_in (nI (64 * l + t)) 128 := vp_in_nI (by omega) (by omega)
    rw [nI_pred]
    refine br_f (nI_pos (by omega)) ?_
    rw [qz_i64, qz_1m hl, nI_clamp (by omega), (H l hl).2 t (by omega)]
    unfold qz_tl at hp
    refine ⟨hin, qz_Y_has hm (hN _ hm) (hA _ hm) (H _ hm) (fun h => br_f (by decide) ⟨hin, nm_e (nm_r (e' := nI t - 1) (Int32.sub_eq_add_neg _ _).symm (ih m _ (by omega) (by omega) ?_))⟩) (fun h => br_t rfl ?_)⟩
    · rw [qz_if_y h] at hp
      exact hp
    · rw [qz_if_n h] at hp
      exact hp
end
theorem i_vc_tail {k : Nat} {u : SX} {v : SY} (I : i_Rel k u v) (hk : k + 4 ≤ 2048) (v1 : Int32) : wpX_tail (fun r u' => wpY_tail (fun r' => r' = r ∧ i_Rel (k + 4) u' v) v v1) u v1 := by
  obtain ⟨F, N, hX, hY⟩ := I
  obtain ⟨hd, cu, sz, la, pk, co, nu, al⟩ := u
  obtain ⟨nm, ss⟩ := v
  dsimp only at hX hY
  unfold wpX_tail
  dsimp only
  rcases qz_bad_or v1 with hb | ⟨l, hl, rfl⟩
  · refine qz_badY hb (br_f (by decide) ?_)
    unfold wpY_tail
    dsimp only
    exact qz_isN hb (br_t rfl ⟨rfl, F, N, hX, hY⟩)
  · have hin : vp_in (nI l) 2 := vp_in_nI hl (by omega)
    have hcl : (nI l).toNatClampNeg = l := nI_clamp (by omega)
    refine qz_badN hl (br_t rfl ⟨hin, nm_r (e' := nI (N l) - 1) (by rw [hcl, (hX l hl).1]) ⟨N l + 1, qz_tail_25 hl hX (N l) (N l + 1) (-4) hd cu co nu (Nat.le_refl _) (by omega) (fun hd' cu' co' nu' => ?_)⟩⟩)
    unfold wpY_tail
    dsimp only
    exact qz_isY hl (br_f (by decide) ⟨hin, nm_r (e' := nI (N l) - 1) (by rw [hcl, (hY l hl).1]) ⟨N l + 1, qz_Ytail_22 hl (qz_N64 hX) (fun m hm => (hX m hm).2.2.1) hY (N l) (N l + 1) (-4) (Nat.le_refl _) (by omega) ⟨rfl, F, N, hX, hY⟩⟩⟩)
end
