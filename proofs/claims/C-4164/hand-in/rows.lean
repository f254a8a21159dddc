section
/-! rows of kit/rows, as they stand there -/
theorem pk_us {f : Nat → Int32} {k : Nat} {x : Int32} : upd f k x k = x := if_pos rfl
theorem pk_un {f : Nat → Int32} {k j : Nat} {x : Int32} (h : j ≠ k) : upd f k x j = f j := if_neg h
theorem pk_uLs {f : Nat → Int64} {k : Nat} {x : Int64} : vp_updL f k x k = x := if_pos rfl
theorem pk_uLn {f : Nat → Int64} {k j : Nat} {x : Int64} (h : j ≠ k) : vp_updL f k x j = f j := if_neg h
theorem pk_sub {a b : Nat} (h : b ≤ a) : nI a - nI b = nI (a - b) := by
  obtain ⟨c, rfl⟩ : ∃ c, a = c + b := ⟨a - b, by omega⟩
  rw [← nI_add, Int32.add_sub_cancel, Nat.add_sub_cancel]
theorem pk_mul (a b : Nat) : nI a * nI b = nI (a * b) := (Int32.ofNat_mul a b).symm
theorem pk_div {a d : Nat} (ha : a < 2 ^ 31) (h0 : 0 < d) (hd : d < 2 ^ 31) : nI a / nI d = nI (a / d) := by
  apply Int32.toInt_inj.mp
  rw [lg_idiv_nonneg (by rw [nI_toInt ha]; omega) (by rw [nI_toInt hd]; omega), nI_toInt ha, nI_toInt hd, nI_toInt (Nat.lt_of_le_of_lt (Nat.div_le_self a d) ha)]
  first | rfl | exact (Int.natCast_ediv _ _).symm
theorem pk_rem {a d : Nat} (ha : a < 2 ^ 31) (h0 : 0 < d) (hd : d < 2 ^ 31) : nI a - nI a / nI d * nI d = nI (a % d) := by
  rw [pk_div ha h0 hd, pk_mul, pk_sub (Nat.div_mul_le_self a d)]
  exact congrArg nI (by have := Nat.div_add_mod' a d; omega)
theorem pk_le {x y : Int32} {A B : Prop} (a b : Nat) (f : a ≤ b → A) (g : b < a → B) (hx : x = nI a := by rfl) (hy : y = nI b := by rfl) (ha : a < 2 ^ 31 := by omega) (hb : b < 2 ^ 31 := by omega) : (x ≤ y → A) ∧ (¬ x ≤ y → B) := by
  subst hx hy
  rw [nI_leI ha hb]
  exact ⟨f, fun z => g (by omega)⟩
theorem pk_lt {x y : Int32} {A B : Prop} (a b : Nat) (f : a < b → A) (g : b ≤ a → B) (hx : x = nI a := by rfl) (hy : y = nI b := by rfl) (ha : a < 2 ^ 31 := by omega) (hb : b < 2 ^ 31 := by omega) : (x < y → A) ∧ (¬ x < y → B) := by
  subst hx hy
  rw [nI_ltI ha hb]
  exact ⟨f, fun z => g (by omega)⟩
theorem pk_eq {x y : Int32} {A B : Prop} (a b : Nat) (f : a = b → A) (g : a ≠ b → B) (hx : x = nI a := by rfl) (hy : y = nI b := by rfl) (ha : a < 2 ^ 31 := by omega) (hb : b < 2 ^ 31 := by omega) : (x = y → A) ∧ (¬ x = y → B) := by
  subst hx hy
  rw [nI_eq ha hb]
  exact ⟨f, g⟩
theorem pk_in {x : Int32} (n N : Nat) (h : n < N) (hx : x = nI n := by rfl) (hN : N < 2 ^ 31 := by omega) : vp_in x N := by
  subst hx
  exact vp_in_nI h hN
theorem pk_cl {x : Int32} (n : Nat) (hx : x = nI n := by rfl) (h : n < 2 ^ 31 := by omega) : x.toNatClampNeg = n := by
  subst hx
  exact nI_clamp h
theorem pk_tn {n : Nat} (h : n < 2 ^ 32) : (nI n).toBitVec.toNat = n := Nat.mod_eq_of_lt h
theorem nx_and (a b : Nat) : nI a &&& nI b = nI (a &&& b) := by
  apply Int32.toBitVec_inj.1
  show BitVec.ofNat 32 a &&& BitVec.ofNat 32 b = BitVec.ofNat 32 (a &&& b)
  apply BitVec.eq_of_getLsbD_eq
  intro i hi
  simp [hi]
theorem nx_xor (a b : Nat) : nI a ^^^ nI b = nI (a ^^^ b) := by
  apply Int32.toBitVec_inj.1
  show BitVec.ofNat 32 a ^^^ BitVec.ofNat 32 b = BitVec.ofNat 32 (a ^^^ b)
  apply BitVec.eq_of_getLsbD_eq
  intro i hi
  simp [hi]
theorem wb_tb (n : Nat) : (lN n).toBitVec = BitVec.ofNat 64 n := rfl
theorem wb_inj {a b : Int64} (h : a.toBitVec = b.toBitVec) : a = b := Int64.toBitVec_inj.mp h
theorem wb_tn {n : Nat} (h : n < 2 ^ 64) : (lN n).toBitVec.toNat = n := by rw [wb_tb, BitVec.toNat_ofNat, Nat.mod_eq_of_lt h]
theorem wb_of (x : Int64) : ∃ n, n < 2 ^ 64 ∧ x = lN n := ⟨x.toBitVec.toNat, x.toBitVec.isLt, wb_inj (by rw [wb_tb]; simp)⟩
theorem wb_c : ∀ k, k < 64 → ((nI k).toInt64 &&& 63) = lN k := by decide +kernel
theorem wb_cu : ∀ k, k < 64 → ((nI k).toInt64.toUInt64 &&& Int64.toUInt64 63) = UInt64.ofNat k := by decide +kernel
theorem wb_sm : ∀ k, k < 64 → (BitVec.ofNat 64 k).smod 64 = BitVec.ofNat 64 k := by decide +kernel
theorem wb_mod (n : Nat) : lN n = lN (n % 2 ^ 64) := wb_inj (by rw [wb_tb, wb_tb]; apply BitVec.eq_of_toNat_eq; rw [BitVec.toNat_ofNat, BitVec.toNat_ofNat, Nat.mod_mod])
theorem wb_shr {n k : Nat} (hn : n < 2 ^ 64) (hk : k < 64) : ((lN n).toUInt64 >>> ((nI k).toInt64.toUInt64 &&& Int64.toUInt64 63)).toInt64 = lN (n / 2 ^ k) := by
  rw [wb_cu k hk]
  apply wb_inj
  apply BitVec.eq_of_toNat_eq
  show ((lN n).toUInt64 >>> UInt64.ofNat k).toNat = (BitVec.ofNat 64 _).toNat
  have h1 : (UInt64.ofNat k).toNat = k := by
    show (BitVec.ofNat 64 k).toNat = k
    rw [BitVec.toNat_ofNat, Nat.mod_eq_of_lt (by omega)]
  have h2 : (lN n).toUInt64.toNat = n := wb_tn hn
  rw [UInt64.toNat_shiftRight, h1, h2, Nat.mod_eq_of_lt hk, Nat.shiftRight_eq_div_pow, BitVec.toNat_ofNat, Nat.mod_eq_of_lt (Nat.lt_of_le_of_lt (Nat.div_le_self _ _) hn)]
theorem wb_and {a b : Nat} (ha : a < 2 ^ 64) (hb : b < 2 ^ 64) : lN a &&& lN b = lN (a &&& b) := by
  apply wb_inj
  rw [Int64.toBitVec_and, wb_tb, wb_tb, wb_tb]
  apply BitVec.eq_of_toNat_eq
  rw [BitVec.toNat_and, BitVec.toNat_ofNat, BitVec.toNat_ofNat, BitVec.toNat_ofNat, Nat.mod_eq_of_lt ha, Nat.mod_eq_of_lt hb, Nat.mod_eq_of_lt (Nat.and_lt_two_pow _ hb)]
end
section
/-! a long by its bits; the lower halves; points below 64 -/
def ff_b (w : Int64) (x : Nat) : Bool := w.toBitVec.getLsbD x
def ff_i (b : Bool) : Int32 := if b = true then 1 else 0
theorem ff_ext {v w : Int64} (h : ∀ x, x < 64 → ff_b v x = ff_b w x) : v = w :=
  Int64.toBitVec_inj.mp (BitVec.eq_of_getLsbD_eq (fun i hi => h i hi))
theorem ff_xor (v w : Int64) (x : Nat) : ff_b (v ^^^ w) x = (ff_b v x ^^ ff_b w x) := by
  unfold ff_b; rw [Int64.toBitVec_xor, BitVec.getLsbD_xor]
theorem ff_and (v w : Int64) (x : Nat) : ff_b (v &&& w) x = (ff_b v x && ff_b w x) := by
  unfold ff_b; rw [Int64.toBitVec_and, BitVec.getLsbD_and]
theorem ff_or (v w : Int64) (x : Nat) : ff_b (v ||| w) x = (ff_b v x || ff_b w x) := by
  unfold ff_b; rw [Int64.toBitVec_or, BitVec.getLsbD_or]
theorem ff_b1 : ∀ i, i < 64 → ff_b 1 i = decide (i = 0) := by decide +kernel
theorem ff_b0 : ∀ i, i < 64 → ff_b 0 i = false := by decide +kernel
theorem ff_bm : ∀ i, i < 64 → ff_b (-1) i = true := by decide +kernel
theorem ff_shl (w : Int64) {n x : Nat} (hn : n < 64) (hx : x < 64) : ff_b (w <<< ((nI n).toInt64 &&& 63)) x = (decide (n ≤ x) && ff_b w (x - n)) := by
  rw [wb_c n hn]
  unfold ff_b
  rw [Int64.toBitVec_shiftLeft, wb_tb, wb_sm n hn, BitVec.shiftLeft_eq', BitVec.toNat_ofNat, Nat.mod_eq_of_lt (show n < 2 ^ 64 by omega), BitVec.getLsbD_shiftLeft]
  rcases Nat.lt_or_ge x n with h | h
  · simp [h, Nat.not_le.mpr h]
  · simp [hx, h, Nat.not_lt.mpr h]
theorem ff_c64 : ∀ n, n < 64 → ((UInt64.ofNat n).toBitVec % 64).toNat = n := by decide +kernel
theorem ff_ushr (w : Int64) {n : Nat} (hn : n < 64) (x : Nat) : ff_b ((w.toUInt64 >>> ((nI n).toInt64.toUInt64 &&& Int64.toUInt64 63)).toInt64) x = ff_b w (n + x) := by
  rw [wb_cu n hn]
  show (w.toUInt64 >>> UInt64.ofNat n).toBitVec.getLsbD x = w.toUInt64.toBitVec.getLsbD (n + x)
  rw [UInt64.toBitVec_shiftRight]
  show (w.toUInt64.toBitVec >>> ((UInt64.ofNat n).toBitVec % 64).toNat).getLsbD x = _
  rw [ff_c64 n hn, BitVec.getLsbD_ushiftRight]
theorem ff_big (w : Int64) {x : Nat} (h : 64 ≤ x) : ff_b w x = false := BitVec.getLsbD_of_ge _ _ h
theorem ff_digit (w : Int64) {x : Nat} (hx : x < 64) : (((w.toUInt64 >>> ((nI x).toInt64.toUInt64 &&& Int64.toUInt64 63)).toInt64) &&& 1).toInt32 = ff_i (ff_b w x) := by
  have e : ((w.toUInt64 >>> ((nI x).toInt64.toUInt64 &&& Int64.toUInt64 63)).toInt64 &&& 1) = if ff_b w x = true then (1 : Int64) else 0 := by
    apply ff_ext
    intro i hi
    rw [ff_and, ff_ushr w hx, ff_b1 i hi]
    cases hb : ff_b w x
    · rw [if_neg (by decide), ff_b0 i hi]
      by_cases z : i = 0
      · subst z; rw [Nat.add_zero, hb]; rfl
      · rw [decide_eq_false z, Bool.and_false]
    · rw [if_pos rfl, ff_b1 i hi]
      by_cases z : i = 0
      · subst z; rw [Nat.add_zero, hb]; rfl
      · rw [decide_eq_false z, Bool.and_false]
  rw [e]
  cases ff_b w x
  · decide
  · decide
theorem ff_one {u x : Nat} (hu : u < 64) (hx : x < 64) : ff_b ((1 : Int64) <<< ((nI u).toInt64 &&& 63)) x = decide (x = u) := by
  rw [ff_shl _ hu hx, ff_b1 _ (by omega)]
  by_cases h : x = u
  · subst h; simp
  · rw [decide_eq_false h]
    by_cases g : u ≤ x
    · rw [decide_eq_false (by omega : ¬ x - u = 0), Bool.and_false]
    · rw [decide_eq_false g, Bool.false_and]
theorem ff_ii {p q : Bool} : ff_i p = ff_i q ↔ p = q := by cases p <;> cases q <;> decide
theorem ff_i1 {p : Bool} : ff_i p = 1 ↔ p = true := by cases p <;> decide
theorem ff_i0 {p : Bool} : ff_i p = 0 ↔ p = false := by cases p <;> decide
theorem ff_ixor (p q : Bool) : ff_i p ^^^ ff_i q = ff_i (p ^^ q) := by cases p <;> cases q <;> decide
theorem ff_iand (p q : Bool) : ff_i p &&& ff_i q = ff_i (p && q) := by cases p <;> cases q <;> decide
theorem ff_ior (p q : Bool) : ff_i p ||| ff_i q = ff_i (p || q) := by cases p <;> cases q <;> decide
theorem ff_inot (p : Bool) : 1 - ff_i p = ff_i (!p) := by cases p <;> decide
theorem ff_iN (p : Bool) : ff_i p = nI p.toNat := by cases p <;> decide
/-- the lower halves, as the constructor writes them -/
def ff_low : Nat → Int64 := vp_updL (vp_updL (vp_updL (vp_updL (vp_updL (vp_updL (fun _ => 0) 0 6148914691236517205) 1 3689348814741910323) 2 1085102592571150095) 3 71777214294589695) 4 281470681808895) 5 4294967295
theorem ff_lowb : ∀ i, i < 6 → ∀ x, x < 64 → ff_b (ff_low i) x = !(x.testBit i) := by decide +kernel
theorem ff_p2 : ∀ i, i < 6 → (1 : Int32) <<< (nI i &&& 31) = nI (2 ^ i) := by decide +kernel
theorem ff_p2lt : ∀ i, i < 6 → 2 ^ i < 64 := by decide +kernel
theorem ff_tb : ∀ a, a < 64 → ∀ i, i < 6 → ((nI a >>> (nI i &&& 31)) &&& 1) = ff_i (a.testBit i) := by decide +kernel
theorem ff_xlt {x a : Nat} (hx : x < 64) (ha : a < 64) : x ^^^ a < 64 := Nat.xor_lt_two_pow (n := 6) hx ha
theorem ff_alt {a x : Nat} (hx : x < 64) : a &&& x < 64 := Nat.and_lt_two_pow (n := 6) a hx
theorem ff_olt {a x : Nat} (ha : a < 64) (hx : x < 64) : a ||| x < 64 := Nat.or_lt_two_pow (n := 6) ha hx
theorem ff_d1 : ∀ i, i < 6 → ∀ x, x < 64 → (decide (2 ^ i ≤ x) && !((x - 2 ^ i).testBit i)) = x.testBit i := by decide +kernel
theorem ff_d2 : ∀ i, i < 6 → ∀ x, x < 64 → x.testBit i = true → 2 ^ i ≤ x ∧ x - 2 ^ i = x ^^^ 2 ^ i := by decide +kernel
theorem ff_d3 : ∀ i, i < 6 → ∀ x, x < 64 → x.testBit i = false → x + 2 ^ i = x ^^^ 2 ^ i ∧ x + 2 ^ i < 64 ∧ (x + 2 ^ i).testBit i = true := by decide +kernel
theorem ff_d4 : ∀ i, i < 6 → ∀ x, x < 64 → x.testBit i = true → (x - 2 ^ i).testBit i = false := by decide +kernel
/-! sizes and parities of points -/
def ff_szn (x : Nat) : Nat → Nat
  | 0 => 0
  | i + 1 => ff_szn x i + (x.testBit i).toNat
def ff_sz (x : Nat) : Nat := ff_szn x 6
def ff_par (z : Nat) : Bool := z.testBit 0 ^^ (z.testBit 1 ^^ (z.testBit 2 ^^ (z.testBit 3 ^^ (z.testBit 4 ^^ z.testBit 5))))
theorem ff_szp : ∀ z, z < 64 → nI (ff_sz z) &&& 1 = ff_i (ff_par z) := by decide +kernel
theorem ff_parx (a x y : Nat) : ff_par (a &&& (x ^^^ y)) = (ff_par (a &&& x) ^^ ff_par (a &&& y)) := by
  unfold ff_par
  simp only [Nat.testBit_and, Nat.testBit_xor, Bool.and_xor_distrib_left]
  generalize (a.testBit 0 && x.testBit 0) = p0
  generalize (a.testBit 1 && x.testBit 1) = p1
  generalize (a.testBit 2 && x.testBit 2) = p2
  generalize (a.testBit 3 && x.testBit 3) = p3
  generalize (a.testBit 4 && x.testBit 4) = p4
  generalize (a.testBit 5 && x.testBit 5) = p5
  simp only [Bool.xor_assoc, Bool.xor_left_comm, Bool.xor_comm]
/-! counts and exclusive sums -/
def ff_cnt (p : Nat → Bool) : Nat → Nat
  | 0 => 0
  | n + 1 => ff_cnt p n + (p n).toNat
theorem ff_cnt_le (p : Nat → Bool) : ∀ n, ff_cnt p n ≤ n
  | 0 => Nat.le_refl 0
  | n + 1 => by
    have h := ff_cnt_le p n
    have h2 : (p n).toNat ≤ 1 := Bool.toNat_le _
    show ff_cnt p n + (p n).toNat ≤ n + 1
    omega
theorem ff_cnt_congr {p q : Nat → Bool} : ∀ n, (∀ x, x < n → p x = q x) → ff_cnt p n = ff_cnt q n
  | 0, _ => rfl
  | n + 1, h => by
    show ff_cnt p n + (p n).toNat = ff_cnt q n + (q n).toNat
    rw [ff_cnt_congr n (fun x hx => h x (by omega)), h n (by omega)]
theorem ff_cnt_split (p : Nat → Bool) (m : Nat) : ∀ n, ff_cnt p (m + n) = ff_cnt p m + ff_cnt (fun x => p (m + x)) n
  | 0 => rfl
  | n + 1 => by
    show ff_cnt p (m + n) + (p (m + n)).toNat = ff_cnt p m + (ff_cnt (fun x => p (m + x)) n + (p (m + n)).toNat)
    rw [ff_cnt_split p m n]
    omega
theorem ff_cnt_all {p : Nat → Bool} : ∀ n, ff_cnt p n = n ↔ ∀ x, x < n → p x = true
  | 0 => ⟨fun _ x hx => absurd hx (by omega), fun _ => rfl⟩
  | n + 1 => by
    have ih := ff_cnt_all (p := p) n
    have hl := ff_cnt_le p n
    have e : ff_cnt p (n + 1) = ff_cnt p n + (p n).toNat := rfl
    rw [e]
    cases hp : p n
    · constructor
      · intro h
        have h2 : ff_cnt p n + 0 = n + 1 := h
        omega
      · intro h
        have h2 := h n (by omega)
        rw [hp] at h2
        exact absurd h2 (by decide)
    · constructor
      · intro h x hx
        have h2 : ff_cnt p n + 1 = n + 1 := h
        by_cases z : x = n
        · rw [z]; exact hp
        · exact ih.mp (by omega) x (by omega)
      · intro h
        have h2 := ih.mpr (fun x hx => h x (by omega))
        show ff_cnt p n + 1 = n + 1
        omega
def ff_xs (p : Nat → Bool) : Nat → Bool
  | 0 => false
  | n + 1 => (ff_xs p n ^^ p n)
theorem ff_xs_congr {p q : Nat → Bool} : ∀ n, (∀ x, x < n → p x = q x) → ff_xs p n = ff_xs q n
  | 0, _ => rfl
  | n + 1, h => by
    show (ff_xs p n ^^ p n) = (ff_xs q n ^^ q n)
    rw [ff_xs_congr n (fun x hx => h x (by omega)), h n (by omega)]
theorem ff_xs_xor (p q : Nat → Bool) : ∀ n, ff_xs (fun y => p y ^^ q y) n = (ff_xs p n ^^ ff_xs q n)
  | 0 => rfl
  | n + 1 => by
    show (ff_xs (fun y => p y ^^ q y) n ^^ (p n ^^ q n)) = ((ff_xs p n ^^ p n) ^^ (ff_xs q n ^^ q n))
    rw [ff_xs_xor p q n]
    cases ff_xs p n <;> cases ff_xs q n <;> cases p n <;> cases q n <;> rfl
theorem ff_xs_z {p : Nat → Bool} : ∀ n, (∀ x, x < n → p x = false) → ff_xs p n = false
  | 0, _ => rfl
  | n + 1, h => by
    show (ff_xs p n ^^ p n) = false
    rw [ff_xs_z n (fun x hx => h x (by omega)), h n (by omega)]
    rfl
theorem ff_xs_one {p : Nat → Bool} {x : Nat} : ∀ n, x < n → (∀ y, y < n → y ≠ x → p y = false) → ff_xs p n = p x
  | 0, hx, _ => absurd hx (by omega)
  | n + 1, hx, h => by
    show (ff_xs p n ^^ p n) = p x
    by_cases z : x = n
    · subst z
      rw [ff_xs_z x (fun y hy => h y (by omega) (by omega))]
      exact Bool.false_xor _
    · rw [ff_xs_one n (by omega) (fun y hy => h y (by omega)), h n (by omega) (fun e => z e.symm)]
      exact Bool.xor_false _
end
section
/-! words: the form, moves, linear tables -/
theorem ff_slt {x n m : Nat} (h : x < m) : x - n < m := by omega
def ff_trs (f : Int64) : Nat → Int64
  | 0 => f
  | i + 1 => ff_trs f i ^^^ ((ff_trs f i &&& ff_low i) <<< ((nI (2 ^ i)).toInt64 &&& 63))
def ff_tg (g : Nat → Bool) : Nat → Nat → Bool
  | 0 => g
  | i + 1 => fun x => ff_tg g i x ^^ (x.testBit i && ff_tg g i (x - 2 ^ i))
def ff_tm : Nat → Nat → Nat
  | 0 => fun x => 2 ^ x
  | i + 1 => fun x => ff_tm i x ^^^ (if x.testBit i = true then ff_tm i (x - 2 ^ i) else 0)
/-- y is part of u -/
def ff_sub (y u : Nat) : Bool := (y &&& (63 ^^^ u)) == 0
theorem ff_trs_b (f : Int64) : ∀ i, i ≤ 6 → ∀ x, x < 64 → ff_b (ff_trs f i) x = ff_tg (ff_b f) i x
  | 0, _, x, _ => rfl
  | i + 1, hi, x, hx => by
    have h := ff_trs_b f i (by omega)
    show ff_b (ff_trs f i ^^^ ((ff_trs f i &&& ff_low i) <<< ((nI (2 ^ i)).toInt64 &&& 63))) x = (ff_tg (ff_b f) i x ^^ (x.testBit i && ff_tg (ff_b f) i (x - 2 ^ i)))
    rw [ff_xor, ff_shl _ (ff_p2lt i (by omega)) hx, ff_and, ff_lowb i (by omega) (x - 2 ^ i) (ff_slt hx), h x hx, h (x - 2 ^ i) (ff_slt hx), ← ff_d1 i (by omega) x hx]
    cases ff_tg (ff_b f) i (x - 2 ^ i) <;> cases (x - 2 ^ i).testBit i <;> cases decide (2 ^ i ≤ x) <;> rfl
theorem ff_tg_m (g : Nat → Bool) : ∀ i, i ≤ 6 → ∀ x, x < 64 → ff_tg g i x = ff_xs (fun y => (ff_tm i x).testBit y && g y) 64
  | 0, _, x, hx => by
    show g x = _
    rw [ff_xs_one (x := x) 64 hx]
    · show g x = ((2 ^ x).testBit x && g x)
      rw [Nat.testBit_two_pow_self]
      rfl
    · intro y _ hy
      show ((2 ^ x).testBit y && g y) = false
      rw [Nat.testBit_two_pow, decide_eq_false (fun e => hy e.symm)]
      rfl
  | i + 1, hi, x, hx => by
    have h := ff_tg_m g i (by omega)
    show (ff_tg g i x ^^ (x.testBit i && ff_tg g i (x - 2 ^ i))) = _
    rw [h x hx]
    cases hb : x.testBit i
    · rw [Bool.false_and, Bool.xor_false]
      apply ff_xs_congr
      intro y _
      show _ = ((ff_tm i x ^^^ (if x.testBit i = true then ff_tm i (x - 2 ^ i) else 0)).testBit y && g y)
      rw [hb, if_neg (by decide), Nat.xor_zero]
    · rw [Bool.true_and, h (x - 2 ^ i) (ff_slt hx), ← ff_xs_xor]
      apply ff_xs_congr
      intro y _
      show _ = ((ff_tm i x ^^^ (if x.testBit i = true then ff_tm i (x - 2 ^ i) else 0)).testBit y && g y)
      rw [hb, if_pos rfl, Nat.testBit_xor, Bool.and_xor_distrib_right]
theorem ff_tm6 : ∀ u, u < 64 → ∀ y, y < 64 → (ff_tm 6 u).testBit y = ff_sub y u := by decide +kernel
/-- the form at u: the exclusive sum over the parts of u -/
def ff_fm (g : Nat → Bool) (u : Nat) : Bool := ff_xs (fun y => ff_sub y u && g y) 64
theorem ff_form (f : Int64) {u : Nat} (hu : u < 64) : ff_b (ff_trs f 6) u = ff_fm (ff_b f) u := by
  rw [ff_trs_b f 6 (by omega) u hu, ff_tg_m _ 6 (by omega) u hu]
  apply ff_xs_congr
  intro y hy
  show ((ff_tm 6 u).testBit y && ff_b f y) = (ff_sub y u && ff_b f y)
  rw [ff_tm6 u hu y hy]
theorem ff_form1 {u x : Nat} (hu : u < 64) (hx : x < 64) : ff_b (ff_trs ((1 : Int64) <<< ((nI u).toInt64 &&& 63)) 6) x = ff_sub u x := by
  rw [ff_form _ hx]
  unfold ff_fm
  rw [ff_xs_one (x := u) 64 hu]
  · show (ff_sub u x && _) = _
    rw [ff_one hu hu, decide_eq_true rfl, Bool.and_true]
  · intro y hy hn
    show (ff_sub y x && _) = false
    rw [ff_one hu hy, decide_eq_false hn, Bool.and_false]
theorem ff_subI : ∀ y, y < 64 → ∀ u, u < 64 → decide ((nI y &&& (nI u ^^^ (-1))) = 0) = ff_sub y u := by decide +kernel
/-! moves -/
def ff_mvs (f : Int64) (a : Nat) : Nat → Int64
  | 0 => f
  | i + 1 => if a.testBit i = true then ((ff_mvs f a i &&& ff_low i) <<< ((nI (2 ^ i)).toInt64 &&& 63)) ||| ((((ff_mvs f a i).toUInt64 >>> ((nI (2 ^ i)).toInt64.toUInt64 &&& Int64.toUInt64 63)).toInt64) &&& ff_low i) else ff_mvs f a i
def ff_am (a : Nat) : Nat → Nat
  | 0 => 0
  | i + 1 => if a.testBit i = true then 2 ^ i ^^^ ff_am a i else ff_am a i
theorem ff_am6 : ∀ a, a < 64 → ff_am a 6 = a := by decide +kernel
theorem ff_mv1 (v : Int64) {i x : Nat} (hi : i < 6) (hx : x < 64) : ff_b (((v &&& ff_low i) <<< ((nI (2 ^ i)).toInt64 &&& 63)) ||| (((v.toUInt64 >>> ((nI (2 ^ i)).toInt64.toUInt64 &&& Int64.toUInt64 63)).toInt64) &&& ff_low i)) x = ff_b v (x ^^^ 2 ^ i) := by
  have hp := ff_p2lt i hi
  rw [ff_or, ff_shl _ hp hx, ff_and, ff_and, ff_ushr _ hp, ff_lowb i hi x hx, ff_lowb i hi (x - 2 ^ i) (ff_slt hx)]
  have d1 := ff_d1 i hi x hx
  cases hb : x.testBit i
  · have d3 := ff_d3 i hi x hx hb
    rw [hb] at d1
    rw [Nat.add_comm, d3.1]
    revert d1
    cases ff_b v (x - 2 ^ i) <;> cases ff_b v (x ^^^ 2 ^ i) <;> cases (x - 2 ^ i).testBit i <;> cases decide (2 ^ i ≤ x) <;> simp
  · have d2 := ff_d2 i hi x hx hb
    rw [hb] at d1
    rw [d2.2] at d1 ⊢
    revert d1
    cases ff_b v (x ^^^ 2 ^ i) <;> cases (x ^^^ 2 ^ i).testBit i <;> cases decide (2 ^ i ≤ x) <;> simp
theorem ff_mvs_b (f : Int64) (a : Nat) : ∀ i, i ≤ 6 → ∀ x, x < 64 → ff_b (ff_mvs f a i) x = ff_b f (x ^^^ ff_am a i)
  | 0, _, x, _ => by
    show ff_b f x = ff_b f (x ^^^ 0)
    rw [Nat.xor_zero]
  | i + 1, hi, x, hx => by
    have h := ff_mvs_b f a i (by omega)
    unfold ff_mvs ff_am
    by_cases hb : a.testBit i = true
    · rw [if_pos hb, if_pos hb, ff_mv1 _ (by omega) hx, h _ (ff_xlt hx (ff_p2lt i (by omega))), Nat.xor_assoc]
    · rw [if_neg hb, if_neg hb, h x hx]
theorem ff_moved (f : Int64) {a x : Nat} (ha : a < 64) (hx : x < 64) : ff_b (ff_mvs f a 6) x = ff_b f (x ^^^ a) := by
  rw [ff_mvs_b f a 6 (by omega) x hx, ff_am6 a ha]
/-! linear tables -/
def ff_lns (b : Nat) : Nat → Int64
  | 0 => 0
  | i + 1 => if b.testBit i = true then ff_lns b i ^^^ (ff_low i ^^^ (-1)) else ff_lns b i
def ff_pn (b x : Nat) : Nat → Bool
  | 0 => false
  | i + 1 => ff_pn b x i ^^ (b.testBit i && x.testBit i)
theorem ff_lns_b (b : Nat) : ∀ i, i ≤ 6 → ∀ x, x < 64 → ff_b (ff_lns b i) x = ff_pn b x i
  | 0, _, x, hx => ff_b0 x hx
  | i + 1, hi, x, hx => by
    have h := ff_lns_b b i (by omega) x hx
    unfold ff_lns ff_pn
    by_cases hb : b.testBit i = true
    · rw [if_pos hb, ff_xor, ff_xor, ff_lowb i (by omega) x hx, ff_bm x hx, h, hb]
      cases x.testBit i <;> rfl
    · have hf : b.testBit i = false := by cases h : b.testBit i; rfl; exact absurd h hb
      rw [if_neg hb, h, hf, Bool.false_and, Bool.xor_false]
theorem ff_pn6 (b x : Nat) : ff_pn b x 6 = ff_par (b &&& x) := by
  unfold ff_par
  simp only [ff_pn, Nat.testBit_and, Bool.false_xor, Bool.xor_assoc]
theorem ff_linear {b x : Nat} (hx : x < 64) : ff_b (ff_lns b 6) x = ff_par (b &&& x) := by
  rw [ff_lns_b b 6 (by omega) x hx, ff_pn6]
end
section
/-! the ones of a word, byte by byte -/
def ff_V : Nat → (Nat → Nat) → Nat
  | 0 => fun _ => 0
  | k + 1 => fun d => d 0 + 256 * ff_V k (fun j => d (j + 1))
theorem ff_V_s (k : Nat) (d : Nat → Nat) : ff_V (k + 1) d = d 0 + 256 * ff_V k (fun j => d (j + 1)) := rfl
theorem ff_and256 {a A m M : Nat} (ha : a < 256) (hm : m < 256) : (a + 256 * A) &&& (m + 256 * M) = (a &&& m) + 256 * (A &&& M) := by
  have h1 : ((a + 256 * A) &&& (m + 256 * M)) % 2 ^ 8 = ((a + 256 * A) % 2 ^ 8) &&& ((m + 256 * M) % 2 ^ 8) := Nat.and_mod_two_pow
  have h2 : ((a + 256 * A) &&& (m + 256 * M)) / 2 ^ 8 = ((a + 256 * A) / 2 ^ 8) &&& ((m + 256 * M) / 2 ^ 8) := Nat.and_div_two_pow
  rw [show (a + 256 * A) % 2 ^ 8 = a by omega, show (m + 256 * M) % 2 ^ 8 = m by omega] at h1
  rw [show (a + 256 * A) / 2 ^ 8 = A by omega, show (m + 256 * M) / 2 ^ 8 = M by omega] at h2
  omega
theorem ff_V_and {m : Nat} (hm : m < 256) : ∀ (k : Nat) (d : Nat → Nat), (∀ j, d j < 256) → ff_V k d &&& ff_V k (fun _ => m) = ff_V k (fun j => d j &&& m)
  | 0, _, _ => by
    show (0 : Nat) &&& 0 = 0
    decide
  | k + 1, d, h => by
    rw [ff_V_s, ff_V_s, ff_V_s, ff_and256 (h 0) hm, ff_V_and hm k _ (fun j => h (j + 1))]
theorem ff_m1 : ∀ a, a < 128 → ∀ r, r < 2 → (a + 128 * r) &&& 85 = a &&& 85 := by decide +kernel
theorem ff_m2 : ∀ a, a < 64 → ∀ r, r < 4 → (a + 64 * r) &&& 51 = a &&& 51 := by decide +kernel
theorem ff_m4 : ∀ a, a < 256 → a &&& 15 = a % 16 := by decide +kernel
theorem ff_V_s1 : ∀ (k : Nat) (d : Nat → Nat), (∀ j, d j < 256) → (ff_V k d / 2) &&& ff_V k (fun _ => 85) = ff_V k (fun j => d j / 2 &&& 85)
  | 0, _, _ => by
    show (0 : Nat) / 2 &&& 0 = 0
    decide
  | k + 1, d, h => by
    have h0 := h 0
    rw [ff_V_s, ff_V_s, ff_V_s, ← ff_V_s1 k _ (fun j => h (j + 1))]
    generalize ff_V k (fun j => d (j + 1)) = v
    generalize ff_V k (fun _ => 85) = M
    rw [show (d 0 + 256 * v) / 2 = (d 0 / 2 + 128 * (v % 2)) + 256 * (v / 2) by omega, ff_and256 (by omega) (by omega), ff_m1 _ (by omega) _ (by omega)]
theorem ff_V_s2 : ∀ (k : Nat) (d : Nat → Nat), (∀ j, d j < 256) → (ff_V k d / 4) &&& ff_V k (fun _ => 51) = ff_V k (fun j => d j / 4 &&& 51)
  | 0, _, _ => by
    show (0 : Nat) / 4 &&& 0 = 0
    decide
  | k + 1, d, h => by
    have h0 := h 0
    rw [ff_V_s, ff_V_s, ff_V_s, ← ff_V_s2 k _ (fun j => h (j + 1))]
    generalize ff_V k (fun j => d (j + 1)) = v
    generalize ff_V k (fun _ => 51) = M
    rw [show (d 0 + 256 * v) / 4 = (d 0 / 4 + 64 * (v % 4)) + 256 * (v / 4) by omega, ff_and256 (by omega) (by omega), ff_m2 _ (by omega) _ (by omega)]
theorem ff_V_16 (k : Nat) (d : Nat → Nat) (h : ∀ j, d j ≤ 68 ∧ d j % 16 ≤ 4) : ff_V k d % 16 ≤ 4 := by
  cases k with
  | zero => exact Nat.zero_le 4
  | succ k =>
    have h0 := h 0
    rw [ff_V_s]
    omega
theorem ff_V_s4 : ∀ (k : Nat) (d : Nat → Nat), (∀ j, d j ≤ 68 ∧ d j % 16 ≤ 4) → (ff_V k d + ff_V k d / 16) &&& ff_V k (fun _ => 15) = ff_V k (fun j => (d j + d j / 16) % 16)
  | 0, _, _ => by
    show (0 : Nat) + 0 / 16 &&& 0 = 0
    decide
  | k + 1, d, h => by
    have h0 := h 0
    have hv := ff_V_16 k (fun j => d (j + 1)) (fun j => h (j + 1))
    rw [ff_V_s, ff_V_s, ff_V_s, ← ff_V_s4 k _ (fun j => h (j + 1))]
    revert hv
    generalize ff_V k (fun j => d (j + 1)) = v
    generalize ff_V k (fun _ => 15) = M
    intro hv
    rw [show (d 0 + 256 * v) + (d 0 + 256 * v) / 16 = (d 0 + d 0 / 16 + 16 * (v % 16)) + 256 * (v + v / 16) by omega, ff_and256 (by omega) (by omega), ff_m4 _ (by omega)]
    rw [show (d 0 + d 0 / 16 + 16 * (v % 16)) % 16 = (d 0 + d 0 / 16) % 16 by omega]
theorem ff_V_add : ∀ (k : Nat) (d e : Nat → Nat), ff_V k d + ff_V k e = ff_V k (fun j => d j + e j)
  | 0, _, _ => rfl
  | k + 1, d, e => by
    rw [ff_V_s, ff_V_s, ff_V_s, ← ff_V_add k]
    omega
theorem ff_V_sub : ∀ (k : Nat) (d e : Nat → Nat), (∀ j, e j ≤ d j) → ff_V k (fun j => d j - e j) + ff_V k e = ff_V k d
  | 0, _, _, _ => rfl
  | k + 1, d, e, h => by
    have h0 := h 0
    have ih := ff_V_sub k (fun j => d (j + 1)) (fun j => e (j + 1)) (fun j => h (j + 1))
    rw [ff_V_s, ff_V_s, ff_V_s, ← ih]
    show d 0 - e 0 + 256 * ff_V k (fun j => d (j + 1) - e (j + 1)) + (e 0 + 256 * ff_V k (fun j => e (j + 1))) = d 0 + 256 * (ff_V k (fun j => d (j + 1) - e (j + 1)) + ff_V k (fun j => e (j + 1)))
    omega
theorem ff_V_lt : ∀ (k : Nat) (d : Nat → Nat) (c : Nat), (∀ j, d j ≤ c) → ff_V k d ≤ ff_V k (fun _ => c)
  | 0, _, _, _ => Nat.le_refl 0
  | k + 1, d, c, h => by
    have ih := ff_V_lt k (fun j => d (j + 1)) c (fun j => h (j + 1))
    have h0 := h 0
    rw [ff_V_s, ff_V_s]
    omega
def ff_by (n j : Nat) : Nat := n / 256 ^ j % 256
theorem ff_by_s (n j : Nat) : ff_by n (j + 1) = ff_by (n / 256) j := by
  unfold ff_by
  rw [Nat.pow_succ, Nat.mul_comm, ← Nat.div_div_eq_div_mul]
theorem ff_V_by : ∀ (k n : Nat), n < 256 ^ k → ff_V k (ff_by n) = n
  | 0, n, h => by
    have h2 : n < 1 := h
    show 0 = n
    omega
  | k + 1, n, h => by
    rw [ff_V_s, show (fun j => ff_by n (j + 1)) = ff_by (n / 256) from funext (ff_by_s n), ff_V_by k (n / 256) (by rw [Nat.pow_succ] at h; omega)]
    show n / 256 ^ 0 % 256 + 256 * (n / 256) = n
    rw [Nat.pow_zero, Nat.div_one]
    omega
def ff_p8 (d : Nat) : Nat := ff_cnt (fun x => d.testBit x) 8
def ff_sN : Nat → (Nat → Nat) → Nat
  | 0 => fun _ => 0
  | k + 1 => fun d => d 0 + ff_sN k (fun j => d (j + 1))
theorem ff_cntV : ∀ (k : Nat) (d : Nat → Nat), (∀ j, d j < 256) → ff_cnt (fun x => (ff_V k d).testBit x) (8 * k) = ff_sN k (fun j => ff_p8 (d j))
  | 0, _, _ => rfl
  | k + 1, d, h => by
    rw [show 8 * (k + 1) = 8 + 8 * k by omega, ff_cnt_split]
    have e1 : ff_cnt (fun x => (ff_V (k + 1) d).testBit x) 8 = ff_p8 (d 0) := by
      apply ff_cnt_congr
      intro x hx
      show (ff_V (k + 1) d).testBit x = (d 0).testBit x
      rw [ff_V_s, Nat.add_comm, show 256 * ff_V k (fun j => d (j + 1)) + d 0 = 2 ^ 8 * ff_V k (fun j => d (j + 1)) + d 0 from rfl, Nat.testBit_two_pow_mul_add _ (h 0), if_pos hx]
    have e2 : ff_cnt (fun x => (ff_V (k + 1) d).testBit (8 + x)) (8 * k) = ff_sN k (fun j => ff_p8 (d (j + 1))) := by
      rw [← ff_cntV k (fun j => d (j + 1)) (fun j => h (j + 1))]
      apply ff_cnt_congr
      intro x hx
      show (ff_V (k + 1) d).testBit (8 + x) = (ff_V k (fun j => d (j + 1))).testBit x
      rw [ff_V_s, Nat.add_comm (d 0), show 256 * ff_V k (fun j => d (j + 1)) + d 0 = 2 ^ 8 * ff_V k (fun j => d (j + 1)) + d 0 from rfl, Nat.testBit_two_pow_mul_add _ (h 0), if_neg (by omega), show 8 + x - 8 = x by omega]
    rw [e1, e2]
    rfl
def ff_a8 (d : Nat) : Nat := d - (d / 2 &&& 85)
def ff_b8 (d : Nat) : Nat := (ff_a8 d &&& 51) + (ff_a8 d / 4 &&& 51)
def ff_c8 (d : Nat) : Nat := (ff_b8 d + ff_b8 d / 16) % 16
theorem ff_8a : ∀ d, d < 256 → (d / 2 &&& 85) ≤ d ∧ ff_a8 d < 256 ∧ ff_b8 d ≤ 68 ∧ ff_b8 d % 16 ≤ 4 := by decide +kernel
theorem ff_8c : ∀ d, d < 256 → ff_c8 d = ff_p8 d := by decide +kernel
theorem ff_8p (d : Nat) : ff_p8 d ≤ 8 := ff_cnt_le _ 8
theorem ff_mul8 (c0 c1 c2 c3 c4 c5 c6 c7 : Nat) (h0 : c0 ≤ 8) (h1 : c1 ≤ 8) (h2 : c2 ≤ 8) (h3 : c3 ≤ 8) (h4 : c4 ≤ 8) (h5 : c5 ≤ 8) (h6 : c6 ≤ 8) (h7 : c7 ≤ 8) :
    (c0 + 256 * (c1 + 256 * (c2 + 256 * (c3 + 256 * (c4 + 256 * (c5 + 256 * (c6 + 256 * (c7 + 256 * 0)))))))) * 72340172838076673 % 2 ^ 64 / 2 ^ 56 = c0 + (c1 + (c2 + (c3 + (c4 + (c5 + (c6 + (c7 + 0))))))) := by
  have e : (c0 + 256 * (c1 + 256 * (c2 + 256 * (c3 + 256 * (c4 + 256 * (c5 + 256 * (c6 + 256 * (c7 + 256 * 0)))))))) * 72340172838076673
      = (c0 + 256 * (c0 + c1 + 256 * (c0 + c1 + c2 + 256 * (c0 + c1 + c2 + c3 + 256 * (c0 + c1 + c2 + c3 + c4 + 256 * (c0 + c1 + c2 + c3 + c4 + c5 + 256 * (c0 + c1 + c2 + c3 + c4 + c5 + c6)))))))
        + 2 ^ 56 * (c0 + c1 + c2 + c3 + c4 + c5 + c6 + c7)
        + 2 ^ 64 * (c1 + c2 + c3 + c4 + c5 + c6 + c7 + 256 * (c2 + c3 + c4 + c5 + c6 + c7 + 256 * (c3 + c4 + c5 + c6 + c7 + 256 * (c4 + c5 + c6 + c7 + 256 * (c5 + c6 + c7 + 256 * (c6 + c7 + 256 * c7)))))) := by omega
  have b : (c0 + 256 * (c0 + c1 + 256 * (c0 + c1 + c2 + 256 * (c0 + c1 + c2 + c3 + 256 * (c0 + c1 + c2 + c3 + c4 + 256 * (c0 + c1 + c2 + c3 + c4 + c5 + 256 * (c0 + c1 + c2 + c3 + c4 + c5 + c6))))))) < 2 ^ 56 := by omega
  have t : c0 + c1 + c2 + c3 + c4 + c5 + c6 + c7 < 256 := by omega
  rw [e]
  revert b t
  generalize (c0 + 256 * (c0 + c1 + 256 * (c0 + c1 + c2 + 256 * (c0 + c1 + c2 + c3 + 256 * (c0 + c1 + c2 + c3 + c4 + 256 * (c0 + c1 + c2 + c3 + c4 + c5 + 256 * (c0 + c1 + c2 + c3 + c4 + c5 + c6))))))) = R
  generalize (c1 + c2 + c3 + c4 + c5 + c6 + c7 + 256 * (c2 + c3 + c4 + c5 + c6 + c7 + 256 * (c3 + c4 + c5 + c6 + c7 + 256 * (c4 + c5 + c6 + c7 + 256 * (c5 + c6 + c7 + 256 * (c6 + c7 + 256 * c7)))))) = Q
  intro b t
  have e2 : c0 + (c1 + (c2 + (c3 + (c4 + (c5 + (c6 + (c7 + 0))))))) = c0 + c1 + c2 + c3 + c4 + c5 + c6 + c7 := by omega
  rw [e2]
  generalize c0 + c1 + c2 + c3 + c4 + c5 + c6 + c7 = t' at t ⊢
  omega
theorem ff_ones_nat (n : Nat) (hn : n < 2 ^ 64) :
    let a := n - (n / 2 &&& 6148914691236517205)
    let b := (a &&& 3689348814741910323) + (a / 4 &&& 3689348814741910323)
    let c := (b + b / 16) &&& 1085102592571150095
    (n / 2 &&& 6148914691236517205) ≤ n ∧ b + b / 16 < 2 ^ 64 ∧ c * 72340172838076673 % 2 ^ 64 / 2 ^ 56 = ff_cnt (fun x => n.testBit x) 64 := by
  intro a b c
  have hd : ∀ j, ff_by n j < 256 := fun j => Nat.mod_lt _ (by decide)
  have e0 : ff_V 8 (ff_by n) = n := ff_V_by 8 n hn
  have m1 : (6148914691236517205 : Nat) = ff_V 8 (fun _ => 85) := by decide +kernel
  have m2 : (3689348814741910323 : Nat) = ff_V 8 (fun _ => 51) := by decide +kernel
  have m4 : (1085102592571150095 : Nat) = ff_V 8 (fun _ => 15) := by decide +kernel
  have e1 : (n / 2 &&& 6148914691236517205) = ff_V 8 (fun j => ff_by n j / 2 &&& 85) := by
    rw [m1, ← ff_V_s1 8 _ hd, e0]
  have s1 := ff_V_sub 8 (ff_by n) (fun j => ff_by n j / 2 &&& 85) (fun j => (ff_8a _ (hd j)).1)
  rw [e0] at s1
  have ea : a = ff_V 8 (fun j => ff_a8 (ff_by n j)) := by
    show n - (n / 2 &&& 6148914691236517205) = ff_V 8 (fun j => ff_by n j - (ff_by n j / 2 &&& 85))
    rw [e1]
    omega
  have ha : ∀ j, ff_a8 (ff_by n j) < 256 := fun j => (ff_8a _ (hd j)).2.1
  have eb : b = ff_V 8 (fun j => ff_b8 (ff_by n j)) := by
    show (a &&& 3689348814741910323) + (a / 4 &&& 3689348814741910323) = _
    rw [m2, ea, ff_V_and (by decide) 8 _ ha, ff_V_s2 8 _ ha, ff_V_add]
    rfl
  have hb : ∀ j, ff_b8 (ff_by n j) ≤ 68 ∧ ff_b8 (ff_by n j) % 16 ≤ 4 := fun j => (ff_8a _ (hd j)).2.2
  have ec : c = ff_V 8 (fun j => ff_p8 (ff_by n j)) := by
    show (b + b / 16) &&& 1085102592571150095 = _
    rw [m4, eb, ff_V_s4 8 _ hb]
    exact congrArg (ff_V 8) (funext fun j => ff_8c _ (hd j))
  have lb : b ≤ ff_V 8 (fun _ => 68) := by rw [eb]; exact ff_V_lt 8 _ 68 (fun j => (hb j).1)
  have k68 : ff_V 8 (fun _ => 68) = 4919131752989213764 := by decide +kernel
  refine ⟨by rw [e1]; omega, by omega, ?_⟩
  rw [ec]
  have ef : ff_cnt (fun x => n.testBit x) 64 = ff_sN 8 (fun j => ff_p8 (ff_by n j)) := by
    rw [← ff_cntV 8 _ hd, e0]
  rw [ef]
  exact ff_mul8 _ _ _ _ _ _ _ _ (ff_8p _) (ff_8p _) (ff_8p _) (ff_8p _) (ff_8p _) (ff_8p _) (ff_8p _) (ff_8p _)
theorem ff_bN {n x : Nat} (hx : x < 64) : ff_b (lN n) x = n.testBit x := by
  unfold ff_b
  rw [wb_tb, BitVec.getLsbD_ofNat, decide_eq_true hx, Bool.true_and]
theorem ff_cntN {n : Nat} : ff_cnt (ff_b (lN n)) 64 = ff_cnt (fun x => n.testBit x) 64 := ff_cnt_congr 64 (fun x hx => ff_bN hx)
theorem ff_ones (f : Int64) (post : Int32 → Prop) (T : Nat → Int64) (S : Nat → Int32) (h : post (nI (ff_cnt (ff_b f) 64))) : wpX_onesOf post (T, ff_low, S) f := by
  obtain ⟨n, hn, rfl⟩ := wb_of f
  have H := ff_ones_nat n hn
  dsimp only at H
  have l0 : ff_low 0 = lN 6148914691236517205 := by decide +kernel
  have l1 : ff_low 1 = lN 3689348814741910323 := by decide +kernel
  have l2 : ff_low 2 = lN 1085102592571150095 := by decide +kernel
  have k : (72340172838076673 : Int64) = lN 72340172838076673 := by decide +kernel
  rw [ff_cntN, ← H.2.2] at h
  have e1 : lN n - (((lN n).toUInt64 >>> ((1 : Int32).toInt64.toUInt64 &&& Int64.toUInt64 63)).toInt64 &&& ff_low 0) = lN (n - (n / 2 &&& 6148914691236517205)) := by
    have s := wb_shr (k := 1) hn (by decide)
    rw [show (1 : Int32) = nI 1 from rfl, s, l0, wb_and (by omega) (by decide), show 2 ^ 1 = 2 from rfl, lN_sub H.1]
  have ha : n - (n / 2 &&& 6148914691236517205) < 2 ^ 64 := by omega
  revert H h
  generalize n - (n / 2 &&& 6148914691236517205) = a at e1 ha
  intro h H
  have hb : (a &&& 3689348814741910323) + (a / 4 &&& 3689348814741910323) < 2 ^ 64 := by have := H.2.1; omega
  have e2 : (lN a &&& ff_low 1) + (((lN a).toUInt64 >>> ((2 : Int32).toInt64.toUInt64 &&& Int64.toUInt64 63)).toInt64 &&& ff_low 1) = lN ((a &&& 3689348814741910323) + (a / 4 &&& 3689348814741910323)) := by
    have s := wb_shr (k := 2) ha (by decide)
    rw [show (2 : Int32) = nI 2 from rfl, s, l1, wb_and ha (by decide), wb_and (by omega) (by decide), show 2 ^ 2 = 4 from rfl, lN_add]
  revert H h hb
  generalize (a &&& 3689348814741910323) + (a / 4 &&& 3689348814741910323) = b at e2
  intro h H hb
  have e3 : (lN b + ((lN b).toUInt64 >>> ((4 : Int32).toInt64.toUInt64 &&& Int64.toUInt64 63)).toInt64) &&& ff_low 2 = lN ((b + b / 16) &&& 1085102592571150095) := by
    have s := wb_shr (k := 4) hb (by decide)
    rw [show (4 : Int32) = nI 4 from rfl, s, l2, show 2 ^ 4 = 16 from rfl, lN_add, wb_and H.2.1 (by decide)]
  revert H h
  generalize ((b + b / 16) &&& 1085102592571150095) = c at e3
  intro h H
  have e4 : ((lN c * 72340172838076673).toUInt64 >>> ((56 : Int32).toInt64.toUInt64 &&& Int64.toUInt64 63)).toInt64.toInt32 = nI (c * 72340172838076673 % 2 ^ 64 / 2 ^ 56) := by
    have s := wb_shr (n := c * 72340172838076673 % 2 ^ 64) (k := 56) (Nat.mod_lt _ (by decide)) (by decide)
    rw [k, lN_mul, wb_mod (c * 72340172838076673), show (56 : Int32) = nI 56 from rfl, s, lN_i]
  unfold wpX_onesOf
  dsimp only
  refine nm_r e1 (nm_r e2 (nm_r e3 ?_))
  rw [e4]
  exact h
end
section
/-! sums of ints; the spectrum; correlations (in the ring of ints) -/
def ff_sum (s : Nat → Int32) : Nat → Int32
  | 0 => 0
  | n + 1 => ff_sum s n + s n
theorem ff_sum_s (s : Nat → Int32) (n : Nat) : ff_sum s (n + 1) = ff_sum s n + s n := rfl
theorem ff_sum_congr {p q : Nat → Int32} : ∀ n, (∀ x, x < n → p x = q x) → ff_sum p n = ff_sum q n
  | 0, _ => rfl
  | n + 1, h => by
    rw [ff_sum_s, ff_sum_s, ff_sum_congr n (fun x hx => h x (by omega)), h n (by omega)]
theorem ff_sum_add (p q : Nat → Int32) : ∀ n, ff_sum (fun y => p y + q y) n = ff_sum p n + ff_sum q n
  | 0 => by
    show (0 : Int32) = 0 + 0
    decide
  | n + 1 => by
    rw [ff_sum_s, ff_sum_s, ff_sum_s, ff_sum_add p q n]
    grind
theorem ff_sum_sub (p q : Nat → Int32) : ∀ n, ff_sum (fun y => p y - q y) n = ff_sum p n - ff_sum q n
  | 0 => by
    show (0 : Int32) = 0 - 0
    decide
  | n + 1 => by
    rw [ff_sum_s, ff_sum_s, ff_sum_s, ff_sum_sub p q n]
    grind
theorem ff_sum_ml (c : Int32) (p : Nat → Int32) : ∀ n, c * ff_sum p n = ff_sum (fun y => c * p y) n
  | 0 => Int32.mul_zero
  | n + 1 => by
    rw [ff_sum_s, ff_sum_s, ← ff_sum_ml c p n]
    grind
theorem ff_sum_mr (c : Int32) (p : Nat → Int32) : ∀ n, ff_sum p n * c = ff_sum (fun y => p y * c) n
  | 0 => Int32.zero_mul
  | n + 1 => by
    rw [ff_sum_s, ff_sum_s, ← ff_sum_mr c p n]
    grind
theorem ff_sum_z {p : Nat → Int32} : ∀ n, (∀ x, x < n → p x = 0) → ff_sum p n = 0
  | 0, _ => rfl
  | n + 1, h => by
    rw [ff_sum_s, ff_sum_z n (fun x hx => h x (by omega)), h n (by omega)]
    decide
theorem ff_sum_one {p : Nat → Int32} {x : Nat} : ∀ n, x < n → (∀ y, y < n → y ≠ x → p y = 0) → ff_sum p n = p x
  | 0, hx, _ => absurd hx (by omega)
  | n + 1, hx, h => by
    rw [ff_sum_s]
    by_cases z : x = n
    · subst z
      rw [ff_sum_z x (fun y hy => h y (by omega) (by omega)), Int32.zero_add]
    · rw [ff_sum_one n (by omega) (fun y hy => h y (by omega)), h n (by omega) (fun e => z e.symm), Int32.add_zero]
theorem ff_sum_swap (f : Nat → Nat → Int32) (m : Nat) : ∀ n, ff_sum (fun x => ff_sum (fun y => f x y) m) n = ff_sum (fun y => ff_sum (fun x => f x y) n) m
  | 0 => (ff_sum_z m (fun _ _ => rfl)).symm
  | n + 1 => by
    rw [ff_sum_s, ff_sum_swap f m n, ← ff_sum_add]
    rfl
/-- the sign of a parity -/
def ff_sg (p : Bool) : Int32 := if p = true then -1 else 1
theorem ff_sgx (p q : Bool) : ff_sg p * ff_sg q = ff_sg (p ^^ q) := by cases p <;> cases q <;> decide
theorem ff_sgi (p q : Bool) : ff_sg p * (1 - 2 * ff_i q) = 1 - 2 * ff_i (q ^^ p) := by cases p <;> cases q <;> decide
def ff_chi (a x : Nat) : Int32 := ff_sg (ff_par (a &&& x))
/-! one pass over pairs, and all six -/
def ff_st (i : Nat) (s : Nat → Int32) (x : Nat) : Int32 := if x.testBit i = true then s (x - 2 ^ i) - s x else s x + s (x + 2 ^ i)
def ff_sts (s : Nat → Int32) : Nat → Nat → Int32
  | 0 => s
  | i + 1 => ff_st i (ff_sts s i)
theorem ff_nf {x : Bool} (h : ¬ x = true) : x = false := by cases x; rfl; exact absurd rfl h
theorem ff_st_congr {i : Nat} (hi : i < 6) {s s' : Nat → Int32} (h : ∀ x, x < 64 → s x = s' x) {x : Nat} (hx : x < 64) : ff_st i s x = ff_st i s' x := by
  unfold ff_st
  by_cases hb : x.testBit i = true
  · rw [if_pos hb, if_pos hb, h _ (ff_slt hx), h x hx]
  · rw [if_neg hb, if_neg hb, h x hx, h _ (ff_d3 i hi x hx (ff_nf hb)).2.1]
def ff_co (i x y : Nat) : Int32 := if (x >>> i == y >>> i) = true then ff_sg (Nat.testBit 7608434000728254870 ((x &&& y) % 2 ^ i)) else 0
theorem ff_park : ∀ z, z < 64 → Nat.testBit 7608434000728254870 z = ff_par z := by decide +kernel
theorem ff_co0 : ∀ x, x < 64 → ∀ y, y < 64 → ff_co 0 x y = if x = y then 1 else 0 := by decide +kernel
theorem ff_coS : ∀ i, i < 6 → ∀ x, x < 64 → ∀ y, y < 64 → ff_co (i + 1) x y = if x.testBit i = true then ff_co i (x - 2 ^ i) y - ff_co i x y else ff_co i x y + ff_co i (x + 2 ^ i) y := by decide +kernel
theorem ff_co6 {x y : Nat} (hx : x < 64) (hy : y < 64) : ff_co 6 x y = ff_chi x y := by
  have hl : x &&& y < 64 := ff_alt hy
  have hx0 : x >>> 6 = 0 := by rw [Nat.shiftRight_eq_div_pow]; omega
  have hy0 : y >>> 6 = 0 := by rw [Nat.shiftRight_eq_div_pow]; omega
  unfold ff_co ff_chi
  rw [hx0, hy0, if_pos (show ((0 : Nat) == 0) = true from rfl), Nat.mod_eq_of_lt (show x &&& y < 2 ^ 6 from hl), ff_park _ hl]
theorem ff_sts_w (s : Nat → Int32) : ∀ i, i ≤ 6 → ∀ x, x < 64 → ff_sts s i x = ff_sum (fun y => ff_co i x y * s y) 64
  | 0, _, x, hx => by
    show s x = _
    rw [ff_sum_one (x := x) 64 hx]
    · show s x = ff_co 0 x x * s x
      rw [ff_co0 x hx x hx, if_pos rfl, Int32.one_mul]
    · intro y hy hn
      show ff_co 0 x y * s y = 0
      rw [ff_co0 x hx y hy, if_neg (fun e => hn e.symm), Int32.zero_mul]
  | i + 1, hi, x, hx => by
    have h := ff_sts_w s i (by omega)
    show ff_st i (ff_sts s i) x = _
    unfold ff_st
    by_cases hb : x.testBit i = true
    · rw [if_pos hb, h _ (ff_slt hx), h x hx, ← ff_sum_sub]
      apply ff_sum_congr
      intro y hy
      show ff_co i (x - 2 ^ i) y * s y - ff_co i x y * s y = ff_co (i + 1) x y * s y
      rw [ff_coS i (by omega) x hx y hy, if_pos hb, Int32.sub_mul]
    · rw [if_neg hb, h x hx, h _ (ff_d3 i (by omega) x hx (ff_nf hb)).2.1, ← ff_sum_add]
      apply ff_sum_congr
      intro y hy
      show ff_co i x y * s y + ff_co i (x + 2 ^ i) y * s y = ff_co (i + 1) x y * s y
      rw [ff_coS i (by omega) x hx y hy, if_neg hb, Int32.add_mul]
def ff_wh (s : Nat → Int32) (a : Nat) : Int32 := ff_sum (fun x => ff_chi a x * s x) 64
theorem ff_sts6 (s : Nat → Int32) {a : Nat} (ha : a < 64) : ff_sts s 6 a = ff_wh s a := by
  rw [ff_sts_w s 6 (by omega) a ha]
  apply ff_sum_congr
  intro y hy
  show ff_co 6 a y * s y = ff_chi a y * s y
  rw [ff_co6 ha hy]
theorem ff_wh_congr {s s' : Nat → Int32} (h : ∀ x, x < 64 → s x = s' x) (a : Nat) : ff_wh s a = ff_wh s' a := by
  apply ff_sum_congr
  intro x hx
  show ff_chi a x * s x = ff_chi a x * s' x
  rw [h x hx]
/-! the spectrum of a table -/
def ff_f (g : Nat → Bool) (x : Nat) : Int32 := 1 - 2 * ff_i (g x)
/-- at how many points the table differs from a.x -/
def ff_D (g : Nat → Bool) (a n : Nat) : Nat := ff_cnt (fun x => g x ^^ ff_par (a &&& x)) n
/-- the spectrum at a, from its first n points -/
def ff_S (g : Nat → Bool) (a n : Nat) : Int32 := nI n - 2 * nI (ff_D g a n)
theorem ff_nIb (m : Nat) (b : Bool) : nI (m + b.toNat) = nI m + ff_i b := by rw [← nI_add, ff_iN]
theorem ff_S_s (g : Nat → Bool) (a n : Nat) : ff_S g a (n + 1) = ff_S g a n + (1 - 2 * ff_i (g n ^^ ff_par (a &&& n))) := by
  show nI (n + 1) - 2 * nI (ff_D g a n + (g n ^^ ff_par (a &&& n)).toNat) = nI n - 2 * nI (ff_D g a n) + _
  rw [ff_nIb, ← nI_1]
  generalize nI n = A
  generalize nI (ff_D g a n) = B
  generalize ff_i (g n ^^ ff_par (a &&& n)) = C
  grind
theorem ff_spec (g : Nat → Bool) (a : Nat) : ∀ n, ff_sum (fun x => ff_chi a x * ff_f g x) n = ff_S g a n
  | 0 => by
    show (0 : Int32) = nI 0 - 2 * nI 0
    decide
  | n + 1 => by
    rw [ff_sum_s, ff_spec g a n, ff_S_s]
    show ff_S g a n + ff_sg (ff_par (a &&& n)) * (1 - 2 * ff_i (g n)) = _
    rw [ff_sgi]
theorem ff_whS (g : Nat → Bool) (a : Nat) : ff_wh (ff_f g) a = ff_S g a 64 := ff_spec g a 64
/-! correlations -/
def ff_same (g : Nat → Bool) (a n : Nat) : Nat := ff_cnt (fun x => g x == g (x ^^^ a)) n
theorem ff_ff (p q : Bool) : (1 - 2 * ff_i p) * (1 - 2 * ff_i q) = 2 * ff_i (p == q) - 1 := by cases p <;> cases q <;> decide
theorem ff_cor1 (g : Nat → Bool) (b : Nat) : ∀ n, ff_sum (fun x => ff_f g x * ff_f g (x ^^^ b)) n = 2 * nI (ff_same g b n) - nI n
  | 0 => by
    show (0 : Int32) = 2 * nI 0 - nI 0
    decide
  | n + 1 => by
    rw [ff_sum_s, ff_cor1 g b n]
    show 2 * nI (ff_same g b n) - nI n + (1 - 2 * ff_i (g n)) * (1 - 2 * ff_i (g (n ^^^ b))) = 2 * nI (ff_same g b n + (g n == g (n ^^^ b)).toNat) - nI (n + 1)
    rw [ff_ff, ff_nIb, ← nI_1]
    generalize nI n = A
    generalize nI (ff_same g b n) = B
    generalize ff_i (g n == g (n ^^^ b)) = C
    grind
theorem ff_orth : ∀ z, z < 64 → ff_sum (fun a => ff_sg (Nat.testBit 7608434000728254870 (a &&& z))) 64 = if z = 0 then 64 else 0 := by decide +kernel
theorem ff_orth2 {z : Nat} (hz : z < 64) : ff_sum (fun a => ff_chi a z) 64 = if z = 0 then 64 else 0 := by
  rw [← ff_orth z hz]
  apply ff_sum_congr
  intro a _
  show ff_sg (ff_par (a &&& z)) = ff_sg (Nat.testBit 7608434000728254870 (a &&& z))
  rw [ff_park _ (ff_alt hz)]
theorem ff_chi3 (b a x y : Nat) : ff_chi b a * (ff_chi a x * ff_chi a y) = ff_chi a (b ^^^ (x ^^^ y)) := by
  unfold ff_chi
  rw [ff_sgx, ff_sgx, ff_parx, ff_parx, Nat.and_comm b a]
theorem ff_xz {b x y : Nat} : b ^^^ (x ^^^ y) = 0 ↔ y = x ^^^ b := by
  constructor
  · intro h
    have h2 : b = x ^^^ y := by
      have := congrArg (fun t => t ^^^ (x ^^^ y)) h
      simpa [Nat.xor_assoc] using this
    rw [h2, ← Nat.xor_assoc, Nat.xor_self, Nat.zero_xor]
  · intro h
    rw [h, ← Nat.xor_assoc x x b, Nat.xor_self, Nat.zero_xor, Nat.xor_self]
theorem ff_corr (f : Nat → Int32) {b : Nat} (hb : b < 64) : ff_wh (fun a => ff_wh f a * ff_wh f a) b = ff_sum (fun x => f x * f (x ^^^ b)) 64 * 64 := by
  have e1 : ff_wh (fun a => ff_wh f a * ff_wh f a) b = ff_sum (fun a => ff_sum (fun x => ff_sum (fun y => (f x * f y) * ff_chi a (b ^^^ (x ^^^ y))) 64) 64) 64 := by
    apply ff_sum_congr
    intro a _
    show ff_chi b a * (ff_sum (fun x => ff_chi a x * f x) 64 * ff_sum (fun x => ff_chi a x * f x) 64) = _
    rw [ff_sum_mr, ff_sum_ml]
    apply ff_sum_congr
    intro x _
    show ff_chi b a * ((ff_chi a x * f x) * ff_sum (fun x => ff_chi a x * f x) 64) = _
    rw [ff_sum_ml, ff_sum_ml]
    apply ff_sum_congr
    intro y _
    show ff_chi b a * ((ff_chi a x * f x) * (ff_chi a y * f y)) = (f x * f y) * ff_chi a (b ^^^ (x ^^^ y))
    rw [← ff_chi3]
    ac_rfl
  rw [e1, ff_sum_swap, ff_sum_mr]
  apply ff_sum_congr
  intro x hx
  show ff_sum (fun a => ff_sum (fun y => (f x * f y) * ff_chi a (b ^^^ (x ^^^ y))) 64) 64 = f x * f (x ^^^ b) * 64
  rw [ff_sum_swap]
  have e2 : ∀ y, y < 64 → ff_sum (fun a => (f x * f y) * ff_chi a (b ^^^ (x ^^^ y))) 64 = (f x * f y) * (if b ^^^ (x ^^^ y) = 0 then 64 else 0) := by
    intro y hy
    rw [← ff_sum_ml, ff_orth2 (ff_xlt hb (ff_xlt hx hy))]
  rw [ff_sum_congr 64 e2, ff_sum_one (x := x ^^^ b) 64 (ff_xlt hx hb)]
  · show f x * f (x ^^^ b) * (if b ^^^ (x ^^^ (x ^^^ b)) = 0 then 64 else 0) = _
    rw [if_pos (ff_xz.mpr rfl)]
  · intro y hy hn
    show (f x * f y) * (if b ^^^ (x ^^^ y) = 0 then 64 else 0) = 0
    rw [if_neg (fun e => hn (ff_xz.mp e)), Int32.mul_zero]
theorem ff_div64 : ∀ s, s < 65 → ((2 * nI s - nI 64) * 64) / 64 = 2 * nI s - 64 := by decide +kernel
theorem ff_same_lt (g : Nat → Bool) (a : Nat) : ff_same g a 64 < 65 := Nat.lt_succ_of_le (ff_cnt_le _ 64)
theorem ff_D_lt (g : Nat → Bool) (a : Nat) : ff_D g a 64 < 65 := Nat.lt_succ_of_le (ff_cnt_le _ 64)
theorem ff_auto (g : Nat → Bool) {b : Nat} (hb : b < 64) : ff_wh (fun a => ff_S g a 64 * ff_S g a 64) b / 64 = 2 * nI (ff_same g b 64) - 64 := by
  have e : ff_wh (fun a => ff_S g a 64 * ff_S g a 64) b = ff_wh (fun a => ff_wh (ff_f g) a * ff_wh (ff_f g) a) b :=
    ff_wh_congr (fun a _ => by show ff_S g a 64 * ff_S g a 64 = ff_wh (ff_f g) a * ff_wh (ff_f g) a; rw [ff_whS]) b
  rw [e, ff_corr _ hb, ff_cor1, ff_div64 _ (ff_same_lt g b)]
end
section
/-! the component's helpers: what each computes -/
theorem ff_x6 {i : Nat} (h : i < 6) : ¬ (6 : Int32) ≤ nI i := nI_ge (b := 6) h (by decide)
theorem ff_x64 {i : Nat} (h : i < 64) : ¬ (64 : Int32) ≤ nI i := nI_ge (b := 64) h (by decide)
theorem ff_e64 : (64 : Int32) ≤ nI 64 := by decide
theorem ff_e6 : (6 : Int32) ≤ nI 6 := by decide
theorem ff_in {x N : Nat} (h : x < N) (hN : N ≤ 4096) : vp_in (nI x) N := vp_in_nI h (by omega)
theorem ff_cl {x : Nat} (h : x ≤ 4096) : (nI x).toNatClampNeg = x := nI_clamp (by omega)
/-- the arguments: within, or not -/
theorem ff_arg (v : Int32) (N : Nat) (hN : N ≤ 4096) : (∃ t, t < N ∧ v = nI t) ∨ (v < 0 ∨ (¬ v < 0 ∧ nI N ≤ v)) := by
  by_cases h : v < 0
  · exact Or.inr (Or.inl h)
  · obtain ⟨j, hj, rfl⟩ := nI_of h
    by_cases h2 : j < N
    · exact Or.inl ⟨j, h2, rfl⟩
    · exact Or.inr (Or.inr ⟨h, nI_le (by omega) hj⟩)
def ff_out (v : Int32) (N : Nat) : Prop := v < 0 ∨ (¬ v < 0 ∧ nI N ≤ v)
theorem ff_args (v : Int32) (N : Nat) (hN : N ≤ 4096) : (∃ t, t < N ∧ v = nI t) ∨ ff_out v N := ff_arg v N hN
theorem ff_xbad1 {post : Int32 → Prop} {u : SX} {t : Nat} (h : t < 4) (hp : post 0) : wpX_bad post u (nI t) := by
  obtain ⟨T, L, S⟩ := u
  exact br_f (nI_pos (by omega)) (br_t (nI_lt (b := 4) h (by decide)) hp)
theorem ff_xbad0 {post : Int32 → Prop} {u : SX} {v : Int32} (h : ff_out v 4) (hp : post 1) : wpX_bad post u v := by
  obtain ⟨T, L, S⟩ := u
  rcases h with h | ⟨h, h2⟩
  · exact br_t h hp
  · exact br_f h (br_f (Int32.not_lt.mpr h2) hp)
theorem ff_xpt1 {post : Int32 → Prop} {u : SX} {t : Nat} (h : t < 64) (hp : post 0) : wpX_badPoint post u (nI t) := by
  obtain ⟨T, L, S⟩ := u
  exact br_f (nI_pos (by omega)) (br_t (nI_lt (b := 64) h (by decide)) hp)
theorem ff_xpt0 {post : Int32 → Prop} {u : SX} {v : Int32} (h : ff_out v 64) (hp : post 1) : wpX_badPoint post u v := by
  obtain ⟨T, L, S⟩ := u
  rcases h with h | ⟨h, h2⟩
  · exact br_t h hp
  · exact br_f h (br_f (Int32.not_lt.mpr h2) hp)
theorem ff_xdig {post : Int32 → Prop} {u : SX} {w : Int64} {x : Nat} (hx : x < 64) (hp : post (ff_i (ff_b w x))) : wpX_digit post u w (nI x) := by
  obtain ⟨T, L, S⟩ := u
  show post _
  rw [ff_digit w hx]
  exact hp
theorem ff_xsz {post : Int32 → Prop} {u : SX} {x : Nat} (hx : x < 64) (hp : post (nI (ff_sz x))) : wpX_sizeOf post u (nI x) := by
  obtain ⟨T, L, S⟩ := u
  have H : ∀ d i, i + d = 6 → wX_sizeOf_4 post (nI x) T L S (d + 1) (nI (ff_szn x i)) (nI i) := by
    intro d
    induction d with
    | zero =>
      intro i hi
      have e : i = 6 := by omega
      subst e
      exact br_t ff_e6 hp
    | succ d ih =>
      intro i hi
      refine br_f (ff_x6 (by omega)) (nm_r (e' := nI (ff_szn x (i + 1))) ?_ (nm_r (nI_1 i) (ih (i + 1) (by omega))))
      rw [ff_tb x hx i (by omega), ← ff_nIb]
      rfl
  exact ⟨7, H 6 0 rfl⟩
theorem ff_xtr {post : Int64 → Prop} {T : Nat → Int64} {S : Nat → Int32} {f : Int64} (hp : post (ff_trs f 6)) : wpX_transformed post (T, ff_low, S) f := by
  have H : ∀ d i, i + d = 6 → wX_transformed_5 post T ff_low S (d + 1) (ff_trs f i) (nI i) := by
    intro d
    induction d with
    | zero =>
      intro i hi
      have e : i = 6 := by omega
      subst e
      exact br_t ff_e6 hp
    | succ d ih =>
      intro i hi
      refine br_f (ff_x6 (by omega)) ⟨ff_in (by omega) (by omega), nm_r (e' := ff_trs f (i + 1)) ?_ (nm_r (nI_1 i) (ih (i + 1) (by omega)))⟩
      rw [ff_p2 i (by omega), ff_cl (by omega)]
      rfl
  exact ⟨7, H 6 0 rfl⟩
theorem ff_xmv {post : Int64 → Prop} {T : Nat → Int64} {S : Nat → Int32} {f : Int64} {a : Nat} (ha : a < 64) (hp : post (ff_mvs f a 6)) : wpX_moved post (T, ff_low, S) f (nI a) := by
  have H : ∀ d i, i + d = 6 → wX_moved_6 post (nI a) T ff_low S (d + 1) (ff_mvs f a i) (nI i) := by
    intro d
    induction d with
    | zero =>
      intro i hi
      have e : i = 6 := by omega
      subst e
      exact br_t ff_e6 hp
    | succ d ih =>
      intro i hi
      have hin : vp_in (nI i) 6 := ff_in (by omega) (by omega)
      by_cases hb : a.testBit i = true
      · refine br_f (ff_x6 (by omega)) (br_t (by rw [ff_tb a ha i (by omega), hb]; rfl) (nm_r (ff_p2 i (by omega)) ⟨hin, hin, nm_r (e' := ff_mvs f a (i + 1)) ?_ (nm_r (nI_1 i) (ih (i + 1) (by omega)))⟩))
        rw [ff_cl (by omega)]
        exact (if_pos hb).symm
      · refine br_f (ff_x6 (by omega)) (br_f (by rw [ff_tb a ha i (by omega), ff_i1]; exact hb) (nm_r (nI_1 i) ?_))
        have e : ff_mvs f a (i + 1) = ff_mvs f a i := if_neg hb
        rw [← e]
        exact ih (i + 1) (by omega)
  exact ⟨7, H 6 0 rfl⟩
theorem ff_xln {post : Int64 → Prop} {T : Nat → Int64} {S : Nat → Int32} {b : Nat} (ha : b < 64) (hp : post (ff_lns b 6)) : wpX_linear post (T, ff_low, S) (nI b) := by
  have H : ∀ d i, i + d = 6 → wX_linear_5 post (nI b) T ff_low S (d + 1) (ff_lns b i) (nI i) := by
    intro d
    induction d with
    | zero =>
      intro i hi
      have e : i = 6 := by omega
      subst e
      exact br_t ff_e6 hp
    | succ d ih =>
      intro i hi
      have hin : vp_in (nI i) 6 := ff_in (by omega) (by omega)
      by_cases hb : b.testBit i = true
      · refine br_f (ff_x6 (by omega)) (br_t (by rw [ff_tb b ha i (by omega), hb]; rfl) ⟨hin, nm_r (e' := ff_lns b (i + 1)) ?_ (nm_r (nI_1 i) (ih (i + 1) (by omega)))⟩)
        rw [ff_cl (by omega)]
        exact (if_pos hb).symm
      · refine br_f (ff_x6 (by omega)) (br_f (by rw [ff_tb b ha i (by omega), ff_i1]; exact hb) (nm_r (nI_1 i) ?_))
        have e : ff_lns b (i + 1) = ff_lns b i := if_neg hb
        rw [← e]
        exact ih (i + 1) (by omega)
  exact ⟨7, H 6 0 rfl⟩
/-! spread -/
def ff_base (i y : Nat) : Nat := if y.testBit i = true then y - 2 ^ i else y
theorem ff_bs1 : ∀ i, i < 6 → ∀ y, y < 64 → (ff_base i y).testBit i = false ∧ ff_base i y < 64 := by decide +kernel
theorem ff_spread_in {post : SX → Prop} {J : Int32 → (Nat → Int64) → (Nat → Int64) → (Nat → Int32) → Prop} {T L : Nat → Int64} {i : Nat} (hi : i < 6) (s0 : Nat → Int32)
    (hJ : ∀ s, (∀ y, y < 64 → s y = ff_st i s0 y) → J (nI (i + 1)) T L s) :
    ∀ d x s, x + d = 64 → (∀ y, y < 64 → s y = if ff_base i y < x then ff_st i s0 y else s0 y) → wX_spread_14 post J (nI i) (nI (2 ^ i)) (d + 1) (nI x) T L s := by
  intro d
  induction d with
  | zero =>
    intro x s hx hs
    have e : x = 64 := by omega
    subst e
    refine br_t ff_e64 (nm_r (nI_1 i) (hJ s (fun y hy => ?_)))
    rw [hs y hy, if_pos (ff_bs1 i hi y hy).2]
  | succ d ih =>
    intro x s hx hs
    have hx64 : x < 64 := by omega
    have hin : vp_in (nI x) 64 := ff_in hx64 (by omega)
    by_cases hb : x.testBit i = true
    · refine br_f (ff_x64 hx64) (br_f (by rw [ff_tb x hx64 i hi, ff_i0, hb]; decide) (nm_r (nI_1 x) (ih (x + 1) s (by omega) (fun y hy => ?_))))
      have hne : ff_base i y ≠ x := by
        intro e
        have h1 := (ff_bs1 i hi y hy).1
        rw [e, hb] at h1
        exact absurd h1 (by decide)
      rw [hs y hy]
      by_cases hl : ff_base i y < x
      · rw [if_pos hl, if_pos (by omega)]
      · rw [if_neg hl, if_neg (by omega)]
    · have hf := ff_nf hb
      have d3 := ff_d3 i hi x hx64 hf
      have hin2 : vp_in (nI x + nI (2 ^ i)) 64 := by rw [nI_add]; exact ff_in d3.2.1 (by omega)
      have c1 : (nI x).toNatClampNeg = x := ff_cl (by omega)
      have c2 : (nI x + nI (2 ^ i)).toNatClampNeg = x + 2 ^ i := by rw [nI_add]; exact ff_cl (by omega)
      have b1 : ff_base i x = x := if_neg hb
      have b2 : ff_base i (x + 2 ^ i) = x := by
        unfold ff_base
        rw [if_pos d3.2.2]
        omega
      have s1 : s x = s0 x := by rw [hs x hx64, b1, if_neg (by omega)]
      have s2 : s (x + 2 ^ i) = s0 (x + 2 ^ i) := by rw [hs _ d3.2.1, b2, if_neg (by omega)]
      have hpos : 0 < 2 ^ i := Nat.two_pow_pos i
      refine br_f (ff_x64 hx64) (br_t (by rw [ff_tb x hx64 i hi, ff_i0]; exact hf) ⟨hin, nm_e ⟨hin2, nm_e ⟨hin, nm_e ⟨hin2, nm_e (nm_r (nI_1 x) (ih (x + 1) _ (by omega) (fun y hy => ?_)))⟩⟩⟩⟩)
      rw [c1, c2, s1, s2]
      by_cases y2 : y = x + 2 ^ i
      · subst y2
        rw [pk_us, b2, if_pos (by omega)]
        unfold ff_st
        rw [if_pos d3.2.2, Nat.add_sub_cancel]
      · rw [pk_un y2]
        by_cases y1 : y = x
        · subst y1
          rw [pk_us, b1, if_pos (by omega)]
          unfold ff_st
          rw [if_neg hb]
        · rw [pk_un y1, hs y hy]
          have hne : ff_base i y ≠ x := by
            intro e
            unfold ff_base at e
            by_cases hy2 : y.testBit i = true
            · rw [if_pos hy2] at e
              have d2 := ff_d2 i hi y hy hy2
              omega
            · rw [if_neg hy2] at e
              exact y1 e
          by_cases hl : ff_base i y < x
          · rw [if_pos hl, if_pos (by omega)]
          · rw [if_neg hl, if_neg (by omega)]
theorem ff_spread {post : SX → Prop} {T L : Nat → Int64} (s0 : Nat → Int32)
    (hp : ∀ s, (∀ y, y < 64 → s y = ff_wh s0 y) → post (T, L, s)) : wpX_spread post (T, L, s0) := by
  have H : ∀ d i s, i + d = 6 → (∀ y, y < 64 → s y = ff_sts s0 i y) → wX_spread_2 post (d + 1) (nI i) T L s := by
    intro d
    induction d with
    | zero =>
      intro i s hi hs
      have e : i = 6 := by omega
      subst e
      exact br_t ff_e6 (hp s (fun y hy => by rw [hs y hy, ff_sts6 s0 hy]))
    | succ d ih =>
      intro i s hi hs
      have hi6 : i < 6 := by omega
      refine br_f (ff_x6 hi6) (nm_r (ff_p2 i hi6) ⟨65, ff_spread_in hi6 s ?_ 64 0 s rfl ?_⟩)
      · intro s' hs'
        refine ih (i + 1) s' (by omega) (fun y hy => ?_)
        rw [hs' y hy]
        exact ff_st_congr hi6 hs hy
      · intro y hy
        rw [if_neg (by omega)]
  exact ⟨7, H 6 0 s0 rfl (fun y hy => rfl)⟩
theorem ff_xspec {post : SX → Prop} {T L : Nat → Int64} {S : Nat → Int32} {t : Nat} (ht : t < 4)
    (hp : ∀ s, (∀ y, y < 64 → s y = ff_S (ff_b (T t)) y 64) → post (T, L, s)) : wpX_spectrumOf post (T, L, S) (nI t) := by
  have H : ∀ d x s, x + d = 64 → (∀ y, y < x → s y = ff_f (ff_b (T t)) y) → wX_spectrumOf_2 post (nI t) (d + 1) (nI x) T L s := by
    intro d
    induction d with
    | zero =>
      intro x s hx hs
      have e : x = 64 := by omega
      subst e
      refine br_t ff_e64 (ff_spread s (fun s' hs' => hp s' (fun y hy => ?_)))
      rw [hs' y hy, ff_wh_congr hs, ff_whS]
    | succ d ih =>
      intro x s hx hs
      have hx64 : x < 64 := by omega
      refine br_f (ff_x64 hx64) ⟨ff_in ht (by omega), ff_xdig hx64 ⟨ff_in hx64 (by omega), nm_e (nm_r (nI_1 x) (ih (x + 1) _ (by omega) (fun y hy => ?_)))⟩⟩
      rw [ff_cl (by omega), ff_cl (show t ≤ 4096 by omega)]
      by_cases e : y = x
      · subst e
        rw [pk_us]
        rfl
      · rw [pk_un e, hs y (by omega)]
  exact ⟨65, H 64 0 S rfl (fun y hy => absurd hy (by omega))⟩
theorem ff_xcor {post : SX → Prop} {T L : Nat → Int64} {S : Nat → Int32} {t : Nat} (ht : t < 4)
    (hp : ∀ s, (∀ y, y < 64 → s y = 2 * nI (ff_same (ff_b (T t)) y 64) - 64) → post (T, L, s)) : wpX_correlate post (T, L, S) (nI t) := by
  have H2 : ∀ s0 : Nat → Int32, (∀ y, y < 64 → s0 y = ff_wh (fun a => ff_S (ff_b (T t)) a 64 * ff_S (ff_b (T t)) a 64) y) → ∀ d x s, x + d = 64 → (∀ y, y < 64 → s y = if y < x then s0 y / 64 else s0 y) → wX_correlate_44 post (d + 1) (nI x) T L s := by
    intro s0 h0 d
    induction d with
    | zero =>
      intro x s hx hs
      have e : x = 64 := by omega
      subst e
      refine br_t ff_e64 (hp s (fun y hy => ?_))
      rw [hs y hy, if_pos hy, h0 y hy, ff_auto _ hy]
    | succ d ih =>
      intro x s hx hs
      have hx64 : x < 64 := by omega
      have hin : vp_in (nI x) 64 := ff_in hx64 (by omega)
      refine br_f (ff_x64 hx64) ⟨hin, by decide, hin, nm_e (nm_r (nI_1 x) (ih (x + 1) _ (by omega) (fun y hy => ?_)))⟩
      rw [ff_cl (by omega)]
      by_cases e : y = x
      · subst e
        rw [pk_us, if_pos (by omega), hs y hy, if_neg (by omega)]
      · rw [pk_un e, hs y hy]
        by_cases hl : y < x
        · rw [if_pos hl, if_pos (by omega)]
        · rw [if_neg hl, if_neg (by omega)]
  have H1 : ∀ s0 : Nat → Int32, (∀ y, y < 64 → s0 y = ff_S (ff_b (T t)) y 64) → ∀ d x s, x + d = 64 → (∀ y, y < 64 → s y = if y < x then s0 y * s0 y else s0 y) → wX_correlate_7 post (d + 1) (nI x) T L s := by
    intro s0 h0 d
    induction d with
    | zero =>
      intro x s hx hs
      have e : x = 64 := by omega
      subst e
      refine br_t ff_e64 (ff_spread s (fun s' hs' => ⟨65, H2 s' (fun y hy => ?_) 64 0 s' rfl (fun y hy => ?_)⟩))
      · rw [hs' y hy]
        refine ff_wh_congr (fun a ha => ?_) y
        rw [hs a ha, if_pos ha, h0 a ha]
      · rw [if_neg (by omega)]
    | succ d ih =>
      intro x s hx hs
      have hx64 : x < 64 := by omega
      have hin : vp_in (nI x) 64 := ff_in hx64 (by omega)
      refine br_f (ff_x64 hx64) ⟨hin, hin, hin, nm_e (nm_r (nI_1 x) (ih (x + 1) _ (by omega) (fun y hy => ?_)))⟩
      rw [ff_cl (by omega)]
      by_cases e : y = x
      · subst e
        rw [pk_us, if_pos (by omega), hs y hy, if_neg (by omega)]
      · rw [pk_un e, hs y hy]
        by_cases hl : y < x
        · rw [if_pos hl, if_pos (by omega)]
        · rw [if_neg hl, if_neg (by omega)]
  unfold wpX_correlate
  dsimp only
  refine ff_xspec ht (fun s hs => ⟨65, H1 s hs 64 0 s rfl (fun y hy => ?_)⟩)
  rw [if_neg (by omega)]
/-! magnitudes, peaks -/
def ff_mg (d : Nat) : Nat := if d ≤ 32 then 64 - 2 * d else 2 * d - 64
def ff_mn (d : Nat) : Nat := if 64 - d ≤ d then 64 - d else d
theorem ff_mgS : ∀ d, d < 65 → (0 ≤ nI 64 - 2 * nI d → nI 64 - 2 * nI d = nI (ff_mg d)) ∧ (¬ 0 ≤ nI 64 - 2 * nI d → -(nI 64 - 2 * nI d) = nI (ff_mg d)) := by decide +kernel
theorem ff_mgC : ∀ d, d < 65 → (0 ≤ 2 * nI d - 64 → 2 * nI d - 64 = nI (ff_mg d)) ∧ (¬ 0 ≤ 2 * nI d - 64 → -(2 * nI d - 64) = nI (ff_mg d)) := by decide +kernel
theorem ff_mgh : ∀ d, d < 65 → 32 - nI (ff_mg d) / 2 = nI (ff_mn d) := by decide +kernel
theorem ff_mgl {d : Nat} (h : d < 65) : ff_mg d ≤ 64 := by unfold ff_mg; split <;> omega
theorem ff_mnl {d : Nat} (h : d < 65) : ff_mn d ≤ 32 := by unfold ff_mn; split <;> omega
theorem ff_mgm {d e : Nat} (h : d < 65) (k : e < 65) : ff_mg d ≤ ff_mg e ↔ ff_mn e ≤ ff_mn d := by
  unfold ff_mg ff_mn
  split <;> split <;> split <;> split <;> omega
theorem ff_xmagS {post : Int32 → Prop} {u : SX} {d : Nat} (hd : d < 65) {v : Int32} (hv : v = nI 64 - 2 * nI d) (hp : post (nI (ff_mg d))) : wpX_magnitude post u v := by
  obtain ⟨T, L, S⟩ := u
  subst hv
  have h := ff_mgS d hd
  exact br_c (fun z => by rw [h.1 z]; exact hp) (fun z => by rw [h.2 z]; exact hp)
theorem ff_xmagC {post : Int32 → Prop} {u : SX} {d : Nat} (hd : d < 65) {v : Int32} (hv : v = 2 * nI d - 64) (hp : post (nI (ff_mg d))) : wpX_magnitude post u v := by
  obtain ⟨T, L, S⟩ := u
  subst hv
  have h := ff_mgC d hd
  exact br_c (fun z => by rw [h.1 z]; exact hp) (fun z => by rw [h.2 z]; exact hp)
/-- the first nearest point among 0 .. k -/
def ff_best (D : Nat → Nat) : Nat → Nat
  | 0 => 0
  | k + 1 => if ff_mn (D (ff_best D k)) ≤ ff_mn (D (k + 1)) then ff_best D k else k + 1
theorem ff_best_le (D : Nat → Nat) : ∀ k, ff_best D k ≤ k
  | 0 => Nat.le_refl 0
  | k + 1 => by
    have h := ff_best_le D k
    unfold ff_best
    split <;> omega
theorem ff_xpeak {post : Int32 → Prop} {T L : Nat → Int64} {s : Nat → Int32} (D : Nat → Nat) (hD : ∀ y, D y < 65) (hs : ∀ y, y < 64 → s y = nI 64 - 2 * nI (D y)) (hp : post (nI (ff_best D 63))) : wpX_peak post (T, L, s) := by
  have H : ∀ d k, k + d = 63 → wX_peak_4 post T L s (d + 1) (nI (ff_best D k)) (nI (k + 1)) := by
    intro d
    induction d with
    | zero =>
      intro k hk
      have e : k = 63 := by omega
      subst e
      exact br_t ff_e64 hp
    | succ d ih =>
      intro k hk
      have hb := ff_best_le D k
      refine br_f (ff_x64 (by omega)) ⟨ff_in (by omega) (by omega), ff_xmagS (hD (k + 1)) (by rw [ff_cl (by omega), hs _ (by omega)]) ⟨ff_in (by omega) (by omega), ff_xmagS (hD (ff_best D k)) (by rw [ff_cl (by omega), hs _ (by omega)]) ?_⟩⟩
      have g1 := ff_mgl (hD (k + 1))
      have g2 := ff_mgl (hD (ff_best D k))
      have gm := ff_mgm (hD (k + 1)) (hD (ff_best D k))
      have ih' := ih (k + 1) (by omega)
      refine pk_le (ff_mg (D (k + 1))) (ff_mg (D (ff_best D k))) (fun z => nm_r (nI_1 (k + 1)) ?_) (fun z => nm_r (nI_1 (k + 1)) ?_)
      · have e : ff_best D (k + 1) = ff_best D k := if_pos (gm.mp z)
        rw [e] at ih'
        exact ih'
      · have e : ff_best D (k + 1) = k + 1 := if_neg (fun y => absurd (gm.mpr y) (by omega))
        rw [e] at ih'
        exact ih'
  exact ⟨64, H 63 0 rfl⟩
end
section
/-! the reference's methods: what each computes -/
def ff_has (B : Nat → Int32) (t : Nat) (g : Nat → Bool) : Prop := ∀ x, x < 64 → B (64 * t + x) = ff_i (g x)
theorem ff_ix (t x : Nat) : 64 * nI t + nI x = nI (64 * t + x) := by
  show nI 64 * nI t + nI x = _
  rw [pk_mul, nI_add]
theorem ff_yin {t x : Nat} (ht : t < 4) (hx : x < 64) : vp_in (64 * nI t + nI x) 256 := by
  rw [ff_ix]
  exact ff_in (by omega) (by omega)
theorem ff_ycl {t x : Nat} (ht : t < 4) (hx : x < 64) : (64 * nI t + nI x).toNatClampNeg = 64 * t + x := by
  rw [ff_ix]
  exact ff_cl (by omega)
theorem ff_yat {B : Nat → Int32} {t x : Nat} {g : Nat → Bool} (hg : ff_has B t g) (ht : t < 4) (hx : x < 64) : B (64 * nI t + nI x).toNatClampNeg = ff_i (g x) := by
  rw [ff_ycl ht hx]
  exact hg x hx
theorem ff_yt1 {post : Int32 → Prop} {v : SY} {t : Nat} (h : t < 4) (hp : post 1) : wpY_isTable post v (nI t) := by
  obtain ⟨B, M⟩ := v
  exact br_f (nI_pos (by omega)) (br_f (nI_nlt (a := 3) (b := t) (by omega) (by decide)) hp)
theorem ff_yt0 {post : Int32 → Prop} {v : SY} {x : Int32} (h : ff_out x 4) (hp : post 0) : wpY_isTable post v x := by
  obtain ⟨B, M⟩ := v
  rcases h with h | ⟨h, h2⟩
  · exact br_t h hp
  · exact br_f h (br_t (Int32.lt_of_lt_of_le (show (3 : Int32) < nI 4 by decide) h2) hp)
theorem ff_yp1 {post : Int32 → Prop} {v : SY} {t : Nat} (h : t < 64) (hp : post 1) : wpY_isPoint post v (nI t) := by
  obtain ⟨B, M⟩ := v
  exact br_f (nI_pos (by omega)) (br_f (nI_nlt (a := 63) (b := t) (by omega) (by decide)) hp)
theorem ff_yp0 {post : Int32 → Prop} {v : SY} {x : Int32} (h : ff_out x 64) (hp : post 0) : wpY_isPoint post v x := by
  obtain ⟨B, M⟩ := v
  rcases h with h | ⟨h, h2⟩
  · exact br_t h hp
  · exact br_f h (br_t (Int32.lt_of_lt_of_le (show (63 : Int32) < nI 64 by decide) h2) hp)
theorem ff_ysz {post : Int32 → Prop} {v : SY} {x : Nat} (hx : x < 64) (hp : post (nI (ff_sz x))) : wpY_sizeOf post v (nI x) := by
  obtain ⟨B, M⟩ := v
  have H : ∀ d i, i + d = 6 → wY_sizeOf_4 post (nI x) B M (d + 1) (nI (ff_szn x i)) (nI i) := by
    intro d
    induction d with
    | zero =>
      intro i hi
      have e : i = 6 := by omega
      subst e
      exact br_t ff_e6 hp
    | succ d ih =>
      intro i hi
      refine br_f (ff_x6 (by omega)) (nm_r (e' := nI (ff_szn x (i + 1))) ?_ (nm_r (nI_1 i) (ih (i + 1) (by omega))))
      rw [ff_tb x hx i (by omega), ← ff_nIb]
      rfl
  exact ⟨7, H 6 0 rfl⟩
theorem ff_ypr {post : Int32 → Prop} {v : SY} {a x : Nat} (hx : x < 64) (hp : post (ff_i (ff_par (a &&& x)))) : wpY_product post v (nI a) (nI x) := by
  obtain ⟨B, M⟩ := v
  unfold wpY_product
  dsimp only
  rw [nx_and]
  refine ff_ysz (ff_alt hx) ?_
  rw [ff_szp _ (ff_alt hx)]
  exact hp
theorem ff_ycnt {post : Int32 → Prop} {B M : Nat → Int32} {t : Nat} {g : Nat → Bool} (hg : ff_has B t g) (ht : t < 4) (hp : post (nI (ff_cnt g 64))) : wpY_countOnes post (B, M) (nI t) := by
  have H : ∀ d x, x + d = 64 → wY_countOnes_4 post (nI t) B M (d + 1) (nI (ff_cnt g x)) (nI x) := by
    intro d
    induction d with
    | zero =>
      intro x hx
      have e : x = 64 := by omega
      subst e
      exact br_t ff_e64 hp
    | succ d ih =>
      intro x hx
      have h64 : x < 64 := by omega
      refine br_f (ff_x64 h64) ⟨ff_yin ht h64, nm_r (e' := nI (ff_cnt g (x + 1))) ?_ (nm_r (nI_1 x) (ih (x + 1) (by omega)))⟩
      rw [ff_yat hg ht h64, ← ff_nIb]
      rfl
  exact ⟨65, H 64 0 rfl⟩
theorem ff_yfm {post : Int32 → Prop} {B M : Nat → Int32} {t u : Nat} {g : Nat → Bool} (hg : ff_has B t g) (ht : t < 4) (hu : u < 64) (hp : post (ff_i (ff_fm g u))) : wpY_formAt post (B, M) (nI t) (nI u) := by
  have H : ∀ d x, x + d = 64 → wY_formAt_5 post (nI t) (nI u) B M (d + 1) (ff_i (ff_xs (fun y => ff_sub y u && g y) x)) (nI x) := by
    intro d
    induction d with
    | zero =>
      intro x hx
      have e : x = 64 := by omega
      subst e
      exact br_t ff_e64 hp
    | succ d ih =>
      intro x hx
      have h64 : x < 64 := by omega
      have hs := ff_subI x h64 u hu
      have ih' := ih (x + 1) (by omega)
      have e : ff_xs (fun y => ff_sub y u && g y) (x + 1) = (ff_xs (fun y => ff_sub y u && g y) x ^^ (ff_sub x u && g x)) := rfl
      rw [e] at ih'
      refine br_f (ff_x64 h64) (br_c (fun z => ⟨ff_yin ht h64, nm_r (e' := ff_i (ff_xs (fun y => ff_sub y u && g y) x ^^ (ff_sub x u && g x))) ?_ (nm_r (nI_1 x) ih')⟩) (fun z => nm_r (nI_1 x) ?_))
      · rw [decide_eq_true z] at hs
        rw [ff_yat hg ht h64, ff_ixor, ← hs, Bool.true_and]
      · rw [decide_eq_false z] at hs
        rw [← hs, Bool.false_and, Bool.xor_false] at ih'
        exact ih'
  exact ⟨65, H 64 0 rfl⟩
theorem ff_ysp {post : Int32 → Prop} {B M : Nat → Int32} {t a : Nat} {g : Nat → Bool} (hg : ff_has B t g) (ht : t < 4) (hp : post (ff_S g a 64)) : wpY_spectrumAt post (B, M) (nI t) (nI a) := by
  have H : ∀ d x, x + d = 64 → wY_spectrumAt_5 post (nI t) (nI a) B M (d + 1) (ff_S g a x) (nI x) := by
    intro d
    induction d with
    | zero =>
      intro x hx
      have e : x = 64 := by omega
      subst e
      exact br_t ff_e64 hp
    | succ d ih =>
      intro x hx
      have h64 : x < 64 := by omega
      have ih' := ih (x + 1) (by omega)
      rw [ff_S_s] at ih'
      refine br_f (ff_x64 h64) ⟨ff_yin ht h64, ff_ypr h64 ?_⟩
      rw [ff_yat hg ht h64, ff_ii]
      refine br_c (fun z => nm_r (e' := ff_S g a x + (1 - 2 * ff_i (g x ^^ ff_par (a &&& x)))) ?_ (nm_r (nI_1 x) ih')) (fun z => nm_r (e' := ff_S g a x + (1 - 2 * ff_i (g x ^^ ff_par (a &&& x)))) ?_ (nm_r (nI_1 x) ih'))
      · rw [z, Bool.xor_self]
        rfl
      · have e : (g x ^^ ff_par (a &&& x)) = true := by
          revert z
          cases g x <;> cases ff_par (a &&& x) <;> decide
        rw [e]
        show ff_S g a x - 1 = ff_S g a x + (-1)
        exact Int32.sub_eq_add_neg _ _
  have e0 : ff_S g a 0 = 0 := by
    show nI 0 - 2 * nI 0 = 0
    decide
  have H0 := H 64 0 rfl
  rw [e0] at H0
  exact ⟨65, H0⟩
theorem ff_ych {post : Int32 → Prop} {B M : Nat → Int32} {t a : Nat} {g : Nat → Bool} (hg : ff_has B t g) (ht : t < 4) (hp : post (nI (ff_mn (ff_D g a 64)))) : wpY_changes post (B, M) (nI t) (nI a) := by
  have H : ∀ d x, x + d = 64 → wY_changes_5 post (nI t) (nI a) B M (d + 1) (nI (ff_D g a x)) (nI x) := by
    intro d
    induction d with
    | zero =>
      intro x hx
      have e : x = 64 := by omega
      subst e
      have hl := ff_D_lt g a
      refine br_t ff_e64 ?_
      rw [show (64 : Int32) - nI (ff_D g a 64) = nI (64 - ff_D g a 64) from pk_sub (a := 64) (by omega)]
      refine pk_le (64 - ff_D g a 64) (ff_D g a 64) (fun z => ?_) (fun z => ?_)
      · unfold ff_mn at hp
        rw [if_pos z] at hp
        exact hp
      · unfold ff_mn at hp
        rw [if_neg (by omega)] at hp
        exact hp
    | succ d ih =>
      intro x hx
      have h64 : x < 64 := by omega
      have ih' := ih (x + 1) (by omega)
      have e : ff_D g a (x + 1) = ff_D g a x + (g x ^^ ff_par (a &&& x)).toNat := rfl
      rw [e] at ih'
      refine br_f (ff_x64 h64) ⟨ff_yin ht h64, ff_ypr h64 ?_⟩
      rw [ff_yat hg ht h64, ff_ii]
      refine br_c (fun z => nm_r (nI_1 x) ?_) (fun z => nm_r (e' := nI (ff_D g a x + (g x ^^ ff_par (a &&& x)).toNat)) ?_ (nm_r (nI_1 x) ih'))
      · rw [z, Bool.xor_self] at ih'
        exact ih'
      · have e : (g x ^^ ff_par (a &&& x)) = true := by
          revert z
          cases g x <;> cases ff_par (a &&& x) <;> decide
        rw [e]
        exact nI_1 _
  exact ⟨65, H 64 0 rfl⟩
theorem ff_ysm {post : Int32 → Prop} {B M : Nat → Int32} {t a : Nat} {g : Nat → Bool} (hg : ff_has B t g) (ht : t < 4) (ha : a < 64) (hp : post (nI (ff_same g a 64))) : wpY_sames post (B, M) (nI t) (nI a) := by
  have H : ∀ d x, x + d = 64 → wY_sames_5 post (nI t) (nI a) B M (d + 1) (nI (ff_same g a x)) (nI x) := by
    intro d
    induction d with
    | zero =>
      intro x hx
      have e : x = 64 := by omega
      subst e
      exact br_t ff_e64 hp
    | succ d ih =>
      intro x hx
      have h64 : x < 64 := by omega
      have ih' := ih (x + 1) (by omega)
      have e : ff_same g a (x + 1) = ff_same g a x + (g x == g (x ^^^ a)).toNat := rfl
      rw [e] at ih'
      refine br_f (ff_x64 h64) ⟨ff_yin ht h64, by rw [nx_xor]; exact ff_yin ht (ff_xlt h64 ha), ?_⟩
      rw [nx_xor, ff_yat hg ht h64, ff_yat hg ht (ff_xlt h64 ha), ff_ii]
      refine br_c (fun z => nm_r (e' := nI (ff_same g a x + (g x == g (x ^^^ a)).toNat)) ?_ (nm_r (nI_1 x) ih')) (fun z => nm_r (nI_1 x) ?_)
      · rw [z, beq_self_eq_true]
        exact nI_1 _
      · have e : (g x == g (x ^^^ a)) = false := beq_eq_false_iff_ne.mpr z
        rw [e] at ih'
        exact ih'
  exact ⟨65, H 64 0 rfl⟩
/-! the reference's writes -/
def ff_but (B B' : Nat → Int32) (t : Nat) : Prop := ∀ r x, x < 64 → r ≠ t → B' (64 * r + x) = B (64 * r + x)
theorem ff_but0 (B : Nat → Int32) (t : Nat) : ff_but B B t := fun _ _ _ _ => rfl
theorem ff_butU {B B' : Nat → Int32} {t x : Nat} {v : Int32} (hx : x < 64) (h : ff_but B B' t) : ff_but B (upd B' (64 * t + x) v) t := by
  intro r y hy hr
  rw [pk_un (by omega), h r y hy hr]
theorem ff_ytk {post : Int32 → SY → Prop} {B M : Nat → Int32} {t : Nat} {g : Nat → Bool} (hM : ∀ x, x < 64 → M x = ff_i (g x)) (ht : t < 4)
    (hp : ∀ B', ff_has B' t g → ff_but B B' t → post (nI (ff_cnt g 64)) (B', M)) : wpY_takeMade post (B, M) (nI t) := by
  have H : ∀ d x B', x + d = 64 → (∀ y, y < x → B' (64 * t + y) = ff_i (g y)) → ff_but B B' t → wY_takeMade_2 post (nI t) (d + 1) (nI x) B' M := by
    intro d
    induction d with
    | zero =>
      intro x B' hx h1 h2
      have e : x = 64 := by omega
      subst e
      exact br_t ff_e64 (ff_ycnt h1 ht (hp B' h1 h2))
    | succ d ih =>
      intro x B' hx h1 h2
      have h64 : x < 64 := by omega
      refine br_f (ff_x64 h64) ⟨ff_in h64 (by omega), ff_yin ht h64, ?_⟩
      rw [ff_ycl ht h64, ff_cl (by omega), hM x h64]
      refine nm_e (nm_r (nI_1 x) (ih (x + 1) _ (by omega) (fun y hy => ?_) (ff_butU h64 h2)))
      by_cases e : y = x
      · subst e
        exact pk_us
      · rw [pk_un (by omega), h1 y (by omega)]
  exact ⟨65, H 64 0 B rfl (fun y hy => absurd hy (by omega)) (ff_but0 B t)⟩
theorem ff_ytf {post : Int32 → SY → Prop} {B M : Nat → Int32} {t u : Nat} {g : Nat → Bool} (hg : ff_has B t g) (ht : t < 4) (hu : u < 64)
    (hp : ∀ B', ff_has B' t (fun x => g x ^^ ff_sub u x) → ff_but B B' t → post (nI (ff_cnt (fun x => g x ^^ ff_sub u x) 64)) (B', M)) : ∃ n, wY_turnForm_22 post (nI t) (nI u) n 0 B M := by
  have H : ∀ d x B', x + d = 64 → (∀ y, y < 64 → B' (64 * t + y) = if y < x then ff_i (g y ^^ ff_sub u y) else ff_i (g y)) → ff_but B B' t → wY_turnForm_22 post (nI t) (nI u) (d + 1) (nI x) B' M := by
    intro d
    induction d with
    | zero =>
      intro x B' hx h1 h2
      have e : x = 64 := by omega
      subst e
      have h3 : ff_has B' t (fun x => g x ^^ ff_sub u x) := fun y hy => by rw [h1 y hy, if_pos hy]
      exact br_t ff_e64 (ff_ycnt h3 ht (hp B' h3 h2))
    | succ d ih =>
      intro x B' hx h1 h2
      have h64 : x < 64 := by omega
      have hs := ff_subI u hu x h64
      have hv : B' (64 * t + x) = ff_i (g x) := by rw [h1 x h64, if_neg (by omega)]
      have hn : ∀ v, v = ff_i (g x ^^ ff_sub u x) → ∀ y, y < 64 → upd B' (64 * t + x) v (64 * t + y) = if y < x + 1 then ff_i (g y ^^ ff_sub u y) else ff_i (g y) := by
        intro v ev y hy
        by_cases e : y = x
        · subst e
          rw [pk_us, if_pos (by omega), ev]
        · rw [pk_un (by omega), h1 y hy]
          by_cases hl : y < x
          · rw [if_pos hl, if_pos (by omega)]
          · rw [if_neg hl, if_neg (by omega)]
      have hin := ff_yin ht h64
      refine br_f (ff_x64 h64) ?_
      rw [ff_ycl ht h64, hv]
      refine br_c (fun z => ⟨hin, hin, nm_e (nm_r (nI_1 x) (ih (x + 1) _ (by omega) (hn _ ?_) (ff_butU h64 h2)))⟩) (fun z => ⟨hin, hin, nm_e (nm_r (nI_1 x) (ih (x + 1) _ (by omega) (hn _ ?_) (ff_butU h64 h2)))⟩)
      · rw [decide_eq_true z] at hs
        rw [← hs, ff_inot, Bool.xor_true]
      · rw [decide_eq_false z] at hs
        rw [← hs, Bool.xor_false]
  exact ⟨65, H 64 0 B rfl (fun y hy => by rw [if_neg (by omega)]; exact hg y hy) (ff_but0 B t)⟩
/-- the four ways to combine -/
def ff_op (op : Nat) (p q : Bool) : Bool := if op = 0 then p ^^ q else if op = 1 then p && q else if op = 2 then p || q else !(p ^^ q)
theorem ff_ycb {post : Int32 → SY → Prop} {B M : Nat → Int32} {t op r s : Nat} {g h : Nat → Bool} (hg : ff_has B r g) (hh : ff_has B s h) (ht : t < 4) (hop : op < 4) (hr : r < 4) (hs : s < 4)
    (hp : ∀ B' M', ff_has B' t (fun x => ff_op op (g x) (h x)) → ff_but B B' t → post (nI (ff_cnt (fun x => ff_op op (g x) (h x)) 64)) (B', M')) : ∃ n, wY_combine_41 post (nI t) (nI op) (nI r) (nI s) n 0 B M := by
  have H : ∀ d x M', x + d = 64 → (∀ y, y < x → M' y = ff_i (ff_op op (g y) (h y))) → wY_combine_41 post (nI t) (nI op) (nI r) (nI s) (d + 1) (nI x) B M' := by
    intro d
    induction d with
    | zero =>
      intro x M' hx h1
      have e : x = 64 := by omega
      subst e
      exact br_t ff_e64 (ff_ytk h1 ht (fun B' a b => hp B' M' a b))
    | succ d ih =>
      intro x M' hx h1
      have h64 : x < 64 := by omega
      have hin : vp_in (nI x) 64 := ff_in h64 (by omega)
      have hn : ∀ v, v = ff_i (ff_op op (g x) (h x)) → ∀ y, y < x + 1 → upd M' x v y = ff_i (ff_op op (g y) (h y)) := by
        intro v ev y hy
        by_cases e : y = x
        · subst e
          rw [pk_us, ev]
        · rw [pk_un e, h1 y (by omega)]
      have ih' := fun v ev => ih (x + 1) (upd M' x v) (by omega) (hn v ev)
      refine br_f (ff_x64 h64) ⟨ff_yin hr h64, nm_r (ff_yat hg hr h64) ⟨ff_yin hs h64, nm_r (ff_yat hh hs h64) ?_⟩⟩
      rw [ff_cl (show x ≤ 4096 by omega)]
      refine pk_eq op 0 (fun z => ⟨hin, nm_e (nm_r (nI_1 x) (ih' _ ?_))⟩) (fun z0 => pk_eq op 1 (fun z => ⟨hin, nm_e (nm_r (nI_1 x) (ih' _ ?_))⟩) (fun z1 => pk_eq op 2 (fun z => ⟨hin, nm_e (nm_r (nI_1 x) (ih' _ ?_))⟩) (fun z2 => br_c (fun z => ⟨hin, nm_e (nm_r (nI_1 x) (ih' _ ?_))⟩) (fun z => ⟨hin, nm_e (nm_r (nI_1 x) (ih' _ ?_))⟩))))
      · subst z
        exact ff_ixor _ _
      · subst z
        exact ff_iand _ _
      · subst z
        exact ff_ior _ _
      · unfold ff_op
        rw [if_neg z0, if_neg z1, if_neg z2, ff_i1.mp z, Bool.xor_true, Bool.not_not]
      · unfold ff_op
        have e : h x = false := ff_nf (fun y => z (ff_i1.mpr y))
        rw [if_neg z0, if_neg z1, if_neg z2, e, Bool.xor_false, ff_inot]
  exact ⟨65, H 64 0 M rfl (fun y hy => absurd hy (by omega))⟩
theorem ff_ysh {post : Int32 → SY → Prop} {B M : Nat → Int32} {t r a b : Nat} {g : Nat → Bool} (hg : ff_has B r g) (ht : t < 4) (hr : r < 4) (ha : a < 64)
    (hp : ∀ B' M', ff_has B' t (fun x => g (x ^^^ a) ^^ ff_par (b &&& x)) → ff_but B B' t → post (nI (ff_cnt (fun x => g (x ^^^ a) ^^ ff_par (b &&& x)) 64)) (B', M')) : ∃ n, wY_shift_40 post (nI t) (nI r) (nI a) (nI b) n 0 B M := by
  have H : ∀ d x M', x + d = 64 → (∀ y, y < x → M' y = ff_i (g (y ^^^ a) ^^ ff_par (b &&& y))) → wY_shift_40 post (nI t) (nI r) (nI a) (nI b) (d + 1) (nI x) B M' := by
    intro d
    induction d with
    | zero =>
      intro x M' hx h1
      have e : x = 64 := by omega
      subst e
      exact br_t ff_e64 (ff_ytk h1 ht (fun B' a b => hp B' M' a b))
    | succ d ih =>
      intro x M' hx h1
      have h64 : x < 64 := by omega
      have hxa := ff_xlt h64 ha
      refine br_f (ff_x64 h64) ⟨by rw [nx_xor]; exact ff_yin hr hxa, ff_ypr h64 ⟨ff_in h64 (by omega), ?_⟩⟩
      rw [nx_xor, ff_yat hg hr hxa, ff_cl (by omega), ff_ixor]
      refine nm_e (nm_r (nI_1 x) (ih (x + 1) _ (by omega) (fun y hy => ?_)))
      by_cases e : y = x
      · subst e
        rw [pk_us]
      · rw [pk_un e, h1 y (by omega)]
  exact ⟨65, H 64 0 M rfl (fun y hy => absurd hy (by omega))⟩
theorem ff_ycm {post : Int32 → Prop} {B M : Nat → Int32} {t r a b : Nat} {g h : Nat → Bool} (hg : ff_has B t g) (hh : ff_has B r h) (ht : t < 4) (hr : r < 4) (ha : a < 64)
    (h1 : (∀ x, x < 64 → g x = (h (x ^^^ a) ^^ ff_par (b &&& x))) → post 1) (h0 : ¬ (∀ x, x < 64 → g x = (h (x ^^^ a) ^^ ff_par (b &&& x))) → post 0) : wpY_comesBy post (B, M) (nI t) (nI r) (nI a) (nI b) := by
  have H : ∀ d x, x + d = 64 → (∀ y, y < x → g y = (h (y ^^^ a) ^^ ff_par (b &&& y))) → wY_comesBy_3 post (nI t) (nI r) (nI a) (nI b) B M (d + 1) (nI x) := by
    intro d
    induction d with
    | zero =>
      intro x hx hy
      have e : x = 64 := by omega
      subst e
      exact br_t ff_e64 (h1 hy)
    | succ d ih =>
      intro x hx hy
      have h64 : x < 64 := by omega
      have hxa := ff_xlt h64 ha
      refine br_f (ff_x64 h64) ⟨ff_yin ht h64, by rw [nx_xor]; exact ff_yin hr hxa, ff_ypr h64 ?_⟩
      rw [nx_xor, ff_yat hg ht h64, ff_yat hh hr hxa, ff_ixor, ff_ii]
      refine br_c (fun z => nm_r (nI_1 x) (ih (x + 1) (by omega) (fun y hy' => ?_))) (fun z => h0 (fun k => z (k x h64)))
      by_cases e : y = x
      · subst e
        exact z
      · exact hy y (by omega)
  exact ⟨65, H 64 0 rfl (fun y hy => absurd hy (by omega))⟩
end
section
/-! the loops of the methods, each side against one pure answer -/
def ff_R (T : Nat → Int64) (B : Nat → Int32) : Prop := ∀ t, t < 4 → ff_has B t (ff_b (T t))
theorem ff_R_upd {T : Nat → Int64} {B B' : Nat → Int32} {t : Nat} {w : Int64} (h : ff_R T B) (h1 : ff_has B' t (ff_b w)) (h2 : ff_but B B' t) : ff_R (vp_updL T t w) B' := by
  intro r hr x hx
  by_cases e : r = t
  · subst e
    rw [pk_uLs]
    exact h1 x hx
  · rw [pk_uLn e, h2 r x hx e]
    exact h r hr x hx
theorem ff_has_c {B : Nat → Int32} {t : Nat} {g h : Nat → Bool} (H : ff_has B t g) (e : ∀ x, x < 64 → g x = h x) : ff_has B t h := by
  intro x hx
  rw [H x hx, e x hx]
/-! degree -/
def ff_dg (g : Nat → Bool) : Nat → Int32
  | 0 => 0
  | u + 1 => if ff_fm g u = true then (if nI (ff_sz u) ≤ ff_dg g u then ff_dg g u else nI (ff_sz u)) else ff_dg g u
theorem ff_xdg {post : Int32 → Prop} {T : Nat → Int64} {S : Nat → Int32} (f : Int64) (hp : post (ff_dg (ff_b f) 64)) : ∃ n, wX_degree_29 post (ff_trs f 6) T ff_low S n 0 0 := by
  have H : ∀ d u, u + d = 64 → wX_degree_29 post (ff_trs f 6) T ff_low S (d + 1) (ff_dg (ff_b f) u) (nI u) := by
    intro d
    induction d with
    | zero =>
      intro u hu
      have e : u = 64 := by omega
      subst e
      exact br_t ff_e64 hp
    | succ d ih =>
      intro u hu
      have h64 : u < 64 := by omega
      have ih' := ih (u + 1) (by omega)
      refine br_f (ff_x64 h64) (ff_xsz h64 (ff_xdig h64 ?_))
      rw [ff_form f h64]
      unfold ff_dg at ih'
      refine br_c (fun z => br_c (fun z2 => nm_r (nI_1 u) ?_) (fun z2 => nm_r (nI_1 u) ?_)) (fun z => nm_r (nI_1 u) ?_)
      · rw [if_pos (ff_i1.mp z), if_pos z2] at ih'
        exact ih'
      · rw [if_pos (ff_i1.mp z), if_neg z2] at ih'
        exact ih'
      · rw [if_neg (fun y => z (ff_i1.mpr y))] at ih'
        exact ih'
  exact ⟨65, H 64 0 rfl⟩
theorem ff_ydg {post : Int32 → Prop} {B M : Nat → Int32} {t : Nat} {g : Nat → Bool} (hg : ff_has B t g) (ht : t < 4) (hp : post (ff_dg g 64)) : ∃ n, wY_degree_16 post (nI t) B M n 0 0 := by
  have H : ∀ d u, u + d = 64 → wY_degree_16 post (nI t) B M (d + 1) (ff_dg g u) (nI u) := by
    intro d
    induction d with
    | zero =>
      intro u hu
      have e : u = 64 := by omega
      subst e
      exact br_t ff_e64 hp
    | succ d ih =>
      intro u hu
      have h64 : u < 64 := by omega
      have ih' := ih (u + 1) (by omega)
      refine br_f (ff_x64 h64) (ff_ysz h64 (ff_yfm hg ht h64 ?_))
      unfold ff_dg at ih'
      refine br_c (fun z => br_c (fun z2 => nm_r (nI_1 u) ?_) (fun z2 => nm_r (nI_1 u) ?_)) (fun z => nm_r (nI_1 u) ?_)
      · rw [if_pos (ff_i1.mp z), if_pos z2] at ih'
        exact ih'
      · rw [if_pos (ff_i1.mp z), if_neg z2] at ih'
        exact ih'
      · rw [if_neg (fun y => z (ff_i1.mpr y))] at ih'
        exact ih'
  exact ⟨65, H 64 0 rfl⟩
/-! immunity -/
def ff_im (g : Nat → Bool) : Nat → Int32
  | 0 => 7
  | k + 1 => if ff_S g (k + 1) 64 = 0 then ff_im g k else if ff_im g k ≤ nI (ff_sz (k + 1)) then ff_im g k else nI (ff_sz (k + 1))
theorem ff_xim {post : Int32 → SX → Prop} {T L : Nat → Int64} {s : Nat → Int32} (g : Nat → Bool) (hs : ∀ y, y < 64 → s y = ff_S g y 64) (hp : post (ff_im g 63 - 1) (T, L, s)) : ∃ n, wX_immunity_22 post T L s n 7 1 := by
  have H : ∀ d k, k + d = 63 → wX_immunity_22 post T L s (d + 1) (ff_im g k) (nI (k + 1)) := by
    intro d
    induction d with
    | zero =>
      intro k hk
      have e : k = 63 := by omega
      subst e
      exact br_t ff_e64 hp
    | succ d ih =>
      intro k hk
      have h64 : k + 1 < 64 := by omega
      have ih' := ih (k + 1) (by omega)
      refine br_f (ff_x64 h64) (ff_xsz h64 ⟨ff_in h64 (by decide), ?_⟩)
      rw [ff_cl (by omega), hs _ h64]
      unfold ff_im at ih'
      refine br_c (fun z => nm_r (nI_1 (k + 1)) ?_) (fun z => br_c (fun z2 => nm_r (nI_1 (k + 1)) ?_) (fun z2 => nm_r (nI_1 (k + 1)) ?_))
      · rw [if_pos z] at ih'
        exact ih'
      · rw [if_neg z, if_pos z2] at ih'
        exact ih'
      · rw [if_neg z, if_neg z2] at ih'
        exact ih'
  exact ⟨64, H 63 0 rfl⟩
theorem ff_yim {post : Int32 → Prop} {B M : Nat → Int32} {t : Nat} {g : Nat → Bool} (hg : ff_has B t g) (ht : t < 4) (hp : post (ff_im g 63 - 1)) : ∃ n, wY_immunity_17 post (nI t) B M n 7 1 := by
  have H : ∀ d k, k + d = 63 → wY_immunity_17 post (nI t) B M (d + 1) (ff_im g k) (nI (k + 1)) := by
    intro d
    induction d with
    | zero =>
      intro k hk
      have e : k = 63 := by omega
      subst e
      exact br_t ff_e64 hp
    | succ d ih =>
      intro k hk
      have h64 : k + 1 < 64 := by omega
      have ih' := ih (k + 1) (by omega)
      refine br_f (ff_x64 h64) (ff_ysz h64 (ff_ysp hg ht ?_))
      unfold ff_im at ih'
      refine br_c (fun z => nm_r (nI_1 (k + 1)) ?_) (fun z => br_c (fun z2 => nm_r (nI_1 (k + 1)) ?_) (fun z2 => nm_r (nI_1 (k + 1)) ?_))
      · rw [if_pos z] at ih'
        exact ih'
      · rw [if_neg z, if_pos z2] at ih'
        exact ih'
      · rw [if_neg z, if_neg z2] at ih'
        exact ih'
  exact ⟨64, H 63 0 rfl⟩
/-! distance, nearest -/
def ff_least (D : Nat → Nat) : Nat → Nat
  | 0 => 64
  | k + 1 => if ff_least D k ≤ ff_mn (D k) then ff_least D k else ff_mn (D k)
theorem ff_least_le (D : Nat → Nat) : ∀ k, ff_least D k ≤ 64
  | 0 => Nat.le_refl 64
  | k + 1 => by
    have h := ff_least_le D k
    unfold ff_least
    split <;> omega
theorem ff_least_best (D : Nat → Nat) (hD : ∀ y, D y < 65) : ∀ k, ff_least D (k + 1) = ff_mn (D (ff_best D k))
  | 0 => by
    have h := ff_mnl (hD 0)
    show (if 64 ≤ ff_mn (D 0) then 64 else ff_mn (D 0)) = ff_mn (D 0)
    rw [if_neg (by omega)]
  | k + 1 => by
    have h := ff_least_best D hD k
    have e : ff_least D (k + 1 + 1) = if ff_least D (k + 1) ≤ ff_mn (D (k + 1)) then ff_least D (k + 1) else ff_mn (D (k + 1)) := rfl
    have e2 : ff_best D (k + 1) = if ff_mn (D (ff_best D k)) ≤ ff_mn (D (k + 1)) then ff_best D k else k + 1 := rfl
    rw [e, e2, h]
    split <;> rfl
theorem ff_yds {post : Int32 → Prop} {B M : Nat → Int32} {t : Nat} {g : Nat → Bool} (hg : ff_has B t g) (ht : t < 4) (hp : post (nI (ff_least (fun a => ff_D g a 64) 64))) : ∃ n, wY_distance_17 post (nI t) B M n 64 0 := by
  have H : ∀ d k, k + d = 64 → wY_distance_17 post (nI t) B M (d + 1) (nI (ff_least (fun a => ff_D g a 64) k)) (nI k) := by
    intro d
    induction d with
    | zero =>
      intro k hk
      have e : k = 64 := by omega
      subst e
      exact br_t ff_e64 hp
    | succ d ih =>
      intro k hk
      have h64 : k < 64 := by omega
      have ih' := ih (k + 1) (by omega)
      have l1 := ff_least_le (fun a => ff_D g a 64) k
      have l2 := ff_mnl (ff_D_lt g k)
      refine br_f (ff_x64 h64) (ff_ych hg ht ?_)
      unfold ff_least at ih'
      refine pk_le (ff_least (fun a => ff_D g a 64) k) (ff_mn (ff_D g k 64)) (fun z => nm_r (nI_1 k) ?_) (fun z => nm_r (nI_1 k) ?_)
      · rw [if_pos z] at ih'
        exact ih'
      · rw [if_neg (Nat.not_le.mpr z)] at ih'
        exact ih'
  exact ⟨65, H 64 0 rfl⟩
theorem ff_ynr {post : Int32 → Prop} {B M : Nat → Int32} {t : Nat} {g : Nat → Bool} (hg : ff_has B t g) (ht : t < 4) (hp : post (nI (ff_best (fun a => ff_D g a 64) 63))) : ∃ n, wY_nearest_16 post (nI t) B M n 0 1 := by
  have H : ∀ d k, k + d = 63 → wY_nearest_16 post (nI t) B M (d + 1) (nI (ff_best (fun a => ff_D g a 64) k)) (nI (k + 1)) := by
    intro d
    induction d with
    | zero =>
      intro k hk
      have e : k = 63 := by omega
      subst e
      exact br_t ff_e64 hp
    | succ d ih =>
      intro k hk
      have h64 : k + 1 < 64 := by omega
      have ih' := ih (k + 1) (by omega)
      have l1 := ff_mnl (ff_D_lt g (ff_best (fun a => ff_D g a 64) k))
      have l2 := ff_mnl (ff_D_lt g (k + 1))
      refine br_f (ff_x64 h64) (ff_ych hg ht (ff_ych hg ht ?_))
      unfold ff_best at ih'
      refine pk_le (ff_mn (ff_D g (ff_best (fun a => ff_D g a 64) k) 64)) (ff_mn (ff_D g (k + 1) 64)) (fun z => nm_r (nI_1 (k + 1)) ?_) (fun z => nm_r (nI_1 (k + 1)) ?_)
      · rw [if_pos z] at ih'
        exact ih'
      · rw [if_neg (Nat.not_le.mpr z)] at ih'
        exact ih'
  exact ⟨64, H 63 0 rfl⟩
/-! variables -/
theorem ff_mv_same (f : Int64) {a : Nat} (ha : a < 64) : ff_mvs f a 6 = f ↔ ff_same (ff_b f) a 64 = 64 := by
  unfold ff_same
  rw [ff_cnt_all]
  constructor
  · intro h x hx
    have e := ff_moved f ha hx
    rw [h] at e
    exact beq_iff_eq.mpr e
  · intro h
    apply ff_ext
    intro x hx
    rw [ff_moved f ha hx]
    exact (beq_iff_eq.mp (h x hx)).symm
def ff_vs (g : Nat → Bool) : Nat → Int32
  | 0 => 0
  | i + 1 => if ff_same g (2 ^ i) 64 = 64 then ff_vs g i else ff_vs g i ||| ((1 : Int32) <<< (nI i &&& 31))
theorem ff_xvs {post : Int32 → Prop} {T : Nat → Int64} {S : Nat → Int32} {t : Nat} (ht : t < 4) (hp : post (ff_vs (ff_b (T t)) 6)) : ∃ n, wX_variables_16 post (nI t) T ff_low S n 0 0 := by
  have H : ∀ d i, i + d = 6 → wX_variables_16 post (nI t) T ff_low S (d + 1) (ff_vs (ff_b (T t)) i) (nI i) := by
    intro d
    induction d with
    | zero =>
      intro i hi
      have e : i = 6 := by omega
      subst e
      exact br_t ff_e6 hp
    | succ d ih =>
      intro i hi
      have h6 : i < 6 := by omega
      have ih' := ih (i + 1) (by omega)
      have hin : vp_in (nI t) 4 := ff_in ht (by decide)
      refine br_f (ff_x6 h6) ⟨hin, ?_⟩
      rw [ff_cl (show t ≤ 4096 by omega)]
      have M := ff_mv_same (T t) (ff_p2lt i h6)
      have hx : ∀ q : Int64 → Prop, q (ff_mvs (T t) (2 ^ i) 6) → wpX_moved q (T, ff_low, S) (T t) ((1 : Int32) <<< (nI i &&& 31)) := by
        intro q hq
        rw [ff_p2 i h6]
        exact ff_xmv (ff_p2lt i h6) hq
      refine hx _ ⟨hin, ?_⟩
      unfold ff_vs at ih'
      refine br_c (fun z => nm_r (nI_1 i) ?_) (fun z => nm_e (nm_r (nI_1 i) ?_))
      · rw [if_pos (M.mp z)] at ih'
        exact ih'
      · rw [if_neg (fun y => z (M.mpr y))] at ih'
        exact ih'
  exact ⟨7, H 6 0 rfl⟩
theorem ff_yvs {post : Int32 → Prop} {B M : Nat → Int32} {t : Nat} {g : Nat → Bool} (hg : ff_has B t g) (ht : t < 4) (hp : post (ff_vs g 6)) : ∃ n, wY_variables_16 post (nI t) B M n 0 0 := by
  have H : ∀ d i, i + d = 6 → wY_variables_16 post (nI t) B M (d + 1) (ff_vs g i) (nI i) := by
    intro d
    induction d with
    | zero =>
      intro i hi
      have e : i = 6 := by omega
      subst e
      exact br_t ff_e6 hp
    | succ d ih =>
      intro i hi
      have h6 : i < 6 := by omega
      have ih' := ih (i + 1) (by omega)
      have hl := ff_same_lt g (2 ^ i)
      refine br_f (ff_x6 h6) ?_
      have hx : ∀ q : Int32 → Prop, q (nI (ff_same g (2 ^ i) 64)) → wpY_sames q (B, M) (nI t) ((1 : Int32) <<< (nI i &&& 31)) := by
        intro q hq
        rw [ff_p2 i h6]
        exact ff_ysm hg ht (ff_p2lt i h6) hq
      refine hx _ ?_
      unfold ff_vs at ih'
      refine pk_le 64 (ff_same g (2 ^ i) 64) (fun z => nm_r (nI_1 i) ?_) (fun z => nm_e (nm_r (nI_1 i) ?_))
      · rw [if_pos (by omega)] at ih'
        exact ih'
      · rw [if_neg (by omega)] at ih'
        exact ih'
  exact ⟨7, H 6 0 rfl⟩
/-! structures -/
def ff_nst (g : Nat → Bool) : Nat → Int32
  | 0 => 0
  | k + 1 => if ff_same g k 64 = 0 ∨ ff_same g k 64 = 64 then ff_nst g k + 1 else ff_nst g k
theorem ff_mg64 {d : Nat} (h : d < 65) : ff_mg d = 64 ↔ (d = 0 ∨ d = 64) := by
  unfold ff_mg
  split <;> omega
theorem ff_xst {post : Int32 → SX → Prop} {T L : Nat → Int64} {s : Nat → Int32} (g : Nat → Bool) (hs : ∀ y, y < 64 → s y = 2 * nI (ff_same g y 64) - 64) (hp : post (ff_nst g 64) (T, L, s)) : ∃ n, wX_structures_21 post T L s n 0 0 := by
  have H : ∀ d k, k + d = 64 → wX_structures_21 post T L s (d + 1) (ff_nst g k) (nI k) := by
    intro d
    induction d with
    | zero =>
      intro k hk
      have e : k = 64 := by omega
      subst e
      exact br_t ff_e64 hp
    | succ d ih =>
      intro k hk
      have h64 : k < 64 := by omega
      have ih' := ih (k + 1) (by omega)
      have hl := ff_same_lt g k
      have hm := ff_mg64 hl
      have hg := ff_mgl hl
      refine br_f (ff_x64 h64) ⟨ff_in h64 (by decide), ff_xmagC hl (by rw [ff_cl (by omega), hs k h64]) ?_⟩
      unfold ff_nst at ih'
      refine pk_eq (ff_mg (ff_same g k 64)) 64 (fun z => nm_e (nm_r (nI_1 k) ?_)) (fun z => nm_r (nI_1 k) ?_)
      · rw [if_pos (hm.mp z)] at ih'
        exact ih'
      · rw [if_neg (fun y => z (hm.mpr y))] at ih'
        exact ih'
  exact ⟨65, H 64 0 rfl⟩
theorem ff_yst {post : Int32 → Prop} {B M : Nat → Int32} {t : Nat} {g : Nat → Bool} (hg : ff_has B t g) (ht : t < 4) (hp : post (ff_nst g 64)) : ∃ n, wY_structures_16 post (nI t) B M n 0 0 := by
  have H : ∀ d k, k + d = 64 → wY_structures_16 post (nI t) B M (d + 1) (ff_nst g k) (nI k) := by
    intro d
    induction d with
    | zero =>
      intro k hk
      have e : k = 64 := by omega
      subst e
      exact br_t ff_e64 hp
    | succ d ih =>
      intro k hk
      have h64 : k < 64 := by omega
      have ih' := ih (k + 1) (by omega)
      have hl := ff_same_lt g k
      refine br_f (ff_x64 h64) (ff_ysm hg ht h64 ?_)
      unfold ff_nst at ih'
      refine pk_eq (ff_same g k 64) 0 (fun z => nm_e (nm_r (nI_1 k) ?_)) (fun z0 => pk_eq (ff_same g k 64) 64 (fun z => nm_e (nm_r (nI_1 k) ?_)) (fun z => nm_r (nI_1 k) ?_))
      · rw [if_pos (Or.inl z)] at ih'
        exact ih'
      · rw [if_pos (Or.inr z)] at ih'
        exact ih'
      · rw [if_neg (fun y => y.elim z0 z)] at ih'
        exact ih'
  exact ⟨65, H 64 0 rfl⟩
/-! shifted -/
def ff_E (g h : Nat → Bool) (a b : Nat) : Prop := ∀ x, x < 64 → g x = (h (x ^^^ a) ^^ ff_par (b &&& x))
def ff_Ea (g h : Nat → Bool) (a : Nat) : Prop := ∃ b, b < 64 ∧ ff_E g h a b
def ff_Eab (g h : Nat → Bool) : Prop := ∃ a, a < 64 ∧ ff_Ea g h a
def ff_bb (p : Nat → Bool) : Nat → Nat
  | 0 => 0
  | i + 1 => ff_bb p i ||| (if p i = true then 2 ^ i else 0)
theorem ff_bb_lt (p : Nat → Bool) : ∀ i, i ≤ 6 → ff_bb p i < 64
  | 0, _ => by show 0 < 64; decide
  | i + 1, hi => by
    have h := ff_bb_lt p i (by omega)
    have h2 := ff_p2lt i (by omega)
    unfold ff_bb
    refine ff_olt h ?_
    split <;> omega
theorem ff_bb_congr {p q : Nat → Bool} : ∀ i, (∀ j, j < i → p j = q j) → ff_bb p i = ff_bb q i
  | 0, _ => rfl
  | i + 1, h => by
    unfold ff_bb
    rw [ff_bb_congr i (fun j hj => h j (by omega)), h i (by omega)]
theorem ff_orI : ∀ m, m < 64 → ∀ i, i < 6 → ∀ b : Bool, nI m ||| (ff_i b <<< (nI i &&& 31)) = nI (m ||| (if b = true then 2 ^ i else 0)) := by decide +kernel
theorem ff_bb_id : ∀ b, b < 64 → ff_bb (fun i => b.testBit i) 6 = b := by decide +kernel
theorem ff_parb : ∀ b, b < 64 → ∀ i, i < 6 → ff_par (b &&& 2 ^ i) = b.testBit i := by decide +kernel
theorem ff_lin_iff (w : Int64) : w = ff_lns (ff_bb (fun i => ff_b w (2 ^ i)) 6) 6 ↔ ∃ b, b < 64 ∧ ∀ x, x < 64 → ff_b w x = ff_par (b &&& x) := by
  constructor
  · intro h
    refine ⟨ff_bb (fun i => ff_b w (2 ^ i)) 6, ff_bb_lt _ 6 (by omega), fun x hx => ?_⟩
    rw [← ff_linear hx, ← h]
  · intro ⟨b, hb, h⟩
    have e : ff_bb (fun i => ff_b w (2 ^ i)) 6 = b := by
      refine (ff_bb_congr 6 (fun j hj => ?_)).trans (ff_bb_id b hb)
      show ff_b w (2 ^ j) = b.testBit j
      rw [h _ (ff_p2lt j hj), ff_parb b hb j hj]
    rw [e]
    apply ff_ext
    intro x hx
    rw [ff_linear hx, h x hx]
theorem ff_rest (f w : Int64) {a : Nat} (ha : a < 64) : (ff_mvs f a 6 ^^^ w) = ff_lns (ff_bb (fun i => ff_b (ff_mvs f a 6 ^^^ w) (2 ^ i)) 6) 6 ↔ ff_Ea (ff_b w) (ff_b f) a := by
  rw [ff_lin_iff]
  unfold ff_Ea ff_E
  have e : ∀ b x, x < 64 → (ff_b (ff_mvs f a 6 ^^^ w) x = ff_par (b &&& x) ↔ ff_b w x = (ff_b f (x ^^^ a) ^^ ff_par (b &&& x))) := by
    intro b x hx
    rw [ff_xor, ff_moved f ha hx]
    cases ff_b f (x ^^^ a) <;> cases ff_b w x <;> cases ff_par (b &&& x) <;> decide
  constructor
  · intro ⟨b, hb, h⟩
    exact ⟨b, hb, fun x hx => (e b x hx).mp (h x hx)⟩
  · intro ⟨b, hb, h⟩
    exact ⟨b, hb, fun x hx => (e b x hx).mpr (h x hx)⟩
theorem ff_xsh_in {post : Int32 → Prop} {J : Int32 → Int32 → Prop} {x1 x2 : Int32} {T : Nat → Int64} {S : Nat → Int32} {a : Nat} (w : Int64)
    (h1 : w = ff_lns (ff_bb (fun i => ff_b w (2 ^ i)) 6) 6 → J 1 (nI (a + 1))) (h0 : ¬ w = ff_lns (ff_bb (fun i => ff_b w (2 ^ i)) 6) 6 → J 0 (nI (a + 1))) :
    ∃ n, wX_shifted_65 post J x1 x2 (nI a) w T ff_low S n 0 0 := by
  have H : ∀ d i, i + d = 6 → wX_shifted_65 post J x1 x2 (nI a) w T ff_low S (d + 1) (nI (ff_bb (fun i => ff_b w (2 ^ i)) i)) (nI i) := by
    intro d
    induction d with
    | zero =>
      intro i hi
      have e : i = 6 := by omega
      subst e
      exact br_t ff_e6 (ff_xln (ff_bb_lt _ 6 (by omega)) (br_c (fun z => nm_r (nI_1 a) (h1 z)) (fun z => nm_r (nI_1 a) (h0 z))))
    | succ d ih =>
      intro i hi
      have h6 : i < 6 := by omega
      refine br_f (ff_x6 h6) ?_
      have hx : ∀ q : Int32 → Prop, q (ff_i (ff_b w (2 ^ i))) → wpX_digit q (T, ff_low, S) w ((1 : Int32) <<< (nI i &&& 31)) := by
        intro q hq
        rw [ff_p2 i h6]
        exact ff_xdig (ff_p2lt i h6) hq
      exact hx _ (nm_r (ff_orI _ (ff_bb_lt _ i (by omega)) i h6 _) (nm_r (nI_1 i) (ih (i + 1) (by omega))))
  exact ⟨7, H 6 0 rfl⟩
theorem ff_xsh {post : Int32 → Prop} {T : Nat → Int64} {S : Nat → Int32} {t r : Nat} (ht : t < 4) (hr : r < 4)
    (h1 : ff_Eab (ff_b (T t)) (ff_b (T r)) → post 1) (h0 : ¬ ff_Eab (ff_b (T t)) (ff_b (T r)) → post 0) : ∃ n, wX_shifted_23 post (nI t) (nI r) T ff_low S n 0 0 := by
  have K : ∀ n a, ff_Eab (ff_b (T t)) (ff_b (T r)) → wX_shifted_23 post (nI t) (nI r) T ff_low S (n + 1) 1 a := by
    intro n a hE
    exact br_c (fun _ => ⟨narrow_b1, h1 hE⟩) (fun _ => br_f (by decide) ⟨narrow_b1, h1 hE⟩)
  have H : ∀ d a, a + d = 64 → (∀ c, c < a → ¬ ff_Ea (ff_b (T t)) (ff_b (T r)) c) → wX_shifted_23 post (nI t) (nI r) T ff_low S (d + 1) 0 (nI a) := by
    intro d
    induction d with
    | zero =>
      intro a ha hn
      have e : a = 64 := by omega
      subst e
      exact br_t ff_e64 ⟨narrow_b0, h0 (fun ⟨c, hc, z⟩ => hn c hc z)⟩
    | succ d ih =>
      intro a ha hn
      have h64 : a < 64 := by omega
      have R := ff_rest (T r) (T t) h64
      refine br_f (ff_x64 h64) (br_t rfl ⟨ff_in hr (by decide), ?_⟩)
      rw [ff_cl (show r ≤ 4096 by omega), ff_cl (show t ≤ 4096 by omega)]
      refine ff_xmv h64 ⟨ff_in ht (by decide), nm_e (ff_xsh_in _ (fun z => ?_) (fun z => ?_))⟩
      · exact K d _ ⟨a, h64, R.mp z⟩
      · refine ih (a + 1) (by omega) (fun c hc => ?_)
        by_cases e : c = a
        · subst e
          exact fun y => z (R.mpr y)
        · exact hn c (by omega)
  exact ⟨65, H 64 0 rfl (fun c hc => absurd hc (by omega))⟩
theorem ff_ysf {post : Int32 → Prop} {B M : Nat → Int32} {t r : Nat} {g h : Nat → Bool} (hg : ff_has B t g) (hh : ff_has B r h) (ht : t < 4) (hr : r < 4)
    (h1 : ff_Eab g h → post 1) (h0 : ¬ ff_Eab g h → post 0) : ∃ n, wY_shifted_20 post (nI t) (nI r) B M n 0 := by
  have H : ∀ d n, n + d = 4096 → (∀ m, m < n → ¬ ff_E g h (m / 64) (m % 64)) → wY_shifted_20 post (nI t) (nI r) B M (d + 1) (nI n) := by
    intro d
    induction d with
    | zero =>
      intro n hn hm
      have e : n = 4096 := by omega
      subst e
      refine br_t (by decide) (h0 (fun ⟨a, ha, b, hb, z⟩ => hm (64 * a + b) (by omega) ?_))
      rw [show (64 * a + b) / 64 = a by omega, show (64 * a + b) % 64 = b by omega]
      exact z
    | succ d ih =>
      intro n hn hm
      refine br_f (nI_ge (b := 4096) (by omega) (by decide)) ⟨by decide, by decide, ?_⟩
      have hx : ∀ q : Int32 → Prop, (ff_E g h (n / 64) (n % 64) → q 1) → (¬ ff_E g h (n / 64) (n % 64) → q 0) → wpY_comesBy q (B, M) (nI t) (nI r) (nI n / 64) (nI n - nI n / 64 * 64) := by
        intro q q1 q0
        rw [show nI n / 64 = nI (n / 64) from pk_div (d := 64) (by omega) (by decide) (by decide)]
        rw [show nI n - nI (n / 64) * 64 = nI (n % 64) by rw [← show nI n / 64 = nI (n / 64) from pk_div (d := 64) (by omega) (by decide) (by decide)]; exact pk_rem (d := 64) (by omega) (by decide) (by decide)]
        exact ff_ycm hg hh ht hr (by omega) q1 q0
      refine hx _ (fun z => br_f (by decide) (h1 ⟨n / 64, by omega, n % 64, by omega, z⟩)) (fun z => br_t rfl (nm_r (nI_1 n) (ih (n + 1) (by omega) (fun m hm' => ?_))))
      by_cases e : m = n
      · subst e
        exact z
      · exact hm m (by omega)
  exact ⟨4097, H 4096 0 rfl (fun m hm => absurd hm (by omega))⟩
end
section
/-- both sides hold the same four tables -/
def i_Rel (_ : Nat) (u : SX) (v : SY) : Prop := ∃ (T : Nat → Int64) (S : Nat → Int32) (B M : Nat → Int32), u = (T, ff_low, S) ∧ v = (B, M) ∧ ff_R T B
theorem i_up {k : Nat} {u : SX} {v : SY} (h : i_Rel k u v) : i_Rel (k + 5) u v := by
  exact h
theorem i_vc0 : wpX_init (fun u => wpY_init (fun v => i_Rel 0 u v)) := by
  refine nm_e (nm_e (nm_e (nm_e (nm_e (nm_e ?_)))))
  refine ⟨_, _, _, _, rfl, rfl, ?_⟩
  intro t _ x hx
  show (0 : Int32) = ff_i (ff_b 0 x)
  rw [ff_b0 x hx]
  rfl
theorem i_vc_put {k : Nat} {u : SX} {v : SY} (I : i_Rel k u v) (hk : k + 5 ≤ 2560) (v1 : Int32) (v2 : Int32) (v3 : Int32) : wpX_put (fun r u' => wpY_put (fun r' v' => r' = r ∧ i_Rel (k + 5) u' v') v v1 v2 v3) u v1 v2 v3 := by
  obtain ⟨T, S, B, M, rfl, rfl, R⟩ := I
  have IR : i_Rel (k + 5) (T, ff_low, S) (B, M) := ⟨T, S, B, M, rfl, rfl, R⟩
  unfold wpX_put wpY_put
  dsimp only
  rcases ff_args v1 4 (by decide) with ⟨t, ht, rfl⟩ | hn
  · rcases ff_args v2 64 (by decide) with ⟨x, hx, rfl⟩ | hn
    · rcases ff_args v3 2 (by decide) with ⟨c, hc, rfl⟩ | hn
      · rw [ff_cl (show t ≤ 4096 by omega)]
        have hin : vp_in (nI t) 4 := ff_in ht (by decide)
        have c0 : ¬ nI c < 0 := nI_pos (by omega)
        have c1 : nI c ≤ 1 := nI_le (b := 1) (by omega) (by decide)
        obtain ⟨q, hq⟩ : ∃ q : Bool, nI c = ff_i q := by
          rcases (by omega : c = 0 ∨ c = 1) with e | e
          · exact ⟨false, by rw [e]; rfl⟩
          · exact ⟨true, by rw [e]; rfl⟩
        have Y : ∀ T', (∀ r, r < 4 → r ≠ t → T' r = T r) → (∀ y, y < 64 → ff_b (T' t) y = if y = x then q else ff_b (T t) y) → wpY_put (fun r' v' => r' = ff_i (ff_b (T t) x) ∧ i_Rel (k + 5) (T', ff_low, S) v') (B, M) (nI t) (nI x) (nI c) := by
          intro T' k1 k2
          unfold wpY_put
          dsimp only
          refine ff_yt1 ht (br_f (by decide) (ff_yp1 hx (br_f (by decide) (br_f c0 (br_t c1 ⟨ff_yin ht hx, nm_r (ff_yat (R t ht) ht hx) ⟨ff_yin ht hx, nm_e ⟨rfl, _, _, _, _, rfl, rfl, ?_⟩⟩⟩)))))
          rw [ff_ycl ht hx, hq]
          intro r hr y hy
          by_cases e : r = t
          · subst e
            rw [k2 y hy]
            by_cases e2 : y = x
            · subst e2
              rw [pk_us, if_pos rfl]
            · rw [pk_un (by omega), if_neg e2]
              exact R r hr y hy
          · rw [pk_un (by omega), k1 r hr e]
            exact R r hr y hy
        unfold wpY_put at Y
        dsimp only at Y
        refine ff_xbad1 ht (br_t rfl (ff_xpt1 hx (br_t rfl (br_f c0 (br_t c1 ⟨hin, ff_xdig hx (br_c (fun z => ?_) (fun z => ⟨hin, hin, nm_e ?_⟩))⟩)))))
        · refine Y T (fun _ _ _ => rfl) (fun y hy => ?_)
          by_cases e : y = x
          · subst e
            rw [if_pos rfl]
            rw [hq, ff_ii] at z
            exact z
          · rw [if_neg e]
        · refine Y _ (fun r _ hr => pk_uLn hr) (fun y hy => ?_)
          rw [pk_uLs, ff_xor, ff_one hx hy]
          by_cases e : y = x
          · subst e
            rw [if_pos rfl, decide_eq_true rfl, Bool.xor_true]
            rw [hq, ff_ii] at z
            revert z
            cases ff_b (T t) y <;> cases q <;> decide
          · rw [if_neg e, decide_eq_false e, Bool.xor_false]
      · rcases hn with hn | ⟨hn, h2⟩
        · exact ff_xbad1 ht (br_t rfl (ff_xpt1 hx (br_t rfl (br_t hn (ff_yt1 ht (br_f (by decide) (ff_yp1 hx (br_f (by decide) (br_t hn ⟨rfl, IR⟩)))))))))
        · have h3 : ¬ v3 ≤ 1 := Int32.not_le.mpr (Int32.lt_of_lt_of_le (show (1 : Int32) < nI 2 by decide) h2)
          exact ff_xbad1 ht (br_t rfl (ff_xpt1 hx (br_t rfl (br_f hn (br_f h3 (ff_yt1 ht (br_f (by decide) (ff_yp1 hx (br_f (by decide) (br_f hn (br_f h3 ⟨rfl, IR⟩)))))))))))
    · exact ff_xbad1 ht (br_t rfl (ff_xpt0 hn (br_f (by decide) (ff_yt1 ht (br_f (by decide) (ff_yp0 hn (br_t rfl ⟨rfl, IR⟩)))))))
  · exact ff_xbad0 hn (br_f (by decide) (ff_yt0 hn (br_t rfl ⟨rfl, IR⟩)))
theorem i_vc_turnForm {k : Nat} {u : SX} {v : SY} (I : i_Rel k u v) (hk : k + 5 ≤ 2560) (v1 : Int32) (v2 : Int32) : wpX_turnForm (fun r u' => wpY_turnForm (fun r' v' => r' = r ∧ i_Rel (k + 5) u' v') v v1 v2) u v1 v2 := by
  obtain ⟨T, S, B, M, rfl, rfl, R⟩ := I
  have IR : i_Rel (k + 5) (T, ff_low, S) (B, M) := ⟨T, S, B, M, rfl, rfl, R⟩
  unfold wpX_turnForm wpY_turnForm
  dsimp only
  rcases ff_args v1 4 (by decide) with ⟨t, ht, rfl⟩ | hn
  · skip
    rcases ff_args v2 64 (by decide) with ⟨u, hu, rfl⟩ | hn
    · skip
      rw [ff_cl (show t ≤ 4096 by omega)]
      have hin : vp_in (nI t) 4 := ff_in ht (by decide)
      have e : ∀ x, x < 64 → (ff_b (T t) x ^^ ff_sub u x) = ff_b (T t ^^^ ff_trs ((1 : Int64) <<< ((nI u).toInt64 &&& 63)) 6) x := by
        intro x hx
        rw [ff_xor, ff_form1 hu hx]
      refine ff_xbad1 ht (br_t rfl (ff_xpt1 hu (br_t rfl ?_)))
      refine ff_xtr ⟨hin, hin, nm_e ⟨hin, ?_⟩⟩
      rw [pk_uLs]
      refine ff_ones _ _ _ _ ?_
      refine ff_yt1 ht (br_f (by decide) (ff_yp1 hu (br_f (by decide) ?_)))
      refine ff_ytf (R t ht) ht hu (fun B' h1 h2 => ?_)
      rw [ff_cnt_congr 64 e]
      exact ⟨rfl, _, _, _, _, rfl, rfl, ff_R_upd R (ff_has_c h1 e) h2⟩
    · exact ff_xbad1 ht (br_t rfl (ff_xpt0 hn (br_f (by decide) (ff_yt1 ht (br_f (by decide) (ff_yp0 hn (br_t rfl ⟨rfl, IR⟩)))))))
  · exact ff_xbad0 hn (br_f (by decide) (ff_yt0 hn (br_t rfl ⟨rfl, IR⟩)))
theorem i_vc_combine {k : Nat} {u : SX} {v : SY} (I : i_Rel k u v) (hk : k + 5 ≤ 2560) (v1 : Int32) (v2 : Int32) (v3 : Int32) (v4 : Int32) : wpX_combine (fun r u' => wpY_combine (fun r' v' => r' = r ∧ i_Rel (k + 5) u' v') v v1 v2 v3 v4) u v1 v2 v3 v4 := by
  obtain ⟨T, S, B, M, rfl, rfl, R⟩ := I
  have IR : i_Rel (k + 5) (T, ff_low, S) (B, M) := ⟨T, S, B, M, rfl, rfl, R⟩
  unfold wpX_combine wpY_combine
  dsimp only
  rcases ff_args v1 4 (by decide) with ⟨t, ht, rfl⟩ | hn
  · rcases ff_args v2 4 (by decide) with ⟨op, hop, rfl⟩ | hn
    · have c0 : ¬ nI op < 0 := nI_pos (by omega)
      have c3 : ¬ 3 < nI op := nI_nlt (a := 3) (by omega) (by decide)
      rcases ff_args v3 4 (by decide) with ⟨r, hr, rfl⟩ | hn
      · rcases ff_args v4 4 (by decide) with ⟨s, hs, rfl⟩ | hn
        · rw [ff_cl (show t ≤ 4096 by omega), ff_cl (show r ≤ 4096 by omega), ff_cl (show s ≤ 4096 by omega)]
          have hin : vp_in (nI t) 4 := ff_in ht (by decide)
          have Y : ∀ w, (∀ x, x < 64 → ff_op op (ff_b (T r) x) (ff_b (T s) x) = ff_b w x) → wX_combine_126 (fun r_1 u' => wpY_combine (fun r' v' => r' = r_1 ∧ i_Rel (k + 5) u' v') (B, M) (nI t) (nI op) (nI r) (nI s)) (nI t) (vp_updL T t w) ff_low S := by
            intro w e
            refine ⟨hin, ?_⟩
            rw [ff_cl (show t ≤ 4096 by omega), pk_uLs]
            refine ff_ones _ _ _ _ ?_
            unfold wpY_combine
            dsimp only
            refine ff_yt1 ht (br_f (by decide) (br_f c0 (br_f c3 (ff_yt1 hr (br_f (by decide) (ff_yt1 hs (br_f (by decide) ?_)))))))
            refine ff_ycb (R r hr) (R s hs) ht hop hr hs (fun B' M' h1 h2 => ?_)
            rw [ff_cnt_congr 64 e]
            exact ⟨rfl, _, _, _, _, rfl, rfl, ff_R_upd R (ff_has_c h1 e) h2⟩
          unfold wpY_combine at Y
          dsimp only at Y
          refine ff_xbad1 ht (br_t rfl (br_f c0 (br_f c3 (ff_xbad1 hr (br_t rfl (ff_xbad1 hs (br_t rfl ⟨ff_in hr (by decide), nm_e ⟨ff_in hs (by decide), nm_e ?_⟩⟩)))))))
          refine pk_eq op 0 (fun z => ⟨hin, nm_e (Y _ (fun x hx => ?_))⟩) (fun z0 => pk_eq op 1 (fun z => ⟨hin, nm_e (Y _ (fun x hx => ?_))⟩) (fun z1 => pk_eq op 2 (fun z => ⟨hin, nm_e (Y _ (fun x hx => ?_))⟩) (fun z2 => ⟨hin, nm_e (Y _ (fun x hx => ?_))⟩)))
          · subst z
            exact (ff_xor _ _ x).symm
          · subst z
            exact (ff_and _ _ x).symm
          · subst z
            exact (ff_or _ _ x).symm
          · unfold ff_op
            rw [if_neg z0, if_neg z1, if_neg z2, ff_xor, ff_xor, ff_bm x hx, Bool.xor_true]
        · exact ff_xbad1 ht (br_t rfl (br_f c0 (br_f c3 (ff_xbad1 hr (br_t rfl (ff_xbad0 hn (br_f (by decide) (ff_yt1 ht (br_f (by decide) (br_f c0 (br_f c3 (ff_yt1 hr (br_f (by decide) (ff_yt0 hn (br_t rfl ⟨rfl, IR⟩)))))))))))))))
      · exact ff_xbad1 ht (br_t rfl (br_f c0 (br_f c3 (ff_xbad0 hn (br_f (by decide) (ff_yt1 ht (br_f (by decide) (br_f c0 (br_f c3 (ff_yt0 hn (br_t rfl ⟨rfl, IR⟩)))))))))))
    · rcases hn with hn | ⟨hn, h2⟩
      · exact ff_xbad1 ht (br_t rfl (br_t hn (ff_yt1 ht (br_f (by decide) (br_t hn ⟨rfl, IR⟩)))))
      · have h3 : 3 < v2 := Int32.lt_of_lt_of_le (show (3 : Int32) < nI 4 by decide) h2
        exact ff_xbad1 ht (br_t rfl (br_f hn (br_t h3 (ff_yt1 ht (br_f (by decide) (br_f hn (br_t h3 ⟨rfl, IR⟩)))))))
  · exact ff_xbad0 hn (br_f (by decide) (ff_yt0 hn (br_t rfl ⟨rfl, IR⟩)))
theorem i_vc_shift {k : Nat} {u : SX} {v : SY} (I : i_Rel k u v) (hk : k + 5 ≤ 2560) (v1 : Int32) (v2 : Int32) (v3 : Int32) (v4 : Int32) : wpX_shift (fun r u' => wpY_shift (fun r' v' => r' = r ∧ i_Rel (k + 5) u' v') v v1 v2 v3 v4) u v1 v2 v3 v4 := by
  obtain ⟨T, S, B, M, rfl, rfl, R⟩ := I
  have IR : i_Rel (k + 5) (T, ff_low, S) (B, M) := ⟨T, S, B, M, rfl, rfl, R⟩
  unfold wpX_shift wpY_shift
  dsimp only
  rcases ff_args v1 4 (by decide) with ⟨t, ht, rfl⟩ | hn
  · skip
    rcases ff_args v2 4 (by decide) with ⟨r, hr, rfl⟩ | hn
    · skip
      rcases ff_args v3 64 (by decide) with ⟨a, ha, rfl⟩ | hn
      · skip
        rcases ff_args v4 64 (by decide) with ⟨b, hb, rfl⟩ | hn
        · skip
          rw [ff_cl (show t ≤ 4096 by omega), ff_cl (show r ≤ 4096 by omega)]
          have hin : vp_in (nI t) 4 := ff_in ht (by decide)
          have e : ∀ x, x < 64 → (ff_b (T r) (x ^^^ a) ^^ ff_par (b &&& x)) = ff_b (ff_mvs (T r) a 6 ^^^ ff_lns b 6) x := by
            intro x hx
            rw [ff_xor, ff_moved _ ha hx, ff_linear hx]
          refine ff_xbad1 ht (br_t rfl (ff_xbad1 hr (br_t rfl (ff_xpt1 ha (br_t rfl (ff_xpt1 hb (br_t rfl ?_)))))))
          refine ⟨ff_in hr (by decide), ff_xmv ha (ff_xln hb ⟨hin, nm_e ⟨hin, ?_⟩⟩)⟩
          rw [pk_uLs]
          refine ff_ones _ _ _ _ ?_
          refine ff_yt1 ht (br_f (by decide) (ff_yt1 hr (br_f (by decide) (ff_yp1 ha (br_f (by decide) (ff_yp1 hb (br_f (by decide) ?_)))))))
          refine ff_ysh (R r hr) ht hr ha (fun B' M' h1 h2 => ?_)
          rw [ff_cnt_congr 64 e]
          exact ⟨rfl, _, _, _, _, rfl, rfl, ff_R_upd R (ff_has_c h1 e) h2⟩
        · exact ff_xbad1 ht (br_t rfl (ff_xbad1 hr (br_t rfl (ff_xpt1 ha (br_t rfl (ff_xpt0 hn (br_f (by decide) (ff_yt1 ht (br_f (by decide) (ff_yt1 hr (br_f (by decide) (ff_yp1 ha (br_f (by decide) (ff_yp0 hn (br_t rfl ⟨rfl, IR⟩)))))))))))))))
      · exact ff_xbad1 ht (br_t rfl (ff_xbad1 hr (br_t rfl (ff_xpt0 hn (br_f (by decide) (ff_yt1 ht (br_f (by decide) (ff_yt1 hr (br_f (by decide) (ff_yp0 hn (br_t rfl ⟨rfl, IR⟩)))))))))))
    · exact ff_xbad1 ht (br_t rfl (ff_xbad0 hn (br_f (by decide) (ff_yt1 ht (br_f (by decide) (ff_yt0 hn (br_t rfl ⟨rfl, IR⟩)))))))
  · exact ff_xbad0 hn (br_f (by decide) (ff_yt0 hn (br_t rfl ⟨rfl, IR⟩)))
theorem i_vc_value {k : Nat} {u : SX} {v : SY} (I : i_Rel k u v) (hk : k + 5 ≤ 2560) (v1 : Int32) (v2 : Int32) : wpX_value (fun r => wpY_value (fun r' => r' = r ∧ i_Rel (k + 5) u v) v v1 v2) u v1 v2 := by
  obtain ⟨T, S, B, M, rfl, rfl, R⟩ := I
  have IR : i_Rel (k + 5) (T, ff_low, S) (B, M) := ⟨T, S, B, M, rfl, rfl, R⟩
  unfold wpX_value wpY_value
  dsimp only
  rcases ff_args v1 4 (by decide) with ⟨t, ht, rfl⟩ | hn
  · skip
    rcases ff_args v2 64 (by decide) with ⟨x, hx, rfl⟩ | hn
    · skip
      rw [ff_cl (show t ≤ 4096 by omega)]
      refine ff_xbad1 ht (br_t rfl (ff_xpt1 hx (br_t rfl ?_)))
      refine ⟨ff_in ht (by decide), ff_xdig hx ?_⟩
      refine ff_yt1 ht (br_f (by decide) (ff_yp1 hx (br_f (by decide) ?_)))
      refine ⟨ff_yin ht hx, ?_⟩
      rw [ff_yat (R t ht) ht hx]
      exact ⟨rfl, IR⟩
    · exact ff_xbad1 ht (br_t rfl (ff_xpt0 hn (br_f (by decide) (ff_yt1 ht (br_f (by decide) (ff_yp0 hn (br_t rfl ⟨rfl, IR⟩)))))))
  · exact ff_xbad0 hn (br_f (by decide) (ff_yt0 hn (br_t rfl ⟨rfl, IR⟩)))
theorem i_vc_ones {k : Nat} {u : SX} {v : SY} (I : i_Rel k u v) (hk : k + 5 ≤ 2560) (v1 : Int32) : wpX_ones (fun r => wpY_ones (fun r' => r' = r ∧ i_Rel (k + 5) u v) v v1) u v1 := by
  obtain ⟨T, S, B, M, rfl, rfl, R⟩ := I
  have IR : i_Rel (k + 5) (T, ff_low, S) (B, M) := ⟨T, S, B, M, rfl, rfl, R⟩
  unfold wpX_ones wpY_ones
  dsimp only
  rcases ff_args v1 4 (by decide) with ⟨t, ht, rfl⟩ | hn
  · skip
    rw [ff_cl (show t ≤ 4096 by omega)]
    refine ff_xbad1 ht (br_t rfl ?_)
    refine ⟨ff_in ht (by decide), ff_ones _ _ _ _ ?_⟩
    refine ff_yt1 ht (br_f (by decide) ?_)
    exact ff_ycnt (R t ht) ht ⟨rfl, IR⟩
  · exact ff_xbad0 hn (br_f (by decide) (ff_yt0 hn (br_t rfl ⟨rfl, IR⟩)))
theorem i_vc_form {k : Nat} {u : SX} {v : SY} (I : i_Rel k u v) (hk : k + 5 ≤ 2560) (v1 : Int32) (v2 : Int32) : wpX_form (fun r => wpY_form (fun r' => r' = r ∧ i_Rel (k + 5) u v) v v1 v2) u v1 v2 := by
  obtain ⟨T, S, B, M, rfl, rfl, R⟩ := I
  have IR : i_Rel (k + 5) (T, ff_low, S) (B, M) := ⟨T, S, B, M, rfl, rfl, R⟩
  unfold wpX_form wpY_form
  dsimp only
  rcases ff_args v1 4 (by decide) with ⟨t, ht, rfl⟩ | hn
  · skip
    rcases ff_args v2 64 (by decide) with ⟨x, hx, rfl⟩ | hn
    · skip
      rw [ff_cl (show t ≤ 4096 by omega)]
      refine ff_xbad1 ht (br_t rfl (ff_xpt1 hx (br_t rfl ?_)))
      refine ⟨ff_in ht (by decide), ff_xtr (ff_xdig hx ?_)⟩
      rw [ff_form _ hx]
      refine ff_yt1 ht (br_f (by decide) (ff_yp1 hx (br_f (by decide) ?_)))
      exact ff_yfm (R t ht) ht hx ⟨rfl, IR⟩
    · exact ff_xbad1 ht (br_t rfl (ff_xpt0 hn (br_f (by decide) (ff_yt1 ht (br_f (by decide) (ff_yp0 hn (br_t rfl ⟨rfl, IR⟩)))))))
  · exact ff_xbad0 hn (br_f (by decide) (ff_yt0 hn (br_t rfl ⟨rfl, IR⟩)))
theorem i_vc_degree {k : Nat} {u : SX} {v : SY} (I : i_Rel k u v) (hk : k + 5 ≤ 2560) (v1 : Int32) : wpX_degree (fun r => wpY_degree (fun r' => r' = r ∧ i_Rel (k + 5) u v) v v1) u v1 := by
  obtain ⟨T, S, B, M, rfl, rfl, R⟩ := I
  have IR : i_Rel (k + 5) (T, ff_low, S) (B, M) := ⟨T, S, B, M, rfl, rfl, R⟩
  unfold wpX_degree wpY_degree
  dsimp only
  rcases ff_args v1 4 (by decide) with ⟨t, ht, rfl⟩ | hn
  · skip
    rw [ff_cl (show t ≤ 4096 by omega)]
    refine ff_xbad1 ht (br_t rfl ?_)
    refine ⟨ff_in ht (by decide), ff_xtr (ff_xdg (T t) ?_)⟩
    refine ff_yt1 ht (br_f (by decide) ?_)
    exact ff_ydg (R t ht) ht ⟨rfl, IR⟩
  · exact ff_xbad0 hn (br_f (by decide) (ff_yt0 hn (br_t rfl ⟨rfl, IR⟩)))
theorem i_vc_spectrum {k : Nat} {u : SX} {v : SY} (I : i_Rel k u v) (hk : k + 5 ≤ 2560) (v1 : Int32) (v2 : Int32) : wpX_spectrum (fun r u' => wpY_spectrum (fun r' => r' = r ∧ i_Rel (k + 5) u' v) v v1 v2) u v1 v2 := by
  obtain ⟨T, S, B, M, rfl, rfl, R⟩ := I
  have IR : i_Rel (k + 5) (T, ff_low, S) (B, M) := ⟨T, S, B, M, rfl, rfl, R⟩
  unfold wpX_spectrum wpY_spectrum
  dsimp only
  rcases ff_args v1 4 (by decide) with ⟨t, ht, rfl⟩ | hn
  · skip
    rcases ff_args v2 64 (by decide) with ⟨a, ha, rfl⟩ | hn
    · skip
      refine ff_xbad1 ht (br_t rfl (ff_xpt1 ha (br_t rfl ?_)))
      refine ff_xspec ht (fun s hs => ⟨ff_in ha (by decide), ?_⟩)
      rw [ff_cl (show a ≤ 4096 by omega)]
      dsimp only
      rw [hs a ha]
      refine ff_yt1 ht (br_f (by decide) (ff_yp1 ha (br_f (by decide) ?_)))
      exact ff_ysp (R t ht) ht ⟨rfl, _, _, _, _, rfl, rfl, R⟩
    · exact ff_xbad1 ht (br_t rfl (ff_xpt0 hn (br_f (by decide) (ff_yt1 ht (br_f (by decide) (ff_yp0 hn (br_t rfl ⟨rfl, IR⟩)))))))
  · exact ff_xbad0 hn (br_f (by decide) (ff_yt0 hn (br_t rfl ⟨rfl, IR⟩)))
theorem i_vc_distance {k : Nat} {u : SX} {v : SY} (I : i_Rel k u v) (hk : k + 5 ≤ 2560) (v1 : Int32) : wpX_distance (fun r u' => wpY_distance (fun r' => r' = r ∧ i_Rel (k + 5) u' v) v v1) u v1 := by
  obtain ⟨T, S, B, M, rfl, rfl, R⟩ := I
  have IR : i_Rel (k + 5) (T, ff_low, S) (B, M) := ⟨T, S, B, M, rfl, rfl, R⟩
  unfold wpX_distance wpY_distance
  dsimp only
  rcases ff_args v1 4 (by decide) with ⟨t, ht, rfl⟩ | hn
  · skip
    have hD : ∀ y, ff_D (ff_b (T t)) y 64 < 65 := ff_D_lt _
    have hb := ff_best_le (fun a => ff_D (ff_b (T t)) a 64) 63
    refine ff_xbad1 ht (br_t rfl ?_)
    refine ff_xspec ht (fun s hs => ff_xpeak (fun a => ff_D (ff_b (T t)) a 64) hD hs ⟨ff_in (by omega) (by decide), ff_xmagS (hD (ff_best (fun a => ff_D (ff_b (T t)) a 64) 63)) (by rw [ff_cl (by omega)]; exact hs _ (by omega)) ⟨by decide, ?_⟩⟩)
    rw [ff_mgh _ (hD _)]
    refine ff_yt1 ht (br_f (by decide) ?_)
    refine ff_yds (R t ht) ht ⟨?_, _, _, _, _, rfl, rfl, R⟩
    exact congrArg nI (ff_least_best _ hD 63)
  · exact ff_xbad0 hn (br_f (by decide) (ff_yt0 hn (br_t rfl ⟨rfl, IR⟩)))
theorem i_vc_nearest {k : Nat} {u : SX} {v : SY} (I : i_Rel k u v) (hk : k + 5 ≤ 2560) (v1 : Int32) : wpX_nearest (fun r u' => wpY_nearest (fun r' => r' = r ∧ i_Rel (k + 5) u' v) v v1) u v1 := by
  obtain ⟨T, S, B, M, rfl, rfl, R⟩ := I
  have IR : i_Rel (k + 5) (T, ff_low, S) (B, M) := ⟨T, S, B, M, rfl, rfl, R⟩
  unfold wpX_nearest wpY_nearest
  dsimp only
  rcases ff_args v1 4 (by decide) with ⟨t, ht, rfl⟩ | hn
  · skip
    have hD : ∀ y, ff_D (ff_b (T t)) y 64 < 65 := ff_D_lt _
    refine ff_xbad1 ht (br_t rfl ?_)
    refine ff_xspec ht (fun s hs => ff_xpeak (fun a => ff_D (ff_b (T t)) a 64) hD hs ?_)
    refine ff_yt1 ht (br_f (by decide) ?_)
    exact ff_ynr (R t ht) ht ⟨rfl, _, _, _, _, rfl, rfl, R⟩
  · exact ff_xbad0 hn (br_f (by decide) (ff_yt0 hn (br_t rfl ⟨rfl, IR⟩)))
theorem i_vc_immunity {k : Nat} {u : SX} {v : SY} (I : i_Rel k u v) (hk : k + 5 ≤ 2560) (v1 : Int32) : wpX_immunity (fun r u' => wpY_immunity (fun r' => r' = r ∧ i_Rel (k + 5) u' v) v v1) u v1 := by
  obtain ⟨T, S, B, M, rfl, rfl, R⟩ := I
  have IR : i_Rel (k + 5) (T, ff_low, S) (B, M) := ⟨T, S, B, M, rfl, rfl, R⟩
  unfold wpX_immunity wpY_immunity
  dsimp only
  rcases ff_args v1 4 (by decide) with ⟨t, ht, rfl⟩ | hn
  · skip
    refine ff_xbad1 ht (br_t rfl ?_)
    refine ff_xspec ht (fun s hs => ff_xim (ff_b (T t)) hs ?_)
    refine ff_yt1 ht (br_f (by decide) ?_)
    exact ff_yim (R t ht) ht ⟨rfl, _, _, _, _, rfl, rfl, R⟩
  · exact ff_xbad0 hn (br_f (by decide) (ff_yt0 hn (br_t rfl ⟨rfl, IR⟩)))
theorem i_vc_autocorrelation {k : Nat} {u : SX} {v : SY} (I : i_Rel k u v) (hk : k + 5 ≤ 2560) (v1 : Int32) (v2 : Int32) : wpX_autocorrelation (fun r u' => wpY_autocorrelation (fun r' => r' = r ∧ i_Rel (k + 5) u' v) v v1 v2) u v1 v2 := by
  obtain ⟨T, S, B, M, rfl, rfl, R⟩ := I
  have IR : i_Rel (k + 5) (T, ff_low, S) (B, M) := ⟨T, S, B, M, rfl, rfl, R⟩
  unfold wpX_autocorrelation wpY_autocorrelation
  dsimp only
  rcases ff_args v1 4 (by decide) with ⟨t, ht, rfl⟩ | hn
  · skip
    rcases ff_args v2 64 (by decide) with ⟨a, ha, rfl⟩ | hn
    · skip
      refine ff_xbad1 ht (br_t rfl (ff_xpt1 ha (br_t rfl ?_)))
      refine ff_xcor ht (fun s hs => ⟨ff_in ha (by decide), ?_⟩)
      rw [ff_cl (show a ≤ 4096 by omega)]
      dsimp only
      rw [hs a ha]
      refine ff_yt1 ht (br_f (by decide) (ff_yp1 ha (br_f (by decide) ?_)))
      exact ff_ysm (R t ht) ht ha ⟨rfl, _, _, _, _, rfl, rfl, R⟩
    · exact ff_xbad1 ht (br_t rfl (ff_xpt0 hn (br_f (by decide) (ff_yt1 ht (br_f (by decide) (ff_yp0 hn (br_t rfl ⟨rfl, IR⟩)))))))
  · exact ff_xbad0 hn (br_f (by decide) (ff_yt0 hn (br_t rfl ⟨rfl, IR⟩)))
theorem i_vc_variables {k : Nat} {u : SX} {v : SY} (I : i_Rel k u v) (hk : k + 5 ≤ 2560) (v1 : Int32) : wpX_variables (fun r => wpY_variables (fun r' => r' = r ∧ i_Rel (k + 5) u v) v v1) u v1 := by
  obtain ⟨T, S, B, M, rfl, rfl, R⟩ := I
  have IR : i_Rel (k + 5) (T, ff_low, S) (B, M) := ⟨T, S, B, M, rfl, rfl, R⟩
  unfold wpX_variables wpY_variables
  dsimp only
  rcases ff_args v1 4 (by decide) with ⟨t, ht, rfl⟩ | hn
  · skip
    refine ff_xbad1 ht (br_t rfl ?_)
    refine ff_xvs ht ?_
    refine ff_yt1 ht (br_f (by decide) ?_)
    exact ff_yvs (R t ht) ht ⟨rfl, IR⟩
  · exact ff_xbad0 hn (br_f (by decide) (ff_yt0 hn (br_t rfl ⟨rfl, IR⟩)))
theorem i_vc_structures {k : Nat} {u : SX} {v : SY} (I : i_Rel k u v) (hk : k + 5 ≤ 2560) (v1 : Int32) : wpX_structures (fun r u' => wpY_structures (fun r' => r' = r ∧ i_Rel (k + 5) u' v) v v1) u v1 := by
  obtain ⟨T, S, B, M, rfl, rfl, R⟩ := I
  have IR : i_Rel (k + 5) (T, ff_low, S) (B, M) := ⟨T, S, B, M, rfl, rfl, R⟩
  unfold wpX_structures wpY_structures
  dsimp only
  rcases ff_args v1 4 (by decide) with ⟨t, ht, rfl⟩ | hn
  · skip
    refine ff_xbad1 ht (br_t rfl ?_)
    refine ff_xcor ht (fun s hs => ff_xst (ff_b (T t)) hs ?_)
    refine ff_yt1 ht (br_f (by decide) ?_)
    exact ff_yst (R t ht) ht ⟨rfl, _, _, _, _, rfl, rfl, R⟩
  · exact ff_xbad0 hn (br_f (by decide) (ff_yt0 hn (br_t rfl ⟨rfl, IR⟩)))
theorem i_vc_shifted {k : Nat} {u : SX} {v : SY} (I : i_Rel k u v) (hk : k + 5 ≤ 2560) (v1 : Int32) (v2 : Int32) : wpX_shifted (fun r => wpY_shifted (fun r' => r' = r ∧ i_Rel (k + 5) u v) v v1 v2) u v1 v2 := by
  obtain ⟨T, S, B, M, rfl, rfl, R⟩ := I
  have IR : i_Rel (k + 5) (T, ff_low, S) (B, M) := ⟨T, S, B, M, rfl, rfl, R⟩
  unfold wpX_shifted wpY_shifted
  dsimp only
  rcases ff_args v1 4 (by decide) with ⟨t, ht, rfl⟩ | hn
  · skip
    rcases ff_args v2 4 (by decide) with ⟨r, hr, rfl⟩ | hn
    · skip
      refine ff_xbad1 ht (br_t rfl (ff_xbad1 hr (br_t rfl ?_)))
      refine ff_xsh ht hr (fun z => ?_) (fun z => ?_)
      · refine ff_yt1 ht (br_f (by decide) (ff_yt1 hr (br_f (by decide) ?_)))
        exact ff_ysf (R t ht) (R r hr) ht hr (fun _ => ⟨rfl, IR⟩) (fun y => absurd z y)
      · refine ff_yt1 ht (br_f (by decide) (ff_yt1 hr (br_f (by decide) ?_)))
        exact ff_ysf (R t ht) (R r hr) ht hr (fun y => absurd y z) (fun _ => ⟨rfl, IR⟩)
    · exact ff_xbad1 ht (br_t rfl (ff_xbad0 hn (br_f (by decide) (ff_yt1 ht (br_f (by decide) (ff_yt0 hn (br_t rfl ⟨rfl, IR⟩)))))))
  · exact ff_xbad0 hn (br_f (by decide) (ff_yt0 hn (br_t rfl ⟨rfl, IR⟩)))
end
